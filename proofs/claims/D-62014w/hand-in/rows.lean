section
-- ===== PART A: goes FIRST, ahead of the names: the tables' words, and 'selects' of the private methods out of them =====
/-- a private method of a class that the tables say can be made, by its rows of tables_1 -/
def lw_okq (q : MethodName × Nat) : Prop := (q.1.cls ≠ "java/lang/invoke/MethodHandle" ∧ q.1.cls ≠ "java/lang/invoke/VarHandle") ∧ Cond.instantiable q.1.cls q.2 ∈ tables_1 ∧ Cond.privateMethod q.1 ∈ tables_1 ∧ Cond.instanceMethod q.1 ∈ tables_1
set_option maxRecDepth 100000
theorem lw_p0 : lw_okq (⟨"OverlayTree", "look", "(I)V"⟩, 8) := ⟨⟨by decide +kernel, by decide +kernel⟩, List.mem_of_getElem? (i := 4) rfl, List.mem_of_getElem? (i := 57) rfl, List.mem_of_getElem? (i := 58) rfl⟩
theorem lw_p1 : lw_okq (⟨"OverlayTree", "settle", "(I)V"⟩, 8) := ⟨⟨by decide +kernel, by decide +kernel⟩, List.mem_of_getElem? (i := 4) rfl, List.mem_of_getElem? (i := 61) rfl, List.mem_of_getElem? (i := 62) rfl⟩
theorem lw_p2 : lw_okq (⟨"OverlayTree", "raiseFloor", "(I)V"⟩, 8) := ⟨⟨by decide +kernel, by decide +kernel⟩, List.mem_of_getElem? (i := 4) rfl, List.mem_of_getElem? (i := 65) rfl, List.mem_of_getElem? (i := 66) rfl⟩
theorem lw_p3 : lw_okq (⟨"OverlayTree", "isRoom", "(I)Z"⟩, 8) := ⟨⟨by decide +kernel, by decide +kernel⟩, List.mem_of_getElem? (i := 4) rfl, List.mem_of_getElem? (i := 73) rfl, List.mem_of_getElem? (i := 74) rfl⟩
theorem lw_p4 : lw_okq (⟨"OverlayTree", "copyUpTo", "(I)V"⟩, 8) := ⟨⟨by decide +kernel, by decide +kernel⟩, List.mem_of_getElem? (i := 4) rfl, List.mem_of_getElem? (i := 77) rfl, List.mem_of_getElem? (i := 78) rfl⟩
theorem lw_p5 : lw_okq (⟨"OverlayTree", "put", "(III)V"⟩, 8) := ⟨⟨by decide +kernel, by decide +kernel⟩, List.mem_of_getElem? (i := 4) rfl, List.mem_of_getElem? (i := 81) rfl, List.mem_of_getElem? (i := 82) rfl⟩
theorem lw_p6 : lw_okq (⟨"OverlayTree", "takeAway", "(I)V"⟩, 8) := ⟨⟨by decide +kernel, by decide +kernel⟩, List.mem_of_getElem? (i := 4) rfl, List.mem_of_getElem? (i := 105) rfl, List.mem_of_getElem? (i := 106) rfl⟩
theorem lw_p7 : lw_okq (⟨"OverlayTree", "clearUnder", "(II)V"⟩, 8) := ⟨⟨by decide +kernel, by decide +kernel⟩, List.mem_of_getElem? (i := 4) rfl, List.mem_of_getElem? (i := 109) rfl, List.mem_of_getElem? (i := 110) rfl⟩
theorem lw_p8 : lw_okq (⟨"OverlayTree", "copyPart", "(II)I"⟩, 8) := ⟨⟨by decide +kernel, by decide +kernel⟩, List.mem_of_getElem? (i := 4) rfl, List.mem_of_getElem? (i := 120) rfl, List.mem_of_getElem? (i := 121) rfl⟩
theorem lw_p9 : lw_okq (⟨"OverlayTree", "placeAfter", "(III)I"⟩, 8) := ⟨⟨by decide +kernel, by decide +kernel⟩, List.mem_of_getElem? (i := 4) rfl, List.mem_of_getElem? (i := 124) rfl, List.mem_of_getElem? (i := 125) rfl⟩
theorem lw_p10 : lw_okq (⟨"OverlayTreeModel", "layerDirectory", "(II)Z"⟩, 6) := ⟨⟨by decide +kernel, by decide +kernel⟩, List.mem_of_getElem? (i := 136) rfl, List.mem_of_getElem? (i := 171) rfl, List.mem_of_getElem? (i := 172) rfl⟩
theorem lw_p11 : lw_okq (⟨"OverlayTreeModel", "merge", "(I)V"⟩, 6) := ⟨⟨by decide +kernel, by decide +kernel⟩, List.mem_of_getElem? (i := 136) rfl, List.mem_of_getElem? (i := 179) rfl, List.mem_of_getElem? (i := 180) rfl⟩
theorem lw_p12 : lw_okq (⟨"OverlayTreeModel", "hidden", "(II)Z"⟩, 6) := ⟨⟨by decide +kernel, by decide +kernel⟩, List.mem_of_getElem? (i := 136) rfl, List.mem_of_getElem? (i := 183) rfl, List.mem_of_getElem? (i := 184) rfl⟩
theorem lw_p13 : lw_okq (⟨"OverlayTreeModel", "canMake", "(I)Z"⟩, 6) := ⟨⟨by decide +kernel, by decide +kernel⟩, List.mem_of_getElem? (i := 136) rfl, List.mem_of_getElem? (i := 195) rfl, List.mem_of_getElem? (i := 196) rfl⟩
theorem lw_p14 : lw_okq (⟨"OverlayTreeModel", "follow", "(II)V"⟩, 6) := ⟨⟨by decide +kernel, by decide +kernel⟩, List.mem_of_getElem? (i := 136) rfl, List.mem_of_getElem? (i := 215) rfl, List.mem_of_getElem? (i := 216) rfl⟩
def lw_privs_1 : List (MethodName × Nat) := [(⟨"OverlayTree", "look", "(I)V"⟩, 8), (⟨"OverlayTree", "settle", "(I)V"⟩, 8), (⟨"OverlayTree", "raiseFloor", "(I)V"⟩, 8), (⟨"OverlayTree", "isRoom", "(I)Z"⟩, 8), (⟨"OverlayTree", "copyUpTo", "(I)V"⟩, 8), (⟨"OverlayTree", "put", "(III)V"⟩, 8), (⟨"OverlayTree", "takeAway", "(I)V"⟩, 8), (⟨"OverlayTree", "clearUnder", "(II)V"⟩, 8), (⟨"OverlayTree", "copyPart", "(II)I"⟩, 8), (⟨"OverlayTree", "placeAfter", "(III)I"⟩, 8), (⟨"OverlayTreeModel", "layerDirectory", "(II)Z"⟩, 6), (⟨"OverlayTreeModel", "merge", "(I)V"⟩, 6), (⟨"OverlayTreeModel", "hidden", "(II)Z"⟩, 6), (⟨"OverlayTreeModel", "canMake", "(I)Z"⟩, 6), (⟨"OverlayTreeModel", "follow", "(II)V"⟩, 6)]
theorem lw_r1 : ∀ q ∈ lw_privs_1, lw_okq q := List.forall_mem_cons.mpr ⟨lw_p0, List.forall_mem_cons.mpr ⟨lw_p1, List.forall_mem_cons.mpr ⟨lw_p2, List.forall_mem_cons.mpr ⟨lw_p3, List.forall_mem_cons.mpr ⟨lw_p4, List.forall_mem_cons.mpr ⟨lw_p5, List.forall_mem_cons.mpr ⟨lw_p6, List.forall_mem_cons.mpr ⟨lw_p7, List.forall_mem_cons.mpr ⟨lw_p8, List.forall_mem_cons.mpr ⟨lw_p9, List.forall_mem_cons.mpr ⟨lw_p10, List.forall_mem_cons.mpr ⟨lw_p11, List.forall_mem_cons.mpr ⟨lw_p12, List.forall_mem_cons.mpr ⟨lw_p13, List.forall_mem_cons.mpr ⟨lw_p14, fun _ h => absurd h List.not_mem_nil⟩⟩⟩⟩⟩⟩⟩⟩⟩⟩⟩⟩⟩⟩⟩
def lw_privs : List (MethodName × Nat) := lw_privs_1
def lw_tbl : List Cond := k2_sels lw_privs ++ tables_1
theorem lw_privs_ok : ∀ q ∈ lw_privs, lw_okq q := lw_r1
-- ===== ONE list of words for every method: the tables' words that hold all through a run =====
def lw_all : List Cond := lw_tbl.filter goodWord
/-- a word of the tables by its place: claim/WORDS.tsv -/
theorem lw_w {w : Cond} (i : Nat) (h : lw_tbl[i]? = some w) (g : goodWord w = true) : w ∈ lw_all := List.mem_filter.mpr ⟨List.mem_of_getElem? h, g⟩
theorem lw_all_tbl {w : Cond} (h : w ∈ lw_all) : w ∈ lw_tbl := (List.mem_filter.mp h).1
theorem lw_self : GoodIn lw_all lw_all := fun w h => ⟨h, good_of_word (List.mem_filter.mp h).2⟩
/-- a class's field words, by their places -/
theorem lw_in (ws : List Cond) (ps : List Nat) (hp : ws = ps.filterMap (fun i => lw_tbl[i]?)) (hg : ws.all goodWord = true) : ∀ w ∈ ws, w ∈ lw_all := by
  intro w h
  have h1 := List.all_eq_true.mp hg w h
  rw [hp] at h
  obtain ⟨i, -, hi⟩ := List.mem_filterMap.mp h
  exact lw_w i hi h1
/-- the words of a contract for the method y with code b, L locals, answer r -/
abbrev ws_ (y : MethodName) (b : ByteArray) (L : Nat) (r : Option FieldType) : List Cond := Cond.code y b L r :: lw_all
theorem lw_meth {y : MethodName} {b : ByteArray} {L : Nat} {r : Option FieldType} (h : Cond.code y b L r ∈ lw_all) : GoodIn lw_all (ws_ y b L r) := by
  intro w hw
  rcases List.mem_cons.mp hw with e | e
  · rw [e]
    exact lw_self _ h
  · exact lw_self _ e
theorem lw_app {a c : List Cond} (ha : ∀ w ∈ a, w ∈ lw_all) (hc : GoodIn lw_all c) : GoodIn lw_all (a ++ c) := by
  intro w hw
  rcases List.mem_append.mp hw with e | e
  · exact lw_self w (ha w e)
  · exact hc w e
/-- what a call through an object asks: cwV n hts (lw_V ..) -/
theorem lw_V {own : String} {idx : Nat} {C : String} {y : MethodName} {b : ByteArray} {L : Nat} {r : Option FieldType} (h1 : Cond.methodLink own idx y ∈ lw_all) (h2 : Cond.instanceMethod y ∈ lw_all) (h3 : Cond.selects C y y ∈ lw_all) (h4 : Cond.initialized C ∈ lw_all) (h5 : Cond.code y b L r ∈ lw_all) : GoodIn lw_all (wsV own idx C y (ws_ y b L r)) := by
  refine lw_app ?_ (lw_meth h5)
  intro w hw
  simp only [List.mem_cons, List.not_mem_nil, or_false] at hw
  rcases hw with e | e | e | e
  · rw [e]; exact h1
  · rw [e]; exact h2
  · rw [e]; exact h3
  · rw [e]; exact h4
/-- what a static call asks: va_cwS n hts (lw_S ..) -/
theorem lw_S {own : String} {idx : Nat} {y : MethodName} {b : ByteArray} {L : Nat} {r : Option FieldType} (h1 : Cond.methodLink own idx y ∈ lw_all) (h2 : Cond.static y ∈ lw_all) (h3 : Cond.initialized y.cls ∈ lw_all) (h4 : Cond.code y b L r ∈ lw_all) : GoodIn lw_all (va_wsS own idx y (ws_ y b L r)) := by
  refine lw_app ?_ (lw_meth h4)
  intro w hw
  simp only [List.mem_cons, List.not_mem_nil, or_false] at hw
  rcases hw with e | e | e
  · rw [e]; exact h1
  · rw [e]; exact h2
  · rw [e]; exact h3
/-- the words of a contract for a method WITH HANDLERS (hh: its table) -/
abbrev wsW_ (y : MethodName) (b : ByteArray) (L : Nat) (r : Option FieldType) (hh : List (Nat × Nat × Nat × Nat)) : List Cond := Cond.codeWith y b L r hh :: lw_all
theorem lw_methW {y : MethodName} {b : ByteArray} {L : Nat} {r : Option FieldType} {hh : List (Nat × Nat × Nat × Nat)} (h : Cond.codeWith y b L r hh ∈ lw_all) : GoodIn lw_all (wsW_ y b L r hh) := by
  intro w hw
  rcases List.mem_cons.mp hw with e | e
  · rw [e]
    exact lw_self _ h
  · exact lw_self _ e
/-- any list of words by their places (lw_in), good -/
theorem lw_good {ws : List Cond} (h : ∀ w ∈ ws, w ∈ lw_all) : GoodIn lw_all ws := fun w hw => lw_self w (h w hw)
/-- what a call of a method with handlers asks: vx_cwVW n hts (lw_VW ..), vx_cwSW n hts (lw_SW ..) -/
theorem lw_VW {own : String} {idx : Nat} {C : String} {y : MethodName} {b : ByteArray} {L : Nat} {r : Option FieldType} {hh : List (Nat × Nat × Nat × Nat)} (h1 : Cond.methodLink own idx y ∈ lw_all) (h2 : Cond.instanceMethod y ∈ lw_all) (h3 : Cond.selects C y y ∈ lw_all) (h4 : Cond.initialized C ∈ lw_all) (h5 : Cond.codeWith y b L r hh ∈ lw_all) : GoodIn lw_all (wsV own idx C y (wsW_ y b L r hh)) := by
  refine lw_app ?_ (lw_methW h5)
  intro w hw
  simp only [List.mem_cons, List.not_mem_nil, or_false] at hw
  rcases hw with e | e | e | e
  · rw [e]; exact h1
  · rw [e]; exact h2
  · rw [e]; exact h3
  · rw [e]; exact h4
theorem lw_SW {own : String} {idx : Nat} {y : MethodName} {b : ByteArray} {L : Nat} {r : Option FieldType} {hh : List (Nat × Nat × Nat × Nat)} (h1 : Cond.methodLink own idx y ∈ lw_all) (h2 : Cond.static y ∈ lw_all) (h3 : Cond.initialized y.cls ∈ lw_all) (h4 : Cond.codeWith y b L r hh ∈ lw_all) : GoodIn lw_all (va_wsS own idx y (wsW_ y b L r hh)) := by
  refine lw_app ?_ (lw_methW h4)
  intro w hw
  simp only [List.mem_cons, List.not_mem_nil, or_false] at hw
  rcases hw with e | e | e
  · rw [e]; exact h1
  · rw [e]; exact h2
  · rw [e]; exact h3
/-- a word by its place in its run of the tables -/
theorem lw_at {r : List Cond} (hr : ∀ w ∈ r, w ∈ lw_tbl) {w : Cond} (i : Nat) (h : r[i]? = some w) : w ∈ lw_tbl := hr w (List.mem_of_getElem? h)
theorem lw_g {w : Cond} (h : w ∈ lw_tbl) (g : goodWord w = true) : w ∈ lw_all := List.mem_filter.mpr ⟨h, g⟩
theorem lw_ms : ∀ w ∈ k2_sels lw_privs, w ∈ lw_tbl := fun w h => show w ∈ k2_sels lw_privs ++ tables_1 from List.mem_append_left _ h
theorem lw_m0 : ∀ w ∈ tables_1, w ∈ lw_tbl := fun w h => show w ∈ k2_sels lw_privs ++ tables_1 from List.mem_append_right (k2_sels lw_privs) h
theorem qs0 : (Cond.selects "OverlayTree" ⟨"OverlayTree", "look", "(I)V"⟩ ⟨"OverlayTree", "look", "(I)V"⟩) ∈ lw_all := lw_g (lw_at lw_ms 0 rfl) rfl
theorem qs1 : (Cond.selects "OverlayTree" ⟨"OverlayTree", "settle", "(I)V"⟩ ⟨"OverlayTree", "settle", "(I)V"⟩) ∈ lw_all := lw_g (lw_at lw_ms 1 rfl) rfl
theorem qs2 : (Cond.selects "OverlayTree" ⟨"OverlayTree", "raiseFloor", "(I)V"⟩ ⟨"OverlayTree", "raiseFloor", "(I)V"⟩) ∈ lw_all := lw_g (lw_at lw_ms 2 rfl) rfl
theorem qs3 : (Cond.selects "OverlayTree" ⟨"OverlayTree", "isRoom", "(I)Z"⟩ ⟨"OverlayTree", "isRoom", "(I)Z"⟩) ∈ lw_all := lw_g (lw_at lw_ms 3 rfl) rfl
theorem qs4 : (Cond.selects "OverlayTree" ⟨"OverlayTree", "copyUpTo", "(I)V"⟩ ⟨"OverlayTree", "copyUpTo", "(I)V"⟩) ∈ lw_all := lw_g (lw_at lw_ms 4 rfl) rfl
theorem qs5 : (Cond.selects "OverlayTree" ⟨"OverlayTree", "put", "(III)V"⟩ ⟨"OverlayTree", "put", "(III)V"⟩) ∈ lw_all := lw_g (lw_at lw_ms 5 rfl) rfl
theorem qs6 : (Cond.selects "OverlayTree" ⟨"OverlayTree", "takeAway", "(I)V"⟩ ⟨"OverlayTree", "takeAway", "(I)V"⟩) ∈ lw_all := lw_g (lw_at lw_ms 6 rfl) rfl
theorem qs7 : (Cond.selects "OverlayTree" ⟨"OverlayTree", "clearUnder", "(II)V"⟩ ⟨"OverlayTree", "clearUnder", "(II)V"⟩) ∈ lw_all := lw_g (lw_at lw_ms 7 rfl) rfl
theorem qs8 : (Cond.selects "OverlayTree" ⟨"OverlayTree", "copyPart", "(II)I"⟩ ⟨"OverlayTree", "copyPart", "(II)I"⟩) ∈ lw_all := lw_g (lw_at lw_ms 8 rfl) rfl
theorem qs9 : (Cond.selects "OverlayTree" ⟨"OverlayTree", "placeAfter", "(III)I"⟩ ⟨"OverlayTree", "placeAfter", "(III)I"⟩) ∈ lw_all := lw_g (lw_at lw_ms 9 rfl) rfl
theorem qs10 : (Cond.selects "OverlayTreeModel" ⟨"OverlayTreeModel", "layerDirectory", "(II)Z"⟩ ⟨"OverlayTreeModel", "layerDirectory", "(II)Z"⟩) ∈ lw_all := lw_g (lw_at lw_ms 10 rfl) rfl
theorem qs11 : (Cond.selects "OverlayTreeModel" ⟨"OverlayTreeModel", "merge", "(I)V"⟩ ⟨"OverlayTreeModel", "merge", "(I)V"⟩) ∈ lw_all := lw_g (lw_at lw_ms 11 rfl) rfl
theorem qs12 : (Cond.selects "OverlayTreeModel" ⟨"OverlayTreeModel", "hidden", "(II)Z"⟩ ⟨"OverlayTreeModel", "hidden", "(II)Z"⟩) ∈ lw_all := lw_g (lw_at lw_ms 12 rfl) rfl
theorem qs13 : (Cond.selects "OverlayTreeModel" ⟨"OverlayTreeModel", "canMake", "(I)Z"⟩ ⟨"OverlayTreeModel", "canMake", "(I)Z"⟩) ∈ lw_all := lw_g (lw_at lw_ms 13 rfl) rfl
theorem qs14 : (Cond.selects "OverlayTreeModel" ⟨"OverlayTreeModel", "follow", "(II)V"⟩ ⟨"OverlayTreeModel", "follow", "(II)V"⟩) ∈ lw_all := lw_g (lw_at lw_ms 14 rfl) rfl
/-! java/lang/Object -/
def RJ0 : String := "java/lang/Object"
abbrev cJ0_init : ByteArray := object_method_1_code
def yJ0_init : MethodName := ⟨RJ0, "<init>", "()V"⟩
theorem q24 : (Jvm.Cond.instanceMethod ({ cls := "java/lang/Object", name := "<init>", desc := "()V" } : Jvm.MethodName)) ∈ lw_all := lw_g (lw_at lw_m0 9 rfl) rfl
theorem q25 : (Jvm.Cond.code ({ cls := "java/lang/Object", name := "<init>", desc := "()V" } : Jvm.MethodName) object_method_1_code (1 : Nat) (Option.none : Option Jvm.ClassFile.FieldType)) ∈ lw_all := lw_g (lw_at lw_m0 10 rfl) rfl

theorem q15 : (Jvm.Cond.initialized "OverlayTreeLaw") ∈ lw_all := lw_g (lw_at lw_m0 0 rfl) rfl
theorem q18 : (Jvm.Cond.classLink "OverlayTreeLaw" (7 : Nat) "OverlayTree") ∈ lw_all := lw_g (lw_at lw_m0 3 rfl) rfl
theorem q20 : (Jvm.Cond.methodLink "OverlayTreeLaw" (9 : Nat) ({ cls := "OverlayTree", name := "<init>", desc := "()V" } : Jvm.MethodName)) ∈ lw_all := lw_g (lw_at lw_m0 5 rfl) rfl
theorem q52 : (Jvm.Cond.methodLink "OverlayTreeLaw" (13 : Nat) ({ cls := "OverlayTree", name := "fill", desc := "(IIII)I" } : Jvm.MethodName)) ∈ lw_all := lw_g (lw_at lw_m0 37 rfl) rfl
theorem q59 : (Jvm.Cond.methodLink "OverlayTreeLaw" (18 : Nat) ({ cls := "OverlayTree", name := "mount", desc := "()I" } : Jvm.MethodName)) ∈ lw_all := lw_g (lw_at lw_m0 44 rfl) rfl
theorem q83 : (Jvm.Cond.methodLink "OverlayTreeLaw" (23 : Nat) ({ cls := "OverlayTree", name := "make", desc := "(II)I" } : Jvm.MethodName)) ∈ lw_all := lw_g (lw_at lw_m0 68 rfl) rfl
theorem q99 : (Jvm.Cond.methodLink "OverlayTreeLaw" (28 : Nat) ({ cls := "OverlayTree", name := "makeDir", desc := "(I)I" } : Jvm.MethodName)) ∈ lw_all := lw_g (lw_at lw_m0 84 rfl) rfl
theorem q103 : (Jvm.Cond.methodLink "OverlayTreeLaw" (33 : Nat) ({ cls := "OverlayTree", name := "write", desc := "(II)I" } : Jvm.MethodName)) ∈ lw_all := lw_g (lw_at lw_m0 88 rfl) rfl
theorem q111 : (Jvm.Cond.methodLink "OverlayTreeLaw" (37 : Nat) ({ cls := "OverlayTree", name := "remove", desc := "(I)I" } : Jvm.MethodName)) ∈ lw_all := lw_g (lw_at lw_m0 96 rfl) rfl
theorem q130 : (Jvm.Cond.methodLink "OverlayTreeLaw" (41 : Nat) ({ cls := "OverlayTree", name := "move", desc := "(II)I" } : Jvm.MethodName)) ∈ lw_all := lw_g (lw_at lw_m0 115 rfl) rfl
theorem q142 : (Jvm.Cond.methodLink "OverlayTreeLaw" (45 : Nat) ({ cls := "OverlayTree", name := "press", desc := "()I" } : Jvm.MethodName)) ∈ lw_all := lw_g (lw_at lw_m0 127 rfl) rfl
theorem q146 : (Jvm.Cond.methodLink "OverlayTreeLaw" (49 : Nat) ({ cls := "OverlayTree", name := "sort", desc := "(I)I" } : Jvm.MethodName)) ∈ lw_all := lw_g (lw_at lw_m0 131 rfl) rfl
theorem q147 : (Jvm.Cond.methodLink "OverlayTreeLaw" (53 : Nat) ({ cls := "OverlayTree", name := "value", desc := "(I)I" } : Jvm.MethodName)) ∈ lw_all := lw_g (lw_at lw_m0 132 rfl) rfl
theorem q148 : (Jvm.Cond.methodLink "OverlayTreeLaw" (57 : Nat) ({ cls := "OverlayTree", name := "entries", desc := "(I)I" } : Jvm.MethodName)) ∈ lw_all := lw_g (lw_at lw_m0 133 rfl) rfl
theorem q149 : (Jvm.Cond.methodLink "OverlayTreeLaw" (61 : Nat) ({ cls := "OverlayTree", name := "total", desc := "()I" } : Jvm.MethodName)) ∈ lw_all := lw_g (lw_at lw_m0 134 rfl) rfl
theorem q150 : (Jvm.Cond.classLink "OverlayTreeLaw" (10 : Nat) "OverlayTreeModel") ∈ lw_all := lw_g (lw_at lw_m0 135 rfl) rfl
theorem q152 : (Jvm.Cond.methodLink "OverlayTreeLaw" (12 : Nat) ({ cls := "OverlayTreeModel", name := "<init>", desc := "()V" } : Jvm.MethodName)) ∈ lw_all := lw_g (lw_at lw_m0 137 rfl) rfl
theorem q175 : (Jvm.Cond.methodLink "OverlayTreeLaw" (17 : Nat) ({ cls := "OverlayTreeModel", name := "fill", desc := "(IIII)I" } : Jvm.MethodName)) ∈ lw_all := lw_g (lw_at lw_m0 160 rfl) rfl
theorem q189 : (Jvm.Cond.methodLink "OverlayTreeLaw" (22 : Nat) ({ cls := "OverlayTreeModel", name := "mount", desc := "()I" } : Jvm.MethodName)) ∈ lw_all := lw_g (lw_at lw_m0 174 rfl) rfl
theorem q205 : (Jvm.Cond.methodLink "OverlayTreeLaw" (27 : Nat) ({ cls := "OverlayTreeModel", name := "make", desc := "(II)I" } : Jvm.MethodName)) ∈ lw_all := lw_g (lw_at lw_m0 190 rfl) rfl
theorem q213 : (Jvm.Cond.methodLink "OverlayTreeLaw" (32 : Nat) ({ cls := "OverlayTreeModel", name := "makeDir", desc := "(I)I" } : Jvm.MethodName)) ∈ lw_all := lw_g (lw_at lw_m0 198 rfl) rfl
theorem q217 : (Jvm.Cond.methodLink "OverlayTreeLaw" (36 : Nat) ({ cls := "OverlayTreeModel", name := "write", desc := "(II)I" } : Jvm.MethodName)) ∈ lw_all := lw_g (lw_at lw_m0 202 rfl) rfl
theorem q221 : (Jvm.Cond.methodLink "OverlayTreeLaw" (40 : Nat) ({ cls := "OverlayTreeModel", name := "remove", desc := "(I)I" } : Jvm.MethodName)) ∈ lw_all := lw_g (lw_at lw_m0 206 rfl) rfl
theorem q225 : (Jvm.Cond.methodLink "OverlayTreeLaw" (44 : Nat) ({ cls := "OverlayTreeModel", name := "move", desc := "(II)I" } : Jvm.MethodName)) ∈ lw_all := lw_g (lw_at lw_m0 210 rfl) rfl
theorem q233 : (Jvm.Cond.methodLink "OverlayTreeLaw" (48 : Nat) ({ cls := "OverlayTreeModel", name := "press", desc := "()I" } : Jvm.MethodName)) ∈ lw_all := lw_g (lw_at lw_m0 218 rfl) rfl
theorem q237 : (Jvm.Cond.methodLink "OverlayTreeLaw" (52 : Nat) ({ cls := "OverlayTreeModel", name := "sort", desc := "(I)I" } : Jvm.MethodName)) ∈ lw_all := lw_g (lw_at lw_m0 222 rfl) rfl
theorem q241 : (Jvm.Cond.methodLink "OverlayTreeLaw" (56 : Nat) ({ cls := "OverlayTreeModel", name := "value", desc := "(I)I" } : Jvm.MethodName)) ∈ lw_all := lw_g (lw_at lw_m0 226 rfl) rfl
theorem q245 : (Jvm.Cond.methodLink "OverlayTreeLaw" (60 : Nat) ({ cls := "OverlayTreeModel", name := "entries", desc := "(I)I" } : Jvm.MethodName)) ∈ lw_all := lw_g (lw_at lw_m0 230 rfl) rfl
theorem q249 : (Jvm.Cond.methodLink "OverlayTreeLaw" (64 : Nat) ({ cls := "OverlayTreeModel", name := "total", desc := "()I" } : Jvm.MethodName)) ∈ lw_all := lw_g (lw_at lw_m0 234 rfl) rfl

theorem q51 : (Jvm.Cond.arrayClass Jvm.ClassFile.FieldType.int) ∈ lw_all := lw_g (lw_at lw_m0 36 rfl) rfl

/-! OverlayTree -/
def RX0 : String := "OverlayTree"
def TX0 : u_T := fun k => match k with
  | 0 => ("OverlayTree", "mounted", "Z", false)
  | 1 => ("OverlayTree", "held", "[I", true)
  | 2 => ("OverlayTree", "content", "[I", true)
  | 3 => ("OverlayTree", "foundLayer", "I", false)
  | 4 => ("OverlayTree", "floor", "I", false)
  | 5 => ("OverlayTree", "way", "[I", true)
  | 6 => ("OverlayTree", "partSort", "[I", true)
  | _ => ("OverlayTree", "partValue", "[I", true)
def tyX0 : Nat → FieldType := fun k => match k with
  | 0 => .boolean
  | 1 => .array .int
  | 2 => .array .int
  | 3 => .int
  | 4 => .int
  | 5 => .array .int
  | 6 => .array .int
  | _ => .array .int
abbrev wsX00 : List Cond := u_ws RX0 TX0 8
theorem nmX0 : ∀ a, a < 8 → ∀ b, b < 8 → a ≠ b → (TX0 a).2.1 ≠ (TX0 b).2.1 := by decide +kernel
theorem tyX0_ok : ∀ k, k < 8 → parseFieldDescriptor (TX0 k).2.2.1 = some (tyX0 k) := by decide +kernel
abbrev cX0_init : ByteArray := prog_1_method_1_code
def yX0_init : MethodName := ⟨RX0, "<init>", "()V"⟩
abbrev cX0_fill : ByteArray := prog_1_method_2_code
def yX0_fill : MethodName := ⟨RX0, "fill", "(IIII)I"⟩
abbrev cX0_parentOf : ByteArray := prog_1_method_14_code
def yX0_parentOf : MethodName := ⟨RX0, "parentOf", "(I)I"⟩
abbrev cX0_mount : ByteArray := prog_1_method_3_code
def yX0_mount : MethodName := ⟨RX0, "mount", "()I"⟩
abbrev cX0_total : ByteArray := prog_1_method_13_code
def yX0_total : MethodName := ⟨RX0, "total", "()I"⟩
abbrev cX0_sort : ByteArray := prog_1_method_10_code
def yX0_sort : MethodName := ⟨RX0, "sort", "(I)I"⟩
abbrev cX0_look : ByteArray := prog_1_method_17_code
def yX0_look : MethodName := ⟨RX0, "look", "(I)V"⟩
abbrev cX0_settle : ByteArray := prog_1_method_18_code
def yX0_settle : MethodName := ⟨RX0, "settle", "(I)V"⟩
abbrev cX0_raiseFloor : ByteArray := prog_1_method_19_code
def yX0_raiseFloor : MethodName := ⟨RX0, "raiseFloor", "(I)V"⟩
abbrev cX0_make : ByteArray := prog_1_method_4_code
def yX0_make : MethodName := ⟨RX0, "make", "(II)I"⟩
abbrev cX0_isRoom : ByteArray := prog_1_method_16_code
def yX0_isRoom : MethodName := ⟨RX0, "isRoom", "(I)Z"⟩
abbrev cX0_copyUpTo : ByteArray := prog_1_method_21_code
def yX0_copyUpTo : MethodName := ⟨RX0, "copyUpTo", "(I)V"⟩
abbrev cX0_put : ByteArray := prog_1_method_20_code
def yX0_put : MethodName := ⟨RX0, "put", "(III)V"⟩
abbrev cX0_makeDir : ByteArray := prog_1_method_5_code
def yX0_makeDir : MethodName := ⟨RX0, "makeDir", "(I)I"⟩
abbrev cX0_write : ByteArray := prog_1_method_6_code
def yX0_write : MethodName := ⟨RX0, "write", "(II)I"⟩
abbrev cX0_value : ByteArray := prog_1_method_11_code
def yX0_value : MethodName := ⟨RX0, "value", "(I)I"⟩
abbrev cX0_remove : ByteArray := prog_1_method_7_code
def yX0_remove : MethodName := ⟨RX0, "remove", "(I)I"⟩
abbrev cX0_entries : ByteArray := prog_1_method_12_code
def yX0_entries : MethodName := ⟨RX0, "entries", "(I)I"⟩
abbrev cX0_takeAway : ByteArray := prog_1_method_23_code
def yX0_takeAway : MethodName := ⟨RX0, "takeAway", "(I)V"⟩
abbrev cX0_clearUnder : ByteArray := prog_1_method_22_code
def yX0_clearUnder : MethodName := ⟨RX0, "clearUnder", "(II)V"⟩
abbrev cX0_isUnder : ByteArray := prog_1_method_15_code
def yX0_isUnder : MethodName := ⟨RX0, "isUnder", "(II)Z"⟩
abbrev cX0_move : ByteArray := prog_1_method_8_code
def yX0_move : MethodName := ⟨RX0, "move", "(II)I"⟩
abbrev cX0_copyPart : ByteArray := prog_1_method_24_code
def yX0_copyPart : MethodName := ⟨RX0, "copyPart", "(II)I"⟩
abbrev cX0_placeAfter : ByteArray := prog_1_method_25_code
def yX0_placeAfter : MethodName := ⟨RX0, "placeAfter", "(III)I"⟩
abbrev cX0_press : ByteArray := prog_1_method_9_code
def yX0_press : MethodName := ⟨RX0, "press", "()I"⟩
theorem q16 : (Jvm.Cond.initialized "OverlayTree") ∈ lw_all := lw_g (lw_at lw_m0 1 rfl) rfl
theorem q19 : (Jvm.Cond.instantiable "OverlayTree" (8 : Nat)) ∈ lw_all := lw_g (lw_at lw_m0 4 rfl) rfl
theorem q21 : (Jvm.Cond.instanceMethod ({ cls := "OverlayTree", name := "<init>", desc := "()V" } : Jvm.MethodName)) ∈ lw_all := lw_g (lw_at lw_m0 6 rfl) rfl
theorem q22 : (Jvm.Cond.code ({ cls := "OverlayTree", name := "<init>", desc := "()V" } : Jvm.MethodName) prog_1_method_1_code (2 : Nat) (Option.none : Option Jvm.ClassFile.FieldType)) ∈ lw_all := lw_g (lw_at lw_m0 7 rfl) rfl
theorem q23 : (Jvm.Cond.methodLink "OverlayTree" (1 : Nat) ({ cls := "java/lang/Object", name := "<init>", desc := "()V" } : Jvm.MethodName)) ∈ lw_all := lw_g (lw_at lw_m0 8 rfl) rfl
theorem q26 : (Jvm.Cond.fieldLink "OverlayTree" (25 : Nat) "OverlayTree" "mounted" "Z") ∈ lw_all := lw_g (lw_at lw_m0 11 rfl) rfl
theorem q27 : (Jvm.Cond.fieldLink "OverlayTree" (7 : Nat) "OverlayTree" "held" "[I") ∈ lw_all := lw_g (lw_at lw_m0 12 rfl) rfl
theorem q28 : (Jvm.Cond.fieldLink "OverlayTree" (13 : Nat) "OverlayTree" "content" "[I") ∈ lw_all := lw_g (lw_at lw_m0 13 rfl) rfl
theorem q29 : (Jvm.Cond.fieldLink "OverlayTree" (76 : Nat) "OverlayTree" "foundLayer" "I") ∈ lw_all := lw_g (lw_at lw_m0 14 rfl) rfl
theorem q30 : (Jvm.Cond.fieldLink "OverlayTree" (80 : Nat) "OverlayTree" "floor" "I") ∈ lw_all := lw_g (lw_at lw_m0 15 rfl) rfl
theorem q31 : (Jvm.Cond.fieldLink "OverlayTree" (16 : Nat) "OverlayTree" "way" "[I") ∈ lw_all := lw_g (lw_at lw_m0 16 rfl) rfl
theorem q32 : (Jvm.Cond.fieldLink "OverlayTree" (19 : Nat) "OverlayTree" "partSort" "[I") ∈ lw_all := lw_g (lw_at lw_m0 17 rfl) rfl
theorem q33 : (Jvm.Cond.fieldLink "OverlayTree" (22 : Nat) "OverlayTree" "partValue" "[I") ∈ lw_all := lw_g (lw_at lw_m0 18 rfl) rfl
theorem q34 : (Jvm.Cond.lays "OverlayTree" "OverlayTree" "mounted" "Z") ∈ lw_all := lw_g (lw_at lw_m0 19 rfl) rfl
theorem q35 : (Jvm.Cond.soleField "OverlayTree" "mounted") ∈ lw_all := lw_g (lw_at lw_m0 20 rfl) rfl
theorem q36 : (Jvm.Cond.laysFinal "OverlayTree" "OverlayTree" "held" "[I") ∈ lw_all := lw_g (lw_at lw_m0 21 rfl) rfl
theorem q37 : (Jvm.Cond.soleField "OverlayTree" "held") ∈ lw_all := lw_g (lw_at lw_m0 22 rfl) rfl
theorem q38 : (Jvm.Cond.laysFinal "OverlayTree" "OverlayTree" "content" "[I") ∈ lw_all := lw_g (lw_at lw_m0 23 rfl) rfl
theorem q39 : (Jvm.Cond.soleField "OverlayTree" "content") ∈ lw_all := lw_g (lw_at lw_m0 24 rfl) rfl
theorem q40 : (Jvm.Cond.lays "OverlayTree" "OverlayTree" "foundLayer" "I") ∈ lw_all := lw_g (lw_at lw_m0 25 rfl) rfl
theorem q41 : (Jvm.Cond.soleField "OverlayTree" "foundLayer") ∈ lw_all := lw_g (lw_at lw_m0 26 rfl) rfl
theorem q42 : (Jvm.Cond.lays "OverlayTree" "OverlayTree" "floor" "I") ∈ lw_all := lw_g (lw_at lw_m0 27 rfl) rfl
theorem q43 : (Jvm.Cond.soleField "OverlayTree" "floor") ∈ lw_all := lw_g (lw_at lw_m0 28 rfl) rfl
theorem q44 : (Jvm.Cond.laysFinal "OverlayTree" "OverlayTree" "way" "[I") ∈ lw_all := lw_g (lw_at lw_m0 29 rfl) rfl
theorem q45 : (Jvm.Cond.soleField "OverlayTree" "way") ∈ lw_all := lw_g (lw_at lw_m0 30 rfl) rfl
theorem q46 : (Jvm.Cond.laysFinal "OverlayTree" "OverlayTree" "partSort" "[I") ∈ lw_all := lw_g (lw_at lw_m0 31 rfl) rfl
theorem q47 : (Jvm.Cond.soleField "OverlayTree" "partSort") ∈ lw_all := lw_g (lw_at lw_m0 32 rfl) rfl
theorem q48 : (Jvm.Cond.laysFinal "OverlayTree" "OverlayTree" "partValue" "[I") ∈ lw_all := lw_g (lw_at lw_m0 33 rfl) rfl
theorem q49 : (Jvm.Cond.soleField "OverlayTree" "partValue") ∈ lw_all := lw_g (lw_at lw_m0 34 rfl) rfl
theorem q50 : (Jvm.Cond.superclass "OverlayTree" "java/lang/Object") ∈ lw_all := lw_g (lw_at lw_m0 35 rfl) rfl
theorem q53 : (Jvm.Cond.instanceMethod ({ cls := "OverlayTree", name := "fill", desc := "(IIII)I" } : Jvm.MethodName)) ∈ lw_all := lw_g (lw_at lw_m0 38 rfl) rfl
theorem q54 : (Jvm.Cond.selects "OverlayTree" ({ cls := "OverlayTree", name := "fill", desc := "(IIII)I" } : Jvm.MethodName) ({ cls := "OverlayTree", name := "fill", desc := "(IIII)I" } : Jvm.MethodName)) ∈ lw_all := lw_g (lw_at lw_m0 39 rfl) rfl
theorem q55 : (Jvm.Cond.code ({ cls := "OverlayTree", name := "fill", desc := "(IIII)I" } : Jvm.MethodName) prog_1_method_2_code (6 : Nat) (Option.some Jvm.ClassFile.FieldType.int)) ∈ lw_all := lw_g (lw_at lw_m0 40 rfl) rfl
theorem q56 : (Jvm.Cond.methodLink "OverlayTree" (29 : Nat) ({ cls := "OverlayTree", name := "parentOf", desc := "(I)I" } : Jvm.MethodName)) ∈ lw_all := lw_g (lw_at lw_m0 41 rfl) rfl
theorem q57 : (Jvm.Cond.static ({ cls := "OverlayTree", name := "parentOf", desc := "(I)I" } : Jvm.MethodName)) ∈ lw_all := lw_g (lw_at lw_m0 42 rfl) rfl
theorem q58 : (Jvm.Cond.code ({ cls := "OverlayTree", name := "parentOf", desc := "(I)I" } : Jvm.MethodName) prog_1_method_14_code (1 : Nat) (Option.some Jvm.ClassFile.FieldType.int)) ∈ lw_all := lw_g (lw_at lw_m0 43 rfl) rfl
theorem q60 : (Jvm.Cond.instanceMethod ({ cls := "OverlayTree", name := "mount", desc := "()I" } : Jvm.MethodName)) ∈ lw_all := lw_g (lw_at lw_m0 45 rfl) rfl
theorem q61 : (Jvm.Cond.selects "OverlayTree" ({ cls := "OverlayTree", name := "mount", desc := "()I" } : Jvm.MethodName) ({ cls := "OverlayTree", name := "mount", desc := "()I" } : Jvm.MethodName)) ∈ lw_all := lw_g (lw_at lw_m0 46 rfl) rfl
theorem q62 : (Jvm.Cond.code ({ cls := "OverlayTree", name := "mount", desc := "()I" } : Jvm.MethodName) prog_1_method_3_code (1 : Nat) (Option.some Jvm.ClassFile.FieldType.int)) ∈ lw_all := lw_g (lw_at lw_m0 47 rfl) rfl
theorem q63 : (Jvm.Cond.methodLink "OverlayTree" (33 : Nat) ({ cls := "OverlayTree", name := "total", desc := "()I" } : Jvm.MethodName)) ∈ lw_all := lw_g (lw_at lw_m0 48 rfl) rfl
theorem q64 : (Jvm.Cond.instanceMethod ({ cls := "OverlayTree", name := "total", desc := "()I" } : Jvm.MethodName)) ∈ lw_all := lw_g (lw_at lw_m0 49 rfl) rfl
theorem q65 : (Jvm.Cond.selects "OverlayTree" ({ cls := "OverlayTree", name := "total", desc := "()I" } : Jvm.MethodName) ({ cls := "OverlayTree", name := "total", desc := "()I" } : Jvm.MethodName)) ∈ lw_all := lw_g (lw_at lw_m0 50 rfl) rfl
theorem q66 : (Jvm.Cond.code ({ cls := "OverlayTree", name := "total", desc := "()I" } : Jvm.MethodName) prog_1_method_13_code (3 : Nat) (Option.some Jvm.ClassFile.FieldType.int)) ∈ lw_all := lw_g (lw_at lw_m0 51 rfl) rfl
theorem q67 : (Jvm.Cond.methodLink "OverlayTree" (49 : Nat) ({ cls := "OverlayTree", name := "sort", desc := "(I)I" } : Jvm.MethodName)) ∈ lw_all := lw_g (lw_at lw_m0 52 rfl) rfl
theorem q68 : (Jvm.Cond.instanceMethod ({ cls := "OverlayTree", name := "sort", desc := "(I)I" } : Jvm.MethodName)) ∈ lw_all := lw_g (lw_at lw_m0 53 rfl) rfl
theorem q69 : (Jvm.Cond.selects "OverlayTree" ({ cls := "OverlayTree", name := "sort", desc := "(I)I" } : Jvm.MethodName) ({ cls := "OverlayTree", name := "sort", desc := "(I)I" } : Jvm.MethodName)) ∈ lw_all := lw_g (lw_at lw_m0 54 rfl) rfl
theorem q70 : (Jvm.Cond.code ({ cls := "OverlayTree", name := "sort", desc := "(I)I" } : Jvm.MethodName) prog_1_method_10_code (2 : Nat) (Option.some Jvm.ClassFile.FieldType.int)) ∈ lw_all := lw_g (lw_at lw_m0 55 rfl) rfl
theorem q71 : (Jvm.Cond.methodLink "OverlayTree" (73 : Nat) ({ cls := "OverlayTree", name := "look", desc := "(I)V" } : Jvm.MethodName)) ∈ lw_all := lw_g (lw_at lw_m0 56 rfl) rfl
theorem q72 : (Jvm.Cond.privateMethod ({ cls := "OverlayTree", name := "look", desc := "(I)V" } : Jvm.MethodName)) ∈ lw_tbl := lw_at lw_m0 57 rfl
theorem q73 : (Jvm.Cond.instanceMethod ({ cls := "OverlayTree", name := "look", desc := "(I)V" } : Jvm.MethodName)) ∈ lw_all := lw_g (lw_at lw_m0 58 rfl) rfl
theorem q74 : (Jvm.Cond.code ({ cls := "OverlayTree", name := "look", desc := "(I)V" } : Jvm.MethodName) prog_1_method_17_code (4 : Nat) (Option.none : Option Jvm.ClassFile.FieldType)) ∈ lw_all := lw_g (lw_at lw_m0 59 rfl) rfl
theorem q75 : (Jvm.Cond.methodLink "OverlayTree" (83 : Nat) ({ cls := "OverlayTree", name := "settle", desc := "(I)V" } : Jvm.MethodName)) ∈ lw_all := lw_g (lw_at lw_m0 60 rfl) rfl
theorem q76 : (Jvm.Cond.privateMethod ({ cls := "OverlayTree", name := "settle", desc := "(I)V" } : Jvm.MethodName)) ∈ lw_tbl := lw_at lw_m0 61 rfl
theorem q77 : (Jvm.Cond.instanceMethod ({ cls := "OverlayTree", name := "settle", desc := "(I)V" } : Jvm.MethodName)) ∈ lw_all := lw_g (lw_at lw_m0 62 rfl) rfl
theorem q78 : (Jvm.Cond.code ({ cls := "OverlayTree", name := "settle", desc := "(I)V" } : Jvm.MethodName) prog_1_method_18_code (3 : Nat) (Option.none : Option Jvm.ClassFile.FieldType)) ∈ lw_all := lw_g (lw_at lw_m0 63 rfl) rfl
theorem q79 : (Jvm.Cond.methodLink "OverlayTree" (86 : Nat) ({ cls := "OverlayTree", name := "raiseFloor", desc := "(I)V" } : Jvm.MethodName)) ∈ lw_all := lw_g (lw_at lw_m0 64 rfl) rfl
theorem q80 : (Jvm.Cond.privateMethod ({ cls := "OverlayTree", name := "raiseFloor", desc := "(I)V" } : Jvm.MethodName)) ∈ lw_tbl := lw_at lw_m0 65 rfl
theorem q81 : (Jvm.Cond.instanceMethod ({ cls := "OverlayTree", name := "raiseFloor", desc := "(I)V" } : Jvm.MethodName)) ∈ lw_all := lw_g (lw_at lw_m0 66 rfl) rfl
theorem q82 : (Jvm.Cond.code ({ cls := "OverlayTree", name := "raiseFloor", desc := "(I)V" } : Jvm.MethodName) prog_1_method_19_code (4 : Nat) (Option.none : Option Jvm.ClassFile.FieldType)) ∈ lw_all := lw_g (lw_at lw_m0 67 rfl) rfl
theorem q84 : (Jvm.Cond.instanceMethod ({ cls := "OverlayTree", name := "make", desc := "(II)I" } : Jvm.MethodName)) ∈ lw_all := lw_g (lw_at lw_m0 69 rfl) rfl
theorem q85 : (Jvm.Cond.selects "OverlayTree" ({ cls := "OverlayTree", name := "make", desc := "(II)I" } : Jvm.MethodName) ({ cls := "OverlayTree", name := "make", desc := "(II)I" } : Jvm.MethodName)) ∈ lw_all := lw_g (lw_at lw_m0 70 rfl) rfl
theorem q86 : (Jvm.Cond.code ({ cls := "OverlayTree", name := "make", desc := "(II)I" } : Jvm.MethodName) prog_1_method_4_code (3 : Nat) (Option.some Jvm.ClassFile.FieldType.int)) ∈ lw_all := lw_g (lw_at lw_m0 71 rfl) rfl
theorem q87 : (Jvm.Cond.methodLink "OverlayTree" (37 : Nat) ({ cls := "OverlayTree", name := "isRoom", desc := "(I)Z" } : Jvm.MethodName)) ∈ lw_all := lw_g (lw_at lw_m0 72 rfl) rfl
theorem q88 : (Jvm.Cond.privateMethod ({ cls := "OverlayTree", name := "isRoom", desc := "(I)Z" } : Jvm.MethodName)) ∈ lw_tbl := lw_at lw_m0 73 rfl
theorem q89 : (Jvm.Cond.instanceMethod ({ cls := "OverlayTree", name := "isRoom", desc := "(I)Z" } : Jvm.MethodName)) ∈ lw_all := lw_g (lw_at lw_m0 74 rfl) rfl
theorem q90 : (Jvm.Cond.code ({ cls := "OverlayTree", name := "isRoom", desc := "(I)Z" } : Jvm.MethodName) prog_1_method_16_code (2 : Nat) (Option.some Jvm.ClassFile.FieldType.boolean)) ∈ lw_all := lw_g (lw_at lw_m0 75 rfl) rfl
theorem q91 : (Jvm.Cond.methodLink "OverlayTree" (41 : Nat) ({ cls := "OverlayTree", name := "copyUpTo", desc := "(I)V" } : Jvm.MethodName)) ∈ lw_all := lw_g (lw_at lw_m0 76 rfl) rfl
theorem q92 : (Jvm.Cond.privateMethod ({ cls := "OverlayTree", name := "copyUpTo", desc := "(I)V" } : Jvm.MethodName)) ∈ lw_tbl := lw_at lw_m0 77 rfl
theorem q93 : (Jvm.Cond.instanceMethod ({ cls := "OverlayTree", name := "copyUpTo", desc := "(I)V" } : Jvm.MethodName)) ∈ lw_all := lw_g (lw_at lw_m0 78 rfl) rfl
theorem q94 : (Jvm.Cond.code ({ cls := "OverlayTree", name := "copyUpTo", desc := "(I)V" } : Jvm.MethodName) prog_1_method_21_code (4 : Nat) (Option.none : Option Jvm.ClassFile.FieldType)) ∈ lw_all := lw_g (lw_at lw_m0 79 rfl) rfl
theorem q95 : (Jvm.Cond.methodLink "OverlayTree" (45 : Nat) ({ cls := "OverlayTree", name := "put", desc := "(III)V" } : Jvm.MethodName)) ∈ lw_all := lw_g (lw_at lw_m0 80 rfl) rfl
theorem q96 : (Jvm.Cond.privateMethod ({ cls := "OverlayTree", name := "put", desc := "(III)V" } : Jvm.MethodName)) ∈ lw_tbl := lw_at lw_m0 81 rfl
theorem q97 : (Jvm.Cond.instanceMethod ({ cls := "OverlayTree", name := "put", desc := "(III)V" } : Jvm.MethodName)) ∈ lw_all := lw_g (lw_at lw_m0 82 rfl) rfl
theorem q98 : (Jvm.Cond.code ({ cls := "OverlayTree", name := "put", desc := "(III)V" } : Jvm.MethodName) prog_1_method_20_code (4 : Nat) (Option.none : Option Jvm.ClassFile.FieldType)) ∈ lw_all := lw_g (lw_at lw_m0 83 rfl) rfl
theorem q100 : (Jvm.Cond.instanceMethod ({ cls := "OverlayTree", name := "makeDir", desc := "(I)I" } : Jvm.MethodName)) ∈ lw_all := lw_g (lw_at lw_m0 85 rfl) rfl
theorem q101 : (Jvm.Cond.selects "OverlayTree" ({ cls := "OverlayTree", name := "makeDir", desc := "(I)I" } : Jvm.MethodName) ({ cls := "OverlayTree", name := "makeDir", desc := "(I)I" } : Jvm.MethodName)) ∈ lw_all := lw_g (lw_at lw_m0 86 rfl) rfl
theorem q102 : (Jvm.Cond.code ({ cls := "OverlayTree", name := "makeDir", desc := "(I)I" } : Jvm.MethodName) prog_1_method_5_code (2 : Nat) (Option.some Jvm.ClassFile.FieldType.int)) ∈ lw_all := lw_g (lw_at lw_m0 87 rfl) rfl
theorem q104 : (Jvm.Cond.instanceMethod ({ cls := "OverlayTree", name := "write", desc := "(II)I" } : Jvm.MethodName)) ∈ lw_all := lw_g (lw_at lw_m0 89 rfl) rfl
theorem q105 : (Jvm.Cond.selects "OverlayTree" ({ cls := "OverlayTree", name := "write", desc := "(II)I" } : Jvm.MethodName) ({ cls := "OverlayTree", name := "write", desc := "(II)I" } : Jvm.MethodName)) ∈ lw_all := lw_g (lw_at lw_m0 90 rfl) rfl
theorem q106 : (Jvm.Cond.code ({ cls := "OverlayTree", name := "write", desc := "(II)I" } : Jvm.MethodName) prog_1_method_6_code (4 : Nat) (Option.some Jvm.ClassFile.FieldType.int)) ∈ lw_all := lw_g (lw_at lw_m0 91 rfl) rfl
theorem q107 : (Jvm.Cond.methodLink "OverlayTree" (52 : Nat) ({ cls := "OverlayTree", name := "value", desc := "(I)I" } : Jvm.MethodName)) ∈ lw_all := lw_g (lw_at lw_m0 92 rfl) rfl
theorem q108 : (Jvm.Cond.instanceMethod ({ cls := "OverlayTree", name := "value", desc := "(I)I" } : Jvm.MethodName)) ∈ lw_all := lw_g (lw_at lw_m0 93 rfl) rfl
theorem q109 : (Jvm.Cond.selects "OverlayTree" ({ cls := "OverlayTree", name := "value", desc := "(I)I" } : Jvm.MethodName) ({ cls := "OverlayTree", name := "value", desc := "(I)I" } : Jvm.MethodName)) ∈ lw_all := lw_g (lw_at lw_m0 94 rfl) rfl
theorem q110 : (Jvm.Cond.code ({ cls := "OverlayTree", name := "value", desc := "(I)I" } : Jvm.MethodName) prog_1_method_11_code (2 : Nat) (Option.some Jvm.ClassFile.FieldType.int)) ∈ lw_all := lw_g (lw_at lw_m0 95 rfl) rfl
theorem q112 : (Jvm.Cond.instanceMethod ({ cls := "OverlayTree", name := "remove", desc := "(I)I" } : Jvm.MethodName)) ∈ lw_all := lw_g (lw_at lw_m0 97 rfl) rfl
theorem q113 : (Jvm.Cond.selects "OverlayTree" ({ cls := "OverlayTree", name := "remove", desc := "(I)I" } : Jvm.MethodName) ({ cls := "OverlayTree", name := "remove", desc := "(I)I" } : Jvm.MethodName)) ∈ lw_all := lw_g (lw_at lw_m0 98 rfl) rfl
theorem q114 : (Jvm.Cond.code ({ cls := "OverlayTree", name := "remove", desc := "(I)I" } : Jvm.MethodName) prog_1_method_7_code (3 : Nat) (Option.some Jvm.ClassFile.FieldType.int)) ∈ lw_all := lw_g (lw_at lw_m0 99 rfl) rfl
theorem q115 : (Jvm.Cond.methodLink "OverlayTree" (55 : Nat) ({ cls := "OverlayTree", name := "entries", desc := "(I)I" } : Jvm.MethodName)) ∈ lw_all := lw_g (lw_at lw_m0 100 rfl) rfl
theorem q116 : (Jvm.Cond.instanceMethod ({ cls := "OverlayTree", name := "entries", desc := "(I)I" } : Jvm.MethodName)) ∈ lw_all := lw_g (lw_at lw_m0 101 rfl) rfl
theorem q117 : (Jvm.Cond.selects "OverlayTree" ({ cls := "OverlayTree", name := "entries", desc := "(I)I" } : Jvm.MethodName) ({ cls := "OverlayTree", name := "entries", desc := "(I)I" } : Jvm.MethodName)) ∈ lw_all := lw_g (lw_at lw_m0 102 rfl) rfl
theorem q118 : (Jvm.Cond.code ({ cls := "OverlayTree", name := "entries", desc := "(I)I" } : Jvm.MethodName) prog_1_method_12_code (4 : Nat) (Option.some Jvm.ClassFile.FieldType.int)) ∈ lw_all := lw_g (lw_at lw_m0 103 rfl) rfl
theorem q119 : (Jvm.Cond.methodLink "OverlayTree" (58 : Nat) ({ cls := "OverlayTree", name := "takeAway", desc := "(I)V" } : Jvm.MethodName)) ∈ lw_all := lw_g (lw_at lw_m0 104 rfl) rfl
theorem q120 : (Jvm.Cond.privateMethod ({ cls := "OverlayTree", name := "takeAway", desc := "(I)V" } : Jvm.MethodName)) ∈ lw_tbl := lw_at lw_m0 105 rfl
theorem q121 : (Jvm.Cond.instanceMethod ({ cls := "OverlayTree", name := "takeAway", desc := "(I)V" } : Jvm.MethodName)) ∈ lw_all := lw_g (lw_at lw_m0 106 rfl) rfl
theorem q122 : (Jvm.Cond.code ({ cls := "OverlayTree", name := "takeAway", desc := "(I)V" } : Jvm.MethodName) prog_1_method_23_code (2 : Nat) (Option.none : Option Jvm.ClassFile.FieldType)) ∈ lw_all := lw_g (lw_at lw_m0 107 rfl) rfl
theorem q123 : (Jvm.Cond.methodLink "OverlayTree" (69 : Nat) ({ cls := "OverlayTree", name := "clearUnder", desc := "(II)V" } : Jvm.MethodName)) ∈ lw_all := lw_g (lw_at lw_m0 108 rfl) rfl
theorem q124 : (Jvm.Cond.privateMethod ({ cls := "OverlayTree", name := "clearUnder", desc := "(II)V" } : Jvm.MethodName)) ∈ lw_tbl := lw_at lw_m0 109 rfl
theorem q125 : (Jvm.Cond.instanceMethod ({ cls := "OverlayTree", name := "clearUnder", desc := "(II)V" } : Jvm.MethodName)) ∈ lw_all := lw_g (lw_at lw_m0 110 rfl) rfl
theorem q126 : (Jvm.Cond.code ({ cls := "OverlayTree", name := "clearUnder", desc := "(II)V" } : Jvm.MethodName) prog_1_method_22_code (4 : Nat) (Option.none : Option Jvm.ClassFile.FieldType)) ∈ lw_all := lw_g (lw_at lw_m0 111 rfl) rfl
theorem q127 : (Jvm.Cond.methodLink "OverlayTree" (61 : Nat) ({ cls := "OverlayTree", name := "isUnder", desc := "(II)Z" } : Jvm.MethodName)) ∈ lw_all := lw_g (lw_at lw_m0 112 rfl) rfl
theorem q128 : (Jvm.Cond.static ({ cls := "OverlayTree", name := "isUnder", desc := "(II)Z" } : Jvm.MethodName)) ∈ lw_all := lw_g (lw_at lw_m0 113 rfl) rfl
theorem q129 : (Jvm.Cond.code ({ cls := "OverlayTree", name := "isUnder", desc := "(II)Z" } : Jvm.MethodName) prog_1_method_15_code (4 : Nat) (Option.some Jvm.ClassFile.FieldType.boolean)) ∈ lw_all := lw_g (lw_at lw_m0 114 rfl) rfl
theorem q131 : (Jvm.Cond.instanceMethod ({ cls := "OverlayTree", name := "move", desc := "(II)I" } : Jvm.MethodName)) ∈ lw_all := lw_g (lw_at lw_m0 116 rfl) rfl
theorem q132 : (Jvm.Cond.selects "OverlayTree" ({ cls := "OverlayTree", name := "move", desc := "(II)I" } : Jvm.MethodName) ({ cls := "OverlayTree", name := "move", desc := "(II)I" } : Jvm.MethodName)) ∈ lw_all := lw_g (lw_at lw_m0 117 rfl) rfl
theorem q133 : (Jvm.Cond.code ({ cls := "OverlayTree", name := "move", desc := "(II)I" } : Jvm.MethodName) prog_1_method_8_code (5 : Nat) (Option.some Jvm.ClassFile.FieldType.int)) ∈ lw_all := lw_g (lw_at lw_m0 118 rfl) rfl
theorem q134 : (Jvm.Cond.methodLink "OverlayTree" (65 : Nat) ({ cls := "OverlayTree", name := "copyPart", desc := "(II)I" } : Jvm.MethodName)) ∈ lw_all := lw_g (lw_at lw_m0 119 rfl) rfl
theorem q135 : (Jvm.Cond.privateMethod ({ cls := "OverlayTree", name := "copyPart", desc := "(II)I" } : Jvm.MethodName)) ∈ lw_tbl := lw_at lw_m0 120 rfl
theorem q136 : (Jvm.Cond.instanceMethod ({ cls := "OverlayTree", name := "copyPart", desc := "(II)I" } : Jvm.MethodName)) ∈ lw_all := lw_g (lw_at lw_m0 121 rfl) rfl
theorem q137 : (Jvm.Cond.code ({ cls := "OverlayTree", name := "copyPart", desc := "(II)I" } : Jvm.MethodName) prog_1_method_24_code (7 : Nat) (Option.some Jvm.ClassFile.FieldType.int)) ∈ lw_all := lw_g (lw_at lw_m0 122 rfl) rfl
theorem q138 : (Jvm.Cond.methodLink "OverlayTree" (89 : Nat) ({ cls := "OverlayTree", name := "placeAfter", desc := "(III)I" } : Jvm.MethodName)) ∈ lw_all := lw_g (lw_at lw_m0 123 rfl) rfl
theorem q139 : (Jvm.Cond.privateMethod ({ cls := "OverlayTree", name := "placeAfter", desc := "(III)I" } : Jvm.MethodName)) ∈ lw_tbl := lw_at lw_m0 124 rfl
theorem q140 : (Jvm.Cond.instanceMethod ({ cls := "OverlayTree", name := "placeAfter", desc := "(III)I" } : Jvm.MethodName)) ∈ lw_all := lw_g (lw_at lw_m0 125 rfl) rfl
theorem q141 : (Jvm.Cond.code ({ cls := "OverlayTree", name := "placeAfter", desc := "(III)I" } : Jvm.MethodName) prog_1_method_25_code (8 : Nat) (Option.some Jvm.ClassFile.FieldType.int)) ∈ lw_all := lw_g (lw_at lw_m0 126 rfl) rfl
theorem q143 : (Jvm.Cond.instanceMethod ({ cls := "OverlayTree", name := "press", desc := "()I" } : Jvm.MethodName)) ∈ lw_all := lw_g (lw_at lw_m0 128 rfl) rfl
theorem q144 : (Jvm.Cond.selects "OverlayTree" ({ cls := "OverlayTree", name := "press", desc := "()I" } : Jvm.MethodName) ({ cls := "OverlayTree", name := "press", desc := "()I" } : Jvm.MethodName)) ∈ lw_all := lw_g (lw_at lw_m0 129 rfl) rfl
theorem q145 : (Jvm.Cond.code ({ cls := "OverlayTree", name := "press", desc := "()I" } : Jvm.MethodName) prog_1_method_9_code (5 : Nat) (Option.some Jvm.ClassFile.FieldType.int)) ∈ lw_all := lw_g (lw_at lw_m0 130 rfl) rfl
theorem in_X0 : ∀ w ∈ wsX00, w ∈ lw_all := lw_in wsX00 [34, 36, 38, 40, 42, 44, 46, 48] (by decide +kernel) (by decide +kernel)

/-! OverlayTreeModel -/
def RX1 : String := "OverlayTreeModel"
def TX1 : u_T := fun k => match k with
  | 0 => ("OverlayTreeModel", "layerSorts", "[I", true)
  | 1 => ("OverlayTreeModel", "layerValues", "[I", true)
  | 2 => ("OverlayTreeModel", "mounted", "Z", false)
  | 3 => ("OverlayTreeModel", "sorts", "[I", true)
  | 4 => ("OverlayTreeModel", "values", "[I", true)
  | _ => ("OverlayTreeModel", "images", "[I", true)
def tyX1 : Nat → FieldType := fun k => match k with
  | 0 => .array .int
  | 1 => .array .int
  | 2 => .boolean
  | 3 => .array .int
  | 4 => .array .int
  | _ => .array .int
abbrev wsX10 : List Cond := u_ws RX1 TX1 6
theorem nmX1 : ∀ a, a < 6 → ∀ b, b < 6 → a ≠ b → (TX1 a).2.1 ≠ (TX1 b).2.1 := by decide +kernel
theorem tyX1_ok : ∀ k, k < 6 → parseFieldDescriptor (TX1 k).2.2.1 = some (tyX1 k) := by decide +kernel
abbrev cX1_init : ByteArray := prog_3_method_1_code
def yX1_init : MethodName := ⟨RX1, "<init>", "()V"⟩
abbrev cX1_fill : ByteArray := prog_3_method_5_code
def yX1_fill : MethodName := ⟨RX1, "fill", "(IIII)I"⟩
abbrev cX1_bad : ByteArray := prog_3_method_2_code
def yX1_bad : MethodName := ⟨RX1, "bad", "(I)Z"⟩
abbrev cX1_parent : ByteArray := prog_3_method_3_code
def yX1_parent : MethodName := ⟨RX1, "parent", "(I)I"⟩
abbrev cX1_layerDirectory : ByteArray := prog_3_method_4_code
def yX1_layerDirectory : MethodName := ⟨RX1, "layerDirectory", "(II)Z"⟩
abbrev cX1_mount : ByteArray := prog_3_method_8_code
def yX1_mount : MethodName := ⟨RX1, "mount", "()I"⟩
abbrev cX1_merge : ByteArray := prog_3_method_7_code
def yX1_merge : MethodName := ⟨RX1, "merge", "(I)V"⟩
abbrev cX1_hidden : ByteArray := prog_3_method_6_code
def yX1_hidden : MethodName := ⟨RX1, "hidden", "(II)Z"⟩
abbrev cX1_total : ByteArray := prog_3_method_20_code
def yX1_total : MethodName := ⟨RX1, "total", "()I"⟩
abbrev cX1_make : ByteArray := prog_3_method_10_code
def yX1_make : MethodName := ⟨RX1, "make", "(II)I"⟩
abbrev cX1_canMake : ByteArray := prog_3_method_9_code
def yX1_canMake : MethodName := ⟨RX1, "canMake", "(I)Z"⟩
abbrev cX1_makeDir : ByteArray := prog_3_method_11_code
def yX1_makeDir : MethodName := ⟨RX1, "makeDir", "(I)I"⟩
abbrev cX1_write : ByteArray := prog_3_method_12_code
def yX1_write : MethodName := ⟨RX1, "write", "(II)I"⟩
abbrev cX1_remove : ByteArray := prog_3_method_13_code
def yX1_remove : MethodName := ⟨RX1, "remove", "(I)I"⟩
abbrev cX1_move : ByteArray := prog_3_method_15_code
def yX1_move : MethodName := ⟨RX1, "move", "(II)I"⟩
abbrev cX1_follow : ByteArray := prog_3_method_14_code
def yX1_follow : MethodName := ⟨RX1, "follow", "(II)V"⟩
abbrev cX1_press : ByteArray := prog_3_method_16_code
def yX1_press : MethodName := ⟨RX1, "press", "()I"⟩
abbrev cX1_sort : ByteArray := prog_3_method_17_code
def yX1_sort : MethodName := ⟨RX1, "sort", "(I)I"⟩
abbrev cX1_value : ByteArray := prog_3_method_18_code
def yX1_value : MethodName := ⟨RX1, "value", "(I)I"⟩
abbrev cX1_entries : ByteArray := prog_3_method_19_code
def yX1_entries : MethodName := ⟨RX1, "entries", "(I)I"⟩
theorem q17 : (Jvm.Cond.initialized "OverlayTreeModel") ∈ lw_all := lw_g (lw_at lw_m0 2 rfl) rfl
theorem q151 : (Jvm.Cond.instantiable "OverlayTreeModel" (6 : Nat)) ∈ lw_all := lw_g (lw_at lw_m0 136 rfl) rfl
theorem q153 : (Jvm.Cond.instanceMethod ({ cls := "OverlayTreeModel", name := "<init>", desc := "()V" } : Jvm.MethodName)) ∈ lw_all := lw_g (lw_at lw_m0 138 rfl) rfl
theorem q154 : (Jvm.Cond.code ({ cls := "OverlayTreeModel", name := "<init>", desc := "()V" } : Jvm.MethodName) prog_3_method_1_code (1 : Nat) (Option.none : Option Jvm.ClassFile.FieldType)) ∈ lw_all := lw_g (lw_at lw_m0 139 rfl) rfl
theorem q155 : (Jvm.Cond.methodLink "OverlayTreeModel" (1 : Nat) ({ cls := "java/lang/Object", name := "<init>", desc := "()V" } : Jvm.MethodName)) ∈ lw_all := lw_g (lw_at lw_m0 140 rfl) rfl
theorem q156 : (Jvm.Cond.fieldLink "OverlayTreeModel" (7 : Nat) "OverlayTreeModel" "layerSorts" "[I") ∈ lw_all := lw_g (lw_at lw_m0 141 rfl) rfl
theorem q157 : (Jvm.Cond.fieldLink "OverlayTreeModel" (13 : Nat) "OverlayTreeModel" "layerValues" "[I") ∈ lw_all := lw_g (lw_at lw_m0 142 rfl) rfl
theorem q158 : (Jvm.Cond.fieldLink "OverlayTreeModel" (25 : Nat) "OverlayTreeModel" "mounted" "Z") ∈ lw_all := lw_g (lw_at lw_m0 143 rfl) rfl
theorem q159 : (Jvm.Cond.fieldLink "OverlayTreeModel" (16 : Nat) "OverlayTreeModel" "sorts" "[I") ∈ lw_all := lw_g (lw_at lw_m0 144 rfl) rfl
theorem q160 : (Jvm.Cond.fieldLink "OverlayTreeModel" (19 : Nat) "OverlayTreeModel" "values" "[I") ∈ lw_all := lw_g (lw_at lw_m0 145 rfl) rfl
theorem q161 : (Jvm.Cond.fieldLink "OverlayTreeModel" (22 : Nat) "OverlayTreeModel" "images" "[I") ∈ lw_all := lw_g (lw_at lw_m0 146 rfl) rfl
theorem q162 : (Jvm.Cond.laysFinal "OverlayTreeModel" "OverlayTreeModel" "layerSorts" "[I") ∈ lw_all := lw_g (lw_at lw_m0 147 rfl) rfl
theorem q163 : (Jvm.Cond.soleField "OverlayTreeModel" "layerSorts") ∈ lw_all := lw_g (lw_at lw_m0 148 rfl) rfl
theorem q164 : (Jvm.Cond.laysFinal "OverlayTreeModel" "OverlayTreeModel" "layerValues" "[I") ∈ lw_all := lw_g (lw_at lw_m0 149 rfl) rfl
theorem q165 : (Jvm.Cond.soleField "OverlayTreeModel" "layerValues") ∈ lw_all := lw_g (lw_at lw_m0 150 rfl) rfl
theorem q166 : (Jvm.Cond.lays "OverlayTreeModel" "OverlayTreeModel" "mounted" "Z") ∈ lw_all := lw_g (lw_at lw_m0 151 rfl) rfl
theorem q167 : (Jvm.Cond.soleField "OverlayTreeModel" "mounted") ∈ lw_all := lw_g (lw_at lw_m0 152 rfl) rfl
theorem q168 : (Jvm.Cond.laysFinal "OverlayTreeModel" "OverlayTreeModel" "sorts" "[I") ∈ lw_all := lw_g (lw_at lw_m0 153 rfl) rfl
theorem q169 : (Jvm.Cond.soleField "OverlayTreeModel" "sorts") ∈ lw_all := lw_g (lw_at lw_m0 154 rfl) rfl
theorem q170 : (Jvm.Cond.laysFinal "OverlayTreeModel" "OverlayTreeModel" "values" "[I") ∈ lw_all := lw_g (lw_at lw_m0 155 rfl) rfl
theorem q171 : (Jvm.Cond.soleField "OverlayTreeModel" "values") ∈ lw_all := lw_g (lw_at lw_m0 156 rfl) rfl
theorem q172 : (Jvm.Cond.laysFinal "OverlayTreeModel" "OverlayTreeModel" "images" "[I") ∈ lw_all := lw_g (lw_at lw_m0 157 rfl) rfl
theorem q173 : (Jvm.Cond.soleField "OverlayTreeModel" "images") ∈ lw_all := lw_g (lw_at lw_m0 158 rfl) rfl
theorem q174 : (Jvm.Cond.superclass "OverlayTreeModel" "java/lang/Object") ∈ lw_all := lw_g (lw_at lw_m0 159 rfl) rfl
theorem q176 : (Jvm.Cond.instanceMethod ({ cls := "OverlayTreeModel", name := "fill", desc := "(IIII)I" } : Jvm.MethodName)) ∈ lw_all := lw_g (lw_at lw_m0 161 rfl) rfl
theorem q177 : (Jvm.Cond.selects "OverlayTreeModel" ({ cls := "OverlayTreeModel", name := "fill", desc := "(IIII)I" } : Jvm.MethodName) ({ cls := "OverlayTreeModel", name := "fill", desc := "(IIII)I" } : Jvm.MethodName)) ∈ lw_all := lw_g (lw_at lw_m0 162 rfl) rfl
theorem q178 : (Jvm.Cond.code ({ cls := "OverlayTreeModel", name := "fill", desc := "(IIII)I" } : Jvm.MethodName) prog_3_method_5_code (6 : Nat) (Option.some Jvm.ClassFile.FieldType.int)) ∈ lw_all := lw_g (lw_at lw_m0 163 rfl) rfl
theorem q179 : (Jvm.Cond.methodLink "OverlayTreeModel" (29 : Nat) ({ cls := "OverlayTreeModel", name := "bad", desc := "(I)Z" } : Jvm.MethodName)) ∈ lw_all := lw_g (lw_at lw_m0 164 rfl) rfl
theorem q180 : (Jvm.Cond.static ({ cls := "OverlayTreeModel", name := "bad", desc := "(I)Z" } : Jvm.MethodName)) ∈ lw_all := lw_g (lw_at lw_m0 165 rfl) rfl
theorem q181 : (Jvm.Cond.code ({ cls := "OverlayTreeModel", name := "bad", desc := "(I)Z" } : Jvm.MethodName) prog_3_method_2_code (1 : Nat) (Option.some Jvm.ClassFile.FieldType.boolean)) ∈ lw_all := lw_g (lw_at lw_m0 166 rfl) rfl
theorem q182 : (Jvm.Cond.methodLink "OverlayTreeModel" (33 : Nat) ({ cls := "OverlayTreeModel", name := "parent", desc := "(I)I" } : Jvm.MethodName)) ∈ lw_all := lw_g (lw_at lw_m0 167 rfl) rfl
theorem q183 : (Jvm.Cond.static ({ cls := "OverlayTreeModel", name := "parent", desc := "(I)I" } : Jvm.MethodName)) ∈ lw_all := lw_g (lw_at lw_m0 168 rfl) rfl
theorem q184 : (Jvm.Cond.code ({ cls := "OverlayTreeModel", name := "parent", desc := "(I)I" } : Jvm.MethodName) prog_3_method_3_code (1 : Nat) (Option.some Jvm.ClassFile.FieldType.int)) ∈ lw_all := lw_g (lw_at lw_m0 169 rfl) rfl
theorem q185 : (Jvm.Cond.methodLink "OverlayTreeModel" (37 : Nat) ({ cls := "OverlayTreeModel", name := "layerDirectory", desc := "(II)Z" } : Jvm.MethodName)) ∈ lw_all := lw_g (lw_at lw_m0 170 rfl) rfl
theorem q186 : (Jvm.Cond.privateMethod ({ cls := "OverlayTreeModel", name := "layerDirectory", desc := "(II)Z" } : Jvm.MethodName)) ∈ lw_tbl := lw_at lw_m0 171 rfl
theorem q187 : (Jvm.Cond.instanceMethod ({ cls := "OverlayTreeModel", name := "layerDirectory", desc := "(II)Z" } : Jvm.MethodName)) ∈ lw_all := lw_g (lw_at lw_m0 172 rfl) rfl
theorem q188 : (Jvm.Cond.code ({ cls := "OverlayTreeModel", name := "layerDirectory", desc := "(II)Z" } : Jvm.MethodName) prog_3_method_4_code (4 : Nat) (Option.some Jvm.ClassFile.FieldType.boolean)) ∈ lw_all := lw_g (lw_at lw_m0 173 rfl) rfl
theorem q190 : (Jvm.Cond.instanceMethod ({ cls := "OverlayTreeModel", name := "mount", desc := "()I" } : Jvm.MethodName)) ∈ lw_all := lw_g (lw_at lw_m0 175 rfl) rfl
theorem q191 : (Jvm.Cond.selects "OverlayTreeModel" ({ cls := "OverlayTreeModel", name := "mount", desc := "()I" } : Jvm.MethodName) ({ cls := "OverlayTreeModel", name := "mount", desc := "()I" } : Jvm.MethodName)) ∈ lw_all := lw_g (lw_at lw_m0 176 rfl) rfl
theorem q192 : (Jvm.Cond.code ({ cls := "OverlayTreeModel", name := "mount", desc := "()I" } : Jvm.MethodName) prog_3_method_8_code (2 : Nat) (Option.some Jvm.ClassFile.FieldType.int)) ∈ lw_all := lw_g (lw_at lw_m0 177 rfl) rfl
theorem q193 : (Jvm.Cond.methodLink "OverlayTreeModel" (44 : Nat) ({ cls := "OverlayTreeModel", name := "merge", desc := "(I)V" } : Jvm.MethodName)) ∈ lw_all := lw_g (lw_at lw_m0 178 rfl) rfl
theorem q194 : (Jvm.Cond.privateMethod ({ cls := "OverlayTreeModel", name := "merge", desc := "(I)V" } : Jvm.MethodName)) ∈ lw_tbl := lw_at lw_m0 179 rfl
theorem q195 : (Jvm.Cond.instanceMethod ({ cls := "OverlayTreeModel", name := "merge", desc := "(I)V" } : Jvm.MethodName)) ∈ lw_all := lw_g (lw_at lw_m0 180 rfl) rfl
theorem q196 : (Jvm.Cond.code ({ cls := "OverlayTreeModel", name := "merge", desc := "(I)V" } : Jvm.MethodName) prog_3_method_7_code (4 : Nat) (Option.none : Option Jvm.ClassFile.FieldType)) ∈ lw_all := lw_g (lw_at lw_m0 181 rfl) rfl
theorem q197 : (Jvm.Cond.methodLink "OverlayTreeModel" (41 : Nat) ({ cls := "OverlayTreeModel", name := "hidden", desc := "(II)Z" } : Jvm.MethodName)) ∈ lw_all := lw_g (lw_at lw_m0 182 rfl) rfl
theorem q198 : (Jvm.Cond.privateMethod ({ cls := "OverlayTreeModel", name := "hidden", desc := "(II)Z" } : Jvm.MethodName)) ∈ lw_tbl := lw_at lw_m0 183 rfl
theorem q199 : (Jvm.Cond.instanceMethod ({ cls := "OverlayTreeModel", name := "hidden", desc := "(II)Z" } : Jvm.MethodName)) ∈ lw_all := lw_g (lw_at lw_m0 184 rfl) rfl
theorem q200 : (Jvm.Cond.code ({ cls := "OverlayTreeModel", name := "hidden", desc := "(II)Z" } : Jvm.MethodName) prog_3_method_6_code (5 : Nat) (Option.some Jvm.ClassFile.FieldType.boolean)) ∈ lw_all := lw_g (lw_at lw_m0 185 rfl) rfl
theorem q201 : (Jvm.Cond.methodLink "OverlayTreeModel" (48 : Nat) ({ cls := "OverlayTreeModel", name := "total", desc := "()I" } : Jvm.MethodName)) ∈ lw_all := lw_g (lw_at lw_m0 186 rfl) rfl
theorem q202 : (Jvm.Cond.instanceMethod ({ cls := "OverlayTreeModel", name := "total", desc := "()I" } : Jvm.MethodName)) ∈ lw_all := lw_g (lw_at lw_m0 187 rfl) rfl
theorem q203 : (Jvm.Cond.selects "OverlayTreeModel" ({ cls := "OverlayTreeModel", name := "total", desc := "()I" } : Jvm.MethodName) ({ cls := "OverlayTreeModel", name := "total", desc := "()I" } : Jvm.MethodName)) ∈ lw_all := lw_g (lw_at lw_m0 188 rfl) rfl
theorem q204 : (Jvm.Cond.code ({ cls := "OverlayTreeModel", name := "total", desc := "()I" } : Jvm.MethodName) prog_3_method_20_code (3 : Nat) (Option.some Jvm.ClassFile.FieldType.int)) ∈ lw_all := lw_g (lw_at lw_m0 189 rfl) rfl
theorem q206 : (Jvm.Cond.instanceMethod ({ cls := "OverlayTreeModel", name := "make", desc := "(II)I" } : Jvm.MethodName)) ∈ lw_all := lw_g (lw_at lw_m0 191 rfl) rfl
theorem q207 : (Jvm.Cond.selects "OverlayTreeModel" ({ cls := "OverlayTreeModel", name := "make", desc := "(II)I" } : Jvm.MethodName) ({ cls := "OverlayTreeModel", name := "make", desc := "(II)I" } : Jvm.MethodName)) ∈ lw_all := lw_g (lw_at lw_m0 192 rfl) rfl
theorem q208 : (Jvm.Cond.code ({ cls := "OverlayTreeModel", name := "make", desc := "(II)I" } : Jvm.MethodName) prog_3_method_10_code (3 : Nat) (Option.some Jvm.ClassFile.FieldType.int)) ∈ lw_all := lw_g (lw_at lw_m0 193 rfl) rfl
theorem q209 : (Jvm.Cond.methodLink "OverlayTreeModel" (52 : Nat) ({ cls := "OverlayTreeModel", name := "canMake", desc := "(I)Z" } : Jvm.MethodName)) ∈ lw_all := lw_g (lw_at lw_m0 194 rfl) rfl
theorem q210 : (Jvm.Cond.privateMethod ({ cls := "OverlayTreeModel", name := "canMake", desc := "(I)Z" } : Jvm.MethodName)) ∈ lw_tbl := lw_at lw_m0 195 rfl
theorem q211 : (Jvm.Cond.instanceMethod ({ cls := "OverlayTreeModel", name := "canMake", desc := "(I)Z" } : Jvm.MethodName)) ∈ lw_all := lw_g (lw_at lw_m0 196 rfl) rfl
theorem q212 : (Jvm.Cond.code ({ cls := "OverlayTreeModel", name := "canMake", desc := "(I)Z" } : Jvm.MethodName) prog_3_method_9_code (2 : Nat) (Option.some Jvm.ClassFile.FieldType.boolean)) ∈ lw_all := lw_g (lw_at lw_m0 197 rfl) rfl
theorem q214 : (Jvm.Cond.instanceMethod ({ cls := "OverlayTreeModel", name := "makeDir", desc := "(I)I" } : Jvm.MethodName)) ∈ lw_all := lw_g (lw_at lw_m0 199 rfl) rfl
theorem q215 : (Jvm.Cond.selects "OverlayTreeModel" ({ cls := "OverlayTreeModel", name := "makeDir", desc := "(I)I" } : Jvm.MethodName) ({ cls := "OverlayTreeModel", name := "makeDir", desc := "(I)I" } : Jvm.MethodName)) ∈ lw_all := lw_g (lw_at lw_m0 200 rfl) rfl
theorem q216 : (Jvm.Cond.code ({ cls := "OverlayTreeModel", name := "makeDir", desc := "(I)I" } : Jvm.MethodName) prog_3_method_11_code (2 : Nat) (Option.some Jvm.ClassFile.FieldType.int)) ∈ lw_all := lw_g (lw_at lw_m0 201 rfl) rfl
theorem q218 : (Jvm.Cond.instanceMethod ({ cls := "OverlayTreeModel", name := "write", desc := "(II)I" } : Jvm.MethodName)) ∈ lw_all := lw_g (lw_at lw_m0 203 rfl) rfl
theorem q219 : (Jvm.Cond.selects "OverlayTreeModel" ({ cls := "OverlayTreeModel", name := "write", desc := "(II)I" } : Jvm.MethodName) ({ cls := "OverlayTreeModel", name := "write", desc := "(II)I" } : Jvm.MethodName)) ∈ lw_all := lw_g (lw_at lw_m0 204 rfl) rfl
theorem q220 : (Jvm.Cond.code ({ cls := "OverlayTreeModel", name := "write", desc := "(II)I" } : Jvm.MethodName) prog_3_method_12_code (4 : Nat) (Option.some Jvm.ClassFile.FieldType.int)) ∈ lw_all := lw_g (lw_at lw_m0 205 rfl) rfl
theorem q222 : (Jvm.Cond.instanceMethod ({ cls := "OverlayTreeModel", name := "remove", desc := "(I)I" } : Jvm.MethodName)) ∈ lw_all := lw_g (lw_at lw_m0 207 rfl) rfl
theorem q223 : (Jvm.Cond.selects "OverlayTreeModel" ({ cls := "OverlayTreeModel", name := "remove", desc := "(I)I" } : Jvm.MethodName) ({ cls := "OverlayTreeModel", name := "remove", desc := "(I)I" } : Jvm.MethodName)) ∈ lw_all := lw_g (lw_at lw_m0 208 rfl) rfl
theorem q224 : (Jvm.Cond.code ({ cls := "OverlayTreeModel", name := "remove", desc := "(I)I" } : Jvm.MethodName) prog_3_method_13_code (3 : Nat) (Option.some Jvm.ClassFile.FieldType.int)) ∈ lw_all := lw_g (lw_at lw_m0 209 rfl) rfl
theorem q226 : (Jvm.Cond.instanceMethod ({ cls := "OverlayTreeModel", name := "move", desc := "(II)I" } : Jvm.MethodName)) ∈ lw_all := lw_g (lw_at lw_m0 211 rfl) rfl
theorem q227 : (Jvm.Cond.selects "OverlayTreeModel" ({ cls := "OverlayTreeModel", name := "move", desc := "(II)I" } : Jvm.MethodName) ({ cls := "OverlayTreeModel", name := "move", desc := "(II)I" } : Jvm.MethodName)) ∈ lw_all := lw_g (lw_at lw_m0 212 rfl) rfl
theorem q228 : (Jvm.Cond.code ({ cls := "OverlayTreeModel", name := "move", desc := "(II)I" } : Jvm.MethodName) prog_3_method_15_code (5 : Nat) (Option.some Jvm.ClassFile.FieldType.int)) ∈ lw_all := lw_g (lw_at lw_m0 213 rfl) rfl
theorem q229 : (Jvm.Cond.methodLink "OverlayTreeModel" (55 : Nat) ({ cls := "OverlayTreeModel", name := "follow", desc := "(II)V" } : Jvm.MethodName)) ∈ lw_all := lw_g (lw_at lw_m0 214 rfl) rfl
theorem q230 : (Jvm.Cond.privateMethod ({ cls := "OverlayTreeModel", name := "follow", desc := "(II)V" } : Jvm.MethodName)) ∈ lw_tbl := lw_at lw_m0 215 rfl
theorem q231 : (Jvm.Cond.instanceMethod ({ cls := "OverlayTreeModel", name := "follow", desc := "(II)V" } : Jvm.MethodName)) ∈ lw_all := lw_g (lw_at lw_m0 216 rfl) rfl
theorem q232 : (Jvm.Cond.code ({ cls := "OverlayTreeModel", name := "follow", desc := "(II)V" } : Jvm.MethodName) prog_3_method_14_code (4 : Nat) (Option.none : Option Jvm.ClassFile.FieldType)) ∈ lw_all := lw_g (lw_at lw_m0 217 rfl) rfl
theorem q234 : (Jvm.Cond.instanceMethod ({ cls := "OverlayTreeModel", name := "press", desc := "()I" } : Jvm.MethodName)) ∈ lw_all := lw_g (lw_at lw_m0 219 rfl) rfl
theorem q235 : (Jvm.Cond.selects "OverlayTreeModel" ({ cls := "OverlayTreeModel", name := "press", desc := "()I" } : Jvm.MethodName) ({ cls := "OverlayTreeModel", name := "press", desc := "()I" } : Jvm.MethodName)) ∈ lw_all := lw_g (lw_at lw_m0 220 rfl) rfl
theorem q236 : (Jvm.Cond.code ({ cls := "OverlayTreeModel", name := "press", desc := "()I" } : Jvm.MethodName) prog_3_method_16_code (1 : Nat) (Option.some Jvm.ClassFile.FieldType.int)) ∈ lw_all := lw_g (lw_at lw_m0 221 rfl) rfl
theorem q238 : (Jvm.Cond.instanceMethod ({ cls := "OverlayTreeModel", name := "sort", desc := "(I)I" } : Jvm.MethodName)) ∈ lw_all := lw_g (lw_at lw_m0 223 rfl) rfl
theorem q239 : (Jvm.Cond.selects "OverlayTreeModel" ({ cls := "OverlayTreeModel", name := "sort", desc := "(I)I" } : Jvm.MethodName) ({ cls := "OverlayTreeModel", name := "sort", desc := "(I)I" } : Jvm.MethodName)) ∈ lw_all := lw_g (lw_at lw_m0 224 rfl) rfl
theorem q240 : (Jvm.Cond.code ({ cls := "OverlayTreeModel", name := "sort", desc := "(I)I" } : Jvm.MethodName) prog_3_method_17_code (2 : Nat) (Option.some Jvm.ClassFile.FieldType.int)) ∈ lw_all := lw_g (lw_at lw_m0 225 rfl) rfl
theorem q242 : (Jvm.Cond.instanceMethod ({ cls := "OverlayTreeModel", name := "value", desc := "(I)I" } : Jvm.MethodName)) ∈ lw_all := lw_g (lw_at lw_m0 227 rfl) rfl
theorem q243 : (Jvm.Cond.selects "OverlayTreeModel" ({ cls := "OverlayTreeModel", name := "value", desc := "(I)I" } : Jvm.MethodName) ({ cls := "OverlayTreeModel", name := "value", desc := "(I)I" } : Jvm.MethodName)) ∈ lw_all := lw_g (lw_at lw_m0 228 rfl) rfl
theorem q244 : (Jvm.Cond.code ({ cls := "OverlayTreeModel", name := "value", desc := "(I)I" } : Jvm.MethodName) prog_3_method_18_code (2 : Nat) (Option.some Jvm.ClassFile.FieldType.int)) ∈ lw_all := lw_g (lw_at lw_m0 229 rfl) rfl
theorem q246 : (Jvm.Cond.instanceMethod ({ cls := "OverlayTreeModel", name := "entries", desc := "(I)I" } : Jvm.MethodName)) ∈ lw_all := lw_g (lw_at lw_m0 231 rfl) rfl
theorem q247 : (Jvm.Cond.selects "OverlayTreeModel" ({ cls := "OverlayTreeModel", name := "entries", desc := "(I)I" } : Jvm.MethodName) ({ cls := "OverlayTreeModel", name := "entries", desc := "(I)I" } : Jvm.MethodName)) ∈ lw_all := lw_g (lw_at lw_m0 232 rfl) rfl
theorem q248 : (Jvm.Cond.code ({ cls := "OverlayTreeModel", name := "entries", desc := "(I)I" } : Jvm.MethodName) prog_3_method_19_code (4 : Nat) (Option.some Jvm.ClassFile.FieldType.int)) ∈ lw_all := lw_g (lw_at lw_m0 233 rfl) rfl
theorem in_X1 : ∀ w ∈ wsX10, w ∈ lw_all := lw_in wsX10 [162, 164, 166, 168, 170, 172] (by decide +kernel) (by decide +kernel)

abbrev cL_law : ByteArray := code
end
section
set_option maxRecDepth 100000
theorem dX0_init_0 : decode cX0_init 0 = .ok (.aload_n 0, 1) := by decide +kernel
theorem dX0_init_1 : decode cX0_init 1 = .ok (.invokespecial 1, 3) := by decide +kernel
theorem dX0_init_4 : decode cX0_init 4 = .ok (.aload_n 0, 1) := by decide +kernel
theorem dX0_init_5 : decode cX0_init 5 = .ok (.sipush 425, 3) := by decide +kernel
theorem dX0_init_8 : decode cX0_init 8 = .ok (.newarray .int, 2) := by decide +kernel
theorem dX0_init_10 : decode cX0_init 10 = .ok (.putfield 7, 3) := by decide +kernel
theorem dX0_init_13 : decode cX0_init 13 = .ok (.aload_n 0, 1) := by decide +kernel
theorem dX0_init_14 : decode cX0_init 14 = .ok (.sipush 425, 3) := by decide +kernel
theorem dX0_init_17 : decode cX0_init 17 = .ok (.newarray .int, 2) := by decide +kernel
theorem dX0_init_19 : decode cX0_init 19 = .ok (.putfield 13, 3) := by decide +kernel
theorem dX0_init_22 : decode cX0_init 22 = .ok (.aload_n 0, 1) := by decide +kernel
theorem dX0_init_23 : decode cX0_init 23 = .ok (.iconst 4, 1) := by decide +kernel
theorem dX0_init_24 : decode cX0_init 24 = .ok (.newarray .int, 2) := by decide +kernel
theorem dX0_init_26 : decode cX0_init 26 = .ok (.putfield 16, 3) := by decide +kernel
theorem dX0_init_29 : decode cX0_init 29 = .ok (.aload_n 0, 1) := by decide +kernel
theorem dX0_init_30 : decode cX0_init 30 = .ok (.bipush 85, 2) := by decide +kernel
theorem dX0_init_32 : decode cX0_init 32 = .ok (.newarray .int, 2) := by decide +kernel
theorem dX0_init_34 : decode cX0_init 34 = .ok (.putfield 19, 3) := by decide +kernel
theorem dX0_init_37 : decode cX0_init 37 = .ok (.aload_n 0, 1) := by decide +kernel
theorem dX0_init_38 : decode cX0_init 38 = .ok (.bipush 85, 2) := by decide +kernel
theorem dX0_init_40 : decode cX0_init 40 = .ok (.newarray .int, 2) := by decide +kernel
theorem dX0_init_42 : decode cX0_init 42 = .ok (.putfield 22, 3) := by decide +kernel
theorem dX0_init_45 : decode cX0_init 45 = .ok (.iconst 0, 1) := by decide +kernel
theorem dX0_init_46 : decode cX0_init 46 = .ok (.istore_n 1, 1) := by decide +kernel
theorem dX0_init_47 : decode cX0_init 47 = .ok (.iload_n 1, 1) := by decide +kernel
theorem dX0_init_48 : decode cX0_init 48 = .ok (.iconst 5, 1) := by decide +kernel
theorem dX0_init_49 : decode cX0_init 49 = .ok (.if_icmp .ge 19, 3) := by decide +kernel
theorem dX0_init_52 : decode cX0_init 52 = .ok (.aload_n 0, 1) := by decide +kernel
theorem dX0_init_53 : decode cX0_init 53 = .ok (.getfield 7, 3) := by decide +kernel
theorem dX0_init_56 : decode cX0_init 56 = .ok (.bipush 85, 2) := by decide +kernel
theorem dX0_init_58 : decode cX0_init 58 = .ok (.iload_n 1, 1) := by decide +kernel
theorem dX0_init_59 : decode cX0_init 59 = .ok (.imul, 1) := by decide +kernel
theorem dX0_init_60 : decode cX0_init 60 = .ok (.iconst 2, 1) := by decide +kernel
theorem dX0_init_61 : decode cX0_init 61 = .ok (.iastore, 1) := by decide +kernel
theorem dX0_init_62 : decode cX0_init 62 = .ok (.iinc 1 1, 3) := by decide +kernel
theorem dX0_init_65 : decode cX0_init 65 = .ok (.goto (-18), 3) := by decide +kernel
theorem dX0_init_68 : decode cX0_init 68 = .ok (.return_, 1) := by decide +kernel
theorem dX0_fill_0 : decode cX0_fill 0 = .ok (.aload_n 0, 1) := by decide +kernel
theorem dX0_fill_1 : decode cX0_fill 1 = .ok (.getfield 25, 3) := by decide +kernel
theorem dX0_fill_4 : decode cX0_fill 4 = .ok (.ifCond .ne 33, 3) := by decide +kernel
theorem dX0_fill_7 : decode cX0_fill 7 = .ok (.iload_n 1, 1) := by decide +kernel
theorem dX0_fill_8 : decode cX0_fill 8 = .ok (.ifCond .lt 29, 3) := by decide +kernel
theorem dX0_fill_11 : decode cX0_fill 11 = .ok (.iload_n 1, 1) := by decide +kernel
theorem dX0_fill_12 : decode cX0_fill 12 = .ok (.iconst 2, 1) := by decide +kernel
theorem dX0_fill_13 : decode cX0_fill 13 = .ok (.if_icmp .gt 24, 3) := by decide +kernel
theorem dX0_fill_16 : decode cX0_fill 16 = .ok (.iload_n 2, 1) := by decide +kernel
theorem dX0_fill_17 : decode cX0_fill 17 = .ok (.iconst 1, 1) := by decide +kernel
theorem dX0_fill_18 : decode cX0_fill 18 = .ok (.if_icmp .lt 19, 3) := by decide +kernel
theorem dX0_fill_21 : decode cX0_fill 21 = .ok (.iload_n 2, 1) := by decide +kernel
theorem dX0_fill_22 : decode cX0_fill 22 = .ok (.bipush 84, 2) := by decide +kernel
theorem dX0_fill_24 : decode cX0_fill 24 = .ok (.if_icmp .gt 13, 3) := by decide +kernel
theorem dX0_fill_27 : decode cX0_fill 27 = .ok (.iload_n 3, 1) := by decide +kernel
theorem dX0_fill_28 : decode cX0_fill 28 = .ok (.iconst 1, 1) := by decide +kernel
theorem dX0_fill_29 : decode cX0_fill 29 = .ok (.if_icmp .lt 8, 3) := by decide +kernel
theorem dX0_fill_32 : decode cX0_fill 32 = .ok (.iload_n 3, 1) := by decide +kernel
theorem dX0_fill_33 : decode cX0_fill 33 = .ok (.iconst 4, 1) := by decide +kernel
theorem dX0_fill_34 : decode cX0_fill 34 = .ok (.if_icmp .le 5, 3) := by decide +kernel
theorem dX0_fill_37 : decode cX0_fill 37 = .ok (.iconst (-1), 1) := by decide +kernel
theorem dX0_fill_38 : decode cX0_fill 38 = .ok (.ireturn, 1) := by decide +kernel
theorem dX0_fill_39 : decode cX0_fill 39 = .ok (.aload_n 0, 1) := by decide +kernel
theorem dX0_fill_40 : decode cX0_fill 40 = .ok (.getfield 7, 3) := by decide +kernel
theorem dX0_fill_43 : decode cX0_fill 43 = .ok (.bipush 85, 2) := by decide +kernel
theorem dX0_fill_45 : decode cX0_fill 45 = .ok (.iload_n 1, 1) := by decide +kernel
theorem dX0_fill_46 : decode cX0_fill 46 = .ok (.imul, 1) := by decide +kernel
theorem dX0_fill_47 : decode cX0_fill 47 = .ok (.iload_n 2, 1) := by decide +kernel
theorem dX0_fill_48 : decode cX0_fill 48 = .ok (.invokestatic 29, 3) := by decide +kernel
theorem dX0_fill_51 : decode cX0_fill 51 = .ok (.iadd, 1) := by decide +kernel
theorem dX0_fill_52 : decode cX0_fill 52 = .ok (.iaload, 1) := by decide +kernel
theorem dX0_fill_53 : decode cX0_fill 53 = .ok (.istore 5, 2) := by decide +kernel
theorem dX0_fill_55 : decode cX0_fill 55 = .ok (.aload_n 0, 1) := by decide +kernel
theorem dX0_fill_56 : decode cX0_fill 56 = .ok (.getfield 7, 3) := by decide +kernel
theorem dX0_fill_59 : decode cX0_fill 59 = .ok (.bipush 85, 2) := by decide +kernel
theorem dX0_fill_61 : decode cX0_fill 61 = .ok (.iload_n 1, 1) := by decide +kernel
theorem dX0_fill_62 : decode cX0_fill 62 = .ok (.imul, 1) := by decide +kernel
theorem dX0_fill_63 : decode cX0_fill 63 = .ok (.iload_n 2, 1) := by decide +kernel
theorem dX0_fill_64 : decode cX0_fill 64 = .ok (.iadd, 1) := by decide +kernel
theorem dX0_fill_65 : decode cX0_fill 65 = .ok (.iaload, 1) := by decide +kernel
theorem dX0_fill_66 : decode cX0_fill 66 = .ok (.ifCond .ne 15, 3) := by decide +kernel
theorem dX0_fill_69 : decode cX0_fill 69 = .ok (.iload 5, 2) := by decide +kernel
theorem dX0_fill_71 : decode cX0_fill 71 = .ok (.iconst 2, 1) := by decide +kernel
theorem dX0_fill_72 : decode cX0_fill 72 = .ok (.if_icmp .eq 11, 3) := by decide +kernel
theorem dX0_fill_75 : decode cX0_fill 75 = .ok (.iload 5, 2) := by decide +kernel
theorem dX0_fill_77 : decode cX0_fill 77 = .ok (.iconst 3, 1) := by decide +kernel
theorem dX0_fill_78 : decode cX0_fill 78 = .ok (.if_icmp .eq 5, 3) := by decide +kernel
theorem dX0_fill_81 : decode cX0_fill 81 = .ok (.iconst (-1), 1) := by decide +kernel
theorem dX0_fill_82 : decode cX0_fill 82 = .ok (.ireturn, 1) := by decide +kernel
theorem dX0_fill_83 : decode cX0_fill 83 = .ok (.aload_n 0, 1) := by decide +kernel
theorem dX0_fill_84 : decode cX0_fill 84 = .ok (.getfield 7, 3) := by decide +kernel
theorem dX0_fill_87 : decode cX0_fill 87 = .ok (.bipush 85, 2) := by decide +kernel
theorem dX0_fill_89 : decode cX0_fill 89 = .ok (.iload_n 1, 1) := by decide +kernel
theorem dX0_fill_90 : decode cX0_fill 90 = .ok (.imul, 1) := by decide +kernel
theorem dX0_fill_91 : decode cX0_fill 91 = .ok (.iload_n 2, 1) := by decide +kernel
theorem dX0_fill_92 : decode cX0_fill 92 = .ok (.iadd, 1) := by decide +kernel
theorem dX0_fill_93 : decode cX0_fill 93 = .ok (.iload_n 3, 1) := by decide +kernel
theorem dX0_fill_94 : decode cX0_fill 94 = .ok (.iastore, 1) := by decide +kernel
theorem dX0_fill_95 : decode cX0_fill 95 = .ok (.aload_n 0, 1) := by decide +kernel
theorem dX0_fill_96 : decode cX0_fill 96 = .ok (.getfield 13, 3) := by decide +kernel
theorem dX0_fill_99 : decode cX0_fill 99 = .ok (.bipush 85, 2) := by decide +kernel
theorem dX0_fill_101 : decode cX0_fill 101 = .ok (.iload_n 1, 1) := by decide +kernel
theorem dX0_fill_102 : decode cX0_fill 102 = .ok (.imul, 1) := by decide +kernel
theorem dX0_fill_103 : decode cX0_fill 103 = .ok (.iload_n 2, 1) := by decide +kernel
theorem dX0_fill_104 : decode cX0_fill 104 = .ok (.iadd, 1) := by decide +kernel
theorem dX0_fill_105 : decode cX0_fill 105 = .ok (.iload_n 3, 1) := by decide +kernel
theorem dX0_fill_106 : decode cX0_fill 106 = .ok (.iconst 1, 1) := by decide +kernel
theorem dX0_fill_107 : decode cX0_fill 107 = .ok (.if_icmp .ne 8, 3) := by decide +kernel
theorem dX0_fill_110 : decode cX0_fill 110 = .ok (.iload 4, 2) := by decide +kernel
theorem dX0_fill_112 : decode cX0_fill 112 = .ok (.goto 4, 3) := by decide +kernel
theorem dX0_fill_115 : decode cX0_fill 115 = .ok (.iconst 0, 1) := by decide +kernel
theorem dX0_fill_116 : decode cX0_fill 116 = .ok (.iastore, 1) := by decide +kernel
theorem dX0_fill_117 : decode cX0_fill 117 = .ok (.iconst 0, 1) := by decide +kernel
theorem dX0_fill_118 : decode cX0_fill 118 = .ok (.ireturn, 1) := by decide +kernel
theorem dX0_parentOf_0 : decode cX0_parentOf 0 = .ok (.iload_n 0, 1) := by decide +kernel
theorem dX0_parentOf_1 : decode cX0_parentOf 1 = .ok (.iconst 1, 1) := by decide +kernel
theorem dX0_parentOf_2 : decode cX0_parentOf 2 = .ok (.isub, 1) := by decide +kernel
theorem dX0_parentOf_3 : decode cX0_parentOf 3 = .ok (.iconst 4, 1) := by decide +kernel
theorem dX0_parentOf_4 : decode cX0_parentOf 4 = .ok (.idiv, 1) := by decide +kernel
theorem dX0_parentOf_5 : decode cX0_parentOf 5 = .ok (.ireturn, 1) := by decide +kernel
theorem dX0_mount_0 : decode cX0_mount 0 = .ok (.aload_n 0, 1) := by decide +kernel
theorem dX0_mount_1 : decode cX0_mount 1 = .ok (.getfield 25, 3) := by decide +kernel
theorem dX0_mount_4 : decode cX0_mount 4 = .ok (.ifCond .eq 5, 3) := by decide +kernel
theorem dX0_mount_7 : decode cX0_mount 7 = .ok (.iconst (-1), 1) := by decide +kernel
theorem dX0_mount_8 : decode cX0_mount 8 = .ok (.ireturn, 1) := by decide +kernel
theorem dX0_mount_9 : decode cX0_mount 9 = .ok (.aload_n 0, 1) := by decide +kernel
theorem dX0_mount_10 : decode cX0_mount 10 = .ok (.iconst 1, 1) := by decide +kernel
theorem dX0_mount_11 : decode cX0_mount 11 = .ok (.putfield 25, 3) := by decide +kernel
theorem dX0_mount_14 : decode cX0_mount 14 = .ok (.aload_n 0, 1) := by decide +kernel
theorem dX0_mount_15 : decode cX0_mount 15 = .ok (.invokevirtual 33, 3) := by decide +kernel
theorem dX0_mount_18 : decode cX0_mount 18 = .ok (.ireturn, 1) := by decide +kernel
theorem dX0_total_0 : decode cX0_total 0 = .ok (.iconst 0, 1) := by decide +kernel
theorem dX0_total_1 : decode cX0_total 1 = .ok (.istore_n 1, 1) := by decide +kernel
theorem dX0_total_2 : decode cX0_total 2 = .ok (.iconst 1, 1) := by decide +kernel
theorem dX0_total_3 : decode cX0_total 3 = .ok (.istore_n 2, 1) := by decide +kernel
theorem dX0_total_4 : decode cX0_total 4 = .ok (.iload_n 2, 1) := by decide +kernel
theorem dX0_total_5 : decode cX0_total 5 = .ok (.bipush 85, 2) := by decide +kernel
theorem dX0_total_7 : decode cX0_total 7 = .ok (.if_icmp .ge 25, 3) := by decide +kernel
theorem dX0_total_10 : decode cX0_total 10 = .ok (.iload_n 1, 1) := by decide +kernel
theorem dX0_total_11 : decode cX0_total 11 = .ok (.aload_n 0, 1) := by decide +kernel
theorem dX0_total_12 : decode cX0_total 12 = .ok (.iload_n 2, 1) := by decide +kernel
theorem dX0_total_13 : decode cX0_total 13 = .ok (.invokevirtual 49, 3) := by decide +kernel
theorem dX0_total_16 : decode cX0_total 16 = .ok (.ifCond .le 7, 3) := by decide +kernel
theorem dX0_total_19 : decode cX0_total 19 = .ok (.iconst 1, 1) := by decide +kernel
theorem dX0_total_20 : decode cX0_total 20 = .ok (.goto 4, 3) := by decide +kernel
theorem dX0_total_23 : decode cX0_total 23 = .ok (.iconst 0, 1) := by decide +kernel
theorem dX0_total_24 : decode cX0_total 24 = .ok (.iadd, 1) := by decide +kernel
theorem dX0_total_25 : decode cX0_total 25 = .ok (.istore_n 1, 1) := by decide +kernel
theorem dX0_total_26 : decode cX0_total 26 = .ok (.iinc 2 1, 3) := by decide +kernel
theorem dX0_total_29 : decode cX0_total 29 = .ok (.goto (-25), 3) := by decide +kernel
theorem dX0_total_32 : decode cX0_total 32 = .ok (.iload_n 1, 1) := by decide +kernel
theorem dX0_total_33 : decode cX0_total 33 = .ok (.ireturn, 1) := by decide +kernel
theorem dX0_sort_0 : decode cX0_sort 0 = .ok (.iload_n 1, 1) := by decide +kernel
theorem dX0_sort_1 : decode cX0_sort 1 = .ok (.ifCond .lt 9, 3) := by decide +kernel
theorem dX0_sort_4 : decode cX0_sort 4 = .ok (.iload_n 1, 1) := by decide +kernel
theorem dX0_sort_5 : decode cX0_sort 5 = .ok (.bipush 84, 2) := by decide +kernel
theorem dX0_sort_7 : decode cX0_sort 7 = .ok (.if_icmp .le 5, 3) := by decide +kernel
theorem dX0_sort_10 : decode cX0_sort 10 = .ok (.iconst (-1), 1) := by decide +kernel
theorem dX0_sort_11 : decode cX0_sort 11 = .ok (.ireturn, 1) := by decide +kernel
theorem dX0_sort_12 : decode cX0_sort 12 = .ok (.aload_n 0, 1) := by decide +kernel
theorem dX0_sort_13 : decode cX0_sort 13 = .ok (.getfield 25, 3) := by decide +kernel
theorem dX0_sort_16 : decode cX0_sort 16 = .ok (.ifCond .ne 5, 3) := by decide +kernel
theorem dX0_sort_19 : decode cX0_sort 19 = .ok (.iconst 0, 1) := by decide +kernel
theorem dX0_sort_20 : decode cX0_sort 20 = .ok (.ireturn, 1) := by decide +kernel
theorem dX0_sort_21 : decode cX0_sort 21 = .ok (.aload_n 0, 1) := by decide +kernel
theorem dX0_sort_22 : decode cX0_sort 22 = .ok (.iload_n 1, 1) := by decide +kernel
theorem dX0_sort_23 : decode cX0_sort 23 = .ok (.invokevirtual 73, 3) := by decide +kernel
theorem dX0_sort_26 : decode cX0_sort 26 = .ok (.aload_n 0, 1) := by decide +kernel
theorem dX0_sort_27 : decode cX0_sort 27 = .ok (.getfield 76, 3) := by decide +kernel
theorem dX0_sort_30 : decode cX0_sort 30 = .ok (.ifCond .ge 5, 3) := by decide +kernel
theorem dX0_sort_33 : decode cX0_sort 33 = .ok (.iconst 0, 1) := by decide +kernel
theorem dX0_sort_34 : decode cX0_sort 34 = .ok (.ireturn, 1) := by decide +kernel
theorem dX0_sort_35 : decode cX0_sort 35 = .ok (.aload_n 0, 1) := by decide +kernel
theorem dX0_sort_36 : decode cX0_sort 36 = .ok (.getfield 7, 3) := by decide +kernel
theorem dX0_sort_39 : decode cX0_sort 39 = .ok (.bipush 85, 2) := by decide +kernel
theorem dX0_sort_41 : decode cX0_sort 41 = .ok (.aload_n 0, 1) := by decide +kernel
theorem dX0_sort_42 : decode cX0_sort 42 = .ok (.getfield 76, 3) := by decide +kernel
theorem dX0_sort_45 : decode cX0_sort 45 = .ok (.imul, 1) := by decide +kernel
theorem dX0_sort_46 : decode cX0_sort 46 = .ok (.iload_n 1, 1) := by decide +kernel
theorem dX0_sort_47 : decode cX0_sort 47 = .ok (.iadd, 1) := by decide +kernel
theorem dX0_sort_48 : decode cX0_sort 48 = .ok (.iaload, 1) := by decide +kernel
theorem dX0_sort_49 : decode cX0_sort 49 = .ok (.iconst 1, 1) := by decide +kernel
theorem dX0_sort_50 : decode cX0_sort 50 = .ok (.if_icmp .ne 7, 3) := by decide +kernel
theorem dX0_sort_53 : decode cX0_sort 53 = .ok (.iconst 1, 1) := by decide +kernel
theorem dX0_sort_54 : decode cX0_sort 54 = .ok (.goto 4, 3) := by decide +kernel
theorem dX0_sort_57 : decode cX0_sort 57 = .ok (.iconst 2, 1) := by decide +kernel
theorem dX0_sort_58 : decode cX0_sort 58 = .ok (.ireturn, 1) := by decide +kernel
theorem dX0_look_0 : decode cX0_look 0 = .ok (.iconst 0, 1) := by decide +kernel
theorem dX0_look_1 : decode cX0_look 1 = .ok (.istore_n 2, 1) := by decide +kernel
theorem dX0_look_2 : decode cX0_look 2 = .ok (.iload_n 1, 1) := by decide +kernel
theorem dX0_look_3 : decode cX0_look 3 = .ok (.istore_n 3, 1) := by decide +kernel
theorem dX0_look_4 : decode cX0_look 4 = .ok (.iload_n 3, 1) := by decide +kernel
theorem dX0_look_5 : decode cX0_look 5 = .ok (.ifCond .le 27, 3) := by decide +kernel
theorem dX0_look_8 : decode cX0_look 8 = .ok (.iload_n 2, 1) := by decide +kernel
theorem dX0_look_9 : decode cX0_look 9 = .ok (.iconst 4, 1) := by decide +kernel
theorem dX0_look_10 : decode cX0_look 10 = .ok (.if_icmp .ge 22, 3) := by decide +kernel
theorem dX0_look_13 : decode cX0_look 13 = .ok (.aload_n 0, 1) := by decide +kernel
theorem dX0_look_14 : decode cX0_look 14 = .ok (.getfield 16, 3) := by decide +kernel
theorem dX0_look_17 : decode cX0_look 17 = .ok (.iload_n 2, 1) := by decide +kernel
theorem dX0_look_18 : decode cX0_look 18 = .ok (.iload_n 3, 1) := by decide +kernel
theorem dX0_look_19 : decode cX0_look 19 = .ok (.iastore, 1) := by decide +kernel
theorem dX0_look_20 : decode cX0_look 20 = .ok (.iinc 2 1, 3) := by decide +kernel
theorem dX0_look_23 : decode cX0_look 23 = .ok (.iload_n 3, 1) := by decide +kernel
theorem dX0_look_24 : decode cX0_look 24 = .ok (.iconst 1, 1) := by decide +kernel
theorem dX0_look_25 : decode cX0_look 25 = .ok (.isub, 1) := by decide +kernel
theorem dX0_look_26 : decode cX0_look 26 = .ok (.iconst 4, 1) := by decide +kernel
theorem dX0_look_27 : decode cX0_look 27 = .ok (.idiv, 1) := by decide +kernel
theorem dX0_look_28 : decode cX0_look 28 = .ok (.istore_n 3, 1) := by decide +kernel
theorem dX0_look_29 : decode cX0_look 29 = .ok (.goto (-25), 3) := by decide +kernel
theorem dX0_look_32 : decode cX0_look 32 = .ok (.aload_n 0, 1) := by decide +kernel
theorem dX0_look_33 : decode cX0_look 33 = .ok (.iconst 4, 1) := by decide +kernel
theorem dX0_look_34 : decode cX0_look 34 = .ok (.putfield 76, 3) := by decide +kernel
theorem dX0_look_37 : decode cX0_look 37 = .ok (.aload_n 0, 1) := by decide +kernel
theorem dX0_look_38 : decode cX0_look 38 = .ok (.iconst 0, 1) := by decide +kernel
theorem dX0_look_39 : decode cX0_look 39 = .ok (.putfield 80, 3) := by decide +kernel
theorem dX0_look_42 : decode cX0_look 42 = .ok (.iload_n 2, 1) := by decide +kernel
theorem dX0_look_43 : decode cX0_look 43 = .ok (.iconst 1, 1) := by decide +kernel
theorem dX0_look_44 : decode cX0_look 44 = .ok (.isub, 1) := by decide +kernel
theorem dX0_look_45 : decode cX0_look 45 = .ok (.istore_n 3, 1) := by decide +kernel
theorem dX0_look_46 : decode cX0_look 46 = .ok (.iload_n 3, 1) := by decide +kernel
theorem dX0_look_47 : decode cX0_look 47 = .ok (.ifCond .lt 82, 3) := by decide +kernel
theorem dX0_look_50 : decode cX0_look 50 = .ok (.aload_n 0, 1) := by decide +kernel
theorem dX0_look_51 : decode cX0_look 51 = .ok (.getfield 76, 3) := by decide +kernel
theorem dX0_look_54 : decode cX0_look 54 = .ok (.ifCond .lt 75, 3) := by decide +kernel
theorem dX0_look_57 : decode cX0_look 57 = .ok (.aload_n 0, 1) := by decide +kernel
theorem dX0_look_58 : decode cX0_look 58 = .ok (.aload_n 0, 1) := by decide +kernel
theorem dX0_look_59 : decode cX0_look 59 = .ok (.getfield 16, 3) := by decide +kernel
theorem dX0_look_62 : decode cX0_look 62 = .ok (.iload_n 3, 1) := by decide +kernel
theorem dX0_look_63 : decode cX0_look 63 = .ok (.iaload, 1) := by decide +kernel
theorem dX0_look_64 : decode cX0_look 64 = .ok (.invokevirtual 83, 3) := by decide +kernel
theorem dX0_look_67 : decode cX0_look 67 = .ok (.aload_n 0, 1) := by decide +kernel
theorem dX0_look_68 : decode cX0_look 68 = .ok (.getfield 76, 3) := by decide +kernel
theorem dX0_look_71 : decode cX0_look 71 = .ok (.ifCond .lt 52, 3) := by decide +kernel
theorem dX0_look_74 : decode cX0_look 74 = .ok (.iload_n 3, 1) := by decide +kernel
theorem dX0_look_75 : decode cX0_look 75 = .ok (.ifCond .le 48, 3) := by decide +kernel
theorem dX0_look_78 : decode cX0_look 78 = .ok (.aload_n 0, 1) := by decide +kernel
theorem dX0_look_79 : decode cX0_look 79 = .ok (.aload_n 0, 1) := by decide +kernel
theorem dX0_look_80 : decode cX0_look 80 = .ok (.getfield 7, 3) := by decide +kernel
theorem dX0_look_83 : decode cX0_look 83 = .ok (.bipush 85, 2) := by decide +kernel
theorem dX0_look_85 : decode cX0_look 85 = .ok (.aload_n 0, 1) := by decide +kernel
theorem dX0_look_86 : decode cX0_look 86 = .ok (.getfield 76, 3) := by decide +kernel
theorem dX0_look_89 : decode cX0_look 89 = .ok (.imul, 1) := by decide +kernel
theorem dX0_look_90 : decode cX0_look 90 = .ok (.aload_n 0, 1) := by decide +kernel
theorem dX0_look_91 : decode cX0_look 91 = .ok (.getfield 16, 3) := by decide +kernel
theorem dX0_look_94 : decode cX0_look 94 = .ok (.iload_n 3, 1) := by decide +kernel
theorem dX0_look_95 : decode cX0_look 95 = .ok (.iaload, 1) := by decide +kernel
theorem dX0_look_96 : decode cX0_look 96 = .ok (.iadd, 1) := by decide +kernel
theorem dX0_look_97 : decode cX0_look 97 = .ok (.iaload, 1) := by decide +kernel
theorem dX0_look_98 : decode cX0_look 98 = .ok (.iconst 1, 1) := by decide +kernel
theorem dX0_look_99 : decode cX0_look 99 = .ok (.if_icmp .ne 7, 3) := by decide +kernel
theorem dX0_look_102 : decode cX0_look 102 = .ok (.iconst (-1), 1) := by decide +kernel
theorem dX0_look_103 : decode cX0_look 103 = .ok (.goto 7, 3) := by decide +kernel
theorem dX0_look_106 : decode cX0_look 106 = .ok (.aload_n 0, 1) := by decide +kernel
theorem dX0_look_107 : decode cX0_look 107 = .ok (.getfield 76, 3) := by decide +kernel
theorem dX0_look_110 : decode cX0_look 110 = .ok (.putfield 76, 3) := by decide +kernel
theorem dX0_look_113 : decode cX0_look 113 = .ok (.aload_n 0, 1) := by decide +kernel
theorem dX0_look_114 : decode cX0_look 114 = .ok (.aload_n 0, 1) := by decide +kernel
theorem dX0_look_115 : decode cX0_look 115 = .ok (.getfield 16, 3) := by decide +kernel
theorem dX0_look_118 : decode cX0_look 118 = .ok (.iload_n 3, 1) := by decide +kernel
theorem dX0_look_119 : decode cX0_look 119 = .ok (.iaload, 1) := by decide +kernel
theorem dX0_look_120 : decode cX0_look 120 = .ok (.invokevirtual 86, 3) := by decide +kernel
theorem dX0_look_123 : decode cX0_look 123 = .ok (.iinc 3 (-1), 3) := by decide +kernel
theorem dX0_look_126 : decode cX0_look 126 = .ok (.goto (-80), 3) := by decide +kernel
theorem dX0_look_129 : decode cX0_look 129 = .ok (.return_, 1) := by decide +kernel
theorem dX0_settle_0 : decode cX0_settle 0 = .ok (.aload_n 0, 1) := by decide +kernel
theorem dX0_settle_1 : decode cX0_settle 1 = .ok (.iconst (-1), 1) := by decide +kernel
theorem dX0_settle_2 : decode cX0_settle 2 = .ok (.putfield 76, 3) := by decide +kernel
theorem dX0_settle_5 : decode cX0_settle 5 = .ok (.iconst 4, 1) := by decide +kernel
theorem dX0_settle_6 : decode cX0_settle 6 = .ok (.istore_n 2, 1) := by decide +kernel
theorem dX0_settle_7 : decode cX0_settle 7 = .ok (.iload_n 2, 1) := by decide +kernel
theorem dX0_settle_8 : decode cX0_settle 8 = .ok (.aload_n 0, 1) := by decide +kernel
theorem dX0_settle_9 : decode cX0_settle 9 = .ok (.getfield 80, 3) := by decide +kernel
theorem dX0_settle_12 : decode cX0_settle 12 = .ok (.if_icmp .lt 39, 3) := by decide +kernel
theorem dX0_settle_15 : decode cX0_settle 15 = .ok (.aload_n 0, 1) := by decide +kernel
theorem dX0_settle_16 : decode cX0_settle 16 = .ok (.getfield 76, 3) := by decide +kernel
theorem dX0_settle_19 : decode cX0_settle 19 = .ok (.ifCond .ge 32, 3) := by decide +kernel
theorem dX0_settle_22 : decode cX0_settle 22 = .ok (.aload_n 0, 1) := by decide +kernel
theorem dX0_settle_23 : decode cX0_settle 23 = .ok (.aload_n 0, 1) := by decide +kernel
theorem dX0_settle_24 : decode cX0_settle 24 = .ok (.getfield 7, 3) := by decide +kernel
theorem dX0_settle_27 : decode cX0_settle 27 = .ok (.bipush 85, 2) := by decide +kernel
theorem dX0_settle_29 : decode cX0_settle 29 = .ok (.iload_n 2, 1) := by decide +kernel
theorem dX0_settle_30 : decode cX0_settle 30 = .ok (.imul, 1) := by decide +kernel
theorem dX0_settle_31 : decode cX0_settle 31 = .ok (.iload_n 1, 1) := by decide +kernel
theorem dX0_settle_32 : decode cX0_settle 32 = .ok (.iadd, 1) := by decide +kernel
theorem dX0_settle_33 : decode cX0_settle 33 = .ok (.iaload, 1) := by decide +kernel
theorem dX0_settle_34 : decode cX0_settle 34 = .ok (.ifCond .eq 7, 3) := by decide +kernel
theorem dX0_settle_37 : decode cX0_settle 37 = .ok (.iload_n 2, 1) := by decide +kernel
theorem dX0_settle_38 : decode cX0_settle 38 = .ok (.goto 4, 3) := by decide +kernel
theorem dX0_settle_41 : decode cX0_settle 41 = .ok (.iconst (-1), 1) := by decide +kernel
theorem dX0_settle_42 : decode cX0_settle 42 = .ok (.putfield 76, 3) := by decide +kernel
theorem dX0_settle_45 : decode cX0_settle 45 = .ok (.iinc 2 (-1), 3) := by decide +kernel
theorem dX0_settle_48 : decode cX0_settle 48 = .ok (.goto (-41), 3) := by decide +kernel
theorem dX0_settle_51 : decode cX0_settle 51 = .ok (.aload_n 0, 1) := by decide +kernel
theorem dX0_settle_52 : decode cX0_settle 52 = .ok (.getfield 76, 3) := by decide +kernel
theorem dX0_settle_55 : decode cX0_settle 55 = .ok (.ifCond .lt 26, 3) := by decide +kernel
theorem dX0_settle_58 : decode cX0_settle 58 = .ok (.aload_n 0, 1) := by decide +kernel
theorem dX0_settle_59 : decode cX0_settle 59 = .ok (.getfield 7, 3) := by decide +kernel
theorem dX0_settle_62 : decode cX0_settle 62 = .ok (.bipush 85, 2) := by decide +kernel
theorem dX0_settle_64 : decode cX0_settle 64 = .ok (.aload_n 0, 1) := by decide +kernel
theorem dX0_settle_65 : decode cX0_settle 65 = .ok (.getfield 76, 3) := by decide +kernel
theorem dX0_settle_68 : decode cX0_settle 68 = .ok (.imul, 1) := by decide +kernel
theorem dX0_settle_69 : decode cX0_settle 69 = .ok (.iload_n 1, 1) := by decide +kernel
theorem dX0_settle_70 : decode cX0_settle 70 = .ok (.iadd, 1) := by decide +kernel
end
section
set_option maxRecDepth 100000
theorem dX0_settle_71 : decode cX0_settle 71 = .ok (.iaload, 1) := by decide +kernel
theorem dX0_settle_72 : decode cX0_settle 72 = .ok (.iconst 4, 1) := by decide +kernel
theorem dX0_settle_73 : decode cX0_settle 73 = .ok (.if_icmp .ne 8, 3) := by decide +kernel
theorem dX0_settle_76 : decode cX0_settle 76 = .ok (.aload_n 0, 1) := by decide +kernel
theorem dX0_settle_77 : decode cX0_settle 77 = .ok (.iconst (-1), 1) := by decide +kernel
theorem dX0_settle_78 : decode cX0_settle 78 = .ok (.putfield 76, 3) := by decide +kernel
theorem dX0_settle_81 : decode cX0_settle 81 = .ok (.return_, 1) := by decide +kernel
theorem dX0_raiseFloor_0 : decode cX0_raiseFloor 0 = .ok (.iconst 4, 1) := by decide +kernel
theorem dX0_raiseFloor_1 : decode cX0_raiseFloor 1 = .ok (.istore_n 2, 1) := by decide +kernel
theorem dX0_raiseFloor_2 : decode cX0_raiseFloor 2 = .ok (.iload_n 2, 1) := by decide +kernel
theorem dX0_raiseFloor_3 : decode cX0_raiseFloor 3 = .ok (.aload_n 0, 1) := by decide +kernel
theorem dX0_raiseFloor_4 : decode cX0_raiseFloor 4 = .ok (.getfield 80, 3) := by decide +kernel
theorem dX0_raiseFloor_7 : decode cX0_raiseFloor 7 = .ok (.if_icmp .lt 51, 3) := by decide +kernel
theorem dX0_raiseFloor_10 : decode cX0_raiseFloor 10 = .ok (.aload_n 0, 1) := by decide +kernel
theorem dX0_raiseFloor_11 : decode cX0_raiseFloor 11 = .ok (.getfield 7, 3) := by decide +kernel
theorem dX0_raiseFloor_14 : decode cX0_raiseFloor 14 = .ok (.bipush 85, 2) := by decide +kernel
theorem dX0_raiseFloor_16 : decode cX0_raiseFloor 16 = .ok (.iload_n 2, 1) := by decide +kernel
theorem dX0_raiseFloor_17 : decode cX0_raiseFloor 17 = .ok (.imul, 1) := by decide +kernel
theorem dX0_raiseFloor_18 : decode cX0_raiseFloor 18 = .ok (.iload_n 1, 1) := by decide +kernel
theorem dX0_raiseFloor_19 : decode cX0_raiseFloor 19 = .ok (.iadd, 1) := by decide +kernel
theorem dX0_raiseFloor_20 : decode cX0_raiseFloor 20 = .ok (.iaload, 1) := by decide +kernel
theorem dX0_raiseFloor_21 : decode cX0_raiseFloor 21 = .ok (.istore_n 3, 1) := by decide +kernel
theorem dX0_raiseFloor_22 : decode cX0_raiseFloor 22 = .ok (.iload_n 3, 1) := by decide +kernel
theorem dX0_raiseFloor_23 : decode cX0_raiseFloor 23 = .ok (.iconst 3, 1) := by decide +kernel
theorem dX0_raiseFloor_24 : decode cX0_raiseFloor 24 = .ok (.if_icmp .ne 11, 3) := by decide +kernel
theorem dX0_raiseFloor_27 : decode cX0_raiseFloor 27 = .ok (.aload_n 0, 1) := by decide +kernel
theorem dX0_raiseFloor_28 : decode cX0_raiseFloor 28 = .ok (.iload_n 2, 1) := by decide +kernel
theorem dX0_raiseFloor_29 : decode cX0_raiseFloor 29 = .ok (.putfield 80, 3) := by decide +kernel
theorem dX0_raiseFloor_32 : decode cX0_raiseFloor 32 = .ok (.goto 20, 3) := by decide +kernel
theorem dX0_raiseFloor_35 : decode cX0_raiseFloor 35 = .ok (.iload_n 3, 1) := by decide +kernel
theorem dX0_raiseFloor_36 : decode cX0_raiseFloor 36 = .ok (.iconst 1, 1) := by decide +kernel
theorem dX0_raiseFloor_37 : decode cX0_raiseFloor 37 = .ok (.if_icmp .eq 8, 3) := by decide +kernel
theorem dX0_raiseFloor_40 : decode cX0_raiseFloor 40 = .ok (.iload_n 3, 1) := by decide +kernel
theorem dX0_raiseFloor_41 : decode cX0_raiseFloor 41 = .ok (.iconst 4, 1) := by decide +kernel
theorem dX0_raiseFloor_42 : decode cX0_raiseFloor 42 = .ok (.if_icmp .ne 10, 3) := by decide +kernel
theorem dX0_raiseFloor_45 : decode cX0_raiseFloor 45 = .ok (.aload_n 0, 1) := by decide +kernel
theorem dX0_raiseFloor_46 : decode cX0_raiseFloor 46 = .ok (.iload_n 2, 1) := by decide +kernel
theorem dX0_raiseFloor_47 : decode cX0_raiseFloor 47 = .ok (.iconst 1, 1) := by decide +kernel
theorem dX0_raiseFloor_48 : decode cX0_raiseFloor 48 = .ok (.iadd, 1) := by decide +kernel
theorem dX0_raiseFloor_49 : decode cX0_raiseFloor 49 = .ok (.putfield 80, 3) := by decide +kernel
theorem dX0_raiseFloor_52 : decode cX0_raiseFloor 52 = .ok (.iinc 2 (-1), 3) := by decide +kernel
theorem dX0_raiseFloor_55 : decode cX0_raiseFloor 55 = .ok (.goto (-53), 3) := by decide +kernel
theorem dX0_raiseFloor_58 : decode cX0_raiseFloor 58 = .ok (.return_, 1) := by decide +kernel
theorem dX0_make_0 : decode cX0_make 0 = .ok (.aload_n 0, 1) := by decide +kernel
theorem dX0_make_1 : decode cX0_make 1 = .ok (.iload_n 1, 1) := by decide +kernel
theorem dX0_make_2 : decode cX0_make 2 = .ok (.invokevirtual 37, 3) := by decide +kernel
theorem dX0_make_5 : decode cX0_make 5 = .ok (.ifCond .ne 5, 3) := by decide +kernel
theorem dX0_make_8 : decode cX0_make 8 = .ok (.iconst (-1), 1) := by decide +kernel
theorem dX0_make_9 : decode cX0_make 9 = .ok (.ireturn, 1) := by decide +kernel
theorem dX0_make_10 : decode cX0_make 10 = .ok (.aload_n 0, 1) := by decide +kernel
theorem dX0_make_11 : decode cX0_make 11 = .ok (.iload_n 1, 1) := by decide +kernel
theorem dX0_make_12 : decode cX0_make 12 = .ok (.invokestatic 29, 3) := by decide +kernel
theorem dX0_make_15 : decode cX0_make 15 = .ok (.invokevirtual 41, 3) := by decide +kernel
theorem dX0_make_18 : decode cX0_make 18 = .ok (.aload_n 0, 1) := by decide +kernel
theorem dX0_make_19 : decode cX0_make 19 = .ok (.iload_n 1, 1) := by decide +kernel
theorem dX0_make_20 : decode cX0_make 20 = .ok (.iconst 1, 1) := by decide +kernel
theorem dX0_make_21 : decode cX0_make 21 = .ok (.iload_n 2, 1) := by decide +kernel
theorem dX0_make_22 : decode cX0_make 22 = .ok (.invokevirtual 45, 3) := by decide +kernel
theorem dX0_make_25 : decode cX0_make 25 = .ok (.iconst 0, 1) := by decide +kernel
theorem dX0_make_26 : decode cX0_make 26 = .ok (.ireturn, 1) := by decide +kernel
theorem dX0_isRoom_0 : decode cX0_isRoom 0 = .ok (.aload_n 0, 1) := by decide +kernel
theorem dX0_isRoom_1 : decode cX0_isRoom 1 = .ok (.getfield 25, 3) := by decide +kernel
theorem dX0_isRoom_4 : decode cX0_isRoom 4 = .ok (.ifCond .eq 38, 3) := by decide +kernel
theorem dX0_isRoom_7 : decode cX0_isRoom 7 = .ok (.iload_n 1, 1) := by decide +kernel
theorem dX0_isRoom_8 : decode cX0_isRoom 8 = .ok (.iconst 1, 1) := by decide +kernel
theorem dX0_isRoom_9 : decode cX0_isRoom 9 = .ok (.if_icmp .lt 33, 3) := by decide +kernel
theorem dX0_isRoom_12 : decode cX0_isRoom 12 = .ok (.iload_n 1, 1) := by decide +kernel
theorem dX0_isRoom_13 : decode cX0_isRoom 13 = .ok (.bipush 84, 2) := by decide +kernel
theorem dX0_isRoom_15 : decode cX0_isRoom 15 = .ok (.if_icmp .gt 27, 3) := by decide +kernel
theorem dX0_isRoom_18 : decode cX0_isRoom 18 = .ok (.aload_n 0, 1) := by decide +kernel
theorem dX0_isRoom_19 : decode cX0_isRoom 19 = .ok (.iload_n 1, 1) := by decide +kernel
theorem dX0_isRoom_20 : decode cX0_isRoom 20 = .ok (.invokevirtual 49, 3) := by decide +kernel
theorem dX0_isRoom_23 : decode cX0_isRoom 23 = .ok (.ifCond .ne 19, 3) := by decide +kernel
theorem dX0_isRoom_26 : decode cX0_isRoom 26 = .ok (.aload_n 0, 1) := by decide +kernel
theorem dX0_isRoom_27 : decode cX0_isRoom 27 = .ok (.iload_n 1, 1) := by decide +kernel
theorem dX0_isRoom_28 : decode cX0_isRoom 28 = .ok (.invokestatic 29, 3) := by decide +kernel
theorem dX0_isRoom_31 : decode cX0_isRoom 31 = .ok (.invokevirtual 49, 3) := by decide +kernel
theorem dX0_isRoom_34 : decode cX0_isRoom 34 = .ok (.iconst 2, 1) := by decide +kernel
theorem dX0_isRoom_35 : decode cX0_isRoom 35 = .ok (.if_icmp .ne 7, 3) := by decide +kernel
theorem dX0_isRoom_38 : decode cX0_isRoom 38 = .ok (.iconst 1, 1) := by decide +kernel
theorem dX0_isRoom_39 : decode cX0_isRoom 39 = .ok (.goto 4, 3) := by decide +kernel
theorem dX0_isRoom_42 : decode cX0_isRoom 42 = .ok (.iconst 0, 1) := by decide +kernel
theorem dX0_isRoom_43 : decode cX0_isRoom 43 = .ok (.ireturn, 1) := by decide +kernel
theorem dX0_copyUpTo_0 : decode cX0_copyUpTo 0 = .ok (.iload_n 1, 1) := by decide +kernel
theorem dX0_copyUpTo_1 : decode cX0_copyUpTo 1 = .ok (.istore_n 2, 1) := by decide +kernel
theorem dX0_copyUpTo_2 : decode cX0_copyUpTo 2 = .ok (.iconst 0, 1) := by decide +kernel
theorem dX0_copyUpTo_3 : decode cX0_copyUpTo 3 = .ok (.istore_n 3, 1) := by decide +kernel
theorem dX0_copyUpTo_4 : decode cX0_copyUpTo 4 = .ok (.iload_n 3, 1) := by decide +kernel
theorem dX0_copyUpTo_5 : decode cX0_copyUpTo 5 = .ok (.iconst 3, 1) := by decide +kernel
theorem dX0_copyUpTo_6 : decode cX0_copyUpTo 6 = .ok (.if_icmp .ge 42, 3) := by decide +kernel
theorem dX0_copyUpTo_9 : decode cX0_copyUpTo 9 = .ok (.iload_n 2, 1) := by decide +kernel
theorem dX0_copyUpTo_10 : decode cX0_copyUpTo 10 = .ok (.ifCond .le 38, 3) := by decide +kernel
theorem dX0_copyUpTo_13 : decode cX0_copyUpTo 13 = .ok (.aload_n 0, 1) := by decide +kernel
theorem dX0_copyUpTo_14 : decode cX0_copyUpTo 14 = .ok (.getfield 7, 3) := by decide +kernel
theorem dX0_copyUpTo_17 : decode cX0_copyUpTo 17 = .ok (.sipush 340, 3) := by decide +kernel
theorem dX0_copyUpTo_20 : decode cX0_copyUpTo 20 = .ok (.iload_n 2, 1) := by decide +kernel
theorem dX0_copyUpTo_21 : decode cX0_copyUpTo 21 = .ok (.iadd, 1) := by decide +kernel
theorem dX0_copyUpTo_22 : decode cX0_copyUpTo 22 = .ok (.iaload, 1) := by decide +kernel
theorem dX0_copyUpTo_23 : decode cX0_copyUpTo 23 = .ok (.ifCond .ne 14, 3) := by decide +kernel
theorem dX0_copyUpTo_26 : decode cX0_copyUpTo 26 = .ok (.aload_n 0, 1) := by decide +kernel
theorem dX0_copyUpTo_27 : decode cX0_copyUpTo 27 = .ok (.getfield 7, 3) := by decide +kernel
theorem dX0_copyUpTo_30 : decode cX0_copyUpTo 30 = .ok (.sipush 340, 3) := by decide +kernel
theorem dX0_copyUpTo_33 : decode cX0_copyUpTo 33 = .ok (.iload_n 2, 1) := by decide +kernel
theorem dX0_copyUpTo_34 : decode cX0_copyUpTo 34 = .ok (.iadd, 1) := by decide +kernel
theorem dX0_copyUpTo_35 : decode cX0_copyUpTo 35 = .ok (.iconst 2, 1) := by decide +kernel
theorem dX0_copyUpTo_36 : decode cX0_copyUpTo 36 = .ok (.iastore, 1) := by decide +kernel
theorem dX0_copyUpTo_37 : decode cX0_copyUpTo 37 = .ok (.iload_n 2, 1) := by decide +kernel
theorem dX0_copyUpTo_38 : decode cX0_copyUpTo 38 = .ok (.invokestatic 29, 3) := by decide +kernel
theorem dX0_copyUpTo_41 : decode cX0_copyUpTo 41 = .ok (.istore_n 2, 1) := by decide +kernel
theorem dX0_copyUpTo_42 : decode cX0_copyUpTo 42 = .ok (.iinc 3 1, 3) := by decide +kernel
theorem dX0_copyUpTo_45 : decode cX0_copyUpTo 45 = .ok (.goto (-41), 3) := by decide +kernel
theorem dX0_copyUpTo_48 : decode cX0_copyUpTo 48 = .ok (.return_, 1) := by decide +kernel
theorem dX0_put_0 : decode cX0_put 0 = .ok (.aload_n 0, 1) := by decide +kernel
theorem dX0_put_1 : decode cX0_put 1 = .ok (.getfield 7, 3) := by decide +kernel
theorem dX0_put_4 : decode cX0_put 4 = .ok (.sipush 340, 3) := by decide +kernel
theorem dX0_put_7 : decode cX0_put 7 = .ok (.iload_n 1, 1) := by decide +kernel
theorem dX0_put_8 : decode cX0_put 8 = .ok (.iadd, 1) := by decide +kernel
theorem dX0_put_9 : decode cX0_put 9 = .ok (.iload_n 2, 1) := by decide +kernel
theorem dX0_put_10 : decode cX0_put 10 = .ok (.iastore, 1) := by decide +kernel
theorem dX0_put_11 : decode cX0_put 11 = .ok (.aload_n 0, 1) := by decide +kernel
theorem dX0_put_12 : decode cX0_put 12 = .ok (.getfield 13, 3) := by decide +kernel
theorem dX0_put_15 : decode cX0_put 15 = .ok (.sipush 340, 3) := by decide +kernel
theorem dX0_put_18 : decode cX0_put 18 = .ok (.iload_n 1, 1) := by decide +kernel
theorem dX0_put_19 : decode cX0_put 19 = .ok (.iadd, 1) := by decide +kernel
theorem dX0_put_20 : decode cX0_put 20 = .ok (.iload_n 3, 1) := by decide +kernel
theorem dX0_put_21 : decode cX0_put 21 = .ok (.iastore, 1) := by decide +kernel
theorem dX0_put_22 : decode cX0_put 22 = .ok (.return_, 1) := by decide +kernel
theorem dX0_makeDir_0 : decode cX0_makeDir 0 = .ok (.aload_n 0, 1) := by decide +kernel
theorem dX0_makeDir_1 : decode cX0_makeDir 1 = .ok (.iload_n 1, 1) := by decide +kernel
theorem dX0_makeDir_2 : decode cX0_makeDir 2 = .ok (.invokevirtual 37, 3) := by decide +kernel
theorem dX0_makeDir_5 : decode cX0_makeDir 5 = .ok (.ifCond .ne 5, 3) := by decide +kernel
theorem dX0_makeDir_8 : decode cX0_makeDir 8 = .ok (.iconst (-1), 1) := by decide +kernel
theorem dX0_makeDir_9 : decode cX0_makeDir 9 = .ok (.ireturn, 1) := by decide +kernel
theorem dX0_makeDir_10 : decode cX0_makeDir 10 = .ok (.aload_n 0, 1) := by decide +kernel
theorem dX0_makeDir_11 : decode cX0_makeDir 11 = .ok (.iload_n 1, 1) := by decide +kernel
theorem dX0_makeDir_12 : decode cX0_makeDir 12 = .ok (.invokestatic 29, 3) := by decide +kernel
theorem dX0_makeDir_15 : decode cX0_makeDir 15 = .ok (.invokevirtual 41, 3) := by decide +kernel
theorem dX0_makeDir_18 : decode cX0_makeDir 18 = .ok (.aload_n 0, 1) := by decide +kernel
theorem dX0_makeDir_19 : decode cX0_makeDir 19 = .ok (.iload_n 1, 1) := by decide +kernel
theorem dX0_makeDir_20 : decode cX0_makeDir 20 = .ok (.iconst 3, 1) := by decide +kernel
theorem dX0_makeDir_21 : decode cX0_makeDir 21 = .ok (.iconst 0, 1) := by decide +kernel
theorem dX0_makeDir_22 : decode cX0_makeDir 22 = .ok (.invokevirtual 45, 3) := by decide +kernel
theorem dX0_makeDir_25 : decode cX0_makeDir 25 = .ok (.iconst 0, 1) := by decide +kernel
theorem dX0_makeDir_26 : decode cX0_makeDir 26 = .ok (.ireturn, 1) := by decide +kernel
theorem dX0_write_0 : decode cX0_write 0 = .ok (.aload_n 0, 1) := by decide +kernel
theorem dX0_write_1 : decode cX0_write 1 = .ok (.iload_n 1, 1) := by decide +kernel
theorem dX0_write_2 : decode cX0_write 2 = .ok (.invokevirtual 49, 3) := by decide +kernel
theorem dX0_write_5 : decode cX0_write 5 = .ok (.iconst 1, 1) := by decide +kernel
theorem dX0_write_6 : decode cX0_write 6 = .ok (.if_icmp .eq 5, 3) := by decide +kernel
theorem dX0_write_9 : decode cX0_write 9 = .ok (.iconst (-1), 1) := by decide +kernel
theorem dX0_write_10 : decode cX0_write 10 = .ok (.ireturn, 1) := by decide +kernel
theorem dX0_write_11 : decode cX0_write 11 = .ok (.aload_n 0, 1) := by decide +kernel
theorem dX0_write_12 : decode cX0_write 12 = .ok (.iload_n 1, 1) := by decide +kernel
theorem dX0_write_13 : decode cX0_write 13 = .ok (.invokevirtual 52, 3) := by decide +kernel
theorem dX0_write_16 : decode cX0_write 16 = .ok (.istore_n 3, 1) := by decide +kernel
theorem dX0_write_17 : decode cX0_write 17 = .ok (.aload_n 0, 1) := by decide +kernel
theorem dX0_write_18 : decode cX0_write 18 = .ok (.iload_n 1, 1) := by decide +kernel
theorem dX0_write_19 : decode cX0_write 19 = .ok (.invokestatic 29, 3) := by decide +kernel
theorem dX0_write_22 : decode cX0_write 22 = .ok (.invokevirtual 41, 3) := by decide +kernel
theorem dX0_write_25 : decode cX0_write 25 = .ok (.aload_n 0, 1) := by decide +kernel
theorem dX0_write_26 : decode cX0_write 26 = .ok (.iload_n 1, 1) := by decide +kernel
theorem dX0_write_27 : decode cX0_write 27 = .ok (.iconst 1, 1) := by decide +kernel
theorem dX0_write_28 : decode cX0_write 28 = .ok (.iload_n 2, 1) := by decide +kernel
theorem dX0_write_29 : decode cX0_write 29 = .ok (.invokevirtual 45, 3) := by decide +kernel
theorem dX0_write_32 : decode cX0_write 32 = .ok (.iload_n 3, 1) := by decide +kernel
theorem dX0_write_33 : decode cX0_write 33 = .ok (.ireturn, 1) := by decide +kernel
theorem dX0_value_0 : decode cX0_value 0 = .ok (.aload_n 0, 1) := by decide +kernel
theorem dX0_value_1 : decode cX0_value 1 = .ok (.iload_n 1, 1) := by decide +kernel
theorem dX0_value_2 : decode cX0_value 2 = .ok (.invokevirtual 49, 3) := by decide +kernel
theorem dX0_value_5 : decode cX0_value 5 = .ok (.iconst 1, 1) := by decide +kernel
theorem dX0_value_6 : decode cX0_value 6 = .ok (.if_icmp .eq 5, 3) := by decide +kernel
theorem dX0_value_9 : decode cX0_value 9 = .ok (.iconst 0, 1) := by decide +kernel
theorem dX0_value_10 : decode cX0_value 10 = .ok (.ireturn, 1) := by decide +kernel
theorem dX0_value_11 : decode cX0_value 11 = .ok (.aload_n 0, 1) := by decide +kernel
theorem dX0_value_12 : decode cX0_value 12 = .ok (.getfield 13, 3) := by decide +kernel
theorem dX0_value_15 : decode cX0_value 15 = .ok (.bipush 85, 2) := by decide +kernel
theorem dX0_value_17 : decode cX0_value 17 = .ok (.aload_n 0, 1) := by decide +kernel
theorem dX0_value_18 : decode cX0_value 18 = .ok (.getfield 76, 3) := by decide +kernel
theorem dX0_value_21 : decode cX0_value 21 = .ok (.imul, 1) := by decide +kernel
theorem dX0_value_22 : decode cX0_value 22 = .ok (.iload_n 1, 1) := by decide +kernel
theorem dX0_value_23 : decode cX0_value 23 = .ok (.iadd, 1) := by decide +kernel
theorem dX0_value_24 : decode cX0_value 24 = .ok (.iaload, 1) := by decide +kernel
theorem dX0_value_25 : decode cX0_value 25 = .ok (.ireturn, 1) := by decide +kernel
theorem dX0_remove_0 : decode cX0_remove 0 = .ok (.aload_n 0, 1) := by decide +kernel
theorem dX0_remove_1 : decode cX0_remove 1 = .ok (.iload_n 1, 1) := by decide +kernel
theorem dX0_remove_2 : decode cX0_remove 2 = .ok (.invokevirtual 49, 3) := by decide +kernel
theorem dX0_remove_5 : decode cX0_remove 5 = .ok (.istore_n 2, 1) := by decide +kernel
theorem dX0_remove_6 : decode cX0_remove 6 = .ok (.iload_n 2, 1) := by decide +kernel
theorem dX0_remove_7 : decode cX0_remove 7 = .ok (.ifCond .le 20, 3) := by decide +kernel
theorem dX0_remove_10 : decode cX0_remove 10 = .ok (.iload_n 1, 1) := by decide +kernel
theorem dX0_remove_11 : decode cX0_remove 11 = .ok (.ifCond .eq 16, 3) := by decide +kernel
theorem dX0_remove_14 : decode cX0_remove 14 = .ok (.iload_n 2, 1) := by decide +kernel
theorem dX0_remove_15 : decode cX0_remove 15 = .ok (.iconst 2, 1) := by decide +kernel
theorem dX0_remove_16 : decode cX0_remove 16 = .ok (.if_icmp .ne 13, 3) := by decide +kernel
theorem dX0_remove_19 : decode cX0_remove 19 = .ok (.aload_n 0, 1) := by decide +kernel
theorem dX0_remove_20 : decode cX0_remove 20 = .ok (.iload_n 1, 1) := by decide +kernel
theorem dX0_remove_21 : decode cX0_remove 21 = .ok (.invokevirtual 55, 3) := by decide +kernel
theorem dX0_remove_24 : decode cX0_remove 24 = .ok (.ifCond .le 5, 3) := by decide +kernel
theorem dX0_remove_27 : decode cX0_remove 27 = .ok (.iconst (-1), 1) := by decide +kernel
theorem dX0_remove_28 : decode cX0_remove 28 = .ok (.ireturn, 1) := by decide +kernel
theorem dX0_remove_29 : decode cX0_remove 29 = .ok (.aload_n 0, 1) := by decide +kernel
theorem dX0_remove_30 : decode cX0_remove 30 = .ok (.iload_n 1, 1) := by decide +kernel
theorem dX0_remove_31 : decode cX0_remove 31 = .ok (.invokevirtual 58, 3) := by decide +kernel
theorem dX0_remove_34 : decode cX0_remove 34 = .ok (.iconst 0, 1) := by decide +kernel
theorem dX0_remove_35 : decode cX0_remove 35 = .ok (.ireturn, 1) := by decide +kernel
theorem dX0_entries_0 : decode cX0_entries 0 = .ok (.aload_n 0, 1) := by decide +kernel
theorem dX0_entries_1 : decode cX0_entries 1 = .ok (.iload_n 1, 1) := by decide +kernel
theorem dX0_entries_2 : decode cX0_entries 2 = .ok (.invokevirtual 49, 3) := by decide +kernel
theorem dX0_entries_5 : decode cX0_entries 5 = .ok (.iconst 2, 1) := by decide +kernel
theorem dX0_entries_6 : decode cX0_entries 6 = .ok (.if_icmp .eq 5, 3) := by decide +kernel
theorem dX0_entries_9 : decode cX0_entries 9 = .ok (.iconst (-1), 1) := by decide +kernel
theorem dX0_entries_10 : decode cX0_entries 10 = .ok (.ireturn, 1) := by decide +kernel
theorem dX0_entries_11 : decode cX0_entries 11 = .ok (.iconst 0, 1) := by decide +kernel
theorem dX0_entries_12 : decode cX0_entries 12 = .ok (.istore_n 2, 1) := by decide +kernel
theorem dX0_entries_13 : decode cX0_entries 13 = .ok (.iconst 4, 1) := by decide +kernel
theorem dX0_entries_14 : decode cX0_entries 14 = .ok (.iload_n 1, 1) := by decide +kernel
theorem dX0_entries_15 : decode cX0_entries 15 = .ok (.imul, 1) := by decide +kernel
theorem dX0_entries_16 : decode cX0_entries 16 = .ok (.iconst 1, 1) := by decide +kernel
theorem dX0_entries_17 : decode cX0_entries 17 = .ok (.iadd, 1) := by decide +kernel
theorem dX0_entries_18 : decode cX0_entries 18 = .ok (.istore_n 3, 1) := by decide +kernel
theorem dX0_entries_19 : decode cX0_entries 19 = .ok (.iload_n 3, 1) := by decide +kernel
theorem dX0_entries_20 : decode cX0_entries 20 = .ok (.iconst 4, 1) := by decide +kernel
theorem dX0_entries_21 : decode cX0_entries 21 = .ok (.iload_n 1, 1) := by decide +kernel
theorem dX0_entries_22 : decode cX0_entries 22 = .ok (.imul, 1) := by decide +kernel
theorem dX0_entries_23 : decode cX0_entries 23 = .ok (.iconst 4, 1) := by decide +kernel
theorem dX0_entries_24 : decode cX0_entries 24 = .ok (.iadd, 1) := by decide +kernel
theorem dX0_entries_25 : decode cX0_entries 25 = .ok (.if_icmp .gt 31, 3) := by decide +kernel
theorem dX0_entries_28 : decode cX0_entries 28 = .ok (.iload_n 3, 1) := by decide +kernel
theorem dX0_entries_29 : decode cX0_entries 29 = .ok (.bipush 85, 2) := by decide +kernel
theorem dX0_entries_31 : decode cX0_entries 31 = .ok (.if_icmp .ge 25, 3) := by decide +kernel
theorem dX0_entries_34 : decode cX0_entries 34 = .ok (.iload_n 2, 1) := by decide +kernel
theorem dX0_entries_35 : decode cX0_entries 35 = .ok (.aload_n 0, 1) := by decide +kernel
theorem dX0_entries_36 : decode cX0_entries 36 = .ok (.iload_n 3, 1) := by decide +kernel
theorem dX0_entries_37 : decode cX0_entries 37 = .ok (.invokevirtual 49, 3) := by decide +kernel
theorem dX0_entries_40 : decode cX0_entries 40 = .ok (.ifCond .le 7, 3) := by decide +kernel
theorem dX0_entries_43 : decode cX0_entries 43 = .ok (.iconst 1, 1) := by decide +kernel
theorem dX0_entries_44 : decode cX0_entries 44 = .ok (.goto 4, 3) := by decide +kernel
theorem dX0_entries_47 : decode cX0_entries 47 = .ok (.iconst 0, 1) := by decide +kernel
theorem dX0_entries_48 : decode cX0_entries 48 = .ok (.iadd, 1) := by decide +kernel
theorem dX0_entries_49 : decode cX0_entries 49 = .ok (.istore_n 2, 1) := by decide +kernel
theorem dX0_entries_50 : decode cX0_entries 50 = .ok (.iinc 3 1, 3) := by decide +kernel
theorem dX0_entries_53 : decode cX0_entries 53 = .ok (.goto (-34), 3) := by decide +kernel
theorem dX0_entries_56 : decode cX0_entries 56 = .ok (.iload_n 2, 1) := by decide +kernel
theorem dX0_entries_57 : decode cX0_entries 57 = .ok (.ireturn, 1) := by decide +kernel
theorem dX0_takeAway_0 : decode cX0_takeAway 0 = .ok (.aload_n 0, 1) := by decide +kernel
theorem dX0_takeAway_1 : decode cX0_takeAway 1 = .ok (.iconst 4, 1) := by decide +kernel
theorem dX0_takeAway_2 : decode cX0_takeAway 2 = .ok (.iload_n 1, 1) := by decide +kernel
theorem dX0_takeAway_3 : decode cX0_takeAway 3 = .ok (.invokevirtual 69, 3) := by decide +kernel
theorem dX0_takeAway_6 : decode cX0_takeAway 6 = .ok (.aload_n 0, 1) := by decide +kernel
theorem dX0_takeAway_7 : decode cX0_takeAway 7 = .ok (.getfield 7, 3) := by decide +kernel
theorem dX0_takeAway_10 : decode cX0_takeAway 10 = .ok (.sipush 340, 3) := by decide +kernel
theorem dX0_takeAway_13 : decode cX0_takeAway 13 = .ok (.iload_n 1, 1) := by decide +kernel
theorem dX0_takeAway_14 : decode cX0_takeAway 14 = .ok (.iadd, 1) := by decide +kernel
theorem dX0_takeAway_15 : decode cX0_takeAway 15 = .ok (.iconst 0, 1) := by decide +kernel
theorem dX0_takeAway_16 : decode cX0_takeAway 16 = .ok (.iastore, 1) := by decide +kernel
theorem dX0_takeAway_17 : decode cX0_takeAway 17 = .ok (.aload_n 0, 1) := by decide +kernel
theorem dX0_takeAway_18 : decode cX0_takeAway 18 = .ok (.iload_n 1, 1) := by decide +kernel
theorem dX0_takeAway_19 : decode cX0_takeAway 19 = .ok (.invokevirtual 49, 3) := by decide +kernel
theorem dX0_takeAway_22 : decode cX0_takeAway 22 = .ok (.ifCond .le 18, 3) := by decide +kernel
theorem dX0_takeAway_25 : decode cX0_takeAway 25 = .ok (.aload_n 0, 1) := by decide +kernel
theorem dX0_takeAway_26 : decode cX0_takeAway 26 = .ok (.iload_n 1, 1) := by decide +kernel
theorem dX0_takeAway_27 : decode cX0_takeAway 27 = .ok (.invokestatic 29, 3) := by decide +kernel
theorem dX0_takeAway_30 : decode cX0_takeAway 30 = .ok (.invokevirtual 41, 3) := by decide +kernel
theorem dX0_takeAway_33 : decode cX0_takeAway 33 = .ok (.aload_n 0, 1) := by decide +kernel
theorem dX0_takeAway_34 : decode cX0_takeAway 34 = .ok (.iload_n 1, 1) := by decide +kernel
theorem dX0_takeAway_35 : decode cX0_takeAway 35 = .ok (.iconst 4, 1) := by decide +kernel
theorem dX0_takeAway_36 : decode cX0_takeAway 36 = .ok (.iconst 0, 1) := by decide +kernel
theorem dX0_takeAway_37 : decode cX0_takeAway 37 = .ok (.invokevirtual 45, 3) := by decide +kernel
theorem dX0_takeAway_40 : decode cX0_takeAway 40 = .ok (.return_, 1) := by decide +kernel
theorem dX0_clearUnder_0 : decode cX0_clearUnder 0 = .ok (.iload_n 2, 1) := by decide +kernel
theorem dX0_clearUnder_1 : decode cX0_clearUnder 1 = .ok (.iconst 1, 1) := by decide +kernel
theorem dX0_clearUnder_2 : decode cX0_clearUnder 2 = .ok (.iadd, 1) := by decide +kernel
theorem dX0_clearUnder_3 : decode cX0_clearUnder 3 = .ok (.istore_n 3, 1) := by decide +kernel
theorem dX0_clearUnder_4 : decode cX0_clearUnder 4 = .ok (.iload_n 3, 1) := by decide +kernel
theorem dX0_clearUnder_5 : decode cX0_clearUnder 5 = .ok (.bipush 85, 2) := by decide +kernel
theorem dX0_clearUnder_7 : decode cX0_clearUnder 7 = .ok (.if_icmp .ge 29, 3) := by decide +kernel
theorem dX0_clearUnder_10 : decode cX0_clearUnder 10 = .ok (.iload_n 3, 1) := by decide +kernel
theorem dX0_clearUnder_11 : decode cX0_clearUnder 11 = .ok (.iload_n 2, 1) := by decide +kernel
theorem dX0_clearUnder_12 : decode cX0_clearUnder 12 = .ok (.invokestatic 61, 3) := by decide +kernel
theorem dX0_clearUnder_15 : decode cX0_clearUnder 15 = .ok (.ifCond .eq 15, 3) := by decide +kernel
theorem dX0_clearUnder_18 : decode cX0_clearUnder 18 = .ok (.aload_n 0, 1) := by decide +kernel
theorem dX0_clearUnder_19 : decode cX0_clearUnder 19 = .ok (.getfield 7, 3) := by decide +kernel
theorem dX0_clearUnder_22 : decode cX0_clearUnder 22 = .ok (.bipush 85, 2) := by decide +kernel
theorem dX0_clearUnder_24 : decode cX0_clearUnder 24 = .ok (.iload_n 1, 1) := by decide +kernel
theorem dX0_clearUnder_25 : decode cX0_clearUnder 25 = .ok (.imul, 1) := by decide +kernel
theorem dX0_clearUnder_26 : decode cX0_clearUnder 26 = .ok (.iload_n 3, 1) := by decide +kernel
theorem dX0_clearUnder_27 : decode cX0_clearUnder 27 = .ok (.iadd, 1) := by decide +kernel
theorem dX0_clearUnder_28 : decode cX0_clearUnder 28 = .ok (.iconst 0, 1) := by decide +kernel
theorem dX0_clearUnder_29 : decode cX0_clearUnder 29 = .ok (.iastore, 1) := by decide +kernel
theorem dX0_clearUnder_30 : decode cX0_clearUnder 30 = .ok (.iinc 3 1, 3) := by decide +kernel
theorem dX0_clearUnder_33 : decode cX0_clearUnder 33 = .ok (.goto (-29), 3) := by decide +kernel
theorem dX0_clearUnder_36 : decode cX0_clearUnder 36 = .ok (.return_, 1) := by decide +kernel
theorem dX0_isUnder_0 : decode cX0_isUnder 0 = .ok (.iload_n 0, 1) := by decide +kernel
theorem dX0_isUnder_1 : decode cX0_isUnder 1 = .ok (.istore_n 2, 1) := by decide +kernel
theorem dX0_isUnder_2 : decode cX0_isUnder 2 = .ok (.iconst 0, 1) := by decide +kernel
theorem dX0_isUnder_3 : decode cX0_isUnder 3 = .ok (.istore_n 3, 1) := by decide +kernel
theorem dX0_isUnder_4 : decode cX0_isUnder 4 = .ok (.iload_n 3, 1) := by decide +kernel
theorem dX0_isUnder_5 : decode cX0_isUnder 5 = .ok (.iconst 3, 1) := by decide +kernel
theorem dX0_isUnder_6 : decode cX0_isUnder 6 = .ok (.if_icmp .ge 25, 3) := by decide +kernel
theorem dX0_isUnder_9 : decode cX0_isUnder 9 = .ok (.iload_n 2, 1) := by decide +kernel
end
section
set_option maxRecDepth 100000
theorem dX0_isUnder_10 : decode cX0_isUnder 10 = .ok (.ifCond .le 21, 3) := by decide +kernel
theorem dX0_isUnder_13 : decode cX0_isUnder 13 = .ok (.iload_n 2, 1) := by decide +kernel
theorem dX0_isUnder_14 : decode cX0_isUnder 14 = .ok (.invokestatic 29, 3) := by decide +kernel
theorem dX0_isUnder_17 : decode cX0_isUnder 17 = .ok (.istore_n 2, 1) := by decide +kernel
theorem dX0_isUnder_18 : decode cX0_isUnder 18 = .ok (.iload_n 2, 1) := by decide +kernel
theorem dX0_isUnder_19 : decode cX0_isUnder 19 = .ok (.iload_n 1, 1) := by decide +kernel
theorem dX0_isUnder_20 : decode cX0_isUnder 20 = .ok (.if_icmp .ne 5, 3) := by decide +kernel
theorem dX0_isUnder_23 : decode cX0_isUnder 23 = .ok (.iconst 1, 1) := by decide +kernel
theorem dX0_isUnder_24 : decode cX0_isUnder 24 = .ok (.ireturn, 1) := by decide +kernel
theorem dX0_isUnder_25 : decode cX0_isUnder 25 = .ok (.iinc 3 1, 3) := by decide +kernel
theorem dX0_isUnder_28 : decode cX0_isUnder 28 = .ok (.goto (-24), 3) := by decide +kernel
theorem dX0_isUnder_31 : decode cX0_isUnder 31 = .ok (.iconst 0, 1) := by decide +kernel
theorem dX0_isUnder_32 : decode cX0_isUnder 32 = .ok (.ireturn, 1) := by decide +kernel
theorem dX0_move_0 : decode cX0_move 0 = .ok (.aload_n 0, 1) := by decide +kernel
theorem dX0_move_1 : decode cX0_move 1 = .ok (.iload_n 1, 1) := by decide +kernel
theorem dX0_move_2 : decode cX0_move 2 = .ok (.invokevirtual 49, 3) := by decide +kernel
theorem dX0_move_5 : decode cX0_move 5 = .ok (.ifCond .le 23, 3) := by decide +kernel
theorem dX0_move_8 : decode cX0_move 8 = .ok (.iload_n 1, 1) := by decide +kernel
theorem dX0_move_9 : decode cX0_move 9 = .ok (.ifCond .eq 19, 3) := by decide +kernel
theorem dX0_move_12 : decode cX0_move 12 = .ok (.aload_n 0, 1) := by decide +kernel
theorem dX0_move_13 : decode cX0_move 13 = .ok (.iload_n 2, 1) := by decide +kernel
theorem dX0_move_14 : decode cX0_move 14 = .ok (.invokevirtual 37, 3) := by decide +kernel
theorem dX0_move_17 : decode cX0_move 17 = .ok (.ifCond .eq 11, 3) := by decide +kernel
theorem dX0_move_20 : decode cX0_move 20 = .ok (.iload_n 2, 1) := by decide +kernel
theorem dX0_move_21 : decode cX0_move 21 = .ok (.iload_n 1, 1) := by decide +kernel
theorem dX0_move_22 : decode cX0_move 22 = .ok (.invokestatic 61, 3) := by decide +kernel
theorem dX0_move_25 : decode cX0_move 25 = .ok (.ifCond .eq 5, 3) := by decide +kernel
theorem dX0_move_28 : decode cX0_move 28 = .ok (.iconst (-1), 1) := by decide +kernel
theorem dX0_move_29 : decode cX0_move 29 = .ok (.ireturn, 1) := by decide +kernel
theorem dX0_move_30 : decode cX0_move 30 = .ok (.aload_n 0, 1) := by decide +kernel
theorem dX0_move_31 : decode cX0_move 31 = .ok (.iload_n 1, 1) := by decide +kernel
theorem dX0_move_32 : decode cX0_move 32 = .ok (.iload_n 2, 1) := by decide +kernel
theorem dX0_move_33 : decode cX0_move 33 = .ok (.invokevirtual 65, 3) := by decide +kernel
theorem dX0_move_36 : decode cX0_move 36 = .ok (.istore_n 3, 1) := by decide +kernel
theorem dX0_move_37 : decode cX0_move 37 = .ok (.iload_n 3, 1) := by decide +kernel
theorem dX0_move_38 : decode cX0_move 38 = .ok (.ifCond .ge 5, 3) := by decide +kernel
theorem dX0_move_41 : decode cX0_move 41 = .ok (.iconst (-1), 1) := by decide +kernel
theorem dX0_move_42 : decode cX0_move 42 = .ok (.ireturn, 1) := by decide +kernel
theorem dX0_move_43 : decode cX0_move 43 = .ok (.aload_n 0, 1) := by decide +kernel
theorem dX0_move_44 : decode cX0_move 44 = .ok (.iload_n 1, 1) := by decide +kernel
theorem dX0_move_45 : decode cX0_move 45 = .ok (.invokevirtual 58, 3) := by decide +kernel
theorem dX0_move_48 : decode cX0_move 48 = .ok (.aload_n 0, 1) := by decide +kernel
theorem dX0_move_49 : decode cX0_move 49 = .ok (.iload_n 2, 1) := by decide +kernel
theorem dX0_move_50 : decode cX0_move 50 = .ok (.invokestatic 29, 3) := by decide +kernel
theorem dX0_move_53 : decode cX0_move 53 = .ok (.invokevirtual 41, 3) := by decide +kernel
theorem dX0_move_56 : decode cX0_move 56 = .ok (.iconst 0, 1) := by decide +kernel
theorem dX0_move_57 : decode cX0_move 57 = .ok (.istore 4, 2) := by decide +kernel
theorem dX0_move_59 : decode cX0_move 59 = .ok (.iload 4, 2) := by decide +kernel
theorem dX0_move_61 : decode cX0_move 61 = .ok (.bipush 85, 2) := by decide +kernel
theorem dX0_move_63 : decode cX0_move 63 = .ok (.if_icmp .ge 56, 3) := by decide +kernel
theorem dX0_move_66 : decode cX0_move 66 = .ok (.aload_n 0, 1) := by decide +kernel
theorem dX0_move_67 : decode cX0_move 67 = .ok (.getfield 19, 3) := by decide +kernel
theorem dX0_move_70 : decode cX0_move 70 = .ok (.iload 4, 2) := by decide +kernel
theorem dX0_move_72 : decode cX0_move 72 = .ok (.iaload, 1) := by decide +kernel
theorem dX0_move_73 : decode cX0_move 73 = .ok (.iconst 1, 1) := by decide +kernel
theorem dX0_move_74 : decode cX0_move 74 = .ok (.if_icmp .ne 20, 3) := by decide +kernel
theorem dX0_move_77 : decode cX0_move 77 = .ok (.aload_n 0, 1) := by decide +kernel
theorem dX0_move_78 : decode cX0_move 78 = .ok (.iload 4, 2) := by decide +kernel
theorem dX0_move_80 : decode cX0_move 80 = .ok (.iconst 1, 1) := by decide +kernel
theorem dX0_move_81 : decode cX0_move 81 = .ok (.aload_n 0, 1) := by decide +kernel
theorem dX0_move_82 : decode cX0_move 82 = .ok (.getfield 22, 3) := by decide +kernel
theorem dX0_move_85 : decode cX0_move 85 = .ok (.iload 4, 2) := by decide +kernel
theorem dX0_move_87 : decode cX0_move 87 = .ok (.iaload, 1) := by decide +kernel
theorem dX0_move_88 : decode cX0_move 88 = .ok (.invokevirtual 45, 3) := by decide +kernel
theorem dX0_move_91 : decode cX0_move 91 = .ok (.goto 22, 3) := by decide +kernel
theorem dX0_move_94 : decode cX0_move 94 = .ok (.aload_n 0, 1) := by decide +kernel
theorem dX0_move_95 : decode cX0_move 95 = .ok (.getfield 19, 3) := by decide +kernel
theorem dX0_move_98 : decode cX0_move 98 = .ok (.iload 4, 2) := by decide +kernel
theorem dX0_move_100 : decode cX0_move 100 = .ok (.iaload, 1) := by decide +kernel
theorem dX0_move_101 : decode cX0_move 101 = .ok (.iconst 2, 1) := by decide +kernel
theorem dX0_move_102 : decode cX0_move 102 = .ok (.if_icmp .ne 11, 3) := by decide +kernel
theorem dX0_move_105 : decode cX0_move 105 = .ok (.aload_n 0, 1) := by decide +kernel
theorem dX0_move_106 : decode cX0_move 106 = .ok (.iload 4, 2) := by decide +kernel
theorem dX0_move_108 : decode cX0_move 108 = .ok (.iconst 3, 1) := by decide +kernel
theorem dX0_move_109 : decode cX0_move 109 = .ok (.iconst 0, 1) := by decide +kernel
theorem dX0_move_110 : decode cX0_move 110 = .ok (.invokevirtual 45, 3) := by decide +kernel
theorem dX0_move_113 : decode cX0_move 113 = .ok (.iinc 4 1, 3) := by decide +kernel
theorem dX0_move_116 : decode cX0_move 116 = .ok (.goto (-57), 3) := by decide +kernel
theorem dX0_move_119 : decode cX0_move 119 = .ok (.iload_n 3, 1) := by decide +kernel
theorem dX0_move_120 : decode cX0_move 120 = .ok (.ireturn, 1) := by decide +kernel
theorem dX0_copyPart_0 : decode cX0_copyPart 0 = .ok (.iconst 0, 1) := by decide +kernel
theorem dX0_copyPart_1 : decode cX0_copyPart 1 = .ok (.istore_n 3, 1) := by decide +kernel
theorem dX0_copyPart_2 : decode cX0_copyPart 2 = .ok (.iload_n 3, 1) := by decide +kernel
theorem dX0_copyPart_3 : decode cX0_copyPart 3 = .ok (.bipush 85, 2) := by decide +kernel
theorem dX0_copyPart_5 : decode cX0_copyPart 5 = .ok (.if_icmp .ge 16, 3) := by decide +kernel
theorem dX0_copyPart_8 : decode cX0_copyPart 8 = .ok (.aload_n 0, 1) := by decide +kernel
theorem dX0_copyPart_9 : decode cX0_copyPart 9 = .ok (.getfield 19, 3) := by decide +kernel
theorem dX0_copyPart_12 : decode cX0_copyPart 12 = .ok (.iload_n 3, 1) := by decide +kernel
theorem dX0_copyPart_13 : decode cX0_copyPart 13 = .ok (.iconst 0, 1) := by decide +kernel
theorem dX0_copyPart_14 : decode cX0_copyPart 14 = .ok (.iastore, 1) := by decide +kernel
theorem dX0_copyPart_15 : decode cX0_copyPart 15 = .ok (.iinc 3 1, 3) := by decide +kernel
theorem dX0_copyPart_18 : decode cX0_copyPart 18 = .ok (.goto (-16), 3) := by decide +kernel
theorem dX0_copyPart_21 : decode cX0_copyPart 21 = .ok (.iconst 0, 1) := by decide +kernel
theorem dX0_copyPart_22 : decode cX0_copyPart 22 = .ok (.istore_n 3, 1) := by decide +kernel
theorem dX0_copyPart_23 : decode cX0_copyPart 23 = .ok (.iload_n 1, 1) := by decide +kernel
theorem dX0_copyPart_24 : decode cX0_copyPart 24 = .ok (.istore 4, 2) := by decide +kernel
theorem dX0_copyPart_26 : decode cX0_copyPart 26 = .ok (.iload 4, 2) := by decide +kernel
theorem dX0_copyPart_28 : decode cX0_copyPart 28 = .ok (.bipush 85, 2) := by decide +kernel
theorem dX0_copyPart_30 : decode cX0_copyPart 30 = .ok (.if_icmp .ge 104, 3) := by decide +kernel
theorem dX0_copyPart_33 : decode cX0_copyPart 33 = .ok (.iload 4, 2) := by decide +kernel
theorem dX0_copyPart_35 : decode cX0_copyPart 35 = .ok (.iload_n 1, 1) := by decide +kernel
theorem dX0_copyPart_36 : decode cX0_copyPart 36 = .ok (.if_icmp .eq 12, 3) := by decide +kernel
theorem dX0_copyPart_39 : decode cX0_copyPart 39 = .ok (.iload 4, 2) := by decide +kernel
theorem dX0_copyPart_41 : decode cX0_copyPart 41 = .ok (.iload_n 1, 1) := by decide +kernel
theorem dX0_copyPart_42 : decode cX0_copyPart 42 = .ok (.invokestatic 61, 3) := by decide +kernel
theorem dX0_copyPart_45 : decode cX0_copyPart 45 = .ok (.ifCond .eq 12, 3) := by decide +kernel
theorem dX0_copyPart_48 : decode cX0_copyPart 48 = .ok (.aload_n 0, 1) := by decide +kernel
theorem dX0_copyPart_49 : decode cX0_copyPart 49 = .ok (.iload 4, 2) := by decide +kernel
theorem dX0_copyPart_51 : decode cX0_copyPart 51 = .ok (.invokevirtual 49, 3) := by decide +kernel
theorem dX0_copyPart_54 : decode cX0_copyPart 54 = .ok (.goto 4, 3) := by decide +kernel
theorem dX0_copyPart_57 : decode cX0_copyPart 57 = .ok (.iconst 0, 1) := by decide +kernel
theorem dX0_copyPart_58 : decode cX0_copyPart 58 = .ok (.istore 5, 2) := by decide +kernel
theorem dX0_copyPart_60 : decode cX0_copyPart 60 = .ok (.iload 5, 2) := by decide +kernel
theorem dX0_copyPart_62 : decode cX0_copyPart 62 = .ok (.ifCond .le 66, 3) := by decide +kernel
theorem dX0_copyPart_65 : decode cX0_copyPart 65 = .ok (.aload_n 0, 1) := by decide +kernel
theorem dX0_copyPart_66 : decode cX0_copyPart 66 = .ok (.iload 4, 2) := by decide +kernel
theorem dX0_copyPart_68 : decode cX0_copyPart 68 = .ok (.iload_n 1, 1) := by decide +kernel
theorem dX0_copyPart_69 : decode cX0_copyPart 69 = .ok (.iload_n 2, 1) := by decide +kernel
theorem dX0_copyPart_70 : decode cX0_copyPart 70 = .ok (.invokevirtual 89, 3) := by decide +kernel
theorem dX0_copyPart_73 : decode cX0_copyPart 73 = .ok (.istore 6, 2) := by decide +kernel
theorem dX0_copyPart_75 : decode cX0_copyPart 75 = .ok (.iload 6, 2) := by decide +kernel
theorem dX0_copyPart_77 : decode cX0_copyPart 77 = .ok (.bipush 84, 2) := by decide +kernel
theorem dX0_copyPart_79 : decode cX0_copyPart 79 = .ok (.if_icmp .le 5, 3) := by decide +kernel
theorem dX0_copyPart_82 : decode cX0_copyPart 82 = .ok (.iconst (-1), 1) := by decide +kernel
theorem dX0_copyPart_83 : decode cX0_copyPart 83 = .ok (.ireturn, 1) := by decide +kernel
theorem dX0_copyPart_84 : decode cX0_copyPart 84 = .ok (.aload_n 0, 1) := by decide +kernel
theorem dX0_copyPart_85 : decode cX0_copyPart 85 = .ok (.getfield 19, 3) := by decide +kernel
theorem dX0_copyPart_88 : decode cX0_copyPart 88 = .ok (.iload 6, 2) := by decide +kernel
theorem dX0_copyPart_90 : decode cX0_copyPart 90 = .ok (.iload 5, 2) := by decide +kernel
theorem dX0_copyPart_92 : decode cX0_copyPart 92 = .ok (.iastore, 1) := by decide +kernel
theorem dX0_copyPart_93 : decode cX0_copyPart 93 = .ok (.aload_n 0, 1) := by decide +kernel
theorem dX0_copyPart_94 : decode cX0_copyPart 94 = .ok (.getfield 22, 3) := by decide +kernel
theorem dX0_copyPart_97 : decode cX0_copyPart 97 = .ok (.iload 6, 2) := by decide +kernel
theorem dX0_copyPart_99 : decode cX0_copyPart 99 = .ok (.iload 5, 2) := by decide +kernel
theorem dX0_copyPart_101 : decode cX0_copyPart 101 = .ok (.iconst 1, 1) := by decide +kernel
theorem dX0_copyPart_102 : decode cX0_copyPart 102 = .ok (.if_icmp .ne 21, 3) := by decide +kernel
theorem dX0_copyPart_105 : decode cX0_copyPart 105 = .ok (.aload_n 0, 1) := by decide +kernel
theorem dX0_copyPart_106 : decode cX0_copyPart 106 = .ok (.getfield 13, 3) := by decide +kernel
theorem dX0_copyPart_109 : decode cX0_copyPart 109 = .ok (.bipush 85, 2) := by decide +kernel
theorem dX0_copyPart_111 : decode cX0_copyPart 111 = .ok (.aload_n 0, 1) := by decide +kernel
theorem dX0_copyPart_112 : decode cX0_copyPart 112 = .ok (.getfield 76, 3) := by decide +kernel
theorem dX0_copyPart_115 : decode cX0_copyPart 115 = .ok (.imul, 1) := by decide +kernel
theorem dX0_copyPart_116 : decode cX0_copyPart 116 = .ok (.iload 4, 2) := by decide +kernel
theorem dX0_copyPart_118 : decode cX0_copyPart 118 = .ok (.iadd, 1) := by decide +kernel
theorem dX0_copyPart_119 : decode cX0_copyPart 119 = .ok (.iaload, 1) := by decide +kernel
theorem dX0_copyPart_120 : decode cX0_copyPart 120 = .ok (.goto 4, 3) := by decide +kernel
theorem dX0_copyPart_123 : decode cX0_copyPart 123 = .ok (.iconst 0, 1) := by decide +kernel
theorem dX0_copyPart_124 : decode cX0_copyPart 124 = .ok (.iastore, 1) := by decide +kernel
theorem dX0_copyPart_125 : decode cX0_copyPart 125 = .ok (.iinc 3 1, 3) := by decide +kernel
theorem dX0_copyPart_128 : decode cX0_copyPart 128 = .ok (.iinc 4 1, 3) := by decide +kernel
theorem dX0_copyPart_131 : decode cX0_copyPart 131 = .ok (.goto (-105), 3) := by decide +kernel
theorem dX0_copyPart_134 : decode cX0_copyPart 134 = .ok (.iload_n 3, 1) := by decide +kernel
theorem dX0_copyPart_135 : decode cX0_copyPart 135 = .ok (.ireturn, 1) := by decide +kernel
theorem dX0_placeAfter_0 : decode cX0_placeAfter 0 = .ok (.iconst 0, 1) := by decide +kernel
theorem dX0_placeAfter_1 : decode cX0_placeAfter 1 = .ok (.istore 4, 2) := by decide +kernel
theorem dX0_placeAfter_3 : decode cX0_placeAfter 3 = .ok (.iload_n 1, 1) := by decide +kernel
theorem dX0_placeAfter_4 : decode cX0_placeAfter 4 = .ok (.istore 5, 2) := by decide +kernel
theorem dX0_placeAfter_6 : decode cX0_placeAfter 6 = .ok (.iconst 0, 1) := by decide +kernel
theorem dX0_placeAfter_7 : decode cX0_placeAfter 7 = .ok (.istore 6, 2) := by decide +kernel
theorem dX0_placeAfter_9 : decode cX0_placeAfter 9 = .ok (.iload 6, 2) := by decide +kernel
theorem dX0_placeAfter_11 : decode cX0_placeAfter 11 = .ok (.iconst 3, 1) := by decide +kernel
theorem dX0_placeAfter_12 : decode cX0_placeAfter 12 = .ok (.if_icmp .ge 39, 3) := by decide +kernel
theorem dX0_placeAfter_15 : decode cX0_placeAfter 15 = .ok (.iload 5, 2) := by decide +kernel
theorem dX0_placeAfter_17 : decode cX0_placeAfter 17 = .ok (.iload_n 2, 1) := by decide +kernel
theorem dX0_placeAfter_18 : decode cX0_placeAfter 18 = .ok (.if_icmp .eq 33, 3) := by decide +kernel
theorem dX0_placeAfter_21 : decode cX0_placeAfter 21 = .ok (.aload_n 0, 1) := by decide +kernel
theorem dX0_placeAfter_22 : decode cX0_placeAfter 22 = .ok (.getfield 16, 3) := by decide +kernel
theorem dX0_placeAfter_25 : decode cX0_placeAfter 25 = .ok (.iload 4, 2) := by decide +kernel
theorem dX0_placeAfter_27 : decode cX0_placeAfter 27 = .ok (.iload 5, 2) := by decide +kernel
theorem dX0_placeAfter_29 : decode cX0_placeAfter 29 = .ok (.iconst 1, 1) := by decide +kernel
theorem dX0_placeAfter_30 : decode cX0_placeAfter 30 = .ok (.isub, 1) := by decide +kernel
theorem dX0_placeAfter_31 : decode cX0_placeAfter 31 = .ok (.iconst 4, 1) := by decide +kernel
theorem dX0_placeAfter_32 : decode cX0_placeAfter 32 = .ok (.irem, 1) := by decide +kernel
theorem dX0_placeAfter_33 : decode cX0_placeAfter 33 = .ok (.iastore, 1) := by decide +kernel
theorem dX0_placeAfter_34 : decode cX0_placeAfter 34 = .ok (.iinc 4 1, 3) := by decide +kernel
theorem dX0_placeAfter_37 : decode cX0_placeAfter 37 = .ok (.iload 5, 2) := by decide +kernel
theorem dX0_placeAfter_39 : decode cX0_placeAfter 39 = .ok (.iconst 1, 1) := by decide +kernel
theorem dX0_placeAfter_40 : decode cX0_placeAfter 40 = .ok (.isub, 1) := by decide +kernel
theorem dX0_placeAfter_41 : decode cX0_placeAfter 41 = .ok (.iconst 4, 1) := by decide +kernel
theorem dX0_placeAfter_42 : decode cX0_placeAfter 42 = .ok (.idiv, 1) := by decide +kernel
theorem dX0_placeAfter_43 : decode cX0_placeAfter 43 = .ok (.istore 5, 2) := by decide +kernel
theorem dX0_placeAfter_45 : decode cX0_placeAfter 45 = .ok (.iinc 6 1, 3) := by decide +kernel
theorem dX0_placeAfter_48 : decode cX0_placeAfter 48 = .ok (.goto (-39), 3) := by decide +kernel
theorem dX0_placeAfter_51 : decode cX0_placeAfter 51 = .ok (.iload_n 3, 1) := by decide +kernel
theorem dX0_placeAfter_52 : decode cX0_placeAfter 52 = .ok (.istore 6, 2) := by decide +kernel
theorem dX0_placeAfter_54 : decode cX0_placeAfter 54 = .ok (.iload 4, 2) := by decide +kernel
theorem dX0_placeAfter_56 : decode cX0_placeAfter 56 = .ok (.iconst 1, 1) := by decide +kernel
theorem dX0_placeAfter_57 : decode cX0_placeAfter 57 = .ok (.isub, 1) := by decide +kernel
theorem dX0_placeAfter_58 : decode cX0_placeAfter 58 = .ok (.istore 7, 2) := by decide +kernel
theorem dX0_placeAfter_60 : decode cX0_placeAfter 60 = .ok (.iload 7, 2) := by decide +kernel
theorem dX0_placeAfter_62 : decode cX0_placeAfter 62 = .ok (.ifCond .lt 25, 3) := by decide +kernel
theorem dX0_placeAfter_65 : decode cX0_placeAfter 65 = .ok (.iconst 4, 1) := by decide +kernel
theorem dX0_placeAfter_66 : decode cX0_placeAfter 66 = .ok (.iload 6, 2) := by decide +kernel
theorem dX0_placeAfter_68 : decode cX0_placeAfter 68 = .ok (.imul, 1) := by decide +kernel
theorem dX0_placeAfter_69 : decode cX0_placeAfter 69 = .ok (.iconst 1, 1) := by decide +kernel
theorem dX0_placeAfter_70 : decode cX0_placeAfter 70 = .ok (.iadd, 1) := by decide +kernel
theorem dX0_placeAfter_71 : decode cX0_placeAfter 71 = .ok (.aload_n 0, 1) := by decide +kernel
theorem dX0_placeAfter_72 : decode cX0_placeAfter 72 = .ok (.getfield 16, 3) := by decide +kernel
theorem dX0_placeAfter_75 : decode cX0_placeAfter 75 = .ok (.iload 7, 2) := by decide +kernel
theorem dX0_placeAfter_77 : decode cX0_placeAfter 77 = .ok (.iaload, 1) := by decide +kernel
theorem dX0_placeAfter_78 : decode cX0_placeAfter 78 = .ok (.iadd, 1) := by decide +kernel
theorem dX0_placeAfter_79 : decode cX0_placeAfter 79 = .ok (.istore 6, 2) := by decide +kernel
theorem dX0_placeAfter_81 : decode cX0_placeAfter 81 = .ok (.iinc 7 (-1), 3) := by decide +kernel
theorem dX0_placeAfter_84 : decode cX0_placeAfter 84 = .ok (.goto (-24), 3) := by decide +kernel
theorem dX0_placeAfter_87 : decode cX0_placeAfter 87 = .ok (.iload 6, 2) := by decide +kernel
theorem dX0_placeAfter_89 : decode cX0_placeAfter 89 = .ok (.ireturn, 1) := by decide +kernel
theorem dX0_press_0 : decode cX0_press 0 = .ok (.aload_n 0, 1) := by decide +kernel
theorem dX0_press_1 : decode cX0_press 1 = .ok (.getfield 25, 3) := by decide +kernel
theorem dX0_press_4 : decode cX0_press 4 = .ok (.ifCond .ne 5, 3) := by decide +kernel
theorem dX0_press_7 : decode cX0_press 7 = .ok (.iconst (-1), 1) := by decide +kernel
theorem dX0_press_8 : decode cX0_press 8 = .ok (.ireturn, 1) := by decide +kernel
theorem dX0_press_9 : decode cX0_press 9 = .ok (.iconst 1, 1) := by decide +kernel
theorem dX0_press_10 : decode cX0_press 10 = .ok (.istore_n 1, 1) := by decide +kernel
theorem dX0_press_11 : decode cX0_press 11 = .ok (.iload_n 1, 1) := by decide +kernel
theorem dX0_press_12 : decode cX0_press 12 = .ok (.bipush 85, 2) := by decide +kernel
theorem dX0_press_14 : decode cX0_press 14 = .ok (.if_icmp .ge 137, 3) := by decide +kernel
theorem dX0_press_17 : decode cX0_press 17 = .ok (.aload_n 0, 1) := by decide +kernel
theorem dX0_press_18 : decode cX0_press 18 = .ok (.getfield 7, 3) := by decide +kernel
theorem dX0_press_21 : decode cX0_press 21 = .ok (.sipush 340, 3) := by decide +kernel
theorem dX0_press_24 : decode cX0_press 24 = .ok (.iload_n 1, 1) := by decide +kernel
theorem dX0_press_25 : decode cX0_press 25 = .ok (.iadd, 1) := by decide +kernel
theorem dX0_press_26 : decode cX0_press 26 = .ok (.iaload, 1) := by decide +kernel
theorem dX0_press_27 : decode cX0_press 27 = .ok (.istore_n 2, 1) := by decide +kernel
theorem dX0_press_28 : decode cX0_press 28 = .ok (.aload_n 0, 1) := by decide +kernel
theorem dX0_press_29 : decode cX0_press 29 = .ok (.getfield 7, 3) := by decide +kernel
theorem dX0_press_32 : decode cX0_press 32 = .ok (.sipush 255, 3) := by decide +kernel
theorem dX0_press_35 : decode cX0_press 35 = .ok (.iload_n 1, 1) := by decide +kernel
theorem dX0_press_36 : decode cX0_press 36 = .ok (.iadd, 1) := by decide +kernel
theorem dX0_press_37 : decode cX0_press 37 = .ok (.iaload, 1) := by decide +kernel
theorem dX0_press_38 : decode cX0_press 38 = .ok (.istore_n 3, 1) := by decide +kernel
theorem dX0_press_39 : decode cX0_press 39 = .ok (.iload_n 2, 1) := by decide +kernel
theorem dX0_press_40 : decode cX0_press 40 = .ok (.iconst 2, 1) := by decide +kernel
theorem dX0_press_41 : decode cX0_press 41 = .ok (.if_icmp .ne 52, 3) := by decide +kernel
theorem dX0_press_44 : decode cX0_press 44 = .ok (.iload_n 3, 1) := by decide +kernel
theorem dX0_press_45 : decode cX0_press 45 = .ok (.iconst 1, 1) := by decide +kernel
theorem dX0_press_46 : decode cX0_press 46 = .ok (.if_icmp .eq 8, 3) := by decide +kernel
theorem dX0_press_49 : decode cX0_press 49 = .ok (.iload_n 3, 1) := by decide +kernel
theorem dX0_press_50 : decode cX0_press 50 = .ok (.iconst 4, 1) := by decide +kernel
theorem dX0_press_51 : decode cX0_press 51 = .ok (.if_icmp .ne 7, 3) := by decide +kernel
theorem dX0_press_54 : decode cX0_press 54 = .ok (.iconst 1, 1) := by decide +kernel
theorem dX0_press_55 : decode cX0_press 55 = .ok (.goto 4, 3) := by decide +kernel
theorem dX0_press_58 : decode cX0_press 58 = .ok (.iconst 0, 1) := by decide +kernel
theorem dX0_press_59 : decode cX0_press 59 = .ok (.istore 4, 2) := by decide +kernel
theorem dX0_press_61 : decode cX0_press 61 = .ok (.aload_n 0, 1) := by decide +kernel
theorem dX0_press_62 : decode cX0_press 62 = .ok (.getfield 7, 3) := by decide +kernel
theorem dX0_press_65 : decode cX0_press 65 = .ok (.sipush 255, 3) := by decide +kernel
theorem dX0_press_68 : decode cX0_press 68 = .ok (.iload_n 1, 1) := by decide +kernel
theorem dX0_press_69 : decode cX0_press 69 = .ok (.iadd, 1) := by decide +kernel
theorem dX0_press_70 : decode cX0_press 70 = .ok (.iload 4, 2) := by decide +kernel
theorem dX0_press_72 : decode cX0_press 72 = .ok (.ifCond .eq 7, 3) := by decide +kernel
theorem dX0_press_75 : decode cX0_press 75 = .ok (.iconst 3, 1) := by decide +kernel
theorem dX0_press_76 : decode cX0_press 76 = .ok (.goto 13, 3) := by decide +kernel
theorem dX0_press_79 : decode cX0_press 79 = .ok (.iload_n 3, 1) := by decide +kernel
theorem dX0_press_80 : decode cX0_press 80 = .ok (.iconst 3, 1) := by decide +kernel
theorem dX0_press_81 : decode cX0_press 81 = .ok (.if_icmp .ne 7, 3) := by decide +kernel
theorem dX0_press_84 : decode cX0_press 84 = .ok (.iconst 3, 1) := by decide +kernel
theorem dX0_press_85 : decode cX0_press 85 = .ok (.goto 4, 3) := by decide +kernel
theorem dX0_press_88 : decode cX0_press 88 = .ok (.iconst 2, 1) := by decide +kernel
theorem dX0_press_89 : decode cX0_press 89 = .ok (.iastore, 1) := by decide +kernel
theorem dX0_press_90 : decode cX0_press 90 = .ok (.goto 44, 3) := by decide +kernel
theorem dX0_press_93 : decode cX0_press 93 = .ok (.iload_n 2, 1) := by decide +kernel
theorem dX0_press_94 : decode cX0_press 94 = .ok (.ifCond .eq 40, 3) := by decide +kernel
theorem dX0_press_97 : decode cX0_press 97 = .ok (.aload_n 0, 1) := by decide +kernel
theorem dX0_press_98 : decode cX0_press 98 = .ok (.iconst 3, 1) := by decide +kernel
theorem dX0_press_99 : decode cX0_press 99 = .ok (.iload_n 1, 1) := by decide +kernel
theorem dX0_press_100 : decode cX0_press 100 = .ok (.invokevirtual 69, 3) := by decide +kernel
theorem dX0_press_103 : decode cX0_press 103 = .ok (.aload_n 0, 1) := by decide +kernel
theorem dX0_press_104 : decode cX0_press 104 = .ok (.getfield 7, 3) := by decide +kernel
theorem dX0_press_107 : decode cX0_press 107 = .ok (.sipush 255, 3) := by decide +kernel
theorem dX0_press_110 : decode cX0_press 110 = .ok (.iload_n 1, 1) := by decide +kernel
theorem dX0_press_111 : decode cX0_press 111 = .ok (.iadd, 1) := by decide +kernel
theorem dX0_press_112 : decode cX0_press 112 = .ok (.iload_n 2, 1) := by decide +kernel
theorem dX0_press_113 : decode cX0_press 113 = .ok (.iastore, 1) := by decide +kernel
theorem dX0_press_114 : decode cX0_press 114 = .ok (.aload_n 0, 1) := by decide +kernel
theorem dX0_press_115 : decode cX0_press 115 = .ok (.getfield 13, 3) := by decide +kernel
theorem dX0_press_118 : decode cX0_press 118 = .ok (.sipush 255, 3) := by decide +kernel
theorem dX0_press_121 : decode cX0_press 121 = .ok (.iload_n 1, 1) := by decide +kernel
theorem dX0_press_122 : decode cX0_press 122 = .ok (.iadd, 1) := by decide +kernel
theorem dX0_press_123 : decode cX0_press 123 = .ok (.aload_n 0, 1) := by decide +kernel
theorem dX0_press_124 : decode cX0_press 124 = .ok (.getfield 13, 3) := by decide +kernel
theorem dX0_press_127 : decode cX0_press 127 = .ok (.sipush 340, 3) := by decide +kernel
theorem dX0_press_130 : decode cX0_press 130 = .ok (.iload_n 1, 1) := by decide +kernel
theorem dX0_press_131 : decode cX0_press 131 = .ok (.iadd, 1) := by decide +kernel
theorem dX0_press_132 : decode cX0_press 132 = .ok (.iaload, 1) := by decide +kernel
theorem dX0_press_133 : decode cX0_press 133 = .ok (.iastore, 1) := by decide +kernel
theorem dX0_press_134 : decode cX0_press 134 = .ok (.aload_n 0, 1) := by decide +kernel
theorem dX0_press_135 : decode cX0_press 135 = .ok (.getfield 7, 3) := by decide +kernel
theorem dX0_press_138 : decode cX0_press 138 = .ok (.sipush 340, 3) := by decide +kernel
theorem dX0_press_141 : decode cX0_press 141 = .ok (.iload_n 1, 1) := by decide +kernel
theorem dX0_press_142 : decode cX0_press 142 = .ok (.iadd, 1) := by decide +kernel
theorem dX0_press_143 : decode cX0_press 143 = .ok (.iconst 0, 1) := by decide +kernel
theorem dX0_press_144 : decode cX0_press 144 = .ok (.iastore, 1) := by decide +kernel
theorem dX0_press_145 : decode cX0_press 145 = .ok (.iinc 1 1, 3) := by decide +kernel
theorem dX0_press_148 : decode cX0_press 148 = .ok (.goto (-137), 3) := by decide +kernel
theorem dX0_press_151 : decode cX0_press 151 = .ok (.iconst 0, 1) := by decide +kernel
theorem dX0_press_152 : decode cX0_press 152 = .ok (.ireturn, 1) := by decide +kernel
end
section
set_option maxRecDepth 100000
theorem dX1_init_0 : decode cX1_init 0 = .ok (.aload_n 0, 1) := by decide +kernel
theorem dX1_init_1 : decode cX1_init 1 = .ok (.invokespecial 1, 3) := by decide +kernel
theorem dX1_init_4 : decode cX1_init 4 = .ok (.aload_n 0, 1) := by decide +kernel
theorem dX1_init_5 : decode cX1_init 5 = .ok (.sipush 255, 3) := by decide +kernel
theorem dX1_init_8 : decode cX1_init 8 = .ok (.newarray .int, 2) := by decide +kernel
theorem dX1_init_10 : decode cX1_init 10 = .ok (.putfield 7, 3) := by decide +kernel
theorem dX1_init_13 : decode cX1_init 13 = .ok (.aload_n 0, 1) := by decide +kernel
theorem dX1_init_14 : decode cX1_init 14 = .ok (.sipush 255, 3) := by decide +kernel
theorem dX1_init_17 : decode cX1_init 17 = .ok (.newarray .int, 2) := by decide +kernel
theorem dX1_init_19 : decode cX1_init 19 = .ok (.putfield 13, 3) := by decide +kernel
theorem dX1_init_22 : decode cX1_init 22 = .ok (.aload_n 0, 1) := by decide +kernel
theorem dX1_init_23 : decode cX1_init 23 = .ok (.bipush 85, 2) := by decide +kernel
theorem dX1_init_25 : decode cX1_init 25 = .ok (.newarray .int, 2) := by decide +kernel
theorem dX1_init_27 : decode cX1_init 27 = .ok (.putfield 16, 3) := by decide +kernel
theorem dX1_init_30 : decode cX1_init 30 = .ok (.aload_n 0, 1) := by decide +kernel
theorem dX1_init_31 : decode cX1_init 31 = .ok (.bipush 85, 2) := by decide +kernel
theorem dX1_init_33 : decode cX1_init 33 = .ok (.newarray .int, 2) := by decide +kernel
theorem dX1_init_35 : decode cX1_init 35 = .ok (.putfield 19, 3) := by decide +kernel
theorem dX1_init_38 : decode cX1_init 38 = .ok (.aload_n 0, 1) := by decide +kernel
theorem dX1_init_39 : decode cX1_init 39 = .ok (.bipush 85, 2) := by decide +kernel
theorem dX1_init_41 : decode cX1_init 41 = .ok (.newarray .int, 2) := by decide +kernel
theorem dX1_init_43 : decode cX1_init 43 = .ok (.putfield 22, 3) := by decide +kernel
theorem dX1_init_46 : decode cX1_init 46 = .ok (.return_, 1) := by decide +kernel
theorem dX1_fill_0 : decode cX1_fill 0 = .ok (.aload_n 0, 1) := by decide +kernel
theorem dX1_fill_1 : decode cX1_fill 1 = .ok (.getfield 25, 3) := by decide +kernel
theorem dX1_fill_4 : decode cX1_fill 4 = .ok (.ifCond .ne 34, 3) := by decide +kernel
theorem dX1_fill_7 : decode cX1_fill 7 = .ok (.iload_n 1, 1) := by decide +kernel
theorem dX1_fill_8 : decode cX1_fill 8 = .ok (.ifCond .lt 30, 3) := by decide +kernel
theorem dX1_fill_11 : decode cX1_fill 11 = .ok (.iload_n 1, 1) := by decide +kernel
theorem dX1_fill_12 : decode cX1_fill 12 = .ok (.iconst 2, 1) := by decide +kernel
theorem dX1_fill_13 : decode cX1_fill 13 = .ok (.if_icmp .gt 25, 3) := by decide +kernel
theorem dX1_fill_16 : decode cX1_fill 16 = .ok (.iload_n 2, 1) := by decide +kernel
theorem dX1_fill_17 : decode cX1_fill 17 = .ok (.iconst 1, 1) := by decide +kernel
theorem dX1_fill_18 : decode cX1_fill 18 = .ok (.if_icmp .lt 20, 3) := by decide +kernel
theorem dX1_fill_21 : decode cX1_fill 21 = .ok (.iload_n 2, 1) := by decide +kernel
theorem dX1_fill_22 : decode cX1_fill 22 = .ok (.invokestatic 29, 3) := by decide +kernel
theorem dX1_fill_25 : decode cX1_fill 25 = .ok (.ifCond .ne 13, 3) := by decide +kernel
theorem dX1_fill_28 : decode cX1_fill 28 = .ok (.iload_n 3, 1) := by decide +kernel
theorem dX1_fill_29 : decode cX1_fill 29 = .ok (.iconst 1, 1) := by decide +kernel
theorem dX1_fill_30 : decode cX1_fill 30 = .ok (.if_icmp .lt 8, 3) := by decide +kernel
theorem dX1_fill_33 : decode cX1_fill 33 = .ok (.iload_n 3, 1) := by decide +kernel
theorem dX1_fill_34 : decode cX1_fill 34 = .ok (.iconst 4, 1) := by decide +kernel
theorem dX1_fill_35 : decode cX1_fill 35 = .ok (.if_icmp .le 5, 3) := by decide +kernel
theorem dX1_fill_38 : decode cX1_fill 38 = .ok (.iconst (-1), 1) := by decide +kernel
theorem dX1_fill_39 : decode cX1_fill 39 = .ok (.ireturn, 1) := by decide +kernel
theorem dX1_fill_40 : decode cX1_fill 40 = .ok (.iload_n 2, 1) := by decide +kernel
theorem dX1_fill_41 : decode cX1_fill 41 = .ok (.invokestatic 33, 3) := by decide +kernel
theorem dX1_fill_44 : decode cX1_fill 44 = .ok (.istore 5, 2) := by decide +kernel
theorem dX1_fill_46 : decode cX1_fill 46 = .ok (.aload_n 0, 1) := by decide +kernel
theorem dX1_fill_47 : decode cX1_fill 47 = .ok (.getfield 7, 3) := by decide +kernel
theorem dX1_fill_50 : decode cX1_fill 50 = .ok (.bipush 85, 2) := by decide +kernel
theorem dX1_fill_52 : decode cX1_fill 52 = .ok (.iload_n 1, 1) := by decide +kernel
theorem dX1_fill_53 : decode cX1_fill 53 = .ok (.imul, 1) := by decide +kernel
theorem dX1_fill_54 : decode cX1_fill 54 = .ok (.iload_n 2, 1) := by decide +kernel
theorem dX1_fill_55 : decode cX1_fill 55 = .ok (.iadd, 1) := by decide +kernel
theorem dX1_fill_56 : decode cX1_fill 56 = .ok (.iaload, 1) := by decide +kernel
theorem dX1_fill_57 : decode cX1_fill 57 = .ok (.ifCond .ne 13, 3) := by decide +kernel
theorem dX1_fill_60 : decode cX1_fill 60 = .ok (.aload_n 0, 1) := by decide +kernel
theorem dX1_fill_61 : decode cX1_fill 61 = .ok (.iload_n 1, 1) := by decide +kernel
theorem dX1_fill_62 : decode cX1_fill 62 = .ok (.iload 5, 2) := by decide +kernel
theorem dX1_fill_64 : decode cX1_fill 64 = .ok (.invokevirtual 37, 3) := by decide +kernel
theorem dX1_fill_67 : decode cX1_fill 67 = .ok (.ifCond .ne 5, 3) := by decide +kernel
theorem dX1_fill_70 : decode cX1_fill 70 = .ok (.iconst (-1), 1) := by decide +kernel
theorem dX1_fill_71 : decode cX1_fill 71 = .ok (.ireturn, 1) := by decide +kernel
theorem dX1_fill_72 : decode cX1_fill 72 = .ok (.aload_n 0, 1) := by decide +kernel
theorem dX1_fill_73 : decode cX1_fill 73 = .ok (.getfield 7, 3) := by decide +kernel
theorem dX1_fill_76 : decode cX1_fill 76 = .ok (.bipush 85, 2) := by decide +kernel
theorem dX1_fill_78 : decode cX1_fill 78 = .ok (.iload_n 1, 1) := by decide +kernel
theorem dX1_fill_79 : decode cX1_fill 79 = .ok (.imul, 1) := by decide +kernel
theorem dX1_fill_80 : decode cX1_fill 80 = .ok (.iload_n 2, 1) := by decide +kernel
theorem dX1_fill_81 : decode cX1_fill 81 = .ok (.iadd, 1) := by decide +kernel
theorem dX1_fill_82 : decode cX1_fill 82 = .ok (.iload_n 3, 1) := by decide +kernel
theorem dX1_fill_83 : decode cX1_fill 83 = .ok (.iastore, 1) := by decide +kernel
theorem dX1_fill_84 : decode cX1_fill 84 = .ok (.aload_n 0, 1) := by decide +kernel
theorem dX1_fill_85 : decode cX1_fill 85 = .ok (.getfield 13, 3) := by decide +kernel
theorem dX1_fill_88 : decode cX1_fill 88 = .ok (.bipush 85, 2) := by decide +kernel
theorem dX1_fill_90 : decode cX1_fill 90 = .ok (.iload_n 1, 1) := by decide +kernel
theorem dX1_fill_91 : decode cX1_fill 91 = .ok (.imul, 1) := by decide +kernel
theorem dX1_fill_92 : decode cX1_fill 92 = .ok (.iload_n 2, 1) := by decide +kernel
theorem dX1_fill_93 : decode cX1_fill 93 = .ok (.iadd, 1) := by decide +kernel
theorem dX1_fill_94 : decode cX1_fill 94 = .ok (.iload 4, 2) := by decide +kernel
theorem dX1_fill_96 : decode cX1_fill 96 = .ok (.iastore, 1) := by decide +kernel
theorem dX1_fill_97 : decode cX1_fill 97 = .ok (.iconst 0, 1) := by decide +kernel
theorem dX1_fill_98 : decode cX1_fill 98 = .ok (.ireturn, 1) := by decide +kernel
theorem dX1_bad_0 : decode cX1_bad 0 = .ok (.iload_n 0, 1) := by decide +kernel
theorem dX1_bad_1 : decode cX1_bad 1 = .ok (.ifCond .lt 9, 3) := by decide +kernel
theorem dX1_bad_4 : decode cX1_bad 4 = .ok (.iload_n 0, 1) := by decide +kernel
theorem dX1_bad_5 : decode cX1_bad 5 = .ok (.bipush 84, 2) := by decide +kernel
theorem dX1_bad_7 : decode cX1_bad 7 = .ok (.if_icmp .le 7, 3) := by decide +kernel
theorem dX1_bad_10 : decode cX1_bad 10 = .ok (.iconst 1, 1) := by decide +kernel
theorem dX1_bad_11 : decode cX1_bad 11 = .ok (.goto 4, 3) := by decide +kernel
theorem dX1_bad_14 : decode cX1_bad 14 = .ok (.iconst 0, 1) := by decide +kernel
theorem dX1_bad_15 : decode cX1_bad 15 = .ok (.ireturn, 1) := by decide +kernel
theorem dX1_parent_0 : decode cX1_parent 0 = .ok (.iload_n 0, 1) := by decide +kernel
theorem dX1_parent_1 : decode cX1_parent 1 = .ok (.iconst 1, 1) := by decide +kernel
theorem dX1_parent_2 : decode cX1_parent 2 = .ok (.isub, 1) := by decide +kernel
theorem dX1_parent_3 : decode cX1_parent 3 = .ok (.iconst 4, 1) := by decide +kernel
theorem dX1_parent_4 : decode cX1_parent 4 = .ok (.idiv, 1) := by decide +kernel
theorem dX1_parent_5 : decode cX1_parent 5 = .ok (.ireturn, 1) := by decide +kernel
theorem dX1_layerDirectory_0 : decode cX1_layerDirectory 0 = .ok (.aload_n 0, 1) := by decide +kernel
theorem dX1_layerDirectory_1 : decode cX1_layerDirectory 1 = .ok (.getfield 7, 3) := by decide +kernel
theorem dX1_layerDirectory_4 : decode cX1_layerDirectory 4 = .ok (.bipush 85, 2) := by decide +kernel
theorem dX1_layerDirectory_6 : decode cX1_layerDirectory 6 = .ok (.iload_n 1, 1) := by decide +kernel
theorem dX1_layerDirectory_7 : decode cX1_layerDirectory 7 = .ok (.imul, 1) := by decide +kernel
theorem dX1_layerDirectory_8 : decode cX1_layerDirectory 8 = .ok (.iload_n 2, 1) := by decide +kernel
theorem dX1_layerDirectory_9 : decode cX1_layerDirectory 9 = .ok (.iadd, 1) := by decide +kernel
theorem dX1_layerDirectory_10 : decode cX1_layerDirectory 10 = .ok (.iaload, 1) := by decide +kernel
theorem dX1_layerDirectory_11 : decode cX1_layerDirectory 11 = .ok (.istore_n 3, 1) := by decide +kernel
theorem dX1_layerDirectory_12 : decode cX1_layerDirectory 12 = .ok (.iload_n 2, 1) := by decide +kernel
theorem dX1_layerDirectory_13 : decode cX1_layerDirectory 13 = .ok (.ifCond .eq 13, 3) := by decide +kernel
theorem dX1_layerDirectory_16 : decode cX1_layerDirectory 16 = .ok (.iload_n 3, 1) := by decide +kernel
theorem dX1_layerDirectory_17 : decode cX1_layerDirectory 17 = .ok (.iconst 2, 1) := by decide +kernel
theorem dX1_layerDirectory_18 : decode cX1_layerDirectory 18 = .ok (.if_icmp .eq 8, 3) := by decide +kernel
theorem dX1_layerDirectory_21 : decode cX1_layerDirectory 21 = .ok (.iload_n 3, 1) := by decide +kernel
theorem dX1_layerDirectory_22 : decode cX1_layerDirectory 22 = .ok (.iconst 3, 1) := by decide +kernel
theorem dX1_layerDirectory_23 : decode cX1_layerDirectory 23 = .ok (.if_icmp .ne 7, 3) := by decide +kernel
theorem dX1_layerDirectory_26 : decode cX1_layerDirectory 26 = .ok (.iconst 1, 1) := by decide +kernel
theorem dX1_layerDirectory_27 : decode cX1_layerDirectory 27 = .ok (.goto 4, 3) := by decide +kernel
theorem dX1_layerDirectory_30 : decode cX1_layerDirectory 30 = .ok (.iconst 0, 1) := by decide +kernel
theorem dX1_layerDirectory_31 : decode cX1_layerDirectory 31 = .ok (.ireturn, 1) := by decide +kernel
theorem dX1_mount_0 : decode cX1_mount 0 = .ok (.aload_n 0, 1) := by decide +kernel
theorem dX1_mount_1 : decode cX1_mount 1 = .ok (.getfield 25, 3) := by decide +kernel
theorem dX1_mount_4 : decode cX1_mount 4 = .ok (.ifCond .eq 5, 3) := by decide +kernel
theorem dX1_mount_7 : decode cX1_mount 7 = .ok (.iconst (-1), 1) := by decide +kernel
theorem dX1_mount_8 : decode cX1_mount 8 = .ok (.ireturn, 1) := by decide +kernel
theorem dX1_mount_9 : decode cX1_mount 9 = .ok (.aload_n 0, 1) := by decide +kernel
theorem dX1_mount_10 : decode cX1_mount 10 = .ok (.iconst 1, 1) := by decide +kernel
theorem dX1_mount_11 : decode cX1_mount 11 = .ok (.putfield 25, 3) := by decide +kernel
theorem dX1_mount_14 : decode cX1_mount 14 = .ok (.aload_n 0, 1) := by decide +kernel
theorem dX1_mount_15 : decode cX1_mount 15 = .ok (.getfield 16, 3) := by decide +kernel
theorem dX1_mount_18 : decode cX1_mount 18 = .ok (.iconst 0, 1) := by decide +kernel
theorem dX1_mount_19 : decode cX1_mount 19 = .ok (.iconst 2, 1) := by decide +kernel
theorem dX1_mount_20 : decode cX1_mount 20 = .ok (.iastore, 1) := by decide +kernel
theorem dX1_mount_21 : decode cX1_mount 21 = .ok (.iconst 1, 1) := by decide +kernel
theorem dX1_mount_22 : decode cX1_mount 22 = .ok (.istore_n 1, 1) := by decide +kernel
theorem dX1_mount_23 : decode cX1_mount 23 = .ok (.iload_n 1, 1) := by decide +kernel
theorem dX1_mount_24 : decode cX1_mount 24 = .ok (.bipush 85, 2) := by decide +kernel
theorem dX1_mount_26 : decode cX1_mount 26 = .ok (.if_icmp .ge 14, 3) := by decide +kernel
theorem dX1_mount_29 : decode cX1_mount 29 = .ok (.aload_n 0, 1) := by decide +kernel
theorem dX1_mount_30 : decode cX1_mount 30 = .ok (.iload_n 1, 1) := by decide +kernel
theorem dX1_mount_31 : decode cX1_mount 31 = .ok (.invokevirtual 44, 3) := by decide +kernel
theorem dX1_mount_34 : decode cX1_mount 34 = .ok (.iinc 1 1, 3) := by decide +kernel
theorem dX1_mount_37 : decode cX1_mount 37 = .ok (.goto (-14), 3) := by decide +kernel
theorem dX1_mount_40 : decode cX1_mount 40 = .ok (.aload_n 0, 1) := by decide +kernel
theorem dX1_mount_41 : decode cX1_mount 41 = .ok (.invokevirtual 48, 3) := by decide +kernel
theorem dX1_mount_44 : decode cX1_mount 44 = .ok (.ireturn, 1) := by decide +kernel
theorem dX1_merge_0 : decode cX1_merge 0 = .ok (.aload_n 0, 1) := by decide +kernel
theorem dX1_merge_1 : decode cX1_merge 1 = .ok (.getfield 16, 3) := by decide +kernel
theorem dX1_merge_4 : decode cX1_merge 4 = .ok (.iload_n 1, 1) := by decide +kernel
theorem dX1_merge_5 : decode cX1_merge 5 = .ok (.invokestatic 33, 3) := by decide +kernel
theorem dX1_merge_8 : decode cX1_merge 8 = .ok (.iaload, 1) := by decide +kernel
theorem dX1_merge_9 : decode cX1_merge 9 = .ok (.iconst 2, 1) := by decide +kernel
theorem dX1_merge_10 : decode cX1_merge 10 = .ok (.if_icmp .eq 4, 3) := by decide +kernel
theorem dX1_merge_13 : decode cX1_merge 13 = .ok (.return_, 1) := by decide +kernel
theorem dX1_merge_14 : decode cX1_merge 14 = .ok (.iconst 2, 1) := by decide +kernel
theorem dX1_merge_15 : decode cX1_merge 15 = .ok (.istore_n 2, 1) := by decide +kernel
theorem dX1_merge_16 : decode cX1_merge 16 = .ok (.iload_n 2, 1) := by decide +kernel
theorem dX1_merge_17 : decode cX1_merge 17 = .ok (.ifCond .lt 81, 3) := by decide +kernel
theorem dX1_merge_20 : decode cX1_merge 20 = .ok (.aload_n 0, 1) := by decide +kernel
theorem dX1_merge_21 : decode cX1_merge 21 = .ok (.getfield 7, 3) := by decide +kernel
theorem dX1_merge_24 : decode cX1_merge 24 = .ok (.bipush 85, 2) := by decide +kernel
theorem dX1_merge_26 : decode cX1_merge 26 = .ok (.iload_n 2, 1) := by decide +kernel
theorem dX1_merge_27 : decode cX1_merge 27 = .ok (.imul, 1) := by decide +kernel
theorem dX1_merge_28 : decode cX1_merge 28 = .ok (.iload_n 1, 1) := by decide +kernel
theorem dX1_merge_29 : decode cX1_merge 29 = .ok (.iadd, 1) := by decide +kernel
theorem dX1_merge_30 : decode cX1_merge 30 = .ok (.iaload, 1) := by decide +kernel
theorem dX1_merge_31 : decode cX1_merge 31 = .ok (.istore_n 3, 1) := by decide +kernel
theorem dX1_merge_32 : decode cX1_merge 32 = .ok (.iload_n 3, 1) := by decide +kernel
theorem dX1_merge_33 : decode cX1_merge 33 = .ok (.iconst 1, 1) := by decide +kernel
theorem dX1_merge_34 : decode cX1_merge 34 = .ok (.if_icmp .ne 27, 3) := by decide +kernel
theorem dX1_merge_37 : decode cX1_merge 37 = .ok (.aload_n 0, 1) := by decide +kernel
theorem dX1_merge_38 : decode cX1_merge 38 = .ok (.getfield 16, 3) := by decide +kernel
theorem dX1_merge_41 : decode cX1_merge 41 = .ok (.iload_n 1, 1) := by decide +kernel
theorem dX1_merge_42 : decode cX1_merge 42 = .ok (.iconst 1, 1) := by decide +kernel
theorem dX1_merge_43 : decode cX1_merge 43 = .ok (.iastore, 1) := by decide +kernel
theorem dX1_merge_44 : decode cX1_merge 44 = .ok (.aload_n 0, 1) := by decide +kernel
theorem dX1_merge_45 : decode cX1_merge 45 = .ok (.getfield 19, 3) := by decide +kernel
theorem dX1_merge_48 : decode cX1_merge 48 = .ok (.iload_n 1, 1) := by decide +kernel
theorem dX1_merge_49 : decode cX1_merge 49 = .ok (.aload_n 0, 1) := by decide +kernel
theorem dX1_merge_50 : decode cX1_merge 50 = .ok (.getfield 13, 3) := by decide +kernel
theorem dX1_merge_53 : decode cX1_merge 53 = .ok (.bipush 85, 2) := by decide +kernel
theorem dX1_merge_55 : decode cX1_merge 55 = .ok (.iload_n 2, 1) := by decide +kernel
theorem dX1_merge_56 : decode cX1_merge 56 = .ok (.imul, 1) := by decide +kernel
theorem dX1_merge_57 : decode cX1_merge 57 = .ok (.iload_n 1, 1) := by decide +kernel
theorem dX1_merge_58 : decode cX1_merge 58 = .ok (.iadd, 1) := by decide +kernel
theorem dX1_merge_59 : decode cX1_merge 59 = .ok (.iaload, 1) := by decide +kernel
theorem dX1_merge_60 : decode cX1_merge 60 = .ok (.iastore, 1) := by decide +kernel
theorem dX1_merge_61 : decode cX1_merge 61 = .ok (.iload_n 3, 1) := by decide +kernel
theorem dX1_merge_62 : decode cX1_merge 62 = .ok (.iconst 2, 1) := by decide +kernel
theorem dX1_merge_63 : decode cX1_merge 63 = .ok (.if_icmp .eq 8, 3) := by decide +kernel
theorem dX1_merge_66 : decode cX1_merge 66 = .ok (.iload_n 3, 1) := by decide +kernel
theorem dX1_merge_67 : decode cX1_merge 67 = .ok (.iconst 3, 1) := by decide +kernel
theorem dX1_merge_68 : decode cX1_merge 68 = .ok (.if_icmp .ne 10, 3) := by decide +kernel
theorem dX1_merge_71 : decode cX1_merge 71 = .ok (.aload_n 0, 1) := by decide +kernel
theorem dX1_merge_72 : decode cX1_merge 72 = .ok (.getfield 16, 3) := by decide +kernel
theorem dX1_merge_75 : decode cX1_merge 75 = .ok (.iload_n 1, 1) := by decide +kernel
theorem dX1_merge_76 : decode cX1_merge 76 = .ok (.iconst 2, 1) := by decide +kernel
theorem dX1_merge_77 : decode cX1_merge 77 = .ok (.iastore, 1) := by decide +kernel
theorem dX1_merge_78 : decode cX1_merge 78 = .ok (.iload_n 3, 1) := by decide +kernel
theorem dX1_merge_79 : decode cX1_merge 79 = .ok (.ifCond .ne 12, 3) := by decide +kernel
theorem dX1_merge_82 : decode cX1_merge 82 = .ok (.aload_n 0, 1) := by decide +kernel
theorem dX1_merge_83 : decode cX1_merge 83 = .ok (.iload_n 2, 1) := by decide +kernel
theorem dX1_merge_84 : decode cX1_merge 84 = .ok (.iload_n 1, 1) := by decide +kernel
theorem dX1_merge_85 : decode cX1_merge 85 = .ok (.invokevirtual 41, 3) := by decide +kernel
theorem dX1_merge_88 : decode cX1_merge 88 = .ok (.ifCond .eq 4, 3) := by decide +kernel
theorem dX1_merge_91 : decode cX1_merge 91 = .ok (.return_, 1) := by decide +kernel
theorem dX1_merge_92 : decode cX1_merge 92 = .ok (.iinc 2 (-1), 3) := by decide +kernel
theorem dX1_merge_95 : decode cX1_merge 95 = .ok (.goto (-79), 3) := by decide +kernel
theorem dX1_merge_98 : decode cX1_merge 98 = .ok (.return_, 1) := by decide +kernel
theorem dX1_hidden_0 : decode cX1_hidden 0 = .ok (.iload_n 2, 1) := by decide +kernel
theorem dX1_hidden_1 : decode cX1_hidden 1 = .ok (.istore_n 3, 1) := by decide +kernel
theorem dX1_hidden_2 : decode cX1_hidden 2 = .ok (.iload_n 3, 1) := by decide +kernel
theorem dX1_hidden_3 : decode cX1_hidden 3 = .ok (.ifCond .le 48, 3) := by decide +kernel
theorem dX1_hidden_6 : decode cX1_hidden 6 = .ok (.iload_n 3, 1) := by decide +kernel
theorem dX1_hidden_7 : decode cX1_hidden 7 = .ok (.invokestatic 33, 3) := by decide +kernel
theorem dX1_hidden_10 : decode cX1_hidden 10 = .ok (.istore_n 3, 1) := by decide +kernel
theorem dX1_hidden_11 : decode cX1_hidden 11 = .ok (.aload_n 0, 1) := by decide +kernel
theorem dX1_hidden_12 : decode cX1_hidden 12 = .ok (.getfield 7, 3) := by decide +kernel
theorem dX1_hidden_15 : decode cX1_hidden 15 = .ok (.bipush 85, 2) := by decide +kernel
theorem dX1_hidden_17 : decode cX1_hidden 17 = .ok (.iload_n 1, 1) := by decide +kernel
theorem dX1_hidden_18 : decode cX1_hidden 18 = .ok (.imul, 1) := by decide +kernel
theorem dX1_hidden_19 : decode cX1_hidden 19 = .ok (.iload_n 3, 1) := by decide +kernel
theorem dX1_hidden_20 : decode cX1_hidden 20 = .ok (.iadd, 1) := by decide +kernel
theorem dX1_hidden_21 : decode cX1_hidden 21 = .ok (.iaload, 1) := by decide +kernel
theorem dX1_hidden_22 : decode cX1_hidden 22 = .ok (.istore 4, 2) := by decide +kernel
theorem dX1_hidden_24 : decode cX1_hidden 24 = .ok (.iload_n 3, 1) := by decide +kernel
theorem dX1_hidden_25 : decode cX1_hidden 25 = .ok (.ifCond .le 23, 3) := by decide +kernel
theorem dX1_hidden_28 : decode cX1_hidden 28 = .ok (.iload 4, 2) := by decide +kernel
theorem dX1_hidden_30 : decode cX1_hidden 30 = .ok (.iconst 1, 1) := by decide +kernel
theorem dX1_hidden_31 : decode cX1_hidden 31 = .ok (.if_icmp .eq 15, 3) := by decide +kernel
theorem dX1_hidden_34 : decode cX1_hidden 34 = .ok (.iload 4, 2) := by decide +kernel
theorem dX1_hidden_36 : decode cX1_hidden 36 = .ok (.iconst 3, 1) := by decide +kernel
theorem dX1_hidden_37 : decode cX1_hidden 37 = .ok (.if_icmp .eq 9, 3) := by decide +kernel
theorem dX1_hidden_40 : decode cX1_hidden 40 = .ok (.iload 4, 2) := by decide +kernel
theorem dX1_hidden_42 : decode cX1_hidden 42 = .ok (.iconst 4, 1) := by decide +kernel
theorem dX1_hidden_43 : decode cX1_hidden 43 = .ok (.if_icmp .ne 5, 3) := by decide +kernel
theorem dX1_hidden_46 : decode cX1_hidden 46 = .ok (.iconst 1, 1) := by decide +kernel
theorem dX1_hidden_47 : decode cX1_hidden 47 = .ok (.ireturn, 1) := by decide +kernel
theorem dX1_hidden_48 : decode cX1_hidden 48 = .ok (.goto (-46), 3) := by decide +kernel
theorem dX1_hidden_51 : decode cX1_hidden 51 = .ok (.iconst 0, 1) := by decide +kernel
theorem dX1_hidden_52 : decode cX1_hidden 52 = .ok (.ireturn, 1) := by decide +kernel
theorem dX1_total_0 : decode cX1_total 0 = .ok (.iconst 0, 1) := by decide +kernel
theorem dX1_total_1 : decode cX1_total 1 = .ok (.istore_n 1, 1) := by decide +kernel
theorem dX1_total_2 : decode cX1_total 2 = .ok (.iconst 1, 1) := by decide +kernel
theorem dX1_total_3 : decode cX1_total 3 = .ok (.istore_n 2, 1) := by decide +kernel
theorem dX1_total_4 : decode cX1_total 4 = .ok (.iload_n 2, 1) := by decide +kernel
theorem dX1_total_5 : decode cX1_total 5 = .ok (.bipush 85, 2) := by decide +kernel
theorem dX1_total_7 : decode cX1_total 7 = .ok (.if_icmp .ge 21, 3) := by decide +kernel
theorem dX1_total_10 : decode cX1_total 10 = .ok (.aload_n 0, 1) := by decide +kernel
theorem dX1_total_11 : decode cX1_total 11 = .ok (.getfield 16, 3) := by decide +kernel
theorem dX1_total_14 : decode cX1_total 14 = .ok (.iload_n 2, 1) := by decide +kernel
theorem dX1_total_15 : decode cX1_total 15 = .ok (.iaload, 1) := by decide +kernel
theorem dX1_total_16 : decode cX1_total 16 = .ok (.ifCond .eq 6, 3) := by decide +kernel
theorem dX1_total_19 : decode cX1_total 19 = .ok (.iinc 1 1, 3) := by decide +kernel
theorem dX1_total_22 : decode cX1_total 22 = .ok (.iinc 2 1, 3) := by decide +kernel
theorem dX1_total_25 : decode cX1_total 25 = .ok (.goto (-21), 3) := by decide +kernel
theorem dX1_total_28 : decode cX1_total 28 = .ok (.iload_n 1, 1) := by decide +kernel
theorem dX1_total_29 : decode cX1_total 29 = .ok (.ireturn, 1) := by decide +kernel
theorem dX1_make_0 : decode cX1_make 0 = .ok (.aload_n 0, 1) := by decide +kernel
theorem dX1_make_1 : decode cX1_make 1 = .ok (.iload_n 1, 1) := by decide +kernel
theorem dX1_make_2 : decode cX1_make 2 = .ok (.invokevirtual 52, 3) := by decide +kernel
theorem dX1_make_5 : decode cX1_make 5 = .ok (.ifCond .ne 5, 3) := by decide +kernel
theorem dX1_make_8 : decode cX1_make 8 = .ok (.iconst (-1), 1) := by decide +kernel
theorem dX1_make_9 : decode cX1_make 9 = .ok (.ireturn, 1) := by decide +kernel
theorem dX1_make_10 : decode cX1_make 10 = .ok (.aload_n 0, 1) := by decide +kernel
theorem dX1_make_11 : decode cX1_make 11 = .ok (.getfield 16, 3) := by decide +kernel
theorem dX1_make_14 : decode cX1_make 14 = .ok (.iload_n 1, 1) := by decide +kernel
theorem dX1_make_15 : decode cX1_make 15 = .ok (.iconst 1, 1) := by decide +kernel
theorem dX1_make_16 : decode cX1_make 16 = .ok (.iastore, 1) := by decide +kernel
theorem dX1_make_17 : decode cX1_make 17 = .ok (.aload_n 0, 1) := by decide +kernel
theorem dX1_make_18 : decode cX1_make 18 = .ok (.getfield 19, 3) := by decide +kernel
theorem dX1_make_21 : decode cX1_make 21 = .ok (.iload_n 1, 1) := by decide +kernel
theorem dX1_make_22 : decode cX1_make 22 = .ok (.iload_n 2, 1) := by decide +kernel
theorem dX1_make_23 : decode cX1_make 23 = .ok (.iastore, 1) := by decide +kernel
theorem dX1_make_24 : decode cX1_make 24 = .ok (.iconst 0, 1) := by decide +kernel
theorem dX1_make_25 : decode cX1_make 25 = .ok (.ireturn, 1) := by decide +kernel
theorem dX1_canMake_0 : decode cX1_canMake 0 = .ok (.aload_n 0, 1) := by decide +kernel
theorem dX1_canMake_1 : decode cX1_canMake 1 = .ok (.getfield 25, 3) := by decide +kernel
theorem dX1_canMake_4 : decode cX1_canMake 4 = .ok (.ifCond .eq 40, 3) := by decide +kernel
theorem dX1_canMake_7 : decode cX1_canMake 7 = .ok (.iload_n 1, 1) := by decide +kernel
theorem dX1_canMake_8 : decode cX1_canMake 8 = .ok (.ifCond .le 36, 3) := by decide +kernel
theorem dX1_canMake_11 : decode cX1_canMake 11 = .ok (.iload_n 1, 1) := by decide +kernel
theorem dX1_canMake_12 : decode cX1_canMake 12 = .ok (.invokestatic 29, 3) := by decide +kernel
theorem dX1_canMake_15 : decode cX1_canMake 15 = .ok (.ifCond .ne 29, 3) := by decide +kernel
theorem dX1_canMake_18 : decode cX1_canMake 18 = .ok (.aload_n 0, 1) := by decide +kernel
theorem dX1_canMake_19 : decode cX1_canMake 19 = .ok (.getfield 16, 3) := by decide +kernel
theorem dX1_canMake_22 : decode cX1_canMake 22 = .ok (.iload_n 1, 1) := by decide +kernel
theorem dX1_canMake_23 : decode cX1_canMake 23 = .ok (.iaload, 1) := by decide +kernel
theorem dX1_canMake_24 : decode cX1_canMake 24 = .ok (.ifCond .ne 20, 3) := by decide +kernel
theorem dX1_canMake_27 : decode cX1_canMake 27 = .ok (.aload_n 0, 1) := by decide +kernel
theorem dX1_canMake_28 : decode cX1_canMake 28 = .ok (.getfield 16, 3) := by decide +kernel
theorem dX1_canMake_31 : decode cX1_canMake 31 = .ok (.iload_n 1, 1) := by decide +kernel
theorem dX1_canMake_32 : decode cX1_canMake 32 = .ok (.invokestatic 33, 3) := by decide +kernel
theorem dX1_canMake_35 : decode cX1_canMake 35 = .ok (.iaload, 1) := by decide +kernel
theorem dX1_canMake_36 : decode cX1_canMake 36 = .ok (.iconst 2, 1) := by decide +kernel
theorem dX1_canMake_37 : decode cX1_canMake 37 = .ok (.if_icmp .ne 7, 3) := by decide +kernel
theorem dX1_canMake_40 : decode cX1_canMake 40 = .ok (.iconst 1, 1) := by decide +kernel
theorem dX1_canMake_41 : decode cX1_canMake 41 = .ok (.goto 4, 3) := by decide +kernel
theorem dX1_canMake_44 : decode cX1_canMake 44 = .ok (.iconst 0, 1) := by decide +kernel
theorem dX1_canMake_45 : decode cX1_canMake 45 = .ok (.ireturn, 1) := by decide +kernel
theorem dX1_makeDir_0 : decode cX1_makeDir 0 = .ok (.aload_n 0, 1) := by decide +kernel
theorem dX1_makeDir_1 : decode cX1_makeDir 1 = .ok (.iload_n 1, 1) := by decide +kernel
theorem dX1_makeDir_2 : decode cX1_makeDir 2 = .ok (.invokevirtual 52, 3) := by decide +kernel
theorem dX1_makeDir_5 : decode cX1_makeDir 5 = .ok (.ifCond .ne 5, 3) := by decide +kernel
theorem dX1_makeDir_8 : decode cX1_makeDir 8 = .ok (.iconst (-1), 1) := by decide +kernel
theorem dX1_makeDir_9 : decode cX1_makeDir 9 = .ok (.ireturn, 1) := by decide +kernel
theorem dX1_makeDir_10 : decode cX1_makeDir 10 = .ok (.aload_n 0, 1) := by decide +kernel
theorem dX1_makeDir_11 : decode cX1_makeDir 11 = .ok (.getfield 16, 3) := by decide +kernel
theorem dX1_makeDir_14 : decode cX1_makeDir 14 = .ok (.iload_n 1, 1) := by decide +kernel
theorem dX1_makeDir_15 : decode cX1_makeDir 15 = .ok (.iconst 2, 1) := by decide +kernel
end
section
set_option maxRecDepth 100000
theorem dX1_makeDir_16 : decode cX1_makeDir 16 = .ok (.iastore, 1) := by decide +kernel
theorem dX1_makeDir_17 : decode cX1_makeDir 17 = .ok (.iconst 0, 1) := by decide +kernel
theorem dX1_makeDir_18 : decode cX1_makeDir 18 = .ok (.ireturn, 1) := by decide +kernel
theorem dX1_write_0 : decode cX1_write 0 = .ok (.aload_n 0, 1) := by decide +kernel
theorem dX1_write_1 : decode cX1_write 1 = .ok (.getfield 25, 3) := by decide +kernel
theorem dX1_write_4 : decode cX1_write 4 = .ok (.ifCond .eq 20, 3) := by decide +kernel
theorem dX1_write_7 : decode cX1_write 7 = .ok (.iload_n 1, 1) := by decide +kernel
theorem dX1_write_8 : decode cX1_write 8 = .ok (.invokestatic 29, 3) := by decide +kernel
theorem dX1_write_11 : decode cX1_write 11 = .ok (.ifCond .ne 13, 3) := by decide +kernel
theorem dX1_write_14 : decode cX1_write 14 = .ok (.aload_n 0, 1) := by decide +kernel
theorem dX1_write_15 : decode cX1_write 15 = .ok (.getfield 16, 3) := by decide +kernel
theorem dX1_write_18 : decode cX1_write 18 = .ok (.iload_n 1, 1) := by decide +kernel
theorem dX1_write_19 : decode cX1_write 19 = .ok (.iaload, 1) := by decide +kernel
theorem dX1_write_20 : decode cX1_write 20 = .ok (.iconst 1, 1) := by decide +kernel
theorem dX1_write_21 : decode cX1_write 21 = .ok (.if_icmp .eq 5, 3) := by decide +kernel
theorem dX1_write_24 : decode cX1_write 24 = .ok (.iconst (-1), 1) := by decide +kernel
theorem dX1_write_25 : decode cX1_write 25 = .ok (.ireturn, 1) := by decide +kernel
theorem dX1_write_26 : decode cX1_write 26 = .ok (.aload_n 0, 1) := by decide +kernel
theorem dX1_write_27 : decode cX1_write 27 = .ok (.getfield 19, 3) := by decide +kernel
theorem dX1_write_30 : decode cX1_write 30 = .ok (.iload_n 1, 1) := by decide +kernel
theorem dX1_write_31 : decode cX1_write 31 = .ok (.iaload, 1) := by decide +kernel
theorem dX1_write_32 : decode cX1_write 32 = .ok (.istore_n 3, 1) := by decide +kernel
theorem dX1_write_33 : decode cX1_write 33 = .ok (.aload_n 0, 1) := by decide +kernel
theorem dX1_write_34 : decode cX1_write 34 = .ok (.getfield 19, 3) := by decide +kernel
theorem dX1_write_37 : decode cX1_write 37 = .ok (.iload_n 1, 1) := by decide +kernel
theorem dX1_write_38 : decode cX1_write 38 = .ok (.iload_n 2, 1) := by decide +kernel
theorem dX1_write_39 : decode cX1_write 39 = .ok (.iastore, 1) := by decide +kernel
theorem dX1_write_40 : decode cX1_write 40 = .ok (.iload_n 3, 1) := by decide +kernel
theorem dX1_write_41 : decode cX1_write 41 = .ok (.ireturn, 1) := by decide +kernel
theorem dX1_remove_0 : decode cX1_remove 0 = .ok (.aload_n 0, 1) := by decide +kernel
theorem dX1_remove_1 : decode cX1_remove 1 = .ok (.getfield 25, 3) := by decide +kernel
theorem dX1_remove_4 : decode cX1_remove 4 = .ok (.ifCond .eq 24, 3) := by decide +kernel
theorem dX1_remove_7 : decode cX1_remove 7 = .ok (.iload_n 1, 1) := by decide +kernel
theorem dX1_remove_8 : decode cX1_remove 8 = .ok (.iconst 1, 1) := by decide +kernel
theorem dX1_remove_9 : decode cX1_remove 9 = .ok (.if_icmp .lt 19, 3) := by decide +kernel
theorem dX1_remove_12 : decode cX1_remove 12 = .ok (.iload_n 1, 1) := by decide +kernel
theorem dX1_remove_13 : decode cX1_remove 13 = .ok (.invokestatic 29, 3) := by decide +kernel
theorem dX1_remove_16 : decode cX1_remove 16 = .ok (.ifCond .ne 12, 3) := by decide +kernel
theorem dX1_remove_19 : decode cX1_remove 19 = .ok (.aload_n 0, 1) := by decide +kernel
theorem dX1_remove_20 : decode cX1_remove 20 = .ok (.getfield 16, 3) := by decide +kernel
theorem dX1_remove_23 : decode cX1_remove 23 = .ok (.iload_n 1, 1) := by decide +kernel
theorem dX1_remove_24 : decode cX1_remove 24 = .ok (.iaload, 1) := by decide +kernel
theorem dX1_remove_25 : decode cX1_remove 25 = .ok (.ifCond .ne 5, 3) := by decide +kernel
theorem dX1_remove_28 : decode cX1_remove 28 = .ok (.iconst (-1), 1) := by decide +kernel
theorem dX1_remove_29 : decode cX1_remove 29 = .ok (.ireturn, 1) := by decide +kernel
theorem dX1_remove_30 : decode cX1_remove 30 = .ok (.iconst 1, 1) := by decide +kernel
theorem dX1_remove_31 : decode cX1_remove 31 = .ok (.istore_n 2, 1) := by decide +kernel
theorem dX1_remove_32 : decode cX1_remove 32 = .ok (.iload_n 2, 1) := by decide +kernel
theorem dX1_remove_33 : decode cX1_remove 33 = .ok (.bipush 85, 2) := by decide +kernel
theorem dX1_remove_35 : decode cX1_remove 35 = .ok (.if_icmp .ge 28, 3) := by decide +kernel
theorem dX1_remove_38 : decode cX1_remove 38 = .ok (.aload_n 0, 1) := by decide +kernel
theorem dX1_remove_39 : decode cX1_remove 39 = .ok (.getfield 16, 3) := by decide +kernel
theorem dX1_remove_42 : decode cX1_remove 42 = .ok (.iload_n 2, 1) := by decide +kernel
theorem dX1_remove_43 : decode cX1_remove 43 = .ok (.iaload, 1) := by decide +kernel
theorem dX1_remove_44 : decode cX1_remove 44 = .ok (.ifCond .eq 13, 3) := by decide +kernel
theorem dX1_remove_47 : decode cX1_remove 47 = .ok (.iload_n 2, 1) := by decide +kernel
theorem dX1_remove_48 : decode cX1_remove 48 = .ok (.invokestatic 33, 3) := by decide +kernel
theorem dX1_remove_51 : decode cX1_remove 51 = .ok (.iload_n 1, 1) := by decide +kernel
theorem dX1_remove_52 : decode cX1_remove 52 = .ok (.if_icmp .ne 5, 3) := by decide +kernel
theorem dX1_remove_55 : decode cX1_remove 55 = .ok (.iconst (-1), 1) := by decide +kernel
theorem dX1_remove_56 : decode cX1_remove 56 = .ok (.ireturn, 1) := by decide +kernel
theorem dX1_remove_57 : decode cX1_remove 57 = .ok (.iinc 2 1, 3) := by decide +kernel
theorem dX1_remove_60 : decode cX1_remove 60 = .ok (.goto (-28), 3) := by decide +kernel
theorem dX1_remove_63 : decode cX1_remove 63 = .ok (.aload_n 0, 1) := by decide +kernel
theorem dX1_remove_64 : decode cX1_remove 64 = .ok (.getfield 16, 3) := by decide +kernel
theorem dX1_remove_67 : decode cX1_remove 67 = .ok (.iload_n 1, 1) := by decide +kernel
theorem dX1_remove_68 : decode cX1_remove 68 = .ok (.iconst 0, 1) := by decide +kernel
theorem dX1_remove_69 : decode cX1_remove 69 = .ok (.iastore, 1) := by decide +kernel
theorem dX1_remove_70 : decode cX1_remove 70 = .ok (.iconst 0, 1) := by decide +kernel
theorem dX1_remove_71 : decode cX1_remove 71 = .ok (.ireturn, 1) := by decide +kernel
theorem dX1_move_0 : decode cX1_move 0 = .ok (.aload_n 0, 1) := by decide +kernel
theorem dX1_move_1 : decode cX1_move 1 = .ok (.getfield 25, 3) := by decide +kernel
theorem dX1_move_4 : decode cX1_move 4 = .ok (.ifCond .eq 32, 3) := by decide +kernel
theorem dX1_move_7 : decode cX1_move 7 = .ok (.iload_n 1, 1) := by decide +kernel
theorem dX1_move_8 : decode cX1_move 8 = .ok (.iconst 1, 1) := by decide +kernel
theorem dX1_move_9 : decode cX1_move 9 = .ok (.if_icmp .lt 27, 3) := by decide +kernel
theorem dX1_move_12 : decode cX1_move 12 = .ok (.iload_n 1, 1) := by decide +kernel
theorem dX1_move_13 : decode cX1_move 13 = .ok (.invokestatic 29, 3) := by decide +kernel
theorem dX1_move_16 : decode cX1_move 16 = .ok (.ifCond .ne 20, 3) := by decide +kernel
theorem dX1_move_19 : decode cX1_move 19 = .ok (.aload_n 0, 1) := by decide +kernel
theorem dX1_move_20 : decode cX1_move 20 = .ok (.getfield 16, 3) := by decide +kernel
theorem dX1_move_23 : decode cX1_move 23 = .ok (.iload_n 1, 1) := by decide +kernel
theorem dX1_move_24 : decode cX1_move 24 = .ok (.iaload, 1) := by decide +kernel
theorem dX1_move_25 : decode cX1_move 25 = .ok (.ifCond .eq 11, 3) := by decide +kernel
theorem dX1_move_28 : decode cX1_move 28 = .ok (.aload_n 0, 1) := by decide +kernel
theorem dX1_move_29 : decode cX1_move 29 = .ok (.iload_n 2, 1) := by decide +kernel
theorem dX1_move_30 : decode cX1_move 30 = .ok (.invokevirtual 52, 3) := by decide +kernel
theorem dX1_move_33 : decode cX1_move 33 = .ok (.ifCond .ne 5, 3) := by decide +kernel
theorem dX1_move_36 : decode cX1_move 36 = .ok (.iconst (-1), 1) := by decide +kernel
theorem dX1_move_37 : decode cX1_move 37 = .ok (.ireturn, 1) := by decide +kernel
theorem dX1_move_38 : decode cX1_move 38 = .ok (.aload_n 0, 1) := by decide +kernel
theorem dX1_move_39 : decode cX1_move 39 = .ok (.iload_n 1, 1) := by decide +kernel
theorem dX1_move_40 : decode cX1_move 40 = .ok (.iload_n 2, 1) := by decide +kernel
theorem dX1_move_41 : decode cX1_move 41 = .ok (.invokevirtual 55, 3) := by decide +kernel
theorem dX1_move_44 : decode cX1_move 44 = .ok (.aload_n 0, 1) := by decide +kernel
theorem dX1_move_45 : decode cX1_move 45 = .ok (.getfield 22, 3) := by decide +kernel
theorem dX1_move_48 : decode cX1_move 48 = .ok (.iload_n 2, 1) := by decide +kernel
theorem dX1_move_49 : decode cX1_move 49 = .ok (.iaload, 1) := by decide +kernel
theorem dX1_move_50 : decode cX1_move 50 = .ok (.ifCond .lt 5, 3) := by decide +kernel
theorem dX1_move_53 : decode cX1_move 53 = .ok (.iconst (-1), 1) := by decide +kernel
theorem dX1_move_54 : decode cX1_move 54 = .ok (.ireturn, 1) := by decide +kernel
theorem dX1_move_55 : decode cX1_move 55 = .ok (.iconst 1, 1) := by decide +kernel
theorem dX1_move_56 : decode cX1_move 56 = .ok (.istore_n 3, 1) := by decide +kernel
theorem dX1_move_57 : decode cX1_move 57 = .ok (.iload_n 3, 1) := by decide +kernel
theorem dX1_move_58 : decode cX1_move 58 = .ok (.bipush 85, 2) := by decide +kernel
theorem dX1_move_60 : decode cX1_move 60 = .ok (.if_icmp .ge 31, 3) := by decide +kernel
theorem dX1_move_63 : decode cX1_move 63 = .ok (.aload_n 0, 1) := by decide +kernel
theorem dX1_move_64 : decode cX1_move 64 = .ok (.getfield 22, 3) := by decide +kernel
theorem dX1_move_67 : decode cX1_move 67 = .ok (.iload_n 3, 1) := by decide +kernel
theorem dX1_move_68 : decode cX1_move 68 = .ok (.iaload, 1) := by decide +kernel
theorem dX1_move_69 : decode cX1_move 69 = .ok (.bipush 85, 2) := by decide +kernel
theorem dX1_move_71 : decode cX1_move 71 = .ok (.if_icmp .ne 14, 3) := by decide +kernel
theorem dX1_move_74 : decode cX1_move 74 = .ok (.aload_n 0, 1) := by decide +kernel
theorem dX1_move_75 : decode cX1_move 75 = .ok (.getfield 16, 3) := by decide +kernel
theorem dX1_move_78 : decode cX1_move 78 = .ok (.iload_n 3, 1) := by decide +kernel
theorem dX1_move_79 : decode cX1_move 79 = .ok (.iaload, 1) := by decide +kernel
theorem dX1_move_80 : decode cX1_move 80 = .ok (.ifCond .eq 5, 3) := by decide +kernel
theorem dX1_move_83 : decode cX1_move 83 = .ok (.iconst (-1), 1) := by decide +kernel
theorem dX1_move_84 : decode cX1_move 84 = .ok (.ireturn, 1) := by decide +kernel
theorem dX1_move_85 : decode cX1_move 85 = .ok (.iinc 3 1, 3) := by decide +kernel
theorem dX1_move_88 : decode cX1_move 88 = .ok (.goto (-31), 3) := by decide +kernel
theorem dX1_move_91 : decode cX1_move 91 = .ok (.iconst 0, 1) := by decide +kernel
theorem dX1_move_92 : decode cX1_move 92 = .ok (.istore_n 3, 1) := by decide +kernel
theorem dX1_move_93 : decode cX1_move 93 = .ok (.iconst 1, 1) := by decide +kernel
theorem dX1_move_94 : decode cX1_move 94 = .ok (.istore 4, 2) := by decide +kernel
theorem dX1_move_96 : decode cX1_move 96 = .ok (.iload 4, 2) := by decide +kernel
theorem dX1_move_98 : decode cX1_move 98 = .ok (.bipush 85, 2) := by decide +kernel
theorem dX1_move_100 : decode cX1_move 100 = .ok (.if_icmp .ge 90, 3) := by decide +kernel
theorem dX1_move_103 : decode cX1_move 103 = .ok (.aload_n 0, 1) := by decide +kernel
theorem dX1_move_104 : decode cX1_move 104 = .ok (.getfield 22, 3) := by decide +kernel
theorem dX1_move_107 : decode cX1_move 107 = .ok (.iload 4, 2) := by decide +kernel
theorem dX1_move_109 : decode cX1_move 109 = .ok (.iaload, 1) := by decide +kernel
theorem dX1_move_110 : decode cX1_move 110 = .ok (.ifCond .lt 74, 3) := by decide +kernel
theorem dX1_move_113 : decode cX1_move 113 = .ok (.aload_n 0, 1) := by decide +kernel
theorem dX1_move_114 : decode cX1_move 114 = .ok (.getfield 22, 3) := by decide +kernel
theorem dX1_move_117 : decode cX1_move 117 = .ok (.iload 4, 2) := by decide +kernel
theorem dX1_move_119 : decode cX1_move 119 = .ok (.iaload, 1) := by decide +kernel
theorem dX1_move_120 : decode cX1_move 120 = .ok (.bipush 85, 2) := by decide +kernel
theorem dX1_move_122 : decode cX1_move 122 = .ok (.if_icmp .ge 62, 3) := by decide +kernel
theorem dX1_move_125 : decode cX1_move 125 = .ok (.aload_n 0, 1) := by decide +kernel
theorem dX1_move_126 : decode cX1_move 126 = .ok (.getfield 16, 3) := by decide +kernel
theorem dX1_move_129 : decode cX1_move 129 = .ok (.iload 4, 2) := by decide +kernel
theorem dX1_move_131 : decode cX1_move 131 = .ok (.iaload, 1) := by decide +kernel
theorem dX1_move_132 : decode cX1_move 132 = .ok (.ifCond .eq 52, 3) := by decide +kernel
theorem dX1_move_135 : decode cX1_move 135 = .ok (.aload_n 0, 1) := by decide +kernel
theorem dX1_move_136 : decode cX1_move 136 = .ok (.getfield 16, 3) := by decide +kernel
theorem dX1_move_139 : decode cX1_move 139 = .ok (.aload_n 0, 1) := by decide +kernel
theorem dX1_move_140 : decode cX1_move 140 = .ok (.getfield 22, 3) := by decide +kernel
theorem dX1_move_143 : decode cX1_move 143 = .ok (.iload 4, 2) := by decide +kernel
theorem dX1_move_145 : decode cX1_move 145 = .ok (.iaload, 1) := by decide +kernel
theorem dX1_move_146 : decode cX1_move 146 = .ok (.aload_n 0, 1) := by decide +kernel
theorem dX1_move_147 : decode cX1_move 147 = .ok (.getfield 16, 3) := by decide +kernel
theorem dX1_move_150 : decode cX1_move 150 = .ok (.iload 4, 2) := by decide +kernel
theorem dX1_move_152 : decode cX1_move 152 = .ok (.iaload, 1) := by decide +kernel
theorem dX1_move_153 : decode cX1_move 153 = .ok (.iastore, 1) := by decide +kernel
theorem dX1_move_154 : decode cX1_move 154 = .ok (.aload_n 0, 1) := by decide +kernel
theorem dX1_move_155 : decode cX1_move 155 = .ok (.getfield 19, 3) := by decide +kernel
theorem dX1_move_158 : decode cX1_move 158 = .ok (.aload_n 0, 1) := by decide +kernel
theorem dX1_move_159 : decode cX1_move 159 = .ok (.getfield 22, 3) := by decide +kernel
theorem dX1_move_162 : decode cX1_move 162 = .ok (.iload 4, 2) := by decide +kernel
theorem dX1_move_164 : decode cX1_move 164 = .ok (.iaload, 1) := by decide +kernel
theorem dX1_move_165 : decode cX1_move 165 = .ok (.aload_n 0, 1) := by decide +kernel
theorem dX1_move_166 : decode cX1_move 166 = .ok (.getfield 19, 3) := by decide +kernel
theorem dX1_move_169 : decode cX1_move 169 = .ok (.iload 4, 2) := by decide +kernel
theorem dX1_move_171 : decode cX1_move 171 = .ok (.iaload, 1) := by decide +kernel
theorem dX1_move_172 : decode cX1_move 172 = .ok (.iastore, 1) := by decide +kernel
theorem dX1_move_173 : decode cX1_move 173 = .ok (.aload_n 0, 1) := by decide +kernel
theorem dX1_move_174 : decode cX1_move 174 = .ok (.getfield 16, 3) := by decide +kernel
theorem dX1_move_177 : decode cX1_move 177 = .ok (.iload 4, 2) := by decide +kernel
theorem dX1_move_179 : decode cX1_move 179 = .ok (.iconst 0, 1) := by decide +kernel
theorem dX1_move_180 : decode cX1_move 180 = .ok (.iastore, 1) := by decide +kernel
theorem dX1_move_181 : decode cX1_move 181 = .ok (.iinc 3 1, 3) := by decide +kernel
theorem dX1_move_184 : decode cX1_move 184 = .ok (.iinc 4 1, 3) := by decide +kernel
theorem dX1_move_187 : decode cX1_move 187 = .ok (.goto (-91), 3) := by decide +kernel
theorem dX1_move_190 : decode cX1_move 190 = .ok (.iload_n 3, 1) := by decide +kernel
theorem dX1_move_191 : decode cX1_move 191 = .ok (.ireturn, 1) := by decide +kernel
theorem dX1_follow_0 : decode cX1_follow 0 = .ok (.iconst 0, 1) := by decide +kernel
theorem dX1_follow_1 : decode cX1_follow 1 = .ok (.istore_n 3, 1) := by decide +kernel
theorem dX1_follow_2 : decode cX1_follow 2 = .ok (.iload_n 3, 1) := by decide +kernel
theorem dX1_follow_3 : decode cX1_follow 3 = .ok (.bipush 85, 2) := by decide +kernel
theorem dX1_follow_5 : decode cX1_follow 5 = .ok (.if_icmp .ge 91, 3) := by decide +kernel
theorem dX1_follow_8 : decode cX1_follow 8 = .ok (.aload_n 0, 1) := by decide +kernel
theorem dX1_follow_9 : decode cX1_follow 9 = .ok (.getfield 22, 3) := by decide +kernel
theorem dX1_follow_12 : decode cX1_follow 12 = .ok (.iload_n 3, 1) := by decide +kernel
theorem dX1_follow_13 : decode cX1_follow 13 = .ok (.iconst (-1), 1) := by decide +kernel
theorem dX1_follow_14 : decode cX1_follow 14 = .ok (.iastore, 1) := by decide +kernel
theorem dX1_follow_15 : decode cX1_follow 15 = .ok (.iload_n 3, 1) := by decide +kernel
theorem dX1_follow_16 : decode cX1_follow 16 = .ok (.iload_n 1, 1) := by decide +kernel
theorem dX1_follow_17 : decode cX1_follow 17 = .ok (.if_icmp .ne 13, 3) := by decide +kernel
theorem dX1_follow_20 : decode cX1_follow 20 = .ok (.aload_n 0, 1) := by decide +kernel
theorem dX1_follow_21 : decode cX1_follow 21 = .ok (.getfield 22, 3) := by decide +kernel
theorem dX1_follow_24 : decode cX1_follow 24 = .ok (.iload_n 3, 1) := by decide +kernel
theorem dX1_follow_25 : decode cX1_follow 25 = .ok (.iload_n 2, 1) := by decide +kernel
theorem dX1_follow_26 : decode cX1_follow 26 = .ok (.iastore, 1) := by decide +kernel
theorem dX1_follow_27 : decode cX1_follow 27 = .ok (.goto 44, 3) := by decide +kernel
theorem dX1_follow_30 : decode cX1_follow 30 = .ok (.iload_n 3, 1) := by decide +kernel
theorem dX1_follow_31 : decode cX1_follow 31 = .ok (.ifCond .le 40, 3) := by decide +kernel
theorem dX1_follow_34 : decode cX1_follow 34 = .ok (.aload_n 0, 1) := by decide +kernel
theorem dX1_follow_35 : decode cX1_follow 35 = .ok (.getfield 22, 3) := by decide +kernel
theorem dX1_follow_38 : decode cX1_follow 38 = .ok (.iload_n 3, 1) := by decide +kernel
theorem dX1_follow_39 : decode cX1_follow 39 = .ok (.invokestatic 33, 3) := by decide +kernel
theorem dX1_follow_42 : decode cX1_follow 42 = .ok (.iaload, 1) := by decide +kernel
theorem dX1_follow_43 : decode cX1_follow 43 = .ok (.ifCond .lt 28, 3) := by decide +kernel
theorem dX1_follow_46 : decode cX1_follow 46 = .ok (.aload_n 0, 1) := by decide +kernel
theorem dX1_follow_47 : decode cX1_follow 47 = .ok (.getfield 22, 3) := by decide +kernel
theorem dX1_follow_50 : decode cX1_follow 50 = .ok (.iload_n 3, 1) := by decide +kernel
theorem dX1_follow_51 : decode cX1_follow 51 = .ok (.iconst 4, 1) := by decide +kernel
theorem dX1_follow_52 : decode cX1_follow 52 = .ok (.aload_n 0, 1) := by decide +kernel
theorem dX1_follow_53 : decode cX1_follow 53 = .ok (.getfield 22, 3) := by decide +kernel
theorem dX1_follow_56 : decode cX1_follow 56 = .ok (.iload_n 3, 1) := by decide +kernel
theorem dX1_follow_57 : decode cX1_follow 57 = .ok (.invokestatic 33, 3) := by decide +kernel
theorem dX1_follow_60 : decode cX1_follow 60 = .ok (.iaload, 1) := by decide +kernel
theorem dX1_follow_61 : decode cX1_follow 61 = .ok (.imul, 1) := by decide +kernel
theorem dX1_follow_62 : decode cX1_follow 62 = .ok (.iload_n 3, 1) := by decide +kernel
theorem dX1_follow_63 : decode cX1_follow 63 = .ok (.iconst 1, 1) := by decide +kernel
theorem dX1_follow_64 : decode cX1_follow 64 = .ok (.isub, 1) := by decide +kernel
theorem dX1_follow_65 : decode cX1_follow 65 = .ok (.iconst 4, 1) := by decide +kernel
theorem dX1_follow_66 : decode cX1_follow 66 = .ok (.irem, 1) := by decide +kernel
theorem dX1_follow_67 : decode cX1_follow 67 = .ok (.iadd, 1) := by decide +kernel
theorem dX1_follow_68 : decode cX1_follow 68 = .ok (.iconst 1, 1) := by decide +kernel
theorem dX1_follow_69 : decode cX1_follow 69 = .ok (.iadd, 1) := by decide +kernel
theorem dX1_follow_70 : decode cX1_follow 70 = .ok (.iastore, 1) := by decide +kernel
theorem dX1_follow_71 : decode cX1_follow 71 = .ok (.aload_n 0, 1) := by decide +kernel
theorem dX1_follow_72 : decode cX1_follow 72 = .ok (.getfield 22, 3) := by decide +kernel
theorem dX1_follow_75 : decode cX1_follow 75 = .ok (.iload_n 3, 1) := by decide +kernel
theorem dX1_follow_76 : decode cX1_follow 76 = .ok (.iaload, 1) := by decide +kernel
theorem dX1_follow_77 : decode cX1_follow 77 = .ok (.bipush 84, 2) := by decide +kernel
theorem dX1_follow_79 : decode cX1_follow 79 = .ok (.if_icmp .le 11, 3) := by decide +kernel
theorem dX1_follow_82 : decode cX1_follow 82 = .ok (.aload_n 0, 1) := by decide +kernel
theorem dX1_follow_83 : decode cX1_follow 83 = .ok (.getfield 22, 3) := by decide +kernel
theorem dX1_follow_86 : decode cX1_follow 86 = .ok (.iload_n 3, 1) := by decide +kernel
theorem dX1_follow_87 : decode cX1_follow 87 = .ok (.bipush 85, 2) := by decide +kernel
theorem dX1_follow_89 : decode cX1_follow 89 = .ok (.iastore, 1) := by decide +kernel
theorem dX1_follow_90 : decode cX1_follow 90 = .ok (.iinc 3 1, 3) := by decide +kernel
theorem dX1_follow_93 : decode cX1_follow 93 = .ok (.goto (-91), 3) := by decide +kernel
theorem dX1_follow_96 : decode cX1_follow 96 = .ok (.return_, 1) := by decide +kernel
theorem dX1_press_0 : decode cX1_press 0 = .ok (.aload_n 0, 1) := by decide +kernel
theorem dX1_press_1 : decode cX1_press 1 = .ok (.getfield 25, 3) := by decide +kernel
theorem dX1_press_4 : decode cX1_press 4 = .ok (.ifCond .eq 7, 3) := by decide +kernel
theorem dX1_press_7 : decode cX1_press 7 = .ok (.iconst 0, 1) := by decide +kernel
theorem dX1_press_8 : decode cX1_press 8 = .ok (.goto 4, 3) := by decide +kernel
theorem dX1_press_11 : decode cX1_press 11 = .ok (.iconst (-1), 1) := by decide +kernel
theorem dX1_press_12 : decode cX1_press 12 = .ok (.ireturn, 1) := by decide +kernel
theorem dX1_sort_0 : decode cX1_sort 0 = .ok (.iload_n 1, 1) := by decide +kernel
theorem dX1_sort_1 : decode cX1_sort 1 = .ok (.invokestatic 29, 3) := by decide +kernel
theorem dX1_sort_4 : decode cX1_sort 4 = .ok (.ifCond .eq 7, 3) := by decide +kernel
theorem dX1_sort_7 : decode cX1_sort 7 = .ok (.iconst (-1), 1) := by decide +kernel
theorem dX1_sort_8 : decode cX1_sort 8 = .ok (.goto 9, 3) := by decide +kernel
theorem dX1_sort_11 : decode cX1_sort 11 = .ok (.aload_n 0, 1) := by decide +kernel
theorem dX1_sort_12 : decode cX1_sort 12 = .ok (.getfield 16, 3) := by decide +kernel
theorem dX1_sort_15 : decode cX1_sort 15 = .ok (.iload_n 1, 1) := by decide +kernel
theorem dX1_sort_16 : decode cX1_sort 16 = .ok (.iaload, 1) := by decide +kernel
theorem dX1_sort_17 : decode cX1_sort 17 = .ok (.ireturn, 1) := by decide +kernel
theorem dX1_value_0 : decode cX1_value 0 = .ok (.iload_n 1, 1) := by decide +kernel
theorem dX1_value_1 : decode cX1_value 1 = .ok (.invokestatic 29, 3) := by decide +kernel
theorem dX1_value_4 : decode cX1_value 4 = .ok (.ifCond .ne 13, 3) := by decide +kernel
theorem dX1_value_7 : decode cX1_value 7 = .ok (.aload_n 0, 1) := by decide +kernel
theorem dX1_value_8 : decode cX1_value 8 = .ok (.getfield 16, 3) := by decide +kernel
theorem dX1_value_11 : decode cX1_value 11 = .ok (.iload_n 1, 1) := by decide +kernel
theorem dX1_value_12 : decode cX1_value 12 = .ok (.iaload, 1) := by decide +kernel
theorem dX1_value_13 : decode cX1_value 13 = .ok (.iconst 1, 1) := by decide +kernel
theorem dX1_value_14 : decode cX1_value 14 = .ok (.if_icmp .eq 7, 3) := by decide +kernel
theorem dX1_value_17 : decode cX1_value 17 = .ok (.iconst 0, 1) := by decide +kernel
theorem dX1_value_18 : decode cX1_value 18 = .ok (.goto 9, 3) := by decide +kernel
theorem dX1_value_21 : decode cX1_value 21 = .ok (.aload_n 0, 1) := by decide +kernel
theorem dX1_value_22 : decode cX1_value 22 = .ok (.getfield 19, 3) := by decide +kernel
theorem dX1_value_25 : decode cX1_value 25 = .ok (.iload_n 1, 1) := by decide +kernel
theorem dX1_value_26 : decode cX1_value 26 = .ok (.iaload, 1) := by decide +kernel
theorem dX1_value_27 : decode cX1_value 27 = .ok (.ireturn, 1) := by decide +kernel
theorem dX1_entries_0 : decode cX1_entries 0 = .ok (.iload_n 1, 1) := by decide +kernel
theorem dX1_entries_1 : decode cX1_entries 1 = .ok (.invokestatic 29, 3) := by decide +kernel
theorem dX1_entries_4 : decode cX1_entries 4 = .ok (.ifCond .ne 13, 3) := by decide +kernel
theorem dX1_entries_7 : decode cX1_entries 7 = .ok (.aload_n 0, 1) := by decide +kernel
theorem dX1_entries_8 : decode cX1_entries 8 = .ok (.getfield 16, 3) := by decide +kernel
theorem dX1_entries_11 : decode cX1_entries 11 = .ok (.iload_n 1, 1) := by decide +kernel
theorem dX1_entries_12 : decode cX1_entries 12 = .ok (.iaload, 1) := by decide +kernel
theorem dX1_entries_13 : decode cX1_entries 13 = .ok (.iconst 2, 1) := by decide +kernel
theorem dX1_entries_14 : decode cX1_entries 14 = .ok (.if_icmp .eq 5, 3) := by decide +kernel
theorem dX1_entries_17 : decode cX1_entries 17 = .ok (.iconst (-1), 1) := by decide +kernel
theorem dX1_entries_18 : decode cX1_entries 18 = .ok (.ireturn, 1) := by decide +kernel
theorem dX1_entries_19 : decode cX1_entries 19 = .ok (.iconst 0, 1) := by decide +kernel
theorem dX1_entries_20 : decode cX1_entries 20 = .ok (.istore_n 2, 1) := by decide +kernel
theorem dX1_entries_21 : decode cX1_entries 21 = .ok (.iconst 1, 1) := by decide +kernel
theorem dX1_entries_22 : decode cX1_entries 22 = .ok (.istore_n 3, 1) := by decide +kernel
theorem dX1_entries_23 : decode cX1_entries 23 = .ok (.iload_n 3, 1) := by decide +kernel
theorem dX1_entries_24 : decode cX1_entries 24 = .ok (.bipush 85, 2) := by decide +kernel
theorem dX1_entries_26 : decode cX1_entries 26 = .ok (.if_icmp .ge 29, 3) := by decide +kernel
theorem dX1_entries_29 : decode cX1_entries 29 = .ok (.aload_n 0, 1) := by decide +kernel
theorem dX1_entries_30 : decode cX1_entries 30 = .ok (.getfield 16, 3) := by decide +kernel
theorem dX1_entries_33 : decode cX1_entries 33 = .ok (.iload_n 3, 1) := by decide +kernel
theorem dX1_entries_34 : decode cX1_entries 34 = .ok (.iaload, 1) := by decide +kernel
theorem dX1_entries_35 : decode cX1_entries 35 = .ok (.ifCond .eq 14, 3) := by decide +kernel
theorem dX1_entries_38 : decode cX1_entries 38 = .ok (.iload_n 3, 1) := by decide +kernel
theorem dX1_entries_39 : decode cX1_entries 39 = .ok (.invokestatic 33, 3) := by decide +kernel
theorem dX1_entries_42 : decode cX1_entries 42 = .ok (.iload_n 1, 1) := by decide +kernel
theorem dX1_entries_43 : decode cX1_entries 43 = .ok (.if_icmp .ne 6, 3) := by decide +kernel
theorem dX1_entries_46 : decode cX1_entries 46 = .ok (.iinc 2 1, 3) := by decide +kernel
theorem dX1_entries_49 : decode cX1_entries 49 = .ok (.iinc 3 1, 3) := by decide +kernel
theorem dX1_entries_52 : decode cX1_entries 52 = .ok (.goto (-29), 3) := by decide +kernel
theorem dX1_entries_55 : decode cX1_entries 55 = .ok (.iload_n 2, 1) := by decide +kernel
theorem dX1_entries_56 : decode cX1_entries 56 = .ok (.ireturn, 1) := by decide +kernel
end
section
set_option maxRecDepth 100000
theorem dL_law_0 : decode cL_law 0 = .ok (.new 7, 3) := by decide +kernel
theorem dL_law_3 : decode cL_law 3 = .ok (.dup, 1) := by decide +kernel
theorem dL_law_4 : decode cL_law 4 = .ok (.invokespecial 9, 3) := by decide +kernel
theorem dL_law_7 : decode cL_law 7 = .ok (.astore_n 1, 1) := by decide +kernel
theorem dL_law_8 : decode cL_law 8 = .ok (.new 10, 3) := by decide +kernel
theorem dL_law_11 : decode cL_law 11 = .ok (.dup, 1) := by decide +kernel
theorem dL_law_12 : decode cL_law 12 = .ok (.invokespecial 12, 3) := by decide +kernel
theorem dL_law_15 : decode cL_law 15 = .ok (.astore_n 2, 1) := by decide +kernel
theorem dL_law_16 : decode cL_law 16 = .ok (.iconst 0, 1) := by decide +kernel
theorem dL_law_17 : decode cL_law 17 = .ok (.istore_n 3, 1) := by decide +kernel
theorem dL_law_18 : decode cL_law 18 = .ok (.iload_n 3, 1) := by decide +kernel
theorem dL_law_19 : decode cL_law 19 = .ok (.aload_n 0, 1) := by decide +kernel
theorem dL_law_20 : decode cL_law 20 = .ok (.arraylength, 1) := by decide +kernel
theorem dL_law_21 : decode cL_law 21 = .ok (.iconst 5, 1) := by decide +kernel
theorem dL_law_22 : decode cL_law 22 = .ok (.isub, 1) := by decide +kernel
theorem dL_law_23 : decode cL_law 23 = .ok (.if_icmp .gt 385, 3) := by decide +kernel
theorem dL_law_26 : decode cL_law 26 = .ok (.aload_n 0, 1) := by decide +kernel
theorem dL_law_27 : decode cL_law 27 = .ok (.iload_n 3, 1) := by decide +kernel
theorem dL_law_28 : decode cL_law 28 = .ok (.iaload, 1) := by decide +kernel
theorem dL_law_29 : decode cL_law 29 = .ok (.bipush 15, 2) := by decide +kernel
theorem dL_law_31 : decode cL_law 31 = .ok (.iand, 1) := by decide +kernel
theorem dL_law_32 : decode cL_law 32 = .ok (.tableswitch 370 0 11 #[64, 117, 130, 163, 186, 219, 242, 275, 288, 311, 334, 357], 64) := by decide +kernel
theorem dL_law_96 : decode cL_law 96 = .ok (.aload_n 1, 1) := by decide +kernel
theorem dL_law_97 : decode cL_law 97 = .ok (.aload_n 0, 1) := by decide +kernel
theorem dL_law_98 : decode cL_law 98 = .ok (.iload_n 3, 1) := by decide +kernel
theorem dL_law_99 : decode cL_law 99 = .ok (.iconst 1, 1) := by decide +kernel
theorem dL_law_100 : decode cL_law 100 = .ok (.iadd, 1) := by decide +kernel
theorem dL_law_101 : decode cL_law 101 = .ok (.iaload, 1) := by decide +kernel
theorem dL_law_102 : decode cL_law 102 = .ok (.aload_n 0, 1) := by decide +kernel
theorem dL_law_103 : decode cL_law 103 = .ok (.iload_n 3, 1) := by decide +kernel
theorem dL_law_104 : decode cL_law 104 = .ok (.iconst 2, 1) := by decide +kernel
theorem dL_law_105 : decode cL_law 105 = .ok (.iadd, 1) := by decide +kernel
theorem dL_law_106 : decode cL_law 106 = .ok (.iaload, 1) := by decide +kernel
theorem dL_law_107 : decode cL_law 107 = .ok (.aload_n 0, 1) := by decide +kernel
theorem dL_law_108 : decode cL_law 108 = .ok (.iload_n 3, 1) := by decide +kernel
theorem dL_law_109 : decode cL_law 109 = .ok (.iconst 3, 1) := by decide +kernel
theorem dL_law_110 : decode cL_law 110 = .ok (.iadd, 1) := by decide +kernel
theorem dL_law_111 : decode cL_law 111 = .ok (.iaload, 1) := by decide +kernel
theorem dL_law_112 : decode cL_law 112 = .ok (.aload_n 0, 1) := by decide +kernel
theorem dL_law_113 : decode cL_law 113 = .ok (.iload_n 3, 1) := by decide +kernel
theorem dL_law_114 : decode cL_law 114 = .ok (.iconst 4, 1) := by decide +kernel
theorem dL_law_115 : decode cL_law 115 = .ok (.iadd, 1) := by decide +kernel
theorem dL_law_116 : decode cL_law 116 = .ok (.iaload, 1) := by decide +kernel
theorem dL_law_117 : decode cL_law 117 = .ok (.invokevirtual 13, 3) := by decide +kernel
theorem dL_law_120 : decode cL_law 120 = .ok (.aload_n 2, 1) := by decide +kernel
theorem dL_law_121 : decode cL_law 121 = .ok (.aload_n 0, 1) := by decide +kernel
theorem dL_law_122 : decode cL_law 122 = .ok (.iload_n 3, 1) := by decide +kernel
theorem dL_law_123 : decode cL_law 123 = .ok (.iconst 1, 1) := by decide +kernel
theorem dL_law_124 : decode cL_law 124 = .ok (.iadd, 1) := by decide +kernel
theorem dL_law_125 : decode cL_law 125 = .ok (.iaload, 1) := by decide +kernel
theorem dL_law_126 : decode cL_law 126 = .ok (.aload_n 0, 1) := by decide +kernel
theorem dL_law_127 : decode cL_law 127 = .ok (.iload_n 3, 1) := by decide +kernel
theorem dL_law_128 : decode cL_law 128 = .ok (.iconst 2, 1) := by decide +kernel
theorem dL_law_129 : decode cL_law 129 = .ok (.iadd, 1) := by decide +kernel
theorem dL_law_130 : decode cL_law 130 = .ok (.iaload, 1) := by decide +kernel
theorem dL_law_131 : decode cL_law 131 = .ok (.aload_n 0, 1) := by decide +kernel
theorem dL_law_132 : decode cL_law 132 = .ok (.iload_n 3, 1) := by decide +kernel
theorem dL_law_133 : decode cL_law 133 = .ok (.iconst 3, 1) := by decide +kernel
theorem dL_law_134 : decode cL_law 134 = .ok (.iadd, 1) := by decide +kernel
theorem dL_law_135 : decode cL_law 135 = .ok (.iaload, 1) := by decide +kernel
theorem dL_law_136 : decode cL_law 136 = .ok (.aload_n 0, 1) := by decide +kernel
theorem dL_law_137 : decode cL_law 137 = .ok (.iload_n 3, 1) := by decide +kernel
theorem dL_law_138 : decode cL_law 138 = .ok (.iconst 4, 1) := by decide +kernel
theorem dL_law_139 : decode cL_law 139 = .ok (.iadd, 1) := by decide +kernel
theorem dL_law_140 : decode cL_law 140 = .ok (.iaload, 1) := by decide +kernel
theorem dL_law_141 : decode cL_law 141 = .ok (.invokevirtual 17, 3) := by decide +kernel
theorem dL_law_144 : decode cL_law 144 = .ok (.if_icmp .eq 258, 3) := by decide +kernel
theorem dL_law_147 : decode cL_law 147 = .ok (.iconst 0, 1) := by decide +kernel
theorem dL_law_148 : decode cL_law 148 = .ok (.ireturn, 1) := by decide +kernel
theorem dL_law_149 : decode cL_law 149 = .ok (.aload_n 1, 1) := by decide +kernel
end
section
set_option maxRecDepth 100000
theorem dL_law_150 : decode cL_law 150 = .ok (.invokevirtual 18, 3) := by decide +kernel
theorem dL_law_153 : decode cL_law 153 = .ok (.aload_n 2, 1) := by decide +kernel
theorem dL_law_154 : decode cL_law 154 = .ok (.invokevirtual 22, 3) := by decide +kernel
theorem dL_law_157 : decode cL_law 157 = .ok (.if_icmp .eq 245, 3) := by decide +kernel
theorem dL_law_160 : decode cL_law 160 = .ok (.iconst 0, 1) := by decide +kernel
theorem dL_law_161 : decode cL_law 161 = .ok (.ireturn, 1) := by decide +kernel
theorem dL_law_162 : decode cL_law 162 = .ok (.aload_n 1, 1) := by decide +kernel
theorem dL_law_163 : decode cL_law 163 = .ok (.aload_n 0, 1) := by decide +kernel
theorem dL_law_164 : decode cL_law 164 = .ok (.iload_n 3, 1) := by decide +kernel
theorem dL_law_165 : decode cL_law 165 = .ok (.iconst 1, 1) := by decide +kernel
theorem dL_law_166 : decode cL_law 166 = .ok (.iadd, 1) := by decide +kernel
theorem dL_law_167 : decode cL_law 167 = .ok (.iaload, 1) := by decide +kernel
theorem dL_law_168 : decode cL_law 168 = .ok (.aload_n 0, 1) := by decide +kernel
theorem dL_law_169 : decode cL_law 169 = .ok (.iload_n 3, 1) := by decide +kernel
theorem dL_law_170 : decode cL_law 170 = .ok (.iconst 2, 1) := by decide +kernel
theorem dL_law_171 : decode cL_law 171 = .ok (.iadd, 1) := by decide +kernel
theorem dL_law_172 : decode cL_law 172 = .ok (.iaload, 1) := by decide +kernel
theorem dL_law_173 : decode cL_law 173 = .ok (.invokevirtual 23, 3) := by decide +kernel
theorem dL_law_176 : decode cL_law 176 = .ok (.aload_n 2, 1) := by decide +kernel
theorem dL_law_177 : decode cL_law 177 = .ok (.aload_n 0, 1) := by decide +kernel
theorem dL_law_178 : decode cL_law 178 = .ok (.iload_n 3, 1) := by decide +kernel
theorem dL_law_179 : decode cL_law 179 = .ok (.iconst 1, 1) := by decide +kernel
theorem dL_law_180 : decode cL_law 180 = .ok (.iadd, 1) := by decide +kernel
theorem dL_law_181 : decode cL_law 181 = .ok (.iaload, 1) := by decide +kernel
theorem dL_law_182 : decode cL_law 182 = .ok (.aload_n 0, 1) := by decide +kernel
theorem dL_law_183 : decode cL_law 183 = .ok (.iload_n 3, 1) := by decide +kernel
theorem dL_law_184 : decode cL_law 184 = .ok (.iconst 2, 1) := by decide +kernel
theorem dL_law_185 : decode cL_law 185 = .ok (.iadd, 1) := by decide +kernel
theorem dL_law_186 : decode cL_law 186 = .ok (.iaload, 1) := by decide +kernel
theorem dL_law_187 : decode cL_law 187 = .ok (.invokevirtual 27, 3) := by decide +kernel
theorem dL_law_190 : decode cL_law 190 = .ok (.if_icmp .eq 212, 3) := by decide +kernel
theorem dL_law_193 : decode cL_law 193 = .ok (.iconst 0, 1) := by decide +kernel
theorem dL_law_194 : decode cL_law 194 = .ok (.ireturn, 1) := by decide +kernel
theorem dL_law_195 : decode cL_law 195 = .ok (.aload_n 1, 1) := by decide +kernel
theorem dL_law_196 : decode cL_law 196 = .ok (.aload_n 0, 1) := by decide +kernel
theorem dL_law_197 : decode cL_law 197 = .ok (.iload_n 3, 1) := by decide +kernel
theorem dL_law_198 : decode cL_law 198 = .ok (.iconst 1, 1) := by decide +kernel
theorem dL_law_199 : decode cL_law 199 = .ok (.iadd, 1) := by decide +kernel
theorem dL_law_200 : decode cL_law 200 = .ok (.iaload, 1) := by decide +kernel
theorem dL_law_201 : decode cL_law 201 = .ok (.invokevirtual 28, 3) := by decide +kernel
theorem dL_law_204 : decode cL_law 204 = .ok (.aload_n 2, 1) := by decide +kernel
theorem dL_law_205 : decode cL_law 205 = .ok (.aload_n 0, 1) := by decide +kernel
theorem dL_law_206 : decode cL_law 206 = .ok (.iload_n 3, 1) := by decide +kernel
theorem dL_law_207 : decode cL_law 207 = .ok (.iconst 1, 1) := by decide +kernel
theorem dL_law_208 : decode cL_law 208 = .ok (.iadd, 1) := by decide +kernel
theorem dL_law_209 : decode cL_law 209 = .ok (.iaload, 1) := by decide +kernel
theorem dL_law_210 : decode cL_law 210 = .ok (.invokevirtual 32, 3) := by decide +kernel
theorem dL_law_213 : decode cL_law 213 = .ok (.if_icmp .eq 189, 3) := by decide +kernel
theorem dL_law_216 : decode cL_law 216 = .ok (.iconst 0, 1) := by decide +kernel
theorem dL_law_217 : decode cL_law 217 = .ok (.ireturn, 1) := by decide +kernel
theorem dL_law_218 : decode cL_law 218 = .ok (.aload_n 1, 1) := by decide +kernel
theorem dL_law_219 : decode cL_law 219 = .ok (.aload_n 0, 1) := by decide +kernel
theorem dL_law_220 : decode cL_law 220 = .ok (.iload_n 3, 1) := by decide +kernel
theorem dL_law_221 : decode cL_law 221 = .ok (.iconst 1, 1) := by decide +kernel
theorem dL_law_222 : decode cL_law 222 = .ok (.iadd, 1) := by decide +kernel
theorem dL_law_223 : decode cL_law 223 = .ok (.iaload, 1) := by decide +kernel
theorem dL_law_224 : decode cL_law 224 = .ok (.aload_n 0, 1) := by decide +kernel
theorem dL_law_225 : decode cL_law 225 = .ok (.iload_n 3, 1) := by decide +kernel
theorem dL_law_226 : decode cL_law 226 = .ok (.iconst 2, 1) := by decide +kernel
theorem dL_law_227 : decode cL_law 227 = .ok (.iadd, 1) := by decide +kernel
theorem dL_law_228 : decode cL_law 228 = .ok (.iaload, 1) := by decide +kernel
theorem dL_law_229 : decode cL_law 229 = .ok (.invokevirtual 33, 3) := by decide +kernel
theorem dL_law_232 : decode cL_law 232 = .ok (.aload_n 2, 1) := by decide +kernel
theorem dL_law_233 : decode cL_law 233 = .ok (.aload_n 0, 1) := by decide +kernel
theorem dL_law_234 : decode cL_law 234 = .ok (.iload_n 3, 1) := by decide +kernel
theorem dL_law_235 : decode cL_law 235 = .ok (.iconst 1, 1) := by decide +kernel
theorem dL_law_236 : decode cL_law 236 = .ok (.iadd, 1) := by decide +kernel
theorem dL_law_237 : decode cL_law 237 = .ok (.iaload, 1) := by decide +kernel
theorem dL_law_238 : decode cL_law 238 = .ok (.aload_n 0, 1) := by decide +kernel
theorem dL_law_239 : decode cL_law 239 = .ok (.iload_n 3, 1) := by decide +kernel
end
section
set_option maxRecDepth 100000
theorem dL_law_240 : decode cL_law 240 = .ok (.iconst 2, 1) := by decide +kernel
theorem dL_law_241 : decode cL_law 241 = .ok (.iadd, 1) := by decide +kernel
theorem dL_law_242 : decode cL_law 242 = .ok (.iaload, 1) := by decide +kernel
theorem dL_law_243 : decode cL_law 243 = .ok (.invokevirtual 36, 3) := by decide +kernel
theorem dL_law_246 : decode cL_law 246 = .ok (.if_icmp .eq 156, 3) := by decide +kernel
theorem dL_law_249 : decode cL_law 249 = .ok (.iconst 0, 1) := by decide +kernel
theorem dL_law_250 : decode cL_law 250 = .ok (.ireturn, 1) := by decide +kernel
theorem dL_law_251 : decode cL_law 251 = .ok (.aload_n 1, 1) := by decide +kernel
theorem dL_law_252 : decode cL_law 252 = .ok (.aload_n 0, 1) := by decide +kernel
theorem dL_law_253 : decode cL_law 253 = .ok (.iload_n 3, 1) := by decide +kernel
theorem dL_law_254 : decode cL_law 254 = .ok (.iconst 1, 1) := by decide +kernel
theorem dL_law_255 : decode cL_law 255 = .ok (.iadd, 1) := by decide +kernel
theorem dL_law_256 : decode cL_law 256 = .ok (.iaload, 1) := by decide +kernel
theorem dL_law_257 : decode cL_law 257 = .ok (.invokevirtual 37, 3) := by decide +kernel
theorem dL_law_260 : decode cL_law 260 = .ok (.aload_n 2, 1) := by decide +kernel
theorem dL_law_261 : decode cL_law 261 = .ok (.aload_n 0, 1) := by decide +kernel
theorem dL_law_262 : decode cL_law 262 = .ok (.iload_n 3, 1) := by decide +kernel
theorem dL_law_263 : decode cL_law 263 = .ok (.iconst 1, 1) := by decide +kernel
theorem dL_law_264 : decode cL_law 264 = .ok (.iadd, 1) := by decide +kernel
theorem dL_law_265 : decode cL_law 265 = .ok (.iaload, 1) := by decide +kernel
theorem dL_law_266 : decode cL_law 266 = .ok (.invokevirtual 40, 3) := by decide +kernel
theorem dL_law_269 : decode cL_law 269 = .ok (.if_icmp .eq 133, 3) := by decide +kernel
theorem dL_law_272 : decode cL_law 272 = .ok (.iconst 0, 1) := by decide +kernel
theorem dL_law_273 : decode cL_law 273 = .ok (.ireturn, 1) := by decide +kernel
theorem dL_law_274 : decode cL_law 274 = .ok (.aload_n 1, 1) := by decide +kernel
theorem dL_law_275 : decode cL_law 275 = .ok (.aload_n 0, 1) := by decide +kernel
theorem dL_law_276 : decode cL_law 276 = .ok (.iload_n 3, 1) := by decide +kernel
theorem dL_law_277 : decode cL_law 277 = .ok (.iconst 1, 1) := by decide +kernel
theorem dL_law_278 : decode cL_law 278 = .ok (.iadd, 1) := by decide +kernel
theorem dL_law_279 : decode cL_law 279 = .ok (.iaload, 1) := by decide +kernel
theorem dL_law_280 : decode cL_law 280 = .ok (.aload_n 0, 1) := by decide +kernel
theorem dL_law_281 : decode cL_law 281 = .ok (.iload_n 3, 1) := by decide +kernel
theorem dL_law_282 : decode cL_law 282 = .ok (.iconst 2, 1) := by decide +kernel
theorem dL_law_283 : decode cL_law 283 = .ok (.iadd, 1) := by decide +kernel
theorem dL_law_284 : decode cL_law 284 = .ok (.iaload, 1) := by decide +kernel
theorem dL_law_285 : decode cL_law 285 = .ok (.invokevirtual 41, 3) := by decide +kernel
theorem dL_law_288 : decode cL_law 288 = .ok (.aload_n 2, 1) := by decide +kernel
theorem dL_law_289 : decode cL_law 289 = .ok (.aload_n 0, 1) := by decide +kernel
theorem dL_law_290 : decode cL_law 290 = .ok (.iload_n 3, 1) := by decide +kernel
theorem dL_law_291 : decode cL_law 291 = .ok (.iconst 1, 1) := by decide +kernel
theorem dL_law_292 : decode cL_law 292 = .ok (.iadd, 1) := by decide +kernel
theorem dL_law_293 : decode cL_law 293 = .ok (.iaload, 1) := by decide +kernel
theorem dL_law_294 : decode cL_law 294 = .ok (.aload_n 0, 1) := by decide +kernel
theorem dL_law_295 : decode cL_law 295 = .ok (.iload_n 3, 1) := by decide +kernel
theorem dL_law_296 : decode cL_law 296 = .ok (.iconst 2, 1) := by decide +kernel
theorem dL_law_297 : decode cL_law 297 = .ok (.iadd, 1) := by decide +kernel
theorem dL_law_298 : decode cL_law 298 = .ok (.iaload, 1) := by decide +kernel
theorem dL_law_299 : decode cL_law 299 = .ok (.invokevirtual 44, 3) := by decide +kernel
theorem dL_law_302 : decode cL_law 302 = .ok (.if_icmp .eq 100, 3) := by decide +kernel
theorem dL_law_305 : decode cL_law 305 = .ok (.iconst 0, 1) := by decide +kernel
theorem dL_law_306 : decode cL_law 306 = .ok (.ireturn, 1) := by decide +kernel
theorem dL_law_307 : decode cL_law 307 = .ok (.aload_n 1, 1) := by decide +kernel
theorem dL_law_308 : decode cL_law 308 = .ok (.invokevirtual 45, 3) := by decide +kernel
theorem dL_law_311 : decode cL_law 311 = .ok (.aload_n 2, 1) := by decide +kernel
theorem dL_law_312 : decode cL_law 312 = .ok (.invokevirtual 48, 3) := by decide +kernel
theorem dL_law_315 : decode cL_law 315 = .ok (.if_icmp .eq 87, 3) := by decide +kernel
theorem dL_law_318 : decode cL_law 318 = .ok (.iconst 0, 1) := by decide +kernel
theorem dL_law_319 : decode cL_law 319 = .ok (.ireturn, 1) := by decide +kernel
theorem dL_law_320 : decode cL_law 320 = .ok (.aload_n 1, 1) := by decide +kernel
theorem dL_law_321 : decode cL_law 321 = .ok (.aload_n 0, 1) := by decide +kernel
theorem dL_law_322 : decode cL_law 322 = .ok (.iload_n 3, 1) := by decide +kernel
theorem dL_law_323 : decode cL_law 323 = .ok (.iconst 1, 1) := by decide +kernel
theorem dL_law_324 : decode cL_law 324 = .ok (.iadd, 1) := by decide +kernel
theorem dL_law_325 : decode cL_law 325 = .ok (.iaload, 1) := by decide +kernel
theorem dL_law_326 : decode cL_law 326 = .ok (.invokevirtual 49, 3) := by decide +kernel
theorem dL_law_329 : decode cL_law 329 = .ok (.aload_n 2, 1) := by decide +kernel
theorem dL_law_330 : decode cL_law 330 = .ok (.aload_n 0, 1) := by decide +kernel
theorem dL_law_331 : decode cL_law 331 = .ok (.iload_n 3, 1) := by decide +kernel
theorem dL_law_332 : decode cL_law 332 = .ok (.iconst 1, 1) := by decide +kernel
theorem dL_law_333 : decode cL_law 333 = .ok (.iadd, 1) := by decide +kernel
end
section
set_option maxRecDepth 100000
theorem dL_law_334 : decode cL_law 334 = .ok (.iaload, 1) := by decide +kernel
theorem dL_law_335 : decode cL_law 335 = .ok (.invokevirtual 52, 3) := by decide +kernel
theorem dL_law_338 : decode cL_law 338 = .ok (.if_icmp .eq 64, 3) := by decide +kernel
theorem dL_law_341 : decode cL_law 341 = .ok (.iconst 0, 1) := by decide +kernel
theorem dL_law_342 : decode cL_law 342 = .ok (.ireturn, 1) := by decide +kernel
theorem dL_law_343 : decode cL_law 343 = .ok (.aload_n 1, 1) := by decide +kernel
theorem dL_law_344 : decode cL_law 344 = .ok (.aload_n 0, 1) := by decide +kernel
theorem dL_law_345 : decode cL_law 345 = .ok (.iload_n 3, 1) := by decide +kernel
theorem dL_law_346 : decode cL_law 346 = .ok (.iconst 1, 1) := by decide +kernel
theorem dL_law_347 : decode cL_law 347 = .ok (.iadd, 1) := by decide +kernel
theorem dL_law_348 : decode cL_law 348 = .ok (.iaload, 1) := by decide +kernel
theorem dL_law_349 : decode cL_law 349 = .ok (.invokevirtual 53, 3) := by decide +kernel
theorem dL_law_352 : decode cL_law 352 = .ok (.aload_n 2, 1) := by decide +kernel
theorem dL_law_353 : decode cL_law 353 = .ok (.aload_n 0, 1) := by decide +kernel
theorem dL_law_354 : decode cL_law 354 = .ok (.iload_n 3, 1) := by decide +kernel
theorem dL_law_355 : decode cL_law 355 = .ok (.iconst 1, 1) := by decide +kernel
theorem dL_law_356 : decode cL_law 356 = .ok (.iadd, 1) := by decide +kernel
theorem dL_law_357 : decode cL_law 357 = .ok (.iaload, 1) := by decide +kernel
theorem dL_law_358 : decode cL_law 358 = .ok (.invokevirtual 56, 3) := by decide +kernel
theorem dL_law_361 : decode cL_law 361 = .ok (.if_icmp .eq 41, 3) := by decide +kernel
theorem dL_law_364 : decode cL_law 364 = .ok (.iconst 0, 1) := by decide +kernel
theorem dL_law_365 : decode cL_law 365 = .ok (.ireturn, 1) := by decide +kernel
theorem dL_law_366 : decode cL_law 366 = .ok (.aload_n 1, 1) := by decide +kernel
theorem dL_law_367 : decode cL_law 367 = .ok (.aload_n 0, 1) := by decide +kernel
theorem dL_law_368 : decode cL_law 368 = .ok (.iload_n 3, 1) := by decide +kernel
theorem dL_law_369 : decode cL_law 369 = .ok (.iconst 1, 1) := by decide +kernel
theorem dL_law_370 : decode cL_law 370 = .ok (.iadd, 1) := by decide +kernel
theorem dL_law_371 : decode cL_law 371 = .ok (.iaload, 1) := by decide +kernel
theorem dL_law_372 : decode cL_law 372 = .ok (.invokevirtual 57, 3) := by decide +kernel
theorem dL_law_375 : decode cL_law 375 = .ok (.aload_n 2, 1) := by decide +kernel
theorem dL_law_376 : decode cL_law 376 = .ok (.aload_n 0, 1) := by decide +kernel
theorem dL_law_377 : decode cL_law 377 = .ok (.iload_n 3, 1) := by decide +kernel
theorem dL_law_378 : decode cL_law 378 = .ok (.iconst 1, 1) := by decide +kernel
theorem dL_law_379 : decode cL_law 379 = .ok (.iadd, 1) := by decide +kernel
theorem dL_law_380 : decode cL_law 380 = .ok (.iaload, 1) := by decide +kernel
theorem dL_law_381 : decode cL_law 381 = .ok (.invokevirtual 60, 3) := by decide +kernel
theorem dL_law_384 : decode cL_law 384 = .ok (.if_icmp .eq 18, 3) := by decide +kernel
theorem dL_law_387 : decode cL_law 387 = .ok (.iconst 0, 1) := by decide +kernel
theorem dL_law_388 : decode cL_law 388 = .ok (.ireturn, 1) := by decide +kernel
theorem dL_law_389 : decode cL_law 389 = .ok (.aload_n 1, 1) := by decide +kernel
theorem dL_law_390 : decode cL_law 390 = .ok (.invokevirtual 61, 3) := by decide +kernel
theorem dL_law_393 : decode cL_law 393 = .ok (.aload_n 2, 1) := by decide +kernel
theorem dL_law_394 : decode cL_law 394 = .ok (.invokevirtual 64, 3) := by decide +kernel
theorem dL_law_397 : decode cL_law 397 = .ok (.if_icmp .eq 5, 3) := by decide +kernel
theorem dL_law_400 : decode cL_law 400 = .ok (.iconst 0, 1) := by decide +kernel
theorem dL_law_401 : decode cL_law 401 = .ok (.ireturn, 1) := by decide +kernel
theorem dL_law_402 : decode cL_law 402 = .ok (.iinc 3 5, 3) := by decide +kernel
theorem dL_law_405 : decode cL_law 405 = .ok (.goto (-387), 3) := by decide +kernel
theorem dL_law_408 : decode cL_law 408 = .ok (.iconst 1, 1) := by decide +kernel
theorem dL_law_409 : decode cL_law 409 = .ok (.ireturn, 1) := by decide +kernel
end
section
set_option maxRecDepth 100000
/-! the classes whose objects the worlds hold -/
abbrev vwCl : List vw_C := [(RX0, TX0, 8), (RX1, TX1, 6)]
/-! ===== numbers ===== -/
/-- one less, as a loop that counts down has it -/
def ot_dn (j : Nat) : Int32 := nI j + Int32.ofInt (-1)
theorem ot_dn_s (j : Nat) : ot_dn (j + 1) = nI j := pk_m1 j
theorem ot_dn_0 : ot_dn 0 = -1 := by decide
theorem ot_inc (j : Nat) : nI j + Int32.ofInt 1 = nI (j + 1) := nI_1 j
theorem ot_dec (j : Nat) : nI j + Int32.ofInt (-1) = ot_dn j := rfl
def ot_par (q : Nat) : Nat := (q - 1) / 4
theorem ot_par_lt {q : Nat} (h : 0 < q) : ot_par q < q := by unfold ot_par; omega
theorem ot_par_le (q : Nat) : ot_par q ≤ q := by unfold ot_par; omega
theorem ot_par84 {q : Nat} (h : q < 85) : ot_par q < 85 := by unfold ot_par; omega
theorem ot_parI {q : Nat} (h : q < 2 ^ 31) : (nI q - 1) / 4 = nI (ot_par q) := by
  rcases Nat.eq_zero_or_pos q with e | e
  · subst e; decide
  · have h1 : nI q - 1 = nI (q - 1) := pk_sub (a := q) (b := 1) e
    rw [h1]
    exact pk_div (a := q - 1) (d := 4) (by omega) (by decide) (by decide)
theorem ot_remI {q : Nat} (h0 : 0 < q) (h : q < 2 ^ 31) : (nI q - 1) - (nI q - 1) / 4 * 4 = nI ((q - 1) % 4) := by
  have h1 : nI q - 1 = nI (q - 1) := pk_sub (a := q) (b := 1) h0
  rw [h1]
  exact pk_rem (a := q - 1) (d := 4) (by omega) (by decide) (by decide)
/-! ===== instructions over numbers ===== -/
section OtRows
variable {p : Program} {l : Launch} {e : Env} {R : Room} {s : State} {m : MethodId} {args : Array Value} {below : List Frame} {meth : Method} {c : Code} {H : Heap} {locs : List Loc} {cells slots : Nat} {Q : State → Prop}
variable {cc : ByteArray} {pc : Nat} {ls : Array Slot} {rest : List Value}
theorem ot_r {x y : Int32} (h : x = y) (k : W p l e R s m args below meth c H locs cells slots Q (F0 m pc ls (.int y :: rest))) : W p l e R s m args below meth c H locs cells slots Q (F0 m pc ls (.int x :: rest)) := by rw [h]; exact k
theorem ot_iadd (hexec : p.tables.exec = Jvm.exec) (hb : c.code = cc) {x y : Int32} {a b : Nat} (hx : x = nI a) (hy : y = nI b) (hdg : decode cc pc = .ok (.iadd, 1)) (k : W p l e R s m args below meth c H locs cells slots Q (F0 m (pc + 1) ls (.int (nI (a + b)) :: rest))) : W p l e R s m args below meth c H locs cells slots Q (F0 m pc ls (.int y :: .int x :: rest)) := by
  refine lv_iadd hexec hb hdg ?_
  rw [hx, hy, nI_add]; exact k
theorem ot_imul (hexec : p.tables.exec = Jvm.exec) (hb : c.code = cc) {x y : Int32} {a b : Nat} (hx : x = nI a) (hy : y = nI b) (hdg : decode cc pc = .ok (.imul, 1)) (k : W p l e R s m args below meth c H locs cells slots Q (F0 m (pc + 1) ls (.int (nI (a * b)) :: rest))) : W p l e R s m args below meth c H locs cells slots Q (F0 m pc ls (.int y :: .int x :: rest)) := by
  refine lv_imul hexec hb hdg ?_
  rw [hx, hy, pk_mul]; exact k
theorem ot_icmp_eq (hexec : p.tables.exec = Jvm.exec) (hb : c.code = cc) {x y : Int32} {a b : Nat} (hx : x = nI a) (hy : y = nI b) (ha : a < 2 ^ 31) (hb2 : b < 2 ^ 31) {off : Int} {tgt : Nat} (hdg : decode cc pc = .ok (.if_icmp .eq off, 3)) (ht : (pc : Int) + off = (tgt : Int))
    (kt : a = b → W p l e R s m args below meth c H locs cells slots Q (F0 m tgt ls rest)) (kf : ¬ a = b → W p l e R s m args below meth c H locs cells slots Q (F0 m (pc + 3) ls rest)) : W p l e R s m args below meth c H locs cells slots Q (F0 m pc ls (.int y :: .int x :: rest)) := by
  subst hx; subst hy
  have h := nI_eq ha hb2
  exact lv_icmp_eq hexec hb hdg ht (fun q => kt (h.mp q)) (fun q => kf (fun z => q (h.mpr z)))
theorem ot_if_eq (hexec : p.tables.exec = Jvm.exec) (hb : c.code = cc) {x : Int32} {a : Nat} (hx : x = nI a) (ha : a < 2 ^ 31) {off : Int} {tgt : Nat} (hdg : decode cc pc = .ok (.ifCond .eq off, 3)) (ht : (pc : Int) + off = (tgt : Int))
    (kt : a = 0 → W p l e R s m args below meth c H locs cells slots Q (F0 m tgt ls rest)) (kf : ¬ a = 0 → W p l e R s m args below meth c H locs cells slots Q (F0 m (pc + 3) ls rest)) : W p l e R s m args below meth c H locs cells slots Q (F0 m pc ls (.int x :: rest)) := by
  subst hx
  have h : nI a = 0 ↔ a = 0 := nI_eq ha (b := 0) (by decide)
  exact lv_if_eq hexec hb hdg ht (fun q => kt (h.mp q)) (fun q => kf (fun z => q (h.mpr z)))
theorem ot_icmp_ne (hexec : p.tables.exec = Jvm.exec) (hb : c.code = cc) {x y : Int32} {a b : Nat} (hx : x = nI a) (hy : y = nI b) (ha : a < 2 ^ 31) (hb2 : b < 2 ^ 31) {off : Int} {tgt : Nat} (hdg : decode cc pc = .ok (.if_icmp .ne off, 3)) (ht : (pc : Int) + off = (tgt : Int))
    (kt : ¬ a = b → W p l e R s m args below meth c H locs cells slots Q (F0 m tgt ls rest)) (kf : a = b → W p l e R s m args below meth c H locs cells slots Q (F0 m (pc + 3) ls rest)) : W p l e R s m args below meth c H locs cells slots Q (F0 m pc ls (.int y :: .int x :: rest)) := by
  subst hx; subst hy
  have h := nI_eq ha hb2
  exact lv_icmp_ne hexec hb hdg ht (fun q => kt (fun z => q (h.mpr z))) (fun q => kf (h.mp q))
theorem ot_if_ne (hexec : p.tables.exec = Jvm.exec) (hb : c.code = cc) {x : Int32} {a : Nat} (hx : x = nI a) (ha : a < 2 ^ 31) {off : Int} {tgt : Nat} (hdg : decode cc pc = .ok (.ifCond .ne off, 3)) (ht : (pc : Int) + off = (tgt : Int))
    (kt : ¬ a = 0 → W p l e R s m args below meth c H locs cells slots Q (F0 m tgt ls rest)) (kf : a = 0 → W p l e R s m args below meth c H locs cells slots Q (F0 m (pc + 3) ls rest)) : W p l e R s m args below meth c H locs cells slots Q (F0 m pc ls (.int x :: rest)) := by
  subst hx
  have h : nI a = 0 ↔ a = 0 := nI_eq ha (b := 0) (by decide)
  exact lv_if_ne hexec hb hdg ht (fun q => kt (fun z => q (h.mpr z))) (fun q => kf (h.mp q))
theorem ot_icmp_lt (hexec : p.tables.exec = Jvm.exec) (hb : c.code = cc) {x y : Int32} {a b : Nat} (hx : x = nI a) (hy : y = nI b) (ha : a < 2 ^ 31) (hb2 : b < 2 ^ 31) {off : Int} {tgt : Nat} (hdg : decode cc pc = .ok (.if_icmp .lt off, 3)) (ht : (pc : Int) + off = (tgt : Int))
    (kt : a < b → W p l e R s m args below meth c H locs cells slots Q (F0 m tgt ls rest)) (kf : ¬ a < b → W p l e R s m args below meth c H locs cells slots Q (F0 m (pc + 3) ls rest)) : W p l e R s m args below meth c H locs cells slots Q (F0 m pc ls (.int y :: .int x :: rest)) := by
  subst hx; subst hy
  have h := nI_ltI ha hb2
  exact lv_icmp_lt hexec hb hdg ht (fun q => kt (h.mp q)) (fun q => kf (fun z => q (h.mpr z)))
theorem ot_if_lt (hexec : p.tables.exec = Jvm.exec) (hb : c.code = cc) {x : Int32} {a : Nat} (hx : x = nI a) (ha : a < 2 ^ 31) {off : Int} {tgt : Nat} (hdg : decode cc pc = .ok (.ifCond .lt off, 3)) (ht : (pc : Int) + off = (tgt : Int))
    (kt : a < 0 → W p l e R s m args below meth c H locs cells slots Q (F0 m tgt ls rest)) (kf : ¬ a < 0 → W p l e R s m args below meth c H locs cells slots Q (F0 m (pc + 3) ls rest)) : W p l e R s m args below meth c H locs cells slots Q (F0 m pc ls (.int x :: rest)) := by
  subst hx
  have h : nI a < 0 ↔ a < 0 := nI_ltI ha (b := 0) (by decide)
  exact lv_if_lt hexec hb hdg ht (fun q => kt (h.mp q)) (fun q => kf (fun z => q (h.mpr z)))
theorem ot_icmp_ge (hexec : p.tables.exec = Jvm.exec) (hb : c.code = cc) {x y : Int32} {a b : Nat} (hx : x = nI a) (hy : y = nI b) (ha : a < 2 ^ 31) (hb2 : b < 2 ^ 31) {off : Int} {tgt : Nat} (hdg : decode cc pc = .ok (.if_icmp .ge off, 3)) (ht : (pc : Int) + off = (tgt : Int))
    (kt : b ≤ a → W p l e R s m args below meth c H locs cells slots Q (F0 m tgt ls rest)) (kf : ¬ b ≤ a → W p l e R s m args below meth c H locs cells slots Q (F0 m (pc + 3) ls rest)) : W p l e R s m args below meth c H locs cells slots Q (F0 m pc ls (.int y :: .int x :: rest)) := by
  subst hx; subst hy
  have h := nI_leI hb2 ha
  exact lv_icmp_ge hexec hb hdg ht (fun q => kt (h.mp q)) (fun q => kf (fun z => q (h.mpr z)))
theorem ot_if_ge (hexec : p.tables.exec = Jvm.exec) (hb : c.code = cc) {x : Int32} {a : Nat} (hx : x = nI a) (ha : a < 2 ^ 31) {off : Int} {tgt : Nat} (hdg : decode cc pc = .ok (.ifCond .ge off, 3)) (ht : (pc : Int) + off = (tgt : Int))
    (kt : 0 ≤ a → W p l e R s m args below meth c H locs cells slots Q (F0 m tgt ls rest)) (kf : ¬ 0 ≤ a → W p l e R s m args below meth c H locs cells slots Q (F0 m (pc + 3) ls rest)) : W p l e R s m args below meth c H locs cells slots Q (F0 m pc ls (.int x :: rest)) := by
  subst hx
  have h : 0 ≤ nI a ↔ 0 ≤ a := nI_leI (a := 0) (by decide) ha
  exact lv_if_ge hexec hb hdg ht (fun q => kt (h.mp q)) (fun q => kf (fun z => q (h.mpr z)))
theorem ot_icmp_gt (hexec : p.tables.exec = Jvm.exec) (hb : c.code = cc) {x y : Int32} {a b : Nat} (hx : x = nI a) (hy : y = nI b) (ha : a < 2 ^ 31) (hb2 : b < 2 ^ 31) {off : Int} {tgt : Nat} (hdg : decode cc pc = .ok (.if_icmp .gt off, 3)) (ht : (pc : Int) + off = (tgt : Int))
    (kt : b < a → W p l e R s m args below meth c H locs cells slots Q (F0 m tgt ls rest)) (kf : ¬ b < a → W p l e R s m args below meth c H locs cells slots Q (F0 m (pc + 3) ls rest)) : W p l e R s m args below meth c H locs cells slots Q (F0 m pc ls (.int y :: .int x :: rest)) := by
  subst hx; subst hy
  have h := nI_ltI hb2 ha
  exact lv_icmp_gt hexec hb hdg ht (fun q => kt (h.mp q)) (fun q => kf (fun z => q (h.mpr z)))
theorem ot_if_gt (hexec : p.tables.exec = Jvm.exec) (hb : c.code = cc) {x : Int32} {a : Nat} (hx : x = nI a) (ha : a < 2 ^ 31) {off : Int} {tgt : Nat} (hdg : decode cc pc = .ok (.ifCond .gt off, 3)) (ht : (pc : Int) + off = (tgt : Int))
    (kt : 0 < a → W p l e R s m args below meth c H locs cells slots Q (F0 m tgt ls rest)) (kf : ¬ 0 < a → W p l e R s m args below meth c H locs cells slots Q (F0 m (pc + 3) ls rest)) : W p l e R s m args below meth c H locs cells slots Q (F0 m pc ls (.int x :: rest)) := by
  subst hx
  have h : 0 < nI a ↔ 0 < a := nI_ltI (a := 0) (by decide) ha
  exact lv_if_gt hexec hb hdg ht (fun q => kt (h.mp q)) (fun q => kf (fun z => q (h.mpr z)))
theorem ot_icmp_le (hexec : p.tables.exec = Jvm.exec) (hb : c.code = cc) {x y : Int32} {a b : Nat} (hx : x = nI a) (hy : y = nI b) (ha : a < 2 ^ 31) (hb2 : b < 2 ^ 31) {off : Int} {tgt : Nat} (hdg : decode cc pc = .ok (.if_icmp .le off, 3)) (ht : (pc : Int) + off = (tgt : Int))
    (kt : a ≤ b → W p l e R s m args below meth c H locs cells slots Q (F0 m tgt ls rest)) (kf : ¬ a ≤ b → W p l e R s m args below meth c H locs cells slots Q (F0 m (pc + 3) ls rest)) : W p l e R s m args below meth c H locs cells slots Q (F0 m pc ls (.int y :: .int x :: rest)) := by
  subst hx; subst hy
  have h := nI_leI ha hb2
  exact lv_icmp_le hexec hb hdg ht (fun q => kt (h.mp q)) (fun q => kf (fun z => q (h.mpr z)))
theorem ot_if_le (hexec : p.tables.exec = Jvm.exec) (hb : c.code = cc) {x : Int32} {a : Nat} (hx : x = nI a) (ha : a < 2 ^ 31) {off : Int} {tgt : Nat} (hdg : decode cc pc = .ok (.ifCond .le off, 3)) (ht : (pc : Int) + off = (tgt : Int))
    (kt : a ≤ 0 → W p l e R s m args below meth c H locs cells slots Q (F0 m tgt ls rest)) (kf : ¬ a ≤ 0 → W p l e R s m args below meth c H locs cells slots Q (F0 m (pc + 3) ls rest)) : W p l e R s m args below meth c H locs cells slots Q (F0 m pc ls (.int x :: rest)) := by
  subst hx
  have h : nI a ≤ 0 ↔ a ≤ 0 := nI_leI ha (b := 0) (by decide)
  exact lv_if_le hexec hb hdg ht (fun q => kt (h.mp q)) (fun q => kf (fun z => q (h.mpr z)))
end OtRows
/-! ===== worlds of one object and its arrays ===== -/
def ot_F (as : List Nat) (sz : Nat) : Nat → Prop := fun q => q ∈ as ∨ sz ≤ q
def ot_I (G : va_G) (A : Nat → Prop) (s : State) (H : Heap) (locs : List Loc) (ws : va_W) : Prop := va_P G vwCl ws H ∧ va_D A ws ∧ va_S A s.heap H locs
def ot_Pre (G : va_G) (d : ClassId) (ws : va_W) (sz : Nat) (U : State) : Prop := U.heap.size = sz ∧ va_P G vwCl ws U.heap ∧ va_K G vwCl [(d, .int)] U ∧ va_D (fun _ => True) ws
def ot_B (G : va_G) (d : ClassId) (F : Nat → Prop) (ws : va_W) (t : State) : Prop := va_P G vwCl ws t.heap ∧ va_K G vwCl [(d, .int)] t ∧ va_D F ws
/-- a method's contract: it may change its world's cells, and answers an int -/
def ot_Mi {S : Type} (l : Launch) (G : va_G) (d : ClassId) (y : MethodName) (cc : ByteArray) (n : Nat) (ret : Option FieldType) (rm : Room) (as : List Nat) (wf : S → va_W) (As : List Value) (u : S) (post : Int32 → S → Prop) : Prop :=
  ∀ sz : Nat, Met l y (ws_ y cc n ret) rm (va_Pc As (ot_Pre G d (wf u) sz)) (va_Qi post (fun u' t => ot_B G d (ot_F as sz) (wf u') t) (ot_F as sz)) 0 0 (ot_F as sz)
/-- the same, without an answer -/
def ot_Mv {S : Type} (l : Launch) (G : va_G) (d : ClassId) (y : MethodName) (cc : ByteArray) (n : Nat) (rm : Room) (as : List Nat) (wf : S → va_W) (As : List Value) (u : S) (post : S → Prop) : Prop :=
  ∀ sz : Nat, Met l y (ws_ y cc n none) rm (va_Pc As (ot_Pre G d (wf u) sz)) (va_Qv post (fun u' t => ot_B G d (ot_F as sz) (wf u') t) (ot_F as sz)) 0 0 (ot_F as sz)
/-- a method that reads its world alone -/
def ot_Mr (l : Launch) (G : va_G) (d : ClassId) (y : MethodName) (cc : ByteArray) (n : Nat) (ret : Option FieldType) (rm : Room) (ws : va_W) (As : List Value) (r : Int32) : Prop :=
  Met l y (ws_ y cc n ret) rm (va_Pc As (fun U => va_P G vwCl ws U.heap ∧ va_K G vwCl [(d, .int)] U)) (QcRead r) 0 0 (fun _ => False)
/-- a static method of numbers -/
def ot_Ms (l : Launch) (y : MethodName) (cc : ByteArray) (n : Nat) (ret : Option FieldType) (rm : Room) (As : List Value) (r : Int32) : Prop :=
  Met l y (ws_ y cc n ret) rm (fun v _ => v = As.toArray) (QcRead r) 0 0 (fun _ => False)
def ot_Zi {S : Type} (G : va_G) (d : ClassId) (as : List Nat) (wf : S → va_W) (post : Int32 → S → Prop) (below : List Frame) (args : Array Value) (s : State) : State → Prop :=
  MQ below (va_Qi post (fun u' t => ot_B G d (ot_F as s.heap.size) (wf u') t) (ot_F as s.heap.size)) args s 0 0 (ot_F as s.heap.size)
def ot_Zv {S : Type} (G : va_G) (d : ClassId) (as : List Nat) (wf : S → va_W) (post : S → Prop) (below : List Frame) (args : Array Value) (s : State) : State → Prop :=
  MQ below (va_Qv post (fun u' t => ot_B G d (ot_F as s.heap.size) (wf u') t) (ot_F as s.heap.size)) args s 0 0 (ot_F as s.heap.size)
def ot_Zr (r : Int32) (below : List Frame) (args : Array Value) (s : State) : State → Prop := MQ below (QcRead r) args s 0 0 (fun _ => False)
theorem ot_self {as : List Nat} {ws : va_W} {A : Nat → Prop} {sz : Nat} (ha : ws.map (fun q => q.1) = as) (h : va_D A ws) : va_D (ot_F as sz) ws := by
  refine ⟨h.1, fun k q hk => Or.inl ?_⟩
  rw [← ha]
  exact List.mem_map.mpr ⟨q, List.mem_of_getElem? hk, rfl⟩
section OtMet
variable {l : Launch} {G : va_G} {d : ClassId} {y : MethodName} {cc : ByteArray} {n : Nat} {ret : Option FieldType} {rm : Room} {as : List Nat} {As : List Value}
theorem ot_Mi_of {S : Type} {wf : S → va_W} {u : S} {post : Int32 → S → Prop} (hy : plainName y.cls = true) (ha : (wf u).map (fun q => q.1) = as) (hn : (lg_sl As).length ≤ n)
    (body : ∀ p e s m below meth c, CallFix p m c cc n s As.toArray lw_all y.cls → va_K G vwCl [(d, .int)] s → meth.sig.returnType = ret → meth.locks = false → ot_I G (ot_F as s.heap.size) s s.heap [] (wf u) → ∀ ls, lv_has ls n (lv_args 0 As) → W p l e rm s m As.toArray below meth c s.heap [] 0 0 (ot_Zi G d as wf post below As.toArray s) (F0 m 0 ls [])) : ot_Mi l G d y cc n ret rm as wf As u post := by
  intro sz
  refine Met.ofW (cc := cc) (maxL := n) (ret := ret) hy rfl ?_
  intro p e s m args below meth c s₁ B hml hv
  obtain ⟨rfl, hsz, hP, hK, hD0⟩ := hv
  have hts := atoms_spec (ws := ws_ y cc n ret) B.pre
  have hts : ∀ w ∈ lw_all, w.before _ s = true := fun w h => hts w (List.mem_cons_of_mem _ h)
  subst hsz
  rw [lg_entry_eq]
  exact body p e s m below meth c ⟨B.exec, B.bytes, hml, findClass_of_methodNamed B.named, hts⟩ hK B.returns B.notSynchronized ⟨hP, ot_self ha hD0, va_S.rf⟩ _ (lv_entry As hn)
theorem ot_Mv_of {S : Type} {wf : S → va_W} {u : S} {post : S → Prop} (hy : plainName y.cls = true) (ha : (wf u).map (fun q => q.1) = as) (hn : (lg_sl As).length ≤ n)
    (body : ∀ p e s m below meth c, CallFix p m c cc n s As.toArray lw_all y.cls → va_K G vwCl [(d, .int)] s → meth.sig.returnType = none → meth.locks = false → ot_I G (ot_F as s.heap.size) s s.heap [] (wf u) → ∀ ls, lv_has ls n (lv_args 0 As) → W p l e rm s m As.toArray below meth c s.heap [] 0 0 (ot_Zv G d as wf post below As.toArray s) (F0 m 0 ls [])) : ot_Mv l G d y cc n rm as wf As u post := by
  intro sz
  refine Met.ofW (cc := cc) (maxL := n) (ret := none) hy rfl ?_
  intro p e s m args below meth c s₁ B hml hv
  obtain ⟨rfl, hsz, hP, hK, hD0⟩ := hv
  have hts := atoms_spec (ws := ws_ y cc n none) B.pre
  have hts : ∀ w ∈ lw_all, w.before _ s = true := fun w h => hts w (List.mem_cons_of_mem _ h)
  subst hsz
  rw [lg_entry_eq]
  exact body p e s m below meth c ⟨B.exec, B.bytes, hml, findClass_of_methodNamed B.named, hts⟩ hK B.returns B.notSynchronized ⟨hP, ot_self ha hD0, va_S.rf⟩ _ (lv_entry As hn)
theorem ot_Mr_of {ws : va_W} {r : Int32} (hy : plainName y.cls = true) (hn : (lg_sl As).length ≤ n)
    (body : ∀ p e s m below meth c, CallFix p m c cc n s As.toArray lw_all y.cls → va_K G vwCl [(d, .int)] s → meth.sig.returnType = ret → meth.locks = false → va_P G vwCl ws s.heap → ∀ ls, lv_has ls n (lv_args 0 As) → W p l e rm s m As.toArray below meth c s.heap [] 0 0 (ot_Zr r below As.toArray s) (F0 m 0 ls [])) : ot_Mr l G d y cc n ret rm ws As r := by
  refine Met.ofW (cc := cc) (maxL := n) (ret := ret) hy rfl ?_
  intro p e s m args below meth c s₁ B hml hv
  obtain ⟨rfl, hP, hK⟩ := hv
  have hts := atoms_spec (ws := ws_ y cc n ret) B.pre
  have hts : ∀ w ∈ lw_all, w.before _ s = true := fun w h => hts w (List.mem_cons_of_mem _ h)
  rw [lg_entry_eq]
  exact body p e s m below meth c ⟨B.exec, B.bytes, hml, findClass_of_methodNamed B.named, hts⟩ hK B.returns B.notSynchronized hP _ (lv_entry As hn)
theorem ot_Ms_of {r : Int32} (hy : plainName y.cls = true) (hn : (lg_sl As).length ≤ n)
    (body : ∀ p e s m below meth c, CallFix p m c cc n s As.toArray lw_all y.cls → meth.sig.returnType = ret → meth.locks = false → ∀ ls, lv_has ls n (lv_args 0 As) → W p l e rm s m As.toArray below meth c s.heap [] 0 0 (ot_Zr r below As.toArray s) (F0 m 0 ls [])) : ot_Ms l y cc n ret rm As r := by
  refine Met.ofW (cc := cc) (maxL := n) (ret := ret) hy rfl ?_
  intro p e s m args below meth c s₁ B hml hv
  have hv : args = As.toArray := hv
  subst hv
  have hts := atoms_spec (ws := ws_ y cc n ret) B.pre
  have hts : ∀ w ∈ lw_all, w.before _ s = true := fun w h => hts w (List.mem_cons_of_mem _ h)
  rw [lg_entry_eq]
  exact body p e s m below meth c ⟨B.exec, B.bytes, hml, findClass_of_methodNamed B.named, hts⟩ B.returns B.notSynchronized _ (lv_entry As hn)
end OtMet
section OtRet
variable {p : Program} {l : Launch} {e : Env} {R : Room} {s : State} {m : MethodId} {args : Array Value} {below : List Frame} {meth : Method} {c : Code} {H : Heap} {locs : List Loc}
variable {cc : ByteArray} {pc nL : Nat} {ls : Array Slot} {G : va_G} {d : ClassId} {as : List Nat} {own : String}
theorem ot_iret {S : Type} {wf : S → va_W} {u : S} {post : Int32 → S → Prop} {v : Int32} (hC : CallFix p m c cc nL s args lw_all own) (hK : va_K G vwCl [(d, .int)] s) (hr : meth.sig.returnType = some .int) (hlk : meth.locks = false) (hI : ot_I G (ot_F as s.heap.size) s H locs (wf u)) (hp : post v u) (hdg : decode cc pc = .ok (.ireturn, 1)) : W p l e R s m args below meth c H locs 0 0 (ot_Zi G d as wf post below args s) (F0 m pc ls [.int v]) :=
  W.iret (v := v) hC.1 hC.2.1 hr (fun t ht hW => ⟨⟨v, u, rfl, hp, by rw [ht]; exact hI.1, va_K.moved hW.alike hK, hI.2.1⟩, hI.2.2.F ht⟩) hI.2.2.2.2 hdg hlk
theorem ot_zret {S : Type} {wf : S → va_W} {u : S} {post : Int32 → S → Prop} {v : Int32} (hC : CallFix p m c cc nL s args lw_all own) (hK : va_K G vwCl [(d, .int)] s) (hr : meth.sig.returnType = some .boolean) (hlk : meth.locks = false) (hI : ot_I G (ot_F as s.heap.size) s H locs (wf u)) (hp : post v u) (hn : narrow .boolean (.int v) = .int v) (hdg : decode cc pc = .ok (.ireturn, 1)) : W p l e R s m args below meth c H locs 0 0 (ot_Zi G d as wf post below args s) (F0 m pc ls [.int v]) :=
  W.zret (v := v) hC.1 hC.2.1 hr hn (fun t ht hW => ⟨⟨v, u, rfl, hp, by rw [ht]; exact hI.1, va_K.moved hW.alike hK, hI.2.1⟩, hI.2.2.F ht⟩) hI.2.2.2.2 hdg hlk
theorem ot_vret {S : Type} {wf : S → va_W} {u : S} {post : S → Prop} (hC : CallFix p m c cc nL s args lw_all own) (hK : va_K G vwCl [(d, .int)] s) (hr : meth.sig.returnType = none) (hlk : meth.locks = false) (hI : ot_I G (ot_F as s.heap.size) s H locs (wf u)) (hp : post u) (hdg : decode cc pc = .ok (.return_, 1)) : W p l e R s m args below meth c H locs 0 0 (ot_Zv G d as wf post below args s) (F0 m pc ls []) :=
  W.vret hC.1 hC.2.1 hr (fun t ht hW => ⟨⟨u, rfl, hp, by rw [ht]; exact hI.1, va_K.moved hW.alike hK, hI.2.1⟩, hI.2.2.F ht⟩) hI.2.2.2.2 hdg hlk
theorem ot_iretR {r v : Int32} (hC : CallFix p m c cc nL s args lw_all own) (hr : meth.sig.returnType = some .int) (hlk : meth.locks = false) (hp : v = r) (hdg : decode cc pc = .ok (.ireturn, 1)) : W p l e R s m args below meth c s.heap [] 0 0 (ot_Zr r below args s) (F0 m pc ls [.int v]) := by
  subst hp
  exact W.iret (v := v) hC.1 hC.2.1 hr (fun t ht hW => ⟨rfl, ht⟩) (fun q h => by cases h) hdg hlk
theorem ot_zretR {r v : Int32} (hC : CallFix p m c cc nL s args lw_all own) (hr : meth.sig.returnType = some .boolean) (hlk : meth.locks = false) (hp : v = r) (hn : narrow .boolean (.int v) = .int v) (hdg : decode cc pc = .ok (.ireturn, 1)) : W p l e R s m args below meth c s.heap [] 0 0 (ot_Zr r below args s) (F0 m pc ls [.int v]) := by
  subst hp
  exact W.zret (v := v) hC.1 hC.2.1 hr hn (fun t ht hW => ⟨rfl, ht⟩) (fun q h => by cases h) hdg hlk
end OtRet
theorem ot_join {A0 : Nat → Prop} {G : va_G} {as : List Nat} {wc wr w1 : va_W} {H H1 : Heap} (ha : wc.map (fun q => q.1) = as) (hP : va_P G vwCl (wc ++ wr) H) (hD : va_D A0 (wc ++ wr)) (hz : H.size ≤ H1.size) (hk : ∀ q : Nat, q < H.size → ¬ ot_F as H.size q → H1[q]? = H[q]?) (hF : ∀ q, ot_F as H.size q → A0 q) (hP1 : va_P G vwCl w1 H1) (hD1 : va_D (ot_F as H.size) w1) : va_P G vwCl (w1 ++ wr) H1 ∧ va_D A0 (w1 ++ wr) := by
  have at' : ∀ (k : Nat) (q : Nat × va_E), wr[k]? = some q → (wc ++ wr)[wc.length + k]? = some q := fun k q h => by
    rw [List.getElem?_append_right (by omega), Nat.add_sub_cancel_left]; exact h
  have apart : ∀ (k : Nat) (q : Nat × va_E), wr[k]? = some q → q.1 < H.size ∧ ¬ ot_F as H.size q.1 := by
    intro k q hq
    have hl := (hP _ q (at' k q hq)).lt
    refine ⟨hl, fun h => ?_⟩
    rcases h with h | h
    · rw [← ha] at h
      obtain ⟨x, hx, hxq⟩ := List.mem_map.mp h
      obtain ⟨i, hi⟩ := List.getElem?_of_mem hx
      have hil := (List.getElem?_eq_some_iff.mp hi).1
      have hij := hD.1 i (wc.length + k) x q (by rw [List.getElem?_append_left hil]; exact hi) (at' k q hq) hxq
      omega
    · omega
  refine ⟨va_P.app hP1 (fun k q hq => ?_), va_D.app (hD1.weaken (fun k q _ h => hF q.1 h)) ⟨fun i j x z hx hz' hxz => ?_, fun k q hq => ?_⟩ (fun i j x z hx hz' hxz => ?_)⟩
  · obtain ⟨g1, g2⟩ := apart k q hq
    exact (hP _ q (at' k q hq)).kept (hk q.1 g1 g2)
  · have := hD.1 _ _ x z (at' i x hx) (at' j z hz') hxz
    omega
  · exact hD.2 _ q (at' k q hq)
  · exact (apart j z hz').2 (by rw [← hxz]; exact hD1.2 i x hx)
section OtCall
variable {p : Program} {l : Launch} {e : Env} {R : Room} {s : State} {m : MethodId} {args : Array Value} {below : List Frame} {meth : Method} {c : Code} {H : Heap} {locs : List Loc} {cells slots : Nat} {Q : State → Prop}
variable {cc bytes : ByteArray} {pc nL n maxL index : Nat} {ls : Array Slot} {st0 rest : List Value} {G : va_G} {d : ClassId} {as : List Nat} {own : String} {A : Nat → Prop} {y : MethodName} {ret : Option FieldType} {rm : Room} {As : List Value}
theorem ot_calls {r : Int32} (hM : ot_Ms l y bytes maxL ret rm As r) (hC : CallFix p m c cc nL s args lw_all own) (cw : CallB R s args own index y bytes maxL ret (ws_ y bytes maxL ret) rm 0 0 n ∧ (Cond.static y).before args s = true) (hn : As.length = n) (hst : st0 = As.reverse ++ rest) (hl : ls.size = nL) (h8 : (rest.map fun v => v.category).sum ≤ 8) (hdg : decode cc pc = .ok (.invokestatic index, 3)) (hf : cells ≤ R.cells ∧ slots ≤ R.slots)
    (kk : W p l e R s m args below meth c H locs cells slots Q (F0 m (pc + 3) ls (.int r :: rest))) : W p l e R s m args below meth c H locs cells slots Q (F0 m pc ls st0) :=
  W.callR (W.runS (As := As) (rest := rest) hC hM cw preEq rfl hn hl hst (lv_room h8) hdg hf) kk
theorem ot_callr {r : Int32} {ws : va_W} {b ci q0 : Nat} {fs : List Value} {T : u_T} {N : Nat} {C : String} (hM : ot_Mr l G d y bytes maxL ret rm ws (.ref b :: As) r) (hC : CallFix p m c cc nL s args lw_all own) (hK : va_K G vwCl [(d, .int)] s) (hP : va_P G vwCl ws H) (hrc : ws[q0]? = some (b, .inr (ci, fs))) (hcl : vwCl[ci]? = some (C, T, N)) (cw : CallW R s args own C index y bytes maxL ret (ws_ y bytes maxL ret) rm 0 0 n) (hn : As.length = n) (hst : st0 = As.reverse ++ .ref b :: rest) (hl : ls.size = nL) (h8 : (rest.map fun v => v.category).sum ≤ 8) (hdg : decode cc pc = .ok (.invokevirtual index, 3)) (hf : cells ≤ R.cells ∧ slots ≤ R.slots)
    (kk : W p l e R s m args below meth c H locs cells slots Q (F0 m (pc + 3) ls (.int r :: rest))) : W p l e R s m args below meth c H locs cells slots Q (F0 m pc ls st0) :=
  W.callR (W.runV (As := As) (rest := rest) hC hM cw ⟨fun a U g mk q => by obtain ⟨q0, qP, qK⟩ := q; exact ⟨q0, qP, va_K.moved (u := U) (U := U.calling g mk a) (Vm.Alike.refl U.vm) qK⟩, va_recv hK hP (q0 := q0) hcl hrc, fun U hU hW => ⟨rfl, by rw [hU]; exact hP, va_K.moved hW.alike hK⟩⟩ rfl hn hl hst (lv_room h8) hdg hf) kk
theorem ot_calli {S : Type} {wf : S → va_W} {u : S} {wr : va_W} {post : Int32 → S → Prop} {b ci : Nat} {fs : List Value} {T : u_T} {N : Nat} {C : String} (hM : ot_Mi l G d y bytes maxL ret rm as wf (.ref b :: As) u post) (hC : CallFix p m c cc nL s args lw_all own) (hK : va_K G vwCl [(d, .int)] s) (hI : ot_I G A s H locs (wf u ++ wr)) (hA : ∀ q, s.heap.size ≤ q → A q) (ha : ∀ u, (wf u).map (fun q => q.1) = as) (hrc : (wf u)[0]? = some (b, .inr (ci, fs))) (hcl : vwCl[ci]? = some (C, T, N)) (cw : CallW R s args own C index y bytes maxL ret (ws_ y bytes maxL ret) rm 0 0 n) (hn : As.length = n) (hst : st0 = As.reverse ++ .ref b :: rest) (hl : ls.size = nL) (h8 : (rest.map fun v => v.category).sum ≤ 8) (hdg : decode cc pc = .ok (.invokevirtual index, 3)) (hf : cells ≤ R.cells ∧ slots ≤ R.slots)
    (kk : ∀ (r : Int32) (u' : S) (H1 : Heap) (locs1 : List Loc), post r u' → ot_I G A s H1 locs1 (wf u' ++ wr) → W p l e R s m args below meth c H1 locs1 cells slots Q (F0 m (pc + 3) ls (.int r :: rest))) : W p l e R s m args below meth c H locs cells slots Q (F0 m pc ls st0) := by
  obtain ⟨hP, hD, hS⟩ := hI
  have hl0 : ∀ (k : Nat) (q : Nat × va_E), (wf u)[k]? = some q → (wf u ++ wr)[k]? = some q := fun k q h => by
    rw [List.getElem?_append_left (List.getElem?_eq_some_iff.mp h).1]; exact h
  have hPc : va_P G vwCl (wf u) H := fun k q h => hP k q (hl0 k q h)
  have hDc : va_D A (wf u) := ⟨fun i j x z hx hz hxz => hD.1 i j x z (hl0 i x hx) (hl0 j z hz) hxz, fun k q h => hD.2 k q (hl0 k q h)⟩
  have hFc : ∀ q, ot_F as H.size q → A q := by
    intro q h
    rcases h with h | h
    · rw [← ha u] at h
      obtain ⟨x, hx, hxq⟩ := List.mem_map.mp h
      obtain ⟨i, hi⟩ := List.getElem?_of_mem hx
      rw [← hxq]
      exact hDc.2 i x hi
    · exact hA q (Nat.le_trans hS.1 h)
  refine va_calli (va_runV (As := As) (rest := rest) hC (hM H.size) cw ⟨fun a U g mk q => by obtain ⟨q0, q1, qP, qK, qD⟩ := q; exact ⟨q0, q1, qP, va_K.moved (u := U) (U := U.calling g mk a) (Vm.Alike.refl U.vm) qK, qD⟩, va_recv hK hPc (q0 := 0) hcl hrc, fun U hU hW => ⟨rfl, by rw [hU], by rw [hU]; exact hPc, va_K.moved hW.alike hK, hDc.weaken (fun _ _ _ _ => trivial)⟩⟩ rfl hn hl hst (lv_room h8) hdg hf) hS (fun q _ h => hFc q h) hFc (fun r u' t H1 locs1 ht hvm hw hB hz1 hk1 hS1 => ?_)
  obtain ⟨hP1, hK1, hD1⟩ := hB
  rw [ht] at hP1
  obtain ⟨hP2, hD2⟩ := ot_join (ha u) hP hD hz1 hk1 hFc hP1 hD1
  exact kk r u' H1 locs1 hw ⟨hP2, hD2, hS1⟩
theorem ot_callv {S : Type} {wf : S → va_W} {u : S} {wr : va_W} {post : S → Prop} {b ci : Nat} {fs : List Value} {T : u_T} {N : Nat} {C : String} (hM : ot_Mv l G d y bytes maxL rm as wf (.ref b :: As) u post) (hC : CallFix p m c cc nL s args lw_all own) (hK : va_K G vwCl [(d, .int)] s) (hI : ot_I G A s H locs (wf u ++ wr)) (hA : ∀ q, s.heap.size ≤ q → A q) (ha : ∀ u, (wf u).map (fun q => q.1) = as) (hrc : (wf u)[0]? = some (b, .inr (ci, fs))) (hcl : vwCl[ci]? = some (C, T, N)) (cw : CallW R s args own C index y bytes maxL none (ws_ y bytes maxL none) rm 0 0 n) (hn : As.length = n) (hst : st0 = As.reverse ++ .ref b :: rest) (hl : ls.size = nL) (h8 : (rest.map fun v => v.category).sum ≤ 8) (hdg : decode cc pc = .ok (.invokevirtual index, 3)) (hf : cells ≤ R.cells ∧ slots ≤ R.slots)
    (kk : ∀ (u' : S) (H1 : Heap) (locs1 : List Loc), post u' → ot_I G A s H1 locs1 (wf u' ++ wr) → W p l e R s m args below meth c H1 locs1 cells slots Q (F0 m (pc + 3) ls rest)) : W p l e R s m args below meth c H locs cells slots Q (F0 m pc ls st0) := by
  obtain ⟨hP, hD, hS⟩ := hI
  have hl0 : ∀ (k : Nat) (q : Nat × va_E), (wf u)[k]? = some q → (wf u ++ wr)[k]? = some q := fun k q h => by
    rw [List.getElem?_append_left (List.getElem?_eq_some_iff.mp h).1]; exact h
  have hPc : va_P G vwCl (wf u) H := fun k q h => hP k q (hl0 k q h)
  have hDc : va_D A (wf u) := ⟨fun i j x z hx hz hxz => hD.1 i j x z (hl0 i x hx) (hl0 j z hz) hxz, fun k q h => hD.2 k q (hl0 k q h)⟩
  have hFc : ∀ q, ot_F as H.size q → A q := by
    intro q h
    rcases h with h | h
    · rw [← ha u] at h
      obtain ⟨x, hx, hxq⟩ := List.mem_map.mp h
      obtain ⟨i, hi⟩ := List.getElem?_of_mem hx
      rw [← hxq]
      exact hDc.2 i x hi
    · exact hA q (Nat.le_trans hS.1 h)
  refine va_callv (va_runV (As := As) (rest := rest) hC (hM H.size) cw ⟨fun a U g mk q => by obtain ⟨q0, q1, qP, qK, qD⟩ := q; exact ⟨q0, q1, qP, va_K.moved (u := U) (U := U.calling g mk a) (Vm.Alike.refl U.vm) qK, qD⟩, va_recv hK hPc (q0 := 0) hcl hrc, fun U hU hW => ⟨rfl, by rw [hU], by rw [hU]; exact hPc, va_K.moved hW.alike hK, hDc.weaken (fun _ _ _ _ => trivial)⟩⟩ rfl hn hl hst (lv_room h8) hdg hf) hS (fun q _ h => hFc q h) hFc (fun u' t H1 locs1 ht hvm hw hB hz1 hk1 hS1 => ?_)
  obtain ⟨hP1, hK1, hD1⟩ := hB
  rw [ht] at hP1
  obtain ⟨hP2, hD2⟩ := ot_join (ha u) hP hD hz1 hk1 hFc hP1 hD1
  exact kk u' H1 locs1 hw ⟨hP2, hD2, hS1⟩
end OtCall
abbrev ot_xS : Type := Int32 × Int32 × Int32 × (Nat → Int32) × (Nat → Int32) × (Nat → Int32) × (Nat → Int32) × (Nat → Int32)
def ot_xW (d : ClassId) (a : Nat → Nat) (u : ot_xS) : va_W := [(a 0, .inr (0, [.int u.1, .ref (a 1), .ref (a 2), .int u.2.1, .int u.2.2.1, .ref (a 3), .ref (a 4), .ref (a 5)])), (a 1, .inl (d, 425, .inl u.2.2.2.1)), (a 2, .inl (d, 425, .inl u.2.2.2.2.1)), (a 3, .inl (d, 4, .inl u.2.2.2.2.2.1)), (a 4, .inl (d, 85, .inl u.2.2.2.2.2.2.1)), (a 5, .inl (d, 85, .inl u.2.2.2.2.2.2.2))]
def ot_xa (a : Nat → Nat) : List Nat := [a 0, a 1, a 2, a 3, a 4, a 5]
theorem ot_xA (d : ClassId) (a : Nat → Nat) (u : ot_xS) : (ot_xW d a u).map (fun q => q.1) = ot_xa a := rfl
section OtCx
variable {p : Program} {l : Launch} {e : Env} {R : Room} {s : State} {m : MethodId} {args : Array Value} {below : List Frame} {meth : Method} {c : Code} {H : Heap} {locs : List Loc} {cells slots : Nat} {Q : State → Prop}
variable {cc : ByteArray} {pc nL : Nat} {ls : Array Slot} {rest : List Value} {G : va_G} {d : ClassId} {a : Nat → Nat} {A : Nat → Prop}
variable {mt fd fl : Int32} {hd ct wy ps pv : Nat → Int32}
theorem ot_xg0 (hC : CallFix p m c cc nL s args lw_all RX0) (hK : va_K G vwCl [(d, .int)] s) (hP : va_P G vwCl (ot_xW d a (mt, fd, fl, hd, ct, wy, ps, pv)) H) (hdg : decode cc pc = .ok (.getfield 25, 3)) (kk : W p l e R s m args below meth c H locs cells slots Q (F0 m (pc + 3) ls (.int mt :: rest))) : W p l e R s m args below meth c H locs cells slots Q (F0 m pc ls (.ref (a 0) :: rest)) :=
  va_get (D := G) (ci := 0) (v := .int mt) (C := RX0) (T := TX0) (N := 8) hC.1 hC.2.1 hC.2.2.2.2 in_X0 hC.2.2.2.1 hK hP 0 rfl rfl 0 (by decide) (hC.2.2.2.2 _ q26) (fun _ h9 => h9) rfl hdg kk
theorem ot_xp0 {v : Int32} (hC : CallFix p m c cc nL s args lw_all RX0) (hK : va_K G vwCl [(d, .int)] s) (hI : ot_I G A s H locs (ot_xW d a (mt, fd, fl, hd, ct, wy, ps, pv))) (hn : narrow .boolean (.int v) = .int v) (hf : fits .boolean (.int v) = true) (hdg : decode cc pc = .ok (.putfield 25, 3)) (kk : ∀ (H1 : Heap) (locs1 : List Loc), ot_I G A s H1 locs1 (ot_xW d a (v, fd, fl, hd, ct, wy, ps, pv)) → W p l e R s m args below meth c H1 locs1 cells slots Q (F0 m (pc + 3) ls rest)) : W p l e R s m args below meth c H locs cells slots Q (F0 m pc ls (.int v :: .ref (a 0) :: rest)) :=
  va_put (D := G) (ci := 0) (v := .int v) (ty := .boolean) (C := RX0) (T := TX0) (N := 8) hC.1 hC.2.1 hC.2.2.2.2 in_X0 tyX0 tyX0_ok nmX0 hC.2.2.2.1 hK hI.1 hI.2.1 hI.2.2 0 rfl rfl 0 (by decide) (hC.2.2.2.2 _ q26) (fun _ h9 => h9) rfl (by decide +kernel) hn hf (Nat.le_of_ble_eq_true rfl) hdg (fun H1 l1 h1 h2 h3 => kk H1 l1 ⟨h1, h2, h3⟩)
theorem ot_xg1 (hC : CallFix p m c cc nL s args lw_all RX0) (hK : va_K G vwCl [(d, .int)] s) (hP : va_P G vwCl (ot_xW d a (mt, fd, fl, hd, ct, wy, ps, pv)) H) (hdg : decode cc pc = .ok (.getfield 7, 3)) (kk : W p l e R s m args below meth c H locs cells slots Q (F0 m (pc + 3) ls (.ref (a 1) :: rest))) : W p l e R s m args below meth c H locs cells slots Q (F0 m pc ls (.ref (a 0) :: rest)) :=
  va_get (D := G) (ci := 0) (v := .ref (a 1)) (C := RX0) (T := TX0) (N := 8) hC.1 hC.2.1 hC.2.2.2.2 in_X0 hC.2.2.2.1 hK hP 0 rfl rfl 1 (by decide) (hC.2.2.2.2 _ q27) (fun _ h9 => h9) rfl hdg kk
theorem ot_xg2 (hC : CallFix p m c cc nL s args lw_all RX0) (hK : va_K G vwCl [(d, .int)] s) (hP : va_P G vwCl (ot_xW d a (mt, fd, fl, hd, ct, wy, ps, pv)) H) (hdg : decode cc pc = .ok (.getfield 13, 3)) (kk : W p l e R s m args below meth c H locs cells slots Q (F0 m (pc + 3) ls (.ref (a 2) :: rest))) : W p l e R s m args below meth c H locs cells slots Q (F0 m pc ls (.ref (a 0) :: rest)) :=
  va_get (D := G) (ci := 0) (v := .ref (a 2)) (C := RX0) (T := TX0) (N := 8) hC.1 hC.2.1 hC.2.2.2.2 in_X0 hC.2.2.2.1 hK hP 0 rfl rfl 2 (by decide) (hC.2.2.2.2 _ q28) (fun _ h9 => h9) rfl hdg kk
theorem ot_xg3 (hC : CallFix p m c cc nL s args lw_all RX0) (hK : va_K G vwCl [(d, .int)] s) (hP : va_P G vwCl (ot_xW d a (mt, fd, fl, hd, ct, wy, ps, pv)) H) (hdg : decode cc pc = .ok (.getfield 76, 3)) (kk : W p l e R s m args below meth c H locs cells slots Q (F0 m (pc + 3) ls (.int fd :: rest))) : W p l e R s m args below meth c H locs cells slots Q (F0 m pc ls (.ref (a 0) :: rest)) :=
  va_get (D := G) (ci := 0) (v := .int fd) (C := RX0) (T := TX0) (N := 8) hC.1 hC.2.1 hC.2.2.2.2 in_X0 hC.2.2.2.1 hK hP 0 rfl rfl 3 (by decide) (hC.2.2.2.2 _ q29) (fun _ h9 => h9) rfl hdg kk
theorem ot_xp3 {v : Int32} (hC : CallFix p m c cc nL s args lw_all RX0) (hK : va_K G vwCl [(d, .int)] s) (hI : ot_I G A s H locs (ot_xW d a (mt, fd, fl, hd, ct, wy, ps, pv))) (hdg : decode cc pc = .ok (.putfield 76, 3)) (kk : ∀ (H1 : Heap) (locs1 : List Loc), ot_I G A s H1 locs1 (ot_xW d a (mt, v, fl, hd, ct, wy, ps, pv)) → W p l e R s m args below meth c H1 locs1 cells slots Q (F0 m (pc + 3) ls rest)) : W p l e R s m args below meth c H locs cells slots Q (F0 m pc ls (.int v :: .ref (a 0) :: rest)) :=
  va_put (D := G) (ci := 0) (v := .int v) (ty := .int) (C := RX0) (T := TX0) (N := 8) hC.1 hC.2.1 hC.2.2.2.2 in_X0 tyX0 tyX0_ok nmX0 hC.2.2.2.1 hK hI.1 hI.2.1 hI.2.2 0 rfl rfl 3 (by decide) (hC.2.2.2.2 _ q29) (fun _ h9 => h9) rfl (by decide +kernel) rfl rfl (Nat.le_of_ble_eq_true rfl) hdg (fun H1 l1 h1 h2 h3 => kk H1 l1 ⟨h1, h2, h3⟩)
theorem ot_xg4 (hC : CallFix p m c cc nL s args lw_all RX0) (hK : va_K G vwCl [(d, .int)] s) (hP : va_P G vwCl (ot_xW d a (mt, fd, fl, hd, ct, wy, ps, pv)) H) (hdg : decode cc pc = .ok (.getfield 80, 3)) (kk : W p l e R s m args below meth c H locs cells slots Q (F0 m (pc + 3) ls (.int fl :: rest))) : W p l e R s m args below meth c H locs cells slots Q (F0 m pc ls (.ref (a 0) :: rest)) :=
  va_get (D := G) (ci := 0) (v := .int fl) (C := RX0) (T := TX0) (N := 8) hC.1 hC.2.1 hC.2.2.2.2 in_X0 hC.2.2.2.1 hK hP 0 rfl rfl 4 (by decide) (hC.2.2.2.2 _ q30) (fun _ h9 => h9) rfl hdg kk
theorem ot_xp4 {v : Int32} (hC : CallFix p m c cc nL s args lw_all RX0) (hK : va_K G vwCl [(d, .int)] s) (hI : ot_I G A s H locs (ot_xW d a (mt, fd, fl, hd, ct, wy, ps, pv))) (hdg : decode cc pc = .ok (.putfield 80, 3)) (kk : ∀ (H1 : Heap) (locs1 : List Loc), ot_I G A s H1 locs1 (ot_xW d a (mt, fd, v, hd, ct, wy, ps, pv)) → W p l e R s m args below meth c H1 locs1 cells slots Q (F0 m (pc + 3) ls rest)) : W p l e R s m args below meth c H locs cells slots Q (F0 m pc ls (.int v :: .ref (a 0) :: rest)) :=
  va_put (D := G) (ci := 0) (v := .int v) (ty := .int) (C := RX0) (T := TX0) (N := 8) hC.1 hC.2.1 hC.2.2.2.2 in_X0 tyX0 tyX0_ok nmX0 hC.2.2.2.1 hK hI.1 hI.2.1 hI.2.2 0 rfl rfl 4 (by decide) (hC.2.2.2.2 _ q30) (fun _ h9 => h9) rfl (by decide +kernel) rfl rfl (Nat.le_of_ble_eq_true rfl) hdg (fun H1 l1 h1 h2 h3 => kk H1 l1 ⟨h1, h2, h3⟩)
theorem ot_xg5 (hC : CallFix p m c cc nL s args lw_all RX0) (hK : va_K G vwCl [(d, .int)] s) (hP : va_P G vwCl (ot_xW d a (mt, fd, fl, hd, ct, wy, ps, pv)) H) (hdg : decode cc pc = .ok (.getfield 16, 3)) (kk : W p l e R s m args below meth c H locs cells slots Q (F0 m (pc + 3) ls (.ref (a 3) :: rest))) : W p l e R s m args below meth c H locs cells slots Q (F0 m pc ls (.ref (a 0) :: rest)) :=
  va_get (D := G) (ci := 0) (v := .ref (a 3)) (C := RX0) (T := TX0) (N := 8) hC.1 hC.2.1 hC.2.2.2.2 in_X0 hC.2.2.2.1 hK hP 0 rfl rfl 5 (by decide) (hC.2.2.2.2 _ q31) (fun _ h9 => h9) rfl hdg kk
theorem ot_xg6 (hC : CallFix p m c cc nL s args lw_all RX0) (hK : va_K G vwCl [(d, .int)] s) (hP : va_P G vwCl (ot_xW d a (mt, fd, fl, hd, ct, wy, ps, pv)) H) (hdg : decode cc pc = .ok (.getfield 19, 3)) (kk : W p l e R s m args below meth c H locs cells slots Q (F0 m (pc + 3) ls (.ref (a 4) :: rest))) : W p l e R s m args below meth c H locs cells slots Q (F0 m pc ls (.ref (a 0) :: rest)) :=
  va_get (D := G) (ci := 0) (v := .ref (a 4)) (C := RX0) (T := TX0) (N := 8) hC.1 hC.2.1 hC.2.2.2.2 in_X0 hC.2.2.2.1 hK hP 0 rfl rfl 6 (by decide) (hC.2.2.2.2 _ q32) (fun _ h9 => h9) rfl hdg kk
theorem ot_xg7 (hC : CallFix p m c cc nL s args lw_all RX0) (hK : va_K G vwCl [(d, .int)] s) (hP : va_P G vwCl (ot_xW d a (mt, fd, fl, hd, ct, wy, ps, pv)) H) (hdg : decode cc pc = .ok (.getfield 22, 3)) (kk : W p l e R s m args below meth c H locs cells slots Q (F0 m (pc + 3) ls (.ref (a 5) :: rest))) : W p l e R s m args below meth c H locs cells slots Q (F0 m pc ls (.ref (a 0) :: rest)) :=
  va_get (D := G) (ci := 0) (v := .ref (a 5)) (C := RX0) (T := TX0) (N := 8) hC.1 hC.2.1 hC.2.2.2.2 in_X0 hC.2.2.2.1 hK hP 0 rfl rfl 7 (by decide) (hC.2.2.2.2 _ q33) (fun _ h9 => h9) rfl hdg kk
theorem ot_xl1 {i : Int32} {j : Nat} (hC : CallFix p m c cc nL s args lw_all RX0) (hK : va_K G vwCl [(d, .int)] s) (hP : va_P G vwCl (ot_xW d a (mt, fd, fl, hd, ct, wy, ps, pv)) H) (hi : i = nI j) (hj : j < 425) (hdg : decode cc pc = .ok (.iaload, 1)) (kk : W p l e R s m args below meth c H locs cells slots Q (F0 m (pc + 1) ls (.int (hd j) :: rest))) : W p l e R s m args below meth c H locs cells slots Q (F0 m pc ls (.int i :: .ref (a 1) :: rest)) := by
  subst hi
  refine va_iald hC.1 hC.2.1 hK hP 1 0 rfl rfl (vp_in_nI hj (by decide)) hdg ?_
  rw [nI_clamp (show j < 2 ^ 31 by omega)]
  exact kk
theorem ot_xs1 {i v : Int32} {j : Nat} (hC : CallFix p m c cc nL s args lw_all RX0) (hK : va_K G vwCl [(d, .int)] s) (hI : ot_I G A s H locs (ot_xW d a (mt, fd, fl, hd, ct, wy, ps, pv))) (hi : i = nI j) (hj : j < 425) (hdg : decode cc pc = .ok (.iastore, 1)) (kk : ∀ (H1 : Heap) (locs1 : List Loc), ot_I G A s H1 locs1 (ot_xW d a (mt, fd, fl, upd hd j v, ct, wy, ps, pv)) → W p l e R s m args below meth c H1 locs1 cells slots Q (F0 m (pc + 1) ls rest)) : W p l e R s m args below meth c H locs cells slots Q (F0 m pc ls (.int v :: .int i :: .ref (a 1) :: rest)) := by
  subst hi
  refine va_iast hC.1 hC.2.1 hK hI.1 hI.2.1 hI.2.2 1 0 rfl rfl (vp_in_nI hj (by decide)) hdg (fun H1 l1 h1 h2 h3 => ?_)
  rw [nI_clamp (show j < 2 ^ 31 by omega)] at h1 h2
  exact kk H1 l1 ⟨h1, h2, h3⟩
theorem ot_xl2 {i : Int32} {j : Nat} (hC : CallFix p m c cc nL s args lw_all RX0) (hK : va_K G vwCl [(d, .int)] s) (hP : va_P G vwCl (ot_xW d a (mt, fd, fl, hd, ct, wy, ps, pv)) H) (hi : i = nI j) (hj : j < 425) (hdg : decode cc pc = .ok (.iaload, 1)) (kk : W p l e R s m args below meth c H locs cells slots Q (F0 m (pc + 1) ls (.int (ct j) :: rest))) : W p l e R s m args below meth c H locs cells slots Q (F0 m pc ls (.int i :: .ref (a 2) :: rest)) := by
  subst hi
  refine va_iald hC.1 hC.2.1 hK hP 2 0 rfl rfl (vp_in_nI hj (by decide)) hdg ?_
  rw [nI_clamp (show j < 2 ^ 31 by omega)]
  exact kk
theorem ot_xs2 {i v : Int32} {j : Nat} (hC : CallFix p m c cc nL s args lw_all RX0) (hK : va_K G vwCl [(d, .int)] s) (hI : ot_I G A s H locs (ot_xW d a (mt, fd, fl, hd, ct, wy, ps, pv))) (hi : i = nI j) (hj : j < 425) (hdg : decode cc pc = .ok (.iastore, 1)) (kk : ∀ (H1 : Heap) (locs1 : List Loc), ot_I G A s H1 locs1 (ot_xW d a (mt, fd, fl, hd, upd ct j v, wy, ps, pv)) → W p l e R s m args below meth c H1 locs1 cells slots Q (F0 m (pc + 1) ls rest)) : W p l e R s m args below meth c H locs cells slots Q (F0 m pc ls (.int v :: .int i :: .ref (a 2) :: rest)) := by
  subst hi
  refine va_iast hC.1 hC.2.1 hK hI.1 hI.2.1 hI.2.2 2 0 rfl rfl (vp_in_nI hj (by decide)) hdg (fun H1 l1 h1 h2 h3 => ?_)
  rw [nI_clamp (show j < 2 ^ 31 by omega)] at h1 h2
  exact kk H1 l1 ⟨h1, h2, h3⟩
theorem ot_xl3 {i : Int32} {j : Nat} (hC : CallFix p m c cc nL s args lw_all RX0) (hK : va_K G vwCl [(d, .int)] s) (hP : va_P G vwCl (ot_xW d a (mt, fd, fl, hd, ct, wy, ps, pv)) H) (hi : i = nI j) (hj : j < 4) (hdg : decode cc pc = .ok (.iaload, 1)) (kk : W p l e R s m args below meth c H locs cells slots Q (F0 m (pc + 1) ls (.int (wy j) :: rest))) : W p l e R s m args below meth c H locs cells slots Q (F0 m pc ls (.int i :: .ref (a 3) :: rest)) := by
  subst hi
  refine va_iald hC.1 hC.2.1 hK hP 3 0 rfl rfl (vp_in_nI hj (by decide)) hdg ?_
  rw [nI_clamp (show j < 2 ^ 31 by omega)]
  exact kk
theorem ot_xs3 {i v : Int32} {j : Nat} (hC : CallFix p m c cc nL s args lw_all RX0) (hK : va_K G vwCl [(d, .int)] s) (hI : ot_I G A s H locs (ot_xW d a (mt, fd, fl, hd, ct, wy, ps, pv))) (hi : i = nI j) (hj : j < 4) (hdg : decode cc pc = .ok (.iastore, 1)) (kk : ∀ (H1 : Heap) (locs1 : List Loc), ot_I G A s H1 locs1 (ot_xW d a (mt, fd, fl, hd, ct, upd wy j v, ps, pv)) → W p l e R s m args below meth c H1 locs1 cells slots Q (F0 m (pc + 1) ls rest)) : W p l e R s m args below meth c H locs cells slots Q (F0 m pc ls (.int v :: .int i :: .ref (a 3) :: rest)) := by
  subst hi
  refine va_iast hC.1 hC.2.1 hK hI.1 hI.2.1 hI.2.2 3 0 rfl rfl (vp_in_nI hj (by decide)) hdg (fun H1 l1 h1 h2 h3 => ?_)
  rw [nI_clamp (show j < 2 ^ 31 by omega)] at h1 h2
  exact kk H1 l1 ⟨h1, h2, h3⟩
theorem ot_xl4 {i : Int32} {j : Nat} (hC : CallFix p m c cc nL s args lw_all RX0) (hK : va_K G vwCl [(d, .int)] s) (hP : va_P G vwCl (ot_xW d a (mt, fd, fl, hd, ct, wy, ps, pv)) H) (hi : i = nI j) (hj : j < 85) (hdg : decode cc pc = .ok (.iaload, 1)) (kk : W p l e R s m args below meth c H locs cells slots Q (F0 m (pc + 1) ls (.int (ps j) :: rest))) : W p l e R s m args below meth c H locs cells slots Q (F0 m pc ls (.int i :: .ref (a 4) :: rest)) := by
  subst hi
  refine va_iald hC.1 hC.2.1 hK hP 4 0 rfl rfl (vp_in_nI hj (by decide)) hdg ?_
  rw [nI_clamp (show j < 2 ^ 31 by omega)]
  exact kk
theorem ot_xs4 {i v : Int32} {j : Nat} (hC : CallFix p m c cc nL s args lw_all RX0) (hK : va_K G vwCl [(d, .int)] s) (hI : ot_I G A s H locs (ot_xW d a (mt, fd, fl, hd, ct, wy, ps, pv))) (hi : i = nI j) (hj : j < 85) (hdg : decode cc pc = .ok (.iastore, 1)) (kk : ∀ (H1 : Heap) (locs1 : List Loc), ot_I G A s H1 locs1 (ot_xW d a (mt, fd, fl, hd, ct, wy, upd ps j v, pv)) → W p l e R s m args below meth c H1 locs1 cells slots Q (F0 m (pc + 1) ls rest)) : W p l e R s m args below meth c H locs cells slots Q (F0 m pc ls (.int v :: .int i :: .ref (a 4) :: rest)) := by
  subst hi
  refine va_iast hC.1 hC.2.1 hK hI.1 hI.2.1 hI.2.2 4 0 rfl rfl (vp_in_nI hj (by decide)) hdg (fun H1 l1 h1 h2 h3 => ?_)
  rw [nI_clamp (show j < 2 ^ 31 by omega)] at h1 h2
  exact kk H1 l1 ⟨h1, h2, h3⟩
theorem ot_xl5 {i : Int32} {j : Nat} (hC : CallFix p m c cc nL s args lw_all RX0) (hK : va_K G vwCl [(d, .int)] s) (hP : va_P G vwCl (ot_xW d a (mt, fd, fl, hd, ct, wy, ps, pv)) H) (hi : i = nI j) (hj : j < 85) (hdg : decode cc pc = .ok (.iaload, 1)) (kk : W p l e R s m args below meth c H locs cells slots Q (F0 m (pc + 1) ls (.int (pv j) :: rest))) : W p l e R s m args below meth c H locs cells slots Q (F0 m pc ls (.int i :: .ref (a 5) :: rest)) := by
  subst hi
  refine va_iald hC.1 hC.2.1 hK hP 5 0 rfl rfl (vp_in_nI hj (by decide)) hdg ?_
  rw [nI_clamp (show j < 2 ^ 31 by omega)]
  exact kk
theorem ot_xs5 {i v : Int32} {j : Nat} (hC : CallFix p m c cc nL s args lw_all RX0) (hK : va_K G vwCl [(d, .int)] s) (hI : ot_I G A s H locs (ot_xW d a (mt, fd, fl, hd, ct, wy, ps, pv))) (hi : i = nI j) (hj : j < 85) (hdg : decode cc pc = .ok (.iastore, 1)) (kk : ∀ (H1 : Heap) (locs1 : List Loc), ot_I G A s H1 locs1 (ot_xW d a (mt, fd, fl, hd, ct, wy, ps, upd pv j v)) → W p l e R s m args below meth c H1 locs1 cells slots Q (F0 m (pc + 1) ls rest)) : W p l e R s m args below meth c H locs cells slots Q (F0 m pc ls (.int v :: .int i :: .ref (a 5) :: rest)) := by
  subst hi
  refine va_iast hC.1 hC.2.1 hK hI.1 hI.2.1 hI.2.2 5 0 rfl rfl (vp_in_nI hj (by decide)) hdg (fun H1 l1 h1 h2 h3 => ?_)
  rw [nI_clamp (show j < 2 ^ 31 by omega)] at h1 h2
  exact kk H1 l1 ⟨h1, h2, h3⟩
variable {bytes : ByteArray} {n maxL index : Nat} {st0 : List Value} {y : MethodName} {ret : Option FieldType} {rm : Room}
theorem ot_xci {u : ot_xS} {post : Int32 → ot_xS → Prop} (As : List Value) (rest : List Value) (hM : ot_Mi l G d y bytes maxL ret rm (ot_xa a) (ot_xW d a) (.ref (a 0) :: As) u post) (hC : CallFix p m c cc nL s args lw_all RX0) (hK : va_K G vwCl [(d, .int)] s) (hI : ot_I G A s H locs (ot_xW d a u)) (hA : ∀ q, s.heap.size ≤ q → A q) (cw : CallW R s args RX0 RX0 index y bytes maxL ret (ws_ y bytes maxL ret) rm 0 0 n) (hn : As.length = n) (hst : st0 = As.reverse ++ .ref (a 0) :: rest) (hl : ls.size = nL) (h8 : (rest.map fun v => v.category).sum ≤ 8) (hdg : decode cc pc = .ok (.invokevirtual index, 3)) (hf : cells ≤ R.cells ∧ slots ≤ R.slots)
    (kk : ∀ (r : Int32) (u' : ot_xS) (H1 : Heap) (locs1 : List Loc), post r u' → ot_I G A s H1 locs1 (ot_xW d a u') → W p l e R s m args below meth c H1 locs1 cells slots Q (F0 m (pc + 3) ls (.int r :: rest))) : W p l e R s m args below meth c H locs cells slots Q (F0 m pc ls st0) := by
  refine ot_calli (wr := []) (ci := 0) (C := RX0) hM hC hK (by rw [List.append_nil]; exact hI) hA (ot_xA d a) rfl rfl cw hn hst hl h8 hdg hf (fun r u' H1 l1 h1 h2 => ?_)
  rw [List.append_nil] at h2
  exact kk r u' H1 l1 h1 h2
theorem ot_xcv {u : ot_xS} {post : ot_xS → Prop} (As : List Value) (rest : List Value) (hM : ot_Mv l G d y bytes maxL rm (ot_xa a) (ot_xW d a) (.ref (a 0) :: As) u post) (hC : CallFix p m c cc nL s args lw_all RX0) (hK : va_K G vwCl [(d, .int)] s) (hI : ot_I G A s H locs (ot_xW d a u)) (hA : ∀ q, s.heap.size ≤ q → A q) (cw : CallW R s args RX0 RX0 index y bytes maxL none (ws_ y bytes maxL none) rm 0 0 n) (hn : As.length = n) (hst : st0 = As.reverse ++ .ref (a 0) :: rest) (hl : ls.size = nL) (h8 : (rest.map fun v => v.category).sum ≤ 8) (hdg : decode cc pc = .ok (.invokevirtual index, 3)) (hf : cells ≤ R.cells ∧ slots ≤ R.slots)
    (kk : ∀ (u' : ot_xS) (H1 : Heap) (locs1 : List Loc), post u' → ot_I G A s H1 locs1 (ot_xW d a u') → W p l e R s m args below meth c H1 locs1 cells slots Q (F0 m (pc + 3) ls rest)) : W p l e R s m args below meth c H locs cells slots Q (F0 m pc ls st0) := by
  refine ot_callv (wr := []) (ci := 0) (C := RX0) hM hC hK (by rw [List.append_nil]; exact hI) hA (ot_xA d a) rfl rfl cw hn hst hl h8 hdg hf (fun u' H1 l1 h1 h2 => ?_)
  rw [List.append_nil] at h2
  exact kk u' H1 l1 h1 h2
theorem ot_xcr {u : ot_xS} {r : Int32} (As : List Value) (rest : List Value) (hM : ot_Mr l G d y bytes maxL ret rm (ot_xW d a u) (.ref (a 0) :: As) r) (hC : CallFix p m c cc nL s args lw_all RX0) (hK : va_K G vwCl [(d, .int)] s) (hP : va_P G vwCl (ot_xW d a u) H) (cw : CallW R s args RX0 RX0 index y bytes maxL ret (ws_ y bytes maxL ret) rm 0 0 n) (hn : As.length = n) (hst : st0 = As.reverse ++ .ref (a 0) :: rest) (hl : ls.size = nL) (h8 : (rest.map fun v => v.category).sum ≤ 8) (hdg : decode cc pc = .ok (.invokevirtual index, 3)) (hf : cells ≤ R.cells ∧ slots ≤ R.slots)
    (kk : W p l e R s m args below meth c H locs cells slots Q (F0 m (pc + 3) ls (.int r :: rest))) : W p l e R s m args below meth c H locs cells slots Q (F0 m pc ls st0) :=
  ot_callr (ci := 0) (C := RX0) (q0 := 0) hM hC hK hP rfl rfl cw hn hst hl h8 hdg hf kk
end OtCx
abbrev ot_mS : Type := Int32 × (Nat → Int32) × (Nat → Int32) × (Nat → Int32) × (Nat → Int32) × (Nat → Int32)
def ot_mW (d : ClassId) (a : Nat → Nat) (u : ot_mS) : va_W := [(a 0, .inr (1, [.ref (a 1), .ref (a 2), .int u.1, .ref (a 3), .ref (a 4), .ref (a 5)])), (a 1, .inl (d, 255, .inl u.2.1)), (a 2, .inl (d, 255, .inl u.2.2.1)), (a 3, .inl (d, 85, .inl u.2.2.2.1)), (a 4, .inl (d, 85, .inl u.2.2.2.2.1)), (a 5, .inl (d, 85, .inl u.2.2.2.2.2))]
def ot_ma (a : Nat → Nat) : List Nat := [a 0, a 1, a 2, a 3, a 4, a 5]
theorem ot_mA (d : ClassId) (a : Nat → Nat) (u : ot_mS) : (ot_mW d a u).map (fun q => q.1) = ot_ma a := rfl
section OtCm
variable {p : Program} {l : Launch} {e : Env} {R : Room} {s : State} {m : MethodId} {args : Array Value} {below : List Frame} {meth : Method} {c : Code} {H : Heap} {locs : List Loc} {cells slots : Nat} {Q : State → Prop}
variable {cc : ByteArray} {pc nL : Nat} {ls : Array Slot} {rest : List Value} {G : va_G} {d : ClassId} {a : Nat → Nat} {A : Nat → Prop}
variable {mt : Int32} {ls_ lv_ so va im : Nat → Int32}
theorem ot_mg0 (hC : CallFix p m c cc nL s args lw_all RX1) (hK : va_K G vwCl [(d, .int)] s) (hP : va_P G vwCl (ot_mW d a (mt, ls_, lv_, so, va, im)) H) (hdg : decode cc pc = .ok (.getfield 7, 3)) (kk : W p l e R s m args below meth c H locs cells slots Q (F0 m (pc + 3) ls (.ref (a 1) :: rest))) : W p l e R s m args below meth c H locs cells slots Q (F0 m pc ls (.ref (a 0) :: rest)) :=
  va_get (D := G) (ci := 1) (v := .ref (a 1)) (C := RX1) (T := TX1) (N := 6) hC.1 hC.2.1 hC.2.2.2.2 in_X1 hC.2.2.2.1 hK hP 0 rfl rfl 0 (by decide) (hC.2.2.2.2 _ q156) (fun _ h9 => h9) rfl hdg kk
theorem ot_mg1 (hC : CallFix p m c cc nL s args lw_all RX1) (hK : va_K G vwCl [(d, .int)] s) (hP : va_P G vwCl (ot_mW d a (mt, ls_, lv_, so, va, im)) H) (hdg : decode cc pc = .ok (.getfield 13, 3)) (kk : W p l e R s m args below meth c H locs cells slots Q (F0 m (pc + 3) ls (.ref (a 2) :: rest))) : W p l e R s m args below meth c H locs cells slots Q (F0 m pc ls (.ref (a 0) :: rest)) :=
  va_get (D := G) (ci := 1) (v := .ref (a 2)) (C := RX1) (T := TX1) (N := 6) hC.1 hC.2.1 hC.2.2.2.2 in_X1 hC.2.2.2.1 hK hP 0 rfl rfl 1 (by decide) (hC.2.2.2.2 _ q157) (fun _ h9 => h9) rfl hdg kk
theorem ot_mg2 (hC : CallFix p m c cc nL s args lw_all RX1) (hK : va_K G vwCl [(d, .int)] s) (hP : va_P G vwCl (ot_mW d a (mt, ls_, lv_, so, va, im)) H) (hdg : decode cc pc = .ok (.getfield 25, 3)) (kk : W p l e R s m args below meth c H locs cells slots Q (F0 m (pc + 3) ls (.int mt :: rest))) : W p l e R s m args below meth c H locs cells slots Q (F0 m pc ls (.ref (a 0) :: rest)) :=
  va_get (D := G) (ci := 1) (v := .int mt) (C := RX1) (T := TX1) (N := 6) hC.1 hC.2.1 hC.2.2.2.2 in_X1 hC.2.2.2.1 hK hP 0 rfl rfl 2 (by decide) (hC.2.2.2.2 _ q158) (fun _ h9 => h9) rfl hdg kk
theorem ot_mp2 {v : Int32} (hC : CallFix p m c cc nL s args lw_all RX1) (hK : va_K G vwCl [(d, .int)] s) (hI : ot_I G A s H locs (ot_mW d a (mt, ls_, lv_, so, va, im))) (hn : narrow .boolean (.int v) = .int v) (hf : fits .boolean (.int v) = true) (hdg : decode cc pc = .ok (.putfield 25, 3)) (kk : ∀ (H1 : Heap) (locs1 : List Loc), ot_I G A s H1 locs1 (ot_mW d a (v, ls_, lv_, so, va, im)) → W p l e R s m args below meth c H1 locs1 cells slots Q (F0 m (pc + 3) ls rest)) : W p l e R s m args below meth c H locs cells slots Q (F0 m pc ls (.int v :: .ref (a 0) :: rest)) :=
  va_put (D := G) (ci := 1) (v := .int v) (ty := .boolean) (C := RX1) (T := TX1) (N := 6) hC.1 hC.2.1 hC.2.2.2.2 in_X1 tyX1 tyX1_ok nmX1 hC.2.2.2.1 hK hI.1 hI.2.1 hI.2.2 0 rfl rfl 2 (by decide) (hC.2.2.2.2 _ q158) (fun _ h9 => h9) rfl (by decide +kernel) hn hf (Nat.le_of_ble_eq_true rfl) hdg (fun H1 l1 h1 h2 h3 => kk H1 l1 ⟨h1, h2, h3⟩)
theorem ot_mg3 (hC : CallFix p m c cc nL s args lw_all RX1) (hK : va_K G vwCl [(d, .int)] s) (hP : va_P G vwCl (ot_mW d a (mt, ls_, lv_, so, va, im)) H) (hdg : decode cc pc = .ok (.getfield 16, 3)) (kk : W p l e R s m args below meth c H locs cells slots Q (F0 m (pc + 3) ls (.ref (a 3) :: rest))) : W p l e R s m args below meth c H locs cells slots Q (F0 m pc ls (.ref (a 0) :: rest)) :=
  va_get (D := G) (ci := 1) (v := .ref (a 3)) (C := RX1) (T := TX1) (N := 6) hC.1 hC.2.1 hC.2.2.2.2 in_X1 hC.2.2.2.1 hK hP 0 rfl rfl 3 (by decide) (hC.2.2.2.2 _ q159) (fun _ h9 => h9) rfl hdg kk
theorem ot_mg4 (hC : CallFix p m c cc nL s args lw_all RX1) (hK : va_K G vwCl [(d, .int)] s) (hP : va_P G vwCl (ot_mW d a (mt, ls_, lv_, so, va, im)) H) (hdg : decode cc pc = .ok (.getfield 19, 3)) (kk : W p l e R s m args below meth c H locs cells slots Q (F0 m (pc + 3) ls (.ref (a 4) :: rest))) : W p l e R s m args below meth c H locs cells slots Q (F0 m pc ls (.ref (a 0) :: rest)) :=
  va_get (D := G) (ci := 1) (v := .ref (a 4)) (C := RX1) (T := TX1) (N := 6) hC.1 hC.2.1 hC.2.2.2.2 in_X1 hC.2.2.2.1 hK hP 0 rfl rfl 4 (by decide) (hC.2.2.2.2 _ q160) (fun _ h9 => h9) rfl hdg kk
theorem ot_mg5 (hC : CallFix p m c cc nL s args lw_all RX1) (hK : va_K G vwCl [(d, .int)] s) (hP : va_P G vwCl (ot_mW d a (mt, ls_, lv_, so, va, im)) H) (hdg : decode cc pc = .ok (.getfield 22, 3)) (kk : W p l e R s m args below meth c H locs cells slots Q (F0 m (pc + 3) ls (.ref (a 5) :: rest))) : W p l e R s m args below meth c H locs cells slots Q (F0 m pc ls (.ref (a 0) :: rest)) :=
  va_get (D := G) (ci := 1) (v := .ref (a 5)) (C := RX1) (T := TX1) (N := 6) hC.1 hC.2.1 hC.2.2.2.2 in_X1 hC.2.2.2.1 hK hP 0 rfl rfl 5 (by decide) (hC.2.2.2.2 _ q161) (fun _ h9 => h9) rfl hdg kk
theorem ot_ml1 {i : Int32} {j : Nat} (hC : CallFix p m c cc nL s args lw_all RX1) (hK : va_K G vwCl [(d, .int)] s) (hP : va_P G vwCl (ot_mW d a (mt, ls_, lv_, so, va, im)) H) (hi : i = nI j) (hj : j < 255) (hdg : decode cc pc = .ok (.iaload, 1)) (kk : W p l e R s m args below meth c H locs cells slots Q (F0 m (pc + 1) ls (.int (ls_ j) :: rest))) : W p l e R s m args below meth c H locs cells slots Q (F0 m pc ls (.int i :: .ref (a 1) :: rest)) := by
  subst hi
  refine va_iald hC.1 hC.2.1 hK hP 1 0 rfl rfl (vp_in_nI hj (by decide)) hdg ?_
  rw [nI_clamp (show j < 2 ^ 31 by omega)]
  exact kk
theorem ot_ms1 {i v : Int32} {j : Nat} (hC : CallFix p m c cc nL s args lw_all RX1) (hK : va_K G vwCl [(d, .int)] s) (hI : ot_I G A s H locs (ot_mW d a (mt, ls_, lv_, so, va, im))) (hi : i = nI j) (hj : j < 255) (hdg : decode cc pc = .ok (.iastore, 1)) (kk : ∀ (H1 : Heap) (locs1 : List Loc), ot_I G A s H1 locs1 (ot_mW d a (mt, upd ls_ j v, lv_, so, va, im)) → W p l e R s m args below meth c H1 locs1 cells slots Q (F0 m (pc + 1) ls rest)) : W p l e R s m args below meth c H locs cells slots Q (F0 m pc ls (.int v :: .int i :: .ref (a 1) :: rest)) := by
  subst hi
  refine va_iast hC.1 hC.2.1 hK hI.1 hI.2.1 hI.2.2 1 0 rfl rfl (vp_in_nI hj (by decide)) hdg (fun H1 l1 h1 h2 h3 => ?_)
  rw [nI_clamp (show j < 2 ^ 31 by omega)] at h1 h2
  exact kk H1 l1 ⟨h1, h2, h3⟩
theorem ot_ml2 {i : Int32} {j : Nat} (hC : CallFix p m c cc nL s args lw_all RX1) (hK : va_K G vwCl [(d, .int)] s) (hP : va_P G vwCl (ot_mW d a (mt, ls_, lv_, so, va, im)) H) (hi : i = nI j) (hj : j < 255) (hdg : decode cc pc = .ok (.iaload, 1)) (kk : W p l e R s m args below meth c H locs cells slots Q (F0 m (pc + 1) ls (.int (lv_ j) :: rest))) : W p l e R s m args below meth c H locs cells slots Q (F0 m pc ls (.int i :: .ref (a 2) :: rest)) := by
  subst hi
  refine va_iald hC.1 hC.2.1 hK hP 2 0 rfl rfl (vp_in_nI hj (by decide)) hdg ?_
  rw [nI_clamp (show j < 2 ^ 31 by omega)]
  exact kk
theorem ot_ms2 {i v : Int32} {j : Nat} (hC : CallFix p m c cc nL s args lw_all RX1) (hK : va_K G vwCl [(d, .int)] s) (hI : ot_I G A s H locs (ot_mW d a (mt, ls_, lv_, so, va, im))) (hi : i = nI j) (hj : j < 255) (hdg : decode cc pc = .ok (.iastore, 1)) (kk : ∀ (H1 : Heap) (locs1 : List Loc), ot_I G A s H1 locs1 (ot_mW d a (mt, ls_, upd lv_ j v, so, va, im)) → W p l e R s m args below meth c H1 locs1 cells slots Q (F0 m (pc + 1) ls rest)) : W p l e R s m args below meth c H locs cells slots Q (F0 m pc ls (.int v :: .int i :: .ref (a 2) :: rest)) := by
  subst hi
  refine va_iast hC.1 hC.2.1 hK hI.1 hI.2.1 hI.2.2 2 0 rfl rfl (vp_in_nI hj (by decide)) hdg (fun H1 l1 h1 h2 h3 => ?_)
  rw [nI_clamp (show j < 2 ^ 31 by omega)] at h1 h2
  exact kk H1 l1 ⟨h1, h2, h3⟩
theorem ot_ml3 {i : Int32} {j : Nat} (hC : CallFix p m c cc nL s args lw_all RX1) (hK : va_K G vwCl [(d, .int)] s) (hP : va_P G vwCl (ot_mW d a (mt, ls_, lv_, so, va, im)) H) (hi : i = nI j) (hj : j < 85) (hdg : decode cc pc = .ok (.iaload, 1)) (kk : W p l e R s m args below meth c H locs cells slots Q (F0 m (pc + 1) ls (.int (so j) :: rest))) : W p l e R s m args below meth c H locs cells slots Q (F0 m pc ls (.int i :: .ref (a 3) :: rest)) := by
  subst hi
  refine va_iald hC.1 hC.2.1 hK hP 3 0 rfl rfl (vp_in_nI hj (by decide)) hdg ?_
  rw [nI_clamp (show j < 2 ^ 31 by omega)]
  exact kk
theorem ot_ms3 {i v : Int32} {j : Nat} (hC : CallFix p m c cc nL s args lw_all RX1) (hK : va_K G vwCl [(d, .int)] s) (hI : ot_I G A s H locs (ot_mW d a (mt, ls_, lv_, so, va, im))) (hi : i = nI j) (hj : j < 85) (hdg : decode cc pc = .ok (.iastore, 1)) (kk : ∀ (H1 : Heap) (locs1 : List Loc), ot_I G A s H1 locs1 (ot_mW d a (mt, ls_, lv_, upd so j v, va, im)) → W p l e R s m args below meth c H1 locs1 cells slots Q (F0 m (pc + 1) ls rest)) : W p l e R s m args below meth c H locs cells slots Q (F0 m pc ls (.int v :: .int i :: .ref (a 3) :: rest)) := by
  subst hi
  refine va_iast hC.1 hC.2.1 hK hI.1 hI.2.1 hI.2.2 3 0 rfl rfl (vp_in_nI hj (by decide)) hdg (fun H1 l1 h1 h2 h3 => ?_)
  rw [nI_clamp (show j < 2 ^ 31 by omega)] at h1 h2
  exact kk H1 l1 ⟨h1, h2, h3⟩
theorem ot_ml4 {i : Int32} {j : Nat} (hC : CallFix p m c cc nL s args lw_all RX1) (hK : va_K G vwCl [(d, .int)] s) (hP : va_P G vwCl (ot_mW d a (mt, ls_, lv_, so, va, im)) H) (hi : i = nI j) (hj : j < 85) (hdg : decode cc pc = .ok (.iaload, 1)) (kk : W p l e R s m args below meth c H locs cells slots Q (F0 m (pc + 1) ls (.int (va j) :: rest))) : W p l e R s m args below meth c H locs cells slots Q (F0 m pc ls (.int i :: .ref (a 4) :: rest)) := by
  subst hi
  refine va_iald hC.1 hC.2.1 hK hP 4 0 rfl rfl (vp_in_nI hj (by decide)) hdg ?_
  rw [nI_clamp (show j < 2 ^ 31 by omega)]
  exact kk
theorem ot_ms4 {i v : Int32} {j : Nat} (hC : CallFix p m c cc nL s args lw_all RX1) (hK : va_K G vwCl [(d, .int)] s) (hI : ot_I G A s H locs (ot_mW d a (mt, ls_, lv_, so, va, im))) (hi : i = nI j) (hj : j < 85) (hdg : decode cc pc = .ok (.iastore, 1)) (kk : ∀ (H1 : Heap) (locs1 : List Loc), ot_I G A s H1 locs1 (ot_mW d a (mt, ls_, lv_, so, upd va j v, im)) → W p l e R s m args below meth c H1 locs1 cells slots Q (F0 m (pc + 1) ls rest)) : W p l e R s m args below meth c H locs cells slots Q (F0 m pc ls (.int v :: .int i :: .ref (a 4) :: rest)) := by
  subst hi
  refine va_iast hC.1 hC.2.1 hK hI.1 hI.2.1 hI.2.2 4 0 rfl rfl (vp_in_nI hj (by decide)) hdg (fun H1 l1 h1 h2 h3 => ?_)
  rw [nI_clamp (show j < 2 ^ 31 by omega)] at h1 h2
  exact kk H1 l1 ⟨h1, h2, h3⟩
theorem ot_ml5 {i : Int32} {j : Nat} (hC : CallFix p m c cc nL s args lw_all RX1) (hK : va_K G vwCl [(d, .int)] s) (hP : va_P G vwCl (ot_mW d a (mt, ls_, lv_, so, va, im)) H) (hi : i = nI j) (hj : j < 85) (hdg : decode cc pc = .ok (.iaload, 1)) (kk : W p l e R s m args below meth c H locs cells slots Q (F0 m (pc + 1) ls (.int (im j) :: rest))) : W p l e R s m args below meth c H locs cells slots Q (F0 m pc ls (.int i :: .ref (a 5) :: rest)) := by
  subst hi
  refine va_iald hC.1 hC.2.1 hK hP 5 0 rfl rfl (vp_in_nI hj (by decide)) hdg ?_
  rw [nI_clamp (show j < 2 ^ 31 by omega)]
  exact kk
theorem ot_ms5 {i v : Int32} {j : Nat} (hC : CallFix p m c cc nL s args lw_all RX1) (hK : va_K G vwCl [(d, .int)] s) (hI : ot_I G A s H locs (ot_mW d a (mt, ls_, lv_, so, va, im))) (hi : i = nI j) (hj : j < 85) (hdg : decode cc pc = .ok (.iastore, 1)) (kk : ∀ (H1 : Heap) (locs1 : List Loc), ot_I G A s H1 locs1 (ot_mW d a (mt, ls_, lv_, so, va, upd im j v)) → W p l e R s m args below meth c H1 locs1 cells slots Q (F0 m (pc + 1) ls rest)) : W p l e R s m args below meth c H locs cells slots Q (F0 m pc ls (.int v :: .int i :: .ref (a 5) :: rest)) := by
  subst hi
  refine va_iast hC.1 hC.2.1 hK hI.1 hI.2.1 hI.2.2 5 0 rfl rfl (vp_in_nI hj (by decide)) hdg (fun H1 l1 h1 h2 h3 => ?_)
  rw [nI_clamp (show j < 2 ^ 31 by omega)] at h1 h2
  exact kk H1 l1 ⟨h1, h2, h3⟩
variable {bytes : ByteArray} {n maxL index : Nat} {st0 : List Value} {y : MethodName} {ret : Option FieldType} {rm : Room}
theorem ot_mci {u : ot_mS} {post : Int32 → ot_mS → Prop} (As : List Value) (rest : List Value) (hM : ot_Mi l G d y bytes maxL ret rm (ot_ma a) (ot_mW d a) (.ref (a 0) :: As) u post) (hC : CallFix p m c cc nL s args lw_all RX1) (hK : va_K G vwCl [(d, .int)] s) (hI : ot_I G A s H locs (ot_mW d a u)) (hA : ∀ q, s.heap.size ≤ q → A q) (cw : CallW R s args RX1 RX1 index y bytes maxL ret (ws_ y bytes maxL ret) rm 0 0 n) (hn : As.length = n) (hst : st0 = As.reverse ++ .ref (a 0) :: rest) (hl : ls.size = nL) (h8 : (rest.map fun v => v.category).sum ≤ 8) (hdg : decode cc pc = .ok (.invokevirtual index, 3)) (hf : cells ≤ R.cells ∧ slots ≤ R.slots)
    (kk : ∀ (r : Int32) (u' : ot_mS) (H1 : Heap) (locs1 : List Loc), post r u' → ot_I G A s H1 locs1 (ot_mW d a u') → W p l e R s m args below meth c H1 locs1 cells slots Q (F0 m (pc + 3) ls (.int r :: rest))) : W p l e R s m args below meth c H locs cells slots Q (F0 m pc ls st0) := by
  refine ot_calli (wr := []) (ci := 1) (C := RX1) hM hC hK (by rw [List.append_nil]; exact hI) hA (ot_mA d a) rfl rfl cw hn hst hl h8 hdg hf (fun r u' H1 l1 h1 h2 => ?_)
  rw [List.append_nil] at h2
  exact kk r u' H1 l1 h1 h2
theorem ot_mcv {u : ot_mS} {post : ot_mS → Prop} (As : List Value) (rest : List Value) (hM : ot_Mv l G d y bytes maxL rm (ot_ma a) (ot_mW d a) (.ref (a 0) :: As) u post) (hC : CallFix p m c cc nL s args lw_all RX1) (hK : va_K G vwCl [(d, .int)] s) (hI : ot_I G A s H locs (ot_mW d a u)) (hA : ∀ q, s.heap.size ≤ q → A q) (cw : CallW R s args RX1 RX1 index y bytes maxL none (ws_ y bytes maxL none) rm 0 0 n) (hn : As.length = n) (hst : st0 = As.reverse ++ .ref (a 0) :: rest) (hl : ls.size = nL) (h8 : (rest.map fun v => v.category).sum ≤ 8) (hdg : decode cc pc = .ok (.invokevirtual index, 3)) (hf : cells ≤ R.cells ∧ slots ≤ R.slots)
    (kk : ∀ (u' : ot_mS) (H1 : Heap) (locs1 : List Loc), post u' → ot_I G A s H1 locs1 (ot_mW d a u') → W p l e R s m args below meth c H1 locs1 cells slots Q (F0 m (pc + 3) ls rest)) : W p l e R s m args below meth c H locs cells slots Q (F0 m pc ls st0) := by
  refine ot_callv (wr := []) (ci := 1) (C := RX1) hM hC hK (by rw [List.append_nil]; exact hI) hA (ot_mA d a) rfl rfl cw hn hst hl h8 hdg hf (fun u' H1 l1 h1 h2 => ?_)
  rw [List.append_nil] at h2
  exact kk u' H1 l1 h1 h2
theorem ot_mcr {u : ot_mS} {r : Int32} (As : List Value) (rest : List Value) (hM : ot_Mr l G d y bytes maxL ret rm (ot_mW d a u) (.ref (a 0) :: As) r) (hC : CallFix p m c cc nL s args lw_all RX1) (hK : va_K G vwCl [(d, .int)] s) (hP : va_P G vwCl (ot_mW d a u) H) (cw : CallW R s args RX1 RX1 index y bytes maxL ret (ws_ y bytes maxL ret) rm 0 0 n) (hn : As.length = n) (hst : st0 = As.reverse ++ .ref (a 0) :: rest) (hl : ls.size = nL) (h8 : (rest.map fun v => v.category).sum ≤ 8) (hdg : decode cc pc = .ok (.invokevirtual index, 3)) (hf : cells ≤ R.cells ∧ slots ≤ R.slots)
    (kk : W p l e R s m args below meth c H locs cells slots Q (F0 m (pc + 3) ls (.int r :: rest))) : W p l e R s m args below meth c H locs cells slots Q (F0 m pc ls st0) :=
  ot_callr (ci := 1) (C := RX1) (q0 := 0) hM hC hK hP rfl rfl cw hn hst hl h8 hdg hf kk
end OtCm
theorem ok_yX0_init : yX0_init.cls ≠ "java/lang/invoke/MethodHandle" ∧ yX0_init.cls ≠ "java/lang/invoke/VarHandle" ∧ (parseMethodDescriptor yX0_init.desc).map (fun d => d.parameters.length) = some 0 := by decide +kernel
theorem ok_yX0_clearUnder : yX0_clearUnder.cls = RX0 ∧ yX0_clearUnder.cls ≠ "java/lang/invoke/MethodHandle" ∧ yX0_clearUnder.cls ≠ "java/lang/invoke/VarHandle" ∧ (parseMethodDescriptor yX0_clearUnder.desc).map (fun d => d.parameters.length) = some 2 := by decide +kernel
theorem ok_yX0_copyPart : yX0_copyPart.cls = RX0 ∧ yX0_copyPart.cls ≠ "java/lang/invoke/MethodHandle" ∧ yX0_copyPart.cls ≠ "java/lang/invoke/VarHandle" ∧ (parseMethodDescriptor yX0_copyPart.desc).map (fun d => d.parameters.length) = some 2 := by decide +kernel
theorem ok_yX0_copyUpTo : yX0_copyUpTo.cls = RX0 ∧ yX0_copyUpTo.cls ≠ "java/lang/invoke/MethodHandle" ∧ yX0_copyUpTo.cls ≠ "java/lang/invoke/VarHandle" ∧ (parseMethodDescriptor yX0_copyUpTo.desc).map (fun d => d.parameters.length) = some 1 := by decide +kernel
theorem ok_yX0_entries : yX0_entries.cls = RX0 ∧ yX0_entries.cls ≠ "java/lang/invoke/MethodHandle" ∧ yX0_entries.cls ≠ "java/lang/invoke/VarHandle" ∧ (parseMethodDescriptor yX0_entries.desc).map (fun d => d.parameters.length) = some 1 := by decide +kernel
theorem ok_yX0_fill : yX0_fill.cls = RX0 ∧ yX0_fill.cls ≠ "java/lang/invoke/MethodHandle" ∧ yX0_fill.cls ≠ "java/lang/invoke/VarHandle" ∧ (parseMethodDescriptor yX0_fill.desc).map (fun d => d.parameters.length) = some 4 := by decide +kernel
theorem ok_yX0_isRoom : yX0_isRoom.cls = RX0 ∧ yX0_isRoom.cls ≠ "java/lang/invoke/MethodHandle" ∧ yX0_isRoom.cls ≠ "java/lang/invoke/VarHandle" ∧ (parseMethodDescriptor yX0_isRoom.desc).map (fun d => d.parameters.length) = some 1 := by decide +kernel
theorem ok_yX0_isUnder : yX0_isUnder.cls ≠ "java/lang/invoke/MethodHandle" ∧ yX0_isUnder.cls ≠ "java/lang/invoke/VarHandle" ∧ (parseMethodDescriptor yX0_isUnder.desc).map (fun d => d.parameters.length) = some 2 := by decide +kernel
theorem ok_yX0_look : yX0_look.cls = RX0 ∧ yX0_look.cls ≠ "java/lang/invoke/MethodHandle" ∧ yX0_look.cls ≠ "java/lang/invoke/VarHandle" ∧ (parseMethodDescriptor yX0_look.desc).map (fun d => d.parameters.length) = some 1 := by decide +kernel
theorem ok_yX0_make : yX0_make.cls = RX0 ∧ yX0_make.cls ≠ "java/lang/invoke/MethodHandle" ∧ yX0_make.cls ≠ "java/lang/invoke/VarHandle" ∧ (parseMethodDescriptor yX0_make.desc).map (fun d => d.parameters.length) = some 2 := by decide +kernel
theorem ok_yX0_makeDir : yX0_makeDir.cls = RX0 ∧ yX0_makeDir.cls ≠ "java/lang/invoke/MethodHandle" ∧ yX0_makeDir.cls ≠ "java/lang/invoke/VarHandle" ∧ (parseMethodDescriptor yX0_makeDir.desc).map (fun d => d.parameters.length) = some 1 := by decide +kernel
theorem ok_yX0_mount : yX0_mount.cls = RX0 ∧ yX0_mount.cls ≠ "java/lang/invoke/MethodHandle" ∧ yX0_mount.cls ≠ "java/lang/invoke/VarHandle" ∧ (parseMethodDescriptor yX0_mount.desc).map (fun d => d.parameters.length) = some 0 := by decide +kernel
theorem ok_yX0_move : yX0_move.cls = RX0 ∧ yX0_move.cls ≠ "java/lang/invoke/MethodHandle" ∧ yX0_move.cls ≠ "java/lang/invoke/VarHandle" ∧ (parseMethodDescriptor yX0_move.desc).map (fun d => d.parameters.length) = some 2 := by decide +kernel
theorem ok_yX0_parentOf : yX0_parentOf.cls ≠ "java/lang/invoke/MethodHandle" ∧ yX0_parentOf.cls ≠ "java/lang/invoke/VarHandle" ∧ (parseMethodDescriptor yX0_parentOf.desc).map (fun d => d.parameters.length) = some 1 := by decide +kernel
theorem ok_yX0_placeAfter : yX0_placeAfter.cls = RX0 ∧ yX0_placeAfter.cls ≠ "java/lang/invoke/MethodHandle" ∧ yX0_placeAfter.cls ≠ "java/lang/invoke/VarHandle" ∧ (parseMethodDescriptor yX0_placeAfter.desc).map (fun d => d.parameters.length) = some 3 := by decide +kernel
theorem ok_yX0_press : yX0_press.cls = RX0 ∧ yX0_press.cls ≠ "java/lang/invoke/MethodHandle" ∧ yX0_press.cls ≠ "java/lang/invoke/VarHandle" ∧ (parseMethodDescriptor yX0_press.desc).map (fun d => d.parameters.length) = some 0 := by decide +kernel
theorem ok_yX0_put : yX0_put.cls = RX0 ∧ yX0_put.cls ≠ "java/lang/invoke/MethodHandle" ∧ yX0_put.cls ≠ "java/lang/invoke/VarHandle" ∧ (parseMethodDescriptor yX0_put.desc).map (fun d => d.parameters.length) = some 3 := by decide +kernel
theorem ok_yX0_raiseFloor : yX0_raiseFloor.cls = RX0 ∧ yX0_raiseFloor.cls ≠ "java/lang/invoke/MethodHandle" ∧ yX0_raiseFloor.cls ≠ "java/lang/invoke/VarHandle" ∧ (parseMethodDescriptor yX0_raiseFloor.desc).map (fun d => d.parameters.length) = some 1 := by decide +kernel
theorem ok_yX0_remove : yX0_remove.cls = RX0 ∧ yX0_remove.cls ≠ "java/lang/invoke/MethodHandle" ∧ yX0_remove.cls ≠ "java/lang/invoke/VarHandle" ∧ (parseMethodDescriptor yX0_remove.desc).map (fun d => d.parameters.length) = some 1 := by decide +kernel
theorem ok_yX0_settle : yX0_settle.cls = RX0 ∧ yX0_settle.cls ≠ "java/lang/invoke/MethodHandle" ∧ yX0_settle.cls ≠ "java/lang/invoke/VarHandle" ∧ (parseMethodDescriptor yX0_settle.desc).map (fun d => d.parameters.length) = some 1 := by decide +kernel
theorem ok_yX0_sort : yX0_sort.cls = RX0 ∧ yX0_sort.cls ≠ "java/lang/invoke/MethodHandle" ∧ yX0_sort.cls ≠ "java/lang/invoke/VarHandle" ∧ (parseMethodDescriptor yX0_sort.desc).map (fun d => d.parameters.length) = some 1 := by decide +kernel
theorem ok_yX0_takeAway : yX0_takeAway.cls = RX0 ∧ yX0_takeAway.cls ≠ "java/lang/invoke/MethodHandle" ∧ yX0_takeAway.cls ≠ "java/lang/invoke/VarHandle" ∧ (parseMethodDescriptor yX0_takeAway.desc).map (fun d => d.parameters.length) = some 1 := by decide +kernel
theorem ok_yX0_total : yX0_total.cls = RX0 ∧ yX0_total.cls ≠ "java/lang/invoke/MethodHandle" ∧ yX0_total.cls ≠ "java/lang/invoke/VarHandle" ∧ (parseMethodDescriptor yX0_total.desc).map (fun d => d.parameters.length) = some 0 := by decide +kernel
theorem ok_yX0_value : yX0_value.cls = RX0 ∧ yX0_value.cls ≠ "java/lang/invoke/MethodHandle" ∧ yX0_value.cls ≠ "java/lang/invoke/VarHandle" ∧ (parseMethodDescriptor yX0_value.desc).map (fun d => d.parameters.length) = some 1 := by decide +kernel
theorem ok_yX0_write : yX0_write.cls = RX0 ∧ yX0_write.cls ≠ "java/lang/invoke/MethodHandle" ∧ yX0_write.cls ≠ "java/lang/invoke/VarHandle" ∧ (parseMethodDescriptor yX0_write.desc).map (fun d => d.parameters.length) = some 2 := by decide +kernel
theorem ok_yX1_init : yX1_init.cls ≠ "java/lang/invoke/MethodHandle" ∧ yX1_init.cls ≠ "java/lang/invoke/VarHandle" ∧ (parseMethodDescriptor yX1_init.desc).map (fun d => d.parameters.length) = some 0 := by decide +kernel
theorem ok_yX1_bad : yX1_bad.cls ≠ "java/lang/invoke/MethodHandle" ∧ yX1_bad.cls ≠ "java/lang/invoke/VarHandle" ∧ (parseMethodDescriptor yX1_bad.desc).map (fun d => d.parameters.length) = some 1 := by decide +kernel
theorem ok_yX1_canMake : yX1_canMake.cls = RX1 ∧ yX1_canMake.cls ≠ "java/lang/invoke/MethodHandle" ∧ yX1_canMake.cls ≠ "java/lang/invoke/VarHandle" ∧ (parseMethodDescriptor yX1_canMake.desc).map (fun d => d.parameters.length) = some 1 := by decide +kernel
theorem ok_yX1_entries : yX1_entries.cls = RX1 ∧ yX1_entries.cls ≠ "java/lang/invoke/MethodHandle" ∧ yX1_entries.cls ≠ "java/lang/invoke/VarHandle" ∧ (parseMethodDescriptor yX1_entries.desc).map (fun d => d.parameters.length) = some 1 := by decide +kernel
theorem ok_yX1_fill : yX1_fill.cls = RX1 ∧ yX1_fill.cls ≠ "java/lang/invoke/MethodHandle" ∧ yX1_fill.cls ≠ "java/lang/invoke/VarHandle" ∧ (parseMethodDescriptor yX1_fill.desc).map (fun d => d.parameters.length) = some 4 := by decide +kernel
theorem ok_yX1_follow : yX1_follow.cls = RX1 ∧ yX1_follow.cls ≠ "java/lang/invoke/MethodHandle" ∧ yX1_follow.cls ≠ "java/lang/invoke/VarHandle" ∧ (parseMethodDescriptor yX1_follow.desc).map (fun d => d.parameters.length) = some 2 := by decide +kernel
theorem ok_yX1_hidden : yX1_hidden.cls = RX1 ∧ yX1_hidden.cls ≠ "java/lang/invoke/MethodHandle" ∧ yX1_hidden.cls ≠ "java/lang/invoke/VarHandle" ∧ (parseMethodDescriptor yX1_hidden.desc).map (fun d => d.parameters.length) = some 2 := by decide +kernel
theorem ok_yX1_layerDirectory : yX1_layerDirectory.cls = RX1 ∧ yX1_layerDirectory.cls ≠ "java/lang/invoke/MethodHandle" ∧ yX1_layerDirectory.cls ≠ "java/lang/invoke/VarHandle" ∧ (parseMethodDescriptor yX1_layerDirectory.desc).map (fun d => d.parameters.length) = some 2 := by decide +kernel
theorem ok_yX1_make : yX1_make.cls = RX1 ∧ yX1_make.cls ≠ "java/lang/invoke/MethodHandle" ∧ yX1_make.cls ≠ "java/lang/invoke/VarHandle" ∧ (parseMethodDescriptor yX1_make.desc).map (fun d => d.parameters.length) = some 2 := by decide +kernel
theorem ok_yX1_makeDir : yX1_makeDir.cls = RX1 ∧ yX1_makeDir.cls ≠ "java/lang/invoke/MethodHandle" ∧ yX1_makeDir.cls ≠ "java/lang/invoke/VarHandle" ∧ (parseMethodDescriptor yX1_makeDir.desc).map (fun d => d.parameters.length) = some 1 := by decide +kernel
theorem ok_yX1_merge : yX1_merge.cls = RX1 ∧ yX1_merge.cls ≠ "java/lang/invoke/MethodHandle" ∧ yX1_merge.cls ≠ "java/lang/invoke/VarHandle" ∧ (parseMethodDescriptor yX1_merge.desc).map (fun d => d.parameters.length) = some 1 := by decide +kernel
theorem ok_yX1_mount : yX1_mount.cls = RX1 ∧ yX1_mount.cls ≠ "java/lang/invoke/MethodHandle" ∧ yX1_mount.cls ≠ "java/lang/invoke/VarHandle" ∧ (parseMethodDescriptor yX1_mount.desc).map (fun d => d.parameters.length) = some 0 := by decide +kernel
theorem ok_yX1_move : yX1_move.cls = RX1 ∧ yX1_move.cls ≠ "java/lang/invoke/MethodHandle" ∧ yX1_move.cls ≠ "java/lang/invoke/VarHandle" ∧ (parseMethodDescriptor yX1_move.desc).map (fun d => d.parameters.length) = some 2 := by decide +kernel
theorem ok_yX1_parent : yX1_parent.cls ≠ "java/lang/invoke/MethodHandle" ∧ yX1_parent.cls ≠ "java/lang/invoke/VarHandle" ∧ (parseMethodDescriptor yX1_parent.desc).map (fun d => d.parameters.length) = some 1 := by decide +kernel
theorem ok_yX1_press : yX1_press.cls = RX1 ∧ yX1_press.cls ≠ "java/lang/invoke/MethodHandle" ∧ yX1_press.cls ≠ "java/lang/invoke/VarHandle" ∧ (parseMethodDescriptor yX1_press.desc).map (fun d => d.parameters.length) = some 0 := by decide +kernel
theorem ok_yX1_remove : yX1_remove.cls = RX1 ∧ yX1_remove.cls ≠ "java/lang/invoke/MethodHandle" ∧ yX1_remove.cls ≠ "java/lang/invoke/VarHandle" ∧ (parseMethodDescriptor yX1_remove.desc).map (fun d => d.parameters.length) = some 1 := by decide +kernel
theorem ok_yX1_sort : yX1_sort.cls = RX1 ∧ yX1_sort.cls ≠ "java/lang/invoke/MethodHandle" ∧ yX1_sort.cls ≠ "java/lang/invoke/VarHandle" ∧ (parseMethodDescriptor yX1_sort.desc).map (fun d => d.parameters.length) = some 1 := by decide +kernel
theorem ok_yX1_total : yX1_total.cls = RX1 ∧ yX1_total.cls ≠ "java/lang/invoke/MethodHandle" ∧ yX1_total.cls ≠ "java/lang/invoke/VarHandle" ∧ (parseMethodDescriptor yX1_total.desc).map (fun d => d.parameters.length) = some 0 := by decide +kernel
theorem ok_yX1_value : yX1_value.cls = RX1 ∧ yX1_value.cls ≠ "java/lang/invoke/MethodHandle" ∧ yX1_value.cls ≠ "java/lang/invoke/VarHandle" ∧ (parseMethodDescriptor yX1_value.desc).map (fun d => d.parameters.length) = some 1 := by decide +kernel
theorem ok_yX1_write : yX1_write.cls = RX1 ∧ yX1_write.cls ≠ "java/lang/invoke/MethodHandle" ∧ yX1_write.cls ≠ "java/lang/invoke/VarHandle" ∧ (parseMethodDescriptor yX1_write.desc).map (fun d => d.parameters.length) = some 2 := by decide +kernel
end
section
/-! ===== what the methods compute ===== -/
def ot_b (x : Bool) : Int32 := match x with
  | true => 1
  | false => 0
theorem ot_b0 {x : Bool} : ot_b x = 0 ↔ x = false := by cases x <;> simp [ot_b]
def ot_o (x : Option Nat) : Int32 := match x with
  | none => -1
  | some l => nI l
def ot_top (h : Nat → Int32) (q : Nat) : Nat → Nat → Option Nat
  | 0, _ => none
  | n + 1, f => if n < f then none else if h (85 * n + q) = 0 then ot_top h q n f else some n
def ot_hole (h : Nat → Int32) (q : Nat) (x : Option Nat) : Option Nat := match x with
  | none => none
  | some l => if h (85 * l + q) = 4 then none else some l
def ot_set (h : Nat → Int32) (q f : Nat) : Option Nat := ot_hole h q (ot_top h q 5 f)
def ot_rai (h : Nat → Int32) (q : Nat) : Nat → Nat → Nat
  | 0, f => f
  | n + 1, f => if n < f then f else if h (85 * n + q) = 3 then n else if h (85 * n + q) = 1 ∨ h (85 * n + q) = 4 then n + 1 else ot_rai h q n f
/-- the lowest layer that shows through below the path, if it is a directory -/
def ot_fl (h : Nat → Int32) (q : Nat) : Option Nat :=
  if _hq : q = 0 then some 0 else
    match ot_fl h (ot_par q) with
    | none => none
    | some f => match ot_set h q f with
      | none => none
      | some l => if h (85 * l + q) = 1 then none else some (ot_rai h q 5 f)
termination_by q
decreasing_by exact ot_par_lt (by omega)
/-- the layer that a look finds -/
def ot_fd (h : Nat → Int32) (q : Nat) : Option Nat := if q = 0 then some 4 else match ot_fl h (ot_par q) with
  | none => none
  | some f => ot_set h q f
def ot_vw (h : Nat → Int32) (q : Nat) : Int32 := match ot_fd h q with
  | none => 0
  | some l => if h (85 * l + q) = 1 then 1 else 2
def ot_vl (h ct : Nat → Int32) (q : Nat) : Int32 := match ot_fd h q with
  | none => 0
  | some l => if h (85 * l + q) = 1 then ct (85 * l + q) else 0
def ot_srt (mt : Int32) (h : Nat → Int32) (q : Nat) : Int32 := if mt = 0 then 0 else ot_vw h q
def ot_und : Nat → Nat → Nat → Bool
  | 0, _, _ => false
  | n + 1, q, o => if q = 0 then false else if ot_par q = o then true else ot_und n (ot_par q) o
def ot_anc (q : Nat) : Nat → Nat
  | 0 => q
  | i + 1 => ot_par (ot_anc q i)
/-- counting: m paths from q on, n so far -/
def ot_cnt (f : Nat → Int32) : Nat → Nat → Nat → Nat
  | 0, _, n => n
  | m + 1, q, n => ot_cnt f m (q + 1) (if f q ≤ 0 then n else n + 1)
def ot_cntE (f : Nat → Int32) : Nat → Nat → Nat → Nat
  | 0, _, n => n
  | m + 1, q, n => if 85 ≤ q then n else ot_cntE f m (q + 1) (if f q ≤ 0 then n else n + 1)
def ot_cup : Nat → (Nat → Int32) → Nat → Nat → Int32
  | 0, h, _ => h
  | n + 1, h, q => if q = 0 then h else ot_cup n (if h (340 + q) = 0 then upd h (340 + q) 2 else h) (ot_par q)
def ot_clr (b k : Nat) : Nat → Nat → (Nat → Int32) → Nat → Int32
  | 0, _, h => h
  | m + 1, q, h => ot_clr b k m (q + 1) (if ot_und 3 q k = true then upd h (b + q) 0 else h)
def ot_plc (fr to : Nat) : Nat → Nat → Nat
  | 0, _ => to
  | n + 1, q => if q = fr then to else 4 * ot_plc fr to n (ot_par q) + 1 + (q - 1) % 4
/-- a part of the tree is listed: m paths from q on -/
def ot_cp (h ct : Nat → Int32) (mt : Int32) (fr to : Nat) : Nat → Nat → Nat → (Nat → Int32) → (Nat → Int32) → Option (Nat × (Nat → Int32) × (Nat → Int32))
  | 0, _, n, ps, pv => some (n, ps, pv)
  | m + 1, q, n, ps, pv =>
    if (q = fr ∨ ot_und 3 q fr = true) ∧ ¬ ot_srt mt h q ≤ 0 then
      if 84 < ot_plc fr to 3 q then none
      else ot_cp h ct mt fr to m (q + 1) (n + 1) (upd ps (ot_plc fr to 3 q) (ot_srt mt h q)) (upd pv (ot_plc fr to 3 q) (if ot_srt mt h q = 1 then ot_vl h ct q else 0))
    else ot_cp h ct mt fr to m (q + 1) n ps pv
def ot_zer (ps : Nat → Int32) : Nat → Nat → Nat → Int32
  | 0, _ => ps
  | m + 1, q => ot_zer (upd ps q 0) m (q + 1)
def ot_ptl (ps pv : Nat → Int32) : Nat → Nat → (Nat → Int32) → (Nat → Int32) → (Nat → Int32) × (Nat → Int32)
  | 0, _, h, ct => (h, ct)
  | m + 1, q, h, ct =>
    if ps q = 1 then ot_ptl ps pv m (q + 1) (upd h (340 + q) 1) (upd ct (340 + q) (pv q))
    else if ps q = 2 then ot_ptl ps pv m (q + 1) (upd h (340 + q) 3) (upd ct (340 + q) 0)
    else ot_ptl ps pv m (q + 1) h ct
def ot_tka (mt : Int32) (h ct : Nat → Int32) (k : Nat) : (Nat → Int32) × (Nat → Int32) :=
  if ot_srt mt (upd (ot_clr 340 k (84 - k) (k + 1) h) (340 + k) 0) k ≤ 0 then (upd (ot_clr 340 k (84 - k) (k + 1) h) (340 + k) 0, ct)
  else (upd (ot_cup 3 (upd (ot_clr 340 k (84 - k) (k + 1) h) (340 + k) 0) (ot_par k)) (340 + k) 4, upd ct (340 + k) 0)
def ot_prs1 (h ct : Nat → Int32) (q : Nat) : (Nat → Int32) × (Nat → Int32) :=
  if h (340 + q) = 2 then (upd (upd h (255 + q) (if h (255 + q) = 1 ∨ h (255 + q) = 4 then 3 else if h (255 + q) = 3 then 3 else 2)) (340 + q) 0, ct)
  else if h (340 + q) = 0 then (upd h (340 + q) 0, ct)
  else (upd (upd (ot_clr 255 q (84 - q) (q + 1) h) (255 + q) (h (340 + q))) (340 + q) 0, upd ct (255 + q) (ct (340 + q)))
def ot_prs : Nat → Nat → (Nat → Int32) → (Nat → Int32) → (Nat → Int32) × (Nat → Int32)
  | 0, _, h, ct => (h, ct)
  | m + 1, q, h, ct => ot_prs m (q + 1) (ot_prs1 h ct q).1 (ot_prs1 h ct q).2
/-! the class's calls: answer, mounted, held, content -/
abbrev ot_xR : Type := Int32 × Int32 × (Nat → Int32) × (Nat → Int32)

def ot_k (x : Int32) : Nat := x.toNatClampNeg
def ot_xfill (mt : Int32) (h ct : Nat → Int32) (p0 p1 p2 p3 : Int32) : ot_xR :=
  if mt = 0 ∧ ¬ p0 < 0 ∧ ¬ 2 < p0 ∧ ¬ p1 < 1 ∧ ¬ 84 < p1 ∧ ¬ p2 < 1 ∧ p2 ≤ 4 then
    if h (85 * ot_k p0 + ot_k p1) = 0 ∧ (h (85 * ot_k p0 + ot_par (ot_k p1)) = 2 ∨ h (85 * ot_k p0 + ot_par (ot_k p1)) = 3) then (0, mt, upd h (85 * ot_k p0 + ot_k p1) p2, upd ct (85 * ot_k p0 + ot_k p1) (if p2 = 1 then p3 else 0))
    else (-1, mt, h, ct)
  else (-1, mt, h, ct)
def ot_xtot (mt : Int32) (h : Nat → Int32) : Int32 := nI (ot_cnt (ot_srt mt h) 84 1 0)
def ot_xmount (mt : Int32) (h ct : Nat → Int32) : ot_xR := if mt = 0 then (ot_xtot 1 h, 1, h, ct) else (-1, mt, h, ct)
abbrev ot_room (mt : Int32) (h : Nat → Int32) (x : Int32) : Prop := ¬ mt = 0 ∧ ¬ x < 1 ∧ ¬ 84 < x ∧ ot_srt mt h (ot_k x) = 0 ∧ ot_srt mt h (ot_par (ot_k x)) = 2
def ot_xput (mt : Int32) (h ct : Nat → Int32) (k : Nat) (s v : Int32) (r : Int32) : ot_xR := (r, mt, upd (ot_cup 3 h (ot_par k)) (340 + k) s, upd ct (340 + k) v)
def ot_xsort (mt : Int32) (h : Nat → Int32) (x : Int32) : Int32 := if x < 0 ∨ 84 < x then -1 else ot_srt mt h (ot_k x)
def ot_xval (mt : Int32) (h ct : Nat → Int32) (x : Int32) : Int32 := if ot_xsort mt h x = 1 then ot_vl h ct (ot_k x) else 0
def ot_xent (mt : Int32) (h : Nat → Int32) (x : Int32) : Int32 := if ot_xsort mt h x = 2 then nI (ot_cntE (ot_srt mt h) 4 (4 * ot_k x + 1) 0) else -1
/-! the reference's calls -/
def ot_hid (ls_ : Nat → Int32) (l : Nat) : Nat → Nat → Bool
  | 0, _ => false
  | n + 1, q => if q = 0 then false else if 0 < ot_par q ∧ (ls_ (85 * l + ot_par q) = 1 ∨ ls_ (85 * l + ot_par q) = 3 ∨ ls_ (85 * l + ot_par q) = 4) then true else ot_hid ls_ l n (ot_par q)
def ot_mrg (ls_ lv_ : Nat → Int32) (q : Nat) : Nat → (Nat → Int32) → (Nat → Int32) → (Nat → Int32) × (Nat → Int32)
  | 0, so, va => (so, va)
  | n + 1, so, va =>
    if ls_ (85 * n + q) = 0 then (if ot_hid ls_ n 84 q = true then (so, va) else ot_mrg ls_ lv_ q n so va)
    else if ls_ (85 * n + q) = 1 then (upd so q 1, upd va q (lv_ (85 * n + q)))
    else if ls_ (85 * n + q) = 2 ∨ ls_ (85 * n + q) = 3 then (upd so q 2, va)
    else (so, va)
def ot_mrg1 (ls_ lv_ : Nat → Int32) (q : Nat) (so va : Nat → Int32) : (Nat → Int32) × (Nat → Int32) := if so (ot_par q) = 2 then ot_mrg ls_ lv_ q 3 so va else (so, va)
def ot_mnt (ls_ lv_ : Nat → Int32) : Nat → Nat → (Nat → Int32) → (Nat → Int32) → (Nat → Int32) × (Nat → Int32)
  | 0, _, so, va => (so, va)
  | m + 1, q, so, va => ot_mnt ls_ lv_ m (q + 1) (ot_mrg1 ls_ lv_ q so va).1 (ot_mrg1 ls_ lv_ q so va).2
def ot_cntM (so : Nat → Int32) : Nat → Nat → Nat → Nat
  | 0, _, n => n
  | m + 1, q, n => ot_cntM so m (q + 1) (if so q = 0 then n else n + 1)
def ot_cntK (so : Nat → Int32) (k : Nat) : Nat → Nat → Nat → Nat
  | 0, _, n => n
  | m + 1, q, n => ot_cntK so k m (q + 1) (if so q = 0 then n else if ot_par q = k then n + 1 else n)
def ot_kid (so : Nat → Int32) (k : Nat) : Nat → Nat → Bool
  | 0, _ => false
  | m + 1, q => if so q = 0 then ot_kid so k m (q + 1) else if ot_par q = k then true else ot_kid so k m (q + 1)
def ot_fo1 (fr to : Nat) (im : Nat → Int32) (q : Nat) : Nat → Int32 :=
  let i1 := upd im q (-1)
  let i2 := if q = fr then upd i1 q (nI to) else if q = 0 then i1 else if i1 (ot_par q) < 0 then i1 else upd i1 q (4 * i1 (ot_par q) + nI ((q - 1) % 4) + 1)
  if i2 q ≤ 84 then i2 else upd i2 q 85
def ot_fol (fr to : Nat) : Nat → Nat → (Nat → Int32) → Nat → Int32
  | 0, _, im => im
  | m + 1, q, im => ot_fol fr to m (q + 1) (ot_fo1 fr to im q)
/-- some path of the part has no place -/
def ot_far (so im : Nat → Int32) : Nat → Nat → Bool
  | 0, _ => false
  | m + 1, q => if im q = 85 then (if so q = 0 then ot_far so im m (q + 1) else true) else ot_far so im m (q + 1)
def ot_mv (im : Nat → Int32) : Nat → Nat → Nat → (Nat → Int32) → (Nat → Int32) → Nat × (Nat → Int32) × (Nat → Int32)
  | 0, _, n, so, va => (n, so, va)
  | m + 1, q, n, so, va =>
    if im q < 0 ∨ 85 ≤ im q ∨ so q = 0 then ot_mv im m (q + 1) n so va
    else ot_mv im m (q + 1) (n + 1) (upd (upd so (ot_k (im q)) (so q)) q 0) (upd va (ot_k (im q)) (va q))
/-- answer, mounted, layers' sorts and values, sorts, values -/
abbrev ot_mR : Type := Int32 × Int32 × (Nat → Int32) × (Nat → Int32) × (Nat → Int32) × (Nat → Int32)
def ot_mfill (mt : Int32) (ls_ lv_ so va : Nat → Int32) (p0 p1 p2 p3 : Int32) : ot_mR :=
  if mt = 0 ∧ ¬ p0 < 0 ∧ ¬ 2 < p0 ∧ ¬ p1 < 1 ∧ ¬ 84 < p1 ∧ ¬ p2 < 1 ∧ p2 ≤ 4 then
    if ls_ (85 * ot_k p0 + ot_k p1) = 0 ∧ (ot_par (ot_k p1) = 0 ∨ ls_ (85 * ot_k p0 + ot_par (ot_k p1)) = 2 ∨ ls_ (85 * ot_k p0 + ot_par (ot_k p1)) = 3) then (0, mt, upd ls_ (85 * ot_k p0 + ot_k p1) p2, upd lv_ (85 * ot_k p0 + ot_k p1) p3, so, va)
    else (-1, mt, ls_, lv_, so, va)
  else (-1, mt, ls_, lv_, so, va)
def ot_mtot (so : Nat → Int32) : Int32 := nI (ot_cntM so 84 1 0)
def ot_mmount (mt : Int32) (ls_ lv_ so va : Nat → Int32) : ot_mR :=
  if mt = 0 then (ot_mtot (ot_mnt ls_ lv_ 84 1 (upd so 0 2) va).1, 1, ls_, lv_, (ot_mnt ls_ lv_ 84 1 (upd so 0 2) va).1, (ot_mnt ls_ lv_ 84 1 (upd so 0 2) va).2)
  else (-1, mt, ls_, lv_, so, va)
abbrev ot_can (mt : Int32) (so : Nat → Int32) (x : Int32) : Prop := ¬ mt = 0 ∧ 0 < x ∧ ¬ 84 < x ∧ so (ot_k x) = 0 ∧ so (ot_par (ot_k x)) = 2
def ot_msort (so : Nat → Int32) (x : Int32) : Int32 := if x < 0 ∨ 84 < x then -1 else so (ot_k x)
def ot_mval (so va : Nat → Int32) (x : Int32) : Int32 := if x < 0 ∨ 84 < x then 0 else if so (ot_k x) = 1 then va (ot_k x) else 0
def ot_ment (so : Nat → Int32) (x : Int32) : Int32 := if x < 0 ∨ 84 < x then -1 else if so (ot_k x) = 2 then nI (ot_cntK so (ot_k x) 84 1 0) else -1
def ot_xmake (mt : Int32) (h ct : Nat → Int32) (x v : Int32) : ot_xR := if ot_room mt h x then ot_xput mt h ct (ot_k x) 1 v 0 else (-1, mt, h, ct)
def ot_xmkd (mt : Int32) (h ct : Nat → Int32) (x : Int32) : ot_xR := if ot_room mt h x then ot_xput mt h ct (ot_k x) 3 0 0 else (-1, mt, h, ct)
def ot_xwri (mt : Int32) (h ct : Nat → Int32) (x v : Int32) : ot_xR := if ot_xsort mt h x = 1 then ot_xput mt h ct (ot_k x) 1 v (ot_xval mt h ct x) else (-1, mt, h, ct)
def ot_xrem (mt : Int32) (h ct : Nat → Int32) (x : Int32) : ot_xR := if ot_xsort mt h x ≤ 0 ∨ x = 0 ∨ (ot_xsort mt h x = 2 ∧ ¬ ot_xent mt h x ≤ 0) then (-1, mt, h, ct) else (0, mt, (ot_tka mt h ct (ot_k x)).1, (ot_tka mt h ct (ot_k x)).2)
def ot_xmov1 (mt : Int32) (h ct : Nat → Int32) (f t : Nat) (o : Option (Nat × (Nat → Int32) × (Nat → Int32))) : ot_xR := match o with
  | none => (-1, mt, h, ct)
  | some (n, ps, pv) => (nI n, mt, (ot_ptl ps pv 85 0 (ot_cup 3 (ot_tka mt h ct f).1 (ot_par t)) (ot_tka mt h ct f).2).1, (ot_ptl ps pv 85 0 (ot_cup 3 (ot_tka mt h ct f).1 (ot_par t)) (ot_tka mt h ct f).2).2)
def ot_xmov (mt : Int32) (h ct ps pv : Nat → Int32) (f t : Int32) : ot_xR := if ot_xsort mt h f ≤ 0 ∨ f = 0 ∨ ¬ ot_room mt h t ∨ ot_und 3 (ot_k t) (ot_k f) = true then (-1, mt, h, ct) else ot_xmov1 mt h ct (ot_k f) (ot_k t) (ot_cp h ct mt (ot_k f) (ot_k t) (85 - ot_k f) (ot_k f) 0 (ot_zer ps 85 0) pv)
def ot_xprs (mt : Int32) (h ct : Nat → Int32) : ot_xR := if mt = 0 then (-1, mt, h, ct) else (0, mt, (ot_prs 84 1 h ct).1, (ot_prs 84 1 h ct).2)
def ot_mmake (mt : Int32) (ls_ lv_ so va : Nat → Int32) (x v : Int32) : ot_mR := if ot_can mt so x then (0, mt, ls_, lv_, upd so (ot_k x) 1, upd va (ot_k x) v) else (-1, mt, ls_, lv_, so, va)
def ot_mmkd (mt : Int32) (ls_ lv_ so va : Nat → Int32) (x : Int32) : ot_mR := if ot_can mt so x then (0, mt, ls_, lv_, upd so (ot_k x) 2, va) else (-1, mt, ls_, lv_, so, va)
def ot_mwri (mt : Int32) (ls_ lv_ so va : Nat → Int32) (x v : Int32) : ot_mR := if mt = 0 ∨ x < 0 ∨ 84 < x then (-1, mt, ls_, lv_, so, va) else if so (ot_k x) = 1 then (va (ot_k x), mt, ls_, lv_, so, upd va (ot_k x) v) else (-1, mt, ls_, lv_, so, va)
def ot_mrem (mt : Int32) (ls_ lv_ so va : Nat → Int32) (x : Int32) : ot_mR := if mt = 0 ∨ x < 1 ∨ 84 < x then (-1, mt, ls_, lv_, so, va) else if so (ot_k x) = 0 ∨ ot_kid so (ot_k x) 84 1 = true then (-1, mt, ls_, lv_, so, va) else (0, mt, ls_, lv_, upd so (ot_k x) 0, va)
def ot_mmov (mt : Int32) (ls_ lv_ so va im : Nat → Int32) (f t : Int32) : ot_mR :=
  if mt = 0 ∨ f < 1 ∨ 84 < f then (-1, mt, ls_, lv_, so, va)
  else if so (ot_k f) = 0 ∨ ¬ ot_can mt so t then (-1, mt, ls_, lv_, so, va)
  else if 0 ≤ ot_fol (ot_k f) (ot_k t) 85 0 im (ot_k t) ∨ ot_far so (ot_fol (ot_k f) (ot_k t) 85 0 im) 84 1 = true then (-1, mt, ls_, lv_, so, va)
  else (nI (ot_mv (ot_fol (ot_k f) (ot_k t) 85 0 im) 84 1 0 so va).1, mt, ls_, lv_, (ot_mv (ot_fol (ot_k f) (ot_k t) 85 0 im) 84 1 0 so va).2.1, (ot_mv (ot_fol (ot_k f) (ot_k t) 85 0 im) 84 1 0 so va).2.2)
def ot_mprs (mt : Int32) : Int32 := if mt = 0 then -1 else 0
/-! ===== the ends of public calls ===== -/
def ot_xP (q : ot_xR) (r : Int32) (u : ot_xS) : Prop := r = q.1 ∧ u.1 = q.2.1 ∧ u.2.2.2.1 = q.2.2.1 ∧ u.2.2.2.2.1 = q.2.2.2
def ot_mP (q : ot_mR) (r : Int32) (u : ot_mS) : Prop := r = q.1 ∧ u.1 = q.2.1 ∧ u.2.1 = q.2.2.1 ∧ u.2.2.1 = q.2.2.2.1 ∧ u.2.2.2.1 = q.2.2.2.2.1 ∧ u.2.2.2.2.1 = q.2.2.2.2.2
theorem ot_kI {j : Nat} (h : j < 2 ^ 31) : ot_k (nI j) = j := nI_clamp h
theorem ot_ix {x : Int32} (h0 : ¬ x < 0) (h1 : ¬ 84 < x) : ∃ j : Nat, j < 85 ∧ x = nI j := by
  obtain ⟨j, hj, e⟩ := nI_of h0
  subst e
  refine ⟨j, ?_, rfl⟩
  rcases Nat.lt_or_ge j 85 with q | q
  · exact q
  · exact absurd (nI_lt (a := 84) (b := j) q hj) h1
theorem ot_ix1 {x : Int32} (h0 : ¬ x < 1) (h1 : ¬ 84 < x) : ∃ j : Nat, 0 < j ∧ j < 85 ∧ x = nI j := by
  have hneg : ¬ x < 0 := fun h => h0 (Int32.lt_trans h (by decide))
  obtain ⟨j, hj, e⟩ := ot_ix hneg h1
  subst e
  refine ⟨j, ?_, hj, rfl⟩
  rcases Nat.eq_zero_or_pos j with q | q
  · subst q; exact absurd (by decide) h0
  · exact q
theorem ot_ix2 {x : Int32} (h0 : ¬ x < 0) (h1 : ¬ 2 < x) : ∃ j : Nat, j < 3 ∧ x = nI j := by
  obtain ⟨j, hj, e⟩ := nI_of h0
  subst e
  refine ⟨j, ?_, rfl⟩
  rcases Nat.lt_or_ge j 3 with q | q
  · exact q
  · exact absurd (nI_lt (a := 2) (b := j) q hj) h1
theorem ot_nlt {j : Nat} (h : j < 2 ^ 31) : ¬ nI j < 0 := nI_pos h
theorem ot_n84 {j : Nat} (h : j < 85) : ¬ 84 < nI j := nI_nlt (a := 84) (b := j) (by omega) (by decide)
theorem ot_n1 {j : Nat} (h0 : 0 < j) (h : j < 85) : ¬ nI j < 1 := nI_nlt (a := j) (b := 1) h0 (by omega)
theorem ot_k85 {x : Int32} (h0 : ¬ x < 0) (h1 : ¬ 84 < x) : ot_k x < 85 := by
  obtain ⟨j, hj, rfl⟩ := ot_ix h0 h1
  rw [ot_kI (by omega)]; exact hj
theorem ot_oI (o : Option Nat) (h : ∀ l, o = some l → l < 5) : ot_o o < 0 ↔ o = none := by
  cases o with
  | none => exact ⟨fun _ => rfl, fun _ => by decide⟩
  | some l => exact ⟨fun z => absurd z (nI_pos (by have := h l rfl; omega)), fun z => by cases z⟩
theorem ot_top_lt {h : Nat → Int32} {q : Nat} : ∀ {n f l : Nat}, ot_top h q n f = some l → f ≤ l ∧ l < n ∧ ¬ h (85 * l + q) = 0 := by
  intro n
  induction n with
  | zero => intro f l e; simp [ot_top] at e
  | succ n ih =>
    intro f l e
    unfold ot_top at e
    split at e
    · cases e
    · split at e
      · obtain ⟨a, b, c⟩ := ih e
        exact ⟨a, by omega, c⟩
      · cases e
        exact ⟨by omega, by omega, by assumption⟩
theorem ot_set_lt {h : Nat → Int32} {q f l : Nat} (e : ot_set h q f = some l) : f ≤ l ∧ l < 5 ∧ ¬ h (85 * l + q) = 0 ∧ ¬ h (85 * l + q) = 4 := by
  unfold ot_set ot_hole at e
  split at e
  · cases e
  · split at e
    · cases e
    · rename_i l' hl h4
      cases e
      obtain ⟨a, b, c⟩ := ot_top_lt hl
      exact ⟨a, b, c, h4⟩
theorem ot_fd_lt {h : Nat → Int32} {q l : Nat} (e : ot_fd h q = some l) : l < 5 := by
  unfold ot_fd at e
  split at e
  · cases e; decide
  · split at e
    · cases e
    · exact (ot_set_lt e).2.1
theorem ot_rai_le {h : Nat → Int32} {q : Nat} : ∀ {n f : Nat}, f ≤ 5 → n ≤ 5 → ot_rai h q n f ≤ 5 := by
  intro n
  induction n with
  | zero => intro f hf _; simpa [ot_rai] using hf
  | succ n ih =>
    intro f hf hn
    unfold ot_rai
    split
    · exact hf
    · split
      · omega
      · split
        · omega
        · exact ih hf (by omega)
theorem ot_fl_0 (h : Nat → Int32) : ot_fl h 0 = some 0 := by rw [ot_fl]; simp
theorem ot_fl_s (h : Nat → Int32) {q : Nat} (hq : 0 < q) : ot_fl h q = match ot_fl h (ot_par q) with
    | none => none
    | some f => match ot_set h q f with
      | none => none
      | some l => if h (85 * l + q) = 1 then none else some (ot_rai h q 5 f) := by
  rw [ot_fl, dif_neg (by omega)]
theorem ot_und_lt : ∀ {n q o : Nat}, ot_und n q o = true → o < q := by
  intro n
  induction n with
  | zero => intro q o h; simp [ot_und] at h
  | succ n ih =>
    intro q o h
    unfold ot_und at h
    split at h
    · cases h
    · have hp := ot_par_lt (q := q) (by omega)
      split at h
      · omega
      · have := ih h; omega
theorem ot_plc_le (fr : Nat) {to : Nat} (ht : to < 85) (q : Nat) : ot_plc fr to 3 q < 6000 := by
  have h0 : ∀ q, ot_plc fr to 0 q < 85 := fun q => by simp [ot_plc]; exact ht
  have h1 : ∀ q, ot_plc fr to 1 q < 345 := fun q => by
    have := h0 (ot_par q)
    unfold ot_plc; split <;> omega
  have h2 : ∀ q, ot_plc fr to 2 q < 1400 := fun q => by
    have := h1 (ot_par q)
    unfold ot_plc; split <;> omega
  have := h2 (ot_par q)
  unfold ot_plc; split <;> omega
end
section
theorem ot_m1lt {f : Nat} (h : f < 2 ^ 31) : (-1 : Int32) < nI f := by
  rw [Int32.lt_iff_toInt_lt, nI_toInt h]
  have : (-1 : Int32).toInt = -1 := by decide
  omega
theorem ot_dnlt {n m : Nat} (h : n ≤ m) (hm : m < 2 ^ 31) : ot_dn n < nI m := by
  cases n with
  | zero => rw [ot_dn_0]; exact ot_m1lt hm
  | succ n => rw [ot_dn_s]; exact nI_lt h hm
theorem ot_sub1 (j : Nat) : nI j - 1 = ot_dn j := by
  show nI j - 1 = nI j + Int32.ofInt (-1)
  rw [Int32.sub_eq_add_neg]
  rfl
theorem ot_anc85 {q : Nat} (h : q < 85) : ∀ i, ot_anc q i < 85
  | 0 => h
  | i + 1 => ot_par84 (ot_anc85 h i)
theorem ot_anc3 {q : Nat} (h : q < 85) : ot_anc q 3 = 0 := by
  simp only [ot_anc, ot_par]
  omega
theorem ot_fd_of {h : Nat → Int32} {q f : Nat} (hq : 0 < q) (hF : ot_fl h (ot_par q) = some f) : ot_fd h q = ot_set h q f := by
  unfold ot_fd
  rw [if_neg (by omega), hF]
theorem ot_fd_no {h : Nat → Int32} {q : Nat} (hq : 0 < q) (hF : ot_fl h (ot_par q) = none) : ot_fd h q = none := by
  unfold ot_fd
  rw [if_neg (by omega), hF]
theorem ot_fd_0 (h : Nat → Int32) : ot_fd h 0 = some 4 := by simp [ot_fd]
theorem ot_fl_none {h : Nat → Int32} {q : Nat} : ∀ i, ot_fl h (ot_anc q (i + 1)) = none → (∀ k, k ≤ i → 0 < ot_anc q k) → ot_fd h q = none := by
  intro i
  induction i with
  | zero => intro e hp; exact ot_fd_no (hp 0 (Nat.le_refl 0)) e
  | succ i ih =>
    intro e hp
    refine ih ?_ (fun k hk => hp k (by omega))
    rw [ot_fl_s h (hp (i + 1) (Nat.le_refl _))]
    have e : ot_fl h (ot_par (ot_anc q (i + 1))) = none := e
    rw [e]
theorem ot_look_none {h : Nat → Int32} {q0 j f : Nat} (hF : ot_fl h (ot_anc q0 (j + 1)) = some f) (hs : ot_set h (ot_anc q0 j) f = none) (hpos : ∀ i, i < j + 1 → 0 < ot_anc q0 i) : ot_fd h q0 = none := by
  have hF : ot_fl h (ot_par (ot_anc q0 j)) = some f := hF
  cases j with
  | zero => exact (ot_fd_of (q := q0) (hpos 0 (by omega)) hF).trans hs
  | succ i =>
    refine ot_fl_none i ?_ (fun k hk => hpos k (by omega))
    rw [ot_fl_s h (hpos (i + 1) (by omega)), hF]
    simp only [hs]
theorem ot_look_file {h : Nat → Int32} {q0 j f l : Nat} (hF : ot_fl h (ot_anc q0 (j + 1)) = some f) (hs : ot_set h (ot_anc q0 j) f = some l) (h1 : h (85 * l + ot_anc q0 j) = 1) (hj : ¬ j ≤ 0) (hpos : ∀ i, i < j + 1 → 0 < ot_anc q0 i) : ot_fd h q0 = none := by
  have hF : ot_fl h (ot_par (ot_anc q0 j)) = some f := hF
  cases j with
  | zero => exact absurd (Nat.le_refl 0) hj
  | succ i =>
    refine ot_fl_none i ?_ (fun k hk => hpos k (by omega))
    rw [ot_fl_s h (hpos (i + 1) (by omega)), hF]
    simp only [hs, h1, if_true]
theorem ot_look_go {h : Nat → Int32} {q0 j f l : Nat} (hF : ot_fl h (ot_anc q0 (j + 1)) = some f) (hs : ot_set h (ot_anc q0 j) f = some l) (h1 : ¬ h (85 * l + ot_anc q0 j) = 1) (hpos : ∀ i, i < j + 1 → 0 < ot_anc q0 i) : ot_fl h (ot_anc q0 j) = some (ot_rai h (ot_anc q0 j) 5 f) := by
  have hF : ot_fl h (ot_par (ot_anc q0 j)) = some f := hF
  rw [ot_fl_s h (hpos j (by omega)), hF]
  simp only [hs, if_neg h1]
theorem ot_way {wy : Nat → Int32} {g : Nat → Int32} {i : Nat} (hw : ∀ k, k < i → wy k = g k) {v : Int32} (hv : v = g i) : ∀ k, k < i + 1 → upd wy i v k = g k := by
  intro k hk
  rcases Nat.lt_or_ge k i with h | h
  · rw [pk_un (by omega)]; exact hw k h
  · obtain rfl : k = i := by omega
    rw [pk_us]; exact hv
theorem ot_xsI {mt : Int32} {h : Nat → Int32} {k : Nat} (hk : k < 85) : ot_xsort mt h (nI k) = ot_srt mt h k := by
  unfold ot_xsort
  rw [if_neg (fun z => z.elim (ot_nlt (by omega)) (ot_n84 hk)), ot_kI (by omega)]
theorem ot_xs_in {mt : Int32} {h : Nat → Int32} {x : Int32} (e : ¬ ot_xsort mt h x = -1) : ∃ k, k < 85 ∧ x = nI k := by
  unfold ot_xsort at e
  split at e
  · exact absurd rfl e
  · rename_i hn
    exact ot_ix (fun z => hn (Or.inl z)) (fun z => hn (Or.inr z))
theorem ot_ss1 {mt : Int32} {h : Nat → Int32} {k : Nat} (e : ot_srt mt h k = 1) : ¬ mt = 0 ∧ ∃ l, l < 5 ∧ ot_fd h k = some l ∧ h (85 * l + k) = 1 := by
  unfold ot_srt at e
  split at e
  · exact absurd e (by decide)
  · rename_i hm
    refine ⟨hm, ?_⟩
    unfold ot_vw at e
    split at e
    · exact absurd e (by decide)
    · rename_i l hl
      split at e
      · exact ⟨l, ot_fd_lt hl, hl, by assumption⟩
      · exact absurd e (by decide)
theorem ot_vl_1 {h ct : Nat → Int32} {k l : Nat} (hs : ot_fd h k = some l) (h1 : h (85 * l + k) = 1) : ot_vl h ct k = ct (85 * l + k) := by
  unfold ot_vl
  simp only [hs, h1, if_true]
theorem ot_xsrt1 {mt : Int32} {h : Nat → Int32} {x : Int32} (e : ot_xsort mt h x = 1) : ¬ mt = 0 ∧ ∃ k l, k < 85 ∧ l < 5 ∧ x = nI k ∧ ot_fd h k = some l ∧ h (85 * l + k) = 1 := by
  obtain ⟨k, hk, rfl⟩ := ot_xs_in (by rw [e]; decide)
  rw [ot_xsI hk] at e
  obtain ⟨hm, l, hl, h1, h2⟩ := ot_ss1 e
  exact ⟨hm, k, l, hk, hl, rfl, h1, h2⟩
theorem ot_bd0 {P : Prop} {i : Decidable P} : ot_b (decide P) = 0 ↔ ¬ P := by
  rw [ot_b0]; simp
theorem ot_bF {P : Prop} {i : Decidable P} (h : ¬ P) : 0 = ot_b (decide P) := by rw [decide_eq_false h]; rfl
theorem ot_bT {P : Prop} {i : Decidable P} (h : P) : 1 = ot_b (decide P) := by rw [decide_eq_true h]; rfl
theorem ot_room_k {mt : Int32} {h : Nat → Int32} {x : Int32} (e : ot_room mt h x) : ∃ k, 0 < k ∧ k < 85 ∧ x = nI k := ot_ix1 e.2.1 e.2.2.1
theorem ot_xPe {q : ot_xR} {r mt fd fl : Int32} {hd ct wy ps pv : Nat → Int32} (h : q = (r, mt, hd, ct)) : ot_xP q r (mt, fd, fl, hd, ct, wy, ps, pv) := by
  subst h
  exact ⟨rfl, rfl, rfl, rfl⟩
theorem ot_mPe {q : ot_mR} {r mt : Int32} {ls_ lv_ so va im : Nat → Int32} (h : q = (r, mt, ls_, lv_, so, va)) : ot_mP q r (mt, ls_, lv_, so, va, im) := by
  subst h
  exact ⟨rfl, rfl, rfl, rfl, rfl, rfl⟩
theorem ot_cp_le {h ct : Nat → Int32} {mt : Int32} {fr to : Nat} : ∀ {m q n : Nat} {ps pv : Nat → Int32} {x : Nat × (Nat → Int32) × (Nat → Int32)}, ot_cp h ct mt fr to m q n ps pv = some x → x.1 ≤ n + m := by
  intro m
  induction m with
  | zero => intro q n ps pv x e; simp only [ot_cp, Option.some.injEq] at e; subst e; simp
  | succ m ih =>
    intro q n ps pv x e
    unfold ot_cp at e
    split at e
    · split at e
      · cases e
      · have := ih e; omega
    · have := ih e; omega
def ot_cpQ (o : Option (Nat × (Nat → Int32) × (Nat → Int32))) (r : Int32) (ps pv : Nat → Int32) : Prop := match o with
  | none => r = -1
  | some x => r = nI x.1 ∧ ps = x.2.1 ∧ pv = x.2.2
theorem ot_und_pos {n q o : Nat} (h : ot_und n q o = true) : 0 < q := by have := ot_und_lt h; omega
theorem ot_bt {x : Bool} (h : ¬ ot_b x = 0) : x = true := by
  cases x with
  | false => exact absurd rfl h
  | true => rfl
theorem ot_can_k {mt : Int32} {so : Nat → Int32} {x : Int32} (e : ot_can mt so x) : ∃ k, k < 85 ∧ x = nI k := ot_ix (fun z => Int32.lt_irrefl (Int32.lt_trans z e.2.1)) e.2.2.1
theorem ot_ix85 {x : Int32} (h0 : ¬ x < 0) (h1 : ¬ 85 ≤ x) : ot_k x < 85 ∧ x = nI (ot_k x) := by
  obtain ⟨j, hj, rfl⟩ := nI_of h0
  rw [ot_kI hj]
  refine ⟨?_, rfl⟩
  rcases Nat.lt_or_ge j 85 with q | q
  · exact q
  · exact absurd (nI_le (a := 85) (b := j) q hj) h1
end
section
set_option maxRecDepth 100000
abbrev rmX0_parentOf : Room := { frames := 0, cells := 0, slots := 0, locals := 0 }
abbrev rmX0_isUnder : Room := { frames := 1, cells := 0, slots := 0, locals := 20 }
abbrev rmX0_settle : Room := { frames := 0, cells := 0, slots := 0, locals := 0 }
abbrev rmX0_raiseFloor : Room := { frames := 0, cells := 0, slots := 0, locals := 0 }
abbrev rmX0_look : Room := { frames := 1, cells := 0, slots := 0, locals := 23 }
abbrev rmX0_sort : Room := { frames := 2, cells := 0, slots := 0, locals := 46 }
abbrev rmX0_value : Room := { frames := 3, cells := 0, slots := 0, locals := 67 }
abbrev rmX0_entries : Room := { frames := 3, cells := 0, slots := 0, locals := 67 }
abbrev rmX0_total : Room := { frames := 3, cells := 0, slots := 0, locals := 67 }
abbrev rmX0_isRoom : Room := { frames := 3, cells := 0, slots := 0, locals := 67 }
abbrev rmX0_put : Room := { frames := 0, cells := 0, slots := 0, locals := 0 }
abbrev rmX0_copyUpTo : Room := { frames := 1, cells := 0, slots := 0, locals := 20 }
abbrev rmX0_clearUnder : Room := { frames := 2, cells := 0, slots := 0, locals := 43 }
abbrev rmX0_takeAway : Room := { frames := 3, cells := 0, slots := 0, locals := 67 }
abbrev rmX0_placeAfter : Room := { frames := 0, cells := 0, slots := 0, locals := 0 }
abbrev rmX0_copyPart : Room := { frames := 3, cells := 0, slots := 0, locals := 67 }
abbrev rmX0_fill : Room := { frames := 1, cells := 0, slots := 0, locals := 20 }
abbrev rmX0_mount : Room := { frames := 4, cells := 0, slots := 0, locals := 89 }
abbrev rmX0_make : Room := { frames := 4, cells := 0, slots := 0, locals := 88 }
abbrev rmX0_makeDir : Room := { frames := 4, cells := 0, slots := 0, locals := 88 }
abbrev rmX0_write : Room := { frames := 4, cells := 0, slots := 0, locals := 88 }
abbrev rmX0_remove : Room := { frames := 4, cells := 0, slots := 0, locals := 90 }
abbrev rmX0_move : Room := { frames := 4, cells := 0, slots := 0, locals := 93 }
abbrev rmX0_press : Room := { frames := 3, cells := 0, slots := 0, locals := 66 }
abbrev rmX1_bad : Room := { frames := 0, cells := 0, slots := 0, locals := 0 }
abbrev rmX1_parent : Room := { frames := 0, cells := 0, slots := 0, locals := 0 }
abbrev rmX1_layerDirectory : Room := { frames := 0, cells := 0, slots := 0, locals := 0 }
abbrev rmX1_fill : Room := { frames := 1, cells := 0, slots := 0, locals := 23 }
abbrev rmX1_hidden : Room := { frames := 1, cells := 0, slots := 0, locals := 20 }
abbrev rmX1_merge : Room := { frames := 2, cells := 0, slots := 0, locals := 44 }
abbrev rmX1_total : Room := { frames := 0, cells := 0, slots := 0, locals := 0 }
abbrev rmX1_mount : Room := { frames := 3, cells := 0, slots := 0, locals := 67 }
abbrev rmX1_canMake : Room := { frames := 1, cells := 0, slots := 0, locals := 20 }
abbrev rmX1_make : Room := { frames := 2, cells := 0, slots := 0, locals := 41 }
abbrev rmX1_makeDir : Room := { frames := 2, cells := 0, slots := 0, locals := 41 }
abbrev rmX1_write : Room := { frames := 1, cells := 0, slots := 0, locals := 20 }
abbrev rmX1_remove : Room := { frames := 1, cells := 0, slots := 0, locals := 20 }
abbrev rmX1_follow : Room := { frames := 1, cells := 0, slots := 0, locals := 20 }
abbrev rmX1_move : Room := { frames := 2, cells := 0, slots := 0, locals := 43 }
abbrev rmX1_press : Room := { frames := 0, cells := 0, slots := 0, locals := 0 }
abbrev rmX1_sort : Room := { frames := 1, cells := 0, slots := 0, locals := 20 }
abbrev rmX1_value : Room := { frames := 1, cells := 0, slots := 0, locals := 20 }
abbrev rmX1_entries : Room := { frames := 1, cells := 0, slots := 0, locals := 20 }
set_option maxHeartbeats 4000000 in
set_option maxRecDepth 100000 in
theorem xm_parentOf (l : Launch) (q : Nat) (hq : q < 85) : ot_Ms l yX0_parentOf cX0_parentOf 1 (some .int) rmX0_parentOf ([.int (nI (q))] : List Value) (nI (ot_par q)) := by
  refine ot_Ms_of (by decide) (Nat.le_of_ble_eq_true rfl) ?_
  intro p e s m below meth c hC hr hlk ls hl
  have hC : CallFix p m c cX0_parentOf 1 s ([.int (nI (q))] : List Value).toArray lw_all RX0 := hC
  have hx := hC.1
  have hb := hC.2.1
  have hl : lv_has ls 1 [(0, .int (nI (q)))] := hl
  refine lv_iload_n hx hb dX0_parentOf_0 rfl (lv_at hl 0 rfl) ?_
  refine lv_iconst (v := 1) hx hb dX0_parentOf_1 (by decide) ?_
  refine lv_isub hx hb dX0_parentOf_2 ?_
  refine lv_iconst (v := 4) hx hb dX0_parentOf_3 (by decide) ?_
  refine lv_idiv hx hb dX0_parentOf_4 (by decide) ?_
  refine ot_r (y := nI (ot_par (q))) (ot_parI (by omega)) ?_
  exact ot_iretR hC hr hlk (rfl) dX0_parentOf_5
set_option maxHeartbeats 4000000 in
set_option maxRecDepth 100000 in
theorem xm_isUnder (l : Launch) (q0 o : Nat) (hq0 : q0 < 85) (ho : o < 85) : ot_Ms l yX0_isUnder cX0_isUnder 4 (some .boolean) rmX0_isUnder ([.int (nI (q0)), .int (nI (o))] : List Value) (ot_b (ot_und 3 q0 o)) := by
  refine ot_Ms_of (by decide) (Nat.le_of_ble_eq_true rfl) ?_
  intro p e s m below meth c hC hr hlk ls hl
  have hC : CallFix p m c cX0_isUnder 4 s ([.int (nI (q0)), .int (nI (o))] : List Value).toArray lw_all RX0 := hC
  have hx := hC.1
  have hb := hC.2.1
  have hl : lv_has ls 4 [(0, .int (nI (q0))), (1, .int (nI (o)))] := hl
  have lp : ∀ (n i q : Nat) (hn : n + i = 3) (hq : q < 85) (hR : ot_und n q o = ot_und 3 q0 o), ∀ (ls : Array Slot), lv_has ls 4 [(0, .int (nI (q0))), (1, .int (nI (o))), (2, .int (nI (q))), (3, .int (nI (i)))] → W p l e rmX0_isUnder s m ([.int (nI (q0)), .int (nI (o))] : List Value).toArray below meth c s.heap [] 0 0 (ot_Zr (ot_b (ot_und 3 q0 o)) below ([.int (nI (q0)), .int (nI (o))] : List Value).toArray s) (F0 m 4 ls []) := by
    intro n
    induction n with
    | zero =>
      intro i q hn hq hR ls hl
      refine lv_iload_n hx hb dX0_isUnder_4 rfl (lv_at hl 3 rfl) ?_
      refine lv_iconst (v := 3) hx hb dX0_isUnder_5 (by decide) ?_
      refine ot_icmp_ge hx hb (a := i) (b := 3) rfl rfl (by omega) (by omega) (tgt := 31) dX0_isUnder_6 (by decide) (fun _ => ?_) (fun c_ => absurd (by omega) c_)
      refine lv_iconst (v := 0) hx hb dX0_isUnder_31 (by decide) ?_
      exact ot_zretR hC hr hlk (by rw [← hR]; rfl) rfl dX0_isUnder_32
    | succ n ih =>
      intro i q hn hq hR ls hl
      have hpq := ot_par84 hq
      refine lv_iload_n hx hb dX0_isUnder_4 rfl (lv_at hl 3 rfl) ?_
      refine lv_iconst (v := 3) hx hb dX0_isUnder_5 (by decide) ?_
      refine ot_icmp_ge hx hb (a := i) (b := 3) rfl rfl (by omega) (by omega) (tgt := 31) dX0_isUnder_6 (by decide) (fun c_ => absurd c_ (by omega)) (fun _ => ?_)
      refine lv_iload_n hx hb dX0_isUnder_9 rfl (lv_at hl 2 rfl) ?_
      refine ot_if_le hx hb (a := q) rfl (by omega) (tgt := 31) dX0_isUnder_10 (by decide) (fun c10 => ?_) (fun c10 => ?_)
      · skip
        refine lv_iconst (v := 0) hx hb dX0_isUnder_31 (by decide) ?_
        exact ot_zretR hC hr hlk (by rw [← hR, ot_und, if_pos (by omega)]; rfl) rfl dX0_isUnder_32
      · skip
        refine lv_iload_n hx hb dX0_isUnder_13 rfl (lv_at hl 2 rfl) ?_
        refine ot_calls (As := [.int (nI (q))]) (rest := []) (xm_parentOf l (q) (by omega)) hC (va_cwS 1 hC.2.2.2.2 (lw_S q56 q57 q16 q58) rfl rfl rfl ok_yX0_parentOf ⟨Nat.le_of_ble_eq_true rfl, Nat.le_of_ble_eq_true rfl⟩) rfl rfl hl.1 (Nat.le_of_ble_eq_true rfl) dX0_isUnder_14 ⟨Nat.zero_le _, Nat.zero_le _⟩ ?_
        refine lv_istore_n (lv' := [(2, .int (nI (ot_par (q)))), (0, .int (nI (q0))), (1, .int (nI (o))), (3, .int (nI (i)))]) hx hb dX0_isUnder_17 rfl hl (by decide) rfl (fun ls hl => ?_)
        refine lv_iload_n hx hb dX0_isUnder_18 rfl (lv_at hl 0 rfl) ?_
        refine lv_iload_n hx hb dX0_isUnder_19 rfl (lv_at hl 2 rfl) ?_
        refine ot_icmp_ne hx hb (a := ot_par (q)) (b := o) rfl rfl (by omega) (by omega) (tgt := 25) dX0_isUnder_20 (by decide) (fun c20 => ?_) (fun c20 => ?_)
        · skip
          refine lv_iinc (v := nI (i + 1)) (lv' := [(3, .int (nI (i + 1))), (2, .int (nI (ot_par (q)))), (0, .int (nI (q0))), (1, .int (nI (o)))]) hx hb dX0_isUnder_25 hl (k := 3) rfl (ot_inc _) (by decide) rfl (fun ls hl => ?_)
          refine lv_goto (tgt := 4) hx hb dX0_isUnder_28 (by decide) ?_
          exact ih (i + 1) (ot_par q) (by omega) hpq (by rw [← hR, ot_und, if_neg (by omega), if_neg c20]) _ (lv_sub hl [2, 3, 1, 0] rfl)
        · skip
          refine lv_iconst (v := 1) hx hb dX0_isUnder_23 (by decide) ?_
          exact ot_zretR hC hr hlk (by rw [← hR, ot_und, if_neg (by omega), if_pos c20]; rfl) rfl dX0_isUnder_24
  refine lv_iload_n hx hb dX0_isUnder_0 rfl (lv_at hl 0 rfl) ?_
  refine lv_istore_n (lv' := [(2, .int (nI (q0))), (0, .int (nI (q0))), (1, .int (nI (o)))]) hx hb dX0_isUnder_1 rfl hl (by decide) rfl (fun ls hl => ?_)
  refine lv_iconst (v := 0) hx hb dX0_isUnder_2 (by decide) ?_
  refine lv_istore_n (lv' := [(3, .int (0)), (2, .int (nI (q0))), (0, .int (nI (q0))), (1, .int (nI (o)))]) hx hb dX0_isUnder_3 rfl hl (by decide) rfl (fun ls hl => ?_)
  exact lp 3 0 q0 (by omega) hq0 rfl _ (lv_sub hl [2, 3, 1, 0] rfl)
end
section
set_option maxRecDepth 100000
set_option maxHeartbeats 4000000 in
set_option maxRecDepth 100000 in
theorem xm_settle (l : Launch) (G : va_G) (d : ClassId) (a : Nat → Nat) (mt fd : Int32) (hd ct wy ps pv : Nat → Int32) (q f : Nat) (hq : q < 85) (hf : f ≤ 5) : ot_Mv l G d yX0_settle cX0_settle 3 rmX0_settle (ot_xa a) (ot_xW d a) ([.ref (a 0), .int (nI (q))] : List Value) (mt, fd, nI f, hd, ct, wy, ps, pv) (fun u => u = (mt, ot_o (ot_set hd q f), nI f, hd, ct, wy, ps, pv)) := by
  refine ot_Mv_of (by decide) rfl (Nat.le_of_ble_eq_true rfl) ?_
  intro p e s m below meth c hC hK hr hlk hI ls hl
  have hC : CallFix p m c cX0_settle 3 s ([.ref (a 0), .int (nI (q))] : List Value).toArray lw_all RX0 := hC
  have hx := hC.1
  have hb := hC.2.1
  have hA : ∀ q, s.heap.size ≤ q → ot_F (ot_xa a) s.heap.size q := fun q h => Or.inr h
  have hl : lv_has ls 3 [(0, .ref (a 0)), (1, .int (nI (q)))] := hl
  have fin : ∀ (o : Option Nat) (ho : ∀ l, o = some l → l < 5) (hR : ot_hole hd q o = ot_set hd q f), ∀ (H : Heap) (locs : List Loc), ot_I G (ot_F (ot_xa a) s.heap.size) s H locs (ot_xW d a (mt, ot_o o, nI f, hd, ct, wy, ps, pv)) → ∀ (ls : Array Slot), lv_has ls 3 [(0, .ref (a 0)), (1, .int (nI (q)))] → W p l e rmX0_settle s m ([.ref (a 0), .int (nI (q))] : List Value).toArray below meth c H locs 0 0 (ot_Zv G d (ot_xa a) (ot_xW d a) (fun u => u = (mt, ot_o (ot_set hd q f), nI f, hd, ct, wy, ps, pv)) below ([.ref (a 0), .int (nI (q))] : List Value).toArray s) (F0 m 51 ls []) := by
    intro o ho hR H locs hI ls hl
    rcases o with _ | y
    · have hI : ot_I G _ s H locs (ot_xW d a (mt, (-1), nI f, hd, ct, wy, ps, pv)) := hI
      refine lv_aload_n hx hb dX0_settle_51 rfl (lv_at hl 0 rfl) ?_
      refine ot_xg3 hC hK hI.1 dX0_settle_52 ?_
      refine lv_if_lt (tgt := 81) hx hb dX0_settle_55 (by decide) (fun _ => ?_) (fun c_ => absurd (by decide) c_)
      exact ot_vret (u := (mt, (-1), nI f, hd, ct, wy, ps, pv)) hC hK hr hlk hI (by rw [← hR]; rfl) dX0_settle_81
    · have hI : ot_I G _ s H locs (ot_xW d a (mt, nI y, nI f, hd, ct, wy, ps, pv)) := hI
      have hy := ho y rfl
      refine lv_aload_n hx hb dX0_settle_51 rfl (lv_at hl 0 rfl) ?_
      refine ot_xg3 hC hK hI.1 dX0_settle_52 ?_
      refine ot_if_lt hx hb (a := y) rfl (by omega) (tgt := 81) dX0_settle_55 (by decide) (fun c_ => absurd c_ (by omega)) (fun _ => ?_)
      refine lv_aload_n hx hb dX0_settle_58 rfl (lv_at hl 0 rfl) ?_
      refine ot_xg1 hC hK hI.1 dX0_settle_59 ?_
      refine lv_bipush (v := 85) hx hb dX0_settle_62 (by decide) ?_
      refine lv_aload_n hx hb dX0_settle_64 rfl (lv_at hl 0 rfl) ?_
      refine ot_xg3 hC hK hI.1 dX0_settle_65 ?_
      refine ot_imul hx hb (a := 85) (b := y) rfl rfl dX0_settle_68 ?_
      refine lv_iload_n hx hb dX0_settle_69 rfl (lv_at hl 1 rfl) ?_
      refine ot_iadd hx hb (a := 85 * y) (b := q) rfl rfl dX0_settle_70 ?_
      refine ot_xl1 hC hK hI.1 (j := 85 * y + q) rfl (by omega) dX0_settle_71 ?_
      refine lv_iconst (v := 4) hx hb dX0_settle_72 (by decide) ?_
      refine lv_icmp_ne (tgt := 81) hx hb dX0_settle_73 (by decide) (fun c73 => ?_) (fun c73 => ?_)
      · skip
        exact ot_vret (u := (mt, nI y, nI f, hd, ct, wy, ps, pv)) hC hK hr hlk hI (by rw [← hR]; simp only [ot_hole, if_neg c73, ot_o]) dX0_settle_81
      · skip
        refine lv_aload_n hx hb dX0_settle_76 rfl (lv_at hl 0 rfl) ?_
        refine lv_iconst (v := (-1)) hx hb dX0_settle_77 (by decide) ?_
        refine ot_xp3 hC hK hI dX0_settle_78 (fun H locs hI => ?_)
        exact ot_vret (u := (mt, (-1), nI f, hd, ct, wy, ps, pv)) hC hK hr hlk hI (by rw [← hR]; simp only [ot_hole, if_pos c73, ot_o]) dX0_settle_81
  have lp : ∀ (n : Nat) (hn : n ≤ 5) (hR : ot_hole hd q (ot_top hd q n f) = ot_set hd q f), ∀ (H : Heap) (locs : List Loc), ot_I G (ot_F (ot_xa a) s.heap.size) s H locs (ot_xW d a (mt, (-1), nI f, hd, ct, wy, ps, pv)) → ∀ (ls : Array Slot), lv_has ls 3 [(0, .ref (a 0)), (1, .int (nI (q))), (2, .int (ot_dn n))] → W p l e rmX0_settle s m ([.ref (a 0), .int (nI (q))] : List Value).toArray below meth c H locs 0 0 (ot_Zv G d (ot_xa a) (ot_xW d a) (fun u => u = (mt, ot_o (ot_set hd q f), nI f, hd, ct, wy, ps, pv)) below ([.ref (a 0), .int (nI (q))] : List Value).toArray s) (F0 m 7 ls []) := by
    intro n
    induction n with
    | zero =>
      intro hn hR H locs hI ls hl
      rw [ot_dn_0] at hl
      refine lv_iload_n hx hb dX0_settle_7 rfl (lv_at hl 2 rfl) ?_
      refine lv_aload_n hx hb dX0_settle_8 rfl (lv_at hl 0 rfl) ?_
      refine ot_xg4 hC hK hI.1 dX0_settle_9 ?_
      refine lv_icmp_lt (tgt := 51) hx hb dX0_settle_12 (by decide) (fun _ => ?_) (fun c_ => absurd (ot_m1lt (by omega)) c_)
      exact fin none (fun _ h => by cases h) hR _ _ hI _ (lv_sub hl [0, 1] rfl)
    | succ n ih =>
      intro hn hR H locs hI ls hl
      rw [ot_dn_s] at hl
      refine lv_iload_n hx hb dX0_settle_7 rfl (lv_at hl 2 rfl) ?_
      refine lv_aload_n hx hb dX0_settle_8 rfl (lv_at hl 0 rfl) ?_
      refine ot_xg4 hC hK hI.1 dX0_settle_9 ?_
      refine ot_icmp_lt hx hb (a := n) (b := f) rfl rfl (by omega) (by omega) (tgt := 51) dX0_settle_12 (by decide) (fun c12 => ?_) (fun c12 => ?_)
      · skip
        exact fin none (fun _ h => by cases h) (by rw [← hR, ot_top, if_pos c12]) _ _ hI _ (lv_sub hl [0, 1] rfl)
      · skip
        refine lv_aload_n hx hb dX0_settle_15 rfl (lv_at hl 0 rfl) ?_
        refine ot_xg3 hC hK hI.1 dX0_settle_16 ?_
        refine lv_if_ge (tgt := 51) hx hb dX0_settle_19 (by decide) (fun c_ => absurd c_ (by decide)) (fun _ => ?_)
        refine lv_aload_n hx hb dX0_settle_22 rfl (lv_at hl 0 rfl) ?_
        refine lv_aload_n hx hb dX0_settle_23 rfl (lv_at hl 0 rfl) ?_
        refine ot_xg1 hC hK hI.1 dX0_settle_24 ?_
        refine lv_bipush (v := 85) hx hb dX0_settle_27 (by decide) ?_
        refine lv_iload_n hx hb dX0_settle_29 rfl (lv_at hl 2 rfl) ?_
        refine ot_imul hx hb (a := 85) (b := n) rfl rfl dX0_settle_30 ?_
        refine lv_iload_n hx hb dX0_settle_31 rfl (lv_at hl 1 rfl) ?_
        refine ot_iadd hx hb (a := 85 * n) (b := q) rfl rfl dX0_settle_32 ?_
        refine ot_xl1 hC hK hI.1 (j := 85 * n + q) rfl (by omega) dX0_settle_33 ?_
        refine lv_if_eq (tgt := 41) hx hb dX0_settle_34 (by decide) (fun c34 => ?_) (fun c34 => ?_)
        · skip
          refine lv_iconst (v := (-1)) hx hb dX0_settle_41 (by decide) ?_
          refine ot_xp3 hC hK hI dX0_settle_42 (fun H locs hI => ?_)
          refine lv_iinc (v := ot_dn (n)) (lv' := [(2, .int (ot_dn (n))), (0, .ref (a 0)), (1, .int (nI (q)))]) hx hb dX0_settle_45 hl (k := 2) rfl (ot_dec _) (by decide) rfl (fun ls hl => ?_)
          refine lv_goto (tgt := 7) hx hb dX0_settle_48 (by decide) ?_
          exact ih (by omega) (by rw [← hR, ot_top, if_neg c12, if_pos c34]) _ _ hI _ (lv_sub hl [1, 2, 0] rfl)
        · skip
          refine lv_iload_n hx hb dX0_settle_37 rfl (lv_at hl 2 rfl) ?_
          refine lv_goto (tgt := 42) hx hb dX0_settle_38 (by decide) ?_
          refine ot_xp3 hC hK hI dX0_settle_42 (fun H locs hI => ?_)
          refine lv_iinc (v := ot_dn (n)) (lv' := [(2, .int (ot_dn (n))), (0, .ref (a 0)), (1, .int (nI (q)))]) hx hb dX0_settle_45 hl (k := 2) rfl (ot_dec _) (by decide) rfl (fun ls hl => ?_)
          refine lv_goto (tgt := 7) hx hb dX0_settle_48 (by decide) ?_
          refine lv_iload_n hx hb dX0_settle_7 rfl (lv_at hl 0 rfl) ?_
          refine lv_aload_n hx hb dX0_settle_8 rfl (lv_at hl 1 rfl) ?_
          refine ot_xg4 hC hK hI.1 dX0_settle_9 ?_
          refine lv_icmp_lt (tgt := 51) hx hb dX0_settle_12 (by decide) (fun c12b => ?_) (fun c12b => ?_)
          · skip
            exact fin (some n) (fun z h => by cases h; omega) (by rw [← hR, ot_top, if_neg c12, if_neg c34]) _ _ hI _ (lv_sub hl [1, 2] rfl)
          · skip
            refine lv_aload_n hx hb dX0_settle_15 rfl (lv_at hl 1 rfl) ?_
            refine ot_xg3 hC hK hI.1 dX0_settle_16 ?_
            refine ot_if_ge hx hb (a := n) rfl (by omega) (tgt := 51) dX0_settle_19 (by decide) (fun _ => ?_) (fun c_ => absurd (by omega) c_)
            exact fin (some n) (fun z h => by cases h; omega) (by rw [← hR, ot_top, if_neg c12, if_neg c34]) _ _ hI _ (lv_sub hl [1, 2] rfl)
  refine lv_aload_n hx hb dX0_settle_0 rfl (lv_at hl 0 rfl) ?_
  refine lv_iconst (v := (-1)) hx hb dX0_settle_1 (by decide) ?_
  refine ot_xp3 hC hK hI dX0_settle_2 (fun H locs hI => ?_)
  refine lv_iconst (v := 4) hx hb dX0_settle_5 (by decide) ?_
  refine lv_istore_n (lv' := [(2, .int (4)), (0, .ref (a 0)), (1, .int (nI (q)))]) hx hb dX0_settle_6 rfl hl (by decide) rfl (fun ls hl => ?_)
  have hl : lv_has ls 3 [(2, .int (ot_dn 5)), (0, .ref (a 0)), (1, .int (nI (q)))] := hl
  exact lp 5 (by omega) rfl _ _ hI _ (lv_sub hl [1, 2, 0] rfl)
set_option maxHeartbeats 4000000 in
set_option maxRecDepth 100000 in
theorem xm_raiseFloor (l : Launch) (G : va_G) (d : ClassId) (a : Nat → Nat) (mt fd : Int32) (hd ct wy ps pv : Nat → Int32) (q f : Nat) (hq : q < 85) (hf : f ≤ 5) : ot_Mv l G d yX0_raiseFloor cX0_raiseFloor 4 rmX0_raiseFloor (ot_xa a) (ot_xW d a) ([.ref (a 0), .int (nI (q))] : List Value) (mt, fd, nI f, hd, ct, wy, ps, pv) (fun u => u = (mt, fd, nI (ot_rai hd q 5 f), hd, ct, wy, ps, pv)) := by
  refine ot_Mv_of (by decide) rfl (Nat.le_of_ble_eq_true rfl) ?_
  intro p e s m below meth c hC hK hr hlk hI ls hl
  have hC : CallFix p m c cX0_raiseFloor 4 s ([.ref (a 0), .int (nI (q))] : List Value).toArray lw_all RX0 := hC
  have hx := hC.1
  have hb := hC.2.1
  have hA : ∀ q, s.heap.size ≤ q → ot_F (ot_xa a) s.heap.size q := fun q h => Or.inr h
  have hl : lv_has ls 4 [(0, .ref (a 0)), (1, .int (nI (q)))] := hl
  have lp : ∀ (n : Nat) (hn : n ≤ 5) (hR : ot_rai hd q n f = ot_rai hd q 5 f), ∀ (H : Heap) (locs : List Loc), ot_I G (ot_F (ot_xa a) s.heap.size) s H locs (ot_xW d a (mt, fd, nI f, hd, ct, wy, ps, pv)) → ∀ (ls : Array Slot), lv_has ls 4 [(0, .ref (a 0)), (1, .int (nI (q))), (2, .int (ot_dn n))] → W p l e rmX0_raiseFloor s m ([.ref (a 0), .int (nI (q))] : List Value).toArray below meth c H locs 0 0 (ot_Zv G d (ot_xa a) (ot_xW d a) (fun u => u = (mt, fd, nI (ot_rai hd q 5 f), hd, ct, wy, ps, pv)) below ([.ref (a 0), .int (nI (q))] : List Value).toArray s) (F0 m 2 ls []) := by
    intro n
    induction n with
    | zero =>
      intro hn hR H locs hI ls hl
      rw [ot_dn_0] at hl
      refine lv_iload_n hx hb dX0_raiseFloor_2 rfl (lv_at hl 2 rfl) ?_
      refine lv_aload_n hx hb dX0_raiseFloor_3 rfl (lv_at hl 0 rfl) ?_
      refine ot_xg4 hC hK hI.1 dX0_raiseFloor_4 ?_
      refine lv_icmp_lt (tgt := 58) hx hb dX0_raiseFloor_7 (by decide) (fun _ => ?_) (fun c_ => absurd (ot_m1lt (by omega)) c_)
      exact ot_vret (u := (mt, fd, nI f, hd, ct, wy, ps, pv)) hC hK hr hlk hI (by rw [← hR]; rfl) dX0_raiseFloor_58
    | succ n ih =>
      intro hn hR H locs hI ls hl
      rw [ot_dn_s] at hl
      refine lv_iload_n hx hb dX0_raiseFloor_2 rfl (lv_at hl 2 rfl) ?_
      refine lv_aload_n hx hb dX0_raiseFloor_3 rfl (lv_at hl 0 rfl) ?_
      refine ot_xg4 hC hK hI.1 dX0_raiseFloor_4 ?_
      refine ot_icmp_lt hx hb (a := n) (b := f) rfl rfl (by omega) (by omega) (tgt := 58) dX0_raiseFloor_7 (by decide) (fun c7 => ?_) (fun c7 => ?_)
      · skip
        exact ot_vret (u := (mt, fd, nI f, hd, ct, wy, ps, pv)) hC hK hr hlk hI (by rw [← hR, ot_rai, if_pos c7]) dX0_raiseFloor_58
      · skip
        refine lv_aload_n hx hb dX0_raiseFloor_10 rfl (lv_at hl 0 rfl) ?_
        refine ot_xg1 hC hK hI.1 dX0_raiseFloor_11 ?_
        refine lv_bipush (v := 85) hx hb dX0_raiseFloor_14 (by decide) ?_
        refine lv_iload_n hx hb dX0_raiseFloor_16 rfl (lv_at hl 2 rfl) ?_
        refine ot_imul hx hb (a := 85) (b := n) rfl rfl dX0_raiseFloor_17 ?_
        refine lv_iload_n hx hb dX0_raiseFloor_18 rfl (lv_at hl 1 rfl) ?_
        refine ot_iadd hx hb (a := 85 * n) (b := q) rfl rfl dX0_raiseFloor_19 ?_
        refine ot_xl1 hC hK hI.1 (j := 85 * n + q) rfl (by omega) dX0_raiseFloor_20 ?_
        refine lv_istore_n (lv' := [(3, .int (hd (85 * n + q))), (0, .ref (a 0)), (1, .int (nI (q))), (2, .int (nI (n)))]) hx hb dX0_raiseFloor_21 rfl hl (by decide) rfl (fun ls hl => ?_)
        refine lv_iload_n hx hb dX0_raiseFloor_22 rfl (lv_at hl 0 rfl) ?_
        refine lv_iconst (v := 3) hx hb dX0_raiseFloor_23 (by decide) ?_
        refine lv_icmp_ne (tgt := 35) hx hb dX0_raiseFloor_24 (by decide) (fun c24 => ?_) (fun c24 => ?_)
        · skip
          refine lv_iload_n hx hb dX0_raiseFloor_35 rfl (lv_at hl 0 rfl) ?_
          refine lv_iconst (v := 1) hx hb dX0_raiseFloor_36 (by decide) ?_
          refine lv_icmp_eq (tgt := 45) hx hb dX0_raiseFloor_37 (by decide) (fun c37 => ?_) (fun c37 => ?_)
          · skip
            refine lv_aload_n hx hb dX0_raiseFloor_45 rfl (lv_at hl 1 rfl) ?_
            refine lv_iload_n hx hb dX0_raiseFloor_46 rfl (lv_at hl 3 rfl) ?_
            refine lv_iconst (v := 1) hx hb dX0_raiseFloor_47 (by decide) ?_
            refine ot_iadd hx hb (a := n) (b := 1) rfl rfl dX0_raiseFloor_48 ?_
            refine ot_xp4 hC hK hI dX0_raiseFloor_49 (fun H locs hI => ?_)
            refine lv_iinc (v := ot_dn (n)) (lv' := [(2, .int (ot_dn (n))), (3, .int (hd (85 * n + q))), (0, .ref (a 0)), (1, .int (nI (q)))]) hx hb dX0_raiseFloor_52 hl (k := 3) rfl (ot_dec _) (by decide) rfl (fun ls hl => ?_)
            refine lv_goto (tgt := 2) hx hb dX0_raiseFloor_55 (by decide) ?_
            refine lv_iload_n hx hb dX0_raiseFloor_2 rfl (lv_at hl 0 rfl) ?_
            refine lv_aload_n hx hb dX0_raiseFloor_3 rfl (lv_at hl 2 rfl) ?_
            refine ot_xg4 hC hK hI.1 dX0_raiseFloor_4 ?_
            refine lv_icmp_lt (tgt := 58) hx hb dX0_raiseFloor_7 (by decide) (fun _ => ?_) (fun c_ => absurd (ot_dnlt (by omega) (by omega)) c_)
            exact ot_vret (u := (mt, fd, nI (n + 1), hd, ct, wy, ps, pv)) hC hK hr hlk hI (by rw [← hR, ot_rai, if_neg c7, if_neg c24, if_pos (Or.inl c37)]) dX0_raiseFloor_58
          · skip
            refine lv_iload_n hx hb dX0_raiseFloor_40 rfl (lv_at hl 0 rfl) ?_
            refine lv_iconst (v := 4) hx hb dX0_raiseFloor_41 (by decide) ?_
            refine lv_icmp_ne (tgt := 52) hx hb dX0_raiseFloor_42 (by decide) (fun c42 => ?_) (fun c42 => ?_)
            · skip
              refine lv_iinc (v := ot_dn (n)) (lv' := [(2, .int (ot_dn (n))), (3, .int (hd (85 * n + q))), (0, .ref (a 0)), (1, .int (nI (q)))]) hx hb dX0_raiseFloor_52 hl (k := 3) rfl (ot_dec _) (by decide) rfl (fun ls hl => ?_)
              refine lv_goto (tgt := 2) hx hb dX0_raiseFloor_55 (by decide) ?_
              exact ih (by omega) (by rw [← hR, ot_rai, if_neg c7, if_neg c24, if_neg (not_or.mpr ⟨c37, c42⟩)]) _ _ hI _ (lv_sub hl [2, 3, 0] rfl)
            · skip
              refine lv_aload_n hx hb dX0_raiseFloor_45 rfl (lv_at hl 1 rfl) ?_
              refine lv_iload_n hx hb dX0_raiseFloor_46 rfl (lv_at hl 3 rfl) ?_
              refine lv_iconst (v := 1) hx hb dX0_raiseFloor_47 (by decide) ?_
              refine ot_iadd hx hb (a := n) (b := 1) rfl rfl dX0_raiseFloor_48 ?_
              refine ot_xp4 hC hK hI dX0_raiseFloor_49 (fun H locs hI => ?_)
              refine lv_iinc (v := ot_dn (n)) (lv' := [(2, .int (ot_dn (n))), (3, .int (hd (85 * n + q))), (0, .ref (a 0)), (1, .int (nI (q)))]) hx hb dX0_raiseFloor_52 hl (k := 3) rfl (ot_dec _) (by decide) rfl (fun ls hl => ?_)
              refine lv_goto (tgt := 2) hx hb dX0_raiseFloor_55 (by decide) ?_
              refine lv_iload_n hx hb dX0_raiseFloor_2 rfl (lv_at hl 0 rfl) ?_
              refine lv_aload_n hx hb dX0_raiseFloor_3 rfl (lv_at hl 2 rfl) ?_
              refine ot_xg4 hC hK hI.1 dX0_raiseFloor_4 ?_
              refine lv_icmp_lt (tgt := 58) hx hb dX0_raiseFloor_7 (by decide) (fun _ => ?_) (fun c_ => absurd (ot_dnlt (by omega) (by omega)) c_)
              exact ot_vret (u := (mt, fd, nI (n + 1), hd, ct, wy, ps, pv)) hC hK hr hlk hI (by rw [← hR, ot_rai, if_neg c7, if_neg c24, if_pos (Or.inr c42)]) dX0_raiseFloor_58
        · skip
          refine lv_aload_n hx hb dX0_raiseFloor_27 rfl (lv_at hl 1 rfl) ?_
          refine lv_iload_n hx hb dX0_raiseFloor_28 rfl (lv_at hl 3 rfl) ?_
          refine ot_xp4 hC hK hI dX0_raiseFloor_29 (fun H locs hI => ?_)
          refine lv_goto (tgt := 52) hx hb dX0_raiseFloor_32 (by decide) ?_
          refine lv_iinc (v := ot_dn (n)) (lv' := [(2, .int (ot_dn (n))), (3, .int (hd (85 * n + q))), (0, .ref (a 0)), (1, .int (nI (q)))]) hx hb dX0_raiseFloor_52 hl (k := 3) rfl (ot_dec _) (by decide) rfl (fun ls hl => ?_)
          refine lv_goto (tgt := 2) hx hb dX0_raiseFloor_55 (by decide) ?_
          refine lv_iload_n hx hb dX0_raiseFloor_2 rfl (lv_at hl 0 rfl) ?_
          refine lv_aload_n hx hb dX0_raiseFloor_3 rfl (lv_at hl 2 rfl) ?_
          refine ot_xg4 hC hK hI.1 dX0_raiseFloor_4 ?_
          refine lv_icmp_lt (tgt := 58) hx hb dX0_raiseFloor_7 (by decide) (fun _ => ?_) (fun c_ => absurd (ot_dnlt (by omega) (by omega)) c_)
          exact ot_vret (u := (mt, fd, nI (n), hd, ct, wy, ps, pv)) hC hK hr hlk hI (by rw [← hR, ot_rai, if_neg c7, if_pos c24]) dX0_raiseFloor_58
  refine lv_iconst (v := 4) hx hb dX0_raiseFloor_0 (by decide) ?_
  refine lv_istore_n (lv' := [(2, .int (4)), (0, .ref (a 0)), (1, .int (nI (q)))]) hx hb dX0_raiseFloor_1 rfl hl (by decide) rfl (fun ls hl => ?_)
  have hl : lv_has ls 4 [(2, .int (ot_dn 5)), (0, .ref (a 0)), (1, .int (nI (q)))] := hl
  exact lp 5 (by omega) rfl _ _ hI _ (lv_sub hl [1, 2, 0] rfl)
end
section
set_option maxRecDepth 100000
set_option maxHeartbeats 4000000 in
set_option maxRecDepth 100000 in
theorem xm_look (l : Launch) (G : va_G) (d : ClassId) (a : Nat → Nat) (mt fd fl : Int32) (hd ct wy ps pv : Nat → Int32) (q0 : Nat) (hq0 : q0 < 85) : ot_Mv l G d yX0_look cX0_look 4 rmX0_look (ot_xa a) (ot_xW d a) ([.ref (a 0), .int (nI (q0))] : List Value) (mt, fd, fl, hd, ct, wy, ps, pv) (fun u => ∃ (fl' : Int32) (wy' : Nat → Int32), u = (mt, ot_o (ot_fd hd q0), fl', hd, ct, wy', ps, pv)) := by
  have hanc := ot_anc85 hq0
  refine ot_Mv_of (by decide) rfl (Nat.le_of_ble_eq_true rfl) ?_
  intro p e s m below meth c hC hK hr hlk hI ls hl
  have hC : CallFix p m c cX0_look 4 s ([.ref (a 0), .int (nI (q0))] : List Value).toArray lw_all RX0 := hC
  have hx := hC.1
  have hb := hC.2.1
  have hA : ∀ q, s.heap.size ≤ q → ot_F (ot_xa a) s.heap.size q := fun q h => Or.inr h
  have hl : lv_has ls 4 [(0, .ref (a 0)), (1, .int (nI (q0)))] := hl
  have lp2 : ∀ (j f g : Nat) (w1 : Nat → Int32) (hj : j ≤ 4) (hf : f ≤ 5) (hg : g < 5) (hw : ∀ i, i < j → w1 i = nI (ot_anc q0 i)) (hpos : ∀ i, i < j → 0 < ot_anc q0 i) (hF : ot_fl hd (ot_anc q0 j) = some f) (hend : j = 0 → ot_o (ot_fd hd q0) = nI g), ∀ (H : Heap) (locs : List Loc), ot_I G (ot_F (ot_xa a) s.heap.size) s H locs (ot_xW d a (mt, nI g, nI f, hd, ct, w1, ps, pv)) → ∀ (ls : Array Slot), lv_has ls 4 [(0, .ref (a 0)), (3, .int (ot_dn j))] → W p l e rmX0_look s m ([.ref (a 0), .int (nI (q0))] : List Value).toArray below meth c H locs 0 0 (ot_Zv G d (ot_xa a) (ot_xW d a) (fun u => ∃ (fl' : Int32) (wy' : Nat → Int32), u = (mt, ot_o (ot_fd hd q0), fl', hd, ct, wy', ps, pv)) below ([.ref (a 0), .int (nI (q0))] : List Value).toArray s) (F0 m 46 ls []) := by
    intro j
    induction j with
    | zero =>
      intro f g w1 hj hf hg hw hpos hF hend H locs hI ls hl
      rw [ot_dn_0] at hl
      refine lv_iload_n hx hb dX0_look_46 rfl (lv_at hl 1 rfl) ?_
      refine lv_if_lt (tgt := 129) hx hb dX0_look_47 (by decide) (fun _ => ?_) (fun c_ => absurd (by decide) c_)
      exact ot_vret (u := (mt, nI g, nI f, hd, ct, w1, ps, pv)) hC hK hr hlk hI (⟨_, _, by rw [hend rfl]⟩) dX0_look_129
    | succ j ih =>
      intro f g w1 hj hf hg hw hpos hF hend H locs hI ls hl
      rw [ot_dn_s] at hl
      have hj85 := hanc j
      refine lv_iload_n hx hb dX0_look_46 rfl (lv_at hl 1 rfl) ?_
      refine ot_if_lt hx hb (a := j) rfl (by omega) (tgt := 129) dX0_look_47 (by decide) (fun c_ => absurd c_ (by omega)) (fun _ => ?_)
      refine lv_aload_n hx hb dX0_look_50 rfl (lv_at hl 0 rfl) ?_
      refine ot_xg3 hC hK hI.1 dX0_look_51 ?_
      refine ot_if_lt hx hb (a := g) rfl (by omega) (tgt := 129) dX0_look_54 (by decide) (fun c_ => absurd c_ (by omega)) (fun _ => ?_)
      refine lv_aload_n hx hb dX0_look_57 rfl (lv_at hl 0 rfl) ?_
      refine lv_aload_n hx hb dX0_look_58 rfl (lv_at hl 0 rfl) ?_
      refine ot_xg5 hC hK hI.1 dX0_look_59 ?_
      refine lv_iload_n hx hb dX0_look_62 rfl (lv_at hl 1 rfl) ?_
      refine ot_xl3 hC hK hI.1 (j := j) rfl (by omega) dX0_look_63 ?_
      refine ot_r (y := nI (ot_anc q0 j)) (hw _ (by omega)) ?_
      refine ot_xcv [.int (nI (ot_anc q0 j))] [] (xm_settle l G d a mt (nI g) hd ct w1 ps pv (ot_anc q0 j) f (by omega) hf) hC hK hI hA (cwV 1 hC.2.2.2.2 (lw_V q75 q77 qs1 q16 q78) rfl rfl rfl ok_yX0_settle ⟨Nat.le_of_ble_eq_true rfl, Nat.le_of_ble_eq_true rfl⟩) rfl rfl hl.1 (Nat.le_of_ble_eq_true rfl) dX0_look_64 ⟨Nat.zero_le _, Nat.zero_le _⟩ (fun u1 H locs hp1 hI => ?_)
      subst hp1
      rcases hs : ot_set hd (ot_anc q0 j) f with _ | y
      · rw [hs] at hI
        have hI : ot_I G _ s H locs (ot_xW d a (mt, (-1), nI f, hd, ct, w1, ps, pv)) := hI
        refine lv_aload_n hx hb dX0_look_67 rfl (lv_at hl 0 rfl) ?_
        refine ot_xg3 hC hK hI.1 dX0_look_68 ?_
        refine lv_if_lt (tgt := 123) hx hb dX0_look_71 (by decide) (fun _ => ?_) (fun c_ => absurd (by decide) c_)
        refine lv_iinc (v := ot_dn (j)) (lv' := [(3, .int (ot_dn (j))), (0, .ref (a 0))]) hx hb dX0_look_123 hl (k := 1) rfl (ot_dec _) (by decide) rfl (fun ls hl => ?_)
        refine lv_goto (tgt := 46) hx hb dX0_look_126 (by decide) ?_
        refine lv_iload_n hx hb dX0_look_46 rfl (lv_at hl 0 rfl) ?_
        refine lv_if_lt (tgt := 129) hx hb dX0_look_47 (by decide) (fun c47 => ?_) (fun c47 => ?_)
        · skip
          exact ot_vret (u := (mt, (-1), nI f, hd, ct, w1, ps, pv)) hC hK hr hlk hI (⟨_, _, by rw [ot_look_none hF hs hpos]; rfl⟩) dX0_look_129
        · skip
          refine lv_aload_n hx hb dX0_look_50 rfl (lv_at hl 1 rfl) ?_
          refine ot_xg3 hC hK hI.1 dX0_look_51 ?_
          refine lv_if_lt (tgt := 129) hx hb dX0_look_54 (by decide) (fun _ => ?_) (fun c_ => absurd (by decide) c_)
          exact ot_vret (u := (mt, (-1), nI f, hd, ct, w1, ps, pv)) hC hK hr hlk hI (⟨_, _, by rw [ot_look_none hF hs hpos]; rfl⟩) dX0_look_129
      · rw [hs] at hI
        have hI : ot_I G _ s H locs (ot_xW d a (mt, nI y, nI f, hd, ct, w1, ps, pv)) := hI
        have hy := (ot_set_lt hs).2.1
        refine lv_aload_n hx hb dX0_look_67 rfl (lv_at hl 0 rfl) ?_
        refine ot_xg3 hC hK hI.1 dX0_look_68 ?_
        refine ot_if_lt hx hb (a := y) rfl (by omega) (tgt := 123) dX0_look_71 (by decide) (fun c_ => absurd c_ (by omega)) (fun _ => ?_)
        refine lv_iload_n hx hb dX0_look_74 rfl (lv_at hl 1 rfl) ?_
        refine ot_if_le hx hb (a := j) rfl (by omega) (tgt := 123) dX0_look_75 (by decide) (fun c75 => ?_) (fun c75 => ?_)
        · skip
          obtain rfl : j = 0 := by omega
          refine lv_iinc (v := ot_dn (0)) (lv' := [(3, .int (ot_dn (0))), (0, .ref (a 0))]) hx hb dX0_look_123 hl (k := 1) rfl (ot_dec _) (by decide) rfl (fun ls hl => ?_)
          refine lv_goto (tgt := 46) hx hb dX0_look_126 (by decide) ?_
          refine lv_iload_n hx hb dX0_look_46 rfl (lv_at hl 0 rfl) ?_
          refine lv_if_lt (tgt := 129) hx hb dX0_look_47 (by decide) (fun _ => ?_) (fun c_ => absurd (by decide) c_)
          exact ot_vret (u := (mt, nI y, nI f, hd, ct, w1, ps, pv)) hC hK hr hlk hI (⟨_, _, by rw [ot_fd_of (q := q0) (hpos 0 (by omega)) hF, show ot_set hd q0 f = some y from hs]; rfl⟩) dX0_look_129
        · skip
          refine lv_aload_n hx hb dX0_look_78 rfl (lv_at hl 0 rfl) ?_
          refine lv_aload_n hx hb dX0_look_79 rfl (lv_at hl 0 rfl) ?_
          refine ot_xg1 hC hK hI.1 dX0_look_80 ?_
          refine lv_bipush (v := 85) hx hb dX0_look_83 (by decide) ?_
          refine lv_aload_n hx hb dX0_look_85 rfl (lv_at hl 0 rfl) ?_
          refine ot_xg3 hC hK hI.1 dX0_look_86 ?_
          refine ot_imul hx hb (a := 85) (b := y) rfl rfl dX0_look_89 ?_
          refine lv_aload_n hx hb dX0_look_90 rfl (lv_at hl 0 rfl) ?_
          refine ot_xg5 hC hK hI.1 dX0_look_91 ?_
          refine lv_iload_n hx hb dX0_look_94 rfl (lv_at hl 1 rfl) ?_
          refine ot_xl3 hC hK hI.1 (j := j) rfl (by omega) dX0_look_95 ?_
          refine ot_r (y := nI (ot_anc q0 j)) (hw _ (by omega)) ?_
          refine ot_iadd hx hb (a := 85 * y) (b := ot_anc q0 j) rfl rfl dX0_look_96 ?_
          refine ot_xl1 hC hK hI.1 (j := 85 * y + (ot_anc q0 j)) rfl (by omega) dX0_look_97 ?_
          refine lv_iconst (v := 1) hx hb dX0_look_98 (by decide) ?_
          refine lv_icmp_ne (tgt := 106) hx hb dX0_look_99 (by decide) (fun c99 => ?_) (fun c99 => ?_)
          · skip
            refine lv_aload_n hx hb dX0_look_106 rfl (lv_at hl 0 rfl) ?_
            refine ot_xg3 hC hK hI.1 dX0_look_107 ?_
            refine ot_xp3 hC hK hI dX0_look_110 (fun H locs hI => ?_)
            refine lv_aload_n hx hb dX0_look_113 rfl (lv_at hl 0 rfl) ?_
            refine lv_aload_n hx hb dX0_look_114 rfl (lv_at hl 0 rfl) ?_
            refine ot_xg5 hC hK hI.1 dX0_look_115 ?_
            refine lv_iload_n hx hb dX0_look_118 rfl (lv_at hl 1 rfl) ?_
            refine ot_xl3 hC hK hI.1 (j := j) rfl (by omega) dX0_look_119 ?_
            refine ot_r (y := nI (ot_anc q0 j)) (hw _ (by omega)) ?_
            refine ot_xcv [.int (nI (ot_anc q0 j))] [] (xm_raiseFloor l G d a mt (nI y) hd ct w1 ps pv (ot_anc q0 j) f (by omega) hf) hC hK hI hA (cwV 1 hC.2.2.2.2 (lw_V q79 q81 qs2 q16 q82) rfl rfl rfl ok_yX0_raiseFloor ⟨Nat.le_of_ble_eq_true rfl, Nat.le_of_ble_eq_true rfl⟩) rfl rfl hl.1 (Nat.le_of_ble_eq_true rfl) dX0_look_120 ⟨Nat.zero_le _, Nat.zero_le _⟩ (fun u2 H locs hp2 hI => ?_)
            subst hp2
            refine lv_iinc (v := ot_dn (j)) (lv' := [(3, .int (ot_dn (j))), (0, .ref (a 0))]) hx hb dX0_look_123 hl (k := 1) rfl (ot_dec _) (by decide) rfl (fun ls hl => ?_)
            refine lv_goto (tgt := 46) hx hb dX0_look_126 (by decide) ?_
            exact ih (ot_rai hd (ot_anc q0 j) 5 f) y w1 (by omega) (ot_rai_le hf (by omega)) hy (fun i hi => hw i (by omega)) (fun i hi => hpos i (by omega)) (ot_look_go hF hs c99 hpos) (fun h => absurd h (by omega)) _ _ hI _ (lv_sub hl [1, 0] rfl)
          · skip
            refine lv_iconst (v := (-1)) hx hb dX0_look_102 (by decide) ?_
            refine lv_goto (tgt := 110) hx hb dX0_look_103 (by decide) ?_
            refine ot_xp3 hC hK hI dX0_look_110 (fun H locs hI => ?_)
            refine lv_aload_n hx hb dX0_look_113 rfl (lv_at hl 0 rfl) ?_
            refine lv_aload_n hx hb dX0_look_114 rfl (lv_at hl 0 rfl) ?_
            refine ot_xg5 hC hK hI.1 dX0_look_115 ?_
            refine lv_iload_n hx hb dX0_look_118 rfl (lv_at hl 1 rfl) ?_
            refine ot_xl3 hC hK hI.1 (j := j) rfl (by omega) dX0_look_119 ?_
            refine ot_r (y := nI (ot_anc q0 j)) (hw _ (by omega)) ?_
            refine ot_xcv [.int (nI (ot_anc q0 j))] [] (xm_raiseFloor l G d a mt ((-1)) hd ct w1 ps pv (ot_anc q0 j) f (by omega) hf) hC hK hI hA (cwV 1 hC.2.2.2.2 (lw_V q79 q81 qs2 q16 q82) rfl rfl rfl ok_yX0_raiseFloor ⟨Nat.le_of_ble_eq_true rfl, Nat.le_of_ble_eq_true rfl⟩) rfl rfl hl.1 (Nat.le_of_ble_eq_true rfl) dX0_look_120 ⟨Nat.zero_le _, Nat.zero_le _⟩ (fun u3 H locs hp3 hI => ?_)
            subst hp3
            refine lv_iinc (v := ot_dn (j)) (lv' := [(3, .int (ot_dn (j))), (0, .ref (a 0))]) hx hb dX0_look_123 hl (k := 1) rfl (ot_dec _) (by decide) rfl (fun ls hl => ?_)
            refine lv_goto (tgt := 46) hx hb dX0_look_126 (by decide) ?_
            refine lv_iload_n hx hb dX0_look_46 rfl (lv_at hl 0 rfl) ?_
            refine lv_if_lt (tgt := 129) hx hb dX0_look_47 (by decide) (fun c47 => ?_) (fun c47 => ?_)
            · skip
              exact ot_vret (u := (mt, (-1), nI (ot_rai hd (ot_anc q0 j) 5 f), hd, ct, w1, ps, pv)) hC hK hr hlk hI (⟨_, _, by rw [ot_look_file hF hs c99 c75 hpos]; rfl⟩) dX0_look_129
            · skip
              refine lv_aload_n hx hb dX0_look_50 rfl (lv_at hl 1 rfl) ?_
              refine ot_xg3 hC hK hI.1 dX0_look_51 ?_
              refine lv_if_lt (tgt := 129) hx hb dX0_look_54 (by decide) (fun _ => ?_) (fun c_ => absurd (by decide) c_)
              exact ot_vret (u := (mt, (-1), nI (ot_rai hd (ot_anc q0 j) 5 f), hd, ct, w1, ps, pv)) hC hK hr hlk hI (⟨_, _, by rw [ot_look_file hF hs c99 c75 hpos]; rfl⟩) dX0_look_129
  have mid : ∀ (D : Nat) (w1 : Nat → Int32) (hD : D ≤ 4) (hw : ∀ i, i < D → w1 i = nI (ot_anc q0 i)) (hpos : ∀ i, i < D → 0 < ot_anc q0 i) (h0 : ot_anc q0 D = 0), ∀ (H : Heap) (locs : List Loc), ot_I G (ot_F (ot_xa a) s.heap.size) s H locs (ot_xW d a (mt, fd, fl, hd, ct, w1, ps, pv)) → ∀ (ls : Array Slot), lv_has ls 4 [(0, .ref (a 0)), (2, .int (nI (D)))] → W p l e rmX0_look s m ([.ref (a 0), .int (nI (q0))] : List Value).toArray below meth c H locs 0 0 (ot_Zv G d (ot_xa a) (ot_xW d a) (fun u => ∃ (fl' : Int32) (wy' : Nat → Int32), u = (mt, ot_o (ot_fd hd q0), fl', hd, ct, wy', ps, pv)) below ([.ref (a 0), .int (nI (q0))] : List Value).toArray s) (F0 m 32 ls []) := by
    intro D w1 hD hw hpos h0 H locs hI ls hl
    refine lv_aload_n hx hb dX0_look_32 rfl (lv_at hl 0 rfl) ?_
    refine lv_iconst (v := 4) hx hb dX0_look_33 (by decide) ?_
    refine ot_xp3 hC hK hI dX0_look_34 (fun H locs hI => ?_)
    refine lv_aload_n hx hb dX0_look_37 rfl (lv_at hl 0 rfl) ?_
    refine lv_iconst (v := 0) hx hb dX0_look_38 (by decide) ?_
    refine ot_xp4 hC hK hI dX0_look_39 (fun H locs hI => ?_)
    refine lv_iload_n hx hb dX0_look_42 rfl (lv_at hl 1 rfl) ?_
    refine lv_iconst (v := 1) hx hb dX0_look_43 (by decide) ?_
    refine lv_isub hx hb dX0_look_44 ?_
    refine ot_r (y := ot_dn D) (ot_sub1 _) ?_
    refine lv_istore_n (lv' := [(3, .int (ot_dn D)), (0, .ref (a 0)), (2, .int (nI (D)))]) hx hb dX0_look_45 rfl hl (by decide) rfl (fun ls hl => ?_)
    have hI : ot_I G _ s H locs (ot_xW d a (mt, nI 4, nI 0, hd, ct, w1, ps, pv)) := hI
    exact lp2 D 0 4 w1 hD (by omega) (by omega) hw hpos (by rw [h0, ot_fl_0]) (fun h => by subst h; rw [show q0 = 0 from h0, ot_fd_0]; rfl) _ _ hI _ (lv_sub hl [1, 0] rfl)
  have lp1 : ∀ (n i : Nat) (w1 : Nat → Int32) (hn : n + i = 4) (hw : ∀ k, k < i → w1 k = nI (ot_anc q0 k)) (hpos : ∀ k, k < i → 0 < ot_anc q0 k), ∀ (H : Heap) (locs : List Loc), ot_I G (ot_F (ot_xa a) s.heap.size) s H locs (ot_xW d a (mt, fd, fl, hd, ct, w1, ps, pv)) → ∀ (ls : Array Slot), lv_has ls 4 [(0, .ref (a 0)), (2, .int (nI (i))), (3, .int (nI (ot_anc q0 i)))] → W p l e rmX0_look s m ([.ref (a 0), .int (nI (q0))] : List Value).toArray below meth c H locs 0 0 (ot_Zv G d (ot_xa a) (ot_xW d a) (fun u => ∃ (fl' : Int32) (wy' : Nat → Int32), u = (mt, ot_o (ot_fd hd q0), fl', hd, ct, wy', ps, pv)) below ([.ref (a 0), .int (nI (q0))] : List Value).toArray s) (F0 m 4 ls []) := by
    intro n
    induction n with
    | zero =>
      intro i w1 hn hw hpos H locs hI ls hl
      have h3 := hpos 3 (by omega)
      rw [ot_anc3 hq0] at h3
      exact absurd h3 (by omega)
    | succ n ih =>
      intro i w1 hn hw hpos H locs hI ls hl
      have hi85 := hanc i
      have hi3 : 0 < ot_anc q0 i → i < 4 := by
        intro h
        rcases Nat.lt_or_ge i 4 with z | z
        · exact z
        · have := hpos 3 (by omega)
          rw [ot_anc3 hq0] at this
          omega
      refine lv_iload_n hx hb dX0_look_4 rfl (lv_at hl 2 rfl) ?_
      refine ot_if_le hx hb (a := ot_anc q0 i) rfl (by omega) (tgt := 32) dX0_look_5 (by decide) (fun c5 => ?_) (fun c5 => ?_)
      · skip
        exact mid i w1 (by omega) hw hpos (by omega) _ _ hI _ (lv_sub hl [0, 1] rfl)
      · skip
        have hi4 := hi3 (by omega)
        refine lv_iload_n hx hb dX0_look_8 rfl (lv_at hl 1 rfl) ?_
        refine lv_iconst (v := 4) hx hb dX0_look_9 (by decide) ?_
        refine ot_icmp_ge hx hb (a := i) (b := 4) rfl rfl (by omega) (by omega) (tgt := 32) dX0_look_10 (by decide) (fun c_ => absurd c_ (by omega)) (fun _ => ?_)
        refine lv_aload_n hx hb dX0_look_13 rfl (lv_at hl 0 rfl) ?_
        refine ot_xg5 hC hK hI.1 dX0_look_14 ?_
        refine lv_iload_n hx hb dX0_look_17 rfl (lv_at hl 1 rfl) ?_
        refine lv_iload_n hx hb dX0_look_18 rfl (lv_at hl 2 rfl) ?_
        refine ot_xs3 hC hK hI (j := i) rfl (by omega) dX0_look_19 (fun H locs hI => ?_)
        refine lv_iinc (v := nI (i + 1)) (lv' := [(2, .int (nI (i + 1))), (0, .ref (a 0)), (3, .int (nI (ot_anc q0 i)))]) hx hb dX0_look_20 hl (k := 1) rfl (ot_inc _) (by decide) rfl (fun ls hl => ?_)
        refine lv_iload_n hx hb dX0_look_23 rfl (lv_at hl 2 rfl) ?_
        refine lv_iconst (v := 1) hx hb dX0_look_24 (by decide) ?_
        refine lv_isub hx hb dX0_look_25 ?_
        refine lv_iconst (v := 4) hx hb dX0_look_26 (by decide) ?_
        refine lv_idiv hx hb dX0_look_27 (by decide) ?_
        refine ot_r (y := nI (ot_anc q0 (i + 1))) (ot_parI (by omega)) ?_
        refine lv_istore_n (lv' := [(3, .int (nI (ot_anc q0 (i + 1)))), (2, .int (nI (i + 1))), (0, .ref (a 0))]) hx hb dX0_look_28 rfl hl (by decide) rfl (fun ls hl => ?_)
        refine lv_goto (tgt := 4) hx hb dX0_look_29 (by decide) ?_
        exact ih (i + 1) _ (by omega) (ot_way (g := fun k => nI (ot_anc q0 k)) hw rfl) (lt_s hpos (by omega)) _ _ hI _ (lv_sub hl [2, 1, 0] rfl)
  refine lv_iconst (v := 0) hx hb dX0_look_0 (by decide) ?_
  refine lv_istore_n (lv' := [(2, .int (0)), (0, .ref (a 0)), (1, .int (nI (q0)))]) hx hb dX0_look_1 rfl hl (by decide) rfl (fun ls hl => ?_)
  refine lv_iload_n hx hb dX0_look_2 rfl (lv_at hl 2 rfl) ?_
  refine lv_istore_n (lv' := [(3, .int (nI (q0))), (2, .int (0)), (0, .ref (a 0)), (1, .int (nI (q0)))]) hx hb dX0_look_3 rfl hl (by decide) rfl (fun ls hl => ?_)
  exact lp1 4 0 wy (by omega) (fun k h => absurd h (by omega)) (fun k h => absurd h (by omega)) _ _ hI _ (lv_sub hl [2, 1, 0] rfl)
end
section
set_option maxRecDepth 100000
set_option maxHeartbeats 4000000 in
set_option maxRecDepth 100000 in
theorem xm_sort (l : Launch) (G : va_G) (d : ClassId) (a : Nat → Nat) (mt fd fl : Int32) (hd ct wy ps pv : Nat → Int32) (p0 : Int32) : ot_Mi l G d yX0_sort cX0_sort 2 (some .int) rmX0_sort (ot_xa a) (ot_xW d a) ([.ref (a 0), .int (p0)] : List Value) (mt, fd, fl, hd, ct, wy, ps, pv) (fun r u => ∃ (fd' fl' : Int32) (wy' : Nat → Int32), u = (mt, fd', fl', hd, ct, wy', ps, pv) ∧ r = ot_xsort mt hd p0 ∧ (¬ mt = 0 → ¬ p0 < 0 → ¬ 84 < p0 → fd' = ot_o (ot_fd hd (ot_k p0)))) := by
  refine ot_Mi_of (by decide) rfl (Nat.le_of_ble_eq_true rfl) ?_
  intro p e s m below meth c hC hK hr hlk hI ls hl
  have hC : CallFix p m c cX0_sort 2 s ([.ref (a 0), .int (p0)] : List Value).toArray lw_all RX0 := hC
  have hx := hC.1
  have hb := hC.2.1
  have hA : ∀ q, s.heap.size ≤ q → ot_F (ot_xa a) s.heap.size q := fun q h => Or.inr h
  have hl : lv_has ls 2 [(0, .ref (a 0)), (1, .int (p0))] := hl
  refine lv_iload_n hx hb dX0_sort_0 rfl (lv_at hl 1 rfl) ?_
  refine lv_if_lt (tgt := 10) hx hb dX0_sort_1 (by decide) (fun c1 => ?_) (fun c1 => ?_)
  · skip
    refine lv_iconst (v := (-1)) hx hb dX0_sort_10 (by decide) ?_
    exact ot_iret (u := (mt, fd, fl, hd, ct, wy, ps, pv)) hC hK hr hlk hI (⟨_, _, _, rfl, by rw [ot_xsort, if_pos (Or.inl c1)], fun _ h => absurd c1 h⟩) dX0_sort_11
  · skip
    refine lv_iload_n hx hb dX0_sort_4 rfl (lv_at hl 1 rfl) ?_
    refine lv_bipush (v := 84) hx hb dX0_sort_5 (by decide) ?_
    refine lv_icmp_le (tgt := 12) hx hb dX0_sort_7 (by decide) (fun c7 => ?_) (fun c7 => ?_)
    · skip
      obtain ⟨k, hk, rfl⟩ := ot_ix c1 (Int32.not_lt.mpr c7)
      refine lv_aload_n hx hb dX0_sort_12 rfl (lv_at hl 0 rfl) ?_
      refine ot_xg0 hC hK hI.1 dX0_sort_13 ?_
      refine lv_if_ne (tgt := 21) hx hb dX0_sort_16 (by decide) (fun c16 => ?_) (fun c16 => ?_)
      · skip
        refine lv_aload_n hx hb dX0_sort_21 rfl (lv_at hl 0 rfl) ?_
        refine lv_iload_n hx hb dX0_sort_22 rfl (lv_at hl 1 rfl) ?_
        refine ot_xcv [.int (nI (k))] [] (xm_look l G d a mt fd fl hd ct wy ps pv k hk) hC hK hI hA (cwV 1 hC.2.2.2.2 (lw_V q71 q73 qs0 q16 q74) rfl rfl rfl ok_yX0_look ⟨Nat.le_of_ble_eq_true rfl, Nat.le_of_ble_eq_true rfl⟩) rfl rfl hl.1 (Nat.le_of_ble_eq_true rfl) dX0_sort_23 ⟨Nat.zero_le _, Nat.zero_le _⟩ (fun u4 H locs hp4 hI => ?_)
        obtain ⟨fl1, wy1, rfl⟩ := hp4
        rcases hs : ot_fd hd k with _ | y
        · rw [hs] at hI
          have hI : ot_I G _ s H locs (ot_xW d a (mt, (-1), fl1, hd, ct, wy1, ps, pv)) := hI
          refine lv_aload_n hx hb dX0_sort_26 rfl (lv_at hl 0 rfl) ?_
          refine ot_xg3 hC hK hI.1 dX0_sort_27 ?_
          refine lv_if_ge (tgt := 35) hx hb dX0_sort_30 (by decide) (fun c_ => absurd c_ (by decide)) (fun _ => ?_)
          refine lv_iconst (v := 0) hx hb dX0_sort_33 (by decide) ?_
          exact ot_iret (u := (mt, (-1), fl1, hd, ct, wy1, ps, pv)) hC hK hr hlk hI (⟨_, _, _, rfl, by rw [ot_xsI hk, ot_srt, if_neg c16, ot_vw, hs], fun _ _ _ => by rw [ot_kI (by omega), hs]; rfl⟩) dX0_sort_34
        · rw [hs] at hI
          have hI : ot_I G _ s H locs (ot_xW d a (mt, nI y, fl1, hd, ct, wy1, ps, pv)) := hI
          have hy := ot_fd_lt hs
          refine lv_aload_n hx hb dX0_sort_26 rfl (lv_at hl 0 rfl) ?_
          refine ot_xg3 hC hK hI.1 dX0_sort_27 ?_
          refine ot_if_ge hx hb (a := y) rfl (by omega) (tgt := 35) dX0_sort_30 (by decide) (fun _ => ?_) (fun c_ => absurd (by omega) c_)
          refine lv_aload_n hx hb dX0_sort_35 rfl (lv_at hl 0 rfl) ?_
          refine ot_xg1 hC hK hI.1 dX0_sort_36 ?_
          refine lv_bipush (v := 85) hx hb dX0_sort_39 (by decide) ?_
          refine lv_aload_n hx hb dX0_sort_41 rfl (lv_at hl 0 rfl) ?_
          refine ot_xg3 hC hK hI.1 dX0_sort_42 ?_
          refine ot_imul hx hb (a := 85) (b := y) rfl rfl dX0_sort_45 ?_
          refine lv_iload_n hx hb dX0_sort_46 rfl (lv_at hl 1 rfl) ?_
          refine ot_iadd hx hb (a := 85 * y) (b := k) rfl rfl dX0_sort_47 ?_
          refine ot_xl1 hC hK hI.1 (j := 85 * y + k) rfl (by omega) dX0_sort_48 ?_
          refine lv_iconst (v := 1) hx hb dX0_sort_49 (by decide) ?_
          refine lv_icmp_ne (tgt := 57) hx hb dX0_sort_50 (by decide) (fun c50 => ?_) (fun c50 => ?_)
          · skip
            refine lv_iconst (v := 2) hx hb dX0_sort_57 (by decide) ?_
            exact ot_iret (u := (mt, nI y, fl1, hd, ct, wy1, ps, pv)) hC hK hr hlk hI (⟨_, _, _, rfl, by rw [ot_xsI hk, ot_srt, if_neg c16, ot_vw, hs]; simp only [if_neg c50], fun _ _ _ => by rw [ot_kI (by omega), hs]; rfl⟩) dX0_sort_58
          · skip
            refine lv_iconst (v := 1) hx hb dX0_sort_53 (by decide) ?_
            refine lv_goto (tgt := 58) hx hb dX0_sort_54 (by decide) ?_
            exact ot_iret (u := (mt, nI y, fl1, hd, ct, wy1, ps, pv)) hC hK hr hlk hI (⟨_, _, _, rfl, by rw [ot_xsI hk, ot_srt, if_neg c16, ot_vw, hs]; simp only [if_pos c50], fun _ _ _ => by rw [ot_kI (by omega), hs]; rfl⟩) dX0_sort_58
      · skip
        refine lv_iconst (v := 0) hx hb dX0_sort_19 (by decide) ?_
        exact ot_iret (u := (mt, fd, fl, hd, ct, wy, ps, pv)) hC hK hr hlk hI (⟨_, _, _, rfl, by rw [ot_xsI hk, ot_srt, if_pos c16], fun h => absurd c16 h⟩) dX0_sort_20
    · skip
      refine lv_iconst (v := (-1)) hx hb dX0_sort_10 (by decide) ?_
      exact ot_iret (u := (mt, fd, fl, hd, ct, wy, ps, pv)) hC hK hr hlk hI (⟨_, _, _, rfl, by rw [ot_xsort, if_pos (Or.inr (Int32.not_le.mp c7))], fun _ _ h => absurd (Int32.not_le.mp c7) h⟩) dX0_sort_11
set_option maxHeartbeats 4000000 in
set_option maxRecDepth 100000 in
theorem xm_value (l : Launch) (G : va_G) (d : ClassId) (a : Nat → Nat) (mt fd fl : Int32) (hd ct wy ps pv : Nat → Int32) (p0 : Int32) : ot_Mi l G d yX0_value cX0_value 2 (some .int) rmX0_value (ot_xa a) (ot_xW d a) ([.ref (a 0), .int (p0)] : List Value) (mt, fd, fl, hd, ct, wy, ps, pv) (fun r u => ∃ (fd' fl' : Int32) (wy' : Nat → Int32), u = (mt, fd', fl', hd, ct, wy', ps, pv) ∧ r = ot_xval mt hd ct p0) := by
  refine ot_Mi_of (by decide) rfl (Nat.le_of_ble_eq_true rfl) ?_
  intro p e s m below meth c hC hK hr hlk hI ls hl
  have hC : CallFix p m c cX0_value 2 s ([.ref (a 0), .int (p0)] : List Value).toArray lw_all RX0 := hC
  have hx := hC.1
  have hb := hC.2.1
  have hA : ∀ q, s.heap.size ≤ q → ot_F (ot_xa a) s.heap.size q := fun q h => Or.inr h
  have hl : lv_has ls 2 [(0, .ref (a 0)), (1, .int (p0))] := hl
  refine lv_aload_n hx hb dX0_value_0 rfl (lv_at hl 0 rfl) ?_
  refine lv_iload_n hx hb dX0_value_1 rfl (lv_at hl 1 rfl) ?_
  refine ot_xci [.int (p0)] [] (xm_sort l G d a mt fd fl hd ct wy ps pv (p0)) hC hK hI hA (cwV 1 hC.2.2.2.2 (lw_V q67 q68 q69 q16 q70) rfl rfl rfl ok_yX0_sort ⟨Nat.le_of_ble_eq_true rfl, Nat.le_of_ble_eq_true rfl⟩) rfl rfl hl.1 (Nat.le_of_ble_eq_true rfl) dX0_value_2 ⟨Nat.zero_le _, Nat.zero_le _⟩ (fun r5 u5 H locs hp5 hI => ?_)
  obtain ⟨fd5, fl5, wy5, rfl, hr5, hf5⟩ := hp5
  subst hr5
  refine lv_iconst (v := 1) hx hb dX0_value_5 (by decide) ?_
  refine lv_icmp_eq (tgt := 11) hx hb dX0_value_6 (by decide) (fun c6 => ?_) (fun c6 => ?_)
  · skip
    obtain ⟨hm, k, y, hk, hy, rfl, hs, h1⟩ := ot_xsrt1 c6
    obtain rfl : fd5 = nI y := by rw [hf5 hm (ot_nlt (by omega)) (ot_n84 hk), ot_kI (by omega), hs]; rfl
    refine lv_aload_n hx hb dX0_value_11 rfl (lv_at hl 0 rfl) ?_
    refine ot_xg2 hC hK hI.1 dX0_value_12 ?_
    refine lv_bipush (v := 85) hx hb dX0_value_15 (by decide) ?_
    refine lv_aload_n hx hb dX0_value_17 rfl (lv_at hl 0 rfl) ?_
    refine ot_xg3 hC hK hI.1 dX0_value_18 ?_
    refine ot_imul hx hb (a := 85) (b := y) rfl rfl dX0_value_21 ?_
    refine lv_iload_n hx hb dX0_value_22 rfl (lv_at hl 1 rfl) ?_
    refine ot_iadd hx hb (a := 85 * y) (b := k) rfl rfl dX0_value_23 ?_
    refine ot_xl2 hC hK hI.1 (j := 85 * y + k) rfl (by omega) dX0_value_24 ?_
    exact ot_iret (u := (mt, nI y, fl5, hd, ct, wy5, ps, pv)) hC hK hr hlk hI (⟨_, _, _, rfl, by rw [ot_xval, if_pos c6, ot_kI (by omega), ot_vl_1 hs h1]⟩) dX0_value_25
  · skip
    refine lv_iconst (v := 0) hx hb dX0_value_9 (by decide) ?_
    exact ot_iret (u := (mt, fd5, fl5, hd, ct, wy5, ps, pv)) hC hK hr hlk hI (⟨_, _, _, rfl, by rw [ot_xval, if_neg c6]⟩) dX0_value_10
set_option maxHeartbeats 4000000 in
set_option maxRecDepth 100000 in
theorem xm_total (l : Launch) (G : va_G) (d : ClassId) (a : Nat → Nat) (mt fd fl : Int32) (hd ct wy ps pv : Nat → Int32)  : ot_Mi l G d yX0_total cX0_total 3 (some .int) rmX0_total (ot_xa a) (ot_xW d a) ([.ref (a 0)] : List Value) (mt, fd, fl, hd, ct, wy, ps, pv) (fun r u => ∃ (fd' fl' : Int32) (wy' : Nat → Int32), u = (mt, fd', fl', hd, ct, wy', ps, pv) ∧ r = ot_xtot mt hd) := by
  refine ot_Mi_of (by decide) rfl (Nat.le_of_ble_eq_true rfl) ?_
  intro p e s m below meth c hC hK hr hlk hI ls hl
  have hC : CallFix p m c cX0_total 3 s ([.ref (a 0)] : List Value).toArray lw_all RX0 := hC
  have hx := hC.1
  have hb := hC.2.1
  have hA : ∀ q, s.heap.size ≤ q → ot_F (ot_xa a) s.heap.size q := fun q h => Or.inr h
  have hl : lv_has ls 3 [(0, .ref (a 0))] := hl
  have lp : ∀ (k q n : Nat) (fd1 fl1 : Int32) (wy1 : Nat → Int32) (hq : q + k = 85) (hR : ot_cnt (ot_srt mt hd) k q n = ot_cnt (ot_srt mt hd) 84 1 0), ∀ (H : Heap) (locs : List Loc), ot_I G (ot_F (ot_xa a) s.heap.size) s H locs (ot_xW d a (mt, fd1, fl1, hd, ct, wy1, ps, pv)) → ∀ (ls : Array Slot), lv_has ls 3 [(0, .ref (a 0)), (1, .int (nI (n))), (2, .int (nI (q)))] → W p l e rmX0_total s m ([.ref (a 0)] : List Value).toArray below meth c H locs 0 0 (ot_Zi G d (ot_xa a) (ot_xW d a) (fun r u => ∃ (fd' fl' : Int32) (wy' : Nat → Int32), u = (mt, fd', fl', hd, ct, wy', ps, pv) ∧ r = ot_xtot mt hd) below ([.ref (a 0)] : List Value).toArray s) (F0 m 4 ls []) := by
    intro k
    induction k with
    | zero =>
      intro q n fd1 fl1 wy1 hq hR H locs hI ls hl
      refine lv_iload_n hx hb dX0_total_4 rfl (lv_at hl 2 rfl) ?_
      refine lv_bipush (v := 85) hx hb dX0_total_5 (by decide) ?_
      refine ot_icmp_ge hx hb (a := q) (b := 85) rfl rfl (by omega) (by omega) (tgt := 32) dX0_total_7 (by decide) (fun _ => ?_) (fun c_ => absurd (by omega) c_)
      refine lv_iload_n hx hb dX0_total_32 rfl (lv_at hl 1 rfl) ?_
      exact ot_iret (u := (mt, fd1, fl1, hd, ct, wy1, ps, pv)) hC hK hr hlk hI (⟨_, _, _, rfl, by rw [ot_xtot, ← hR]; rfl⟩) dX0_total_33
    | succ k ih =>
      intro q n fd1 fl1 wy1 hq hR H locs hI ls hl
      refine lv_iload_n hx hb dX0_total_4 rfl (lv_at hl 2 rfl) ?_
      refine lv_bipush (v := 85) hx hb dX0_total_5 (by decide) ?_
      refine ot_icmp_ge hx hb (a := q) (b := 85) rfl rfl (by omega) (by omega) (tgt := 32) dX0_total_7 (by decide) (fun c_ => absurd c_ (by omega)) (fun _ => ?_)
      refine lv_iload_n hx hb dX0_total_10 rfl (lv_at hl 1 rfl) ?_
      refine lv_aload_n hx hb dX0_total_11 rfl (lv_at hl 0 rfl) ?_
      refine lv_iload_n hx hb dX0_total_12 rfl (lv_at hl 2 rfl) ?_
      refine ot_xci [.int (nI (q))] [.int (nI (n))] (xm_sort l G d a mt fd1 fl1 hd ct wy1 ps pv (nI (q))) hC hK hI hA (cwV 1 hC.2.2.2.2 (lw_V q67 q68 q69 q16 q70) rfl rfl rfl ok_yX0_sort ⟨Nat.le_of_ble_eq_true rfl, Nat.le_of_ble_eq_true rfl⟩) rfl rfl hl.1 (Nat.le_of_ble_eq_true rfl) dX0_total_13 ⟨Nat.zero_le _, Nat.zero_le _⟩ (fun r6 u6 H locs hp6 hI => ?_)
      obtain ⟨fd6, fl6, wy6, rfl, hr6, hf6⟩ := hp6
      rw [ot_xsI (by omega)] at hr6
      subst hr6
      refine lv_if_le (tgt := 23) hx hb dX0_total_16 (by decide) (fun c16 => ?_) (fun c16 => ?_)
      · skip
        refine lv_iconst (v := 0) hx hb dX0_total_23 (by decide) ?_
        refine ot_iadd hx hb (a := n) (b := 0) rfl rfl dX0_total_24 ?_
        refine lv_istore_n (lv' := [(1, .int (nI (n + 0))), (0, .ref (a 0)), (2, .int (nI (q)))]) hx hb dX0_total_25 rfl hl (by decide) rfl (fun ls hl => ?_)
        refine lv_iinc (v := nI (q + 1)) (lv' := [(2, .int (nI (q + 1))), (1, .int (nI (n + 0))), (0, .ref (a 0))]) hx hb dX0_total_26 hl (k := 2) rfl (ot_inc _) (by decide) rfl (fun ls hl => ?_)
        refine lv_goto (tgt := 4) hx hb dX0_total_29 (by decide) ?_
        exact ih (q + 1) n _ _ _ (by omega) (by rw [← hR, ot_cnt, if_pos c16]) _ _ hI _ (lv_sub hl [2, 1, 0] rfl)
      · skip
        refine lv_iconst (v := 1) hx hb dX0_total_19 (by decide) ?_
        refine lv_goto (tgt := 24) hx hb dX0_total_20 (by decide) ?_
        refine ot_iadd hx hb (a := n) (b := 1) rfl rfl dX0_total_24 ?_
        refine lv_istore_n (lv' := [(1, .int (nI (n + 1))), (0, .ref (a 0)), (2, .int (nI (q)))]) hx hb dX0_total_25 rfl hl (by decide) rfl (fun ls hl => ?_)
        refine lv_iinc (v := nI (q + 1)) (lv' := [(2, .int (nI (q + 1))), (1, .int (nI (n + 1))), (0, .ref (a 0))]) hx hb dX0_total_26 hl (k := 2) rfl (ot_inc _) (by decide) rfl (fun ls hl => ?_)
        refine lv_goto (tgt := 4) hx hb dX0_total_29 (by decide) ?_
        exact ih (q + 1) (n + 1) _ _ _ (by omega) (by rw [← hR, ot_cnt, if_neg c16]) _ _ hI _ (lv_sub hl [2, 1, 0] rfl)
  refine lv_iconst (v := 0) hx hb dX0_total_0 (by decide) ?_
  refine lv_istore_n (lv' := [(1, .int (0)), (0, .ref (a 0))]) hx hb dX0_total_1 rfl hl (by decide) rfl (fun ls hl => ?_)
  refine lv_iconst (v := 1) hx hb dX0_total_2 (by decide) ?_
  refine lv_istore_n (lv' := [(2, .int (1)), (1, .int (0)), (0, .ref (a 0))]) hx hb dX0_total_3 rfl hl (by decide) rfl (fun ls hl => ?_)
  exact lp 84 1 0 fd fl wy (by omega) rfl _ _ hI _ (lv_sub hl [2, 1, 0] rfl)
set_option maxHeartbeats 4000000 in
set_option maxRecDepth 100000 in
theorem xm_entries (l : Launch) (G : va_G) (d : ClassId) (a : Nat → Nat) (mt fd fl : Int32) (hd ct wy ps pv : Nat → Int32) (p0 : Int32) : ot_Mi l G d yX0_entries cX0_entries 4 (some .int) rmX0_entries (ot_xa a) (ot_xW d a) ([.ref (a 0), .int (p0)] : List Value) (mt, fd, fl, hd, ct, wy, ps, pv) (fun r u => ∃ (fd' fl' : Int32) (wy' : Nat → Int32), u = (mt, fd', fl', hd, ct, wy', ps, pv) ∧ r = ot_xent mt hd p0) := by
  refine ot_Mi_of (by decide) rfl (Nat.le_of_ble_eq_true rfl) ?_
  intro p e s m below meth c hC hK hr hlk hI ls hl
  have hC : CallFix p m c cX0_entries 4 s ([.ref (a 0), .int (p0)] : List Value).toArray lw_all RX0 := hC
  have hx := hC.1
  have hb := hC.2.1
  have hA : ∀ q, s.heap.size ≤ q → ot_F (ot_xa a) s.heap.size q := fun q h => Or.inr h
  have hl : lv_has ls 4 [(0, .ref (a 0)), (1, .int (p0))] := hl
  refine lv_aload_n hx hb dX0_entries_0 rfl (lv_at hl 0 rfl) ?_
  refine lv_iload_n hx hb dX0_entries_1 rfl (lv_at hl 1 rfl) ?_
  refine ot_xci [.int (p0)] [] (xm_sort l G d a mt fd fl hd ct wy ps pv (p0)) hC hK hI hA (cwV 1 hC.2.2.2.2 (lw_V q67 q68 q69 q16 q70) rfl rfl rfl ok_yX0_sort ⟨Nat.le_of_ble_eq_true rfl, Nat.le_of_ble_eq_true rfl⟩) rfl rfl hl.1 (Nat.le_of_ble_eq_true rfl) dX0_entries_2 ⟨Nat.zero_le _, Nat.zero_le _⟩ (fun r7 u7 H locs hp7 hI => ?_)
  obtain ⟨fd7, fl7, wy7, rfl, hr7, hf7⟩ := hp7
  subst hr7
  refine lv_iconst (v := 2) hx hb dX0_entries_5 (by decide) ?_
  refine lv_icmp_eq (tgt := 11) hx hb dX0_entries_6 (by decide) (fun c6 => ?_) (fun c6 => ?_)
  · skip
    obtain ⟨k, hk, rfl⟩ := ot_xs_in (by rw [c6]; decide)
    have lp : ∀ (j q n : Nat) (fd1 fl1 : Int32) (wy1 : Nat → Int32) (hq : q + j = 4 * k + 5) (hR : ot_cntE (ot_srt mt hd) j q n = ot_cntE (ot_srt mt hd) 4 (4 * k + 1) 0), ∀ (H : Heap) (locs : List Loc), ot_I G (ot_F (ot_xa a) s.heap.size) s H locs (ot_xW d a (mt, fd1, fl1, hd, ct, wy1, ps, pv)) → ∀ (ls : Array Slot), lv_has ls 4 [(0, .ref (a 0)), (1, .int (nI (k))), (2, .int (nI (n))), (3, .int (nI (q)))] → W p l e rmX0_entries s m ([.ref (a 0), .int (nI k)] : List Value).toArray below meth c H locs 0 0 (ot_Zi G d (ot_xa a) (ot_xW d a) (fun r u => ∃ (fd' fl' : Int32) (wy' : Nat → Int32), u = (mt, fd', fl', hd, ct, wy', ps, pv) ∧ r = ot_xent mt hd (nI k)) below ([.ref (a 0), .int (nI k)] : List Value).toArray s) (F0 m 19 ls []) := by
      intro j
      induction j with
      | zero =>
        intro q n fd1 fl1 wy1 hq hR H locs hI ls hl
        refine lv_iload_n hx hb dX0_entries_19 rfl (lv_at hl 3 rfl) ?_
        refine lv_iconst (v := 4) hx hb dX0_entries_20 (by decide) ?_
        refine lv_iload_n hx hb dX0_entries_21 rfl (lv_at hl 1 rfl) ?_
        refine ot_imul hx hb (a := 4) (b := k) rfl rfl dX0_entries_22 ?_
        refine lv_iconst (v := 4) hx hb dX0_entries_23 (by decide) ?_
        refine ot_iadd hx hb (a := 4 * k) (b := 4) rfl rfl dX0_entries_24 ?_
        refine ot_icmp_gt hx hb (a := q) (b := 4 * k + 4) rfl rfl (by omega) (by omega) (tgt := 56) dX0_entries_25 (by decide) (fun _ => ?_) (fun c_ => absurd (by omega) c_)
        refine lv_iload_n hx hb dX0_entries_56 rfl (lv_at hl 2 rfl) ?_
        exact ot_iret (u := (mt, fd1, fl1, hd, ct, wy1, ps, pv)) hC hK hr hlk hI (⟨_, _, _, rfl, by rw [ot_xent, if_pos c6, ot_kI (by omega), ← hR]; rfl⟩) dX0_entries_57
      | succ j ih =>
        intro q n fd1 fl1 wy1 hq hR H locs hI ls hl
        refine lv_iload_n hx hb dX0_entries_19 rfl (lv_at hl 3 rfl) ?_
        refine lv_iconst (v := 4) hx hb dX0_entries_20 (by decide) ?_
        refine lv_iload_n hx hb dX0_entries_21 rfl (lv_at hl 1 rfl) ?_
        refine ot_imul hx hb (a := 4) (b := k) rfl rfl dX0_entries_22 ?_
        refine lv_iconst (v := 4) hx hb dX0_entries_23 (by decide) ?_
        refine ot_iadd hx hb (a := 4 * k) (b := 4) rfl rfl dX0_entries_24 ?_
        refine ot_icmp_gt hx hb (a := q) (b := 4 * k + 4) rfl rfl (by omega) (by omega) (tgt := 56) dX0_entries_25 (by decide) (fun c_ => absurd c_ (by omega)) (fun _ => ?_)
        refine lv_iload_n hx hb dX0_entries_28 rfl (lv_at hl 3 rfl) ?_
        refine lv_bipush (v := 85) hx hb dX0_entries_29 (by decide) ?_
        refine ot_icmp_ge hx hb (a := q) (b := 85) rfl rfl (by omega) (by omega) (tgt := 56) dX0_entries_31 (by decide) (fun c31 => ?_) (fun c31 => ?_)
        · skip
          refine lv_iload_n hx hb dX0_entries_56 rfl (lv_at hl 2 rfl) ?_
          exact ot_iret (u := (mt, fd1, fl1, hd, ct, wy1, ps, pv)) hC hK hr hlk hI (⟨_, _, _, rfl, by rw [ot_xent, if_pos c6, ot_kI (by omega), ← hR, ot_cntE, if_pos c31]⟩) dX0_entries_57
        · skip
          refine lv_iload_n hx hb dX0_entries_34 rfl (lv_at hl 2 rfl) ?_
          refine lv_aload_n hx hb dX0_entries_35 rfl (lv_at hl 0 rfl) ?_
          refine lv_iload_n hx hb dX0_entries_36 rfl (lv_at hl 3 rfl) ?_
          refine ot_xci [.int (nI (q))] [.int (nI (n))] (xm_sort l G d a mt fd1 fl1 hd ct wy1 ps pv (nI (q))) hC hK hI hA (cwV 1 hC.2.2.2.2 (lw_V q67 q68 q69 q16 q70) rfl rfl rfl ok_yX0_sort ⟨Nat.le_of_ble_eq_true rfl, Nat.le_of_ble_eq_true rfl⟩) rfl rfl hl.1 (Nat.le_of_ble_eq_true rfl) dX0_entries_37 ⟨Nat.zero_le _, Nat.zero_le _⟩ (fun r8 u8 H locs hp8 hI => ?_)
          obtain ⟨fd8, fl8, wy8, rfl, hr8, hf8⟩ := hp8
          rw [ot_xsI (by omega)] at hr8
          subst hr8
          refine lv_if_le (tgt := 47) hx hb dX0_entries_40 (by decide) (fun c40 => ?_) (fun c40 => ?_)
          · skip
            refine lv_iconst (v := 0) hx hb dX0_entries_47 (by decide) ?_
            refine ot_iadd hx hb (a := n) (b := 0) rfl rfl dX0_entries_48 ?_
            refine lv_istore_n (lv' := [(2, .int (nI (n + 0))), (0, .ref (a 0)), (1, .int (nI (k))), (3, .int (nI (q)))]) hx hb dX0_entries_49 rfl hl (by decide) rfl (fun ls hl => ?_)
            refine lv_iinc (v := nI (q + 1)) (lv' := [(3, .int (nI (q + 1))), (2, .int (nI (n + 0))), (0, .ref (a 0)), (1, .int (nI (k)))]) hx hb dX0_entries_50 hl (k := 3) rfl (ot_inc _) (by decide) rfl (fun ls hl => ?_)
            refine lv_goto (tgt := 19) hx hb dX0_entries_53 (by decide) ?_
            exact ih (q + 1) n _ _ _ (by omega) (by rw [← hR, ot_cntE, if_neg c31, if_pos c40]) _ _ hI _ (lv_sub hl [2, 3, 1, 0] rfl)
          · skip
            refine lv_iconst (v := 1) hx hb dX0_entries_43 (by decide) ?_
            refine lv_goto (tgt := 48) hx hb dX0_entries_44 (by decide) ?_
            refine ot_iadd hx hb (a := n) (b := 1) rfl rfl dX0_entries_48 ?_
            refine lv_istore_n (lv' := [(2, .int (nI (n + 1))), (0, .ref (a 0)), (1, .int (nI (k))), (3, .int (nI (q)))]) hx hb dX0_entries_49 rfl hl (by decide) rfl (fun ls hl => ?_)
            refine lv_iinc (v := nI (q + 1)) (lv' := [(3, .int (nI (q + 1))), (2, .int (nI (n + 1))), (0, .ref (a 0)), (1, .int (nI (k)))]) hx hb dX0_entries_50 hl (k := 3) rfl (ot_inc _) (by decide) rfl (fun ls hl => ?_)
            refine lv_goto (tgt := 19) hx hb dX0_entries_53 (by decide) ?_
            exact ih (q + 1) (n + 1) _ _ _ (by omega) (by rw [← hR, ot_cntE, if_neg c31, if_neg c40]) _ _ hI _ (lv_sub hl [2, 3, 1, 0] rfl)
    refine lv_iconst (v := 0) hx hb dX0_entries_11 (by decide) ?_
    refine lv_istore_n (lv' := [(2, .int (0)), (0, .ref (a 0)), (1, .int (nI (k)))]) hx hb dX0_entries_12 rfl hl (by decide) rfl (fun ls hl => ?_)
    refine lv_iconst (v := 4) hx hb dX0_entries_13 (by decide) ?_
    refine lv_iload_n hx hb dX0_entries_14 rfl (lv_at hl 2 rfl) ?_
    refine ot_imul hx hb (a := 4) (b := k) rfl rfl dX0_entries_15 ?_
    refine lv_iconst (v := 1) hx hb dX0_entries_16 (by decide) ?_
    refine ot_iadd hx hb (a := 4 * k) (b := 1) rfl rfl dX0_entries_17 ?_
    refine lv_istore_n (lv' := [(3, .int (nI (4 * k + 1))), (2, .int (0)), (0, .ref (a 0)), (1, .int (nI (k)))]) hx hb dX0_entries_18 rfl hl (by decide) rfl (fun ls hl => ?_)
    exact lp 4 (4 * k + 1) 0 _ _ _ (by omega) rfl _ _ hI _ (lv_sub hl [2, 3, 1, 0] rfl)
  · skip
    refine lv_iconst (v := (-1)) hx hb dX0_entries_9 (by decide) ?_
    exact ot_iret (u := (mt, fd7, fl7, hd, ct, wy7, ps, pv)) hC hK hr hlk hI (⟨_, _, _, rfl, by rw [ot_xent, if_neg c6]⟩) dX0_entries_10
set_option maxHeartbeats 4000000 in
set_option maxRecDepth 100000 in
theorem xm_isRoom (l : Launch) (G : va_G) (d : ClassId) (a : Nat → Nat) (mt fd fl : Int32) (hd ct wy ps pv : Nat → Int32) (p0 : Int32) : ot_Mi l G d yX0_isRoom cX0_isRoom 2 (some .boolean) rmX0_isRoom (ot_xa a) (ot_xW d a) ([.ref (a 0), .int (p0)] : List Value) (mt, fd, fl, hd, ct, wy, ps, pv) (fun r u => ∃ (fd' fl' : Int32) (wy' : Nat → Int32), u = (mt, fd', fl', hd, ct, wy', ps, pv) ∧ r = ot_b (decide (ot_room mt hd p0))) := by
  refine ot_Mi_of (by decide) rfl (Nat.le_of_ble_eq_true rfl) ?_
  intro p e s m below meth c hC hK hr hlk hI ls hl
  have hC : CallFix p m c cX0_isRoom 2 s ([.ref (a 0), .int (p0)] : List Value).toArray lw_all RX0 := hC
  have hx := hC.1
  have hb := hC.2.1
  have hA : ∀ q, s.heap.size ≤ q → ot_F (ot_xa a) s.heap.size q := fun q h => Or.inr h
  have hl : lv_has ls 2 [(0, .ref (a 0)), (1, .int (p0))] := hl
  refine lv_aload_n hx hb dX0_isRoom_0 rfl (lv_at hl 0 rfl) ?_
  refine ot_xg0 hC hK hI.1 dX0_isRoom_1 ?_
  refine lv_if_eq (tgt := 42) hx hb dX0_isRoom_4 (by decide) (fun c4 => ?_) (fun c4 => ?_)
  · skip
    refine lv_iconst (v := 0) hx hb dX0_isRoom_42 (by decide) ?_
    exact ot_zret (u := (mt, fd, fl, hd, ct, wy, ps, pv)) hC hK hr hlk hI (⟨_, _, _, rfl, ot_bF (fun h => h.1 c4)⟩) rfl dX0_isRoom_43
  · skip
    refine lv_iload_n hx hb dX0_isRoom_7 rfl (lv_at hl 1 rfl) ?_
    refine lv_iconst (v := 1) hx hb dX0_isRoom_8 (by decide) ?_
    refine lv_icmp_lt (tgt := 42) hx hb dX0_isRoom_9 (by decide) (fun c9 => ?_) (fun c9 => ?_)
    · skip
      refine lv_iconst (v := 0) hx hb dX0_isRoom_42 (by decide) ?_
      exact ot_zret (u := (mt, fd, fl, hd, ct, wy, ps, pv)) hC hK hr hlk hI (⟨_, _, _, rfl, ot_bF (fun h => h.2.1 c9)⟩) rfl dX0_isRoom_43
    · skip
      refine lv_iload_n hx hb dX0_isRoom_12 rfl (lv_at hl 1 rfl) ?_
      refine lv_bipush (v := 84) hx hb dX0_isRoom_13 (by decide) ?_
      refine lv_icmp_gt (tgt := 42) hx hb dX0_isRoom_15 (by decide) (fun c15 => ?_) (fun c15 => ?_)
      · skip
        refine lv_iconst (v := 0) hx hb dX0_isRoom_42 (by decide) ?_
        exact ot_zret (u := (mt, fd, fl, hd, ct, wy, ps, pv)) hC hK hr hlk hI (⟨_, _, _, rfl, ot_bF (fun h => h.2.2.1 c15)⟩) rfl dX0_isRoom_43
      · skip
        obtain ⟨k, hk0, hk, rfl⟩ := ot_ix1 c9 c15
        have hpk := ot_par84 hk
        have ek : ot_k (nI k) = k := ot_kI (by omega)
        refine lv_aload_n hx hb dX0_isRoom_18 rfl (lv_at hl 0 rfl) ?_
        refine lv_iload_n hx hb dX0_isRoom_19 rfl (lv_at hl 1 rfl) ?_
        refine ot_xci [.int (nI (k))] [] (xm_sort l G d a mt fd fl hd ct wy ps pv (nI (k))) hC hK hI hA (cwV 1 hC.2.2.2.2 (lw_V q67 q68 q69 q16 q70) rfl rfl rfl ok_yX0_sort ⟨Nat.le_of_ble_eq_true rfl, Nat.le_of_ble_eq_true rfl⟩) rfl rfl hl.1 (Nat.le_of_ble_eq_true rfl) dX0_isRoom_20 ⟨Nat.zero_le _, Nat.zero_le _⟩ (fun r9 u9 H locs hp9 hI => ?_)
        obtain ⟨fd9, fl9, wy9, rfl, hr9, hf9⟩ := hp9
        rw [ot_xsI (by omega)] at hr9
        subst hr9
        refine lv_if_ne (tgt := 42) hx hb dX0_isRoom_23 (by decide) (fun c23 => ?_) (fun c23 => ?_)
        · skip
          refine lv_iconst (v := 0) hx hb dX0_isRoom_42 (by decide) ?_
          exact ot_zret (u := (mt, fd9, fl9, hd, ct, wy9, ps, pv)) hC hK hr hlk hI (⟨_, _, _, rfl, ot_bF (fun h => c23 (by have z := h.2.2.2.1; rwa [ek] at z))⟩) rfl dX0_isRoom_43
        · skip
          refine lv_aload_n hx hb dX0_isRoom_26 rfl (lv_at hl 0 rfl) ?_
          refine lv_iload_n hx hb dX0_isRoom_27 rfl (lv_at hl 1 rfl) ?_
          refine ot_calls (As := [.int (nI (k))]) (rest := [.ref (a 0)]) (xm_parentOf l (k) (by omega)) hC (va_cwS 1 hC.2.2.2.2 (lw_S q56 q57 q16 q58) rfl rfl rfl ok_yX0_parentOf ⟨Nat.le_of_ble_eq_true rfl, Nat.le_of_ble_eq_true rfl⟩) rfl rfl hl.1 (Nat.le_of_ble_eq_true rfl) dX0_isRoom_28 ⟨Nat.zero_le _, Nat.zero_le _⟩ ?_
          refine ot_xci [.int (nI (ot_par (k)))] [] (xm_sort l G d a mt fd9 fl9 hd ct wy9 ps pv (nI (ot_par (k)))) hC hK hI hA (cwV 1 hC.2.2.2.2 (lw_V q67 q68 q69 q16 q70) rfl rfl rfl ok_yX0_sort ⟨Nat.le_of_ble_eq_true rfl, Nat.le_of_ble_eq_true rfl⟩) rfl rfl hl.1 (Nat.le_of_ble_eq_true rfl) dX0_isRoom_31 ⟨Nat.zero_le _, Nat.zero_le _⟩ (fun r10 u10 H locs hp10 hI => ?_)
          obtain ⟨fd10, fl10, wy10, rfl, hr10, hf10⟩ := hp10
          rw [ot_xsI (by omega)] at hr10
          subst hr10
          refine lv_iconst (v := 2) hx hb dX0_isRoom_34 (by decide) ?_
          refine lv_icmp_ne (tgt := 42) hx hb dX0_isRoom_35 (by decide) (fun c35 => ?_) (fun c35 => ?_)
          · skip
            refine lv_iconst (v := 0) hx hb dX0_isRoom_42 (by decide) ?_
            exact ot_zret (u := (mt, fd10, fl10, hd, ct, wy10, ps, pv)) hC hK hr hlk hI (⟨_, _, _, rfl, ot_bF (fun h => c35 (by have z := h.2.2.2.2; rwa [ek] at z))⟩) rfl dX0_isRoom_43
          · skip
            refine lv_iconst (v := 1) hx hb dX0_isRoom_38 (by decide) ?_
            refine lv_goto (tgt := 43) hx hb dX0_isRoom_39 (by decide) ?_
            exact ot_zret (u := (mt, fd10, fl10, hd, ct, wy10, ps, pv)) hC hK hr hlk hI (⟨_, _, _, rfl, ot_bT ⟨c4, c9, c15, by rw [ek]; exact c23, by rw [ek]; exact c35⟩⟩) rfl dX0_isRoom_43
end
section
set_option maxRecDepth 100000
set_option maxHeartbeats 4000000 in
set_option maxRecDepth 100000 in
theorem xm_put (l : Launch) (G : va_G) (d : ClassId) (a : Nat → Nat) (mt fd fl : Int32) (hd ct wy ps pv : Nat → Int32) (k : Nat) (hk : k < 85) (s0 v0 : Int32) : ot_Mv l G d yX0_put cX0_put 4 rmX0_put (ot_xa a) (ot_xW d a) ([.ref (a 0), .int (nI (k)), .int (s0), .int (v0)] : List Value) (mt, fd, fl, hd, ct, wy, ps, pv) (fun u => u = (mt, fd, fl, upd hd (340 + k) s0, upd ct (340 + k) v0, wy, ps, pv)) := by
  refine ot_Mv_of (by decide) rfl (Nat.le_of_ble_eq_true rfl) ?_
  intro p e s m below meth c hC hK hr hlk hI ls hl
  have hC : CallFix p m c cX0_put 4 s ([.ref (a 0), .int (nI (k)), .int (s0), .int (v0)] : List Value).toArray lw_all RX0 := hC
  have hx := hC.1
  have hb := hC.2.1
  have hA : ∀ q, s.heap.size ≤ q → ot_F (ot_xa a) s.heap.size q := fun q h => Or.inr h
  have hl : lv_has ls 4 [(0, .ref (a 0)), (1, .int (nI (k))), (2, .int (s0)), (3, .int (v0))] := hl
  refine lv_aload_n hx hb dX0_put_0 rfl (lv_at hl 0 rfl) ?_
  refine ot_xg1 hC hK hI.1 dX0_put_1 ?_
  refine lv_sipush (v := 340) hx hb dX0_put_4 (by decide) ?_
  refine lv_iload_n hx hb dX0_put_7 rfl (lv_at hl 1 rfl) ?_
  refine ot_iadd hx hb (a := 340) (b := k) rfl rfl dX0_put_8 ?_
  refine lv_iload_n hx hb dX0_put_9 rfl (lv_at hl 2 rfl) ?_
  refine ot_xs1 hC hK hI (j := 340 + k) rfl (by omega) dX0_put_10 (fun H locs hI => ?_)
  refine lv_aload_n hx hb dX0_put_11 rfl (lv_at hl 0 rfl) ?_
  refine ot_xg2 hC hK hI.1 dX0_put_12 ?_
  refine lv_sipush (v := 340) hx hb dX0_put_15 (by decide) ?_
  refine lv_iload_n hx hb dX0_put_18 rfl (lv_at hl 1 rfl) ?_
  refine ot_iadd hx hb (a := 340) (b := k) rfl rfl dX0_put_19 ?_
  refine lv_iload_n hx hb dX0_put_20 rfl (lv_at hl 3 rfl) ?_
  refine ot_xs2 hC hK hI (j := 340 + k) rfl (by omega) dX0_put_21 (fun H locs hI => ?_)
  exact ot_vret (u := (mt, fd, fl, upd hd (340 + k) (s0), upd ct (340 + k) (v0), wy, ps, pv)) hC hK hr hlk hI (rfl) dX0_put_22
set_option maxHeartbeats 4000000 in
set_option maxRecDepth 100000 in
theorem xm_copyUpTo (l : Launch) (G : va_G) (d : ClassId) (a : Nat → Nat) (mt fd fl : Int32) (hd ct wy ps pv : Nat → Int32) (k : Nat) (hk : k < 85) : ot_Mv l G d yX0_copyUpTo cX0_copyUpTo 4 rmX0_copyUpTo (ot_xa a) (ot_xW d a) ([.ref (a 0), .int (nI (k))] : List Value) (mt, fd, fl, hd, ct, wy, ps, pv) (fun u => u = (mt, fd, fl, ot_cup 3 hd k, ct, wy, ps, pv)) := by
  refine ot_Mv_of (by decide) rfl (Nat.le_of_ble_eq_true rfl) ?_
  intro p e s m below meth c hC hK hr hlk hI ls hl
  have hC : CallFix p m c cX0_copyUpTo 4 s ([.ref (a 0), .int (nI (k))] : List Value).toArray lw_all RX0 := hC
  have hx := hC.1
  have hb := hC.2.1
  have hA : ∀ q, s.heap.size ≤ q → ot_F (ot_xa a) s.heap.size q := fun q h => Or.inr h
  have hl : lv_has ls 4 [(0, .ref (a 0)), (1, .int (nI (k)))] := hl
  have lp : ∀ (n i q : Nat) (hd1 : Nat → Int32) (hn : n + i = 3) (hq : q < 85) (hR : ot_cup n hd1 q = ot_cup 3 hd k), ∀ (H : Heap) (locs : List Loc), ot_I G (ot_F (ot_xa a) s.heap.size) s H locs (ot_xW d a (mt, fd, fl, hd1, ct, wy, ps, pv)) → ∀ (ls : Array Slot), lv_has ls 4 [(0, .ref (a 0)), (2, .int (nI (q))), (3, .int (nI (i)))] → W p l e rmX0_copyUpTo s m ([.ref (a 0), .int (nI (k))] : List Value).toArray below meth c H locs 0 0 (ot_Zv G d (ot_xa a) (ot_xW d a) (fun u => u = (mt, fd, fl, ot_cup 3 hd k, ct, wy, ps, pv)) below ([.ref (a 0), .int (nI (k))] : List Value).toArray s) (F0 m 4 ls []) := by
    intro n
    induction n with
    | zero =>
      intro i q hd1 hn hq hR H locs hI ls hl
      refine lv_iload_n hx hb dX0_copyUpTo_4 rfl (lv_at hl 2 rfl) ?_
      refine lv_iconst (v := 3) hx hb dX0_copyUpTo_5 (by decide) ?_
      refine ot_icmp_ge hx hb (a := i) (b := 3) rfl rfl (by omega) (by omega) (tgt := 48) dX0_copyUpTo_6 (by decide) (fun _ => ?_) (fun c_ => absurd (by omega) c_)
      exact ot_vret (u := (mt, fd, fl, hd1, ct, wy, ps, pv)) hC hK hr hlk hI (by rw [← hR]; rfl) dX0_copyUpTo_48
    | succ n ih =>
      intro i q hd1 hn hq hR H locs hI ls hl
      have hpq := ot_par84 hq
      refine lv_iload_n hx hb dX0_copyUpTo_4 rfl (lv_at hl 2 rfl) ?_
      refine lv_iconst (v := 3) hx hb dX0_copyUpTo_5 (by decide) ?_
      refine ot_icmp_ge hx hb (a := i) (b := 3) rfl rfl (by omega) (by omega) (tgt := 48) dX0_copyUpTo_6 (by decide) (fun c_ => absurd c_ (by omega)) (fun _ => ?_)
      refine lv_iload_n hx hb dX0_copyUpTo_9 rfl (lv_at hl 1 rfl) ?_
      refine ot_if_le hx hb (a := q) rfl (by omega) (tgt := 48) dX0_copyUpTo_10 (by decide) (fun c10 => ?_) (fun c10 => ?_)
      · skip
        exact ot_vret (u := (mt, fd, fl, hd1, ct, wy, ps, pv)) hC hK hr hlk hI (by rw [← hR, ot_cup, if_pos (by omega)]) dX0_copyUpTo_48
      · skip
        refine lv_aload_n hx hb dX0_copyUpTo_13 rfl (lv_at hl 0 rfl) ?_
        refine ot_xg1 hC hK hI.1 dX0_copyUpTo_14 ?_
        refine lv_sipush (v := 340) hx hb dX0_copyUpTo_17 (by decide) ?_
        refine lv_iload_n hx hb dX0_copyUpTo_20 rfl (lv_at hl 1 rfl) ?_
        refine ot_iadd hx hb (a := 340) (b := q) rfl rfl dX0_copyUpTo_21 ?_
        refine ot_xl1 hC hK hI.1 (j := 340 + q) rfl (by omega) dX0_copyUpTo_22 ?_
        refine lv_if_ne (tgt := 37) hx hb dX0_copyUpTo_23 (by decide) (fun c23 => ?_) (fun c23 => ?_)
        · skip
          refine lv_iload_n hx hb dX0_copyUpTo_37 rfl (lv_at hl 1 rfl) ?_
          refine ot_calls (As := [.int (nI (q))]) (rest := []) (xm_parentOf l (q) (by omega)) hC (va_cwS 1 hC.2.2.2.2 (lw_S q56 q57 q16 q58) rfl rfl rfl ok_yX0_parentOf ⟨Nat.le_of_ble_eq_true rfl, Nat.le_of_ble_eq_true rfl⟩) rfl rfl hl.1 (Nat.le_of_ble_eq_true rfl) dX0_copyUpTo_38 ⟨Nat.zero_le _, Nat.zero_le _⟩ ?_
          refine lv_istore_n (lv' := [(2, .int (nI (ot_par (q)))), (0, .ref (a 0)), (3, .int (nI (i)))]) hx hb dX0_copyUpTo_41 rfl hl (by decide) rfl (fun ls hl => ?_)
          refine lv_iinc (v := nI (i + 1)) (lv' := [(3, .int (nI (i + 1))), (2, .int (nI (ot_par (q)))), (0, .ref (a 0))]) hx hb dX0_copyUpTo_42 hl (k := 2) rfl (ot_inc _) (by decide) rfl (fun ls hl => ?_)
          refine lv_goto (tgt := 4) hx hb dX0_copyUpTo_45 (by decide) ?_
          exact ih (i + 1) (ot_par q) _ (by omega) hpq (by rw [← hR, ot_cup, if_neg (by omega), if_neg c23]) _ _ hI _ (lv_sub hl [2, 1, 0] rfl)
        · skip
          refine lv_aload_n hx hb dX0_copyUpTo_26 rfl (lv_at hl 0 rfl) ?_
          refine ot_xg1 hC hK hI.1 dX0_copyUpTo_27 ?_
          refine lv_sipush (v := 340) hx hb dX0_copyUpTo_30 (by decide) ?_
          refine lv_iload_n hx hb dX0_copyUpTo_33 rfl (lv_at hl 1 rfl) ?_
          refine ot_iadd hx hb (a := 340) (b := q) rfl rfl dX0_copyUpTo_34 ?_
          refine lv_iconst (v := 2) hx hb dX0_copyUpTo_35 (by decide) ?_
          refine ot_xs1 hC hK hI (j := 340 + q) rfl (by omega) dX0_copyUpTo_36 (fun H locs hI => ?_)
          refine lv_iload_n hx hb dX0_copyUpTo_37 rfl (lv_at hl 1 rfl) ?_
          refine ot_calls (As := [.int (nI (q))]) (rest := []) (xm_parentOf l (q) (by omega)) hC (va_cwS 1 hC.2.2.2.2 (lw_S q56 q57 q16 q58) rfl rfl rfl ok_yX0_parentOf ⟨Nat.le_of_ble_eq_true rfl, Nat.le_of_ble_eq_true rfl⟩) rfl rfl hl.1 (Nat.le_of_ble_eq_true rfl) dX0_copyUpTo_38 ⟨Nat.zero_le _, Nat.zero_le _⟩ ?_
          refine lv_istore_n (lv' := [(2, .int (nI (ot_par (q)))), (0, .ref (a 0)), (3, .int (nI (i)))]) hx hb dX0_copyUpTo_41 rfl hl (by decide) rfl (fun ls hl => ?_)
          refine lv_iinc (v := nI (i + 1)) (lv' := [(3, .int (nI (i + 1))), (2, .int (nI (ot_par (q)))), (0, .ref (a 0))]) hx hb dX0_copyUpTo_42 hl (k := 2) rfl (ot_inc _) (by decide) rfl (fun ls hl => ?_)
          refine lv_goto (tgt := 4) hx hb dX0_copyUpTo_45 (by decide) ?_
          exact ih (i + 1) (ot_par q) _ (by omega) hpq (by rw [← hR, ot_cup, if_neg (by omega), if_pos c23]) _ _ hI _ (lv_sub hl [2, 1, 0] rfl)
  refine lv_iload_n hx hb dX0_copyUpTo_0 rfl (lv_at hl 1 rfl) ?_
  refine lv_istore_n (lv' := [(2, .int (nI (k))), (0, .ref (a 0)), (1, .int (nI (k)))]) hx hb dX0_copyUpTo_1 rfl hl (by decide) rfl (fun ls hl => ?_)
  refine lv_iconst (v := 0) hx hb dX0_copyUpTo_2 (by decide) ?_
  refine lv_istore_n (lv' := [(3, .int (0)), (2, .int (nI (k))), (0, .ref (a 0)), (1, .int (nI (k)))]) hx hb dX0_copyUpTo_3 rfl hl (by decide) rfl (fun ls hl => ?_)
  exact lp 3 0 k hd (by omega) hk rfl _ _ hI _ (lv_sub hl [2, 1, 0] rfl)
set_option maxHeartbeats 4000000 in
set_option maxRecDepth 100000 in
theorem xm_clearUnder (l : Launch) (G : va_G) (d : ClassId) (a : Nat → Nat) (mt fd fl : Int32) (hd ct wy ps pv : Nat → Int32) (y0 k : Nat) (hy0 : y0 < 5) (hk : k < 85) : ot_Mv l G d yX0_clearUnder cX0_clearUnder 4 rmX0_clearUnder (ot_xa a) (ot_xW d a) ([.ref (a 0), .int (nI (y0)), .int (nI (k))] : List Value) (mt, fd, fl, hd, ct, wy, ps, pv) (fun u => u = (mt, fd, fl, ot_clr (85 * y0) k (84 - k) (k + 1) hd, ct, wy, ps, pv)) := by
  refine ot_Mv_of (by decide) rfl (Nat.le_of_ble_eq_true rfl) ?_
  intro p e s m below meth c hC hK hr hlk hI ls hl
  have hC : CallFix p m c cX0_clearUnder 4 s ([.ref (a 0), .int (nI (y0)), .int (nI (k))] : List Value).toArray lw_all RX0 := hC
  have hx := hC.1
  have hb := hC.2.1
  have hA : ∀ q, s.heap.size ≤ q → ot_F (ot_xa a) s.heap.size q := fun q h => Or.inr h
  have hl : lv_has ls 4 [(0, .ref (a 0)), (1, .int (nI (y0))), (2, .int (nI (k)))] := hl
  have lp : ∀ (j q : Nat) (hd1 : Nat → Int32) (hq : q + j = 85) (hR : ot_clr (85 * y0) k j q hd1 = ot_clr (85 * y0) k (84 - k) (k + 1) hd), ∀ (H : Heap) (locs : List Loc), ot_I G (ot_F (ot_xa a) s.heap.size) s H locs (ot_xW d a (mt, fd, fl, hd1, ct, wy, ps, pv)) → ∀ (ls : Array Slot), lv_has ls 4 [(0, .ref (a 0)), (1, .int (nI (y0))), (2, .int (nI (k))), (3, .int (nI (q)))] → W p l e rmX0_clearUnder s m ([.ref (a 0), .int (nI (y0)), .int (nI (k))] : List Value).toArray below meth c H locs 0 0 (ot_Zv G d (ot_xa a) (ot_xW d a) (fun u => u = (mt, fd, fl, ot_clr (85 * y0) k (84 - k) (k + 1) hd, ct, wy, ps, pv)) below ([.ref (a 0), .int (nI (y0)), .int (nI (k))] : List Value).toArray s) (F0 m 4 ls []) := by
    intro j
    induction j with
    | zero =>
      intro q hd1 hq hR H locs hI ls hl
      refine lv_iload_n hx hb dX0_clearUnder_4 rfl (lv_at hl 3 rfl) ?_
      refine lv_bipush (v := 85) hx hb dX0_clearUnder_5 (by decide) ?_
      refine ot_icmp_ge hx hb (a := q) (b := 85) rfl rfl (by omega) (by omega) (tgt := 36) dX0_clearUnder_7 (by decide) (fun _ => ?_) (fun c_ => absurd (by omega) c_)
      exact ot_vret (u := (mt, fd, fl, hd1, ct, wy, ps, pv)) hC hK hr hlk hI (by rw [← hR]; rfl) dX0_clearUnder_36
    | succ j ih =>
      intro q hd1 hq hR H locs hI ls hl
      refine lv_iload_n hx hb dX0_clearUnder_4 rfl (lv_at hl 3 rfl) ?_
      refine lv_bipush (v := 85) hx hb dX0_clearUnder_5 (by decide) ?_
      refine ot_icmp_ge hx hb (a := q) (b := 85) rfl rfl (by omega) (by omega) (tgt := 36) dX0_clearUnder_7 (by decide) (fun c_ => absurd c_ (by omega)) (fun _ => ?_)
      refine lv_iload_n hx hb dX0_clearUnder_10 rfl (lv_at hl 3 rfl) ?_
      refine lv_iload_n hx hb dX0_clearUnder_11 rfl (lv_at hl 2 rfl) ?_
      refine ot_calls (As := [.int (nI (q)), .int (nI (k))]) (rest := []) (xm_isUnder l (q) (k) (by omega) (by omega)) hC (va_cwS 2 hC.2.2.2.2 (lw_S q127 q128 q16 q129) rfl rfl rfl ok_yX0_isUnder ⟨Nat.le_of_ble_eq_true rfl, Nat.le_of_ble_eq_true rfl⟩) rfl rfl hl.1 (Nat.le_of_ble_eq_true rfl) dX0_clearUnder_12 ⟨Nat.zero_le _, Nat.zero_le _⟩ ?_
      refine lv_if_eq (tgt := 30) hx hb dX0_clearUnder_15 (by decide) (fun c15 => ?_) (fun c15 => ?_)
      · skip
        refine lv_iinc (v := nI (q + 1)) (lv' := [(3, .int (nI (q + 1))), (0, .ref (a 0)), (1, .int (nI (y0))), (2, .int (nI (k)))]) hx hb dX0_clearUnder_30 hl (k := 3) rfl (ot_inc _) (by decide) rfl (fun ls hl => ?_)
        refine lv_goto (tgt := 4) hx hb dX0_clearUnder_33 (by decide) ?_
        exact ih (q + 1) _ (by omega) (by rw [← hR, ot_clr, if_neg (by rw [ot_b0.mp c15]; decide)]) _ _ hI _ (lv_sub hl [1, 2, 3, 0] rfl)
      · skip
        refine lv_aload_n hx hb dX0_clearUnder_18 rfl (lv_at hl 0 rfl) ?_
        refine ot_xg1 hC hK hI.1 dX0_clearUnder_19 ?_
        refine lv_bipush (v := 85) hx hb dX0_clearUnder_22 (by decide) ?_
        refine lv_iload_n hx hb dX0_clearUnder_24 rfl (lv_at hl 1 rfl) ?_
        refine ot_imul hx hb (a := 85) (b := y0) rfl rfl dX0_clearUnder_25 ?_
        refine lv_iload_n hx hb dX0_clearUnder_26 rfl (lv_at hl 3 rfl) ?_
        refine ot_iadd hx hb (a := 85 * y0) (b := q) rfl rfl dX0_clearUnder_27 ?_
        refine lv_iconst (v := 0) hx hb dX0_clearUnder_28 (by decide) ?_
        refine ot_xs1 hC hK hI (j := 85 * y0 + q) rfl (by omega) dX0_clearUnder_29 (fun H locs hI => ?_)
        refine lv_iinc (v := nI (q + 1)) (lv' := [(3, .int (nI (q + 1))), (0, .ref (a 0)), (1, .int (nI (y0))), (2, .int (nI (k)))]) hx hb dX0_clearUnder_30 hl (k := 3) rfl (ot_inc _) (by decide) rfl (fun ls hl => ?_)
        refine lv_goto (tgt := 4) hx hb dX0_clearUnder_33 (by decide) ?_
        exact ih (q + 1) _ (by omega) (by rw [← hR, ot_clr, if_pos (ot_bt c15)]) _ _ hI _ (lv_sub hl [1, 2, 3, 0] rfl)
  refine lv_iload_n hx hb dX0_clearUnder_0 rfl (lv_at hl 2 rfl) ?_
  refine lv_iconst (v := 1) hx hb dX0_clearUnder_1 (by decide) ?_
  refine ot_iadd hx hb (a := k) (b := 1) rfl rfl dX0_clearUnder_2 ?_
  refine lv_istore_n (lv' := [(3, .int (nI (k + 1))), (0, .ref (a 0)), (1, .int (nI (y0))), (2, .int (nI (k)))]) hx hb dX0_clearUnder_3 rfl hl (by decide) rfl (fun ls hl => ?_)
  exact lp (84 - k) (k + 1) hd (by omega) rfl _ _ hI _ (lv_sub hl [1, 2, 3, 0] rfl)
set_option maxHeartbeats 4000000 in
set_option maxRecDepth 100000 in
theorem xm_takeAway (l : Launch) (G : va_G) (d : ClassId) (a : Nat → Nat) (mt fd fl : Int32) (hd ct wy ps pv : Nat → Int32) (k : Nat) (hk : k < 85) : ot_Mv l G d yX0_takeAway cX0_takeAway 2 rmX0_takeAway (ot_xa a) (ot_xW d a) ([.ref (a 0), .int (nI (k))] : List Value) (mt, fd, fl, hd, ct, wy, ps, pv) (fun u => ∃ (fd' fl' : Int32) (wy' : Nat → Int32), u = (mt, fd', fl', (ot_tka mt hd ct k).1, (ot_tka mt hd ct k).2, wy', ps, pv)) := by
  have hpk := ot_par84 hk
  refine ot_Mv_of (by decide) rfl (Nat.le_of_ble_eq_true rfl) ?_
  intro p e s m below meth c hC hK hr hlk hI ls hl
  have hC : CallFix p m c cX0_takeAway 2 s ([.ref (a 0), .int (nI (k))] : List Value).toArray lw_all RX0 := hC
  have hx := hC.1
  have hb := hC.2.1
  have hA : ∀ q, s.heap.size ≤ q → ot_F (ot_xa a) s.heap.size q := fun q h => Or.inr h
  have hl : lv_has ls 2 [(0, .ref (a 0)), (1, .int (nI (k)))] := hl
  refine lv_aload_n hx hb dX0_takeAway_0 rfl (lv_at hl 0 rfl) ?_
  refine lv_iconst (v := 4) hx hb dX0_takeAway_1 (by decide) ?_
  refine lv_iload_n hx hb dX0_takeAway_2 rfl (lv_at hl 1 rfl) ?_
  refine ot_xcv [.int (4), .int (nI (k))] [] (xm_clearUnder l G d a mt fd fl hd ct wy ps pv 4 (k) (by decide) (by omega)) hC hK hI hA (cwV 2 hC.2.2.2.2 (lw_V q123 q125 qs7 q16 q126) rfl rfl rfl ok_yX0_clearUnder ⟨Nat.le_of_ble_eq_true rfl, Nat.le_of_ble_eq_true rfl⟩) rfl rfl hl.1 (Nat.le_of_ble_eq_true rfl) dX0_takeAway_3 ⟨Nat.zero_le _, Nat.zero_le _⟩ (fun u11 H locs hp11 hI => ?_)
  have hp11 : u11 = (mt, fd, fl, ot_clr 340 (k) (84 - (k)) (k + 1) hd, ct, wy, ps, pv) := hp11
  subst hp11
  refine lv_aload_n hx hb dX0_takeAway_6 rfl (lv_at hl 0 rfl) ?_
  refine ot_xg1 hC hK hI.1 dX0_takeAway_7 ?_
  refine lv_sipush (v := 340) hx hb dX0_takeAway_10 (by decide) ?_
  refine lv_iload_n hx hb dX0_takeAway_13 rfl (lv_at hl 1 rfl) ?_
  refine ot_iadd hx hb (a := 340) (b := k) rfl rfl dX0_takeAway_14 ?_
  refine lv_iconst (v := 0) hx hb dX0_takeAway_15 (by decide) ?_
  refine ot_xs1 hC hK hI (j := 340 + k) rfl (by omega) dX0_takeAway_16 (fun H locs hI => ?_)
  refine lv_aload_n hx hb dX0_takeAway_17 rfl (lv_at hl 0 rfl) ?_
  refine lv_iload_n hx hb dX0_takeAway_18 rfl (lv_at hl 1 rfl) ?_
  refine ot_xci [.int (nI (k))] [] (xm_sort l G d a mt fd fl (upd (ot_clr 340 (k) (84 - (k)) (k + 1) hd) (340 + k) (0)) ct wy ps pv (nI (k))) hC hK hI hA (cwV 1 hC.2.2.2.2 (lw_V q67 q68 q69 q16 q70) rfl rfl rfl ok_yX0_sort ⟨Nat.le_of_ble_eq_true rfl, Nat.le_of_ble_eq_true rfl⟩) rfl rfl hl.1 (Nat.le_of_ble_eq_true rfl) dX0_takeAway_19 ⟨Nat.zero_le _, Nat.zero_le _⟩ (fun r12 u12 H locs hp12 hI => ?_)
  obtain ⟨fd12, fl12, wy12, rfl, hr12, hf12⟩ := hp12
  rw [ot_xsI (by omega)] at hr12
  subst hr12
  refine lv_if_le (tgt := 40) hx hb dX0_takeAway_22 (by decide) (fun c22 => ?_) (fun c22 => ?_)
  · skip
    exact ot_vret (u := (mt, fd12, fl12, upd (ot_clr 340 (k) (84 - (k)) (k + 1) hd) (340 + k) (0), ct, wy12, ps, pv)) hC hK hr hlk hI (⟨_, _, _, by rw [ot_tka, if_pos c22]⟩) dX0_takeAway_40
  · skip
    refine lv_aload_n hx hb dX0_takeAway_25 rfl (lv_at hl 0 rfl) ?_
    refine lv_iload_n hx hb dX0_takeAway_26 rfl (lv_at hl 1 rfl) ?_
    refine ot_calls (As := [.int (nI (k))]) (rest := [.ref (a 0)]) (xm_parentOf l (k) (by omega)) hC (va_cwS 1 hC.2.2.2.2 (lw_S q56 q57 q16 q58) rfl rfl rfl ok_yX0_parentOf ⟨Nat.le_of_ble_eq_true rfl, Nat.le_of_ble_eq_true rfl⟩) rfl rfl hl.1 (Nat.le_of_ble_eq_true rfl) dX0_takeAway_27 ⟨Nat.zero_le _, Nat.zero_le _⟩ ?_
    refine ot_xcv [.int (nI (ot_par (k)))] [] (xm_copyUpTo l G d a mt fd12 fl12 (upd (ot_clr 340 (k) (84 - (k)) (k + 1) hd) (340 + k) (0)) ct wy12 ps pv (ot_par (k)) (by omega)) hC hK hI hA (cwV 1 hC.2.2.2.2 (lw_V q91 q93 qs4 q16 q94) rfl rfl rfl ok_yX0_copyUpTo ⟨Nat.le_of_ble_eq_true rfl, Nat.le_of_ble_eq_true rfl⟩) rfl rfl hl.1 (Nat.le_of_ble_eq_true rfl) dX0_takeAway_30 ⟨Nat.zero_le _, Nat.zero_le _⟩ (fun u13 H locs hp13 hI => ?_)
    subst hp13
    refine lv_aload_n hx hb dX0_takeAway_33 rfl (lv_at hl 0 rfl) ?_
    refine lv_iload_n hx hb dX0_takeAway_34 rfl (lv_at hl 1 rfl) ?_
    refine lv_iconst (v := 4) hx hb dX0_takeAway_35 (by decide) ?_
    refine lv_iconst (v := 0) hx hb dX0_takeAway_36 (by decide) ?_
    refine ot_xcv [.int (nI (k)), .int (4), .int (0)] [] (xm_put l G d a mt fd12 fl12 (ot_cup 3 (upd (ot_clr 340 (k) (84 - (k)) (k + 1) hd) (340 + k) (0)) (ot_par (k))) ct wy12 ps pv (k) (by omega) 4 0) hC hK hI hA (cwV 3 hC.2.2.2.2 (lw_V q95 q97 qs5 q16 q98) rfl rfl rfl ok_yX0_put ⟨Nat.le_of_ble_eq_true rfl, Nat.le_of_ble_eq_true rfl⟩) rfl rfl hl.1 (Nat.le_of_ble_eq_true rfl) dX0_takeAway_37 ⟨Nat.zero_le _, Nat.zero_le _⟩ (fun u14 H locs hp14 hI => ?_)
    subst hp14
    exact ot_vret (u := (mt, fd12, fl12, upd (ot_cup 3 (upd (ot_clr 340 (k) (84 - (k)) (k + 1) hd) (340 + k) (0)) (ot_par (k))) (340 + k) 4, upd ct (340 + k) 0, wy12, ps, pv)) hC hK hr hlk hI (⟨_, _, _, by rw [ot_tka, if_neg c22]⟩) dX0_takeAway_40
end
section
set_option maxRecDepth 100000
set_option maxHeartbeats 4000000 in
set_option maxRecDepth 100000 in
theorem xm_placeAfter (l : Launch) (G : va_G) (d : ClassId) (a : Nat → Nat) (mt fd fl : Int32) (hd ct wy ps pv : Nat → Int32) (q0 fr to : Nat) (hq0 : q0 < 85) (hfr : fr < 85) (hto : to < 85) (hu0 : q0 = fr ∨ ot_und 3 q0 fr = true) : ot_Mi l G d yX0_placeAfter cX0_placeAfter 8 (some .int) rmX0_placeAfter (ot_xa a) (ot_xW d a) ([.ref (a 0), .int (nI (q0)), .int (nI (fr)), .int (nI (to))] : List Value) (mt, fd, fl, hd, ct, wy, ps, pv) (fun r u => ∃ (wy' : Nat → Int32), u = (mt, fd, fl, hd, ct, wy', ps, pv) ∧ r = nI (ot_plc fr to 3 q0)) := by
  have hanc := ot_anc85 hq0
  refine ot_Mi_of (by decide) rfl (Nat.le_of_ble_eq_true rfl) ?_
  intro p e s m below meth c hC hK hr hlk hI ls hl
  have hC : CallFix p m c cX0_placeAfter 8 s ([.ref (a 0), .int (nI (q0)), .int (nI (fr)), .int (nI (to))] : List Value).toArray lw_all RX0 := hC
  have hx := hC.1
  have hb := hC.2.1
  have hA : ∀ q, s.heap.size ≤ q → ot_F (ot_xa a) s.heap.size q := fun q h => Or.inr h
  have hl : lv_has ls 8 [(0, .ref (a 0)), (1, .int (nI (q0))), (2, .int (nI (fr))), (3, .int (nI (to)))] := hl
  have lp2 : ∀ (j pl : Nat) (w1 : Nat → Int32) (hj : j ≤ 3) (hw : ∀ k, k < j → w1 k = nI ((ot_anc q0 k - 1) % 4)) (hne : ∀ k, k < j → ¬ ot_anc q0 k = fr) (hpl : pl = ot_plc fr to (3 - j) (ot_anc q0 j)), ∀ (H : Heap) (locs : List Loc), ot_I G (ot_F (ot_xa a) s.heap.size) s H locs (ot_xW d a (mt, fd, fl, hd, ct, w1, ps, pv)) → ∀ (ls : Array Slot), lv_has ls 8 [(0, .ref (a 0)), (6, .int (nI (pl))), (7, .int (ot_dn j))] → W p l e rmX0_placeAfter s m ([.ref (a 0), .int (nI (q0)), .int (nI (fr)), .int (nI (to))] : List Value).toArray below meth c H locs 0 0 (ot_Zi G d (ot_xa a) (ot_xW d a) (fun r u => ∃ (wy' : Nat → Int32), u = (mt, fd, fl, hd, ct, wy', ps, pv) ∧ r = nI (ot_plc fr to 3 q0)) below ([.ref (a 0), .int (nI (q0)), .int (nI (fr)), .int (nI (to))] : List Value).toArray s) (F0 m 60 ls []) := by
    intro j
    induction j with
    | zero =>
      intro pl w1 hj hw hne hpl H locs hI ls hl
      rw [ot_dn_0] at hl
      refine lv_iload hx hb dX0_placeAfter_60 (lv_at hl 2 rfl) ?_
      refine lv_if_lt (tgt := 87) hx hb dX0_placeAfter_62 (by decide) (fun _ => ?_) (fun c_ => absurd (by decide) c_)
      refine lv_iload hx hb dX0_placeAfter_87 (lv_at hl 1 rfl) ?_
      exact ot_iret (u := (mt, fd, fl, hd, ct, w1, ps, pv)) hC hK hr hlk hI (⟨_, rfl, by rw [hpl]; rfl⟩) dX0_placeAfter_89
    | succ j ih =>
      intro pl w1 hj hw hne hpl H locs hI ls hl
      rw [ot_dn_s] at hl
      refine lv_iload hx hb dX0_placeAfter_60 (lv_at hl 2 rfl) ?_
      refine ot_if_lt hx hb (a := j) rfl (by omega) (tgt := 87) dX0_placeAfter_62 (by decide) (fun c_ => absurd c_ (by omega)) (fun _ => ?_)
      refine lv_iconst (v := 4) hx hb dX0_placeAfter_65 (by decide) ?_
      refine lv_iload hx hb dX0_placeAfter_66 (lv_at hl 1 rfl) ?_
      refine ot_imul hx hb (a := 4) (b := pl) rfl rfl dX0_placeAfter_68 ?_
      refine lv_iconst (v := 1) hx hb dX0_placeAfter_69 (by decide) ?_
      refine ot_iadd hx hb (a := 4 * pl) (b := 1) rfl rfl dX0_placeAfter_70 ?_
      refine lv_aload_n hx hb dX0_placeAfter_71 rfl (lv_at hl 0 rfl) ?_
      refine ot_xg5 hC hK hI.1 dX0_placeAfter_72 ?_
      refine lv_iload hx hb dX0_placeAfter_75 (lv_at hl 2 rfl) ?_
      refine ot_xl3 hC hK hI.1 (j := j) rfl (by omega) dX0_placeAfter_77 ?_
      refine ot_r (y := nI ((ot_anc q0 j - 1) % 4)) (hw _ (by omega)) ?_
      refine ot_iadd hx hb (a := 4 * pl + 1) (b := (ot_anc q0 j - 1) % 4) rfl rfl dX0_placeAfter_78 ?_
      refine lv_istore (lv' := [(6, .int (nI (4 * pl + 1 + ((ot_anc q0 j - 1) % 4)))), (0, .ref (a 0)), (7, .int (nI (j)))]) hx hb dX0_placeAfter_79 hl (by decide) rfl (fun ls hl => ?_)
      refine lv_iinc (v := ot_dn (j)) (lv' := [(7, .int (ot_dn (j))), (6, .int (nI (4 * pl + 1 + ((ot_anc q0 j - 1) % 4)))), (0, .ref (a 0))]) hx hb dX0_placeAfter_81 hl (k := 2) rfl (ot_dec _) (by decide) rfl (fun ls hl => ?_)
      refine lv_goto (tgt := 60) hx hb dX0_placeAfter_84 (by decide) ?_
      exact ih _ w1 (by omega) (fun k h => hw k (by omega)) (fun k h => hne k (by omega)) (by rw [hpl, show 3 - j = (3 - (j + 1)) + 1 by omega, ot_plc, if_neg (hne j (by omega))]; rfl) _ _ hI _ (lv_sub hl [2, 1, 0] rfl)
  have mid : ∀ (D : Nat) (w1 : Nat → Int32) (hD : D ≤ 3) (hw : ∀ k, k < D → w1 k = nI ((ot_anc q0 k - 1) % 4)) (hne : ∀ k, k < D → ¬ ot_anc q0 k = fr) (hend : ot_anc q0 D = fr), ∀ (H : Heap) (locs : List Loc), ot_I G (ot_F (ot_xa a) s.heap.size) s H locs (ot_xW d a (mt, fd, fl, hd, ct, w1, ps, pv)) → ∀ (ls : Array Slot), lv_has ls 8 [(0, .ref (a 0)), (3, .int (nI (to))), (4, .int (nI (D)))] → W p l e rmX0_placeAfter s m ([.ref (a 0), .int (nI (q0)), .int (nI (fr)), .int (nI (to))] : List Value).toArray below meth c H locs 0 0 (ot_Zi G d (ot_xa a) (ot_xW d a) (fun r u => ∃ (wy' : Nat → Int32), u = (mt, fd, fl, hd, ct, wy', ps, pv) ∧ r = nI (ot_plc fr to 3 q0)) below ([.ref (a 0), .int (nI (q0)), .int (nI (fr)), .int (nI (to))] : List Value).toArray s) (F0 m 51 ls []) := by
    intro D w1 hD hw hne hend H locs hI ls hl
    refine lv_iload_n hx hb dX0_placeAfter_51 rfl (lv_at hl 1 rfl) ?_
    refine lv_istore (lv' := [(6, .int (nI (to))), (0, .ref (a 0)), (3, .int (nI (to))), (4, .int (nI (D)))]) hx hb dX0_placeAfter_52 hl (by decide) rfl (fun ls hl => ?_)
    refine lv_iload hx hb dX0_placeAfter_54 (lv_at hl 3 rfl) ?_
    refine lv_iconst (v := 1) hx hb dX0_placeAfter_56 (by decide) ?_
    refine lv_isub hx hb dX0_placeAfter_57 ?_
    refine ot_r (y := ot_dn D) (ot_sub1 _) ?_
    refine lv_istore (lv' := [(7, .int (ot_dn D)), (6, .int (nI (to))), (0, .ref (a 0)), (3, .int (nI (to))), (4, .int (nI (D)))]) hx hb dX0_placeAfter_58 hl (by decide) rfl (fun ls hl => ?_)
    exact lp2 D to w1 hD hw hne (by rw [hend]; cases 3 - D <;> simp [ot_plc]) _ _ hI _ (lv_sub hl [2, 1, 0] rfl)
  have lp1 : ∀ (n i : Nat) (w1 : Nat → Int32) (hn : n + i = 3) (hw : ∀ k, k < i → w1 k = nI ((ot_anc q0 k - 1) % 4)) (hne : ∀ k, k < i → ¬ ot_anc q0 k = fr) (hu : ot_anc q0 i = fr ∨ ot_und n (ot_anc q0 i) fr = true), ∀ (H : Heap) (locs : List Loc), ot_I G (ot_F (ot_xa a) s.heap.size) s H locs (ot_xW d a (mt, fd, fl, hd, ct, w1, ps, pv)) → ∀ (ls : Array Slot), lv_has ls 8 [(0, .ref (a 0)), (2, .int (nI (fr))), (3, .int (nI (to))), (4, .int (nI (i))), (5, .int (nI (ot_anc q0 i))), (6, .int (nI (i)))] → W p l e rmX0_placeAfter s m ([.ref (a 0), .int (nI (q0)), .int (nI (fr)), .int (nI (to))] : List Value).toArray below meth c H locs 0 0 (ot_Zi G d (ot_xa a) (ot_xW d a) (fun r u => ∃ (wy' : Nat → Int32), u = (mt, fd, fl, hd, ct, wy', ps, pv) ∧ r = nI (ot_plc fr to 3 q0)) below ([.ref (a 0), .int (nI (q0)), .int (nI (fr)), .int (nI (to))] : List Value).toArray s) (F0 m 9 ls []) := by
    intro n
    induction n with
    | zero =>
      intro i w1 hn hw hne hu H locs hI ls hl
      refine lv_iload hx hb dX0_placeAfter_9 (lv_at hl 5 rfl) ?_
      refine lv_iconst (v := 3) hx hb dX0_placeAfter_11 (by decide) ?_
      refine ot_icmp_ge hx hb (a := i) (b := 3) rfl rfl (by omega) (by omega) (tgt := 51) dX0_placeAfter_12 (by decide) (fun _ => ?_) (fun c_ => absurd (by omega) c_)
      exact mid i w1 (by omega) hw hne (hu.resolve_right (by simp [ot_und])) _ _ hI _ (lv_sub hl [0, 2, 3] rfl)
    | succ n ih =>
      intro i w1 hn hw hne hu H locs hI ls hl
      have hi85 := hanc i
      refine lv_iload hx hb dX0_placeAfter_9 (lv_at hl 5 rfl) ?_
      refine lv_iconst (v := 3) hx hb dX0_placeAfter_11 (by decide) ?_
      refine ot_icmp_ge hx hb (a := i) (b := 3) rfl rfl (by omega) (by omega) (tgt := 51) dX0_placeAfter_12 (by decide) (fun c_ => absurd c_ (by omega)) (fun _ => ?_)
      refine lv_iload hx hb dX0_placeAfter_15 (lv_at hl 4 rfl) ?_
      refine lv_iload_n hx hb dX0_placeAfter_17 rfl (lv_at hl 1 rfl) ?_
      refine ot_icmp_eq hx hb (a := ot_anc q0 i) (b := fr) rfl rfl (by omega) (by omega) (tgt := 51) dX0_placeAfter_18 (by decide) (fun c18 => ?_) (fun c18 => ?_)
      · skip
        exact mid i w1 (by omega) hw hne c18 _ _ hI _ (lv_sub hl [0, 2, 3] rfl)
      · skip
        have hu1 := hu.resolve_left c18
        have hip := ot_und_pos hu1
        have hu2 : ot_anc q0 (i + 1) = fr ∨ ot_und n (ot_anc q0 (i + 1)) fr = true := by
          rw [ot_und, if_neg (by omega)] at hu1
          split at hu1
          · exact Or.inl (by assumption)
          · exact Or.inr hu1
        refine lv_aload_n hx hb dX0_placeAfter_21 rfl (lv_at hl 0 rfl) ?_
        refine ot_xg5 hC hK hI.1 dX0_placeAfter_22 ?_
        refine lv_iload hx hb dX0_placeAfter_25 (lv_at hl 3 rfl) ?_
        refine lv_iload hx hb dX0_placeAfter_27 (lv_at hl 4 rfl) ?_
        refine lv_iconst (v := 1) hx hb dX0_placeAfter_29 (by decide) ?_
        refine lv_isub hx hb dX0_placeAfter_30 ?_
        refine lv_iconst (v := 4) hx hb dX0_placeAfter_31 (by decide) ?_
        refine lv_irem hx hb dX0_placeAfter_32 (by decide) ?_
        refine ot_r (y := nI ((ot_anc q0 i - 1) % 4)) (ot_remI hip (by omega)) ?_
        refine ot_xs3 hC hK hI (j := i) rfl (by omega) dX0_placeAfter_33 (fun H locs hI => ?_)
        refine lv_iinc (v := nI (i + 1)) (lv' := [(4, .int (nI (i + 1))), (0, .ref (a 0)), (2, .int (nI (fr))), (3, .int (nI (to))), (5, .int (nI (ot_anc q0 i))), (6, .int (nI (i)))]) hx hb dX0_placeAfter_34 hl (k := 3) rfl (ot_inc _) (by decide) rfl (fun ls hl => ?_)
        refine lv_iload hx hb dX0_placeAfter_37 (lv_at hl 4 rfl) ?_
        refine lv_iconst (v := 1) hx hb dX0_placeAfter_39 (by decide) ?_
        refine lv_isub hx hb dX0_placeAfter_40 ?_
        refine lv_iconst (v := 4) hx hb dX0_placeAfter_41 (by decide) ?_
        refine lv_idiv hx hb dX0_placeAfter_42 (by decide) ?_
        refine ot_r (y := nI (ot_anc q0 (i + 1))) (ot_parI (by omega)) ?_
        refine lv_istore (lv' := [(5, .int (nI (ot_anc q0 (i + 1)))), (4, .int (nI (i + 1))), (0, .ref (a 0)), (2, .int (nI (fr))), (3, .int (nI (to))), (6, .int (nI (i)))]) hx hb dX0_placeAfter_43 hl (by decide) rfl (fun ls hl => ?_)
        refine lv_iinc (v := nI (i + 1)) (lv' := [(6, .int (nI (i + 1))), (5, .int (nI (ot_anc q0 (i + 1)))), (4, .int (nI (i + 1))), (0, .ref (a 0)), (2, .int (nI (fr))), (3, .int (nI (to)))]) hx hb dX0_placeAfter_45 hl (k := 5) rfl (ot_inc _) (by decide) rfl (fun ls hl => ?_)
        refine lv_goto (tgt := 9) hx hb dX0_placeAfter_48 (by decide) ?_
        exact ih (i + 1) _ (by omega) (ot_way (g := fun k => nI ((ot_anc q0 k - 1) % 4)) hw rfl) (lt_s hne c18) hu2 _ _ hI _ (lv_sub hl [3, 4, 5, 2, 1, 0] rfl)
  refine lv_iconst (v := 0) hx hb dX0_placeAfter_0 (by decide) ?_
  refine lv_istore (lv' := [(4, .int (0)), (0, .ref (a 0)), (1, .int (nI (q0))), (2, .int (nI (fr))), (3, .int (nI (to)))]) hx hb dX0_placeAfter_1 hl (by decide) rfl (fun ls hl => ?_)
  refine lv_iload_n hx hb dX0_placeAfter_3 rfl (lv_at hl 2 rfl) ?_
  refine lv_istore (lv' := [(5, .int (nI (q0))), (4, .int (0)), (0, .ref (a 0)), (1, .int (nI (q0))), (2, .int (nI (fr))), (3, .int (nI (to)))]) hx hb dX0_placeAfter_4 hl (by decide) rfl (fun ls hl => ?_)
  refine lv_iconst (v := 0) hx hb dX0_placeAfter_6 (by decide) ?_
  refine lv_istore (lv' := [(6, .int (0)), (5, .int (nI (q0))), (4, .int (0)), (0, .ref (a 0)), (1, .int (nI (q0))), (2, .int (nI (fr))), (3, .int (nI (to)))]) hx hb dX0_placeAfter_7 hl (by decide) rfl (fun ls hl => ?_)
  exact lp1 3 0 wy (by omega) (fun k h => absurd h (by omega)) (fun k h => absurd h (by omega)) hu0 _ _ hI _ (lv_sub hl [3, 5, 6, 2, 1, 0] rfl)
set_option maxHeartbeats 4000000 in
set_option maxRecDepth 100000 in
theorem xm_copyPart (l : Launch) (G : va_G) (d : ClassId) (a : Nat → Nat) (mt fd fl : Int32) (hd ct wy ps pv : Nat → Int32) (fr to : Nat) (hfr : fr < 85) (hto : to < 85) : ot_Mi l G d yX0_copyPart cX0_copyPart 7 (some .int) rmX0_copyPart (ot_xa a) (ot_xW d a) ([.ref (a 0), .int (nI (fr)), .int (nI (to))] : List Value) (mt, fd, fl, hd, ct, wy, ps, pv) (fun r u => ∃ (fd' fl' : Int32) (wy' ps' pv' : Nat → Int32), u = (mt, fd', fl', hd, ct, wy', ps', pv') ∧ ot_cpQ (ot_cp hd ct mt fr to (85 - fr) fr 0 (ot_zer ps 85 0) pv) r ps' pv') := by
  refine ot_Mi_of (by decide) rfl (Nat.le_of_ble_eq_true rfl) ?_
  intro p e s m below meth c hC hK hr hlk hI ls hl
  have hC : CallFix p m c cX0_copyPart 7 s ([.ref (a 0), .int (nI (fr)), .int (nI (to))] : List Value).toArray lw_all RX0 := hC
  have hx := hC.1
  have hb := hC.2.1
  have hA : ∀ q, s.heap.size ≤ q → ot_F (ot_xa a) s.heap.size q := fun q h => Or.inr h
  have hl : lv_has ls 7 [(0, .ref (a 0)), (1, .int (nI (fr))), (2, .int (nI (to)))] := hl
  have lp2 : ∀ (j q n : Nat) (fd1 fl1 : Int32) (wy1 ps1 pv1 : Nat → Int32) (hq : q + j = 85) (hR : ot_cp hd ct mt fr to j q n ps1 pv1 = ot_cp hd ct mt fr to (85 - fr) fr 0 (ot_zer ps 85 0) pv), ∀ (H : Heap) (locs : List Loc), ot_I G (ot_F (ot_xa a) s.heap.size) s H locs (ot_xW d a (mt, fd1, fl1, hd, ct, wy1, ps1, pv1)) → ∀ (ls : Array Slot), lv_has ls 7 [(0, .ref (a 0)), (1, .int (nI (fr))), (2, .int (nI (to))), (3, .int (nI (n))), (4, .int (nI (q)))] → W p l e rmX0_copyPart s m ([.ref (a 0), .int (nI (fr)), .int (nI (to))] : List Value).toArray below meth c H locs 0 0 (ot_Zi G d (ot_xa a) (ot_xW d a) (fun r u => ∃ (fd' fl' : Int32) (wy' ps' pv' : Nat → Int32), u = (mt, fd', fl', hd, ct, wy', ps', pv') ∧ ot_cpQ (ot_cp hd ct mt fr to (85 - fr) fr 0 (ot_zer ps 85 0) pv) r ps' pv') below ([.ref (a 0), .int (nI (fr)), .int (nI (to))] : List Value).toArray s) (F0 m 26 ls []) := by
    intro j
    induction j with
    | zero =>
      intro q n fd1 fl1 wy1 ps1 pv1 hq hR H locs hI ls hl
      refine lv_iload hx hb dX0_copyPart_26 (lv_at hl 4 rfl) ?_
      refine lv_bipush (v := 85) hx hb dX0_copyPart_28 (by decide) ?_
      refine ot_icmp_ge hx hb (a := q) (b := 85) rfl rfl (by omega) (by omega) (tgt := 134) dX0_copyPart_30 (by decide) (fun _ => ?_) (fun c_ => absurd (by omega) c_)
      refine lv_iload_n hx hb dX0_copyPart_134 rfl (lv_at hl 3 rfl) ?_
      exact ot_iret (u := (mt, fd1, fl1, hd, ct, wy1, ps1, pv1)) hC hK hr hlk hI (⟨_, _, _, _, _, rfl, by rw [← hR]; exact ⟨rfl, rfl, rfl⟩⟩) dX0_copyPart_135
    | succ j ih =>
      intro q n fd1 fl1 wy1 ps1 pv1 hq hR H locs hI ls hl
      refine lv_iload hx hb dX0_copyPart_26 (lv_at hl 4 rfl) ?_
      refine lv_bipush (v := 85) hx hb dX0_copyPart_28 (by decide) ?_
      refine ot_icmp_ge hx hb (a := q) (b := 85) rfl rfl (by omega) (by omega) (tgt := 134) dX0_copyPart_30 (by decide) (fun c_ => absurd c_ (by omega)) (fun _ => ?_)
      refine lv_iload hx hb dX0_copyPart_33 (lv_at hl 4 rfl) ?_
      refine lv_iload_n hx hb dX0_copyPart_35 rfl (lv_at hl 1 rfl) ?_
      refine ot_icmp_eq hx hb (a := q) (b := fr) rfl rfl (by omega) (by omega) (tgt := 48) dX0_copyPart_36 (by decide) (fun c36 => ?_) (fun c36 => ?_)
      · skip
        have hu : q = fr ∨ ot_und 3 q fr = true := Or.inl c36
        refine lv_aload_n hx hb dX0_copyPart_48 rfl (lv_at hl 0 rfl) ?_
        refine lv_iload hx hb dX0_copyPart_49 (lv_at hl 4 rfl) ?_
        refine ot_xci [.int (nI (q))] [] (xm_sort l G d a mt fd1 fl1 hd ct wy1 ps1 pv1 (nI (q))) hC hK hI hA (cwV 1 hC.2.2.2.2 (lw_V q67 q68 q69 q16 q70) rfl rfl rfl ok_yX0_sort ⟨Nat.le_of_ble_eq_true rfl, Nat.le_of_ble_eq_true rfl⟩) rfl rfl hl.1 (Nat.le_of_ble_eq_true rfl) dX0_copyPart_51 ⟨Nat.zero_le _, Nat.zero_le _⟩ (fun r15 u15 H locs hp15 hI => ?_)
        obtain ⟨fd15, fl15, wy15, rfl, hr15, hf15⟩ := hp15
        rw [ot_xsI (by omega)] at hr15
        subst hr15
        refine lv_goto (tgt := 58) hx hb dX0_copyPart_54 (by decide) ?_
        refine lv_istore (lv' := [(5, .int (ot_srt mt (hd) (q))), (0, .ref (a 0)), (1, .int (nI (fr))), (2, .int (nI (to))), (3, .int (nI (n))), (4, .int (nI (q)))]) hx hb dX0_copyPart_58 hl (by decide) rfl (fun ls hl => ?_)
        refine lv_iload hx hb dX0_copyPart_60 (lv_at hl 0 rfl) ?_
        refine lv_if_le (tgt := 128) hx hb dX0_copyPart_62 (by decide) (fun c62 => ?_) (fun c62 => ?_)
        · skip
          refine lv_iinc (v := nI (q + 1)) (lv' := [(4, .int (nI (q + 1))), (5, .int (ot_srt mt (hd) (q))), (0, .ref (a 0)), (1, .int (nI (fr))), (2, .int (nI (to))), (3, .int (nI (n)))]) hx hb dX0_copyPart_128 hl (k := 5) rfl (ot_inc _) (by decide) rfl (fun ls hl => ?_)
          refine lv_goto (tgt := 26) hx hb dX0_copyPart_131 (by decide) ?_
          exact ih (q + 1) n _ _ _ _ _ (by omega) (by rw [← hR, ot_cp, if_neg (fun z => z.2 c62)]) _ _ hI _ (lv_sub hl [2, 3, 4, 5, 0] rfl)
        · skip
          refine lv_aload_n hx hb dX0_copyPart_65 rfl (lv_at hl 1 rfl) ?_
          refine lv_iload hx hb dX0_copyPart_66 (lv_at hl 5 rfl) ?_
          refine lv_iload_n hx hb dX0_copyPart_68 rfl (lv_at hl 2 rfl) ?_
          refine lv_iload_n hx hb dX0_copyPart_69 rfl (lv_at hl 3 rfl) ?_
          refine ot_xci [.int (nI (q)), .int (nI (fr)), .int (nI (to))] [] (xm_placeAfter l G d a mt fd15 fl15 hd ct wy15 ps1 pv1 (q) (fr) (to) (by omega) (by omega) (by omega) hu) hC hK hI hA (cwV 3 hC.2.2.2.2 (lw_V q138 q140 qs9 q16 q141) rfl rfl rfl ok_yX0_placeAfter ⟨Nat.le_of_ble_eq_true rfl, Nat.le_of_ble_eq_true rfl⟩) rfl rfl hl.1 (Nat.le_of_ble_eq_true rfl) dX0_copyPart_70 ⟨Nat.zero_le _, Nat.zero_le _⟩ (fun r16 u16 H locs hp16 hI => ?_)
          obtain ⟨wy16, rfl, rfl⟩ := hp16
          have hpl := ot_plc_le fr hto q
          refine lv_istore (lv' := [(6, .int (nI (ot_plc fr to 3 q))), (5, .int (ot_srt mt (hd) (q))), (0, .ref (a 0)), (1, .int (nI (fr))), (2, .int (nI (to))), (3, .int (nI (n))), (4, .int (nI (q)))]) hx hb dX0_copyPart_73 hl (by decide) rfl (fun ls hl => ?_)
          refine lv_iload hx hb dX0_copyPart_75 (lv_at hl 0 rfl) ?_
          refine lv_bipush (v := 84) hx hb dX0_copyPart_77 (by decide) ?_
          refine ot_icmp_le hx hb (a := ot_plc fr to 3 q) (b := 84) rfl rfl (by omega) (by omega) (tgt := 84) dX0_copyPart_79 (by decide) (fun c79 => ?_) (fun c79 => ?_)
          · skip
            refine lv_aload_n hx hb dX0_copyPart_84 rfl (lv_at hl 2 rfl) ?_
            refine ot_xg6 hC hK hI.1 dX0_copyPart_85 ?_
            refine lv_iload hx hb dX0_copyPart_88 (lv_at hl 0 rfl) ?_
            refine lv_iload hx hb dX0_copyPart_90 (lv_at hl 1 rfl) ?_
            refine ot_xs4 hC hK hI (j := ot_plc fr to 3 q) rfl (by omega) dX0_copyPart_92 (fun H locs hI => ?_)
            refine lv_aload_n hx hb dX0_copyPart_93 rfl (lv_at hl 2 rfl) ?_
            refine ot_xg7 hC hK hI.1 dX0_copyPart_94 ?_
            refine lv_iload hx hb dX0_copyPart_97 (lv_at hl 0 rfl) ?_
            refine lv_iload hx hb dX0_copyPart_99 (lv_at hl 1 rfl) ?_
            refine lv_iconst (v := 1) hx hb dX0_copyPart_101 (by decide) ?_
            refine lv_icmp_ne (tgt := 123) hx hb dX0_copyPart_102 (by decide) (fun c102 => ?_) (fun c102 => ?_)
            · skip
              refine lv_iconst (v := 0) hx hb dX0_copyPart_123 (by decide) ?_
              refine ot_xs5 hC hK hI (j := ot_plc fr to 3 q) rfl (by omega) dX0_copyPart_124 (fun H locs hI => ?_)
              refine lv_iinc (v := nI (n + 1)) (lv' := [(3, .int (nI (n + 1))), (6, .int (nI (ot_plc fr to 3 q))), (5, .int (ot_srt mt (hd) (q))), (0, .ref (a 0)), (1, .int (nI (fr))), (2, .int (nI (to))), (4, .int (nI (q)))]) hx hb dX0_copyPart_125 hl (k := 5) rfl (ot_inc _) (by decide) rfl (fun ls hl => ?_)
              refine lv_iinc (v := nI (q + 1)) (lv' := [(4, .int (nI (q + 1))), (3, .int (nI (n + 1))), (6, .int (nI (ot_plc fr to 3 q))), (5, .int (ot_srt mt (hd) (q))), (0, .ref (a 0)), (1, .int (nI (fr))), (2, .int (nI (to)))]) hx hb dX0_copyPart_128 hl (k := 6) rfl (ot_inc _) (by decide) rfl (fun ls hl => ?_)
              refine lv_goto (tgt := 26) hx hb dX0_copyPart_131 (by decide) ?_
              exact ih (q + 1) (n + 1) _ _ _ _ _ (by omega) (by rw [← hR, ot_cp, if_pos ⟨hu, c62⟩, if_neg (by omega), if_neg c102]) _ _ hI _ (lv_sub hl [4, 5, 6, 1, 0] rfl)
            · skip
              obtain ⟨hm, y, hy, hs, h1⟩ := ot_ss1 c102
              obtain rfl : fd15 = nI y := by rw [hf15 hm (ot_nlt (by omega)) (ot_n84 (by omega)), ot_kI (by omega), hs]; rfl
              refine lv_aload_n hx hb dX0_copyPart_105 rfl (lv_at hl 2 rfl) ?_
              refine ot_xg2 hC hK hI.1 dX0_copyPart_106 ?_
              refine lv_bipush (v := 85) hx hb dX0_copyPart_109 (by decide) ?_
              refine lv_aload_n hx hb dX0_copyPart_111 rfl (lv_at hl 2 rfl) ?_
              refine ot_xg3 hC hK hI.1 dX0_copyPart_112 ?_
              refine ot_imul hx hb (a := 85) (b := y) rfl rfl dX0_copyPart_115 ?_
              refine lv_iload hx hb dX0_copyPart_116 (lv_at hl 6 rfl) ?_
              refine ot_iadd hx hb (a := 85 * y) (b := q) rfl rfl dX0_copyPart_118 ?_
              refine ot_xl2 hC hK hI.1 (j := 85 * y + q) rfl (by omega) dX0_copyPart_119 ?_
              refine lv_goto (tgt := 124) hx hb dX0_copyPart_120 (by decide) ?_
              refine ot_xs5 hC hK hI (j := ot_plc fr to 3 q) rfl (by omega) dX0_copyPart_124 (fun H locs hI => ?_)
              refine lv_iinc (v := nI (n + 1)) (lv' := [(3, .int (nI (n + 1))), (6, .int (nI (ot_plc fr to 3 q))), (5, .int (ot_srt mt (hd) (q))), (0, .ref (a 0)), (1, .int (nI (fr))), (2, .int (nI (to))), (4, .int (nI (q)))]) hx hb dX0_copyPart_125 hl (k := 5) rfl (ot_inc _) (by decide) rfl (fun ls hl => ?_)
              refine lv_iinc (v := nI (q + 1)) (lv' := [(4, .int (nI (q + 1))), (3, .int (nI (n + 1))), (6, .int (nI (ot_plc fr to 3 q))), (5, .int (ot_srt mt (hd) (q))), (0, .ref (a 0)), (1, .int (nI (fr))), (2, .int (nI (to)))]) hx hb dX0_copyPart_128 hl (k := 6) rfl (ot_inc _) (by decide) rfl (fun ls hl => ?_)
              refine lv_goto (tgt := 26) hx hb dX0_copyPart_131 (by decide) ?_
              exact ih (q + 1) (n + 1) _ _ _ _ _ (by omega) (by rw [← hR, ot_cp, if_pos ⟨hu, c62⟩, if_neg (by omega), if_pos c102, ot_vl_1 hs h1]) _ _ hI _ (lv_sub hl [4, 5, 6, 1, 0] rfl)
          · skip
            refine lv_iconst (v := (-1)) hx hb dX0_copyPart_82 (by decide) ?_
            exact ot_iret (u := (mt, fd15, fl15, hd, ct, wy16, ps1, pv1)) hC hK hr hlk hI (⟨_, _, _, _, _, rfl, by rw [← hR, ot_cp, if_pos ⟨hu, c62⟩, if_pos (by omega)]; rfl⟩) dX0_copyPart_83
      · skip
        refine lv_iload hx hb dX0_copyPart_39 (lv_at hl 4 rfl) ?_
        refine lv_iload_n hx hb dX0_copyPart_41 rfl (lv_at hl 1 rfl) ?_
        refine ot_calls (As := [.int (nI (q)), .int (nI (fr))]) (rest := []) (xm_isUnder l (q) (fr) (by omega) (by omega)) hC (va_cwS 2 hC.2.2.2.2 (lw_S q127 q128 q16 q129) rfl rfl rfl ok_yX0_isUnder ⟨Nat.le_of_ble_eq_true rfl, Nat.le_of_ble_eq_true rfl⟩) rfl rfl hl.1 (Nat.le_of_ble_eq_true rfl) dX0_copyPart_42 ⟨Nat.zero_le _, Nat.zero_le _⟩ ?_
        refine lv_if_eq (tgt := 57) hx hb dX0_copyPart_45 (by decide) (fun c45 => ?_) (fun c45 => ?_)
        · skip
          refine lv_iconst (v := 0) hx hb dX0_copyPart_57 (by decide) ?_
          refine lv_istore (lv' := [(5, .int (0)), (0, .ref (a 0)), (1, .int (nI (fr))), (2, .int (nI (to))), (3, .int (nI (n))), (4, .int (nI (q)))]) hx hb dX0_copyPart_58 hl (by decide) rfl (fun ls hl => ?_)
          refine lv_iload hx hb dX0_copyPart_60 (lv_at hl 0 rfl) ?_
          refine lv_if_le (tgt := 128) hx hb dX0_copyPart_62 (by decide) (fun _ => ?_) (fun c_ => absurd (by decide) c_)
          refine lv_iinc (v := nI (q + 1)) (lv' := [(4, .int (nI (q + 1))), (5, .int (0)), (0, .ref (a 0)), (1, .int (nI (fr))), (2, .int (nI (to))), (3, .int (nI (n)))]) hx hb dX0_copyPart_128 hl (k := 5) rfl (ot_inc _) (by decide) rfl (fun ls hl => ?_)
          refine lv_goto (tgt := 26) hx hb dX0_copyPart_131 (by decide) ?_
          exact ih (q + 1) n _ _ _ _ _ (by omega) (by rw [← hR, ot_cp, if_neg (fun z => z.1.elim c36 (fun z => by rw [ot_b0.mp c45] at z; cases z))]) _ _ hI _ (lv_sub hl [2, 3, 4, 5, 0] rfl)
        · skip
          have hu : q = fr ∨ ot_und 3 q fr = true := Or.inr (ot_bt c45)
          refine lv_aload_n hx hb dX0_copyPart_48 rfl (lv_at hl 0 rfl) ?_
          refine lv_iload hx hb dX0_copyPart_49 (lv_at hl 4 rfl) ?_
          refine ot_xci [.int (nI (q))] [] (xm_sort l G d a mt fd1 fl1 hd ct wy1 ps1 pv1 (nI (q))) hC hK hI hA (cwV 1 hC.2.2.2.2 (lw_V q67 q68 q69 q16 q70) rfl rfl rfl ok_yX0_sort ⟨Nat.le_of_ble_eq_true rfl, Nat.le_of_ble_eq_true rfl⟩) rfl rfl hl.1 (Nat.le_of_ble_eq_true rfl) dX0_copyPart_51 ⟨Nat.zero_le _, Nat.zero_le _⟩ (fun r17 u17 H locs hp17 hI => ?_)
          obtain ⟨fd17, fl17, wy17, rfl, hr17, hf17⟩ := hp17
          rw [ot_xsI (by omega)] at hr17
          subst hr17
          refine lv_goto (tgt := 58) hx hb dX0_copyPart_54 (by decide) ?_
          refine lv_istore (lv' := [(5, .int (ot_srt mt (hd) (q))), (0, .ref (a 0)), (1, .int (nI (fr))), (2, .int (nI (to))), (3, .int (nI (n))), (4, .int (nI (q)))]) hx hb dX0_copyPart_58 hl (by decide) rfl (fun ls hl => ?_)
          refine lv_iload hx hb dX0_copyPart_60 (lv_at hl 0 rfl) ?_
          refine lv_if_le (tgt := 128) hx hb dX0_copyPart_62 (by decide) (fun c62 => ?_) (fun c62 => ?_)
          · skip
            refine lv_iinc (v := nI (q + 1)) (lv' := [(4, .int (nI (q + 1))), (5, .int (ot_srt mt (hd) (q))), (0, .ref (a 0)), (1, .int (nI (fr))), (2, .int (nI (to))), (3, .int (nI (n)))]) hx hb dX0_copyPart_128 hl (k := 5) rfl (ot_inc _) (by decide) rfl (fun ls hl => ?_)
            refine lv_goto (tgt := 26) hx hb dX0_copyPart_131 (by decide) ?_
            exact ih (q + 1) n _ _ _ _ _ (by omega) (by rw [← hR, ot_cp, if_neg (fun z => z.2 c62)]) _ _ hI _ (lv_sub hl [2, 3, 4, 5, 0] rfl)
          · skip
            refine lv_aload_n hx hb dX0_copyPart_65 rfl (lv_at hl 1 rfl) ?_
            refine lv_iload hx hb dX0_copyPart_66 (lv_at hl 5 rfl) ?_
            refine lv_iload_n hx hb dX0_copyPart_68 rfl (lv_at hl 2 rfl) ?_
            refine lv_iload_n hx hb dX0_copyPart_69 rfl (lv_at hl 3 rfl) ?_
            refine ot_xci [.int (nI (q)), .int (nI (fr)), .int (nI (to))] [] (xm_placeAfter l G d a mt fd17 fl17 hd ct wy17 ps1 pv1 (q) (fr) (to) (by omega) (by omega) (by omega) hu) hC hK hI hA (cwV 3 hC.2.2.2.2 (lw_V q138 q140 qs9 q16 q141) rfl rfl rfl ok_yX0_placeAfter ⟨Nat.le_of_ble_eq_true rfl, Nat.le_of_ble_eq_true rfl⟩) rfl rfl hl.1 (Nat.le_of_ble_eq_true rfl) dX0_copyPart_70 ⟨Nat.zero_le _, Nat.zero_le _⟩ (fun r18 u18 H locs hp18 hI => ?_)
            obtain ⟨wy18, rfl, rfl⟩ := hp18
            have hpl := ot_plc_le fr hto q
            refine lv_istore (lv' := [(6, .int (nI (ot_plc fr to 3 q))), (5, .int (ot_srt mt (hd) (q))), (0, .ref (a 0)), (1, .int (nI (fr))), (2, .int (nI (to))), (3, .int (nI (n))), (4, .int (nI (q)))]) hx hb dX0_copyPart_73 hl (by decide) rfl (fun ls hl => ?_)
            refine lv_iload hx hb dX0_copyPart_75 (lv_at hl 0 rfl) ?_
            refine lv_bipush (v := 84) hx hb dX0_copyPart_77 (by decide) ?_
            refine ot_icmp_le hx hb (a := ot_plc fr to 3 q) (b := 84) rfl rfl (by omega) (by omega) (tgt := 84) dX0_copyPart_79 (by decide) (fun c79 => ?_) (fun c79 => ?_)
            · skip
              refine lv_aload_n hx hb dX0_copyPart_84 rfl (lv_at hl 2 rfl) ?_
              refine ot_xg6 hC hK hI.1 dX0_copyPart_85 ?_
              refine lv_iload hx hb dX0_copyPart_88 (lv_at hl 0 rfl) ?_
              refine lv_iload hx hb dX0_copyPart_90 (lv_at hl 1 rfl) ?_
              refine ot_xs4 hC hK hI (j := ot_plc fr to 3 q) rfl (by omega) dX0_copyPart_92 (fun H locs hI => ?_)
              refine lv_aload_n hx hb dX0_copyPart_93 rfl (lv_at hl 2 rfl) ?_
              refine ot_xg7 hC hK hI.1 dX0_copyPart_94 ?_
              refine lv_iload hx hb dX0_copyPart_97 (lv_at hl 0 rfl) ?_
              refine lv_iload hx hb dX0_copyPart_99 (lv_at hl 1 rfl) ?_
              refine lv_iconst (v := 1) hx hb dX0_copyPart_101 (by decide) ?_
              refine lv_icmp_ne (tgt := 123) hx hb dX0_copyPart_102 (by decide) (fun c102 => ?_) (fun c102 => ?_)
              · skip
                refine lv_iconst (v := 0) hx hb dX0_copyPart_123 (by decide) ?_
                refine ot_xs5 hC hK hI (j := ot_plc fr to 3 q) rfl (by omega) dX0_copyPart_124 (fun H locs hI => ?_)
                refine lv_iinc (v := nI (n + 1)) (lv' := [(3, .int (nI (n + 1))), (6, .int (nI (ot_plc fr to 3 q))), (5, .int (ot_srt mt (hd) (q))), (0, .ref (a 0)), (1, .int (nI (fr))), (2, .int (nI (to))), (4, .int (nI (q)))]) hx hb dX0_copyPart_125 hl (k := 5) rfl (ot_inc _) (by decide) rfl (fun ls hl => ?_)
                refine lv_iinc (v := nI (q + 1)) (lv' := [(4, .int (nI (q + 1))), (3, .int (nI (n + 1))), (6, .int (nI (ot_plc fr to 3 q))), (5, .int (ot_srt mt (hd) (q))), (0, .ref (a 0)), (1, .int (nI (fr))), (2, .int (nI (to)))]) hx hb dX0_copyPart_128 hl (k := 6) rfl (ot_inc _) (by decide) rfl (fun ls hl => ?_)
                refine lv_goto (tgt := 26) hx hb dX0_copyPart_131 (by decide) ?_
                exact ih (q + 1) (n + 1) _ _ _ _ _ (by omega) (by rw [← hR, ot_cp, if_pos ⟨hu, c62⟩, if_neg (by omega), if_neg c102]) _ _ hI _ (lv_sub hl [4, 5, 6, 1, 0] rfl)
              · skip
                obtain ⟨hm, y, hy, hs, h1⟩ := ot_ss1 c102
                obtain rfl : fd17 = nI y := by rw [hf17 hm (ot_nlt (by omega)) (ot_n84 (by omega)), ot_kI (by omega), hs]; rfl
                refine lv_aload_n hx hb dX0_copyPart_105 rfl (lv_at hl 2 rfl) ?_
                refine ot_xg2 hC hK hI.1 dX0_copyPart_106 ?_
                refine lv_bipush (v := 85) hx hb dX0_copyPart_109 (by decide) ?_
                refine lv_aload_n hx hb dX0_copyPart_111 rfl (lv_at hl 2 rfl) ?_
                refine ot_xg3 hC hK hI.1 dX0_copyPart_112 ?_
                refine ot_imul hx hb (a := 85) (b := y) rfl rfl dX0_copyPart_115 ?_
                refine lv_iload hx hb dX0_copyPart_116 (lv_at hl 6 rfl) ?_
                refine ot_iadd hx hb (a := 85 * y) (b := q) rfl rfl dX0_copyPart_118 ?_
                refine ot_xl2 hC hK hI.1 (j := 85 * y + q) rfl (by omega) dX0_copyPart_119 ?_
                refine lv_goto (tgt := 124) hx hb dX0_copyPart_120 (by decide) ?_
                refine ot_xs5 hC hK hI (j := ot_plc fr to 3 q) rfl (by omega) dX0_copyPart_124 (fun H locs hI => ?_)
                refine lv_iinc (v := nI (n + 1)) (lv' := [(3, .int (nI (n + 1))), (6, .int (nI (ot_plc fr to 3 q))), (5, .int (ot_srt mt (hd) (q))), (0, .ref (a 0)), (1, .int (nI (fr))), (2, .int (nI (to))), (4, .int (nI (q)))]) hx hb dX0_copyPart_125 hl (k := 5) rfl (ot_inc _) (by decide) rfl (fun ls hl => ?_)
                refine lv_iinc (v := nI (q + 1)) (lv' := [(4, .int (nI (q + 1))), (3, .int (nI (n + 1))), (6, .int (nI (ot_plc fr to 3 q))), (5, .int (ot_srt mt (hd) (q))), (0, .ref (a 0)), (1, .int (nI (fr))), (2, .int (nI (to)))]) hx hb dX0_copyPart_128 hl (k := 6) rfl (ot_inc _) (by decide) rfl (fun ls hl => ?_)
                refine lv_goto (tgt := 26) hx hb dX0_copyPart_131 (by decide) ?_
                exact ih (q + 1) (n + 1) _ _ _ _ _ (by omega) (by rw [← hR, ot_cp, if_pos ⟨hu, c62⟩, if_neg (by omega), if_pos c102, ot_vl_1 hs h1]) _ _ hI _ (lv_sub hl [4, 5, 6, 1, 0] rfl)
            · skip
              refine lv_iconst (v := (-1)) hx hb dX0_copyPart_82 (by decide) ?_
              exact ot_iret (u := (mt, fd17, fl17, hd, ct, wy18, ps1, pv1)) hC hK hr hlk hI (⟨_, _, _, _, _, rfl, by rw [← hR, ot_cp, if_pos ⟨hu, c62⟩, if_pos (by omega)]; rfl⟩) dX0_copyPart_83
  have lp1 : ∀ (j q : Nat) (ps1 : Nat → Int32) (hq : q + j = 85) (hR : ot_zer ps1 j q = ot_zer ps 85 0), ∀ (H : Heap) (locs : List Loc), ot_I G (ot_F (ot_xa a) s.heap.size) s H locs (ot_xW d a (mt, fd, fl, hd, ct, wy, ps1, pv)) → ∀ (ls : Array Slot), lv_has ls 7 [(0, .ref (a 0)), (1, .int (nI (fr))), (2, .int (nI (to))), (3, .int (nI (q)))] → W p l e rmX0_copyPart s m ([.ref (a 0), .int (nI (fr)), .int (nI (to))] : List Value).toArray below meth c H locs 0 0 (ot_Zi G d (ot_xa a) (ot_xW d a) (fun r u => ∃ (fd' fl' : Int32) (wy' ps' pv' : Nat → Int32), u = (mt, fd', fl', hd, ct, wy', ps', pv') ∧ ot_cpQ (ot_cp hd ct mt fr to (85 - fr) fr 0 (ot_zer ps 85 0) pv) r ps' pv') below ([.ref (a 0), .int (nI (fr)), .int (nI (to))] : List Value).toArray s) (F0 m 2 ls []) := by
    intro j
    induction j with
    | zero =>
      intro q ps1 hq hR H locs hI ls hl
      refine lv_iload_n hx hb dX0_copyPart_2 rfl (lv_at hl 3 rfl) ?_
      refine lv_bipush (v := 85) hx hb dX0_copyPart_3 (by decide) ?_
      refine ot_icmp_ge hx hb (a := q) (b := 85) rfl rfl (by omega) (by omega) (tgt := 21) dX0_copyPart_5 (by decide) (fun _ => ?_) (fun c_ => absurd (by omega) c_)
      refine lv_iconst (v := 0) hx hb dX0_copyPart_21 (by decide) ?_
      refine lv_istore_n (lv' := [(3, .int (0)), (0, .ref (a 0)), (1, .int (nI (fr))), (2, .int (nI (to)))]) hx hb dX0_copyPart_22 rfl hl (by decide) rfl (fun ls hl => ?_)
      refine lv_iload_n hx hb dX0_copyPart_23 rfl (lv_at hl 2 rfl) ?_
      refine lv_istore (lv' := [(4, .int (nI (fr))), (3, .int (0)), (0, .ref (a 0)), (1, .int (nI (fr))), (2, .int (nI (to)))]) hx hb dX0_copyPart_24 hl (by decide) rfl (fun ls hl => ?_)
      exact lp2 (85 - fr) fr 0 fd fl wy ps1 pv (by omega) (by rw [← hR]; rfl) _ _ hI _ (lv_sub hl [2, 3, 4, 1, 0] rfl)
    | succ j ih =>
      intro q ps1 hq hR H locs hI ls hl
      refine lv_iload_n hx hb dX0_copyPart_2 rfl (lv_at hl 3 rfl) ?_
      refine lv_bipush (v := 85) hx hb dX0_copyPart_3 (by decide) ?_
      refine ot_icmp_ge hx hb (a := q) (b := 85) rfl rfl (by omega) (by omega) (tgt := 21) dX0_copyPart_5 (by decide) (fun c_ => absurd c_ (by omega)) (fun _ => ?_)
      refine lv_aload_n hx hb dX0_copyPart_8 rfl (lv_at hl 0 rfl) ?_
      refine ot_xg6 hC hK hI.1 dX0_copyPart_9 ?_
      refine lv_iload_n hx hb dX0_copyPart_12 rfl (lv_at hl 3 rfl) ?_
      refine lv_iconst (v := 0) hx hb dX0_copyPart_13 (by decide) ?_
      refine ot_xs4 hC hK hI (j := q) rfl (by omega) dX0_copyPart_14 (fun H locs hI => ?_)
      refine lv_iinc (v := nI (q + 1)) (lv' := [(3, .int (nI (q + 1))), (0, .ref (a 0)), (1, .int (nI (fr))), (2, .int (nI (to)))]) hx hb dX0_copyPart_15 hl (k := 3) rfl (ot_inc _) (by decide) rfl (fun ls hl => ?_)
      refine lv_goto (tgt := 2) hx hb dX0_copyPart_18 (by decide) ?_
      exact ih (q + 1) _ (by omega) (by rw [← hR, ot_zer]) _ _ hI _ (lv_sub hl [1, 2, 3, 0] rfl)
  refine lv_iconst (v := 0) hx hb dX0_copyPart_0 (by decide) ?_
  refine lv_istore_n (lv' := [(3, .int (0)), (0, .ref (a 0)), (1, .int (nI (fr))), (2, .int (nI (to)))]) hx hb dX0_copyPart_1 rfl hl (by decide) rfl (fun ls hl => ?_)
  exact lp1 85 0 ps (by omega) rfl _ _ hI _ (lv_sub hl [1, 2, 3, 0] rfl)
end
section
set_option maxRecDepth 100000
set_option maxHeartbeats 4000000 in
set_option maxRecDepth 100000 in
theorem xm_fill (l : Launch) (G : va_G) (d : ClassId) (a : Nat → Nat) (mt fd fl : Int32) (hd ct wy ps pv : Nat → Int32) (p0 p1 p2 p3 : Int32) : ot_Mi l G d yX0_fill cX0_fill 6 (some .int) rmX0_fill (ot_xa a) (ot_xW d a) ([.ref (a 0), .int (p0), .int (p1), .int (p2), .int (p3)] : List Value) (mt, fd, fl, hd, ct, wy, ps, pv) (ot_xP (ot_xfill mt hd ct p0 p1 p2 p3)) := by
  refine ot_Mi_of (by decide) rfl (Nat.le_of_ble_eq_true rfl) ?_
  intro p e s m below meth c hC hK hr hlk hI ls hl
  have hC : CallFix p m c cX0_fill 6 s ([.ref (a 0), .int (p0), .int (p1), .int (p2), .int (p3)] : List Value).toArray lw_all RX0 := hC
  have hx := hC.1
  have hb := hC.2.1
  have hA : ∀ q, s.heap.size ≤ q → ot_F (ot_xa a) s.heap.size q := fun q h => Or.inr h
  have hl : lv_has ls 6 [(0, .ref (a 0)), (1, .int (p0)), (2, .int (p1)), (3, .int (p2)), (4, .int (p3))] := hl
  refine lv_aload_n hx hb dX0_fill_0 rfl (lv_at hl 0 rfl) ?_
  refine ot_xg0 hC hK hI.1 dX0_fill_1 ?_
  refine lv_if_ne (tgt := 37) hx hb dX0_fill_4 (by decide) (fun c4 => ?_) (fun c4 => ?_)
  · skip
    refine lv_iconst (v := (-1)) hx hb dX0_fill_37 (by decide) ?_
    exact ot_iret (u := (mt, fd, fl, hd, ct, wy, ps, pv)) hC hK hr hlk hI (ot_xPe (by rw [ot_xfill, if_neg (fun h => c4 h.1)])) dX0_fill_38
  · skip
    refine lv_iload_n hx hb dX0_fill_7 rfl (lv_at hl 1 rfl) ?_
    refine lv_if_lt (tgt := 37) hx hb dX0_fill_8 (by decide) (fun c8 => ?_) (fun c8 => ?_)
    · skip
      refine lv_iconst (v := (-1)) hx hb dX0_fill_37 (by decide) ?_
      exact ot_iret (u := (mt, fd, fl, hd, ct, wy, ps, pv)) hC hK hr hlk hI (ot_xPe (by rw [ot_xfill, if_neg (fun h => h.2.1 c8)])) dX0_fill_38
    · skip
      refine lv_iload_n hx hb dX0_fill_11 rfl (lv_at hl 1 rfl) ?_
      refine lv_iconst (v := 2) hx hb dX0_fill_12 (by decide) ?_
      refine lv_icmp_gt (tgt := 37) hx hb dX0_fill_13 (by decide) (fun c13 => ?_) (fun c13 => ?_)
      · skip
        refine lv_iconst (v := (-1)) hx hb dX0_fill_37 (by decide) ?_
        exact ot_iret (u := (mt, fd, fl, hd, ct, wy, ps, pv)) hC hK hr hlk hI (ot_xPe (by rw [ot_xfill, if_neg (fun h => h.2.2.1 c13)])) dX0_fill_38
      · skip
        refine lv_iload_n hx hb dX0_fill_16 rfl (lv_at hl 2 rfl) ?_
        refine lv_iconst (v := 1) hx hb dX0_fill_17 (by decide) ?_
        refine lv_icmp_lt (tgt := 37) hx hb dX0_fill_18 (by decide) (fun c18 => ?_) (fun c18 => ?_)
        · skip
          refine lv_iconst (v := (-1)) hx hb dX0_fill_37 (by decide) ?_
          exact ot_iret (u := (mt, fd, fl, hd, ct, wy, ps, pv)) hC hK hr hlk hI (ot_xPe (by rw [ot_xfill, if_neg (fun h => h.2.2.2.1 c18)])) dX0_fill_38
        · skip
          refine lv_iload_n hx hb dX0_fill_21 rfl (lv_at hl 2 rfl) ?_
          refine lv_bipush (v := 84) hx hb dX0_fill_22 (by decide) ?_
          refine lv_icmp_gt (tgt := 37) hx hb dX0_fill_24 (by decide) (fun c24 => ?_) (fun c24 => ?_)
          · skip
            refine lv_iconst (v := (-1)) hx hb dX0_fill_37 (by decide) ?_
            exact ot_iret (u := (mt, fd, fl, hd, ct, wy, ps, pv)) hC hK hr hlk hI (ot_xPe (by rw [ot_xfill, if_neg (fun h => h.2.2.2.2.1 c24)])) dX0_fill_38
          · skip
            refine lv_iload_n hx hb dX0_fill_27 rfl (lv_at hl 3 rfl) ?_
            refine lv_iconst (v := 1) hx hb dX0_fill_28 (by decide) ?_
            refine lv_icmp_lt (tgt := 37) hx hb dX0_fill_29 (by decide) (fun c29 => ?_) (fun c29 => ?_)
            · skip
              refine lv_iconst (v := (-1)) hx hb dX0_fill_37 (by decide) ?_
              exact ot_iret (u := (mt, fd, fl, hd, ct, wy, ps, pv)) hC hK hr hlk hI (ot_xPe (by rw [ot_xfill, if_neg (fun h => h.2.2.2.2.2.1 c29)])) dX0_fill_38
            · skip
              refine lv_iload_n hx hb dX0_fill_32 rfl (lv_at hl 3 rfl) ?_
              refine lv_iconst (v := 4) hx hb dX0_fill_33 (by decide) ?_
              refine lv_icmp_le (tgt := 39) hx hb dX0_fill_34 (by decide) (fun c34 => ?_) (fun c34 => ?_)
              · skip
                have hc : mt = 0 ∧ ¬ p0 < 0 ∧ ¬ 2 < p0 ∧ ¬ p1 < 1 ∧ ¬ 84 < p1 ∧ ¬ p2 < 1 ∧ p2 ≤ 4 := ⟨c4, c8, c13, c18, c24, c29, c34⟩
                obtain ⟨y, hy, rfl⟩ := ot_ix2 c8 c13
                obtain ⟨k, hk0, hk, rfl⟩ := ot_ix1 c18 c24
                have hpk := ot_par84 hk
                have ey : ot_k (nI y) = y := ot_kI (by omega)
                have ek : ot_k (nI k) = k := ot_kI (by omega)
                refine lv_aload_n hx hb dX0_fill_39 rfl (lv_at hl 0 rfl) ?_
                refine ot_xg1 hC hK hI.1 dX0_fill_40 ?_
                refine lv_bipush (v := 85) hx hb dX0_fill_43 (by decide) ?_
                refine lv_iload_n hx hb dX0_fill_45 rfl (lv_at hl 1 rfl) ?_
                refine ot_imul hx hb (a := 85) (b := y) rfl rfl dX0_fill_46 ?_
                refine lv_iload_n hx hb dX0_fill_47 rfl (lv_at hl 2 rfl) ?_
                refine ot_calls (As := [.int (nI (k))]) (rest := [.int (nI (85 * y)), .ref (a 1)]) (xm_parentOf l (k) (by omega)) hC (va_cwS 1 hC.2.2.2.2 (lw_S q56 q57 q16 q58) rfl rfl rfl ok_yX0_parentOf ⟨Nat.le_of_ble_eq_true rfl, Nat.le_of_ble_eq_true rfl⟩) rfl rfl hl.1 (Nat.le_of_ble_eq_true rfl) dX0_fill_48 ⟨Nat.zero_le _, Nat.zero_le _⟩ ?_
                refine ot_iadd hx hb (a := 85 * y) (b := ot_par (k)) rfl rfl dX0_fill_51 ?_
                refine ot_xl1 hC hK hI.1 (j := 85 * y + (ot_par (k))) rfl (by omega) dX0_fill_52 ?_
                refine lv_istore (lv' := [(5, .int (hd (85 * y + (ot_par (k))))), (0, .ref (a 0)), (1, .int (nI (y))), (2, .int (nI (k))), (3, .int (p2)), (4, .int (p3))]) hx hb dX0_fill_53 hl (by decide) rfl (fun ls hl => ?_)
                refine lv_aload_n hx hb dX0_fill_55 rfl (lv_at hl 1 rfl) ?_
                refine ot_xg1 hC hK hI.1 dX0_fill_56 ?_
                refine lv_bipush (v := 85) hx hb dX0_fill_59 (by decide) ?_
                refine lv_iload_n hx hb dX0_fill_61 rfl (lv_at hl 2 rfl) ?_
                refine ot_imul hx hb (a := 85) (b := y) rfl rfl dX0_fill_62 ?_
                refine lv_iload_n hx hb dX0_fill_63 rfl (lv_at hl 3 rfl) ?_
                refine ot_iadd hx hb (a := 85 * y) (b := k) rfl rfl dX0_fill_64 ?_
                refine ot_xl1 hC hK hI.1 (j := 85 * y + k) rfl (by omega) dX0_fill_65 ?_
                refine lv_if_ne (tgt := 81) hx hb dX0_fill_66 (by decide) (fun c66 => ?_) (fun c66 => ?_)
                · skip
                  refine lv_iconst (v := (-1)) hx hb dX0_fill_81 (by decide) ?_
                  exact ot_iret (u := (mt, fd, fl, hd, ct, wy, ps, pv)) hC hK hr hlk hI (ot_xPe (by rw [ot_xfill, if_pos hc, ey, ek, if_neg (fun h => c66 h.1)])) dX0_fill_82
                · skip
                  refine lv_iload hx hb dX0_fill_69 (lv_at hl 0 rfl) ?_
                  refine lv_iconst (v := 2) hx hb dX0_fill_71 (by decide) ?_
                  refine lv_icmp_eq (tgt := 83) hx hb dX0_fill_72 (by decide) (fun c72 => ?_) (fun c72 => ?_)
                  · skip
                    refine lv_aload_n hx hb dX0_fill_83 rfl (lv_at hl 1 rfl) ?_
                    refine ot_xg1 hC hK hI.1 dX0_fill_84 ?_
                    refine lv_bipush (v := 85) hx hb dX0_fill_87 (by decide) ?_
                    refine lv_iload_n hx hb dX0_fill_89 rfl (lv_at hl 2 rfl) ?_
                    refine ot_imul hx hb (a := 85) (b := y) rfl rfl dX0_fill_90 ?_
                    refine lv_iload_n hx hb dX0_fill_91 rfl (lv_at hl 3 rfl) ?_
                    refine ot_iadd hx hb (a := 85 * y) (b := k) rfl rfl dX0_fill_92 ?_
                    refine lv_iload_n hx hb dX0_fill_93 rfl (lv_at hl 4 rfl) ?_
                    refine ot_xs1 hC hK hI (j := 85 * y + k) rfl (by omega) dX0_fill_94 (fun H locs hI => ?_)
                    refine lv_aload_n hx hb dX0_fill_95 rfl (lv_at hl 1 rfl) ?_
                    refine ot_xg2 hC hK hI.1 dX0_fill_96 ?_
                    refine lv_bipush (v := 85) hx hb dX0_fill_99 (by decide) ?_
                    refine lv_iload_n hx hb dX0_fill_101 rfl (lv_at hl 2 rfl) ?_
                    refine ot_imul hx hb (a := 85) (b := y) rfl rfl dX0_fill_102 ?_
                    refine lv_iload_n hx hb dX0_fill_103 rfl (lv_at hl 3 rfl) ?_
                    refine ot_iadd hx hb (a := 85 * y) (b := k) rfl rfl dX0_fill_104 ?_
                    refine lv_iload_n hx hb dX0_fill_105 rfl (lv_at hl 4 rfl) ?_
                    refine lv_iconst (v := 1) hx hb dX0_fill_106 (by decide) ?_
                    refine lv_icmp_ne (tgt := 115) hx hb dX0_fill_107 (by decide) (fun c107 => ?_) (fun c107 => ?_)
                    · skip
                      refine lv_iconst (v := 0) hx hb dX0_fill_115 (by decide) ?_
                      refine ot_xs2 hC hK hI (j := 85 * y + k) rfl (by omega) dX0_fill_116 (fun H locs hI => ?_)
                      refine lv_iconst (v := 0) hx hb dX0_fill_117 (by decide) ?_
                      exact ot_iret (u := (mt, fd, fl, upd hd (85 * y + k) (p2), upd ct (85 * y + k) (0), wy, ps, pv)) hC hK hr hlk hI (ot_xPe (by rw [ot_xfill, if_pos hc, ey, ek, if_pos ⟨c66, Or.inl c72⟩, if_neg c107])) dX0_fill_118
                    · skip
                      refine lv_iload hx hb dX0_fill_110 (lv_at hl 5 rfl) ?_
                      refine lv_goto (tgt := 116) hx hb dX0_fill_112 (by decide) ?_
                      refine ot_xs2 hC hK hI (j := 85 * y + k) rfl (by omega) dX0_fill_116 (fun H locs hI => ?_)
                      refine lv_iconst (v := 0) hx hb dX0_fill_117 (by decide) ?_
                      exact ot_iret (u := (mt, fd, fl, upd hd (85 * y + k) (p2), upd ct (85 * y + k) (p3), wy, ps, pv)) hC hK hr hlk hI (ot_xPe (by rw [ot_xfill, if_pos hc, ey, ek, if_pos ⟨c66, Or.inl c72⟩, if_pos c107])) dX0_fill_118
                  · skip
                    refine lv_iload hx hb dX0_fill_75 (lv_at hl 0 rfl) ?_
                    refine lv_iconst (v := 3) hx hb dX0_fill_77 (by decide) ?_
                    refine lv_icmp_eq (tgt := 83) hx hb dX0_fill_78 (by decide) (fun c78 => ?_) (fun c78 => ?_)
                    · skip
                      refine lv_aload_n hx hb dX0_fill_83 rfl (lv_at hl 1 rfl) ?_
                      refine ot_xg1 hC hK hI.1 dX0_fill_84 ?_
                      refine lv_bipush (v := 85) hx hb dX0_fill_87 (by decide) ?_
                      refine lv_iload_n hx hb dX0_fill_89 rfl (lv_at hl 2 rfl) ?_
                      refine ot_imul hx hb (a := 85) (b := y) rfl rfl dX0_fill_90 ?_
                      refine lv_iload_n hx hb dX0_fill_91 rfl (lv_at hl 3 rfl) ?_
                      refine ot_iadd hx hb (a := 85 * y) (b := k) rfl rfl dX0_fill_92 ?_
                      refine lv_iload_n hx hb dX0_fill_93 rfl (lv_at hl 4 rfl) ?_
                      refine ot_xs1 hC hK hI (j := 85 * y + k) rfl (by omega) dX0_fill_94 (fun H locs hI => ?_)
                      refine lv_aload_n hx hb dX0_fill_95 rfl (lv_at hl 1 rfl) ?_
                      refine ot_xg2 hC hK hI.1 dX0_fill_96 ?_
                      refine lv_bipush (v := 85) hx hb dX0_fill_99 (by decide) ?_
                      refine lv_iload_n hx hb dX0_fill_101 rfl (lv_at hl 2 rfl) ?_
                      refine ot_imul hx hb (a := 85) (b := y) rfl rfl dX0_fill_102 ?_
                      refine lv_iload_n hx hb dX0_fill_103 rfl (lv_at hl 3 rfl) ?_
                      refine ot_iadd hx hb (a := 85 * y) (b := k) rfl rfl dX0_fill_104 ?_
                      refine lv_iload_n hx hb dX0_fill_105 rfl (lv_at hl 4 rfl) ?_
                      refine lv_iconst (v := 1) hx hb dX0_fill_106 (by decide) ?_
                      refine lv_icmp_ne (tgt := 115) hx hb dX0_fill_107 (by decide) (fun c107 => ?_) (fun c107 => ?_)
                      · skip
                        refine lv_iconst (v := 0) hx hb dX0_fill_115 (by decide) ?_
                        refine ot_xs2 hC hK hI (j := 85 * y + k) rfl (by omega) dX0_fill_116 (fun H locs hI => ?_)
                        refine lv_iconst (v := 0) hx hb dX0_fill_117 (by decide) ?_
                        exact ot_iret (u := (mt, fd, fl, upd hd (85 * y + k) (p2), upd ct (85 * y + k) (0), wy, ps, pv)) hC hK hr hlk hI (ot_xPe (by rw [ot_xfill, if_pos hc, ey, ek, if_pos ⟨c66, Or.inr c78⟩, if_neg c107])) dX0_fill_118
                      · skip
                        refine lv_iload hx hb dX0_fill_110 (lv_at hl 5 rfl) ?_
                        refine lv_goto (tgt := 116) hx hb dX0_fill_112 (by decide) ?_
                        refine ot_xs2 hC hK hI (j := 85 * y + k) rfl (by omega) dX0_fill_116 (fun H locs hI => ?_)
                        refine lv_iconst (v := 0) hx hb dX0_fill_117 (by decide) ?_
                        exact ot_iret (u := (mt, fd, fl, upd hd (85 * y + k) (p2), upd ct (85 * y + k) (p3), wy, ps, pv)) hC hK hr hlk hI (ot_xPe (by rw [ot_xfill, if_pos hc, ey, ek, if_pos ⟨c66, Or.inr c78⟩, if_pos c107])) dX0_fill_118
                    · skip
                      refine lv_iconst (v := (-1)) hx hb dX0_fill_81 (by decide) ?_
                      exact ot_iret (u := (mt, fd, fl, hd, ct, wy, ps, pv)) hC hK hr hlk hI (ot_xPe (by rw [ot_xfill, if_pos hc, ey, ek, if_neg (fun h => h.2.elim c72 c78)])) dX0_fill_82
              · skip
                refine lv_iconst (v := (-1)) hx hb dX0_fill_37 (by decide) ?_
                exact ot_iret (u := (mt, fd, fl, hd, ct, wy, ps, pv)) hC hK hr hlk hI (ot_xPe (by rw [ot_xfill, if_neg (fun h => c34 h.2.2.2.2.2.2)])) dX0_fill_38
set_option maxHeartbeats 4000000 in
set_option maxRecDepth 100000 in
theorem xm_mount (l : Launch) (G : va_G) (d : ClassId) (a : Nat → Nat) (mt fd fl : Int32) (hd ct wy ps pv : Nat → Int32)  : ot_Mi l G d yX0_mount cX0_mount 1 (some .int) rmX0_mount (ot_xa a) (ot_xW d a) ([.ref (a 0)] : List Value) (mt, fd, fl, hd, ct, wy, ps, pv) (ot_xP (ot_xmount mt hd ct)) := by
  refine ot_Mi_of (by decide) rfl (Nat.le_of_ble_eq_true rfl) ?_
  intro p e s m below meth c hC hK hr hlk hI ls hl
  have hC : CallFix p m c cX0_mount 1 s ([.ref (a 0)] : List Value).toArray lw_all RX0 := hC
  have hx := hC.1
  have hb := hC.2.1
  have hA : ∀ q, s.heap.size ≤ q → ot_F (ot_xa a) s.heap.size q := fun q h => Or.inr h
  have hl : lv_has ls 1 [(0, .ref (a 0))] := hl
  refine lv_aload_n hx hb dX0_mount_0 rfl (lv_at hl 0 rfl) ?_
  refine ot_xg0 hC hK hI.1 dX0_mount_1 ?_
  refine lv_if_eq (tgt := 9) hx hb dX0_mount_4 (by decide) (fun c4 => ?_) (fun c4 => ?_)
  · skip
    refine lv_aload_n hx hb dX0_mount_9 rfl (lv_at hl 0 rfl) ?_
    refine lv_iconst (v := 1) hx hb dX0_mount_10 (by decide) ?_
    refine ot_xp0 hC hK hI rfl rfl dX0_mount_11 (fun H locs hI => ?_)
    refine lv_aload_n hx hb dX0_mount_14 rfl (lv_at hl 0 rfl) ?_
    refine ot_xci [] [] (xm_total l G d a 1 fd fl hd ct wy ps pv) hC hK hI hA (cwV 0 hC.2.2.2.2 (lw_V q63 q64 q65 q16 q66) rfl rfl rfl ok_yX0_total ⟨Nat.le_of_ble_eq_true rfl, Nat.le_of_ble_eq_true rfl⟩) rfl rfl hl.1 (Nat.le_of_ble_eq_true rfl) dX0_mount_15 ⟨Nat.zero_le _, Nat.zero_le _⟩ (fun r19 u19 H locs hp19 hI => ?_)
    obtain ⟨fd19, fl19, wy19, rfl, rfl⟩ := hp19
    exact ot_iret (u := (1, fd19, fl19, hd, ct, wy19, ps, pv)) hC hK hr hlk hI (ot_xPe (by rw [ot_xmount, if_pos c4])) dX0_mount_18
  · skip
    refine lv_iconst (v := (-1)) hx hb dX0_mount_7 (by decide) ?_
    exact ot_iret (u := (mt, fd, fl, hd, ct, wy, ps, pv)) hC hK hr hlk hI (ot_xPe (by rw [ot_xmount, if_neg c4])) dX0_mount_8
set_option maxHeartbeats 4000000 in
set_option maxRecDepth 100000 in
theorem xm_make (l : Launch) (G : va_G) (d : ClassId) (a : Nat → Nat) (mt fd fl : Int32) (hd ct wy ps pv : Nat → Int32) (p0 p1 : Int32) : ot_Mi l G d yX0_make cX0_make 3 (some .int) rmX0_make (ot_xa a) (ot_xW d a) ([.ref (a 0), .int (p0), .int (p1)] : List Value) (mt, fd, fl, hd, ct, wy, ps, pv) (ot_xP (ot_xmake mt hd ct p0 p1)) := by
  refine ot_Mi_of (by decide) rfl (Nat.le_of_ble_eq_true rfl) ?_
  intro p e s m below meth c hC hK hr hlk hI ls hl
  have hC : CallFix p m c cX0_make 3 s ([.ref (a 0), .int (p0), .int (p1)] : List Value).toArray lw_all RX0 := hC
  have hx := hC.1
  have hb := hC.2.1
  have hA : ∀ q, s.heap.size ≤ q → ot_F (ot_xa a) s.heap.size q := fun q h => Or.inr h
  have hl : lv_has ls 3 [(0, .ref (a 0)), (1, .int (p0)), (2, .int (p1))] := hl
  refine lv_aload_n hx hb dX0_make_0 rfl (lv_at hl 0 rfl) ?_
  refine lv_iload_n hx hb dX0_make_1 rfl (lv_at hl 1 rfl) ?_
  refine ot_xci [.int (p0)] [] (xm_isRoom l G d a mt fd fl hd ct wy ps pv (p0)) hC hK hI hA (cwV 1 hC.2.2.2.2 (lw_V q87 q89 qs3 q16 q90) rfl rfl rfl ok_yX0_isRoom ⟨Nat.le_of_ble_eq_true rfl, Nat.le_of_ble_eq_true rfl⟩) rfl rfl hl.1 (Nat.le_of_ble_eq_true rfl) dX0_make_2 ⟨Nat.zero_le _, Nat.zero_le _⟩ (fun r20 u20 H locs hp20 hI => ?_)
  obtain ⟨fd20, fl20, wy20, rfl, rfl⟩ := hp20
  refine lv_if_ne (tgt := 10) hx hb dX0_make_5 (by decide) (fun c5 => ?_) (fun c5 => ?_)
  · skip
    have hrm : ot_room mt hd p0 := Decidable.not_not.mp (fun z => c5 (ot_bd0.mpr z))
    obtain ⟨k, hk0, hk, rfl⟩ := ot_room_k hrm
    have hpk := ot_par84 hk
    have ek : ot_k (nI k) = k := ot_kI (by omega)
    refine lv_aload_n hx hb dX0_make_10 rfl (lv_at hl 0 rfl) ?_
    refine lv_iload_n hx hb dX0_make_11 rfl (lv_at hl 1 rfl) ?_
    refine ot_calls (As := [.int (nI (k))]) (rest := [.ref (a 0)]) (xm_parentOf l (k) (by omega)) hC (va_cwS 1 hC.2.2.2.2 (lw_S q56 q57 q16 q58) rfl rfl rfl ok_yX0_parentOf ⟨Nat.le_of_ble_eq_true rfl, Nat.le_of_ble_eq_true rfl⟩) rfl rfl hl.1 (Nat.le_of_ble_eq_true rfl) dX0_make_12 ⟨Nat.zero_le _, Nat.zero_le _⟩ ?_
    refine ot_xcv [.int (nI (ot_par (k)))] [] (xm_copyUpTo l G d a mt fd20 fl20 hd ct wy20 ps pv (ot_par (k)) (by omega)) hC hK hI hA (cwV 1 hC.2.2.2.2 (lw_V q91 q93 qs4 q16 q94) rfl rfl rfl ok_yX0_copyUpTo ⟨Nat.le_of_ble_eq_true rfl, Nat.le_of_ble_eq_true rfl⟩) rfl rfl hl.1 (Nat.le_of_ble_eq_true rfl) dX0_make_15 ⟨Nat.zero_le _, Nat.zero_le _⟩ (fun u21 H locs hp21 hI => ?_)
    subst hp21
    refine lv_aload_n hx hb dX0_make_18 rfl (lv_at hl 0 rfl) ?_
    refine lv_iload_n hx hb dX0_make_19 rfl (lv_at hl 1 rfl) ?_
    refine lv_iconst (v := 1) hx hb dX0_make_20 (by decide) ?_
    refine lv_iload_n hx hb dX0_make_21 rfl (lv_at hl 2 rfl) ?_
    refine ot_xcv [.int (nI (k)), .int (1), .int (p1)] [] (xm_put l G d a mt fd20 fl20 (ot_cup 3 hd (ot_par (k))) ct wy20 ps pv (k) (by omega) 1 p1) hC hK hI hA (cwV 3 hC.2.2.2.2 (lw_V q95 q97 qs5 q16 q98) rfl rfl rfl ok_yX0_put ⟨Nat.le_of_ble_eq_true rfl, Nat.le_of_ble_eq_true rfl⟩) rfl rfl hl.1 (Nat.le_of_ble_eq_true rfl) dX0_make_22 ⟨Nat.zero_le _, Nat.zero_le _⟩ (fun u22 H locs hp22 hI => ?_)
    subst hp22
    refine lv_iconst (v := 0) hx hb dX0_make_25 (by decide) ?_
    exact ot_iret (u := (mt, fd20, fl20, upd (ot_cup 3 hd (ot_par (k))) (340 + k) 1, upd ct (340 + k) p1, wy20, ps, pv)) hC hK hr hlk hI (ot_xPe (by rw [ot_xmake, if_pos hrm, ot_xput, ek])) dX0_make_26
  · skip
    refine lv_iconst (v := (-1)) hx hb dX0_make_8 (by decide) ?_
    exact ot_iret (u := (mt, fd20, fl20, hd, ct, wy20, ps, pv)) hC hK hr hlk hI (ot_xPe (by rw [ot_xmake, if_neg (ot_bd0.mp c5)])) dX0_make_9
set_option maxHeartbeats 4000000 in
set_option maxRecDepth 100000 in
theorem xm_makeDir (l : Launch) (G : va_G) (d : ClassId) (a : Nat → Nat) (mt fd fl : Int32) (hd ct wy ps pv : Nat → Int32) (p0 : Int32) : ot_Mi l G d yX0_makeDir cX0_makeDir 2 (some .int) rmX0_makeDir (ot_xa a) (ot_xW d a) ([.ref (a 0), .int (p0)] : List Value) (mt, fd, fl, hd, ct, wy, ps, pv) (ot_xP (ot_xmkd mt hd ct p0)) := by
  refine ot_Mi_of (by decide) rfl (Nat.le_of_ble_eq_true rfl) ?_
  intro p e s m below meth c hC hK hr hlk hI ls hl
  have hC : CallFix p m c cX0_makeDir 2 s ([.ref (a 0), .int (p0)] : List Value).toArray lw_all RX0 := hC
  have hx := hC.1
  have hb := hC.2.1
  have hA : ∀ q, s.heap.size ≤ q → ot_F (ot_xa a) s.heap.size q := fun q h => Or.inr h
  have hl : lv_has ls 2 [(0, .ref (a 0)), (1, .int (p0))] := hl
  refine lv_aload_n hx hb dX0_makeDir_0 rfl (lv_at hl 0 rfl) ?_
  refine lv_iload_n hx hb dX0_makeDir_1 rfl (lv_at hl 1 rfl) ?_
  refine ot_xci [.int (p0)] [] (xm_isRoom l G d a mt fd fl hd ct wy ps pv (p0)) hC hK hI hA (cwV 1 hC.2.2.2.2 (lw_V q87 q89 qs3 q16 q90) rfl rfl rfl ok_yX0_isRoom ⟨Nat.le_of_ble_eq_true rfl, Nat.le_of_ble_eq_true rfl⟩) rfl rfl hl.1 (Nat.le_of_ble_eq_true rfl) dX0_makeDir_2 ⟨Nat.zero_le _, Nat.zero_le _⟩ (fun r23 u23 H locs hp23 hI => ?_)
  obtain ⟨fd23, fl23, wy23, rfl, rfl⟩ := hp23
  refine lv_if_ne (tgt := 10) hx hb dX0_makeDir_5 (by decide) (fun c5 => ?_) (fun c5 => ?_)
  · skip
    have hrm : ot_room mt hd p0 := Decidable.not_not.mp (fun z => c5 (ot_bd0.mpr z))
    obtain ⟨k, hk0, hk, rfl⟩ := ot_room_k hrm
    have hpk := ot_par84 hk
    have ek : ot_k (nI k) = k := ot_kI (by omega)
    refine lv_aload_n hx hb dX0_makeDir_10 rfl (lv_at hl 0 rfl) ?_
    refine lv_iload_n hx hb dX0_makeDir_11 rfl (lv_at hl 1 rfl) ?_
    refine ot_calls (As := [.int (nI (k))]) (rest := [.ref (a 0)]) (xm_parentOf l (k) (by omega)) hC (va_cwS 1 hC.2.2.2.2 (lw_S q56 q57 q16 q58) rfl rfl rfl ok_yX0_parentOf ⟨Nat.le_of_ble_eq_true rfl, Nat.le_of_ble_eq_true rfl⟩) rfl rfl hl.1 (Nat.le_of_ble_eq_true rfl) dX0_makeDir_12 ⟨Nat.zero_le _, Nat.zero_le _⟩ ?_
    refine ot_xcv [.int (nI (ot_par (k)))] [] (xm_copyUpTo l G d a mt fd23 fl23 hd ct wy23 ps pv (ot_par (k)) (by omega)) hC hK hI hA (cwV 1 hC.2.2.2.2 (lw_V q91 q93 qs4 q16 q94) rfl rfl rfl ok_yX0_copyUpTo ⟨Nat.le_of_ble_eq_true rfl, Nat.le_of_ble_eq_true rfl⟩) rfl rfl hl.1 (Nat.le_of_ble_eq_true rfl) dX0_makeDir_15 ⟨Nat.zero_le _, Nat.zero_le _⟩ (fun u24 H locs hp24 hI => ?_)
    subst hp24
    refine lv_aload_n hx hb dX0_makeDir_18 rfl (lv_at hl 0 rfl) ?_
    refine lv_iload_n hx hb dX0_makeDir_19 rfl (lv_at hl 1 rfl) ?_
    refine lv_iconst (v := 3) hx hb dX0_makeDir_20 (by decide) ?_
    refine lv_iconst (v := 0) hx hb dX0_makeDir_21 (by decide) ?_
    refine ot_xcv [.int (nI (k)), .int (3), .int (0)] [] (xm_put l G d a mt fd23 fl23 (ot_cup 3 hd (ot_par (k))) ct wy23 ps pv (k) (by omega) 3 0) hC hK hI hA (cwV 3 hC.2.2.2.2 (lw_V q95 q97 qs5 q16 q98) rfl rfl rfl ok_yX0_put ⟨Nat.le_of_ble_eq_true rfl, Nat.le_of_ble_eq_true rfl⟩) rfl rfl hl.1 (Nat.le_of_ble_eq_true rfl) dX0_makeDir_22 ⟨Nat.zero_le _, Nat.zero_le _⟩ (fun u25 H locs hp25 hI => ?_)
    subst hp25
    refine lv_iconst (v := 0) hx hb dX0_makeDir_25 (by decide) ?_
    exact ot_iret (u := (mt, fd23, fl23, upd (ot_cup 3 hd (ot_par (k))) (340 + k) 3, upd ct (340 + k) 0, wy23, ps, pv)) hC hK hr hlk hI (ot_xPe (by rw [ot_xmkd, if_pos hrm, ot_xput, ek])) dX0_makeDir_26
  · skip
    refine lv_iconst (v := (-1)) hx hb dX0_makeDir_8 (by decide) ?_
    exact ot_iret (u := (mt, fd23, fl23, hd, ct, wy23, ps, pv)) hC hK hr hlk hI (ot_xPe (by rw [ot_xmkd, if_neg (ot_bd0.mp c5)])) dX0_makeDir_9
set_option maxHeartbeats 4000000 in
set_option maxRecDepth 100000 in
theorem xm_write (l : Launch) (G : va_G) (d : ClassId) (a : Nat → Nat) (mt fd fl : Int32) (hd ct wy ps pv : Nat → Int32) (p0 p1 : Int32) : ot_Mi l G d yX0_write cX0_write 4 (some .int) rmX0_write (ot_xa a) (ot_xW d a) ([.ref (a 0), .int (p0), .int (p1)] : List Value) (mt, fd, fl, hd, ct, wy, ps, pv) (ot_xP (ot_xwri mt hd ct p0 p1)) := by
  refine ot_Mi_of (by decide) rfl (Nat.le_of_ble_eq_true rfl) ?_
  intro p e s m below meth c hC hK hr hlk hI ls hl
  have hC : CallFix p m c cX0_write 4 s ([.ref (a 0), .int (p0), .int (p1)] : List Value).toArray lw_all RX0 := hC
  have hx := hC.1
  have hb := hC.2.1
  have hA : ∀ q, s.heap.size ≤ q → ot_F (ot_xa a) s.heap.size q := fun q h => Or.inr h
  have hl : lv_has ls 4 [(0, .ref (a 0)), (1, .int (p0)), (2, .int (p1))] := hl
  refine lv_aload_n hx hb dX0_write_0 rfl (lv_at hl 0 rfl) ?_
  refine lv_iload_n hx hb dX0_write_1 rfl (lv_at hl 1 rfl) ?_
  refine ot_xci [.int (p0)] [] (xm_sort l G d a mt fd fl hd ct wy ps pv (p0)) hC hK hI hA (cwV 1 hC.2.2.2.2 (lw_V q67 q68 q69 q16 q70) rfl rfl rfl ok_yX0_sort ⟨Nat.le_of_ble_eq_true rfl, Nat.le_of_ble_eq_true rfl⟩) rfl rfl hl.1 (Nat.le_of_ble_eq_true rfl) dX0_write_2 ⟨Nat.zero_le _, Nat.zero_le _⟩ (fun r26 u26 H locs hp26 hI => ?_)
  obtain ⟨fd26, fl26, wy26, rfl, hr26, hf26⟩ := hp26
  subst hr26
  refine lv_iconst (v := 1) hx hb dX0_write_5 (by decide) ?_
  refine lv_icmp_eq (tgt := 11) hx hb dX0_write_6 (by decide) (fun c6 => ?_) (fun c6 => ?_)
  · skip
    obtain ⟨k, hk, rfl⟩ := ot_xs_in (by rw [c6]; decide)
    have hpk := ot_par84 hk
    have ek : ot_k (nI k) = k := ot_kI (by omega)
    refine lv_aload_n hx hb dX0_write_11 rfl (lv_at hl 0 rfl) ?_
    refine lv_iload_n hx hb dX0_write_12 rfl (lv_at hl 1 rfl) ?_
    refine ot_xci [.int (nI (k))] [] (xm_value l G d a mt fd26 fl26 hd ct wy26 ps pv (nI (k))) hC hK hI hA (cwV 1 hC.2.2.2.2 (lw_V q107 q108 q109 q16 q110) rfl rfl rfl ok_yX0_value ⟨Nat.le_of_ble_eq_true rfl, Nat.le_of_ble_eq_true rfl⟩) rfl rfl hl.1 (Nat.le_of_ble_eq_true rfl) dX0_write_13 ⟨Nat.zero_le _, Nat.zero_le _⟩ (fun r27 u27 H locs hp27 hI => ?_)
    obtain ⟨fd27, fl27, wy27, rfl, rfl⟩ := hp27
    refine lv_istore_n (lv' := [(3, .int (ot_xval mt hd ct (nI (k)))), (0, .ref (a 0)), (1, .int (nI (k))), (2, .int (p1))]) hx hb dX0_write_16 rfl hl (by decide) rfl (fun ls hl => ?_)
    refine lv_aload_n hx hb dX0_write_17 rfl (lv_at hl 1 rfl) ?_
    refine lv_iload_n hx hb dX0_write_18 rfl (lv_at hl 2 rfl) ?_
    refine ot_calls (As := [.int (nI (k))]) (rest := [.ref (a 0)]) (xm_parentOf l (k) (by omega)) hC (va_cwS 1 hC.2.2.2.2 (lw_S q56 q57 q16 q58) rfl rfl rfl ok_yX0_parentOf ⟨Nat.le_of_ble_eq_true rfl, Nat.le_of_ble_eq_true rfl⟩) rfl rfl hl.1 (Nat.le_of_ble_eq_true rfl) dX0_write_19 ⟨Nat.zero_le _, Nat.zero_le _⟩ ?_
    refine ot_xcv [.int (nI (ot_par (k)))] [] (xm_copyUpTo l G d a mt fd27 fl27 hd ct wy27 ps pv (ot_par (k)) (by omega)) hC hK hI hA (cwV 1 hC.2.2.2.2 (lw_V q91 q93 qs4 q16 q94) rfl rfl rfl ok_yX0_copyUpTo ⟨Nat.le_of_ble_eq_true rfl, Nat.le_of_ble_eq_true rfl⟩) rfl rfl hl.1 (Nat.le_of_ble_eq_true rfl) dX0_write_22 ⟨Nat.zero_le _, Nat.zero_le _⟩ (fun u28 H locs hp28 hI => ?_)
    subst hp28
    refine lv_aload_n hx hb dX0_write_25 rfl (lv_at hl 1 rfl) ?_
    refine lv_iload_n hx hb dX0_write_26 rfl (lv_at hl 2 rfl) ?_
    refine lv_iconst (v := 1) hx hb dX0_write_27 (by decide) ?_
    refine lv_iload_n hx hb dX0_write_28 rfl (lv_at hl 3 rfl) ?_
    refine ot_xcv [.int (nI (k)), .int (1), .int (p1)] [] (xm_put l G d a mt fd27 fl27 (ot_cup 3 hd (ot_par (k))) ct wy27 ps pv (k) (by omega) 1 p1) hC hK hI hA (cwV 3 hC.2.2.2.2 (lw_V q95 q97 qs5 q16 q98) rfl rfl rfl ok_yX0_put ⟨Nat.le_of_ble_eq_true rfl, Nat.le_of_ble_eq_true rfl⟩) rfl rfl hl.1 (Nat.le_of_ble_eq_true rfl) dX0_write_29 ⟨Nat.zero_le _, Nat.zero_le _⟩ (fun u29 H locs hp29 hI => ?_)
    subst hp29
    refine lv_iload_n hx hb dX0_write_32 rfl (lv_at hl 0 rfl) ?_
    exact ot_iret (u := (mt, fd27, fl27, upd (ot_cup 3 hd (ot_par (k))) (340 + k) 1, upd ct (340 + k) p1, wy27, ps, pv)) hC hK hr hlk hI (ot_xPe (by rw [ot_xwri, if_pos c6, ot_xput, ek])) dX0_write_33
  · skip
    refine lv_iconst (v := (-1)) hx hb dX0_write_9 (by decide) ?_
    exact ot_iret (u := (mt, fd26, fl26, hd, ct, wy26, ps, pv)) hC hK hr hlk hI (ot_xPe (by rw [ot_xwri, if_neg c6])) dX0_write_10
set_option maxHeartbeats 4000000 in
set_option maxRecDepth 100000 in
theorem xm_remove (l : Launch) (G : va_G) (d : ClassId) (a : Nat → Nat) (mt fd fl : Int32) (hd ct wy ps pv : Nat → Int32) (p0 : Int32) : ot_Mi l G d yX0_remove cX0_remove 3 (some .int) rmX0_remove (ot_xa a) (ot_xW d a) ([.ref (a 0), .int (p0)] : List Value) (mt, fd, fl, hd, ct, wy, ps, pv) (ot_xP (ot_xrem mt hd ct p0)) := by
  refine ot_Mi_of (by decide) rfl (Nat.le_of_ble_eq_true rfl) ?_
  intro p e s m below meth c hC hK hr hlk hI ls hl
  have hC : CallFix p m c cX0_remove 3 s ([.ref (a 0), .int (p0)] : List Value).toArray lw_all RX0 := hC
  have hx := hC.1
  have hb := hC.2.1
  have hA : ∀ q, s.heap.size ≤ q → ot_F (ot_xa a) s.heap.size q := fun q h => Or.inr h
  have hl : lv_has ls 3 [(0, .ref (a 0)), (1, .int (p0))] := hl
  refine lv_aload_n hx hb dX0_remove_0 rfl (lv_at hl 0 rfl) ?_
  refine lv_iload_n hx hb dX0_remove_1 rfl (lv_at hl 1 rfl) ?_
  refine ot_xci [.int (p0)] [] (xm_sort l G d a mt fd fl hd ct wy ps pv (p0)) hC hK hI hA (cwV 1 hC.2.2.2.2 (lw_V q67 q68 q69 q16 q70) rfl rfl rfl ok_yX0_sort ⟨Nat.le_of_ble_eq_true rfl, Nat.le_of_ble_eq_true rfl⟩) rfl rfl hl.1 (Nat.le_of_ble_eq_true rfl) dX0_remove_2 ⟨Nat.zero_le _, Nat.zero_le _⟩ (fun r30 u30 H locs hp30 hI => ?_)
  obtain ⟨fd30, fl30, wy30, rfl, hr30, hf30⟩ := hp30
  subst hr30
  refine lv_istore_n (lv' := [(2, .int (ot_xsort mt (hd) (p0))), (0, .ref (a 0)), (1, .int (p0))]) hx hb dX0_remove_5 rfl hl (by decide) rfl (fun ls hl => ?_)
  refine lv_iload_n hx hb dX0_remove_6 rfl (lv_at hl 0 rfl) ?_
  refine lv_if_le (tgt := 27) hx hb dX0_remove_7 (by decide) (fun c7 => ?_) (fun c7 => ?_)
  · skip
    refine lv_iconst (v := (-1)) hx hb dX0_remove_27 (by decide) ?_
    exact ot_iret (u := (mt, fd30, fl30, hd, ct, wy30, ps, pv)) hC hK hr hlk hI (ot_xPe (by rw [ot_xrem, if_pos (Or.inl c7)])) dX0_remove_28
  · skip
    refine lv_iload_n hx hb dX0_remove_10 rfl (lv_at hl 2 rfl) ?_
    refine lv_if_eq (tgt := 27) hx hb dX0_remove_11 (by decide) (fun c11 => ?_) (fun c11 => ?_)
    · skip
      refine lv_iconst (v := (-1)) hx hb dX0_remove_27 (by decide) ?_
      exact ot_iret (u := (mt, fd30, fl30, hd, ct, wy30, ps, pv)) hC hK hr hlk hI (ot_xPe (by rw [ot_xrem, if_pos (Or.inr (Or.inl c11))])) dX0_remove_28
    · skip
      refine lv_iload_n hx hb dX0_remove_14 rfl (lv_at hl 0 rfl) ?_
      refine lv_iconst (v := 2) hx hb dX0_remove_15 (by decide) ?_
      refine lv_icmp_ne (tgt := 29) hx hb dX0_remove_16 (by decide) (fun c16 => ?_) (fun c16 => ?_)
      · skip
        obtain ⟨k, hk, rfl⟩ := ot_xs_in (x := p0) (fun z => c7 (by rw [z]; decide))
        have ek : ot_k (nI k) = k := ot_kI (by omega)
        refine lv_aload_n hx hb dX0_remove_29 rfl (lv_at hl 1 rfl) ?_
        refine lv_iload_n hx hb dX0_remove_30 rfl (lv_at hl 2 rfl) ?_
        refine ot_xcv [.int (nI (k))] [] (xm_takeAway l G d a mt fd30 fl30 hd ct wy30 ps pv (k) (by omega)) hC hK hI hA (cwV 1 hC.2.2.2.2 (lw_V q119 q121 qs6 q16 q122) rfl rfl rfl ok_yX0_takeAway ⟨Nat.le_of_ble_eq_true rfl, Nat.le_of_ble_eq_true rfl⟩) rfl rfl hl.1 (Nat.le_of_ble_eq_true rfl) dX0_remove_31 ⟨Nat.zero_le _, Nat.zero_le _⟩ (fun u31 H locs hp31 hI => ?_)
        obtain ⟨fd31, fl31, wy31, rfl⟩ := hp31
        refine lv_iconst (v := 0) hx hb dX0_remove_34 (by decide) ?_
        exact ot_iret (u := (mt, fd31, fl31, (ot_tka mt hd ct (k)).1, (ot_tka mt hd ct (k)).2, wy31, ps, pv)) hC hK hr hlk hI (ot_xPe (by rw [ot_xrem, if_neg (fun z => z.elim c7 (fun z => z.elim c11 (fun z => c16 z.1))), ek])) dX0_remove_35
      · skip
        refine lv_aload_n hx hb dX0_remove_19 rfl (lv_at hl 1 rfl) ?_
        refine lv_iload_n hx hb dX0_remove_20 rfl (lv_at hl 2 rfl) ?_
        refine ot_xci [.int (p0)] [] (xm_entries l G d a mt fd30 fl30 hd ct wy30 ps pv (p0)) hC hK hI hA (cwV 1 hC.2.2.2.2 (lw_V q115 q116 q117 q16 q118) rfl rfl rfl ok_yX0_entries ⟨Nat.le_of_ble_eq_true rfl, Nat.le_of_ble_eq_true rfl⟩) rfl rfl hl.1 (Nat.le_of_ble_eq_true rfl) dX0_remove_21 ⟨Nat.zero_le _, Nat.zero_le _⟩ (fun r32 u32 H locs hp32 hI => ?_)
        obtain ⟨fd32, fl32, wy32, rfl, rfl⟩ := hp32
        refine lv_if_le (tgt := 29) hx hb dX0_remove_24 (by decide) (fun c24 => ?_) (fun c24 => ?_)
        · skip
          obtain ⟨k, hk, rfl⟩ := ot_xs_in (x := p0) (fun z => c7 (by rw [z]; decide))
          have ek : ot_k (nI k) = k := ot_kI (by omega)
          refine lv_aload_n hx hb dX0_remove_29 rfl (lv_at hl 1 rfl) ?_
          refine lv_iload_n hx hb dX0_remove_30 rfl (lv_at hl 2 rfl) ?_
          refine ot_xcv [.int (nI (k))] [] (xm_takeAway l G d a mt fd32 fl32 hd ct wy32 ps pv (k) (by omega)) hC hK hI hA (cwV 1 hC.2.2.2.2 (lw_V q119 q121 qs6 q16 q122) rfl rfl rfl ok_yX0_takeAway ⟨Nat.le_of_ble_eq_true rfl, Nat.le_of_ble_eq_true rfl⟩) rfl rfl hl.1 (Nat.le_of_ble_eq_true rfl) dX0_remove_31 ⟨Nat.zero_le _, Nat.zero_le _⟩ (fun u33 H locs hp33 hI => ?_)
          obtain ⟨fd33, fl33, wy33, rfl⟩ := hp33
          refine lv_iconst (v := 0) hx hb dX0_remove_34 (by decide) ?_
          exact ot_iret (u := (mt, fd33, fl33, (ot_tka mt hd ct (k)).1, (ot_tka mt hd ct (k)).2, wy33, ps, pv)) hC hK hr hlk hI (ot_xPe (by rw [ot_xrem, if_neg (fun z => z.elim c7 (fun z => z.elim c11 (fun z => z.2 c24))), ek])) dX0_remove_35
        · skip
          refine lv_iconst (v := (-1)) hx hb dX0_remove_27 (by decide) ?_
          exact ot_iret (u := (mt, fd32, fl32, hd, ct, wy32, ps, pv)) hC hK hr hlk hI (ot_xPe (by rw [ot_xrem, if_pos (Or.inr (Or.inr ⟨c16, c24⟩))])) dX0_remove_28
end
section
set_option maxRecDepth 100000
set_option maxHeartbeats 4000000 in
set_option maxRecDepth 100000 in
theorem xm_press (l : Launch) (G : va_G) (d : ClassId) (a : Nat → Nat) (mt fd fl : Int32) (hd ct wy ps pv : Nat → Int32)  : ot_Mi l G d yX0_press cX0_press 5 (some .int) rmX0_press (ot_xa a) (ot_xW d a) ([.ref (a 0)] : List Value) (mt, fd, fl, hd, ct, wy, ps, pv) (ot_xP (ot_xprs mt hd ct)) := by
  refine ot_Mi_of (by decide) rfl (Nat.le_of_ble_eq_true rfl) ?_
  intro p e s m below meth c hC hK hr hlk hI ls hl
  have hC : CallFix p m c cX0_press 5 s ([.ref (a 0)] : List Value).toArray lw_all RX0 := hC
  have hx := hC.1
  have hb := hC.2.1
  have hA : ∀ q, s.heap.size ≤ q → ot_F (ot_xa a) s.heap.size q := fun q h => Or.inr h
  have hl : lv_has ls 5 [(0, .ref (a 0))] := hl
  have lp : ∀ (j q : Nat) (hd1 ct1 : Nat → Int32) (hq : q + j = 85) (hm : ¬ mt = 0) (hR : ot_prs j q hd1 ct1 = ot_prs 84 1 hd ct), ∀ (H : Heap) (locs : List Loc), ot_I G (ot_F (ot_xa a) s.heap.size) s H locs (ot_xW d a (mt, fd, fl, hd1, ct1, wy, ps, pv)) → ∀ (ls : Array Slot), lv_has ls 5 [(0, .ref (a 0)), (1, .int (nI (q)))] → W p l e rmX0_press s m ([.ref (a 0)] : List Value).toArray below meth c H locs 0 0 (ot_Zi G d (ot_xa a) (ot_xW d a) (ot_xP (ot_xprs mt hd ct)) below ([.ref (a 0)] : List Value).toArray s) (F0 m 11 ls []) := by
    intro j
    induction j with
    | zero =>
      intro q hd1 ct1 hq hm hR H locs hI ls hl
      refine lv_iload_n hx hb dX0_press_11 rfl (lv_at hl 1 rfl) ?_
      refine lv_bipush (v := 85) hx hb dX0_press_12 (by decide) ?_
      refine ot_icmp_ge hx hb (a := q) (b := 85) rfl rfl (by omega) (by omega) (tgt := 151) dX0_press_14 (by decide) (fun _ => ?_) (fun c_ => absurd (by omega) c_)
      refine lv_iconst (v := 0) hx hb dX0_press_151 (by decide) ?_
      exact ot_iret (u := (mt, fd, fl, hd1, ct1, wy, ps, pv)) hC hK hr hlk hI (ot_xPe (by rw [ot_xprs, if_neg hm, ← hR]; rfl)) dX0_press_152
    | succ j ih =>
      intro q hd1 ct1 hq hm hR H locs hI ls hl
      refine lv_iload_n hx hb dX0_press_11 rfl (lv_at hl 1 rfl) ?_
      refine lv_bipush (v := 85) hx hb dX0_press_12 (by decide) ?_
      refine ot_icmp_ge hx hb (a := q) (b := 85) rfl rfl (by omega) (by omega) (tgt := 151) dX0_press_14 (by decide) (fun c_ => absurd c_ (by omega)) (fun _ => ?_)
      refine lv_aload_n hx hb dX0_press_17 rfl (lv_at hl 0 rfl) ?_
      refine ot_xg1 hC hK hI.1 dX0_press_18 ?_
      refine lv_sipush (v := 340) hx hb dX0_press_21 (by decide) ?_
      refine lv_iload_n hx hb dX0_press_24 rfl (lv_at hl 1 rfl) ?_
      refine ot_iadd hx hb (a := 340) (b := q) rfl rfl dX0_press_25 ?_
      refine ot_xl1 hC hK hI.1 (j := 340 + q) rfl (by omega) dX0_press_26 ?_
      refine lv_istore_n (lv' := [(2, .int (hd1 (340 + q))), (0, .ref (a 0)), (1, .int (nI (q)))]) hx hb dX0_press_27 rfl hl (by decide) rfl (fun ls hl => ?_)
      refine lv_aload_n hx hb dX0_press_28 rfl (lv_at hl 1 rfl) ?_
      refine ot_xg1 hC hK hI.1 dX0_press_29 ?_
      refine lv_sipush (v := 255) hx hb dX0_press_32 (by decide) ?_
      refine lv_iload_n hx hb dX0_press_35 rfl (lv_at hl 2 rfl) ?_
      refine ot_iadd hx hb (a := 255) (b := q) rfl rfl dX0_press_36 ?_
      refine ot_xl1 hC hK hI.1 (j := 255 + q) rfl (by omega) dX0_press_37 ?_
      refine lv_istore_n (lv' := [(3, .int (hd1 (255 + q))), (2, .int (hd1 (340 + q))), (0, .ref (a 0)), (1, .int (nI (q)))]) hx hb dX0_press_38 rfl hl (by decide) rfl (fun ls hl => ?_)
      refine lv_iload_n hx hb dX0_press_39 rfl (lv_at hl 1 rfl) ?_
      refine lv_iconst (v := 2) hx hb dX0_press_40 (by decide) ?_
      refine lv_icmp_ne (tgt := 93) hx hb dX0_press_41 (by decide) (fun c41 => ?_) (fun c41 => ?_)
      · skip
        refine lv_iload_n hx hb dX0_press_93 rfl (lv_at hl 1 rfl) ?_
        refine lv_if_eq (tgt := 134) hx hb dX0_press_94 (by decide) (fun c94 => ?_) (fun c94 => ?_)
        · skip
          refine lv_aload_n hx hb dX0_press_134 rfl (lv_at hl 2 rfl) ?_
          refine ot_xg1 hC hK hI.1 dX0_press_135 ?_
          refine lv_sipush (v := 340) hx hb dX0_press_138 (by decide) ?_
          refine lv_iload_n hx hb dX0_press_141 rfl (lv_at hl 3 rfl) ?_
          refine ot_iadd hx hb (a := 340) (b := q) rfl rfl dX0_press_142 ?_
          refine lv_iconst (v := 0) hx hb dX0_press_143 (by decide) ?_
          refine ot_xs1 hC hK hI (j := 340 + q) rfl (by omega) dX0_press_144 (fun H locs hI => ?_)
          refine lv_iinc (v := nI (q + 1)) (lv' := [(1, .int (nI (q + 1))), (3, .int (hd1 (255 + q))), (2, .int (hd1 (340 + q))), (0, .ref (a 0))]) hx hb dX0_press_145 hl (k := 3) rfl (ot_inc _) (by decide) rfl (fun ls hl => ?_)
          refine lv_goto (tgt := 11) hx hb dX0_press_148 (by decide) ?_
          have hE : ot_prs1 hd1 ct1 q = (upd hd1 (340 + q) (0), ct1) := by rw [ot_prs1, if_neg c41, if_pos c94]
          exact ih (q + 1) _ _ (by omega) hm (by rw [← hR, ot_prs, hE]) _ _ hI _ (lv_sub hl [3, 0] rfl)
        · skip
          refine lv_aload_n hx hb dX0_press_97 rfl (lv_at hl 2 rfl) ?_
          refine lv_iconst (v := 3) hx hb dX0_press_98 (by decide) ?_
          refine lv_iload_n hx hb dX0_press_99 rfl (lv_at hl 3 rfl) ?_
          refine ot_xcv [.int (3), .int (nI (q))] [] (xm_clearUnder l G d a mt fd fl hd1 ct1 wy ps pv 3 (q) (by decide) (by omega)) hC hK hI hA (cwV 2 hC.2.2.2.2 (lw_V q123 q125 qs7 q16 q126) rfl rfl rfl ok_yX0_clearUnder ⟨Nat.le_of_ble_eq_true rfl, Nat.le_of_ble_eq_true rfl⟩) rfl rfl hl.1 (Nat.le_of_ble_eq_true rfl) dX0_press_100 ⟨Nat.zero_le _, Nat.zero_le _⟩ (fun u34 H locs hp34 hI => ?_)
          have hp34 : u34 = (mt, fd, fl, ot_clr 255 (q) (84 - (q)) (q + 1) hd1, ct1, wy, ps, pv) := hp34
          subst hp34
          refine lv_aload_n hx hb dX0_press_103 rfl (lv_at hl 2 rfl) ?_
          refine ot_xg1 hC hK hI.1 dX0_press_104 ?_
          refine lv_sipush (v := 255) hx hb dX0_press_107 (by decide) ?_
          refine lv_iload_n hx hb dX0_press_110 rfl (lv_at hl 3 rfl) ?_
          refine ot_iadd hx hb (a := 255) (b := q) rfl rfl dX0_press_111 ?_
          refine lv_iload_n hx hb dX0_press_112 rfl (lv_at hl 1 rfl) ?_
          refine ot_xs1 hC hK hI (j := 255 + q) rfl (by omega) dX0_press_113 (fun H locs hI => ?_)
          refine lv_aload_n hx hb dX0_press_114 rfl (lv_at hl 2 rfl) ?_
          refine ot_xg2 hC hK hI.1 dX0_press_115 ?_
          refine lv_sipush (v := 255) hx hb dX0_press_118 (by decide) ?_
          refine lv_iload_n hx hb dX0_press_121 rfl (lv_at hl 3 rfl) ?_
          refine ot_iadd hx hb (a := 255) (b := q) rfl rfl dX0_press_122 ?_
          refine lv_aload_n hx hb dX0_press_123 rfl (lv_at hl 2 rfl) ?_
          refine ot_xg2 hC hK hI.1 dX0_press_124 ?_
          refine lv_sipush (v := 340) hx hb dX0_press_127 (by decide) ?_
          refine lv_iload_n hx hb dX0_press_130 rfl (lv_at hl 3 rfl) ?_
          refine ot_iadd hx hb (a := 340) (b := q) rfl rfl dX0_press_131 ?_
          refine ot_xl2 hC hK hI.1 (j := 340 + q) rfl (by omega) dX0_press_132 ?_
          refine ot_xs2 hC hK hI (j := 255 + q) rfl (by omega) dX0_press_133 (fun H locs hI => ?_)
          refine lv_aload_n hx hb dX0_press_134 rfl (lv_at hl 2 rfl) ?_
          refine ot_xg1 hC hK hI.1 dX0_press_135 ?_
          refine lv_sipush (v := 340) hx hb dX0_press_138 (by decide) ?_
          refine lv_iload_n hx hb dX0_press_141 rfl (lv_at hl 3 rfl) ?_
          refine ot_iadd hx hb (a := 340) (b := q) rfl rfl dX0_press_142 ?_
          refine lv_iconst (v := 0) hx hb dX0_press_143 (by decide) ?_
          refine ot_xs1 hC hK hI (j := 340 + q) rfl (by omega) dX0_press_144 (fun H locs hI => ?_)
          refine lv_iinc (v := nI (q + 1)) (lv' := [(1, .int (nI (q + 1))), (3, .int (hd1 (255 + q))), (2, .int (hd1 (340 + q))), (0, .ref (a 0))]) hx hb dX0_press_145 hl (k := 3) rfl (ot_inc _) (by decide) rfl (fun ls hl => ?_)
          refine lv_goto (tgt := 11) hx hb dX0_press_148 (by decide) ?_
          have hE : ot_prs1 hd1 ct1 q = (upd (upd (ot_clr 255 (q) (84 - (q)) (q + 1) hd1) (255 + q) (hd1 (340 + q))) (340 + q) (0), upd ct1 (255 + q) (ct1 (340 + q))) := by rw [ot_prs1, if_neg c41, if_neg c94]
          exact ih (q + 1) _ _ (by omega) hm (by rw [← hR, ot_prs, hE]) _ _ hI _ (lv_sub hl [3, 0] rfl)
      · skip
        refine lv_iload_n hx hb dX0_press_44 rfl (lv_at hl 0 rfl) ?_
        refine lv_iconst (v := 1) hx hb dX0_press_45 (by decide) ?_
        refine lv_icmp_eq (tgt := 54) hx hb dX0_press_46 (by decide) (fun c46 => ?_) (fun c46 => ?_)
        · skip
          refine lv_iconst (v := 1) hx hb dX0_press_54 (by decide) ?_
          refine lv_goto (tgt := 59) hx hb dX0_press_55 (by decide) ?_
          refine lv_istore (lv' := [(4, .int (1)), (3, .int (hd1 (255 + q))), (2, .int (hd1 (340 + q))), (0, .ref (a 0)), (1, .int (nI (q)))]) hx hb dX0_press_59 hl (by decide) rfl (fun ls hl => ?_)
          refine lv_aload_n hx hb dX0_press_61 rfl (lv_at hl 3 rfl) ?_
          refine ot_xg1 hC hK hI.1 dX0_press_62 ?_
          refine lv_sipush (v := 255) hx hb dX0_press_65 (by decide) ?_
          refine lv_iload_n hx hb dX0_press_68 rfl (lv_at hl 4 rfl) ?_
          refine ot_iadd hx hb (a := 255) (b := q) rfl rfl dX0_press_69 ?_
          refine lv_iload hx hb dX0_press_70 (lv_at hl 0 rfl) ?_
          refine lv_if_eq (tgt := 79) hx hb dX0_press_72 (by decide) (fun c_ => absurd c_ (by decide)) (fun _ => ?_)
          refine lv_iconst (v := 3) hx hb dX0_press_75 (by decide) ?_
          refine lv_goto (tgt := 89) hx hb dX0_press_76 (by decide) ?_
          refine ot_xs1 hC hK hI (j := 255 + q) rfl (by omega) dX0_press_89 (fun H locs hI => ?_)
          refine lv_goto (tgt := 134) hx hb dX0_press_90 (by decide) ?_
          refine lv_aload_n hx hb dX0_press_134 rfl (lv_at hl 3 rfl) ?_
          refine ot_xg1 hC hK hI.1 dX0_press_135 ?_
          refine lv_sipush (v := 340) hx hb dX0_press_138 (by decide) ?_
          refine lv_iload_n hx hb dX0_press_141 rfl (lv_at hl 4 rfl) ?_
          refine ot_iadd hx hb (a := 340) (b := q) rfl rfl dX0_press_142 ?_
          refine lv_iconst (v := 0) hx hb dX0_press_143 (by decide) ?_
          refine ot_xs1 hC hK hI (j := 340 + q) rfl (by omega) dX0_press_144 (fun H locs hI => ?_)
          refine lv_iinc (v := nI (q + 1)) (lv' := [(1, .int (nI (q + 1))), (4, .int (1)), (3, .int (hd1 (255 + q))), (2, .int (hd1 (340 + q))), (0, .ref (a 0))]) hx hb dX0_press_145 hl (k := 4) rfl (ot_inc _) (by decide) rfl (fun ls hl => ?_)
          refine lv_goto (tgt := 11) hx hb dX0_press_148 (by decide) ?_
          have hE : ot_prs1 hd1 ct1 q = (upd (upd hd1 (255 + q) (3)) (340 + q) (0), ct1) := by rw [ot_prs1, if_pos c41, if_pos (Or.inl c46)]
          exact ih (q + 1) _ _ (by omega) hm (by rw [← hR, ot_prs, hE]) _ _ hI _ (lv_sub hl [4, 0] rfl)
        · skip
          refine lv_iload_n hx hb dX0_press_49 rfl (lv_at hl 0 rfl) ?_
          refine lv_iconst (v := 4) hx hb dX0_press_50 (by decide) ?_
          refine lv_icmp_ne (tgt := 58) hx hb dX0_press_51 (by decide) (fun c51 => ?_) (fun c51 => ?_)
          · skip
            refine lv_iconst (v := 0) hx hb dX0_press_58 (by decide) ?_
            refine lv_istore (lv' := [(4, .int (0)), (3, .int (hd1 (255 + q))), (2, .int (hd1 (340 + q))), (0, .ref (a 0)), (1, .int (nI (q)))]) hx hb dX0_press_59 hl (by decide) rfl (fun ls hl => ?_)
            refine lv_aload_n hx hb dX0_press_61 rfl (lv_at hl 3 rfl) ?_
            refine ot_xg1 hC hK hI.1 dX0_press_62 ?_
            refine lv_sipush (v := 255) hx hb dX0_press_65 (by decide) ?_
            refine lv_iload_n hx hb dX0_press_68 rfl (lv_at hl 4 rfl) ?_
            refine ot_iadd hx hb (a := 255) (b := q) rfl rfl dX0_press_69 ?_
            refine lv_iload hx hb dX0_press_70 (lv_at hl 0 rfl) ?_
            refine lv_if_eq (tgt := 79) hx hb dX0_press_72 (by decide) (fun _ => ?_) (fun c_ => absurd (by decide) c_)
            refine lv_iload_n hx hb dX0_press_79 rfl (lv_at hl 1 rfl) ?_
            refine lv_iconst (v := 3) hx hb dX0_press_80 (by decide) ?_
            refine lv_icmp_ne (tgt := 88) hx hb dX0_press_81 (by decide) (fun c81 => ?_) (fun c81 => ?_)
            · skip
              refine lv_iconst (v := 2) hx hb dX0_press_88 (by decide) ?_
              refine ot_xs1 hC hK hI (j := 255 + q) rfl (by omega) dX0_press_89 (fun H locs hI => ?_)
              refine lv_goto (tgt := 134) hx hb dX0_press_90 (by decide) ?_
              refine lv_aload_n hx hb dX0_press_134 rfl (lv_at hl 3 rfl) ?_
              refine ot_xg1 hC hK hI.1 dX0_press_135 ?_
              refine lv_sipush (v := 340) hx hb dX0_press_138 (by decide) ?_
              refine lv_iload_n hx hb dX0_press_141 rfl (lv_at hl 4 rfl) ?_
              refine ot_iadd hx hb (a := 340) (b := q) rfl rfl dX0_press_142 ?_
              refine lv_iconst (v := 0) hx hb dX0_press_143 (by decide) ?_
              refine ot_xs1 hC hK hI (j := 340 + q) rfl (by omega) dX0_press_144 (fun H locs hI => ?_)
              refine lv_iinc (v := nI (q + 1)) (lv' := [(1, .int (nI (q + 1))), (4, .int (0)), (3, .int (hd1 (255 + q))), (2, .int (hd1 (340 + q))), (0, .ref (a 0))]) hx hb dX0_press_145 hl (k := 4) rfl (ot_inc _) (by decide) rfl (fun ls hl => ?_)
              refine lv_goto (tgt := 11) hx hb dX0_press_148 (by decide) ?_
              have hE : ot_prs1 hd1 ct1 q = (upd (upd hd1 (255 + q) (2)) (340 + q) (0), ct1) := by rw [ot_prs1, if_pos c41, if_neg (not_or.mpr ⟨c46, c51⟩), if_neg c81]
              exact ih (q + 1) _ _ (by omega) hm (by rw [← hR, ot_prs, hE]) _ _ hI _ (lv_sub hl [4, 0] rfl)
            · skip
              refine lv_iconst (v := 3) hx hb dX0_press_84 (by decide) ?_
              refine lv_goto (tgt := 89) hx hb dX0_press_85 (by decide) ?_
              refine ot_xs1 hC hK hI (j := 255 + q) rfl (by omega) dX0_press_89 (fun H locs hI => ?_)
              refine lv_goto (tgt := 134) hx hb dX0_press_90 (by decide) ?_
              refine lv_aload_n hx hb dX0_press_134 rfl (lv_at hl 3 rfl) ?_
              refine ot_xg1 hC hK hI.1 dX0_press_135 ?_
              refine lv_sipush (v := 340) hx hb dX0_press_138 (by decide) ?_
              refine lv_iload_n hx hb dX0_press_141 rfl (lv_at hl 4 rfl) ?_
              refine ot_iadd hx hb (a := 340) (b := q) rfl rfl dX0_press_142 ?_
              refine lv_iconst (v := 0) hx hb dX0_press_143 (by decide) ?_
              refine ot_xs1 hC hK hI (j := 340 + q) rfl (by omega) dX0_press_144 (fun H locs hI => ?_)
              refine lv_iinc (v := nI (q + 1)) (lv' := [(1, .int (nI (q + 1))), (4, .int (0)), (3, .int (hd1 (255 + q))), (2, .int (hd1 (340 + q))), (0, .ref (a 0))]) hx hb dX0_press_145 hl (k := 4) rfl (ot_inc _) (by decide) rfl (fun ls hl => ?_)
              refine lv_goto (tgt := 11) hx hb dX0_press_148 (by decide) ?_
              have hE : ot_prs1 hd1 ct1 q = (upd (upd hd1 (255 + q) (3)) (340 + q) (0), ct1) := by rw [ot_prs1, if_pos c41, if_neg (not_or.mpr ⟨c46, c51⟩), if_pos c81]
              exact ih (q + 1) _ _ (by omega) hm (by rw [← hR, ot_prs, hE]) _ _ hI _ (lv_sub hl [4, 0] rfl)
          · skip
            refine lv_iconst (v := 1) hx hb dX0_press_54 (by decide) ?_
            refine lv_goto (tgt := 59) hx hb dX0_press_55 (by decide) ?_
            refine lv_istore (lv' := [(4, .int (1)), (3, .int (hd1 (255 + q))), (2, .int (hd1 (340 + q))), (0, .ref (a 0)), (1, .int (nI (q)))]) hx hb dX0_press_59 hl (by decide) rfl (fun ls hl => ?_)
            refine lv_aload_n hx hb dX0_press_61 rfl (lv_at hl 3 rfl) ?_
            refine ot_xg1 hC hK hI.1 dX0_press_62 ?_
            refine lv_sipush (v := 255) hx hb dX0_press_65 (by decide) ?_
            refine lv_iload_n hx hb dX0_press_68 rfl (lv_at hl 4 rfl) ?_
            refine ot_iadd hx hb (a := 255) (b := q) rfl rfl dX0_press_69 ?_
            refine lv_iload hx hb dX0_press_70 (lv_at hl 0 rfl) ?_
            refine lv_if_eq (tgt := 79) hx hb dX0_press_72 (by decide) (fun c_ => absurd c_ (by decide)) (fun _ => ?_)
            refine lv_iconst (v := 3) hx hb dX0_press_75 (by decide) ?_
            refine lv_goto (tgt := 89) hx hb dX0_press_76 (by decide) ?_
            refine ot_xs1 hC hK hI (j := 255 + q) rfl (by omega) dX0_press_89 (fun H locs hI => ?_)
            refine lv_goto (tgt := 134) hx hb dX0_press_90 (by decide) ?_
            refine lv_aload_n hx hb dX0_press_134 rfl (lv_at hl 3 rfl) ?_
            refine ot_xg1 hC hK hI.1 dX0_press_135 ?_
            refine lv_sipush (v := 340) hx hb dX0_press_138 (by decide) ?_
            refine lv_iload_n hx hb dX0_press_141 rfl (lv_at hl 4 rfl) ?_
            refine ot_iadd hx hb (a := 340) (b := q) rfl rfl dX0_press_142 ?_
            refine lv_iconst (v := 0) hx hb dX0_press_143 (by decide) ?_
            refine ot_xs1 hC hK hI (j := 340 + q) rfl (by omega) dX0_press_144 (fun H locs hI => ?_)
            refine lv_iinc (v := nI (q + 1)) (lv' := [(1, .int (nI (q + 1))), (4, .int (1)), (3, .int (hd1 (255 + q))), (2, .int (hd1 (340 + q))), (0, .ref (a 0))]) hx hb dX0_press_145 hl (k := 4) rfl (ot_inc _) (by decide) rfl (fun ls hl => ?_)
            refine lv_goto (tgt := 11) hx hb dX0_press_148 (by decide) ?_
            have hE : ot_prs1 hd1 ct1 q = (upd (upd hd1 (255 + q) (3)) (340 + q) (0), ct1) := by rw [ot_prs1, if_pos c41, if_pos (Or.inr c51)]
            exact ih (q + 1) _ _ (by omega) hm (by rw [← hR, ot_prs, hE]) _ _ hI _ (lv_sub hl [4, 0] rfl)
  refine lv_aload_n hx hb dX0_press_0 rfl (lv_at hl 0 rfl) ?_
  refine ot_xg0 hC hK hI.1 dX0_press_1 ?_
  refine lv_if_ne (tgt := 9) hx hb dX0_press_4 (by decide) (fun c4 => ?_) (fun c4 => ?_)
  · skip
    refine lv_iconst (v := 1) hx hb dX0_press_9 (by decide) ?_
    refine lv_istore_n (lv' := [(1, .int (1)), (0, .ref (a 0))]) hx hb dX0_press_10 rfl hl (by decide) rfl (fun ls hl => ?_)
    exact lp 84 1 hd ct (by omega) c4 rfl _ _ hI _ (lv_sub hl [1, 0] rfl)
  · skip
    refine lv_iconst (v := (-1)) hx hb dX0_press_7 (by decide) ?_
    exact ot_iret (u := (mt, fd, fl, hd, ct, wy, ps, pv)) hC hK hr hlk hI (ot_xPe (by rw [ot_xprs, if_pos c4])) dX0_press_8
set_option maxHeartbeats 4000000 in
set_option maxRecDepth 100000 in
theorem xm_move (l : Launch) (G : va_G) (d : ClassId) (a : Nat → Nat) (mt fd fl : Int32) (hd ct wy ps pv : Nat → Int32) (p0 p1 : Int32) : ot_Mi l G d yX0_move cX0_move 5 (some .int) rmX0_move (ot_xa a) (ot_xW d a) ([.ref (a 0), .int (p0), .int (p1)] : List Value) (mt, fd, fl, hd, ct, wy, ps, pv) (ot_xP (ot_xmov mt hd ct ps pv p0 p1)) := by
  refine ot_Mi_of (by decide) rfl (Nat.le_of_ble_eq_true rfl) ?_
  intro p e s m below meth c hC hK hr hlk hI ls hl
  have hC : CallFix p m c cX0_move 5 s ([.ref (a 0), .int (p0), .int (p1)] : List Value).toArray lw_all RX0 := hC
  have hx := hC.1
  have hb := hC.2.1
  have hA : ∀ q, s.heap.size ≤ q → ot_F (ot_xa a) s.heap.size q := fun q h => Or.inr h
  have hl : lv_has ls 5 [(0, .ref (a 0)), (1, .int (p0)), (2, .int (p1))] := hl
  refine lv_aload_n hx hb dX0_move_0 rfl (lv_at hl 0 rfl) ?_
  refine lv_iload_n hx hb dX0_move_1 rfl (lv_at hl 1 rfl) ?_
  refine ot_xci [.int (p0)] [] (xm_sort l G d a mt fd fl hd ct wy ps pv (p0)) hC hK hI hA (cwV 1 hC.2.2.2.2 (lw_V q67 q68 q69 q16 q70) rfl rfl rfl ok_yX0_sort ⟨Nat.le_of_ble_eq_true rfl, Nat.le_of_ble_eq_true rfl⟩) rfl rfl hl.1 (Nat.le_of_ble_eq_true rfl) dX0_move_2 ⟨Nat.zero_le _, Nat.zero_le _⟩ (fun r35 u35 H locs hp35 hI => ?_)
  obtain ⟨fd35, fl35, wy35, rfl, hr35, hf35⟩ := hp35
  subst hr35
  refine lv_if_le (tgt := 28) hx hb dX0_move_5 (by decide) (fun c5 => ?_) (fun c5 => ?_)
  · skip
    refine lv_iconst (v := (-1)) hx hb dX0_move_28 (by decide) ?_
    exact ot_iret (u := (mt, fd35, fl35, hd, ct, wy35, ps, pv)) hC hK hr hlk hI (ot_xPe (by rw [ot_xmov, if_pos (Or.inl c5)])) dX0_move_29
  · skip
    refine lv_iload_n hx hb dX0_move_8 rfl (lv_at hl 1 rfl) ?_
    refine lv_if_eq (tgt := 28) hx hb dX0_move_9 (by decide) (fun c9 => ?_) (fun c9 => ?_)
    · skip
      refine lv_iconst (v := (-1)) hx hb dX0_move_28 (by decide) ?_
      exact ot_iret (u := (mt, fd35, fl35, hd, ct, wy35, ps, pv)) hC hK hr hlk hI (ot_xPe (by rw [ot_xmov, if_pos (Or.inr (Or.inl c9))])) dX0_move_29
    · skip
      refine lv_aload_n hx hb dX0_move_12 rfl (lv_at hl 0 rfl) ?_
      refine lv_iload_n hx hb dX0_move_13 rfl (lv_at hl 2 rfl) ?_
      refine ot_xci [.int (p1)] [] (xm_isRoom l G d a mt fd35 fl35 hd ct wy35 ps pv (p1)) hC hK hI hA (cwV 1 hC.2.2.2.2 (lw_V q87 q89 qs3 q16 q90) rfl rfl rfl ok_yX0_isRoom ⟨Nat.le_of_ble_eq_true rfl, Nat.le_of_ble_eq_true rfl⟩) rfl rfl hl.1 (Nat.le_of_ble_eq_true rfl) dX0_move_14 ⟨Nat.zero_le _, Nat.zero_le _⟩ (fun r36 u36 H locs hp36 hI => ?_)
      obtain ⟨fd36, fl36, wy36, rfl, rfl⟩ := hp36
      refine lv_if_eq (tgt := 28) hx hb dX0_move_17 (by decide) (fun c17 => ?_) (fun c17 => ?_)
      · skip
        refine lv_iconst (v := (-1)) hx hb dX0_move_28 (by decide) ?_
        exact ot_iret (u := (mt, fd36, fl36, hd, ct, wy36, ps, pv)) hC hK hr hlk hI (ot_xPe (by rw [ot_xmov, if_pos (Or.inr (Or.inr (Or.inl (ot_bd0.mp c17))))])) dX0_move_29
      · skip
        have hrm : ot_room mt hd p1 := Decidable.not_not.mp (fun z => c17 (ot_bd0.mpr z))
        obtain ⟨f, hf, rfl⟩ := ot_xs_in (x := p0) (fun z => c5 (by rw [z]; decide))
        obtain ⟨t, ht0, ht, rfl⟩ := ot_room_k hrm
        have hpt := ot_par84 ht
        have ef : ot_k (nI f) = f := ot_kI (by omega)
        have et : ot_k (nI t) = t := ot_kI (by omega)
        refine lv_iload_n hx hb dX0_move_20 rfl (lv_at hl 2 rfl) ?_
        refine lv_iload_n hx hb dX0_move_21 rfl (lv_at hl 1 rfl) ?_
        refine ot_calls (As := [.int (nI (t)), .int (nI (f))]) (rest := []) (xm_isUnder l (t) (f) (by omega) (by omega)) hC (va_cwS 2 hC.2.2.2.2 (lw_S q127 q128 q16 q129) rfl rfl rfl ok_yX0_isUnder ⟨Nat.le_of_ble_eq_true rfl, Nat.le_of_ble_eq_true rfl⟩) rfl rfl hl.1 (Nat.le_of_ble_eq_true rfl) dX0_move_22 ⟨Nat.zero_le _, Nat.zero_le _⟩ ?_
        refine lv_if_eq (tgt := 30) hx hb dX0_move_25 (by decide) (fun c25 => ?_) (fun c25 => ?_)
        · skip
          have hcond : ¬ (ot_xsort mt hd (nI f) ≤ 0 ∨ nI f = 0 ∨ ¬ ot_room mt hd (nI t) ∨ ot_und 3 (ot_k (nI t)) (ot_k (nI f)) = true) := by
            rintro (z | z | z | z)
            · exact c5 z
            · exact c9 z
            · exact z hrm
            · rw [et, ef, ot_b0.mp c25] at z; cases z
          refine lv_aload_n hx hb dX0_move_30 rfl (lv_at hl 0 rfl) ?_
          refine lv_iload_n hx hb dX0_move_31 rfl (lv_at hl 1 rfl) ?_
          refine lv_iload_n hx hb dX0_move_32 rfl (lv_at hl 2 rfl) ?_
          refine ot_xci [.int (nI (f)), .int (nI (t))] [] (xm_copyPart l G d a mt fd36 fl36 hd ct wy36 ps pv (f) (t) (by omega) (by omega)) hC hK hI hA (cwV 2 hC.2.2.2.2 (lw_V q134 q136 qs8 q16 q137) rfl rfl rfl ok_yX0_copyPart ⟨Nat.le_of_ble_eq_true rfl, Nat.le_of_ble_eq_true rfl⟩) rfl rfl hl.1 (Nat.le_of_ble_eq_true rfl) dX0_move_33 ⟨Nat.zero_le _, Nat.zero_le _⟩ (fun r37 u37 H locs hp37 hI => ?_)
          obtain ⟨fd37, fl37, wy37, ps37, pv37, rfl, hcp⟩ := hp37
          rcases hcs : ot_cp hd ct mt f t (85 - f) f 0 (ot_zer ps 85 0) pv with _ | ⟨n, ps2, pv2⟩
          · rw [hcs] at hcp
            have hcp : r37 = (-1) := hcp
            subst hcp
            refine lv_istore_n (lv' := [(3, .int ((-1))), (0, .ref (a 0)), (1, .int (nI (f))), (2, .int (nI (t)))]) hx hb dX0_move_36 rfl hl (by decide) rfl (fun ls hl => ?_)
            refine lv_iload_n hx hb dX0_move_37 rfl (lv_at hl 0 rfl) ?_
            refine lv_if_ge (tgt := 43) hx hb dX0_move_38 (by decide) (fun c_ => absurd c_ (by decide)) (fun _ => ?_)
            refine lv_iconst (v := (-1)) hx hb dX0_move_41 (by decide) ?_
            exact ot_iret (u := (mt, fd37, fl37, hd, ct, wy37, ps37, pv37)) hC hK hr hlk hI (ot_xPe (by rw [ot_xmov, if_neg hcond, ef, et, hcs]; rfl)) dX0_move_42
          · rw [hcs] at hcp
            obtain ⟨rfl, rfl, rfl⟩ := hcp
            have hn : n ≤ 0 + (85 - f) := ot_cp_le hcs
            have hI : ot_I G _ s H locs (ot_xW d a (mt, fd37, fl37, hd, ct, wy37, ps37, pv37)) := hI
            have lp : ∀ (j q : Nat) (fd1 fl1 : Int32) (wy1 hd1 ct1 : Nat → Int32) (hq : q + j = 85) (hR : ot_ptl ps37 pv37 j q hd1 ct1 = ot_ptl ps37 pv37 85 0 (ot_cup 3 (ot_tka mt hd ct f).1 (ot_par t)) (ot_tka mt hd ct f).2), ∀ (H : Heap) (locs : List Loc), ot_I G (ot_F (ot_xa a) s.heap.size) s H locs (ot_xW d a (mt, fd1, fl1, hd1, ct1, wy1, ps37, pv37)) → ∀ (ls : Array Slot), lv_has ls 5 [(0, .ref (a 0)), (3, .int (nI (n))), (4, .int (nI (q)))] → W p l e rmX0_move s m ([.ref (a 0), .int (nI f), .int (nI t)] : List Value).toArray below meth c H locs 0 0 (ot_Zi G d (ot_xa a) (ot_xW d a) (ot_xP (ot_xmov mt hd ct ps pv (nI f) (nI t))) below ([.ref (a 0), .int (nI f), .int (nI t)] : List Value).toArray s) (F0 m 59 ls []) := by
              intro j
              induction j with
              | zero =>
                intro q fd1 fl1 wy1 hd1 ct1 hq hR H locs hI ls hl
                refine lv_iload hx hb dX0_move_59 (lv_at hl 2 rfl) ?_
                refine lv_bipush (v := 85) hx hb dX0_move_61 (by decide) ?_
                refine ot_icmp_ge hx hb (a := q) (b := 85) rfl rfl (by omega) (by omega) (tgt := 119) dX0_move_63 (by decide) (fun _ => ?_) (fun c_ => absurd (by omega) c_)
                refine lv_iload_n hx hb dX0_move_119 rfl (lv_at hl 1 rfl) ?_
                exact ot_iret (u := (mt, fd1, fl1, hd1, ct1, wy1, ps37, pv37)) hC hK hr hlk hI (ot_xPe (by rw [ot_xmov, if_neg hcond, ef, et, hcs, ot_xmov1, ← hR]; rfl)) dX0_move_120
              | succ j ih =>
                intro q fd1 fl1 wy1 hd1 ct1 hq hR H locs hI ls hl
                refine lv_iload hx hb dX0_move_59 (lv_at hl 2 rfl) ?_
                refine lv_bipush (v := 85) hx hb dX0_move_61 (by decide) ?_
                refine ot_icmp_ge hx hb (a := q) (b := 85) rfl rfl (by omega) (by omega) (tgt := 119) dX0_move_63 (by decide) (fun c_ => absurd c_ (by omega)) (fun _ => ?_)
                refine lv_aload_n hx hb dX0_move_66 rfl (lv_at hl 0 rfl) ?_
                refine ot_xg6 hC hK hI.1 dX0_move_67 ?_
                refine lv_iload hx hb dX0_move_70 (lv_at hl 2 rfl) ?_
                refine ot_xl4 hC hK hI.1 (j := q) rfl (by omega) dX0_move_72 ?_
                refine lv_iconst (v := 1) hx hb dX0_move_73 (by decide) ?_
                refine lv_icmp_ne (tgt := 94) hx hb dX0_move_74 (by decide) (fun c74 => ?_) (fun c74 => ?_)
                · skip
                  refine lv_aload_n hx hb dX0_move_94 rfl (lv_at hl 0 rfl) ?_
                  refine ot_xg6 hC hK hI.1 dX0_move_95 ?_
                  refine lv_iload hx hb dX0_move_98 (lv_at hl 2 rfl) ?_
                  refine ot_xl4 hC hK hI.1 (j := q) rfl (by omega) dX0_move_100 ?_
                  refine lv_iconst (v := 2) hx hb dX0_move_101 (by decide) ?_
                  refine lv_icmp_ne (tgt := 113) hx hb dX0_move_102 (by decide) (fun c102 => ?_) (fun c102 => ?_)
                  · skip
                    refine lv_iinc (v := nI (q + 1)) (lv' := [(4, .int (nI (q + 1))), (0, .ref (a 0)), (3, .int (nI (n)))]) hx hb dX0_move_113 hl (k := 2) rfl (ot_inc _) (by decide) rfl (fun ls hl => ?_)
                    refine lv_goto (tgt := 59) hx hb dX0_move_116 (by decide) ?_
                    exact ih (q + 1) _ _ _ _ _ (by omega) (by rw [← hR, ot_ptl, if_neg c74, if_neg c102]) _ _ hI _ (lv_sub hl [1, 2, 0] rfl)
                  · skip
                    refine lv_aload_n hx hb dX0_move_105 rfl (lv_at hl 0 rfl) ?_
                    refine lv_iload hx hb dX0_move_106 (lv_at hl 2 rfl) ?_
                    refine lv_iconst (v := 3) hx hb dX0_move_108 (by decide) ?_
                    refine lv_iconst (v := 0) hx hb dX0_move_109 (by decide) ?_
                    refine ot_xcv [.int (nI (q)), .int (3), .int (0)] [] (xm_put l G d a mt fd1 fl1 hd1 ct1 wy1 ps37 pv37 (q) (by omega) 3 0) hC hK hI hA (cwV 3 hC.2.2.2.2 (lw_V q95 q97 qs5 q16 q98) rfl rfl rfl ok_yX0_put ⟨Nat.le_of_ble_eq_true rfl, Nat.le_of_ble_eq_true rfl⟩) rfl rfl hl.1 (Nat.le_of_ble_eq_true rfl) dX0_move_110 ⟨Nat.zero_le _, Nat.zero_le _⟩ (fun u38 H locs hp38 hI => ?_)
                    subst hp38
                    refine lv_iinc (v := nI (q + 1)) (lv' := [(4, .int (nI (q + 1))), (0, .ref (a 0)), (3, .int (nI (n)))]) hx hb dX0_move_113 hl (k := 2) rfl (ot_inc _) (by decide) rfl (fun ls hl => ?_)
                    refine lv_goto (tgt := 59) hx hb dX0_move_116 (by decide) ?_
                    exact ih (q + 1) _ _ _ _ _ (by omega) (by rw [← hR, ot_ptl, if_neg c74, if_pos c102]) _ _ hI _ (lv_sub hl [1, 2, 0] rfl)
                · skip
                  refine lv_aload_n hx hb dX0_move_77 rfl (lv_at hl 0 rfl) ?_
                  refine lv_iload hx hb dX0_move_78 (lv_at hl 2 rfl) ?_
                  refine lv_iconst (v := 1) hx hb dX0_move_80 (by decide) ?_
                  refine lv_aload_n hx hb dX0_move_81 rfl (lv_at hl 0 rfl) ?_
                  refine ot_xg7 hC hK hI.1 dX0_move_82 ?_
                  refine lv_iload hx hb dX0_move_85 (lv_at hl 2 rfl) ?_
                  refine ot_xl5 hC hK hI.1 (j := q) rfl (by omega) dX0_move_87 ?_
                  refine ot_xcv [.int (nI (q)), .int (1), .int (pv37 (q))] [] (xm_put l G d a mt fd1 fl1 hd1 ct1 wy1 ps37 pv37 (q) (by omega) 1 (pv37 (q))) hC hK hI hA (cwV 3 hC.2.2.2.2 (lw_V q95 q97 qs5 q16 q98) rfl rfl rfl ok_yX0_put ⟨Nat.le_of_ble_eq_true rfl, Nat.le_of_ble_eq_true rfl⟩) rfl rfl hl.1 (Nat.le_of_ble_eq_true rfl) dX0_move_88 ⟨Nat.zero_le _, Nat.zero_le _⟩ (fun u39 H locs hp39 hI => ?_)
                  subst hp39
                  refine lv_goto (tgt := 113) hx hb dX0_move_91 (by decide) ?_
                  refine lv_iinc (v := nI (q + 1)) (lv' := [(4, .int (nI (q + 1))), (0, .ref (a 0)), (3, .int (nI (n)))]) hx hb dX0_move_113 hl (k := 2) rfl (ot_inc _) (by decide) rfl (fun ls hl => ?_)
                  refine lv_goto (tgt := 59) hx hb dX0_move_116 (by decide) ?_
                  exact ih (q + 1) _ _ _ _ _ (by omega) (by rw [← hR, ot_ptl, if_pos c74]) _ _ hI _ (lv_sub hl [1, 2, 0] rfl)
            refine lv_istore_n (lv' := [(3, .int (nI (n))), (0, .ref (a 0)), (1, .int (nI (f))), (2, .int (nI (t)))]) hx hb dX0_move_36 rfl hl (by decide) rfl (fun ls hl => ?_)
            refine lv_iload_n hx hb dX0_move_37 rfl (lv_at hl 0 rfl) ?_
            refine ot_if_ge hx hb (a := n) rfl (by omega) (tgt := 43) dX0_move_38 (by decide) (fun _ => ?_) (fun c_ => absurd (by omega) c_)
            refine lv_aload_n hx hb dX0_move_43 rfl (lv_at hl 1 rfl) ?_
            refine lv_iload_n hx hb dX0_move_44 rfl (lv_at hl 2 rfl) ?_
            refine ot_xcv [.int (nI (f))] [] (xm_takeAway l G d a mt fd37 fl37 hd ct wy37 ps37 pv37 (f) (by omega)) hC hK hI hA (cwV 1 hC.2.2.2.2 (lw_V q119 q121 qs6 q16 q122) rfl rfl rfl ok_yX0_takeAway ⟨Nat.le_of_ble_eq_true rfl, Nat.le_of_ble_eq_true rfl⟩) rfl rfl hl.1 (Nat.le_of_ble_eq_true rfl) dX0_move_45 ⟨Nat.zero_le _, Nat.zero_le _⟩ (fun u40 H locs hp40 hI => ?_)
            obtain ⟨fd40, fl40, wy40, rfl⟩ := hp40
            refine lv_aload_n hx hb dX0_move_48 rfl (lv_at hl 1 rfl) ?_
            refine lv_iload_n hx hb dX0_move_49 rfl (lv_at hl 3 rfl) ?_
            refine ot_calls (As := [.int (nI (t))]) (rest := [.ref (a 0)]) (xm_parentOf l (t) (by omega)) hC (va_cwS 1 hC.2.2.2.2 (lw_S q56 q57 q16 q58) rfl rfl rfl ok_yX0_parentOf ⟨Nat.le_of_ble_eq_true rfl, Nat.le_of_ble_eq_true rfl⟩) rfl rfl hl.1 (Nat.le_of_ble_eq_true rfl) dX0_move_50 ⟨Nat.zero_le _, Nat.zero_le _⟩ ?_
            refine ot_xcv [.int (nI (ot_par (t)))] [] (xm_copyUpTo l G d a mt fd40 fl40 ((ot_tka mt hd ct (f)).1) ((ot_tka mt hd ct (f)).2) wy40 ps37 pv37 (ot_par (t)) (by omega)) hC hK hI hA (cwV 1 hC.2.2.2.2 (lw_V q91 q93 qs4 q16 q94) rfl rfl rfl ok_yX0_copyUpTo ⟨Nat.le_of_ble_eq_true rfl, Nat.le_of_ble_eq_true rfl⟩) rfl rfl hl.1 (Nat.le_of_ble_eq_true rfl) dX0_move_53 ⟨Nat.zero_le _, Nat.zero_le _⟩ (fun u41 H locs hp41 hI => ?_)
            subst hp41
            refine lv_iconst (v := 0) hx hb dX0_move_56 (by decide) ?_
            refine lv_istore (lv' := [(4, .int (0)), (3, .int (nI (n))), (0, .ref (a 0)), (1, .int (nI (f))), (2, .int (nI (t)))]) hx hb dX0_move_57 hl (by decide) rfl (fun ls hl => ?_)
            exact lp 85 0 _ _ _ _ _ (by omega) rfl _ _ hI _ (lv_sub hl [2, 1, 0] rfl)
        · skip
          refine lv_iconst (v := (-1)) hx hb dX0_move_28 (by decide) ?_
          exact ot_iret (u := (mt, fd36, fl36, hd, ct, wy36, ps, pv)) hC hK hr hlk hI (ot_xPe (by rw [ot_xmov, if_pos (Or.inr (Or.inr (Or.inr (by rw [et, ef]; exact ot_bt c25))))])) dX0_move_29
end
section
set_option maxRecDepth 100000
set_option maxHeartbeats 4000000 in
set_option maxRecDepth 100000 in
theorem mm_bad (l : Launch) (p0 : Int32) : ot_Ms l yX1_bad cX1_bad 1 (some .boolean) rmX1_bad ([.int (p0)] : List Value) (ot_b (decide (p0 < 0 ∨ 84 < p0))) := by
  refine ot_Ms_of (by decide) (Nat.le_of_ble_eq_true rfl) ?_
  intro p e s m below meth c hC hr hlk ls hl
  have hC : CallFix p m c cX1_bad 1 s ([.int (p0)] : List Value).toArray lw_all RX1 := hC
  have hx := hC.1
  have hb := hC.2.1
  have hl : lv_has ls 1 [(0, .int (p0))] := hl
  refine lv_iload_n hx hb dX1_bad_0 rfl (lv_at hl 0 rfl) ?_
  refine lv_if_lt (tgt := 10) hx hb dX1_bad_1 (by decide) (fun c1 => ?_) (fun c1 => ?_)
  · skip
    refine lv_iconst (v := 1) hx hb dX1_bad_10 (by decide) ?_
    refine lv_goto (tgt := 15) hx hb dX1_bad_11 (by decide) ?_
    exact ot_zretR hC hr hlk (ot_bT (Or.inl c1)) rfl dX1_bad_15
  · skip
    refine lv_iload_n hx hb dX1_bad_4 rfl (lv_at hl 0 rfl) ?_
    refine lv_bipush (v := 84) hx hb dX1_bad_5 (by decide) ?_
    refine lv_icmp_le (tgt := 14) hx hb dX1_bad_7 (by decide) (fun c7 => ?_) (fun c7 => ?_)
    · skip
      refine lv_iconst (v := 0) hx hb dX1_bad_14 (by decide) ?_
      exact ot_zretR hC hr hlk (ot_bF (fun h => h.elim c1 (Int32.not_lt.mpr c7))) rfl dX1_bad_15
    · skip
      refine lv_iconst (v := 1) hx hb dX1_bad_10 (by decide) ?_
      refine lv_goto (tgt := 15) hx hb dX1_bad_11 (by decide) ?_
      exact ot_zretR hC hr hlk (ot_bT (Or.inr (Int32.not_le.mp c7))) rfl dX1_bad_15
set_option maxHeartbeats 4000000 in
set_option maxRecDepth 100000 in
theorem mm_parent (l : Launch) (q : Nat) (hq : q < 85) : ot_Ms l yX1_parent cX1_parent 1 (some .int) rmX1_parent ([.int (nI (q))] : List Value) (nI (ot_par q)) := by
  refine ot_Ms_of (by decide) (Nat.le_of_ble_eq_true rfl) ?_
  intro p e s m below meth c hC hr hlk ls hl
  have hC : CallFix p m c cX1_parent 1 s ([.int (nI (q))] : List Value).toArray lw_all RX1 := hC
  have hx := hC.1
  have hb := hC.2.1
  have hl : lv_has ls 1 [(0, .int (nI (q)))] := hl
  refine lv_iload_n hx hb dX1_parent_0 rfl (lv_at hl 0 rfl) ?_
  refine lv_iconst (v := 1) hx hb dX1_parent_1 (by decide) ?_
  refine lv_isub hx hb dX1_parent_2 ?_
  refine lv_iconst (v := 4) hx hb dX1_parent_3 (by decide) ?_
  refine lv_idiv hx hb dX1_parent_4 (by decide) ?_
  refine ot_r (y := nI (ot_par (q))) (ot_parI (by omega)) ?_
  exact ot_iretR hC hr hlk (rfl) dX1_parent_5
set_option maxHeartbeats 4000000 in
set_option maxRecDepth 100000 in
theorem mm_layerDirectory (l : Launch) (G : va_G) (d : ClassId) (a : Nat → Nat) (mt : Int32) (ls_ lv_ so va im : Nat → Int32) (y0 k : Nat) (hy0 : y0 < 3) (hk : k < 85) : ot_Mr l G d yX1_layerDirectory cX1_layerDirectory 4 (some .boolean) rmX1_layerDirectory (ot_mW d a (mt, ls_, lv_, so, va, im)) ([.ref (a 0), .int (nI (y0)), .int (nI (k))] : List Value) (ot_b (decide (k = 0 ∨ ls_ (85 * y0 + k) = 2 ∨ ls_ (85 * y0 + k) = 3))) := by
  refine ot_Mr_of (by decide) (Nat.le_of_ble_eq_true rfl) ?_
  intro p e s m below meth c hC hK hr hlk hP ls hl
  have hC : CallFix p m c cX1_layerDirectory 4 s ([.ref (a 0), .int (nI (y0)), .int (nI (k))] : List Value).toArray lw_all RX1 := hC
  have hx := hC.1
  have hb := hC.2.1
  have hl : lv_has ls 4 [(0, .ref (a 0)), (1, .int (nI (y0))), (2, .int (nI (k)))] := hl
  refine lv_aload_n hx hb dX1_layerDirectory_0 rfl (lv_at hl 0 rfl) ?_
  refine ot_mg0 hC hK hP dX1_layerDirectory_1 ?_
  refine lv_bipush (v := 85) hx hb dX1_layerDirectory_4 (by decide) ?_
  refine lv_iload_n hx hb dX1_layerDirectory_6 rfl (lv_at hl 1 rfl) ?_
  refine ot_imul hx hb (a := 85) (b := y0) rfl rfl dX1_layerDirectory_7 ?_
  refine lv_iload_n hx hb dX1_layerDirectory_8 rfl (lv_at hl 2 rfl) ?_
  refine ot_iadd hx hb (a := 85 * y0) (b := k) rfl rfl dX1_layerDirectory_9 ?_
  refine ot_ml1 hC hK hP (j := 85 * y0 + k) rfl (by omega) dX1_layerDirectory_10 ?_
  refine lv_istore_n (lv' := [(3, .int (ls_ (85 * y0 + k))), (0, .ref (a 0)), (1, .int (nI (y0))), (2, .int (nI (k)))]) hx hb dX1_layerDirectory_11 rfl hl (by decide) rfl (fun ls hl => ?_)
  refine lv_iload_n hx hb dX1_layerDirectory_12 rfl (lv_at hl 3 rfl) ?_
  refine ot_if_eq hx hb (a := k) rfl (by omega) (tgt := 26) dX1_layerDirectory_13 (by decide) (fun c13 => ?_) (fun c13 => ?_)
  · skip
    refine lv_iconst (v := 1) hx hb dX1_layerDirectory_26 (by decide) ?_
    refine lv_goto (tgt := 31) hx hb dX1_layerDirectory_27 (by decide) ?_
    exact ot_zretR hC hr hlk (ot_bT (Or.inl c13)) rfl dX1_layerDirectory_31
  · skip
    refine lv_iload_n hx hb dX1_layerDirectory_16 rfl (lv_at hl 0 rfl) ?_
    refine lv_iconst (v := 2) hx hb dX1_layerDirectory_17 (by decide) ?_
    refine lv_icmp_eq (tgt := 26) hx hb dX1_layerDirectory_18 (by decide) (fun c18 => ?_) (fun c18 => ?_)
    · skip
      refine lv_iconst (v := 1) hx hb dX1_layerDirectory_26 (by decide) ?_
      refine lv_goto (tgt := 31) hx hb dX1_layerDirectory_27 (by decide) ?_
      exact ot_zretR hC hr hlk (ot_bT (Or.inr (Or.inl c18))) rfl dX1_layerDirectory_31
    · skip
      refine lv_iload_n hx hb dX1_layerDirectory_21 rfl (lv_at hl 0 rfl) ?_
      refine lv_iconst (v := 3) hx hb dX1_layerDirectory_22 (by decide) ?_
      refine lv_icmp_ne (tgt := 30) hx hb dX1_layerDirectory_23 (by decide) (fun c23 => ?_) (fun c23 => ?_)
      · skip
        refine lv_iconst (v := 0) hx hb dX1_layerDirectory_30 (by decide) ?_
        exact ot_zretR hC hr hlk (ot_bF (fun h => h.elim c13 (fun h => h.elim c18 c23))) rfl dX1_layerDirectory_31
      · skip
        refine lv_iconst (v := 1) hx hb dX1_layerDirectory_26 (by decide) ?_
        refine lv_goto (tgt := 31) hx hb dX1_layerDirectory_27 (by decide) ?_
        exact ot_zretR hC hr hlk (ot_bT (Or.inr (Or.inr c23))) rfl dX1_layerDirectory_31
set_option maxHeartbeats 4000000 in
set_option maxRecDepth 100000 in
theorem mm_fill (l : Launch) (G : va_G) (d : ClassId) (a : Nat → Nat) (mt : Int32) (ls_ lv_ so va im : Nat → Int32) (p0 p1 p2 p3 : Int32) : ot_Mi l G d yX1_fill cX1_fill 6 (some .int) rmX1_fill (ot_ma a) (ot_mW d a) ([.ref (a 0), .int (p0), .int (p1), .int (p2), .int (p3)] : List Value) (mt, ls_, lv_, so, va, im) (ot_mP (ot_mfill mt ls_ lv_ so va p0 p1 p2 p3)) := by
  refine ot_Mi_of (by decide) rfl (Nat.le_of_ble_eq_true rfl) ?_
  intro p e s m below meth c hC hK hr hlk hI ls hl
  have hC : CallFix p m c cX1_fill 6 s ([.ref (a 0), .int (p0), .int (p1), .int (p2), .int (p3)] : List Value).toArray lw_all RX1 := hC
  have hx := hC.1
  have hb := hC.2.1
  have hA : ∀ q, s.heap.size ≤ q → ot_F (ot_ma a) s.heap.size q := fun q h => Or.inr h
  have hl : lv_has ls 6 [(0, .ref (a 0)), (1, .int (p0)), (2, .int (p1)), (3, .int (p2)), (4, .int (p3))] := hl
  refine lv_aload_n hx hb dX1_fill_0 rfl (lv_at hl 0 rfl) ?_
  refine ot_mg2 hC hK hI.1 dX1_fill_1 ?_
  refine lv_if_ne (tgt := 38) hx hb dX1_fill_4 (by decide) (fun c4 => ?_) (fun c4 => ?_)
  · skip
    refine lv_iconst (v := (-1)) hx hb dX1_fill_38 (by decide) ?_
    exact ot_iret (u := (mt, ls_, lv_, so, va, im)) hC hK hr hlk hI (ot_mPe (by rw [ot_mfill, if_neg (fun h => c4 h.1)])) dX1_fill_39
  · skip
    refine lv_iload_n hx hb dX1_fill_7 rfl (lv_at hl 1 rfl) ?_
    refine lv_if_lt (tgt := 38) hx hb dX1_fill_8 (by decide) (fun c8 => ?_) (fun c8 => ?_)
    · skip
      refine lv_iconst (v := (-1)) hx hb dX1_fill_38 (by decide) ?_
      exact ot_iret (u := (mt, ls_, lv_, so, va, im)) hC hK hr hlk hI (ot_mPe (by rw [ot_mfill, if_neg (fun h => h.2.1 c8)])) dX1_fill_39
    · skip
      refine lv_iload_n hx hb dX1_fill_11 rfl (lv_at hl 1 rfl) ?_
      refine lv_iconst (v := 2) hx hb dX1_fill_12 (by decide) ?_
      refine lv_icmp_gt (tgt := 38) hx hb dX1_fill_13 (by decide) (fun c13 => ?_) (fun c13 => ?_)
      · skip
        refine lv_iconst (v := (-1)) hx hb dX1_fill_38 (by decide) ?_
        exact ot_iret (u := (mt, ls_, lv_, so, va, im)) hC hK hr hlk hI (ot_mPe (by rw [ot_mfill, if_neg (fun h => h.2.2.1 c13)])) dX1_fill_39
      · skip
        refine lv_iload_n hx hb dX1_fill_16 rfl (lv_at hl 2 rfl) ?_
        refine lv_iconst (v := 1) hx hb dX1_fill_17 (by decide) ?_
        refine lv_icmp_lt (tgt := 38) hx hb dX1_fill_18 (by decide) (fun c18 => ?_) (fun c18 => ?_)
        · skip
          refine lv_iconst (v := (-1)) hx hb dX1_fill_38 (by decide) ?_
          exact ot_iret (u := (mt, ls_, lv_, so, va, im)) hC hK hr hlk hI (ot_mPe (by rw [ot_mfill, if_neg (fun h => h.2.2.2.1 c18)])) dX1_fill_39
        · skip
          refine lv_iload_n hx hb dX1_fill_21 rfl (lv_at hl 2 rfl) ?_
          refine ot_calls (As := [.int (p1)]) (rest := []) (mm_bad l (p1)) hC (va_cwS 1 hC.2.2.2.2 (lw_S q179 q180 q17 q181) rfl rfl rfl ok_yX1_bad ⟨Nat.le_of_ble_eq_true rfl, Nat.le_of_ble_eq_true rfl⟩) rfl rfl hl.1 (Nat.le_of_ble_eq_true rfl) dX1_fill_22 ⟨Nat.zero_le _, Nat.zero_le _⟩ ?_
          refine lv_if_ne (tgt := 38) hx hb dX1_fill_25 (by decide) (fun c25 => ?_) (fun c25 => ?_)
          · skip
            refine lv_iconst (v := (-1)) hx hb dX1_fill_38 (by decide) ?_
            exact ot_iret (u := (mt, ls_, lv_, so, va, im)) hC hK hr hlk hI (ot_mPe (by rw [ot_mfill, if_neg (fun h => (Decidable.not_not.mp (fun z => c25 (ot_bd0.mpr z))).elim (fun z => h.2.2.2.1 (Int32.lt_trans z (by decide))) h.2.2.2.2.1)])) dX1_fill_39
          · skip
            refine lv_iload_n hx hb dX1_fill_28 rfl (lv_at hl 3 rfl) ?_
            refine lv_iconst (v := 1) hx hb dX1_fill_29 (by decide) ?_
            refine lv_icmp_lt (tgt := 38) hx hb dX1_fill_30 (by decide) (fun c30 => ?_) (fun c30 => ?_)
            · skip
              refine lv_iconst (v := (-1)) hx hb dX1_fill_38 (by decide) ?_
              exact ot_iret (u := (mt, ls_, lv_, so, va, im)) hC hK hr hlk hI (ot_mPe (by rw [ot_mfill, if_neg (fun h => h.2.2.2.2.2.1 c30)])) dX1_fill_39
            · skip
              refine lv_iload_n hx hb dX1_fill_33 rfl (lv_at hl 3 rfl) ?_
              refine lv_iconst (v := 4) hx hb dX1_fill_34 (by decide) ?_
              refine lv_icmp_le (tgt := 40) hx hb dX1_fill_35 (by decide) (fun c35 => ?_) (fun c35 => ?_)
              · skip
                have hnb := ot_bd0.mp c25
                have c24 : ¬ 84 < p1 := fun z => hnb (Or.inr z)
                have hc : mt = 0 ∧ ¬ p0 < 0 ∧ ¬ 2 < p0 ∧ ¬ p1 < 1 ∧ ¬ 84 < p1 ∧ ¬ p2 < 1 ∧ p2 ≤ 4 := ⟨c4, c8, c13, c18, c24, c30, c35⟩
                obtain ⟨y, hy, rfl⟩ := ot_ix2 c8 c13
                obtain ⟨k, hk0, hk, rfl⟩ := ot_ix1 c18 c24
                have hpk := ot_par84 hk
                have ey : ot_k (nI y) = y := ot_kI (by omega)
                have ek : ot_k (nI k) = k := ot_kI (by omega)
                refine lv_iload_n hx hb dX1_fill_40 rfl (lv_at hl 2 rfl) ?_
                refine ot_calls (As := [.int (nI (k))]) (rest := []) (mm_parent l (k) (by omega)) hC (va_cwS 1 hC.2.2.2.2 (lw_S q182 q183 q17 q184) rfl rfl rfl ok_yX1_parent ⟨Nat.le_of_ble_eq_true rfl, Nat.le_of_ble_eq_true rfl⟩) rfl rfl hl.1 (Nat.le_of_ble_eq_true rfl) dX1_fill_41 ⟨Nat.zero_le _, Nat.zero_le _⟩ ?_
                refine lv_istore (lv' := [(5, .int (nI (ot_par (k)))), (0, .ref (a 0)), (1, .int (nI (y))), (2, .int (nI (k))), (3, .int (p2)), (4, .int (p3))]) hx hb dX1_fill_44 hl (by decide) rfl (fun ls hl => ?_)
                refine lv_aload_n hx hb dX1_fill_46 rfl (lv_at hl 1 rfl) ?_
                refine ot_mg0 hC hK hI.1 dX1_fill_47 ?_
                refine lv_bipush (v := 85) hx hb dX1_fill_50 (by decide) ?_
                refine lv_iload_n hx hb dX1_fill_52 rfl (lv_at hl 2 rfl) ?_
                refine ot_imul hx hb (a := 85) (b := y) rfl rfl dX1_fill_53 ?_
                refine lv_iload_n hx hb dX1_fill_54 rfl (lv_at hl 3 rfl) ?_
                refine ot_iadd hx hb (a := 85 * y) (b := k) rfl rfl dX1_fill_55 ?_
                refine ot_ml1 hC hK hI.1 (j := 85 * y + k) rfl (by omega) dX1_fill_56 ?_
                refine lv_if_ne (tgt := 70) hx hb dX1_fill_57 (by decide) (fun c57 => ?_) (fun c57 => ?_)
                · skip
                  refine lv_iconst (v := (-1)) hx hb dX1_fill_70 (by decide) ?_
                  exact ot_iret (u := (mt, ls_, lv_, so, va, im)) hC hK hr hlk hI (ot_mPe (by rw [ot_mfill, if_pos hc, ey, ek, if_neg (fun h => c57 h.1)])) dX1_fill_71
                · skip
                  refine lv_aload_n hx hb dX1_fill_60 rfl (lv_at hl 1 rfl) ?_
                  refine lv_iload_n hx hb dX1_fill_61 rfl (lv_at hl 2 rfl) ?_
                  refine lv_iload hx hb dX1_fill_62 (lv_at hl 0 rfl) ?_
                  refine ot_mcr [.int (nI (y)), .int (nI (ot_par (k)))] [] (mm_layerDirectory l G d a mt ls_ lv_ so va im (y) (ot_par (k)) (by omega) (by omega)) hC hK hI.1 (cwV 2 hC.2.2.2.2 (lw_V q185 q187 qs10 q17 q188) rfl rfl rfl ok_yX1_layerDirectory ⟨Nat.le_of_ble_eq_true rfl, Nat.le_of_ble_eq_true rfl⟩) rfl rfl hl.1 (Nat.le_of_ble_eq_true rfl) dX1_fill_64 ⟨Nat.zero_le _, Nat.zero_le _⟩ ?_
                  refine lv_if_ne (tgt := 72) hx hb dX1_fill_67 (by decide) (fun c67 => ?_) (fun c67 => ?_)
                  · skip
                    refine lv_aload_n hx hb dX1_fill_72 rfl (lv_at hl 1 rfl) ?_
                    refine ot_mg0 hC hK hI.1 dX1_fill_73 ?_
                    refine lv_bipush (v := 85) hx hb dX1_fill_76 (by decide) ?_
                    refine lv_iload_n hx hb dX1_fill_78 rfl (lv_at hl 2 rfl) ?_
                    refine ot_imul hx hb (a := 85) (b := y) rfl rfl dX1_fill_79 ?_
                    refine lv_iload_n hx hb dX1_fill_80 rfl (lv_at hl 3 rfl) ?_
                    refine ot_iadd hx hb (a := 85 * y) (b := k) rfl rfl dX1_fill_81 ?_
                    refine lv_iload_n hx hb dX1_fill_82 rfl (lv_at hl 4 rfl) ?_
                    refine ot_ms1 hC hK hI (j := 85 * y + k) rfl (by omega) dX1_fill_83 (fun H locs hI => ?_)
                    refine lv_aload_n hx hb dX1_fill_84 rfl (lv_at hl 1 rfl) ?_
                    refine ot_mg1 hC hK hI.1 dX1_fill_85 ?_
                    refine lv_bipush (v := 85) hx hb dX1_fill_88 (by decide) ?_
                    refine lv_iload_n hx hb dX1_fill_90 rfl (lv_at hl 2 rfl) ?_
                    refine ot_imul hx hb (a := 85) (b := y) rfl rfl dX1_fill_91 ?_
                    refine lv_iload_n hx hb dX1_fill_92 rfl (lv_at hl 3 rfl) ?_
                    refine ot_iadd hx hb (a := 85 * y) (b := k) rfl rfl dX1_fill_93 ?_
                    refine lv_iload hx hb dX1_fill_94 (lv_at hl 5 rfl) ?_
                    refine ot_ms2 hC hK hI (j := 85 * y + k) rfl (by omega) dX1_fill_96 (fun H locs hI => ?_)
                    refine lv_iconst (v := 0) hx hb dX1_fill_97 (by decide) ?_
                    exact ot_iret (u := (mt, upd ls_ (85 * y + k) (p2), upd lv_ (85 * y + k) (p3), so, va, im)) hC hK hr hlk hI (ot_mPe (by rw [ot_mfill, if_pos hc, ey, ek, if_pos ⟨c57, Decidable.not_not.mp (fun z => c67 (ot_bd0.mpr z))⟩])) dX1_fill_98
                  · skip
                    refine lv_iconst (v := (-1)) hx hb dX1_fill_70 (by decide) ?_
                    exact ot_iret (u := (mt, ls_, lv_, so, va, im)) hC hK hr hlk hI (ot_mPe (by rw [ot_mfill, if_pos hc, ey, ek, if_neg (fun h => ot_bd0.mp c67 h.2)])) dX1_fill_71
              · skip
                refine lv_iconst (v := (-1)) hx hb dX1_fill_38 (by decide) ?_
                exact ot_iret (u := (mt, ls_, lv_, so, va, im)) hC hK hr hlk hI (ot_mPe (by rw [ot_mfill, if_neg (fun h => c35 h.2.2.2.2.2.2)])) dX1_fill_39
end
section
set_option maxRecDepth 100000
set_option maxHeartbeats 4000000 in
set_option maxRecDepth 100000 in
theorem mm_hidden (l : Launch) (G : va_G) (d : ClassId) (a : Nat → Nat) (mt : Int32) (ls_ lv_ so va im : Nat → Int32) (y0 q0 : Nat) (hy0 : y0 < 3) (hq0 : q0 < 85) : ot_Mr l G d yX1_hidden cX1_hidden 5 (some .boolean) rmX1_hidden (ot_mW d a (mt, ls_, lv_, so, va, im)) ([.ref (a 0), .int (nI (y0)), .int (nI (q0))] : List Value) (ot_b (ot_hid ls_ y0 84 q0)) := by
  refine ot_Mr_of (by decide) (Nat.le_of_ble_eq_true rfl) ?_
  intro p e s m below meth c hC hK hr hlk hP ls hl
  have hC : CallFix p m c cX1_hidden 5 s ([.ref (a 0), .int (nI (y0)), .int (nI (q0))] : List Value).toArray lw_all RX1 := hC
  have hx := hC.1
  have hb := hC.2.1
  have hl : lv_has ls 5 [(0, .ref (a 0)), (1, .int (nI (y0))), (2, .int (nI (q0)))] := hl
  have lp : ∀ (n q : Nat) (hn : q ≤ n) (hq : q < 85) (hR : ot_hid ls_ y0 n q = ot_hid ls_ y0 84 q0), ∀ (ls : Array Slot), lv_has ls 5 [(0, .ref (a 0)), (1, .int (nI (y0))), (3, .int (nI (q)))] → W p l e rmX1_hidden s m ([.ref (a 0), .int (nI (y0)), .int (nI (q0))] : List Value).toArray below meth c s.heap [] 0 0 (ot_Zr (ot_b (ot_hid ls_ y0 84 q0)) below ([.ref (a 0), .int (nI (y0)), .int (nI (q0))] : List Value).toArray s) (F0 m 2 ls []) := by
    intro n
    induction n with
    | zero =>
      intro q hn hq hR ls hl
      refine lv_iload_n hx hb dX1_hidden_2 rfl (lv_at hl 2 rfl) ?_
      refine ot_if_le hx hb (a := q) rfl (by omega) (tgt := 51) dX1_hidden_3 (by decide) (fun _ => ?_) (fun c_ => absurd (by omega) c_)
      refine lv_iconst (v := 0) hx hb dX1_hidden_51 (by decide) ?_
      exact ot_zretR hC hr hlk (by rw [← hR]; rfl) rfl dX1_hidden_52
    | succ n ih =>
      intro q hn hq hR ls hl
      have hpq := ot_par84 hq
      refine lv_iload_n hx hb dX1_hidden_2 rfl (lv_at hl 2 rfl) ?_
      refine ot_if_le hx hb (a := q) rfl (by omega) (tgt := 51) dX1_hidden_3 (by decide) (fun c3 => ?_) (fun c3 => ?_)
      · skip
        refine lv_iconst (v := 0) hx hb dX1_hidden_51 (by decide) ?_
        exact ot_zretR hC hr hlk (by rw [← hR, ot_hid, if_pos (by omega)]; rfl) rfl dX1_hidden_52
      · skip
        refine lv_iload_n hx hb dX1_hidden_6 rfl (lv_at hl 2 rfl) ?_
        refine ot_calls (As := [.int (nI (q))]) (rest := []) (mm_parent l (q) (by omega)) hC (va_cwS 1 hC.2.2.2.2 (lw_S q182 q183 q17 q184) rfl rfl rfl ok_yX1_parent ⟨Nat.le_of_ble_eq_true rfl, Nat.le_of_ble_eq_true rfl⟩) rfl rfl hl.1 (Nat.le_of_ble_eq_true rfl) dX1_hidden_7 ⟨Nat.zero_le _, Nat.zero_le _⟩ ?_
        refine lv_istore_n (lv' := [(3, .int (nI (ot_par (q)))), (0, .ref (a 0)), (1, .int (nI (y0)))]) hx hb dX1_hidden_10 rfl hl (by decide) rfl (fun ls hl => ?_)
        refine lv_aload_n hx hb dX1_hidden_11 rfl (lv_at hl 1 rfl) ?_
        refine ot_mg0 hC hK hP dX1_hidden_12 ?_
        refine lv_bipush (v := 85) hx hb dX1_hidden_15 (by decide) ?_
        refine lv_iload_n hx hb dX1_hidden_17 rfl (lv_at hl 2 rfl) ?_
        refine ot_imul hx hb (a := 85) (b := y0) rfl rfl dX1_hidden_18 ?_
        refine lv_iload_n hx hb dX1_hidden_19 rfl (lv_at hl 0 rfl) ?_
        refine ot_iadd hx hb (a := 85 * y0) (b := ot_par (q)) rfl rfl dX1_hidden_20 ?_
        refine ot_ml1 hC hK hP (j := 85 * y0 + (ot_par (q))) rfl (by omega) dX1_hidden_21 ?_
        refine lv_istore (lv' := [(4, .int (ls_ (85 * y0 + (ot_par (q))))), (3, .int (nI (ot_par (q)))), (0, .ref (a 0)), (1, .int (nI (y0)))]) hx hb dX1_hidden_22 hl (by decide) rfl (fun ls hl => ?_)
        refine lv_iload_n hx hb dX1_hidden_24 rfl (lv_at hl 1 rfl) ?_
        refine ot_if_le hx hb (a := ot_par (q)) rfl (by omega) (tgt := 48) dX1_hidden_25 (by decide) (fun c25 => ?_) (fun c25 => ?_)
        · skip
          refine lv_goto (tgt := 2) hx hb dX1_hidden_48 (by decide) ?_
          exact ih (ot_par q) (by have := ot_par_lt (q := q) (by omega); omega) hpq (by rw [← hR, ot_hid, if_neg (by omega), if_neg (fun z => absurd z.1 (by omega))]) _ (lv_sub hl [2, 3, 1] rfl)
        · skip
          refine lv_iload hx hb dX1_hidden_28 (lv_at hl 0 rfl) ?_
          refine lv_iconst (v := 1) hx hb dX1_hidden_30 (by decide) ?_
          refine lv_icmp_eq (tgt := 46) hx hb dX1_hidden_31 (by decide) (fun c31 => ?_) (fun c31 => ?_)
          · skip
            refine lv_iconst (v := 1) hx hb dX1_hidden_46 (by decide) ?_
            exact ot_zretR hC hr hlk (by rw [← hR, ot_hid, if_neg (by omega), if_pos ⟨by omega, Or.inl c31⟩]; rfl) rfl dX1_hidden_47
          · skip
            refine lv_iload hx hb dX1_hidden_34 (lv_at hl 0 rfl) ?_
            refine lv_iconst (v := 3) hx hb dX1_hidden_36 (by decide) ?_
            refine lv_icmp_eq (tgt := 46) hx hb dX1_hidden_37 (by decide) (fun c37 => ?_) (fun c37 => ?_)
            · skip
              refine lv_iconst (v := 1) hx hb dX1_hidden_46 (by decide) ?_
              exact ot_zretR hC hr hlk (by rw [← hR, ot_hid, if_neg (by omega), if_pos ⟨by omega, Or.inr (Or.inl c37)⟩]; rfl) rfl dX1_hidden_47
            · skip
              refine lv_iload hx hb dX1_hidden_40 (lv_at hl 0 rfl) ?_
              refine lv_iconst (v := 4) hx hb dX1_hidden_42 (by decide) ?_
              refine lv_icmp_ne (tgt := 48) hx hb dX1_hidden_43 (by decide) (fun c43 => ?_) (fun c43 => ?_)
              · skip
                refine lv_goto (tgt := 2) hx hb dX1_hidden_48 (by decide) ?_
                exact ih (ot_par q) (by have := ot_par_lt (q := q) (by omega); omega) hpq (by rw [← hR, ot_hid, if_neg (by omega), if_neg (fun z => z.2.elim c31 (fun z => z.elim c37 c43))]) _ (lv_sub hl [2, 3, 1] rfl)
              · skip
                refine lv_iconst (v := 1) hx hb dX1_hidden_46 (by decide) ?_
                exact ot_zretR hC hr hlk (by rw [← hR, ot_hid, if_neg (by omega), if_pos ⟨by omega, Or.inr (Or.inr c43)⟩]; rfl) rfl dX1_hidden_47
  refine lv_iload_n hx hb dX1_hidden_0 rfl (lv_at hl 2 rfl) ?_
  refine lv_istore_n (lv' := [(3, .int (nI (q0))), (0, .ref (a 0)), (1, .int (nI (y0))), (2, .int (nI (q0)))]) hx hb dX1_hidden_1 rfl hl (by decide) rfl (fun ls hl => ?_)
  exact lp 84 q0 (by omega) hq0 rfl _ (lv_sub hl [1, 2, 0] rfl)
set_option maxHeartbeats 4000000 in
set_option maxRecDepth 100000 in
theorem mm_merge (l : Launch) (G : va_G) (d : ClassId) (a : Nat → Nat) (mt : Int32) (ls_ lv_ so va im : Nat → Int32) (q : Nat) (hq : q < 85) : ot_Mv l G d yX1_merge cX1_merge 4 rmX1_merge (ot_ma a) (ot_mW d a) ([.ref (a 0), .int (nI (q))] : List Value) (mt, ls_, lv_, so, va, im) (fun u => u = (mt, ls_, lv_, (ot_mrg1 ls_ lv_ q so va).1, (ot_mrg1 ls_ lv_ q so va).2, im)) := by
  have hpq := ot_par84 hq
  refine ot_Mv_of (by decide) rfl (Nat.le_of_ble_eq_true rfl) ?_
  intro p e s m below meth c hC hK hr hlk hI ls hl
  have hC : CallFix p m c cX1_merge 4 s ([.ref (a 0), .int (nI (q))] : List Value).toArray lw_all RX1 := hC
  have hx := hC.1
  have hb := hC.2.1
  have hA : ∀ q, s.heap.size ≤ q → ot_F (ot_ma a) s.heap.size q := fun q h => Or.inr h
  have hl : lv_has ls 4 [(0, .ref (a 0)), (1, .int (nI (q)))] := hl
  have lp : ∀ (n : Nat) (hn : n ≤ 3) (hR : ot_mrg ls_ lv_ q n so va = ot_mrg1 ls_ lv_ q so va), ∀ (H : Heap) (locs : List Loc), ot_I G (ot_F (ot_ma a) s.heap.size) s H locs (ot_mW d a (mt, ls_, lv_, so, va, im)) → ∀ (ls : Array Slot), lv_has ls 4 [(0, .ref (a 0)), (1, .int (nI (q))), (2, .int (ot_dn n))] → W p l e rmX1_merge s m ([.ref (a 0), .int (nI (q))] : List Value).toArray below meth c H locs 0 0 (ot_Zv G d (ot_ma a) (ot_mW d a) (fun u => u = (mt, ls_, lv_, (ot_mrg1 ls_ lv_ q so va).1, (ot_mrg1 ls_ lv_ q so va).2, im)) below ([.ref (a 0), .int (nI (q))] : List Value).toArray s) (F0 m 16 ls []) := by
    intro n
    induction n with
    | zero =>
      intro hn hR H locs hI ls hl
      rw [ot_dn_0] at hl
      refine lv_iload_n hx hb dX1_merge_16 rfl (lv_at hl 2 rfl) ?_
      refine lv_if_lt (tgt := 98) hx hb dX1_merge_17 (by decide) (fun _ => ?_) (fun c_ => absurd (by decide) c_)
      exact ot_vret (u := (mt, ls_, lv_, so, va, im)) hC hK hr hlk hI (by rw [← hR]; rfl) dX1_merge_98
    | succ n ih =>
      intro hn hR H locs hI ls hl
      rw [ot_dn_s] at hl
      refine lv_iload_n hx hb dX1_merge_16 rfl (lv_at hl 2 rfl) ?_
      refine ot_if_lt hx hb (a := n) rfl (by omega) (tgt := 98) dX1_merge_17 (by decide) (fun c_ => absurd c_ (by omega)) (fun _ => ?_)
      refine lv_aload_n hx hb dX1_merge_20 rfl (lv_at hl 0 rfl) ?_
      refine ot_mg0 hC hK hI.1 dX1_merge_21 ?_
      refine lv_bipush (v := 85) hx hb dX1_merge_24 (by decide) ?_
      refine lv_iload_n hx hb dX1_merge_26 rfl (lv_at hl 2 rfl) ?_
      refine ot_imul hx hb (a := 85) (b := n) rfl rfl dX1_merge_27 ?_
      refine lv_iload_n hx hb dX1_merge_28 rfl (lv_at hl 1 rfl) ?_
      refine ot_iadd hx hb (a := 85 * n) (b := q) rfl rfl dX1_merge_29 ?_
      refine ot_ml1 hC hK hI.1 (j := 85 * n + q) rfl (by omega) dX1_merge_30 ?_
      refine lv_istore_n (lv' := [(3, .int (ls_ (85 * n + q))), (0, .ref (a 0)), (1, .int (nI (q))), (2, .int (nI (n)))]) hx hb dX1_merge_31 rfl hl (by decide) rfl (fun ls hl => ?_)
      refine lv_iload_n hx hb dX1_merge_32 rfl (lv_at hl 0 rfl) ?_
      refine lv_iconst (v := 1) hx hb dX1_merge_33 (by decide) ?_
      refine lv_icmp_ne (tgt := 61) hx hb dX1_merge_34 (by decide) (fun c34 => ?_) (fun c34 => ?_)
      · skip
        refine lv_iload_n hx hb dX1_merge_61 rfl (lv_at hl 0 rfl) ?_
        refine lv_iconst (v := 2) hx hb dX1_merge_62 (by decide) ?_
        refine lv_icmp_eq (tgt := 71) hx hb dX1_merge_63 (by decide) (fun c63 => ?_) (fun c63 => ?_)
        · skip
          refine lv_aload_n hx hb dX1_merge_71 rfl (lv_at hl 1 rfl) ?_
          refine ot_mg3 hC hK hI.1 dX1_merge_72 ?_
          refine lv_iload_n hx hb dX1_merge_75 rfl (lv_at hl 2 rfl) ?_
          refine lv_iconst (v := 2) hx hb dX1_merge_76 (by decide) ?_
          refine ot_ms3 hC hK hI (j := q) rfl (by omega) dX1_merge_77 (fun H locs hI => ?_)
          refine lv_iload_n hx hb dX1_merge_78 rfl (lv_at hl 0 rfl) ?_
          refine lv_if_ne (tgt := 91) hx hb dX1_merge_79 (by decide) (fun _ => ?_) (fun c_ => absurd c_ (by rw [c63]; decide))
          exact ot_vret (u := (mt, ls_, lv_, upd so (q) (2), va, im)) hC hK hr hlk hI (by rw [← hR, ot_mrg, if_neg (by rw [c63]; decide), if_neg c34, if_pos (Or.inl c63)]) dX1_merge_91
        · skip
          refine lv_iload_n hx hb dX1_merge_66 rfl (lv_at hl 0 rfl) ?_
          refine lv_iconst (v := 3) hx hb dX1_merge_67 (by decide) ?_
          refine lv_icmp_ne (tgt := 78) hx hb dX1_merge_68 (by decide) (fun c68 => ?_) (fun c68 => ?_)
          · skip
            refine lv_iload_n hx hb dX1_merge_78 rfl (lv_at hl 0 rfl) ?_
            refine lv_if_ne (tgt := 91) hx hb dX1_merge_79 (by decide) (fun c79 => ?_) (fun c79 => ?_)
            · skip
              exact ot_vret (u := (mt, ls_, lv_, so, va, im)) hC hK hr hlk hI (by rw [← hR, ot_mrg, if_neg c79, if_neg c34, if_neg (not_or.mpr ⟨c63, c68⟩)]) dX1_merge_91
            · skip
              refine lv_aload_n hx hb dX1_merge_82 rfl (lv_at hl 1 rfl) ?_
              refine lv_iload_n hx hb dX1_merge_83 rfl (lv_at hl 3 rfl) ?_
              refine lv_iload_n hx hb dX1_merge_84 rfl (lv_at hl 2 rfl) ?_
              refine ot_mcr [.int (nI (n)), .int (nI (q))] [] (mm_hidden l G d a mt ls_ lv_ so va im (n) (q) (by omega) (by omega)) hC hK hI.1 (cwV 2 hC.2.2.2.2 (lw_V q197 q199 qs12 q17 q200) rfl rfl rfl ok_yX1_hidden ⟨Nat.le_of_ble_eq_true rfl, Nat.le_of_ble_eq_true rfl⟩) rfl rfl hl.1 (Nat.le_of_ble_eq_true rfl) dX1_merge_85 ⟨Nat.zero_le _, Nat.zero_le _⟩ ?_
              refine lv_if_eq (tgt := 92) hx hb dX1_merge_88 (by decide) (fun c88 => ?_) (fun c88 => ?_)
              · skip
                refine lv_iinc (v := ot_dn (n)) (lv' := [(2, .int (ot_dn (n))), (3, .int (ls_ (85 * n + q))), (0, .ref (a 0)), (1, .int (nI (q)))]) hx hb dX1_merge_92 hl (k := 3) rfl (ot_dec _) (by decide) rfl (fun ls hl => ?_)
                refine lv_goto (tgt := 16) hx hb dX1_merge_95 (by decide) ?_
                exact ih (by omega) (by rw [← hR, ot_mrg, if_pos c79, if_neg (by rw [ot_b0.mp c88]; decide)]) _ _ hI _ (lv_sub hl [2, 3, 0] rfl)
              · skip
                exact ot_vret (u := (mt, ls_, lv_, so, va, im)) hC hK hr hlk hI (by rw [← hR, ot_mrg, if_pos c79, if_pos (ot_bt c88)]) dX1_merge_91
          · skip
            refine lv_aload_n hx hb dX1_merge_71 rfl (lv_at hl 1 rfl) ?_
            refine ot_mg3 hC hK hI.1 dX1_merge_72 ?_
            refine lv_iload_n hx hb dX1_merge_75 rfl (lv_at hl 2 rfl) ?_
            refine lv_iconst (v := 2) hx hb dX1_merge_76 (by decide) ?_
            refine ot_ms3 hC hK hI (j := q) rfl (by omega) dX1_merge_77 (fun H locs hI => ?_)
            refine lv_iload_n hx hb dX1_merge_78 rfl (lv_at hl 0 rfl) ?_
            refine lv_if_ne (tgt := 91) hx hb dX1_merge_79 (by decide) (fun _ => ?_) (fun c_ => absurd c_ (by rw [c68]; decide))
            exact ot_vret (u := (mt, ls_, lv_, upd so (q) (2), va, im)) hC hK hr hlk hI (by rw [← hR, ot_mrg, if_neg (by rw [c68]; decide), if_neg c34, if_pos (Or.inr c68)]) dX1_merge_91
      · skip
        refine lv_aload_n hx hb dX1_merge_37 rfl (lv_at hl 1 rfl) ?_
        refine ot_mg3 hC hK hI.1 dX1_merge_38 ?_
        refine lv_iload_n hx hb dX1_merge_41 rfl (lv_at hl 2 rfl) ?_
        refine lv_iconst (v := 1) hx hb dX1_merge_42 (by decide) ?_
        refine ot_ms3 hC hK hI (j := q) rfl (by omega) dX1_merge_43 (fun H locs hI => ?_)
        refine lv_aload_n hx hb dX1_merge_44 rfl (lv_at hl 1 rfl) ?_
        refine ot_mg4 hC hK hI.1 dX1_merge_45 ?_
        refine lv_iload_n hx hb dX1_merge_48 rfl (lv_at hl 2 rfl) ?_
        refine lv_aload_n hx hb dX1_merge_49 rfl (lv_at hl 1 rfl) ?_
        refine ot_mg1 hC hK hI.1 dX1_merge_50 ?_
        refine lv_bipush (v := 85) hx hb dX1_merge_53 (by decide) ?_
        refine lv_iload_n hx hb dX1_merge_55 rfl (lv_at hl 3 rfl) ?_
        refine ot_imul hx hb (a := 85) (b := n) rfl rfl dX1_merge_56 ?_
        refine lv_iload_n hx hb dX1_merge_57 rfl (lv_at hl 2 rfl) ?_
        refine ot_iadd hx hb (a := 85 * n) (b := q) rfl rfl dX1_merge_58 ?_
        refine ot_ml2 hC hK hI.1 (j := 85 * n + q) rfl (by omega) dX1_merge_59 ?_
        refine ot_ms4 hC hK hI (j := q) rfl (by omega) dX1_merge_60 (fun H locs hI => ?_)
        refine lv_iload_n hx hb dX1_merge_61 rfl (lv_at hl 0 rfl) ?_
        refine lv_iconst (v := 2) hx hb dX1_merge_62 (by decide) ?_
        refine lv_icmp_eq (tgt := 71) hx hb dX1_merge_63 (by decide) (fun c_ => absurd c_ (by rw [c34]; decide)) (fun _ => ?_)
        refine lv_iload_n hx hb dX1_merge_66 rfl (lv_at hl 0 rfl) ?_
        refine lv_iconst (v := 3) hx hb dX1_merge_67 (by decide) ?_
        refine lv_icmp_ne (tgt := 78) hx hb dX1_merge_68 (by decide) (fun _ => ?_) (fun c_ => absurd c_ (by rw [c34]; decide))
        refine lv_iload_n hx hb dX1_merge_78 rfl (lv_at hl 0 rfl) ?_
        refine lv_if_ne (tgt := 91) hx hb dX1_merge_79 (by decide) (fun _ => ?_) (fun c_ => absurd c_ (by rw [c34]; decide))
        exact ot_vret (u := (mt, ls_, lv_, upd so (q) (1), upd va (q) (lv_ (85 * n + q)), im)) hC hK hr hlk hI (by rw [← hR, ot_mrg, if_neg (by rw [c34]; decide), if_pos c34]) dX1_merge_91
  refine lv_aload_n hx hb dX1_merge_0 rfl (lv_at hl 0 rfl) ?_
  refine ot_mg3 hC hK hI.1 dX1_merge_1 ?_
  refine lv_iload_n hx hb dX1_merge_4 rfl (lv_at hl 1 rfl) ?_
  refine ot_calls (As := [.int (nI (q))]) (rest := [.ref (a 3)]) (mm_parent l (q) (by omega)) hC (va_cwS 1 hC.2.2.2.2 (lw_S q182 q183 q17 q184) rfl rfl rfl ok_yX1_parent ⟨Nat.le_of_ble_eq_true rfl, Nat.le_of_ble_eq_true rfl⟩) rfl rfl hl.1 (Nat.le_of_ble_eq_true rfl) dX1_merge_5 ⟨Nat.zero_le _, Nat.zero_le _⟩ ?_
  refine ot_ml3 hC hK hI.1 (j := ot_par (q)) rfl (by omega) dX1_merge_8 ?_
  refine lv_iconst (v := 2) hx hb dX1_merge_9 (by decide) ?_
  refine lv_icmp_eq (tgt := 14) hx hb dX1_merge_10 (by decide) (fun c10 => ?_) (fun c10 => ?_)
  · skip
    refine lv_iconst (v := 2) hx hb dX1_merge_14 (by decide) ?_
    refine lv_istore_n (lv' := [(2, .int (2)), (0, .ref (a 0)), (1, .int (nI (q)))]) hx hb dX1_merge_15 rfl hl (by decide) rfl (fun ls hl => ?_)
    have hl : lv_has ls 4 [(2, .int (ot_dn 3)), (0, .ref (a 0)), (1, .int (nI (q)))] := hl
    exact lp 3 (by omega) (by rw [ot_mrg1, if_pos c10]) _ _ hI _ (lv_sub hl [1, 2, 0] rfl)
  · skip
    exact ot_vret (u := (mt, ls_, lv_, so, va, im)) hC hK hr hlk hI (by rw [ot_mrg1, if_neg c10]) dX1_merge_13
set_option maxHeartbeats 4000000 in
set_option maxRecDepth 100000 in
theorem mm_total (l : Launch) (G : va_G) (d : ClassId) (a : Nat → Nat) (mt : Int32) (ls_ lv_ so va im : Nat → Int32)  : ot_Mr l G d yX1_total cX1_total 3 (some .int) rmX1_total (ot_mW d a (mt, ls_, lv_, so, va, im)) ([.ref (a 0)] : List Value) (ot_mtot so) := by
  refine ot_Mr_of (by decide) (Nat.le_of_ble_eq_true rfl) ?_
  intro p e s m below meth c hC hK hr hlk hP ls hl
  have hC : CallFix p m c cX1_total 3 s ([.ref (a 0)] : List Value).toArray lw_all RX1 := hC
  have hx := hC.1
  have hb := hC.2.1
  have hl : lv_has ls 3 [(0, .ref (a 0))] := hl
  have lp : ∀ (j q n : Nat) (hq : q + j = 85) (hR : ot_cntM so j q n = ot_cntM so 84 1 0), ∀ (ls : Array Slot), lv_has ls 3 [(0, .ref (a 0)), (1, .int (nI (n))), (2, .int (nI (q)))] → W p l e rmX1_total s m ([.ref (a 0)] : List Value).toArray below meth c s.heap [] 0 0 (ot_Zr (ot_mtot so) below ([.ref (a 0)] : List Value).toArray s) (F0 m 4 ls []) := by
    intro j
    induction j with
    | zero =>
      intro q n hq hR ls hl
      refine lv_iload_n hx hb dX1_total_4 rfl (lv_at hl 2 rfl) ?_
      refine lv_bipush (v := 85) hx hb dX1_total_5 (by decide) ?_
      refine ot_icmp_ge hx hb (a := q) (b := 85) rfl rfl (by omega) (by omega) (tgt := 28) dX1_total_7 (by decide) (fun _ => ?_) (fun c_ => absurd (by omega) c_)
      refine lv_iload_n hx hb dX1_total_28 rfl (lv_at hl 1 rfl) ?_
      exact ot_iretR hC hr hlk (by rw [ot_mtot, ← hR]; rfl) dX1_total_29
    | succ j ih =>
      intro q n hq hR ls hl
      refine lv_iload_n hx hb dX1_total_4 rfl (lv_at hl 2 rfl) ?_
      refine lv_bipush (v := 85) hx hb dX1_total_5 (by decide) ?_
      refine ot_icmp_ge hx hb (a := q) (b := 85) rfl rfl (by omega) (by omega) (tgt := 28) dX1_total_7 (by decide) (fun c_ => absurd c_ (by omega)) (fun _ => ?_)
      refine lv_aload_n hx hb dX1_total_10 rfl (lv_at hl 0 rfl) ?_
      refine ot_mg3 hC hK hP dX1_total_11 ?_
      refine lv_iload_n hx hb dX1_total_14 rfl (lv_at hl 2 rfl) ?_
      refine ot_ml3 hC hK hP (j := q) rfl (by omega) dX1_total_15 ?_
      refine lv_if_eq (tgt := 22) hx hb dX1_total_16 (by decide) (fun c16 => ?_) (fun c16 => ?_)
      · skip
        refine lv_iinc (v := nI (q + 1)) (lv' := [(2, .int (nI (q + 1))), (0, .ref (a 0)), (1, .int (nI (n)))]) hx hb dX1_total_22 hl (k := 2) rfl (ot_inc _) (by decide) rfl (fun ls hl => ?_)
        refine lv_goto (tgt := 4) hx hb dX1_total_25 (by decide) ?_
        exact ih (q + 1) n (by omega) (by rw [← hR, ot_cntM, if_pos c16]) _ (lv_sub hl [1, 2, 0] rfl)
      · skip
        refine lv_iinc (v := nI (n + 1)) (lv' := [(1, .int (nI (n + 1))), (0, .ref (a 0)), (2, .int (nI (q)))]) hx hb dX1_total_19 hl (k := 1) rfl (ot_inc _) (by decide) rfl (fun ls hl => ?_)
        refine lv_iinc (v := nI (q + 1)) (lv' := [(2, .int (nI (q + 1))), (1, .int (nI (n + 1))), (0, .ref (a 0))]) hx hb dX1_total_22 hl (k := 2) rfl (ot_inc _) (by decide) rfl (fun ls hl => ?_)
        refine lv_goto (tgt := 4) hx hb dX1_total_25 (by decide) ?_
        exact ih (q + 1) (n + 1) (by omega) (by rw [← hR, ot_cntM, if_neg c16]) _ (lv_sub hl [2, 1, 0] rfl)
  refine lv_iconst (v := 0) hx hb dX1_total_0 (by decide) ?_
  refine lv_istore_n (lv' := [(1, .int (0)), (0, .ref (a 0))]) hx hb dX1_total_1 rfl hl (by decide) rfl (fun ls hl => ?_)
  refine lv_iconst (v := 1) hx hb dX1_total_2 (by decide) ?_
  refine lv_istore_n (lv' := [(2, .int (1)), (1, .int (0)), (0, .ref (a 0))]) hx hb dX1_total_3 rfl hl (by decide) rfl (fun ls hl => ?_)
  exact lp 84 1 0 (by omega) rfl _ (lv_sub hl [2, 1, 0] rfl)
set_option maxHeartbeats 4000000 in
set_option maxRecDepth 100000 in
theorem mm_mount (l : Launch) (G : va_G) (d : ClassId) (a : Nat → Nat) (mt : Int32) (ls_ lv_ so va im : Nat → Int32)  : ot_Mi l G d yX1_mount cX1_mount 2 (some .int) rmX1_mount (ot_ma a) (ot_mW d a) ([.ref (a 0)] : List Value) (mt, ls_, lv_, so, va, im) (ot_mP (ot_mmount mt ls_ lv_ so va)) := by
  refine ot_Mi_of (by decide) rfl (Nat.le_of_ble_eq_true rfl) ?_
  intro p e s m below meth c hC hK hr hlk hI ls hl
  have hC : CallFix p m c cX1_mount 2 s ([.ref (a 0)] : List Value).toArray lw_all RX1 := hC
  have hx := hC.1
  have hb := hC.2.1
  have hA : ∀ q, s.heap.size ≤ q → ot_F (ot_ma a) s.heap.size q := fun q h => Or.inr h
  have hl : lv_has ls 2 [(0, .ref (a 0))] := hl
  have lp : ∀ (j q : Nat) (so1 va1 : Nat → Int32) (hq : q + j = 85) (hm : mt = 0) (hR : ot_mnt ls_ lv_ j q so1 va1 = ot_mnt ls_ lv_ 84 1 (upd so 0 2) va), ∀ (H : Heap) (locs : List Loc), ot_I G (ot_F (ot_ma a) s.heap.size) s H locs (ot_mW d a (1, ls_, lv_, so1, va1, im)) → ∀ (ls : Array Slot), lv_has ls 2 [(0, .ref (a 0)), (1, .int (nI (q)))] → W p l e rmX1_mount s m ([.ref (a 0)] : List Value).toArray below meth c H locs 0 0 (ot_Zi G d (ot_ma a) (ot_mW d a) (ot_mP (ot_mmount mt ls_ lv_ so va)) below ([.ref (a 0)] : List Value).toArray s) (F0 m 23 ls []) := by
    intro j
    induction j with
    | zero =>
      intro q so1 va1 hq hm hR H locs hI ls hl
      refine lv_iload_n hx hb dX1_mount_23 rfl (lv_at hl 1 rfl) ?_
      refine lv_bipush (v := 85) hx hb dX1_mount_24 (by decide) ?_
      refine ot_icmp_ge hx hb (a := q) (b := 85) rfl rfl (by omega) (by omega) (tgt := 40) dX1_mount_26 (by decide) (fun _ => ?_) (fun c_ => absurd (by omega) c_)
      refine lv_aload_n hx hb dX1_mount_40 rfl (lv_at hl 0 rfl) ?_
      refine ot_mcr [] [] (mm_total l G d a 1 ls_ lv_ so1 va1 im) hC hK hI.1 (cwV 0 hC.2.2.2.2 (lw_V q201 q202 q203 q17 q204) rfl rfl rfl ok_yX1_total ⟨Nat.le_of_ble_eq_true rfl, Nat.le_of_ble_eq_true rfl⟩) rfl rfl hl.1 (Nat.le_of_ble_eq_true rfl) dX1_mount_41 ⟨Nat.zero_le _, Nat.zero_le _⟩ ?_
      exact ot_iret (u := (1, ls_, lv_, so1, va1, im)) hC hK hr hlk hI (ot_mPe (by rw [ot_mmount, if_pos hm, ← hR]; rfl)) dX1_mount_44
    | succ j ih =>
      intro q so1 va1 hq hm hR H locs hI ls hl
      refine lv_iload_n hx hb dX1_mount_23 rfl (lv_at hl 1 rfl) ?_
      refine lv_bipush (v := 85) hx hb dX1_mount_24 (by decide) ?_
      refine ot_icmp_ge hx hb (a := q) (b := 85) rfl rfl (by omega) (by omega) (tgt := 40) dX1_mount_26 (by decide) (fun c_ => absurd c_ (by omega)) (fun _ => ?_)
      refine lv_aload_n hx hb dX1_mount_29 rfl (lv_at hl 0 rfl) ?_
      refine lv_iload_n hx hb dX1_mount_30 rfl (lv_at hl 1 rfl) ?_
      refine ot_mcv [.int (nI (q))] [] (mm_merge l G d a 1 ls_ lv_ so1 va1 im (q) (by omega)) hC hK hI hA (cwV 1 hC.2.2.2.2 (lw_V q193 q195 qs11 q17 q196) rfl rfl rfl ok_yX1_merge ⟨Nat.le_of_ble_eq_true rfl, Nat.le_of_ble_eq_true rfl⟩) rfl rfl hl.1 (Nat.le_of_ble_eq_true rfl) dX1_mount_31 ⟨Nat.zero_le _, Nat.zero_le _⟩ (fun u1 H locs hp1 hI => ?_)
      subst hp1
      refine lv_iinc (v := nI (q + 1)) (lv' := [(1, .int (nI (q + 1))), (0, .ref (a 0))]) hx hb dX1_mount_34 hl (k := 1) rfl (ot_inc _) (by decide) rfl (fun ls hl => ?_)
      refine lv_goto (tgt := 23) hx hb dX1_mount_37 (by decide) ?_
      exact ih (q + 1) _ _ (by omega) hm (by rw [← hR, ot_mnt]) _ _ hI _ (lv_sub hl [1, 0] rfl)
  refine lv_aload_n hx hb dX1_mount_0 rfl (lv_at hl 0 rfl) ?_
  refine ot_mg2 hC hK hI.1 dX1_mount_1 ?_
  refine lv_if_eq (tgt := 9) hx hb dX1_mount_4 (by decide) (fun c4 => ?_) (fun c4 => ?_)
  · skip
    refine lv_aload_n hx hb dX1_mount_9 rfl (lv_at hl 0 rfl) ?_
    refine lv_iconst (v := 1) hx hb dX1_mount_10 (by decide) ?_
    refine ot_mp2 hC hK hI rfl rfl dX1_mount_11 (fun H locs hI => ?_)
    refine lv_aload_n hx hb dX1_mount_14 rfl (lv_at hl 0 rfl) ?_
    refine ot_mg3 hC hK hI.1 dX1_mount_15 ?_
    refine lv_iconst (v := 0) hx hb dX1_mount_18 (by decide) ?_
    refine lv_iconst (v := 2) hx hb dX1_mount_19 (by decide) ?_
    refine ot_ms3 hC hK hI (j := 0) rfl (by omega) dX1_mount_20 (fun H locs hI => ?_)
    refine lv_iconst (v := 1) hx hb dX1_mount_21 (by decide) ?_
    refine lv_istore_n (lv' := [(1, .int (1)), (0, .ref (a 0))]) hx hb dX1_mount_22 rfl hl (by decide) rfl (fun ls hl => ?_)
    exact lp 84 1 _ _ (by omega) c4 rfl _ _ hI _ (lv_sub hl [1, 0] rfl)
  · skip
    refine lv_iconst (v := (-1)) hx hb dX1_mount_7 (by decide) ?_
    exact ot_iret (u := (mt, ls_, lv_, so, va, im)) hC hK hr hlk hI (ot_mPe (by rw [ot_mmount, if_neg c4])) dX1_mount_8
end
section
set_option maxRecDepth 100000
set_option maxHeartbeats 4000000 in
set_option maxRecDepth 100000 in
theorem mm_canMake (l : Launch) (G : va_G) (d : ClassId) (a : Nat → Nat) (mt : Int32) (ls_ lv_ so va im : Nat → Int32) (p0 : Int32) : ot_Mr l G d yX1_canMake cX1_canMake 2 (some .boolean) rmX1_canMake (ot_mW d a (mt, ls_, lv_, so, va, im)) ([.ref (a 0), .int (p0)] : List Value) (ot_b (decide (ot_can mt so p0))) := by
  refine ot_Mr_of (by decide) (Nat.le_of_ble_eq_true rfl) ?_
  intro p e s m below meth c hC hK hr hlk hP ls hl
  have hC : CallFix p m c cX1_canMake 2 s ([.ref (a 0), .int (p0)] : List Value).toArray lw_all RX1 := hC
  have hx := hC.1
  have hb := hC.2.1
  have hl : lv_has ls 2 [(0, .ref (a 0)), (1, .int (p0))] := hl
  refine lv_aload_n hx hb dX1_canMake_0 rfl (lv_at hl 0 rfl) ?_
  refine ot_mg2 hC hK hP dX1_canMake_1 ?_
  refine lv_if_eq (tgt := 44) hx hb dX1_canMake_4 (by decide) (fun c4 => ?_) (fun c4 => ?_)
  · skip
    refine lv_iconst (v := 0) hx hb dX1_canMake_44 (by decide) ?_
    exact ot_zretR hC hr hlk (ot_bF (fun h => h.1 c4)) rfl dX1_canMake_45
  · skip
    refine lv_iload_n hx hb dX1_canMake_7 rfl (lv_at hl 1 rfl) ?_
    refine lv_if_le (tgt := 44) hx hb dX1_canMake_8 (by decide) (fun c8 => ?_) (fun c8 => ?_)
    · skip
      refine lv_iconst (v := 0) hx hb dX1_canMake_44 (by decide) ?_
      exact ot_zretR hC hr hlk (ot_bF (fun h => Int32.not_le.mpr h.2.1 c8)) rfl dX1_canMake_45
    · skip
      refine lv_iload_n hx hb dX1_canMake_11 rfl (lv_at hl 1 rfl) ?_
      refine ot_calls (As := [.int (p0)]) (rest := []) (mm_bad l (p0)) hC (va_cwS 1 hC.2.2.2.2 (lw_S q179 q180 q17 q181) rfl rfl rfl ok_yX1_bad ⟨Nat.le_of_ble_eq_true rfl, Nat.le_of_ble_eq_true rfl⟩) rfl rfl hl.1 (Nat.le_of_ble_eq_true rfl) dX1_canMake_12 ⟨Nat.zero_le _, Nat.zero_le _⟩ ?_
      refine lv_if_ne (tgt := 44) hx hb dX1_canMake_15 (by decide) (fun c15 => ?_) (fun c15 => ?_)
      · skip
        refine lv_iconst (v := 0) hx hb dX1_canMake_44 (by decide) ?_
        exact ot_zretR hC hr hlk (ot_bF (fun h => (Decidable.not_not.mp (fun z => c15 (ot_bd0.mpr z))).elim (fun z => Int32.lt_irrefl (Int32.lt_trans z h.2.1)) h.2.2.1)) rfl dX1_canMake_45
      · skip
        have hnb := ot_bd0.mp c15
        obtain ⟨k, hk, rfl⟩ := ot_ix (x := p0) (fun z => hnb (Or.inl z)) (fun z => hnb (Or.inr z))
        have hpk := ot_par84 hk
        have ek : ot_k (nI k) = k := ot_kI (by omega)
        refine lv_aload_n hx hb dX1_canMake_18 rfl (lv_at hl 0 rfl) ?_
        refine ot_mg3 hC hK hP dX1_canMake_19 ?_
        refine lv_iload_n hx hb dX1_canMake_22 rfl (lv_at hl 1 rfl) ?_
        refine ot_ml3 hC hK hP (j := k) rfl (by omega) dX1_canMake_23 ?_
        refine lv_if_ne (tgt := 44) hx hb dX1_canMake_24 (by decide) (fun c24 => ?_) (fun c24 => ?_)
        · skip
          refine lv_iconst (v := 0) hx hb dX1_canMake_44 (by decide) ?_
          exact ot_zretR hC hr hlk (ot_bF (fun h => c24 (by have z := h.2.2.2.1; rwa [ek] at z))) rfl dX1_canMake_45
        · skip
          refine lv_aload_n hx hb dX1_canMake_27 rfl (lv_at hl 0 rfl) ?_
          refine ot_mg3 hC hK hP dX1_canMake_28 ?_
          refine lv_iload_n hx hb dX1_canMake_31 rfl (lv_at hl 1 rfl) ?_
          refine ot_calls (As := [.int (nI (k))]) (rest := [.ref (a 3)]) (mm_parent l (k) (by omega)) hC (va_cwS 1 hC.2.2.2.2 (lw_S q182 q183 q17 q184) rfl rfl rfl ok_yX1_parent ⟨Nat.le_of_ble_eq_true rfl, Nat.le_of_ble_eq_true rfl⟩) rfl rfl hl.1 (Nat.le_of_ble_eq_true rfl) dX1_canMake_32 ⟨Nat.zero_le _, Nat.zero_le _⟩ ?_
          refine ot_ml3 hC hK hP (j := ot_par (k)) rfl (by omega) dX1_canMake_35 ?_
          refine lv_iconst (v := 2) hx hb dX1_canMake_36 (by decide) ?_
          refine lv_icmp_ne (tgt := 44) hx hb dX1_canMake_37 (by decide) (fun c37 => ?_) (fun c37 => ?_)
          · skip
            refine lv_iconst (v := 0) hx hb dX1_canMake_44 (by decide) ?_
            exact ot_zretR hC hr hlk (ot_bF (fun h => c37 (by have z := h.2.2.2.2; rwa [ek] at z))) rfl dX1_canMake_45
          · skip
            refine lv_iconst (v := 1) hx hb dX1_canMake_40 (by decide) ?_
            refine lv_goto (tgt := 45) hx hb dX1_canMake_41 (by decide) ?_
            exact ot_zretR hC hr hlk (ot_bT ⟨c4, Int32.not_le.mp c8, fun z => hnb (Or.inr z), by rw [ek]; exact c24, by rw [ek]; exact c37⟩) rfl dX1_canMake_45
set_option maxHeartbeats 4000000 in
set_option maxRecDepth 100000 in
theorem mm_make (l : Launch) (G : va_G) (d : ClassId) (a : Nat → Nat) (mt : Int32) (ls_ lv_ so va im : Nat → Int32) (p0 p1 : Int32) : ot_Mi l G d yX1_make cX1_make 3 (some .int) rmX1_make (ot_ma a) (ot_mW d a) ([.ref (a 0), .int (p0), .int (p1)] : List Value) (mt, ls_, lv_, so, va, im) (ot_mP (ot_mmake mt ls_ lv_ so va p0 p1)) := by
  refine ot_Mi_of (by decide) rfl (Nat.le_of_ble_eq_true rfl) ?_
  intro p e s m below meth c hC hK hr hlk hI ls hl
  have hC : CallFix p m c cX1_make 3 s ([.ref (a 0), .int (p0), .int (p1)] : List Value).toArray lw_all RX1 := hC
  have hx := hC.1
  have hb := hC.2.1
  have hA : ∀ q, s.heap.size ≤ q → ot_F (ot_ma a) s.heap.size q := fun q h => Or.inr h
  have hl : lv_has ls 3 [(0, .ref (a 0)), (1, .int (p0)), (2, .int (p1))] := hl
  refine lv_aload_n hx hb dX1_make_0 rfl (lv_at hl 0 rfl) ?_
  refine lv_iload_n hx hb dX1_make_1 rfl (lv_at hl 1 rfl) ?_
  refine ot_mcr [.int (p0)] [] (mm_canMake l G d a mt ls_ lv_ so va im (p0)) hC hK hI.1 (cwV 1 hC.2.2.2.2 (lw_V q209 q211 qs13 q17 q212) rfl rfl rfl ok_yX1_canMake ⟨Nat.le_of_ble_eq_true rfl, Nat.le_of_ble_eq_true rfl⟩) rfl rfl hl.1 (Nat.le_of_ble_eq_true rfl) dX1_make_2 ⟨Nat.zero_le _, Nat.zero_le _⟩ ?_
  refine lv_if_ne (tgt := 10) hx hb dX1_make_5 (by decide) (fun c5 => ?_) (fun c5 => ?_)
  · skip
    have hcn : ot_can mt so p0 := Decidable.not_not.mp (fun z => c5 (ot_bd0.mpr z))
    obtain ⟨k, hk, rfl⟩ := ot_can_k hcn
    have ek : ot_k (nI k) = k := ot_kI (by omega)
    refine lv_aload_n hx hb dX1_make_10 rfl (lv_at hl 0 rfl) ?_
    refine ot_mg3 hC hK hI.1 dX1_make_11 ?_
    refine lv_iload_n hx hb dX1_make_14 rfl (lv_at hl 1 rfl) ?_
    refine lv_iconst (v := 1) hx hb dX1_make_15 (by decide) ?_
    refine ot_ms3 hC hK hI (j := k) rfl (by omega) dX1_make_16 (fun H locs hI => ?_)
    refine lv_aload_n hx hb dX1_make_17 rfl (lv_at hl 0 rfl) ?_
    refine ot_mg4 hC hK hI.1 dX1_make_18 ?_
    refine lv_iload_n hx hb dX1_make_21 rfl (lv_at hl 1 rfl) ?_
    refine lv_iload_n hx hb dX1_make_22 rfl (lv_at hl 2 rfl) ?_
    refine ot_ms4 hC hK hI (j := k) rfl (by omega) dX1_make_23 (fun H locs hI => ?_)
    refine lv_iconst (v := 0) hx hb dX1_make_24 (by decide) ?_
    exact ot_iret (u := (mt, ls_, lv_, upd so (k) (1), upd va (k) (p1), im)) hC hK hr hlk hI (ot_mPe (by rw [ot_mmake, if_pos hcn, ek])) dX1_make_25
  · skip
    refine lv_iconst (v := (-1)) hx hb dX1_make_8 (by decide) ?_
    exact ot_iret (u := (mt, ls_, lv_, so, va, im)) hC hK hr hlk hI (ot_mPe (by rw [ot_mmake, if_neg (ot_bd0.mp c5)])) dX1_make_9
set_option maxHeartbeats 4000000 in
set_option maxRecDepth 100000 in
theorem mm_makeDir (l : Launch) (G : va_G) (d : ClassId) (a : Nat → Nat) (mt : Int32) (ls_ lv_ so va im : Nat → Int32) (p0 : Int32) : ot_Mi l G d yX1_makeDir cX1_makeDir 2 (some .int) rmX1_makeDir (ot_ma a) (ot_mW d a) ([.ref (a 0), .int (p0)] : List Value) (mt, ls_, lv_, so, va, im) (ot_mP (ot_mmkd mt ls_ lv_ so va p0)) := by
  refine ot_Mi_of (by decide) rfl (Nat.le_of_ble_eq_true rfl) ?_
  intro p e s m below meth c hC hK hr hlk hI ls hl
  have hC : CallFix p m c cX1_makeDir 2 s ([.ref (a 0), .int (p0)] : List Value).toArray lw_all RX1 := hC
  have hx := hC.1
  have hb := hC.2.1
  have hA : ∀ q, s.heap.size ≤ q → ot_F (ot_ma a) s.heap.size q := fun q h => Or.inr h
  have hl : lv_has ls 2 [(0, .ref (a 0)), (1, .int (p0))] := hl
  refine lv_aload_n hx hb dX1_makeDir_0 rfl (lv_at hl 0 rfl) ?_
  refine lv_iload_n hx hb dX1_makeDir_1 rfl (lv_at hl 1 rfl) ?_
  refine ot_mcr [.int (p0)] [] (mm_canMake l G d a mt ls_ lv_ so va im (p0)) hC hK hI.1 (cwV 1 hC.2.2.2.2 (lw_V q209 q211 qs13 q17 q212) rfl rfl rfl ok_yX1_canMake ⟨Nat.le_of_ble_eq_true rfl, Nat.le_of_ble_eq_true rfl⟩) rfl rfl hl.1 (Nat.le_of_ble_eq_true rfl) dX1_makeDir_2 ⟨Nat.zero_le _, Nat.zero_le _⟩ ?_
  refine lv_if_ne (tgt := 10) hx hb dX1_makeDir_5 (by decide) (fun c5 => ?_) (fun c5 => ?_)
  · skip
    have hcn : ot_can mt so p0 := Decidable.not_not.mp (fun z => c5 (ot_bd0.mpr z))
    obtain ⟨k, hk, rfl⟩ := ot_can_k hcn
    have ek : ot_k (nI k) = k := ot_kI (by omega)
    refine lv_aload_n hx hb dX1_makeDir_10 rfl (lv_at hl 0 rfl) ?_
    refine ot_mg3 hC hK hI.1 dX1_makeDir_11 ?_
    refine lv_iload_n hx hb dX1_makeDir_14 rfl (lv_at hl 1 rfl) ?_
    refine lv_iconst (v := 2) hx hb dX1_makeDir_15 (by decide) ?_
    refine ot_ms3 hC hK hI (j := k) rfl (by omega) dX1_makeDir_16 (fun H locs hI => ?_)
    refine lv_iconst (v := 0) hx hb dX1_makeDir_17 (by decide) ?_
    exact ot_iret (u := (mt, ls_, lv_, upd so (k) (2), va, im)) hC hK hr hlk hI (ot_mPe (by rw [ot_mmkd, if_pos hcn, ek])) dX1_makeDir_18
  · skip
    refine lv_iconst (v := (-1)) hx hb dX1_makeDir_8 (by decide) ?_
    exact ot_iret (u := (mt, ls_, lv_, so, va, im)) hC hK hr hlk hI (ot_mPe (by rw [ot_mmkd, if_neg (ot_bd0.mp c5)])) dX1_makeDir_9
set_option maxHeartbeats 4000000 in
set_option maxRecDepth 100000 in
theorem mm_write (l : Launch) (G : va_G) (d : ClassId) (a : Nat → Nat) (mt : Int32) (ls_ lv_ so va im : Nat → Int32) (p0 p1 : Int32) : ot_Mi l G d yX1_write cX1_write 4 (some .int) rmX1_write (ot_ma a) (ot_mW d a) ([.ref (a 0), .int (p0), .int (p1)] : List Value) (mt, ls_, lv_, so, va, im) (ot_mP (ot_mwri mt ls_ lv_ so va p0 p1)) := by
  refine ot_Mi_of (by decide) rfl (Nat.le_of_ble_eq_true rfl) ?_
  intro p e s m below meth c hC hK hr hlk hI ls hl
  have hC : CallFix p m c cX1_write 4 s ([.ref (a 0), .int (p0), .int (p1)] : List Value).toArray lw_all RX1 := hC
  have hx := hC.1
  have hb := hC.2.1
  have hA : ∀ q, s.heap.size ≤ q → ot_F (ot_ma a) s.heap.size q := fun q h => Or.inr h
  have hl : lv_has ls 4 [(0, .ref (a 0)), (1, .int (p0)), (2, .int (p1))] := hl
  refine lv_aload_n hx hb dX1_write_0 rfl (lv_at hl 0 rfl) ?_
  refine ot_mg2 hC hK hI.1 dX1_write_1 ?_
  refine lv_if_eq (tgt := 24) hx hb dX1_write_4 (by decide) (fun c4 => ?_) (fun c4 => ?_)
  · skip
    refine lv_iconst (v := (-1)) hx hb dX1_write_24 (by decide) ?_
    exact ot_iret (u := (mt, ls_, lv_, so, va, im)) hC hK hr hlk hI (ot_mPe (by rw [ot_mwri, if_pos (Or.inl c4)])) dX1_write_25
  · skip
    refine lv_iload_n hx hb dX1_write_7 rfl (lv_at hl 1 rfl) ?_
    refine ot_calls (As := [.int (p0)]) (rest := []) (mm_bad l (p0)) hC (va_cwS 1 hC.2.2.2.2 (lw_S q179 q180 q17 q181) rfl rfl rfl ok_yX1_bad ⟨Nat.le_of_ble_eq_true rfl, Nat.le_of_ble_eq_true rfl⟩) rfl rfl hl.1 (Nat.le_of_ble_eq_true rfl) dX1_write_8 ⟨Nat.zero_le _, Nat.zero_le _⟩ ?_
    refine lv_if_ne (tgt := 24) hx hb dX1_write_11 (by decide) (fun c11 => ?_) (fun c11 => ?_)
    · skip
      refine lv_iconst (v := (-1)) hx hb dX1_write_24 (by decide) ?_
      exact ot_iret (u := (mt, ls_, lv_, so, va, im)) hC hK hr hlk hI (ot_mPe (by rw [ot_mwri, if_pos (Or.inr (Decidable.not_not.mp (fun z => c11 (ot_bd0.mpr z))))])) dX1_write_25
    · skip
      have hnb := ot_bd0.mp c11
      have hc : ¬ (mt = 0 ∨ p0 < 0 ∨ 84 < p0) := fun z => z.elim c4 hnb
      obtain ⟨k, hk, rfl⟩ := ot_ix (x := p0) (fun z => hnb (Or.inl z)) (fun z => hnb (Or.inr z))
      have ek : ot_k (nI k) = k := ot_kI (by omega)
      refine lv_aload_n hx hb dX1_write_14 rfl (lv_at hl 0 rfl) ?_
      refine ot_mg3 hC hK hI.1 dX1_write_15 ?_
      refine lv_iload_n hx hb dX1_write_18 rfl (lv_at hl 1 rfl) ?_
      refine ot_ml3 hC hK hI.1 (j := k) rfl (by omega) dX1_write_19 ?_
      refine lv_iconst (v := 1) hx hb dX1_write_20 (by decide) ?_
      refine lv_icmp_eq (tgt := 26) hx hb dX1_write_21 (by decide) (fun c21 => ?_) (fun c21 => ?_)
      · skip
        refine lv_aload_n hx hb dX1_write_26 rfl (lv_at hl 0 rfl) ?_
        refine ot_mg4 hC hK hI.1 dX1_write_27 ?_
        refine lv_iload_n hx hb dX1_write_30 rfl (lv_at hl 1 rfl) ?_
        refine ot_ml4 hC hK hI.1 (j := k) rfl (by omega) dX1_write_31 ?_
        refine lv_istore_n (lv' := [(3, .int (va (k))), (0, .ref (a 0)), (1, .int (nI (k))), (2, .int (p1))]) hx hb dX1_write_32 rfl hl (by decide) rfl (fun ls hl => ?_)
        refine lv_aload_n hx hb dX1_write_33 rfl (lv_at hl 1 rfl) ?_
        refine ot_mg4 hC hK hI.1 dX1_write_34 ?_
        refine lv_iload_n hx hb dX1_write_37 rfl (lv_at hl 2 rfl) ?_
        refine lv_iload_n hx hb dX1_write_38 rfl (lv_at hl 3 rfl) ?_
        refine ot_ms4 hC hK hI (j := k) rfl (by omega) dX1_write_39 (fun H locs hI => ?_)
        refine lv_iload_n hx hb dX1_write_40 rfl (lv_at hl 0 rfl) ?_
        exact ot_iret (u := (mt, ls_, lv_, so, upd va (k) (p1), im)) hC hK hr hlk hI (ot_mPe (by rw [ot_mwri, if_neg hc, ek, if_pos c21])) dX1_write_41
      · skip
        refine lv_iconst (v := (-1)) hx hb dX1_write_24 (by decide) ?_
        exact ot_iret (u := (mt, ls_, lv_, so, va, im)) hC hK hr hlk hI (ot_mPe (by rw [ot_mwri, if_neg hc, ek, if_neg c21])) dX1_write_25
set_option maxHeartbeats 4000000 in
set_option maxRecDepth 100000 in
theorem mm_remove (l : Launch) (G : va_G) (d : ClassId) (a : Nat → Nat) (mt : Int32) (ls_ lv_ so va im : Nat → Int32) (p0 : Int32) : ot_Mi l G d yX1_remove cX1_remove 3 (some .int) rmX1_remove (ot_ma a) (ot_mW d a) ([.ref (a 0), .int (p0)] : List Value) (mt, ls_, lv_, so, va, im) (ot_mP (ot_mrem mt ls_ lv_ so va p0)) := by
  refine ot_Mi_of (by decide) rfl (Nat.le_of_ble_eq_true rfl) ?_
  intro p e s m below meth c hC hK hr hlk hI ls hl
  have hC : CallFix p m c cX1_remove 3 s ([.ref (a 0), .int (p0)] : List Value).toArray lw_all RX1 := hC
  have hx := hC.1
  have hb := hC.2.1
  have hA : ∀ q, s.heap.size ≤ q → ot_F (ot_ma a) s.heap.size q := fun q h => Or.inr h
  have hl : lv_has ls 3 [(0, .ref (a 0)), (1, .int (p0))] := hl
  refine lv_aload_n hx hb dX1_remove_0 rfl (lv_at hl 0 rfl) ?_
  refine ot_mg2 hC hK hI.1 dX1_remove_1 ?_
  refine lv_if_eq (tgt := 28) hx hb dX1_remove_4 (by decide) (fun c4 => ?_) (fun c4 => ?_)
  · skip
    refine lv_iconst (v := (-1)) hx hb dX1_remove_28 (by decide) ?_
    exact ot_iret (u := (mt, ls_, lv_, so, va, im)) hC hK hr hlk hI (ot_mPe (by rw [ot_mrem, if_pos (Or.inl c4)])) dX1_remove_29
  · skip
    refine lv_iload_n hx hb dX1_remove_7 rfl (lv_at hl 1 rfl) ?_
    refine lv_iconst (v := 1) hx hb dX1_remove_8 (by decide) ?_
    refine lv_icmp_lt (tgt := 28) hx hb dX1_remove_9 (by decide) (fun c9 => ?_) (fun c9 => ?_)
    · skip
      refine lv_iconst (v := (-1)) hx hb dX1_remove_28 (by decide) ?_
      exact ot_iret (u := (mt, ls_, lv_, so, va, im)) hC hK hr hlk hI (ot_mPe (by rw [ot_mrem, if_pos (Or.inr (Or.inl c9))])) dX1_remove_29
    · skip
      refine lv_iload_n hx hb dX1_remove_12 rfl (lv_at hl 1 rfl) ?_
      refine ot_calls (As := [.int (p0)]) (rest := []) (mm_bad l (p0)) hC (va_cwS 1 hC.2.2.2.2 (lw_S q179 q180 q17 q181) rfl rfl rfl ok_yX1_bad ⟨Nat.le_of_ble_eq_true rfl, Nat.le_of_ble_eq_true rfl⟩) rfl rfl hl.1 (Nat.le_of_ble_eq_true rfl) dX1_remove_13 ⟨Nat.zero_le _, Nat.zero_le _⟩ ?_
      refine lv_if_ne (tgt := 28) hx hb dX1_remove_16 (by decide) (fun c16 => ?_) (fun c16 => ?_)
      · skip
        refine lv_iconst (v := (-1)) hx hb dX1_remove_28 (by decide) ?_
        exact ot_iret (u := (mt, ls_, lv_, so, va, im)) hC hK hr hlk hI (ot_mPe (by rw [ot_mrem, if_pos (Or.inr ((Decidable.not_not.mp (fun z => c16 (ot_bd0.mpr z))).elim (fun z => Or.inl (Int32.lt_trans z (by decide))) Or.inr))])) dX1_remove_29
      · skip
        have hnb := ot_bd0.mp c16
        have hc : ¬ (mt = 0 ∨ p0 < 1 ∨ 84 < p0) := fun z => z.elim c4 (fun z => z.elim c9 (fun z => hnb (Or.inr z)))
        obtain ⟨k, hk, rfl⟩ := ot_ix (x := p0) (fun z => hnb (Or.inl z)) (fun z => hnb (Or.inr z))
        have ek : ot_k (nI k) = k := ot_kI (by omega)
        refine lv_aload_n hx hb dX1_remove_19 rfl (lv_at hl 0 rfl) ?_
        refine ot_mg3 hC hK hI.1 dX1_remove_20 ?_
        refine lv_iload_n hx hb dX1_remove_23 rfl (lv_at hl 1 rfl) ?_
        refine ot_ml3 hC hK hI.1 (j := k) rfl (by omega) dX1_remove_24 ?_
        refine lv_if_ne (tgt := 30) hx hb dX1_remove_25 (by decide) (fun c25 => ?_) (fun c25 => ?_)
        · skip
          have lp : ∀ (j q : Nat) (hq : q + j = 85) (hR : ot_kid so k j q = ot_kid so k 84 1), ∀ (H : Heap) (locs : List Loc), ot_I G (ot_F (ot_ma a) s.heap.size) s H locs (ot_mW d a (mt, ls_, lv_, so, va, im)) → ∀ (ls : Array Slot), lv_has ls 3 [(0, .ref (a 0)), (1, .int (nI (k))), (2, .int (nI (q)))] → W p l e rmX1_remove s m ([.ref (a 0), .int (nI k)] : List Value).toArray below meth c H locs 0 0 (ot_Zi G d (ot_ma a) (ot_mW d a) (ot_mP (ot_mrem mt ls_ lv_ so va (nI k))) below ([.ref (a 0), .int (nI k)] : List Value).toArray s) (F0 m 32 ls []) := by
            intro j
            induction j with
            | zero =>
              intro q hq hR H locs hI ls hl
              refine lv_iload_n hx hb dX1_remove_32 rfl (lv_at hl 2 rfl) ?_
              refine lv_bipush (v := 85) hx hb dX1_remove_33 (by decide) ?_
              refine ot_icmp_ge hx hb (a := q) (b := 85) rfl rfl (by omega) (by omega) (tgt := 63) dX1_remove_35 (by decide) (fun _ => ?_) (fun c_ => absurd (by omega) c_)
              refine lv_aload_n hx hb dX1_remove_63 rfl (lv_at hl 0 rfl) ?_
              refine ot_mg3 hC hK hI.1 dX1_remove_64 ?_
              refine lv_iload_n hx hb dX1_remove_67 rfl (lv_at hl 1 rfl) ?_
              refine lv_iconst (v := 0) hx hb dX1_remove_68 (by decide) ?_
              refine ot_ms3 hC hK hI (j := k) rfl (by omega) dX1_remove_69 (fun H locs hI => ?_)
              refine lv_iconst (v := 0) hx hb dX1_remove_70 (by decide) ?_
              exact ot_iret (u := (mt, ls_, lv_, upd so (k) (0), va, im)) hC hK hr hlk hI (ot_mPe (by rw [ot_mrem, if_neg hc, ek, if_neg (fun z => z.elim c25 (fun z => by rw [← hR] at z; cases z))])) dX1_remove_71
            | succ j ih =>
              intro q hq hR H locs hI ls hl
              have hpq := ot_par84 (q := q) (by omega)
              refine lv_iload_n hx hb dX1_remove_32 rfl (lv_at hl 2 rfl) ?_
              refine lv_bipush (v := 85) hx hb dX1_remove_33 (by decide) ?_
              refine ot_icmp_ge hx hb (a := q) (b := 85) rfl rfl (by omega) (by omega) (tgt := 63) dX1_remove_35 (by decide) (fun c_ => absurd c_ (by omega)) (fun _ => ?_)
              refine lv_aload_n hx hb dX1_remove_38 rfl (lv_at hl 0 rfl) ?_
              refine ot_mg3 hC hK hI.1 dX1_remove_39 ?_
              refine lv_iload_n hx hb dX1_remove_42 rfl (lv_at hl 2 rfl) ?_
              refine ot_ml3 hC hK hI.1 (j := q) rfl (by omega) dX1_remove_43 ?_
              refine lv_if_eq (tgt := 57) hx hb dX1_remove_44 (by decide) (fun c44 => ?_) (fun c44 => ?_)
              · skip
                refine lv_iinc (v := nI (q + 1)) (lv' := [(2, .int (nI (q + 1))), (0, .ref (a 0)), (1, .int (nI (k)))]) hx hb dX1_remove_57 hl (k := 2) rfl (ot_inc _) (by decide) rfl (fun ls hl => ?_)
                refine lv_goto (tgt := 32) hx hb dX1_remove_60 (by decide) ?_
                exact ih (q + 1) (by omega) (by rw [← hR, ot_kid, if_pos c44]) _ _ hI _ (lv_sub hl [1, 2, 0] rfl)
              · skip
                refine lv_iload_n hx hb dX1_remove_47 rfl (lv_at hl 2 rfl) ?_
                refine ot_calls (As := [.int (nI (q))]) (rest := []) (mm_parent l (q) (by omega)) hC (va_cwS 1 hC.2.2.2.2 (lw_S q182 q183 q17 q184) rfl rfl rfl ok_yX1_parent ⟨Nat.le_of_ble_eq_true rfl, Nat.le_of_ble_eq_true rfl⟩) rfl rfl hl.1 (Nat.le_of_ble_eq_true rfl) dX1_remove_48 ⟨Nat.zero_le _, Nat.zero_le _⟩ ?_
                refine lv_iload_n hx hb dX1_remove_51 rfl (lv_at hl 1 rfl) ?_
                refine ot_icmp_ne hx hb (a := ot_par (q)) (b := k) rfl rfl (by omega) (by omega) (tgt := 57) dX1_remove_52 (by decide) (fun c52 => ?_) (fun c52 => ?_)
                · skip
                  refine lv_iinc (v := nI (q + 1)) (lv' := [(2, .int (nI (q + 1))), (0, .ref (a 0)), (1, .int (nI (k)))]) hx hb dX1_remove_57 hl (k := 2) rfl (ot_inc _) (by decide) rfl (fun ls hl => ?_)
                  refine lv_goto (tgt := 32) hx hb dX1_remove_60 (by decide) ?_
                  exact ih (q + 1) (by omega) (by rw [← hR, ot_kid, if_neg c44, if_neg c52]) _ _ hI _ (lv_sub hl [1, 2, 0] rfl)
                · skip
                  refine lv_iconst (v := (-1)) hx hb dX1_remove_55 (by decide) ?_
                  exact ot_iret (u := (mt, ls_, lv_, so, va, im)) hC hK hr hlk hI (ot_mPe (by rw [ot_mrem, if_neg hc, ek, if_pos (Or.inr (by rw [← hR, ot_kid, if_neg c44, if_pos c52]))])) dX1_remove_56
          refine lv_iconst (v := 1) hx hb dX1_remove_30 (by decide) ?_
          refine lv_istore_n (lv' := [(2, .int (1)), (0, .ref (a 0)), (1, .int (nI (k)))]) hx hb dX1_remove_31 rfl hl (by decide) rfl (fun ls hl => ?_)
          exact lp 84 1 (by omega) rfl _ _ hI _ (lv_sub hl [1, 2, 0] rfl)
        · skip
          refine lv_iconst (v := (-1)) hx hb dX1_remove_28 (by decide) ?_
          exact ot_iret (u := (mt, ls_, lv_, so, va, im)) hC hK hr hlk hI (ot_mPe (by rw [ot_mrem, if_neg hc, ek, if_pos (Or.inl c25)])) dX1_remove_29
end
section
set_option maxRecDepth 100000
set_option maxHeartbeats 4000000 in
set_option maxRecDepth 100000 in
theorem mm_follow (l : Launch) (G : va_G) (d : ClassId) (a : Nat → Nat) (mt : Int32) (ls_ lv_ so va im : Nat → Int32) (fr to : Nat) (hfr : fr < 85) (hto : to < 85) : ot_Mv l G d yX1_follow cX1_follow 4 rmX1_follow (ot_ma a) (ot_mW d a) ([.ref (a 0), .int (nI (fr)), .int (nI (to))] : List Value) (mt, ls_, lv_, so, va, im) (fun u => u = (mt, ls_, lv_, so, va, ot_fol fr to 85 0 im)) := by
  refine ot_Mv_of (by decide) rfl (Nat.le_of_ble_eq_true rfl) ?_
  intro p e s m below meth c hC hK hr hlk hI ls hl
  have hC : CallFix p m c cX1_follow 4 s ([.ref (a 0), .int (nI (fr)), .int (nI (to))] : List Value).toArray lw_all RX1 := hC
  have hx := hC.1
  have hb := hC.2.1
  have hA : ∀ q, s.heap.size ≤ q → ot_F (ot_ma a) s.heap.size q := fun q h => Or.inr h
  have hl : lv_has ls 4 [(0, .ref (a 0)), (1, .int (nI (fr))), (2, .int (nI (to)))] := hl
  have lp : ∀ (j q : Nat) (im1 : Nat → Int32) (hq : q + j = 85) (hR : ot_fol fr to j q im1 = ot_fol fr to 85 0 im), ∀ (H : Heap) (locs : List Loc), ot_I G (ot_F (ot_ma a) s.heap.size) s H locs (ot_mW d a (mt, ls_, lv_, so, va, im1)) → ∀ (ls : Array Slot), lv_has ls 4 [(0, .ref (a 0)), (1, .int (nI (fr))), (2, .int (nI (to))), (3, .int (nI (q)))] → W p l e rmX1_follow s m ([.ref (a 0), .int (nI (fr)), .int (nI (to))] : List Value).toArray below meth c H locs 0 0 (ot_Zv G d (ot_ma a) (ot_mW d a) (fun u => u = (mt, ls_, lv_, so, va, ot_fol fr to 85 0 im)) below ([.ref (a 0), .int (nI (fr)), .int (nI (to))] : List Value).toArray s) (F0 m 2 ls []) := by
    intro j
    induction j with
    | zero =>
      intro q im1 hq hR H locs hI ls hl
      refine lv_iload_n hx hb dX1_follow_2 rfl (lv_at hl 3 rfl) ?_
      refine lv_bipush (v := 85) hx hb dX1_follow_3 (by decide) ?_
      refine ot_icmp_ge hx hb (a := q) (b := 85) rfl rfl (by omega) (by omega) (tgt := 96) dX1_follow_5 (by decide) (fun _ => ?_) (fun c_ => absurd (by omega) c_)
      exact ot_vret (u := (mt, ls_, lv_, so, va, im1)) hC hK hr hlk hI (by rw [← hR]; rfl) dX1_follow_96
    | succ j ih =>
      intro q im1 hq hR H locs hI ls hl
      have hpq := ot_par84 (q := q) (by omega)
      refine lv_iload_n hx hb dX1_follow_2 rfl (lv_at hl 3 rfl) ?_
      refine lv_bipush (v := 85) hx hb dX1_follow_3 (by decide) ?_
      refine ot_icmp_ge hx hb (a := q) (b := 85) rfl rfl (by omega) (by omega) (tgt := 96) dX1_follow_5 (by decide) (fun c_ => absurd c_ (by omega)) (fun _ => ?_)
      refine lv_aload_n hx hb dX1_follow_8 rfl (lv_at hl 0 rfl) ?_
      refine ot_mg5 hC hK hI.1 dX1_follow_9 ?_
      refine lv_iload_n hx hb dX1_follow_12 rfl (lv_at hl 3 rfl) ?_
      refine lv_iconst (v := (-1)) hx hb dX1_follow_13 (by decide) ?_
      refine ot_ms5 hC hK hI (j := q) rfl (by omega) dX1_follow_14 (fun H locs hI => ?_)
      refine lv_iload_n hx hb dX1_follow_15 rfl (lv_at hl 3 rfl) ?_
      refine lv_iload_n hx hb dX1_follow_16 rfl (lv_at hl 1 rfl) ?_
      refine ot_icmp_ne hx hb (a := q) (b := fr) rfl rfl (by omega) (by omega) (tgt := 30) dX1_follow_17 (by decide) (fun c17 => ?_) (fun c17 => ?_)
      · skip
        refine lv_iload_n hx hb dX1_follow_30 rfl (lv_at hl 3 rfl) ?_
        refine ot_if_le hx hb (a := q) rfl (by omega) (tgt := 71) dX1_follow_31 (by decide) (fun c31 => ?_) (fun c31 => ?_)
        · skip
          refine lv_aload_n hx hb dX1_follow_71 rfl (lv_at hl 0 rfl) ?_
          refine ot_mg5 hC hK hI.1 dX1_follow_72 ?_
          refine lv_iload_n hx hb dX1_follow_75 rfl (lv_at hl 3 rfl) ?_
          refine ot_ml5 hC hK hI.1 (j := q) rfl (by omega) dX1_follow_76 ?_
          refine lv_bipush (v := 84) hx hb dX1_follow_77 (by decide) ?_
          refine lv_icmp_le (tgt := 90) hx hb dX1_follow_79 (by decide) (fun c79 => ?_) (fun c79 => ?_)
          · skip
            refine lv_iinc (v := nI (q + 1)) (lv' := [(3, .int (nI (q + 1))), (0, .ref (a 0)), (1, .int (nI (fr))), (2, .int (nI (to)))]) hx hb dX1_follow_90 hl (k := 3) rfl (ot_inc _) (by decide) rfl (fun ls hl => ?_)
            refine lv_goto (tgt := 2) hx hb dX1_follow_93 (by decide) ?_
            have hE : ot_fo1 fr to im1 q = upd im1 (q) ((-1)) := by
              unfold ot_fo1
              simp only [if_neg c17, if_pos (show q = 0 by omega), if_pos c79]
            exact ih (q + 1) _ (by omega) (by rw [← hR, ot_fol, hE]) _ _ hI _ (lv_sub hl [1, 2, 3, 0] rfl)
          · skip
            refine lv_aload_n hx hb dX1_follow_82 rfl (lv_at hl 0 rfl) ?_
            refine ot_mg5 hC hK hI.1 dX1_follow_83 ?_
            refine lv_iload_n hx hb dX1_follow_86 rfl (lv_at hl 3 rfl) ?_
            refine lv_bipush (v := 85) hx hb dX1_follow_87 (by decide) ?_
            refine ot_ms5 hC hK hI (j := q) rfl (by omega) dX1_follow_89 (fun H locs hI => ?_)
            refine lv_iinc (v := nI (q + 1)) (lv' := [(3, .int (nI (q + 1))), (0, .ref (a 0)), (1, .int (nI (fr))), (2, .int (nI (to)))]) hx hb dX1_follow_90 hl (k := 3) rfl (ot_inc _) (by decide) rfl (fun ls hl => ?_)
            refine lv_goto (tgt := 2) hx hb dX1_follow_93 (by decide) ?_
            have hE : ot_fo1 fr to im1 q = upd (upd im1 (q) ((-1))) (q) (85) := by
              unfold ot_fo1
              simp only [if_neg c17, if_pos (show q = 0 by omega), if_neg c79]
            exact ih (q + 1) _ (by omega) (by rw [← hR, ot_fol, hE]) _ _ hI _ (lv_sub hl [1, 2, 3, 0] rfl)
        · skip
          refine lv_aload_n hx hb dX1_follow_34 rfl (lv_at hl 0 rfl) ?_
          refine ot_mg5 hC hK hI.1 dX1_follow_35 ?_
          refine lv_iload_n hx hb dX1_follow_38 rfl (lv_at hl 3 rfl) ?_
          refine ot_calls (As := [.int (nI (q))]) (rest := [.ref (a 5)]) (mm_parent l (q) (by omega)) hC (va_cwS 1 hC.2.2.2.2 (lw_S q182 q183 q17 q184) rfl rfl rfl ok_yX1_parent ⟨Nat.le_of_ble_eq_true rfl, Nat.le_of_ble_eq_true rfl⟩) rfl rfl hl.1 (Nat.le_of_ble_eq_true rfl) dX1_follow_39 ⟨Nat.zero_le _, Nat.zero_le _⟩ ?_
          refine ot_ml5 hC hK hI.1 (j := ot_par (q)) rfl (by omega) dX1_follow_42 ?_
          refine lv_if_lt (tgt := 71) hx hb dX1_follow_43 (by decide) (fun c43 => ?_) (fun c43 => ?_)
          · skip
            refine lv_aload_n hx hb dX1_follow_71 rfl (lv_at hl 0 rfl) ?_
            refine ot_mg5 hC hK hI.1 dX1_follow_72 ?_
            refine lv_iload_n hx hb dX1_follow_75 rfl (lv_at hl 3 rfl) ?_
            refine ot_ml5 hC hK hI.1 (j := q) rfl (by omega) dX1_follow_76 ?_
            refine lv_bipush (v := 84) hx hb dX1_follow_77 (by decide) ?_
            refine lv_icmp_le (tgt := 90) hx hb dX1_follow_79 (by decide) (fun c79 => ?_) (fun c79 => ?_)
            · skip
              refine lv_iinc (v := nI (q + 1)) (lv' := [(3, .int (nI (q + 1))), (0, .ref (a 0)), (1, .int (nI (fr))), (2, .int (nI (to)))]) hx hb dX1_follow_90 hl (k := 3) rfl (ot_inc _) (by decide) rfl (fun ls hl => ?_)
              refine lv_goto (tgt := 2) hx hb dX1_follow_93 (by decide) ?_
              have hE : ot_fo1 fr to im1 q = upd im1 (q) ((-1)) := by
                unfold ot_fo1
                simp only [if_neg c17, if_neg (show ¬ q = 0 by omega), if_pos c43, if_pos c79]
              exact ih (q + 1) _ (by omega) (by rw [← hR, ot_fol, hE]) _ _ hI _ (lv_sub hl [1, 2, 3, 0] rfl)
            · skip
              refine lv_aload_n hx hb dX1_follow_82 rfl (lv_at hl 0 rfl) ?_
              refine ot_mg5 hC hK hI.1 dX1_follow_83 ?_
              refine lv_iload_n hx hb dX1_follow_86 rfl (lv_at hl 3 rfl) ?_
              refine lv_bipush (v := 85) hx hb dX1_follow_87 (by decide) ?_
              refine ot_ms5 hC hK hI (j := q) rfl (by omega) dX1_follow_89 (fun H locs hI => ?_)
              refine lv_iinc (v := nI (q + 1)) (lv' := [(3, .int (nI (q + 1))), (0, .ref (a 0)), (1, .int (nI (fr))), (2, .int (nI (to)))]) hx hb dX1_follow_90 hl (k := 3) rfl (ot_inc _) (by decide) rfl (fun ls hl => ?_)
              refine lv_goto (tgt := 2) hx hb dX1_follow_93 (by decide) ?_
              have hE : ot_fo1 fr to im1 q = upd (upd im1 (q) ((-1))) (q) (85) := by
                unfold ot_fo1
                simp only [if_neg c17, if_neg (show ¬ q = 0 by omega), if_pos c43, if_neg c79]
              exact ih (q + 1) _ (by omega) (by rw [← hR, ot_fol, hE]) _ _ hI _ (lv_sub hl [1, 2, 3, 0] rfl)
          · skip
            refine lv_aload_n hx hb dX1_follow_46 rfl (lv_at hl 0 rfl) ?_
            refine ot_mg5 hC hK hI.1 dX1_follow_47 ?_
            refine lv_iload_n hx hb dX1_follow_50 rfl (lv_at hl 3 rfl) ?_
            refine lv_iconst (v := 4) hx hb dX1_follow_51 (by decide) ?_
            refine lv_aload_n hx hb dX1_follow_52 rfl (lv_at hl 0 rfl) ?_
            refine ot_mg5 hC hK hI.1 dX1_follow_53 ?_
            refine lv_iload_n hx hb dX1_follow_56 rfl (lv_at hl 3 rfl) ?_
            refine ot_calls (As := [.int (nI (q))]) (rest := [.ref (a 5), .int (4), .int (nI (q)), .ref (a 5)]) (mm_parent l (q) (by omega)) hC (va_cwS 1 hC.2.2.2.2 (lw_S q182 q183 q17 q184) rfl rfl rfl ok_yX1_parent ⟨Nat.le_of_ble_eq_true rfl, Nat.le_of_ble_eq_true rfl⟩) rfl rfl hl.1 (Nat.le_of_ble_eq_true rfl) dX1_follow_57 ⟨Nat.zero_le _, Nat.zero_le _⟩ ?_
            refine ot_ml5 hC hK hI.1 (j := ot_par (q)) rfl (by omega) dX1_follow_60 ?_
            refine lv_imul hx hb dX1_follow_61 ?_
            refine lv_iload_n hx hb dX1_follow_62 rfl (lv_at hl 3 rfl) ?_
            refine lv_iconst (v := 1) hx hb dX1_follow_63 (by decide) ?_
            refine lv_isub hx hb dX1_follow_64 ?_
            refine lv_iconst (v := 4) hx hb dX1_follow_65 (by decide) ?_
            refine lv_irem hx hb dX1_follow_66 (by decide) ?_
            refine ot_r (y := nI ((q - 1) % 4)) (ot_remI (by omega) (by omega)) ?_
            refine lv_iadd hx hb dX1_follow_67 ?_
            refine lv_iconst (v := 1) hx hb dX1_follow_68 (by decide) ?_
            refine lv_iadd hx hb dX1_follow_69 ?_
            refine ot_ms5 hC hK hI (j := q) rfl (by omega) dX1_follow_70 (fun H locs hI => ?_)
            refine lv_aload_n hx hb dX1_follow_71 rfl (lv_at hl 0 rfl) ?_
            refine ot_mg5 hC hK hI.1 dX1_follow_72 ?_
            refine lv_iload_n hx hb dX1_follow_75 rfl (lv_at hl 3 rfl) ?_
            refine ot_ml5 hC hK hI.1 (j := q) rfl (by omega) dX1_follow_76 ?_
            refine lv_bipush (v := 84) hx hb dX1_follow_77 (by decide) ?_
            refine lv_icmp_le (tgt := 90) hx hb dX1_follow_79 (by decide) (fun c79 => ?_) (fun c79 => ?_)
            · skip
              refine lv_iinc (v := nI (q + 1)) (lv' := [(3, .int (nI (q + 1))), (0, .ref (a 0)), (1, .int (nI (fr))), (2, .int (nI (to)))]) hx hb dX1_follow_90 hl (k := 3) rfl (ot_inc _) (by decide) rfl (fun ls hl => ?_)
              refine lv_goto (tgt := 2) hx hb dX1_follow_93 (by decide) ?_
              have hE : ot_fo1 fr to im1 q = upd (upd im1 (q) ((-1))) (q) ((((4) * ((upd im1 (q) ((-1))) (ot_par (q)))) + (nI ((q - 1) % 4))) + (1)) := by
                unfold ot_fo1
                simp only [if_neg c17, if_neg (show ¬ q = 0 by omega), if_neg c43, if_pos c79]
              exact ih (q + 1) _ (by omega) (by rw [← hR, ot_fol, hE]) _ _ hI _ (lv_sub hl [1, 2, 3, 0] rfl)
            · skip
              refine lv_aload_n hx hb dX1_follow_82 rfl (lv_at hl 0 rfl) ?_
              refine ot_mg5 hC hK hI.1 dX1_follow_83 ?_
              refine lv_iload_n hx hb dX1_follow_86 rfl (lv_at hl 3 rfl) ?_
              refine lv_bipush (v := 85) hx hb dX1_follow_87 (by decide) ?_
              refine ot_ms5 hC hK hI (j := q) rfl (by omega) dX1_follow_89 (fun H locs hI => ?_)
              refine lv_iinc (v := nI (q + 1)) (lv' := [(3, .int (nI (q + 1))), (0, .ref (a 0)), (1, .int (nI (fr))), (2, .int (nI (to)))]) hx hb dX1_follow_90 hl (k := 3) rfl (ot_inc _) (by decide) rfl (fun ls hl => ?_)
              refine lv_goto (tgt := 2) hx hb dX1_follow_93 (by decide) ?_
              have hE : ot_fo1 fr to im1 q = upd (upd (upd im1 (q) ((-1))) (q) ((((4) * ((upd im1 (q) ((-1))) (ot_par (q)))) + (nI ((q - 1) % 4))) + (1))) (q) (85) := by
                unfold ot_fo1
                simp only [if_neg c17, if_neg (show ¬ q = 0 by omega), if_neg c43, if_neg c79]
              exact ih (q + 1) _ (by omega) (by rw [← hR, ot_fol, hE]) _ _ hI _ (lv_sub hl [1, 2, 3, 0] rfl)
      · skip
        refine lv_aload_n hx hb dX1_follow_20 rfl (lv_at hl 0 rfl) ?_
        refine ot_mg5 hC hK hI.1 dX1_follow_21 ?_
        refine lv_iload_n hx hb dX1_follow_24 rfl (lv_at hl 3 rfl) ?_
        refine lv_iload_n hx hb dX1_follow_25 rfl (lv_at hl 2 rfl) ?_
        refine ot_ms5 hC hK hI (j := q) rfl (by omega) dX1_follow_26 (fun H locs hI => ?_)
        refine lv_goto (tgt := 71) hx hb dX1_follow_27 (by decide) ?_
        refine lv_aload_n hx hb dX1_follow_71 rfl (lv_at hl 0 rfl) ?_
        refine ot_mg5 hC hK hI.1 dX1_follow_72 ?_
        refine lv_iload_n hx hb dX1_follow_75 rfl (lv_at hl 3 rfl) ?_
        refine ot_ml5 hC hK hI.1 (j := q) rfl (by omega) dX1_follow_76 ?_
        refine lv_bipush (v := 84) hx hb dX1_follow_77 (by decide) ?_
        refine lv_icmp_le (tgt := 90) hx hb dX1_follow_79 (by decide) (fun c79 => ?_) (fun c79 => ?_)
        · skip
          refine lv_iinc (v := nI (q + 1)) (lv' := [(3, .int (nI (q + 1))), (0, .ref (a 0)), (1, .int (nI (fr))), (2, .int (nI (to)))]) hx hb dX1_follow_90 hl (k := 3) rfl (ot_inc _) (by decide) rfl (fun ls hl => ?_)
          refine lv_goto (tgt := 2) hx hb dX1_follow_93 (by decide) ?_
          have hE : ot_fo1 fr to im1 q = upd (upd im1 (q) ((-1))) (q) (nI (to)) := by
            unfold ot_fo1
            simp only [if_pos c17, if_pos c79]
          exact ih (q + 1) _ (by omega) (by rw [← hR, ot_fol, hE]) _ _ hI _ (lv_sub hl [1, 2, 3, 0] rfl)
        · skip
          refine lv_aload_n hx hb dX1_follow_82 rfl (lv_at hl 0 rfl) ?_
          refine ot_mg5 hC hK hI.1 dX1_follow_83 ?_
          refine lv_iload_n hx hb dX1_follow_86 rfl (lv_at hl 3 rfl) ?_
          refine lv_bipush (v := 85) hx hb dX1_follow_87 (by decide) ?_
          refine ot_ms5 hC hK hI (j := q) rfl (by omega) dX1_follow_89 (fun H locs hI => ?_)
          refine lv_iinc (v := nI (q + 1)) (lv' := [(3, .int (nI (q + 1))), (0, .ref (a 0)), (1, .int (nI (fr))), (2, .int (nI (to)))]) hx hb dX1_follow_90 hl (k := 3) rfl (ot_inc _) (by decide) rfl (fun ls hl => ?_)
          refine lv_goto (tgt := 2) hx hb dX1_follow_93 (by decide) ?_
          have hE : ot_fo1 fr to im1 q = upd (upd (upd im1 (q) ((-1))) (q) (nI (to))) (q) (85) := by
            unfold ot_fo1
            simp only [if_pos c17, if_neg c79]
          exact ih (q + 1) _ (by omega) (by rw [← hR, ot_fol, hE]) _ _ hI _ (lv_sub hl [1, 2, 3, 0] rfl)
  refine lv_iconst (v := 0) hx hb dX1_follow_0 (by decide) ?_
  refine lv_istore_n (lv' := [(3, .int (0)), (0, .ref (a 0)), (1, .int (nI (fr))), (2, .int (nI (to)))]) hx hb dX1_follow_1 rfl hl (by decide) rfl (fun ls hl => ?_)
  exact lp 85 0 im (by omega) rfl _ _ hI _ (lv_sub hl [1, 2, 3, 0] rfl)
set_option maxHeartbeats 4000000 in
set_option maxRecDepth 100000 in
theorem mm_move (l : Launch) (G : va_G) (d : ClassId) (a : Nat → Nat) (mt : Int32) (ls_ lv_ so va im : Nat → Int32) (p0 p1 : Int32) : ot_Mi l G d yX1_move cX1_move 5 (some .int) rmX1_move (ot_ma a) (ot_mW d a) ([.ref (a 0), .int (p0), .int (p1)] : List Value) (mt, ls_, lv_, so, va, im) (ot_mP (ot_mmov mt ls_ lv_ so va im p0 p1)) := by
  refine ot_Mi_of (by decide) rfl (Nat.le_of_ble_eq_true rfl) ?_
  intro p e s m below meth c hC hK hr hlk hI ls hl
  have hC : CallFix p m c cX1_move 5 s ([.ref (a 0), .int (p0), .int (p1)] : List Value).toArray lw_all RX1 := hC
  have hx := hC.1
  have hb := hC.2.1
  have hA : ∀ q, s.heap.size ≤ q → ot_F (ot_ma a) s.heap.size q := fun q h => Or.inr h
  have hl : lv_has ls 5 [(0, .ref (a 0)), (1, .int (p0)), (2, .int (p1))] := hl
  refine lv_aload_n hx hb dX1_move_0 rfl (lv_at hl 0 rfl) ?_
  refine ot_mg2 hC hK hI.1 dX1_move_1 ?_
  refine lv_if_eq (tgt := 36) hx hb dX1_move_4 (by decide) (fun c4 => ?_) (fun c4 => ?_)
  · skip
    refine lv_iconst (v := (-1)) hx hb dX1_move_36 (by decide) ?_
    exact ot_iret (u := (mt, ls_, lv_, so, va, im)) hC hK hr hlk hI (ot_mPe (by rw [ot_mmov, if_pos (Or.inl c4)])) dX1_move_37
  · skip
    refine lv_iload_n hx hb dX1_move_7 rfl (lv_at hl 1 rfl) ?_
    refine lv_iconst (v := 1) hx hb dX1_move_8 (by decide) ?_
    refine lv_icmp_lt (tgt := 36) hx hb dX1_move_9 (by decide) (fun c9 => ?_) (fun c9 => ?_)
    · skip
      refine lv_iconst (v := (-1)) hx hb dX1_move_36 (by decide) ?_
      exact ot_iret (u := (mt, ls_, lv_, so, va, im)) hC hK hr hlk hI (ot_mPe (by rw [ot_mmov, if_pos (Or.inr (Or.inl c9))])) dX1_move_37
    · skip
      refine lv_iload_n hx hb dX1_move_12 rfl (lv_at hl 1 rfl) ?_
      refine ot_calls (As := [.int (p0)]) (rest := []) (mm_bad l (p0)) hC (va_cwS 1 hC.2.2.2.2 (lw_S q179 q180 q17 q181) rfl rfl rfl ok_yX1_bad ⟨Nat.le_of_ble_eq_true rfl, Nat.le_of_ble_eq_true rfl⟩) rfl rfl hl.1 (Nat.le_of_ble_eq_true rfl) dX1_move_13 ⟨Nat.zero_le _, Nat.zero_le _⟩ ?_
      refine lv_if_ne (tgt := 36) hx hb dX1_move_16 (by decide) (fun c16 => ?_) (fun c16 => ?_)
      · skip
        refine lv_iconst (v := (-1)) hx hb dX1_move_36 (by decide) ?_
        exact ot_iret (u := (mt, ls_, lv_, so, va, im)) hC hK hr hlk hI (ot_mPe (by rw [ot_mmov, if_pos (Or.inr ((Decidable.not_not.mp (fun z => c16 (ot_bd0.mpr z))).elim (fun z => Or.inl (Int32.lt_trans z (by decide))) Or.inr))])) dX1_move_37
      · skip
        have hnb := ot_bd0.mp c16
        have hc : ¬ (mt = 0 ∨ p0 < 1 ∨ 84 < p0) := fun z => z.elim c4 (fun z => z.elim c9 (fun z => hnb (Or.inr z)))
        obtain ⟨f, hf, rfl⟩ := ot_ix (x := p0) (fun z => hnb (Or.inl z)) (fun z => hnb (Or.inr z))
        have ef : ot_k (nI f) = f := ot_kI (by omega)
        refine lv_aload_n hx hb dX1_move_19 rfl (lv_at hl 0 rfl) ?_
        refine ot_mg3 hC hK hI.1 dX1_move_20 ?_
        refine lv_iload_n hx hb dX1_move_23 rfl (lv_at hl 1 rfl) ?_
        refine ot_ml3 hC hK hI.1 (j := f) rfl (by omega) dX1_move_24 ?_
        refine lv_if_eq (tgt := 36) hx hb dX1_move_25 (by decide) (fun c25 => ?_) (fun c25 => ?_)
        · skip
          refine lv_iconst (v := (-1)) hx hb dX1_move_36 (by decide) ?_
          exact ot_iret (u := (mt, ls_, lv_, so, va, im)) hC hK hr hlk hI (ot_mPe (by rw [ot_mmov, if_neg hc, ef, if_pos (Or.inl c25)])) dX1_move_37
        · skip
          refine lv_aload_n hx hb dX1_move_28 rfl (lv_at hl 0 rfl) ?_
          refine lv_iload_n hx hb dX1_move_29 rfl (lv_at hl 2 rfl) ?_
          refine ot_mcr [.int (p1)] [] (mm_canMake l G d a mt ls_ lv_ so va im (p1)) hC hK hI.1 (cwV 1 hC.2.2.2.2 (lw_V q209 q211 qs13 q17 q212) rfl rfl rfl ok_yX1_canMake ⟨Nat.le_of_ble_eq_true rfl, Nat.le_of_ble_eq_true rfl⟩) rfl rfl hl.1 (Nat.le_of_ble_eq_true rfl) dX1_move_30 ⟨Nat.zero_le _, Nat.zero_le _⟩ ?_
          refine lv_if_ne (tgt := 38) hx hb dX1_move_33 (by decide) (fun c33 => ?_) (fun c33 => ?_)
          · skip
            have hcn : ot_can mt so p1 := Decidable.not_not.mp (fun z => c33 (ot_bd0.mpr z))
            obtain ⟨t, ht, rfl⟩ := ot_can_k hcn
            have et : ot_k (nI t) = t := ot_kI (by omega)
            have hc2 : ¬ (so f = 0 ∨ ¬ ot_can mt so (nI t)) := fun z => z.elim c25 (fun z => z hcn)
            refine lv_aload_n hx hb dX1_move_38 rfl (lv_at hl 0 rfl) ?_
            refine lv_iload_n hx hb dX1_move_39 rfl (lv_at hl 1 rfl) ?_
            refine lv_iload_n hx hb dX1_move_40 rfl (lv_at hl 2 rfl) ?_
            refine ot_mcv [.int (nI (f)), .int (nI (t))] [] (mm_follow l G d a mt ls_ lv_ so va im (f) (t) (by omega) (by omega)) hC hK hI hA (cwV 2 hC.2.2.2.2 (lw_V q229 q231 qs14 q17 q232) rfl rfl rfl ok_yX1_follow ⟨Nat.le_of_ble_eq_true rfl, Nat.le_of_ble_eq_true rfl⟩) rfl rfl hl.1 (Nat.le_of_ble_eq_true rfl) dX1_move_41 ⟨Nat.zero_le _, Nat.zero_le _⟩ (fun u2 H locs hp2 hI => ?_)
            subst hp2
            generalize hg : ot_fol f t 85 0 im = gm at hI
            refine lv_aload_n hx hb dX1_move_44 rfl (lv_at hl 0 rfl) ?_
            refine ot_mg5 hC hK hI.1 dX1_move_45 ?_
            refine lv_iload_n hx hb dX1_move_48 rfl (lv_at hl 2 rfl) ?_
            refine ot_ml5 hC hK hI.1 (j := t) rfl (by omega) dX1_move_49 ?_
            refine lv_if_lt (tgt := 55) hx hb dX1_move_50 (by decide) (fun c50 => ?_) (fun c50 => ?_)
            · skip
              have lp2 : ∀ (j q n : Nat) (so1 va1 : Nat → Int32) (hq : q + j = 85) (hfar : ot_far so gm 84 1 = false) (hR : ot_mv gm j q n so1 va1 = ot_mv gm 84 1 0 so va), ∀ (H : Heap) (locs : List Loc), ot_I G (ot_F (ot_ma a) s.heap.size) s H locs (ot_mW d a (mt, ls_, lv_, so1, va1, gm)) → ∀ (ls : Array Slot), lv_has ls 5 [(0, .ref (a 0)), (3, .int (nI (n))), (4, .int (nI (q)))] → W p l e rmX1_move s m ([.ref (a 0), .int (nI f), .int (nI t)] : List Value).toArray below meth c H locs 0 0 (ot_Zi G d (ot_ma a) (ot_mW d a) (ot_mP (ot_mmov mt ls_ lv_ so va im (nI f) (nI t))) below ([.ref (a 0), .int (nI f), .int (nI t)] : List Value).toArray s) (F0 m 96 ls []) := by
                intro j
                induction j with
                | zero =>
                  intro q n so1 va1 hq hfar hR H locs hI ls hl
                  refine lv_iload hx hb dX1_move_96 (lv_at hl 2 rfl) ?_
                  refine lv_bipush (v := 85) hx hb dX1_move_98 (by decide) ?_
                  refine ot_icmp_ge hx hb (a := q) (b := 85) rfl rfl (by omega) (by omega) (tgt := 190) dX1_move_100 (by decide) (fun _ => ?_) (fun c_ => absurd (by omega) c_)
                  refine lv_iload_n hx hb dX1_move_190 rfl (lv_at hl 1 rfl) ?_
                  exact ot_iret (u := (mt, ls_, lv_, so1, va1, gm)) hC hK hr hlk hI (ot_mPe (by rw [ot_mmov, if_neg hc, ef, if_neg hc2, et, hg, if_neg (fun z => z.elim (Int32.not_le.mpr c50) (fun z => by rw [hfar] at z; cases z)), ← hR]; rfl)) dX1_move_191
                | succ j ih =>
                  intro q n so1 va1 hq hfar hR H locs hI ls hl
                  refine lv_iload hx hb dX1_move_96 (lv_at hl 2 rfl) ?_
                  refine lv_bipush (v := 85) hx hb dX1_move_98 (by decide) ?_
                  refine ot_icmp_ge hx hb (a := q) (b := 85) rfl rfl (by omega) (by omega) (tgt := 190) dX1_move_100 (by decide) (fun c_ => absurd c_ (by omega)) (fun _ => ?_)
                  refine lv_aload_n hx hb dX1_move_103 rfl (lv_at hl 0 rfl) ?_
                  refine ot_mg5 hC hK hI.1 dX1_move_104 ?_
                  refine lv_iload hx hb dX1_move_107 (lv_at hl 2 rfl) ?_
                  refine ot_ml5 hC hK hI.1 (j := q) rfl (by omega) dX1_move_109 ?_
                  refine lv_if_lt (tgt := 184) hx hb dX1_move_110 (by decide) (fun c110 => ?_) (fun c110 => ?_)
                  · skip
                    refine lv_iinc (v := nI (q + 1)) (lv' := [(4, .int (nI (q + 1))), (0, .ref (a 0)), (3, .int (nI (n)))]) hx hb dX1_move_184 hl (k := 2) rfl (ot_inc _) (by decide) rfl (fun ls hl => ?_)
                    refine lv_goto (tgt := 96) hx hb dX1_move_187 (by decide) ?_
                    exact ih (q + 1) n _ _ (by omega) hfar (by rw [← hR, ot_mv, if_pos (Or.inl c110)]) _ _ hI _ (lv_sub hl [1, 2, 0] rfl)
                  · skip
                    refine lv_aload_n hx hb dX1_move_113 rfl (lv_at hl 0 rfl) ?_
                    refine ot_mg5 hC hK hI.1 dX1_move_114 ?_
                    refine lv_iload hx hb dX1_move_117 (lv_at hl 2 rfl) ?_
                    refine ot_ml5 hC hK hI.1 (j := q) rfl (by omega) dX1_move_119 ?_
                    refine lv_bipush (v := 85) hx hb dX1_move_120 (by decide) ?_
                    refine lv_icmp_ge (tgt := 184) hx hb dX1_move_122 (by decide) (fun c122 => ?_) (fun c122 => ?_)
                    · skip
                      refine lv_iinc (v := nI (q + 1)) (lv' := [(4, .int (nI (q + 1))), (0, .ref (a 0)), (3, .int (nI (n)))]) hx hb dX1_move_184 hl (k := 2) rfl (ot_inc _) (by decide) rfl (fun ls hl => ?_)
                      refine lv_goto (tgt := 96) hx hb dX1_move_187 (by decide) ?_
                      exact ih (q + 1) n _ _ (by omega) hfar (by rw [← hR, ot_mv, if_pos (Or.inr (Or.inl c122))]) _ _ hI _ (lv_sub hl [1, 2, 0] rfl)
                    · skip
                      have ek := ot_ix85 c110 c122
                      refine lv_aload_n hx hb dX1_move_125 rfl (lv_at hl 0 rfl) ?_
                      refine ot_mg3 hC hK hI.1 dX1_move_126 ?_
                      refine lv_iload hx hb dX1_move_129 (lv_at hl 2 rfl) ?_
                      refine ot_ml3 hC hK hI.1 (j := q) rfl (by omega) dX1_move_131 ?_
                      refine lv_if_eq (tgt := 184) hx hb dX1_move_132 (by decide) (fun c132 => ?_) (fun c132 => ?_)
                      · skip
                        refine lv_iinc (v := nI (q + 1)) (lv' := [(4, .int (nI (q + 1))), (0, .ref (a 0)), (3, .int (nI (n)))]) hx hb dX1_move_184 hl (k := 2) rfl (ot_inc _) (by decide) rfl (fun ls hl => ?_)
                        refine lv_goto (tgt := 96) hx hb dX1_move_187 (by decide) ?_
                        exact ih (q + 1) n _ _ (by omega) hfar (by rw [← hR, ot_mv, if_pos (Or.inr (Or.inr c132))]) _ _ hI _ (lv_sub hl [1, 2, 0] rfl)
                      · skip
                        refine lv_aload_n hx hb dX1_move_135 rfl (lv_at hl 0 rfl) ?_
                        refine ot_mg3 hC hK hI.1 dX1_move_136 ?_
                        refine lv_aload_n hx hb dX1_move_139 rfl (lv_at hl 0 rfl) ?_
                        refine ot_mg5 hC hK hI.1 dX1_move_140 ?_
                        refine lv_iload hx hb dX1_move_143 (lv_at hl 2 rfl) ?_
                        refine ot_ml5 hC hK hI.1 (j := q) rfl (by omega) dX1_move_145 ?_
                        refine lv_aload_n hx hb dX1_move_146 rfl (lv_at hl 0 rfl) ?_
                        refine ot_mg3 hC hK hI.1 dX1_move_147 ?_
                        refine lv_iload hx hb dX1_move_150 (lv_at hl 2 rfl) ?_
                        refine ot_ml3 hC hK hI.1 (j := q) rfl (by omega) dX1_move_152 ?_
                        refine ot_ms3 hC hK hI (j := ot_k (gm (q))) ek.2 (ek.1) dX1_move_153 (fun H locs hI => ?_)
                        refine lv_aload_n hx hb dX1_move_154 rfl (lv_at hl 0 rfl) ?_
                        refine ot_mg4 hC hK hI.1 dX1_move_155 ?_
                        refine lv_aload_n hx hb dX1_move_158 rfl (lv_at hl 0 rfl) ?_
                        refine ot_mg5 hC hK hI.1 dX1_move_159 ?_
                        refine lv_iload hx hb dX1_move_162 (lv_at hl 2 rfl) ?_
                        refine ot_ml5 hC hK hI.1 (j := q) rfl (by omega) dX1_move_164 ?_
                        refine lv_aload_n hx hb dX1_move_165 rfl (lv_at hl 0 rfl) ?_
                        refine ot_mg4 hC hK hI.1 dX1_move_166 ?_
                        refine lv_iload hx hb dX1_move_169 (lv_at hl 2 rfl) ?_
                        refine ot_ml4 hC hK hI.1 (j := q) rfl (by omega) dX1_move_171 ?_
                        refine ot_ms4 hC hK hI (j := ot_k (gm (q))) ek.2 (ek.1) dX1_move_172 (fun H locs hI => ?_)
                        refine lv_aload_n hx hb dX1_move_173 rfl (lv_at hl 0 rfl) ?_
                        refine ot_mg3 hC hK hI.1 dX1_move_174 ?_
                        refine lv_iload hx hb dX1_move_177 (lv_at hl 2 rfl) ?_
                        refine lv_iconst (v := 0) hx hb dX1_move_179 (by decide) ?_
                        refine ot_ms3 hC hK hI (j := q) rfl (by omega) dX1_move_180 (fun H locs hI => ?_)
                        refine lv_iinc (v := nI (n + 1)) (lv' := [(3, .int (nI (n + 1))), (0, .ref (a 0)), (4, .int (nI (q)))]) hx hb dX1_move_181 hl (k := 1) rfl (ot_inc _) (by decide) rfl (fun ls hl => ?_)
                        refine lv_iinc (v := nI (q + 1)) (lv' := [(4, .int (nI (q + 1))), (3, .int (nI (n + 1))), (0, .ref (a 0))]) hx hb dX1_move_184 hl (k := 2) rfl (ot_inc _) (by decide) rfl (fun ls hl => ?_)
                        refine lv_goto (tgt := 96) hx hb dX1_move_187 (by decide) ?_
                        exact ih (q + 1) (n + 1) _ _ (by omega) hfar (by rw [← hR, ot_mv, if_neg (not_or.mpr ⟨c110, not_or.mpr ⟨c122, c132⟩⟩)]) _ _ hI _ (lv_sub hl [2, 1, 0] rfl)
              have lp1 : ∀ (j q : Nat) (hq : q + j = 85) (hR : ot_far so gm j q = ot_far so gm 84 1), ∀ (H : Heap) (locs : List Loc), ot_I G (ot_F (ot_ma a) s.heap.size) s H locs (ot_mW d a (mt, ls_, lv_, so, va, gm)) → ∀ (ls : Array Slot), lv_has ls 5 [(0, .ref (a 0)), (3, .int (nI (q)))] → W p l e rmX1_move s m ([.ref (a 0), .int (nI f), .int (nI t)] : List Value).toArray below meth c H locs 0 0 (ot_Zi G d (ot_ma a) (ot_mW d a) (ot_mP (ot_mmov mt ls_ lv_ so va im (nI f) (nI t))) below ([.ref (a 0), .int (nI f), .int (nI t)] : List Value).toArray s) (F0 m 57 ls []) := by
                intro j
                induction j with
                | zero =>
                  intro q hq hR H locs hI ls hl
                  refine lv_iload_n hx hb dX1_move_57 rfl (lv_at hl 1 rfl) ?_
                  refine lv_bipush (v := 85) hx hb dX1_move_58 (by decide) ?_
                  refine ot_icmp_ge hx hb (a := q) (b := 85) rfl rfl (by omega) (by omega) (tgt := 91) dX1_move_60 (by decide) (fun _ => ?_) (fun c_ => absurd (by omega) c_)
                  refine lv_iconst (v := 0) hx hb dX1_move_91 (by decide) ?_
                  refine lv_istore_n (lv' := [(3, .int (0)), (0, .ref (a 0))]) hx hb dX1_move_92 rfl hl (by decide) rfl (fun ls hl => ?_)
                  refine lv_iconst (v := 1) hx hb dX1_move_93 (by decide) ?_
                  refine lv_istore (lv' := [(4, .int (1)), (3, .int (0)), (0, .ref (a 0))]) hx hb dX1_move_94 hl (by decide) rfl (fun ls hl => ?_)
                  exact lp2 84 1 0 so va (by omega) (by rw [← hR]; rfl) rfl _ _ hI _ (lv_sub hl [2, 1, 0] rfl)
                | succ j ih =>
                  intro q hq hR H locs hI ls hl
                  refine lv_iload_n hx hb dX1_move_57 rfl (lv_at hl 1 rfl) ?_
                  refine lv_bipush (v := 85) hx hb dX1_move_58 (by decide) ?_
                  refine ot_icmp_ge hx hb (a := q) (b := 85) rfl rfl (by omega) (by omega) (tgt := 91) dX1_move_60 (by decide) (fun c_ => absurd c_ (by omega)) (fun _ => ?_)
                  refine lv_aload_n hx hb dX1_move_63 rfl (lv_at hl 0 rfl) ?_
                  refine ot_mg5 hC hK hI.1 dX1_move_64 ?_
                  refine lv_iload_n hx hb dX1_move_67 rfl (lv_at hl 1 rfl) ?_
                  refine ot_ml5 hC hK hI.1 (j := q) rfl (by omega) dX1_move_68 ?_
                  refine lv_bipush (v := 85) hx hb dX1_move_69 (by decide) ?_
                  refine lv_icmp_ne (tgt := 85) hx hb dX1_move_71 (by decide) (fun c71 => ?_) (fun c71 => ?_)
                  · skip
                    refine lv_iinc (v := nI (q + 1)) (lv' := [(3, .int (nI (q + 1))), (0, .ref (a 0))]) hx hb dX1_move_85 hl (k := 1) rfl (ot_inc _) (by decide) rfl (fun ls hl => ?_)
                    refine lv_goto (tgt := 57) hx hb dX1_move_88 (by decide) ?_
                    exact ih (q + 1) (by omega) (by rw [← hR, ot_far, if_neg c71]) _ _ hI _ (lv_sub hl [1, 0] rfl)
                  · skip
                    refine lv_aload_n hx hb dX1_move_74 rfl (lv_at hl 0 rfl) ?_
                    refine ot_mg3 hC hK hI.1 dX1_move_75 ?_
                    refine lv_iload_n hx hb dX1_move_78 rfl (lv_at hl 1 rfl) ?_
                    refine ot_ml3 hC hK hI.1 (j := q) rfl (by omega) dX1_move_79 ?_
                    refine lv_if_eq (tgt := 85) hx hb dX1_move_80 (by decide) (fun c80 => ?_) (fun c80 => ?_)
                    · skip
                      refine lv_iinc (v := nI (q + 1)) (lv' := [(3, .int (nI (q + 1))), (0, .ref (a 0))]) hx hb dX1_move_85 hl (k := 1) rfl (ot_inc _) (by decide) rfl (fun ls hl => ?_)
                      refine lv_goto (tgt := 57) hx hb dX1_move_88 (by decide) ?_
                      exact ih (q + 1) (by omega) (by rw [← hR, ot_far, if_pos c71, if_pos c80]) _ _ hI _ (lv_sub hl [1, 0] rfl)
                    · skip
                      refine lv_iconst (v := (-1)) hx hb dX1_move_83 (by decide) ?_
                      exact ot_iret (u := (mt, ls_, lv_, so, va, gm)) hC hK hr hlk hI (ot_mPe (by rw [ot_mmov, if_neg hc, ef, if_neg hc2, et, hg, if_pos (Or.inr (by rw [← hR, ot_far, if_pos c71, if_neg c80]))])) dX1_move_84
              refine lv_iconst (v := 1) hx hb dX1_move_55 (by decide) ?_
              refine lv_istore_n (lv' := [(3, .int (1)), (0, .ref (a 0)), (1, .int (nI (f))), (2, .int (nI (t)))]) hx hb dX1_move_56 rfl hl (by decide) rfl (fun ls hl => ?_)
              exact lp1 84 1 (by omega) rfl _ _ hI _ (lv_sub hl [1, 0] rfl)
            · skip
              refine lv_iconst (v := (-1)) hx hb dX1_move_53 (by decide) ?_
              exact ot_iret (u := (mt, ls_, lv_, so, va, gm)) hC hK hr hlk hI (ot_mPe (by rw [ot_mmov, if_neg hc, ef, if_neg hc2, et, hg, if_pos (Or.inl (Int32.not_lt.mp c50))])) dX1_move_54
          · skip
            refine lv_iconst (v := (-1)) hx hb dX1_move_36 (by decide) ?_
            exact ot_iret (u := (mt, ls_, lv_, so, va, im)) hC hK hr hlk hI (ot_mPe (by rw [ot_mmov, if_neg hc, ef, if_pos (Or.inr (ot_bd0.mp c33))])) dX1_move_37
end
section
set_option maxRecDepth 100000
set_option maxHeartbeats 4000000 in
set_option maxRecDepth 100000 in
theorem mm_press (l : Launch) (G : va_G) (d : ClassId) (a : Nat → Nat) (mt : Int32) (ls_ lv_ so va im : Nat → Int32)  : ot_Mr l G d yX1_press cX1_press 1 (some .int) rmX1_press (ot_mW d a (mt, ls_, lv_, so, va, im)) ([.ref (a 0)] : List Value) (ot_mprs mt) := by
  refine ot_Mr_of (by decide) (Nat.le_of_ble_eq_true rfl) ?_
  intro p e s m below meth c hC hK hr hlk hP ls hl
  have hC : CallFix p m c cX1_press 1 s ([.ref (a 0)] : List Value).toArray lw_all RX1 := hC
  have hx := hC.1
  have hb := hC.2.1
  have hl : lv_has ls 1 [(0, .ref (a 0))] := hl
  refine lv_aload_n hx hb dX1_press_0 rfl (lv_at hl 0 rfl) ?_
  refine ot_mg2 hC hK hP dX1_press_1 ?_
  refine lv_if_eq (tgt := 11) hx hb dX1_press_4 (by decide) (fun c4 => ?_) (fun c4 => ?_)
  · skip
    refine lv_iconst (v := (-1)) hx hb dX1_press_11 (by decide) ?_
    exact ot_iretR hC hr hlk (by rw [ot_mprs, if_pos c4]) dX1_press_12
  · skip
    refine lv_iconst (v := 0) hx hb dX1_press_7 (by decide) ?_
    refine lv_goto (tgt := 12) hx hb dX1_press_8 (by decide) ?_
    exact ot_iretR hC hr hlk (by rw [ot_mprs, if_neg c4]) dX1_press_12
set_option maxHeartbeats 4000000 in
set_option maxRecDepth 100000 in
theorem mm_sort (l : Launch) (G : va_G) (d : ClassId) (a : Nat → Nat) (mt : Int32) (ls_ lv_ so va im : Nat → Int32) (p0 : Int32) : ot_Mr l G d yX1_sort cX1_sort 2 (some .int) rmX1_sort (ot_mW d a (mt, ls_, lv_, so, va, im)) ([.ref (a 0), .int (p0)] : List Value) (ot_msort so p0) := by
  refine ot_Mr_of (by decide) (Nat.le_of_ble_eq_true rfl) ?_
  intro p e s m below meth c hC hK hr hlk hP ls hl
  have hC : CallFix p m c cX1_sort 2 s ([.ref (a 0), .int (p0)] : List Value).toArray lw_all RX1 := hC
  have hx := hC.1
  have hb := hC.2.1
  have hl : lv_has ls 2 [(0, .ref (a 0)), (1, .int (p0))] := hl
  refine lv_iload_n hx hb dX1_sort_0 rfl (lv_at hl 1 rfl) ?_
  refine ot_calls (As := [.int (p0)]) (rest := []) (mm_bad l (p0)) hC (va_cwS 1 hC.2.2.2.2 (lw_S q179 q180 q17 q181) rfl rfl rfl ok_yX1_bad ⟨Nat.le_of_ble_eq_true rfl, Nat.le_of_ble_eq_true rfl⟩) rfl rfl hl.1 (Nat.le_of_ble_eq_true rfl) dX1_sort_1 ⟨Nat.zero_le _, Nat.zero_le _⟩ ?_
  refine lv_if_eq (tgt := 11) hx hb dX1_sort_4 (by decide) (fun c4 => ?_) (fun c4 => ?_)
  · skip
    have hnb := ot_bd0.mp c4
    obtain ⟨k, hk, rfl⟩ := ot_ix (x := p0) (fun z => hnb (Or.inl z)) (fun z => hnb (Or.inr z))
    have ek : ot_k (nI k) = k := ot_kI (by omega)
    refine lv_aload_n hx hb dX1_sort_11 rfl (lv_at hl 0 rfl) ?_
    refine ot_mg3 hC hK hP dX1_sort_12 ?_
    refine lv_iload_n hx hb dX1_sort_15 rfl (lv_at hl 1 rfl) ?_
    refine ot_ml3 hC hK hP (j := k) rfl (by omega) dX1_sort_16 ?_
    exact ot_iretR hC hr hlk (by rw [ot_msort, if_neg hnb, ek]) dX1_sort_17
  · skip
    refine lv_iconst (v := (-1)) hx hb dX1_sort_7 (by decide) ?_
    refine lv_goto (tgt := 17) hx hb dX1_sort_8 (by decide) ?_
    exact ot_iretR hC hr hlk (by rw [ot_msort, if_pos (Decidable.not_not.mp (fun z => c4 (ot_bd0.mpr z)))]) dX1_sort_17
set_option maxHeartbeats 4000000 in
set_option maxRecDepth 100000 in
theorem mm_value (l : Launch) (G : va_G) (d : ClassId) (a : Nat → Nat) (mt : Int32) (ls_ lv_ so va im : Nat → Int32) (p0 : Int32) : ot_Mr l G d yX1_value cX1_value 2 (some .int) rmX1_value (ot_mW d a (mt, ls_, lv_, so, va, im)) ([.ref (a 0), .int (p0)] : List Value) (ot_mval so va p0) := by
  refine ot_Mr_of (by decide) (Nat.le_of_ble_eq_true rfl) ?_
  intro p e s m below meth c hC hK hr hlk hP ls hl
  have hC : CallFix p m c cX1_value 2 s ([.ref (a 0), .int (p0)] : List Value).toArray lw_all RX1 := hC
  have hx := hC.1
  have hb := hC.2.1
  have hl : lv_has ls 2 [(0, .ref (a 0)), (1, .int (p0))] := hl
  refine lv_iload_n hx hb dX1_value_0 rfl (lv_at hl 1 rfl) ?_
  refine ot_calls (As := [.int (p0)]) (rest := []) (mm_bad l (p0)) hC (va_cwS 1 hC.2.2.2.2 (lw_S q179 q180 q17 q181) rfl rfl rfl ok_yX1_bad ⟨Nat.le_of_ble_eq_true rfl, Nat.le_of_ble_eq_true rfl⟩) rfl rfl hl.1 (Nat.le_of_ble_eq_true rfl) dX1_value_1 ⟨Nat.zero_le _, Nat.zero_le _⟩ ?_
  refine lv_if_ne (tgt := 17) hx hb dX1_value_4 (by decide) (fun c4 => ?_) (fun c4 => ?_)
  · skip
    refine lv_iconst (v := 0) hx hb dX1_value_17 (by decide) ?_
    refine lv_goto (tgt := 27) hx hb dX1_value_18 (by decide) ?_
    exact ot_iretR hC hr hlk (by rw [ot_mval, if_pos (Decidable.not_not.mp (fun z => c4 (ot_bd0.mpr z)))]) dX1_value_27
  · skip
    have hnb := ot_bd0.mp c4
    obtain ⟨k, hk, rfl⟩ := ot_ix (x := p0) (fun z => hnb (Or.inl z)) (fun z => hnb (Or.inr z))
    have ek : ot_k (nI k) = k := ot_kI (by omega)
    refine lv_aload_n hx hb dX1_value_7 rfl (lv_at hl 0 rfl) ?_
    refine ot_mg3 hC hK hP dX1_value_8 ?_
    refine lv_iload_n hx hb dX1_value_11 rfl (lv_at hl 1 rfl) ?_
    refine ot_ml3 hC hK hP (j := k) rfl (by omega) dX1_value_12 ?_
    refine lv_iconst (v := 1) hx hb dX1_value_13 (by decide) ?_
    refine lv_icmp_eq (tgt := 21) hx hb dX1_value_14 (by decide) (fun c14 => ?_) (fun c14 => ?_)
    · skip
      refine lv_aload_n hx hb dX1_value_21 rfl (lv_at hl 0 rfl) ?_
      refine ot_mg4 hC hK hP dX1_value_22 ?_
      refine lv_iload_n hx hb dX1_value_25 rfl (lv_at hl 1 rfl) ?_
      refine ot_ml4 hC hK hP (j := k) rfl (by omega) dX1_value_26 ?_
      exact ot_iretR hC hr hlk (by rw [ot_mval, if_neg hnb, ek, if_pos c14]) dX1_value_27
    · skip
      refine lv_iconst (v := 0) hx hb dX1_value_17 (by decide) ?_
      refine lv_goto (tgt := 27) hx hb dX1_value_18 (by decide) ?_
      exact ot_iretR hC hr hlk (by rw [ot_mval, if_neg hnb, ek, if_neg c14]) dX1_value_27
set_option maxHeartbeats 4000000 in
set_option maxRecDepth 100000 in
theorem mm_entries (l : Launch) (G : va_G) (d : ClassId) (a : Nat → Nat) (mt : Int32) (ls_ lv_ so va im : Nat → Int32) (p0 : Int32) : ot_Mr l G d yX1_entries cX1_entries 4 (some .int) rmX1_entries (ot_mW d a (mt, ls_, lv_, so, va, im)) ([.ref (a 0), .int (p0)] : List Value) (ot_ment so p0) := by
  refine ot_Mr_of (by decide) (Nat.le_of_ble_eq_true rfl) ?_
  intro p e s m below meth c hC hK hr hlk hP ls hl
  have hC : CallFix p m c cX1_entries 4 s ([.ref (a 0), .int (p0)] : List Value).toArray lw_all RX1 := hC
  have hx := hC.1
  have hb := hC.2.1
  have hl : lv_has ls 4 [(0, .ref (a 0)), (1, .int (p0))] := hl
  refine lv_iload_n hx hb dX1_entries_0 rfl (lv_at hl 1 rfl) ?_
  refine ot_calls (As := [.int (p0)]) (rest := []) (mm_bad l (p0)) hC (va_cwS 1 hC.2.2.2.2 (lw_S q179 q180 q17 q181) rfl rfl rfl ok_yX1_bad ⟨Nat.le_of_ble_eq_true rfl, Nat.le_of_ble_eq_true rfl⟩) rfl rfl hl.1 (Nat.le_of_ble_eq_true rfl) dX1_entries_1 ⟨Nat.zero_le _, Nat.zero_le _⟩ ?_
  refine lv_if_ne (tgt := 17) hx hb dX1_entries_4 (by decide) (fun c4 => ?_) (fun c4 => ?_)
  · skip
    refine lv_iconst (v := (-1)) hx hb dX1_entries_17 (by decide) ?_
    exact ot_iretR hC hr hlk (by rw [ot_ment, if_pos (Decidable.not_not.mp (fun z => c4 (ot_bd0.mpr z)))]) dX1_entries_18
  · skip
    have hnb := ot_bd0.mp c4
    obtain ⟨k, hk, rfl⟩ := ot_ix (x := p0) (fun z => hnb (Or.inl z)) (fun z => hnb (Or.inr z))
    have ek : ot_k (nI k) = k := ot_kI (by omega)
    refine lv_aload_n hx hb dX1_entries_7 rfl (lv_at hl 0 rfl) ?_
    refine ot_mg3 hC hK hP dX1_entries_8 ?_
    refine lv_iload_n hx hb dX1_entries_11 rfl (lv_at hl 1 rfl) ?_
    refine ot_ml3 hC hK hP (j := k) rfl (by omega) dX1_entries_12 ?_
    refine lv_iconst (v := 2) hx hb dX1_entries_13 (by decide) ?_
    refine lv_icmp_eq (tgt := 19) hx hb dX1_entries_14 (by decide) (fun c14 => ?_) (fun c14 => ?_)
    · skip
      have lp : ∀ (j q n : Nat) (hq : q + j = 85) (hR : ot_cntK so k j q n = ot_cntK so k 84 1 0), ∀ (ls : Array Slot), lv_has ls 4 [(0, .ref (a 0)), (1, .int (nI (k))), (2, .int (nI (n))), (3, .int (nI (q)))] → W p l e rmX1_entries s m ([.ref (a 0), .int (nI k)] : List Value).toArray below meth c s.heap [] 0 0 (ot_Zr (ot_ment so (nI k)) below ([.ref (a 0), .int (nI k)] : List Value).toArray s) (F0 m 23 ls []) := by
        intro j
        induction j with
        | zero =>
          intro q n hq hR ls hl
          refine lv_iload_n hx hb dX1_entries_23 rfl (lv_at hl 3 rfl) ?_
          refine lv_bipush (v := 85) hx hb dX1_entries_24 (by decide) ?_
          refine ot_icmp_ge hx hb (a := q) (b := 85) rfl rfl (by omega) (by omega) (tgt := 55) dX1_entries_26 (by decide) (fun _ => ?_) (fun c_ => absurd (by omega) c_)
          refine lv_iload_n hx hb dX1_entries_55 rfl (lv_at hl 2 rfl) ?_
          exact ot_iretR hC hr hlk (by rw [ot_ment, if_neg hnb, ek, if_pos c14, ← hR]; rfl) dX1_entries_56
        | succ j ih =>
          intro q n hq hR ls hl
          have hpq := ot_par84 (q := q) (by omega)
          refine lv_iload_n hx hb dX1_entries_23 rfl (lv_at hl 3 rfl) ?_
          refine lv_bipush (v := 85) hx hb dX1_entries_24 (by decide) ?_
          refine ot_icmp_ge hx hb (a := q) (b := 85) rfl rfl (by omega) (by omega) (tgt := 55) dX1_entries_26 (by decide) (fun c_ => absurd c_ (by omega)) (fun _ => ?_)
          refine lv_aload_n hx hb dX1_entries_29 rfl (lv_at hl 0 rfl) ?_
          refine ot_mg3 hC hK hP dX1_entries_30 ?_
          refine lv_iload_n hx hb dX1_entries_33 rfl (lv_at hl 3 rfl) ?_
          refine ot_ml3 hC hK hP (j := q) rfl (by omega) dX1_entries_34 ?_
          refine lv_if_eq (tgt := 49) hx hb dX1_entries_35 (by decide) (fun c35 => ?_) (fun c35 => ?_)
          · skip
            refine lv_iinc (v := nI (q + 1)) (lv' := [(3, .int (nI (q + 1))), (0, .ref (a 0)), (1, .int (nI (k))), (2, .int (nI (n)))]) hx hb dX1_entries_49 hl (k := 3) rfl (ot_inc _) (by decide) rfl (fun ls hl => ?_)
            refine lv_goto (tgt := 23) hx hb dX1_entries_52 (by decide) ?_
            exact ih (q + 1) n (by omega) (by rw [← hR, ot_cntK, if_pos c35]) _ (lv_sub hl [1, 2, 3, 0] rfl)
          · skip
            refine lv_iload_n hx hb dX1_entries_38 rfl (lv_at hl 3 rfl) ?_
            refine ot_calls (As := [.int (nI (q))]) (rest := []) (mm_parent l (q) (by omega)) hC (va_cwS 1 hC.2.2.2.2 (lw_S q182 q183 q17 q184) rfl rfl rfl ok_yX1_parent ⟨Nat.le_of_ble_eq_true rfl, Nat.le_of_ble_eq_true rfl⟩) rfl rfl hl.1 (Nat.le_of_ble_eq_true rfl) dX1_entries_39 ⟨Nat.zero_le _, Nat.zero_le _⟩ ?_
            refine lv_iload_n hx hb dX1_entries_42 rfl (lv_at hl 1 rfl) ?_
            refine ot_icmp_ne hx hb (a := ot_par (q)) (b := k) rfl rfl (by omega) (by omega) (tgt := 49) dX1_entries_43 (by decide) (fun c43 => ?_) (fun c43 => ?_)
            · skip
              refine lv_iinc (v := nI (q + 1)) (lv' := [(3, .int (nI (q + 1))), (0, .ref (a 0)), (1, .int (nI (k))), (2, .int (nI (n)))]) hx hb dX1_entries_49 hl (k := 3) rfl (ot_inc _) (by decide) rfl (fun ls hl => ?_)
              refine lv_goto (tgt := 23) hx hb dX1_entries_52 (by decide) ?_
              exact ih (q + 1) n (by omega) (by rw [← hR, ot_cntK, if_neg c35, if_neg c43]) _ (lv_sub hl [1, 2, 3, 0] rfl)
            · skip
              refine lv_iinc (v := nI (n + 1)) (lv' := [(2, .int (nI (n + 1))), (0, .ref (a 0)), (1, .int (nI (k))), (3, .int (nI (q)))]) hx hb dX1_entries_46 hl (k := 2) rfl (ot_inc _) (by decide) rfl (fun ls hl => ?_)
              refine lv_iinc (v := nI (q + 1)) (lv' := [(3, .int (nI (q + 1))), (2, .int (nI (n + 1))), (0, .ref (a 0)), (1, .int (nI (k)))]) hx hb dX1_entries_49 hl (k := 3) rfl (ot_inc _) (by decide) rfl (fun ls hl => ?_)
              refine lv_goto (tgt := 23) hx hb dX1_entries_52 (by decide) ?_
              exact ih (q + 1) (n + 1) (by omega) (by rw [← hR, ot_cntK, if_neg c35, if_pos c43]) _ (lv_sub hl [2, 3, 1, 0] rfl)
      refine lv_iconst (v := 0) hx hb dX1_entries_19 (by decide) ?_
      refine lv_istore_n (lv' := [(2, .int (0)), (0, .ref (a 0)), (1, .int (nI (k)))]) hx hb dX1_entries_20 rfl hl (by decide) rfl (fun ls hl => ?_)
      refine lv_iconst (v := 1) hx hb dX1_entries_21 (by decide) ?_
      refine lv_istore_n (lv' := [(3, .int (1)), (2, .int (0)), (0, .ref (a 0)), (1, .int (nI (k)))]) hx hb dX1_entries_22 rfl hl (by decide) rfl (fun ls hl => ?_)
      exact lp 84 1 0 (by omega) rfl _ (lv_sub hl [2, 3, 1, 0] rfl)
    · skip
      refine lv_iconst (v := (-1)) hx hb dX1_entries_17 (by decide) ?_
      exact ot_iretR hC hr hlk (by rw [ot_ment, if_neg hnb, ek, if_neg c14]) dX1_entries_18
end
section
set_option maxRecDepth 100000
abbrev ot_xb : List Value := [.int 0, .null, .null, .int 0, .int 0, .null, .null, .null]
def ot_h0 : Nat → Int32 := upd (upd (upd (upd (upd (fun _ => 0) 0 2) 85 2) 170 2) 255 2) 340 2
def ot_x0 : ot_xS := (0, 0, 0, ot_h0, fun _ => 0, fun _ => 0, fun _ => 0, fun _ => 0)
def ot_xB0 (G : va_G) (A : Nat → Prop) (u : ClassId × (Nat → Nat)) (t : State) : Prop := va_P G vwCl (ot_xW u.1 u.2 ot_x0) t.heap ∧ va_K G vwCl [(u.1, .int)] t ∧ va_D A (ot_xW u.1 u.2 ot_x0)
abbrev rmX0_init : Room := { frames := 1, cells := 5, slots := 1024, locals := 12 }
set_option maxHeartbeats 4000000 in
theorem xm_init (l : Launch) (G : va_G) (h0 sz : Nat) : Met l yX0_init (ws_ yX0_init cX0_init 2 none) rmX0_init (va_Pc [.ref h0] (fun U => U.heap.size = sz ∧ va_P G vwCl [(h0, .inr (0, ot_xb))] U.heap ∧ va_K G vwCl [] U ∧ va_D (fun _ => True) [(h0, .inr (0, ot_xb))])) (va_Qv (fun u : ClassId × (Nat → Nat) => u.2 0 = h0) (ot_xB0 G (va_A [(h0, .inr (0, ot_xb))] sz)) (va_A [(h0, .inr (0, ot_xb))] sz)) 5 1024 (va_A [(h0, .inr (0, ot_xb))] sz) := by
  refine Met.ofW (cc := cX0_init) (maxL := 2) (ret := none) (by decide) rfl ?_
  intro p e s m args below meth c s₁ B hml hv
  obtain ⟨rfl, hsz, hP, hK, hD0⟩ := hv
  have hx := B.exec
  have hb := B.bytes
  have hr := B.returns
  have hts := atoms_spec (ws := ws_ yX0_init cX0_init 2 none) B.pre
  have hts : ∀ w ∈ lw_all, w.before _ s = true := fun w h => hts w (List.mem_cons_of_mem _ h)
  have hown : s.vm.findClass RX0 = some m.cls := findClass_of_methodNamed B.named
  have hlocks := B.notSynchronized
  have hin : meth.name = "<init>" := (name_of_methodNamed B.named B.method).1
  subst hsz
  have hD := hD0.self (sz := s.heap.size)
  generalize hAe : va_A [(h0, .inr (0, ot_xb))] s.heap.size = A at hD ⊢
  have hA : ∀ q : Nat, s.heap.size ≤ q → A q := fun q h => by rw [← hAe]; exact Or.inr h
  have hS : va_S A s.heap s.heap [] := va_S.rf
  have hl := lv_entry ([.ref h0]) (n := 2) (Nat.le_of_ble_eq_true rfl)
  rw [lg_entry_eq]
  generalize (lg_sl ([.ref h0]) ++ List.replicate (2 - (lg_sl ([.ref h0])).length) Slot.unset).toArray = ls at hl ⊢
  have hl : lv_has ls 2 [(0, .ref h0)] := hl
  refine lv_aload_n hx hb dX0_init_0 rfl (lv_at hl 0 rfl) ?_
  refine W.objInit hx hb hown (hts _ q23) (hts _ q24) (hts _ q25) rfl (by rw [hml]; exact hl.1) rfl dX0_init_1 (Nat.le_of_ble_eq_true rfl) (Nat.le_of_ble_eq_true rfl) ?_
  refine W.eq (g2 := F0 m 4 ls []) rfl ?_
  refine lv_aload_n hx hb dX0_init_4 rfl (lv_at hl 0 rfl) ?_
  refine lv_sipush (v := 425) hx hb dX0_init_5 (by decide) ?_
  refine va_newa (atype := .int) (ty := .int) (N' := 425) (a0 := (425, .inl (fun _ => 0))) hx hb (hts _ q51) rfl hK hP hD hS hA (fun _ => rfl) (by decide) (by decide) (by decide) (Nat.le_of_ble_eq_true rfl) (Nat.le_of_ble_eq_true rfl) dX0_init_8 (fun q_1 c_1 H hK hP hD hS => ?_)
  have hP : va_P G vwCl [(h0, .inr (0, [.int 0, .null, .null, .int 0, .int 0, .null, .null, .null])), (q_1, .inl (c_1, 425, .inl (fun _ => 0)))] H := hP
  have hD : va_D A [(h0, .inr (0, [.int 0, .null, .null, .int 0, .int 0, .null, .null, .null])), (q_1, .inl (c_1, 425, .inl (fun _ => 0)))] := hD
  refine va_putF (D := G) (ci := 0) (v := .ref q_1) (ty := .array .int) (C := RX0) (T := TX0) (N := 8) hx hb hts in_X0 tyX0 tyX0_ok nmX0 hown hK hP hD hS 0 rfl rfl 1 (by decide) (hts _ q27) (fun _ h9 => h9) rfl hin rfl (by decide +kernel) rfl rfl (Nat.le_of_ble_eq_true rfl) dX0_init_10 (fun H locs hP hD hS => ?_)
  have hP : va_P G vwCl [(h0, .inr (0, [.int 0, .ref q_1, .null, .int 0, .int 0, .null, .null, .null])), (q_1, .inl (c_1, 425, .inl (fun _ => 0)))] H := hP
  have hD : va_D A [(h0, .inr (0, [.int 0, .ref q_1, .null, .int 0, .int 0, .null, .null, .null])), (q_1, .inl (c_1, 425, .inl (fun _ => 0)))] := hD
  refine lv_aload_n hx hb dX0_init_13 rfl (lv_at hl 0 rfl) ?_
  refine lv_sipush (v := 425) hx hb dX0_init_14 (by decide) ?_
  refine va_newa (atype := .int) (ty := .int) (N' := 425) (a0 := (425, .inl (fun _ => 0))) hx hb (hts _ q51) rfl hK hP hD hS hA (fun _ => rfl) (by decide) (by decide) (by decide) (Nat.le_of_ble_eq_true rfl) (Nat.le_of_ble_eq_true rfl) dX0_init_17 (fun q_2 c_2 H hK hP hD hS => ?_)
  have hP : va_P G vwCl [(h0, .inr (0, [.int 0, .ref q_1, .null, .int 0, .int 0, .null, .null, .null])), (q_1, .inl (c_1, 425, .inl (fun _ => 0))), (q_2, .inl (c_2, 425, .inl (fun _ => 0)))] H := hP
  have hD : va_D A [(h0, .inr (0, [.int 0, .ref q_1, .null, .int 0, .int 0, .null, .null, .null])), (q_1, .inl (c_1, 425, .inl (fun _ => 0))), (q_2, .inl (c_2, 425, .inl (fun _ => 0)))] := hD
  refine va_putF (D := G) (ci := 0) (v := .ref q_2) (ty := .array .int) (C := RX0) (T := TX0) (N := 8) hx hb hts in_X0 tyX0 tyX0_ok nmX0 hown hK hP hD hS 0 rfl rfl 2 (by decide) (hts _ q28) (fun _ h9 => h9) rfl hin rfl (by decide +kernel) rfl rfl (Nat.le_of_ble_eq_true rfl) dX0_init_19 (fun H locs hP hD hS => ?_)
  have hP : va_P G vwCl [(h0, .inr (0, [.int 0, .ref q_1, .ref q_2, .int 0, .int 0, .null, .null, .null])), (q_1, .inl (c_1, 425, .inl (fun _ => 0))), (q_2, .inl (c_2, 425, .inl (fun _ => 0)))] H := hP
  have hD : va_D A [(h0, .inr (0, [.int 0, .ref q_1, .ref q_2, .int 0, .int 0, .null, .null, .null])), (q_1, .inl (c_1, 425, .inl (fun _ => 0))), (q_2, .inl (c_2, 425, .inl (fun _ => 0)))] := hD
  refine lv_aload_n hx hb dX0_init_22 rfl (lv_at hl 0 rfl) ?_
  refine lv_iconst (v := 4) hx hb dX0_init_23 (by decide) ?_
  refine va_newa (atype := .int) (ty := .int) (N' := 4) (a0 := (4, .inl (fun _ => 0))) hx hb (hts _ q51) rfl hK hP hD hS hA (fun _ => rfl) (by decide) (by decide) (by decide) (Nat.le_of_ble_eq_true rfl) (Nat.le_of_ble_eq_true rfl) dX0_init_24 (fun q_3 c_3 H hK hP hD hS => ?_)
  have hP : va_P G vwCl [(h0, .inr (0, [.int 0, .ref q_1, .ref q_2, .int 0, .int 0, .null, .null, .null])), (q_1, .inl (c_1, 425, .inl (fun _ => 0))), (q_2, .inl (c_2, 425, .inl (fun _ => 0))), (q_3, .inl (c_3, 4, .inl (fun _ => 0)))] H := hP
  have hD : va_D A [(h0, .inr (0, [.int 0, .ref q_1, .ref q_2, .int 0, .int 0, .null, .null, .null])), (q_1, .inl (c_1, 425, .inl (fun _ => 0))), (q_2, .inl (c_2, 425, .inl (fun _ => 0))), (q_3, .inl (c_3, 4, .inl (fun _ => 0)))] := hD
  refine va_putF (D := G) (ci := 0) (v := .ref q_3) (ty := .array .int) (C := RX0) (T := TX0) (N := 8) hx hb hts in_X0 tyX0 tyX0_ok nmX0 hown hK hP hD hS 0 rfl rfl 5 (by decide) (hts _ q31) (fun _ h9 => h9) rfl hin rfl (by decide +kernel) rfl rfl (Nat.le_of_ble_eq_true rfl) dX0_init_26 (fun H locs hP hD hS => ?_)
  have hP : va_P G vwCl [(h0, .inr (0, [.int 0, .ref q_1, .ref q_2, .int 0, .int 0, .ref q_3, .null, .null])), (q_1, .inl (c_1, 425, .inl (fun _ => 0))), (q_2, .inl (c_2, 425, .inl (fun _ => 0))), (q_3, .inl (c_3, 4, .inl (fun _ => 0)))] H := hP
  have hD : va_D A [(h0, .inr (0, [.int 0, .ref q_1, .ref q_2, .int 0, .int 0, .ref q_3, .null, .null])), (q_1, .inl (c_1, 425, .inl (fun _ => 0))), (q_2, .inl (c_2, 425, .inl (fun _ => 0))), (q_3, .inl (c_3, 4, .inl (fun _ => 0)))] := hD
  refine lv_aload_n hx hb dX0_init_29 rfl (lv_at hl 0 rfl) ?_
  refine lv_bipush (v := 85) hx hb dX0_init_30 (by decide) ?_
  refine va_newa (atype := .int) (ty := .int) (N' := 85) (a0 := (85, .inl (fun _ => 0))) hx hb (hts _ q51) rfl hK hP hD hS hA (fun _ => rfl) (by decide) (by decide) (by decide) (Nat.le_of_ble_eq_true rfl) (Nat.le_of_ble_eq_true rfl) dX0_init_32 (fun q_4 c_4 H hK hP hD hS => ?_)
  have hP : va_P G vwCl [(h0, .inr (0, [.int 0, .ref q_1, .ref q_2, .int 0, .int 0, .ref q_3, .null, .null])), (q_1, .inl (c_1, 425, .inl (fun _ => 0))), (q_2, .inl (c_2, 425, .inl (fun _ => 0))), (q_3, .inl (c_3, 4, .inl (fun _ => 0))), (q_4, .inl (c_4, 85, .inl (fun _ => 0)))] H := hP
  have hD : va_D A [(h0, .inr (0, [.int 0, .ref q_1, .ref q_2, .int 0, .int 0, .ref q_3, .null, .null])), (q_1, .inl (c_1, 425, .inl (fun _ => 0))), (q_2, .inl (c_2, 425, .inl (fun _ => 0))), (q_3, .inl (c_3, 4, .inl (fun _ => 0))), (q_4, .inl (c_4, 85, .inl (fun _ => 0)))] := hD
  refine va_putF (D := G) (ci := 0) (v := .ref q_4) (ty := .array .int) (C := RX0) (T := TX0) (N := 8) hx hb hts in_X0 tyX0 tyX0_ok nmX0 hown hK hP hD hS 0 rfl rfl 6 (by decide) (hts _ q32) (fun _ h9 => h9) rfl hin rfl (by decide +kernel) rfl rfl (Nat.le_of_ble_eq_true rfl) dX0_init_34 (fun H locs hP hD hS => ?_)
  have hP : va_P G vwCl [(h0, .inr (0, [.int 0, .ref q_1, .ref q_2, .int 0, .int 0, .ref q_3, .ref q_4, .null])), (q_1, .inl (c_1, 425, .inl (fun _ => 0))), (q_2, .inl (c_2, 425, .inl (fun _ => 0))), (q_3, .inl (c_3, 4, .inl (fun _ => 0))), (q_4, .inl (c_4, 85, .inl (fun _ => 0)))] H := hP
  have hD : va_D A [(h0, .inr (0, [.int 0, .ref q_1, .ref q_2, .int 0, .int 0, .ref q_3, .ref q_4, .null])), (q_1, .inl (c_1, 425, .inl (fun _ => 0))), (q_2, .inl (c_2, 425, .inl (fun _ => 0))), (q_3, .inl (c_3, 4, .inl (fun _ => 0))), (q_4, .inl (c_4, 85, .inl (fun _ => 0)))] := hD
  refine lv_aload_n hx hb dX0_init_37 rfl (lv_at hl 0 rfl) ?_
  refine lv_bipush (v := 85) hx hb dX0_init_38 (by decide) ?_
  refine va_newa (atype := .int) (ty := .int) (N' := 85) (a0 := (85, .inl (fun _ => 0))) hx hb (hts _ q51) rfl hK hP hD hS hA (fun _ => rfl) (by decide) (by decide) (by decide) (Nat.le_of_ble_eq_true rfl) (Nat.le_of_ble_eq_true rfl) dX0_init_40 (fun q_5 c_5 H hK hP hD hS => ?_)
  have hP : va_P G vwCl [(h0, .inr (0, [.int 0, .ref q_1, .ref q_2, .int 0, .int 0, .ref q_3, .ref q_4, .null])), (q_1, .inl (c_1, 425, .inl (fun _ => 0))), (q_2, .inl (c_2, 425, .inl (fun _ => 0))), (q_3, .inl (c_3, 4, .inl (fun _ => 0))), (q_4, .inl (c_4, 85, .inl (fun _ => 0))), (q_5, .inl (c_5, 85, .inl (fun _ => 0)))] H := hP
  have hD : va_D A [(h0, .inr (0, [.int 0, .ref q_1, .ref q_2, .int 0, .int 0, .ref q_3, .ref q_4, .null])), (q_1, .inl (c_1, 425, .inl (fun _ => 0))), (q_2, .inl (c_2, 425, .inl (fun _ => 0))), (q_3, .inl (c_3, 4, .inl (fun _ => 0))), (q_4, .inl (c_4, 85, .inl (fun _ => 0))), (q_5, .inl (c_5, 85, .inl (fun _ => 0)))] := hD
  refine va_putF (D := G) (ci := 0) (v := .ref q_5) (ty := .array .int) (C := RX0) (T := TX0) (N := 8) hx hb hts in_X0 tyX0 tyX0_ok nmX0 hown hK hP hD hS 0 rfl rfl 7 (by decide) (hts _ q33) (fun _ h9 => h9) rfl hin rfl (by decide +kernel) rfl rfl (Nat.le_of_ble_eq_true rfl) dX0_init_42 (fun H locs hP hD hS => ?_)
  have hP : va_P G vwCl [(h0, .inr (0, [.int 0, .ref q_1, .ref q_2, .int 0, .int 0, .ref q_3, .ref q_4, .ref q_5])), (q_1, .inl (c_1, 425, .inl (fun _ => 0))), (q_2, .inl (c_2, 425, .inl (fun _ => 0))), (q_3, .inl (c_3, 4, .inl (fun _ => 0))), (q_4, .inl (c_4, 85, .inl (fun _ => 0))), (q_5, .inl (c_5, 85, .inl (fun _ => 0)))] H := hP
  have hD : va_D A [(h0, .inr (0, [.int 0, .ref q_1, .ref q_2, .int 0, .int 0, .ref q_3, .ref q_4, .ref q_5])), (q_1, .inl (c_1, 425, .inl (fun _ => 0))), (q_2, .inl (c_2, 425, .inl (fun _ => 0))), (q_3, .inl (c_3, 4, .inl (fun _ => 0))), (q_4, .inl (c_4, 85, .inl (fun _ => 0))), (q_5, .inl (c_5, 85, .inl (fun _ => 0)))] := hD
  refine W.widen (k := 5) (n := 1024) (Nat.le_of_ble_eq_true rfl) (Nat.le_of_ble_eq_true rfl) ?_
  have hf : ∀ (k : Nat) (cA : ClassId), ([(c_1, .int), (c_2, .int), (c_3, .int), (c_4, .int), (c_5, .int)] : List (ClassId × FieldType))[k]? = some (cA, .int) → s.vm.findClass ("[" ++ FieldType.int.toString) = some cA := fun k cA h => (hK.2 k _ h).2
  have e2 : c_1 = c_2 := Option.some.inj ((hf 0 _ rfl).symm.trans (hf 1 _ rfl))
  have e3 : c_1 = c_3 := Option.some.inj ((hf 0 _ rfl).symm.trans (hf 2 _ rfl))
  have e4 : c_1 = c_4 := Option.some.inj ((hf 0 _ rfl).symm.trans (hf 3 _ rfl))
  have e5 : c_1 = c_5 := Option.some.inj ((hf 0 _ rfl).symm.trans (hf 4 _ rfl))
  clear hf
  subst e2
  subst e3
  subst e4
  subst e5
  obtain ⟨a, ha⟩ : ∃ a : Nat → Nat, a = (fun k => [h0, q_1, q_2, q_3, q_4, q_5].getD k 0) := ⟨_, rfl⟩
  have a0 : a 0 = h0 := by rw [ha]; rfl
  have hI : ot_I G A s H locs (ot_xW c_1 a (0, 0, 0, fun _ => 0, fun _ => 0, fun _ => 0, fun _ => 0, fun _ => 0)) := by rw [ha]; exact ⟨hP, hD, hS⟩
  have hK : va_K G vwCl [(c_1, .int)] s := hK.sub [0] rfl
  have hC : CallFix p m c cX0_init 2 s ([.ref h0] : List Value).toArray lw_all RX0 := ⟨hx, hb, hml, hown, hts⟩
  rw [← a0] at hl
  refine lv_iconst (v := 0) hx hb dX0_init_45 (by decide) ?_
  refine lv_istore_n (lv' := [(1, .int (0)), (0, .ref (a 0))]) hx hb dX0_init_46 rfl hl (by decide) rfl (fun ls hl => ?_)
  refine lv_iload_n hx hb dX0_init_47 rfl (lv_at hl 0 rfl) ?_
  refine lv_iconst (v := 5) hx hb dX0_init_48 (by decide) ?_
  refine ot_icmp_ge hx hb (a := 0) (b := 5) rfl rfl (by omega) (by omega) (tgt := 68) dX0_init_49 (by decide) (fun c_ => absurd c_ (by decide)) (fun _ => ?_)
  refine lv_aload_n hx hb dX0_init_52 rfl (lv_at hl 1 rfl) ?_
  refine ot_xg1 hC hK hI.1 dX0_init_53 ?_
  refine lv_bipush (v := 85) hx hb dX0_init_56 (by decide) ?_
  refine lv_iload_n hx hb dX0_init_58 rfl (lv_at hl 0 rfl) ?_
  refine ot_imul hx hb (a := 85) (b := 0) rfl rfl dX0_init_59 ?_
  refine lv_iconst (v := 2) hx hb dX0_init_60 (by decide) ?_
  refine ot_xs1 hC hK hI (j := 85 * 0) rfl (by decide) dX0_init_61 (fun H locs hI => ?_)
  refine lv_iinc (v := nI (0 + 1)) (lv' := [(1, .int (nI (0 + 1))), (0, .ref (a 0))]) hx hb dX0_init_62 hl (k := 0) rfl (ot_inc _) (by decide) rfl (fun ls hl => ?_)
  refine lv_goto (tgt := 47) hx hb dX0_init_65 (by decide) ?_
  refine lv_iload_n hx hb dX0_init_47 rfl (lv_at hl 0 rfl) ?_
  refine lv_iconst (v := 5) hx hb dX0_init_48 (by decide) ?_
  refine ot_icmp_ge hx hb (a := 0 + 1) (b := 5) rfl rfl (by omega) (by omega) (tgt := 68) dX0_init_49 (by decide) (fun c_ => absurd c_ (by decide)) (fun _ => ?_)
  refine lv_aload_n hx hb dX0_init_52 rfl (lv_at hl 1 rfl) ?_
  refine ot_xg1 hC hK hI.1 dX0_init_53 ?_
  refine lv_bipush (v := 85) hx hb dX0_init_56 (by decide) ?_
  refine lv_iload_n hx hb dX0_init_58 rfl (lv_at hl 0 rfl) ?_
  refine ot_imul hx hb (a := 85) (b := 0 + 1) rfl rfl dX0_init_59 ?_
  refine lv_iconst (v := 2) hx hb dX0_init_60 (by decide) ?_
  refine ot_xs1 hC hK hI (j := 85 * (0 + 1)) rfl (by decide) dX0_init_61 (fun H locs hI => ?_)
  refine lv_iinc (v := nI (0 + 1 + 1)) (lv' := [(1, .int (nI (0 + 1 + 1))), (0, .ref (a 0))]) hx hb dX0_init_62 hl (k := 0) rfl (ot_inc _) (by decide) rfl (fun ls hl => ?_)
  refine lv_goto (tgt := 47) hx hb dX0_init_65 (by decide) ?_
  refine lv_iload_n hx hb dX0_init_47 rfl (lv_at hl 0 rfl) ?_
  refine lv_iconst (v := 5) hx hb dX0_init_48 (by decide) ?_
  refine ot_icmp_ge hx hb (a := 0 + 1 + 1) (b := 5) rfl rfl (by omega) (by omega) (tgt := 68) dX0_init_49 (by decide) (fun c_ => absurd c_ (by decide)) (fun _ => ?_)
  refine lv_aload_n hx hb dX0_init_52 rfl (lv_at hl 1 rfl) ?_
  refine ot_xg1 hC hK hI.1 dX0_init_53 ?_
  refine lv_bipush (v := 85) hx hb dX0_init_56 (by decide) ?_
  refine lv_iload_n hx hb dX0_init_58 rfl (lv_at hl 0 rfl) ?_
  refine ot_imul hx hb (a := 85) (b := 0 + 1 + 1) rfl rfl dX0_init_59 ?_
  refine lv_iconst (v := 2) hx hb dX0_init_60 (by decide) ?_
  refine ot_xs1 hC hK hI (j := 85 * (0 + 1 + 1)) rfl (by decide) dX0_init_61 (fun H locs hI => ?_)
  refine lv_iinc (v := nI (0 + 1 + 1 + 1)) (lv' := [(1, .int (nI (0 + 1 + 1 + 1))), (0, .ref (a 0))]) hx hb dX0_init_62 hl (k := 0) rfl (ot_inc _) (by decide) rfl (fun ls hl => ?_)
  refine lv_goto (tgt := 47) hx hb dX0_init_65 (by decide) ?_
  refine lv_iload_n hx hb dX0_init_47 rfl (lv_at hl 0 rfl) ?_
  refine lv_iconst (v := 5) hx hb dX0_init_48 (by decide) ?_
  refine ot_icmp_ge hx hb (a := 0 + 1 + 1 + 1) (b := 5) rfl rfl (by omega) (by omega) (tgt := 68) dX0_init_49 (by decide) (fun c_ => absurd c_ (by decide)) (fun _ => ?_)
  refine lv_aload_n hx hb dX0_init_52 rfl (lv_at hl 1 rfl) ?_
  refine ot_xg1 hC hK hI.1 dX0_init_53 ?_
  refine lv_bipush (v := 85) hx hb dX0_init_56 (by decide) ?_
  refine lv_iload_n hx hb dX0_init_58 rfl (lv_at hl 0 rfl) ?_
  refine ot_imul hx hb (a := 85) (b := 0 + 1 + 1 + 1) rfl rfl dX0_init_59 ?_
  refine lv_iconst (v := 2) hx hb dX0_init_60 (by decide) ?_
  refine ot_xs1 hC hK hI (j := 85 * (0 + 1 + 1 + 1)) rfl (by decide) dX0_init_61 (fun H locs hI => ?_)
  refine lv_iinc (v := nI (0 + 1 + 1 + 1 + 1)) (lv' := [(1, .int (nI (0 + 1 + 1 + 1 + 1))), (0, .ref (a 0))]) hx hb dX0_init_62 hl (k := 0) rfl (ot_inc _) (by decide) rfl (fun ls hl => ?_)
  refine lv_goto (tgt := 47) hx hb dX0_init_65 (by decide) ?_
  refine lv_iload_n hx hb dX0_init_47 rfl (lv_at hl 0 rfl) ?_
  refine lv_iconst (v := 5) hx hb dX0_init_48 (by decide) ?_
  refine ot_icmp_ge hx hb (a := 0 + 1 + 1 + 1 + 1) (b := 5) rfl rfl (by omega) (by omega) (tgt := 68) dX0_init_49 (by decide) (fun c_ => absurd c_ (by decide)) (fun _ => ?_)
  refine lv_aload_n hx hb dX0_init_52 rfl (lv_at hl 1 rfl) ?_
  refine ot_xg1 hC hK hI.1 dX0_init_53 ?_
  refine lv_bipush (v := 85) hx hb dX0_init_56 (by decide) ?_
  refine lv_iload_n hx hb dX0_init_58 rfl (lv_at hl 0 rfl) ?_
  refine ot_imul hx hb (a := 85) (b := 0 + 1 + 1 + 1 + 1) rfl rfl dX0_init_59 ?_
  refine lv_iconst (v := 2) hx hb dX0_init_60 (by decide) ?_
  refine ot_xs1 hC hK hI (j := 85 * (0 + 1 + 1 + 1 + 1)) rfl (by decide) dX0_init_61 (fun H locs hI => ?_)
  refine lv_iinc (v := nI (0 + 1 + 1 + 1 + 1 + 1)) (lv' := [(1, .int (nI (0 + 1 + 1 + 1 + 1 + 1))), (0, .ref (a 0))]) hx hb dX0_init_62 hl (k := 0) rfl (ot_inc _) (by decide) rfl (fun ls hl => ?_)
  refine lv_goto (tgt := 47) hx hb dX0_init_65 (by decide) ?_
  refine lv_iload_n hx hb dX0_init_47 rfl (lv_at hl 0 rfl) ?_
  refine lv_iconst (v := 5) hx hb dX0_init_48 (by decide) ?_
  refine ot_icmp_ge hx hb (a := 0 + 1 + 1 + 1 + 1 + 1) (b := 5) rfl rfl (by omega) (by omega) (tgt := 68) dX0_init_49 (by decide) (fun _ => ?_) (fun c_ => absurd (by decide) c_)
  have hI : ot_I G A s H locs (ot_xW c_1 a ot_x0) := hI
  exact W.vret hx hb hr (fun t ht hW => ⟨⟨(c_1, a), rfl, a0, by rw [ht]; exact hI.1, va_K.moved hW.alike hK, hI.2.1⟩, hI.2.2.F ht⟩) hI.2.2.2.2 dX0_init_68
abbrev ot_mb : List Value := [.null, .null, .int 0, .null, .null, .null]
def ot_m0 : ot_mS := (0, fun _ => 0, fun _ => 0, fun _ => 0, fun _ => 0, fun _ => 0)
def ot_mB0 (G : va_G) (A : Nat → Prop) (u : ClassId × (Nat → Nat)) (t : State) : Prop := va_P G vwCl (ot_mW u.1 u.2 ot_m0) t.heap ∧ va_K G vwCl [(u.1, .int)] t ∧ va_D A (ot_mW u.1 u.2 ot_m0)
abbrev rmX1_init : Room := { frames := 1, cells := 5, slots := 765, locals := 12 }
set_option maxHeartbeats 4000000 in
theorem mm_init (l : Launch) (G : va_G) (h0 sz : Nat) : Met l yX1_init (ws_ yX1_init cX1_init 1 none) rmX1_init (va_Pc [.ref h0] (fun U => U.heap.size = sz ∧ va_P G vwCl [(h0, .inr (1, ot_mb))] U.heap ∧ va_K G vwCl [] U ∧ va_D (fun _ => True) [(h0, .inr (1, ot_mb))])) (va_Qv (fun u : ClassId × (Nat → Nat) => u.2 0 = h0) (ot_mB0 G (va_A [(h0, .inr (1, ot_mb))] sz)) (va_A [(h0, .inr (1, ot_mb))] sz)) 5 765 (va_A [(h0, .inr (1, ot_mb))] sz) := by
  refine Met.ofW (cc := cX1_init) (maxL := 1) (ret := none) (by decide) rfl ?_
  intro p e s m args below meth c s₁ B hml hv
  obtain ⟨rfl, hsz, hP, hK, hD0⟩ := hv
  have hx := B.exec
  have hb := B.bytes
  have hr := B.returns
  have hts := atoms_spec (ws := ws_ yX1_init cX1_init 1 none) B.pre
  have hts : ∀ w ∈ lw_all, w.before _ s = true := fun w h => hts w (List.mem_cons_of_mem _ h)
  have hown : s.vm.findClass RX1 = some m.cls := findClass_of_methodNamed B.named
  have hlocks := B.notSynchronized
  have hin : meth.name = "<init>" := (name_of_methodNamed B.named B.method).1
  subst hsz
  have hD := hD0.self (sz := s.heap.size)
  generalize hAe : va_A [(h0, .inr (1, ot_mb))] s.heap.size = A at hD ⊢
  have hA : ∀ q : Nat, s.heap.size ≤ q → A q := fun q h => by rw [← hAe]; exact Or.inr h
  have hS : va_S A s.heap s.heap [] := va_S.rf
  have hl := lv_entry ([.ref h0]) (n := 1) (Nat.le_of_ble_eq_true rfl)
  rw [lg_entry_eq]
  generalize (lg_sl ([.ref h0]) ++ List.replicate (1 - (lg_sl ([.ref h0])).length) Slot.unset).toArray = ls at hl ⊢
  have hl : lv_has ls 1 [(0, .ref h0)] := hl
  refine lv_aload_n hx hb dX1_init_0 rfl (lv_at hl 0 rfl) ?_
  refine W.objInit hx hb hown (hts _ q155) (hts _ q24) (hts _ q25) rfl (by rw [hml]; exact hl.1) rfl dX1_init_1 (Nat.le_of_ble_eq_true rfl) (Nat.le_of_ble_eq_true rfl) ?_
  refine W.eq (g2 := F0 m 4 ls []) rfl ?_
  refine lv_aload_n hx hb dX1_init_4 rfl (lv_at hl 0 rfl) ?_
  refine lv_sipush (v := 255) hx hb dX1_init_5 (by decide) ?_
  refine va_newa (atype := .int) (ty := .int) (N' := 255) (a0 := (255, .inl (fun _ => 0))) hx hb (hts _ q51) rfl hK hP hD hS hA (fun _ => rfl) (by decide) (by decide) (by decide) (Nat.le_of_ble_eq_true rfl) (Nat.le_of_ble_eq_true rfl) dX1_init_8 (fun q_1 c_1 H hK hP hD hS => ?_)
  have hP : va_P G vwCl [(h0, .inr (1, [.null, .null, .int 0, .null, .null, .null])), (q_1, .inl (c_1, 255, .inl (fun _ => 0)))] H := hP
  have hD : va_D A [(h0, .inr (1, [.null, .null, .int 0, .null, .null, .null])), (q_1, .inl (c_1, 255, .inl (fun _ => 0)))] := hD
  refine va_putF (D := G) (ci := 1) (v := .ref q_1) (ty := .array .int) (C := RX1) (T := TX1) (N := 6) hx hb hts in_X1 tyX1 tyX1_ok nmX1 hown hK hP hD hS 0 rfl rfl 0 (by decide) (hts _ q156) (fun _ h9 => h9) rfl hin rfl (by decide +kernel) rfl rfl (Nat.le_of_ble_eq_true rfl) dX1_init_10 (fun H locs hP hD hS => ?_)
  have hP : va_P G vwCl [(h0, .inr (1, [.ref q_1, .null, .int 0, .null, .null, .null])), (q_1, .inl (c_1, 255, .inl (fun _ => 0)))] H := hP
  have hD : va_D A [(h0, .inr (1, [.ref q_1, .null, .int 0, .null, .null, .null])), (q_1, .inl (c_1, 255, .inl (fun _ => 0)))] := hD
  refine lv_aload_n hx hb dX1_init_13 rfl (lv_at hl 0 rfl) ?_
  refine lv_sipush (v := 255) hx hb dX1_init_14 (by decide) ?_
  refine va_newa (atype := .int) (ty := .int) (N' := 255) (a0 := (255, .inl (fun _ => 0))) hx hb (hts _ q51) rfl hK hP hD hS hA (fun _ => rfl) (by decide) (by decide) (by decide) (Nat.le_of_ble_eq_true rfl) (Nat.le_of_ble_eq_true rfl) dX1_init_17 (fun q_2 c_2 H hK hP hD hS => ?_)
  have hP : va_P G vwCl [(h0, .inr (1, [.ref q_1, .null, .int 0, .null, .null, .null])), (q_1, .inl (c_1, 255, .inl (fun _ => 0))), (q_2, .inl (c_2, 255, .inl (fun _ => 0)))] H := hP
  have hD : va_D A [(h0, .inr (1, [.ref q_1, .null, .int 0, .null, .null, .null])), (q_1, .inl (c_1, 255, .inl (fun _ => 0))), (q_2, .inl (c_2, 255, .inl (fun _ => 0)))] := hD
  refine va_putF (D := G) (ci := 1) (v := .ref q_2) (ty := .array .int) (C := RX1) (T := TX1) (N := 6) hx hb hts in_X1 tyX1 tyX1_ok nmX1 hown hK hP hD hS 0 rfl rfl 1 (by decide) (hts _ q157) (fun _ h9 => h9) rfl hin rfl (by decide +kernel) rfl rfl (Nat.le_of_ble_eq_true rfl) dX1_init_19 (fun H locs hP hD hS => ?_)
  have hP : va_P G vwCl [(h0, .inr (1, [.ref q_1, .ref q_2, .int 0, .null, .null, .null])), (q_1, .inl (c_1, 255, .inl (fun _ => 0))), (q_2, .inl (c_2, 255, .inl (fun _ => 0)))] H := hP
  have hD : va_D A [(h0, .inr (1, [.ref q_1, .ref q_2, .int 0, .null, .null, .null])), (q_1, .inl (c_1, 255, .inl (fun _ => 0))), (q_2, .inl (c_2, 255, .inl (fun _ => 0)))] := hD
  refine lv_aload_n hx hb dX1_init_22 rfl (lv_at hl 0 rfl) ?_
  refine lv_bipush (v := 85) hx hb dX1_init_23 (by decide) ?_
  refine va_newa (atype := .int) (ty := .int) (N' := 85) (a0 := (85, .inl (fun _ => 0))) hx hb (hts _ q51) rfl hK hP hD hS hA (fun _ => rfl) (by decide) (by decide) (by decide) (Nat.le_of_ble_eq_true rfl) (Nat.le_of_ble_eq_true rfl) dX1_init_25 (fun q_3 c_3 H hK hP hD hS => ?_)
  have hP : va_P G vwCl [(h0, .inr (1, [.ref q_1, .ref q_2, .int 0, .null, .null, .null])), (q_1, .inl (c_1, 255, .inl (fun _ => 0))), (q_2, .inl (c_2, 255, .inl (fun _ => 0))), (q_3, .inl (c_3, 85, .inl (fun _ => 0)))] H := hP
  have hD : va_D A [(h0, .inr (1, [.ref q_1, .ref q_2, .int 0, .null, .null, .null])), (q_1, .inl (c_1, 255, .inl (fun _ => 0))), (q_2, .inl (c_2, 255, .inl (fun _ => 0))), (q_3, .inl (c_3, 85, .inl (fun _ => 0)))] := hD
  refine va_putF (D := G) (ci := 1) (v := .ref q_3) (ty := .array .int) (C := RX1) (T := TX1) (N := 6) hx hb hts in_X1 tyX1 tyX1_ok nmX1 hown hK hP hD hS 0 rfl rfl 3 (by decide) (hts _ q159) (fun _ h9 => h9) rfl hin rfl (by decide +kernel) rfl rfl (Nat.le_of_ble_eq_true rfl) dX1_init_27 (fun H locs hP hD hS => ?_)
  have hP : va_P G vwCl [(h0, .inr (1, [.ref q_1, .ref q_2, .int 0, .ref q_3, .null, .null])), (q_1, .inl (c_1, 255, .inl (fun _ => 0))), (q_2, .inl (c_2, 255, .inl (fun _ => 0))), (q_3, .inl (c_3, 85, .inl (fun _ => 0)))] H := hP
  have hD : va_D A [(h0, .inr (1, [.ref q_1, .ref q_2, .int 0, .ref q_3, .null, .null])), (q_1, .inl (c_1, 255, .inl (fun _ => 0))), (q_2, .inl (c_2, 255, .inl (fun _ => 0))), (q_3, .inl (c_3, 85, .inl (fun _ => 0)))] := hD
  refine lv_aload_n hx hb dX1_init_30 rfl (lv_at hl 0 rfl) ?_
  refine lv_bipush (v := 85) hx hb dX1_init_31 (by decide) ?_
  refine va_newa (atype := .int) (ty := .int) (N' := 85) (a0 := (85, .inl (fun _ => 0))) hx hb (hts _ q51) rfl hK hP hD hS hA (fun _ => rfl) (by decide) (by decide) (by decide) (Nat.le_of_ble_eq_true rfl) (Nat.le_of_ble_eq_true rfl) dX1_init_33 (fun q_4 c_4 H hK hP hD hS => ?_)
  have hP : va_P G vwCl [(h0, .inr (1, [.ref q_1, .ref q_2, .int 0, .ref q_3, .null, .null])), (q_1, .inl (c_1, 255, .inl (fun _ => 0))), (q_2, .inl (c_2, 255, .inl (fun _ => 0))), (q_3, .inl (c_3, 85, .inl (fun _ => 0))), (q_4, .inl (c_4, 85, .inl (fun _ => 0)))] H := hP
  have hD : va_D A [(h0, .inr (1, [.ref q_1, .ref q_2, .int 0, .ref q_3, .null, .null])), (q_1, .inl (c_1, 255, .inl (fun _ => 0))), (q_2, .inl (c_2, 255, .inl (fun _ => 0))), (q_3, .inl (c_3, 85, .inl (fun _ => 0))), (q_4, .inl (c_4, 85, .inl (fun _ => 0)))] := hD
  refine va_putF (D := G) (ci := 1) (v := .ref q_4) (ty := .array .int) (C := RX1) (T := TX1) (N := 6) hx hb hts in_X1 tyX1 tyX1_ok nmX1 hown hK hP hD hS 0 rfl rfl 4 (by decide) (hts _ q160) (fun _ h9 => h9) rfl hin rfl (by decide +kernel) rfl rfl (Nat.le_of_ble_eq_true rfl) dX1_init_35 (fun H locs hP hD hS => ?_)
  have hP : va_P G vwCl [(h0, .inr (1, [.ref q_1, .ref q_2, .int 0, .ref q_3, .ref q_4, .null])), (q_1, .inl (c_1, 255, .inl (fun _ => 0))), (q_2, .inl (c_2, 255, .inl (fun _ => 0))), (q_3, .inl (c_3, 85, .inl (fun _ => 0))), (q_4, .inl (c_4, 85, .inl (fun _ => 0)))] H := hP
  have hD : va_D A [(h0, .inr (1, [.ref q_1, .ref q_2, .int 0, .ref q_3, .ref q_4, .null])), (q_1, .inl (c_1, 255, .inl (fun _ => 0))), (q_2, .inl (c_2, 255, .inl (fun _ => 0))), (q_3, .inl (c_3, 85, .inl (fun _ => 0))), (q_4, .inl (c_4, 85, .inl (fun _ => 0)))] := hD
  refine lv_aload_n hx hb dX1_init_38 rfl (lv_at hl 0 rfl) ?_
  refine lv_bipush (v := 85) hx hb dX1_init_39 (by decide) ?_
  refine va_newa (atype := .int) (ty := .int) (N' := 85) (a0 := (85, .inl (fun _ => 0))) hx hb (hts _ q51) rfl hK hP hD hS hA (fun _ => rfl) (by decide) (by decide) (by decide) (Nat.le_of_ble_eq_true rfl) (Nat.le_of_ble_eq_true rfl) dX1_init_41 (fun q_5 c_5 H hK hP hD hS => ?_)
  have hP : va_P G vwCl [(h0, .inr (1, [.ref q_1, .ref q_2, .int 0, .ref q_3, .ref q_4, .null])), (q_1, .inl (c_1, 255, .inl (fun _ => 0))), (q_2, .inl (c_2, 255, .inl (fun _ => 0))), (q_3, .inl (c_3, 85, .inl (fun _ => 0))), (q_4, .inl (c_4, 85, .inl (fun _ => 0))), (q_5, .inl (c_5, 85, .inl (fun _ => 0)))] H := hP
  have hD : va_D A [(h0, .inr (1, [.ref q_1, .ref q_2, .int 0, .ref q_3, .ref q_4, .null])), (q_1, .inl (c_1, 255, .inl (fun _ => 0))), (q_2, .inl (c_2, 255, .inl (fun _ => 0))), (q_3, .inl (c_3, 85, .inl (fun _ => 0))), (q_4, .inl (c_4, 85, .inl (fun _ => 0))), (q_5, .inl (c_5, 85, .inl (fun _ => 0)))] := hD
  refine va_putF (D := G) (ci := 1) (v := .ref q_5) (ty := .array .int) (C := RX1) (T := TX1) (N := 6) hx hb hts in_X1 tyX1 tyX1_ok nmX1 hown hK hP hD hS 0 rfl rfl 5 (by decide) (hts _ q161) (fun _ h9 => h9) rfl hin rfl (by decide +kernel) rfl rfl (Nat.le_of_ble_eq_true rfl) dX1_init_43 (fun H locs hP hD hS => ?_)
  have hP : va_P G vwCl [(h0, .inr (1, [.ref q_1, .ref q_2, .int 0, .ref q_3, .ref q_4, .ref q_5])), (q_1, .inl (c_1, 255, .inl (fun _ => 0))), (q_2, .inl (c_2, 255, .inl (fun _ => 0))), (q_3, .inl (c_3, 85, .inl (fun _ => 0))), (q_4, .inl (c_4, 85, .inl (fun _ => 0))), (q_5, .inl (c_5, 85, .inl (fun _ => 0)))] H := hP
  have hD : va_D A [(h0, .inr (1, [.ref q_1, .ref q_2, .int 0, .ref q_3, .ref q_4, .ref q_5])), (q_1, .inl (c_1, 255, .inl (fun _ => 0))), (q_2, .inl (c_2, 255, .inl (fun _ => 0))), (q_3, .inl (c_3, 85, .inl (fun _ => 0))), (q_4, .inl (c_4, 85, .inl (fun _ => 0))), (q_5, .inl (c_5, 85, .inl (fun _ => 0)))] := hD
  refine W.widen (k := 5) (n := 765) (Nat.le_of_ble_eq_true rfl) (Nat.le_of_ble_eq_true rfl) ?_
  have hf : ∀ (k : Nat) (cA : ClassId), ([(c_1, .int), (c_2, .int), (c_3, .int), (c_4, .int), (c_5, .int)] : List (ClassId × FieldType))[k]? = some (cA, .int) → s.vm.findClass ("[" ++ FieldType.int.toString) = some cA := fun k cA h => (hK.2 k _ h).2
  have e2 : c_1 = c_2 := Option.some.inj ((hf 0 _ rfl).symm.trans (hf 1 _ rfl))
  have e3 : c_1 = c_3 := Option.some.inj ((hf 0 _ rfl).symm.trans (hf 2 _ rfl))
  have e4 : c_1 = c_4 := Option.some.inj ((hf 0 _ rfl).symm.trans (hf 3 _ rfl))
  have e5 : c_1 = c_5 := Option.some.inj ((hf 0 _ rfl).symm.trans (hf 4 _ rfl))
  clear hf
  subst e2
  subst e3
  subst e4
  subst e5
  obtain ⟨a, ha⟩ : ∃ a : Nat → Nat, a = (fun k => [h0, q_1, q_2, q_3, q_4, q_5].getD k 0) := ⟨_, rfl⟩
  have a0 : a 0 = h0 := by rw [ha]; rfl
  have hI : ot_I G A s H locs (ot_mW c_1 a ot_m0) := by rw [ha]; exact ⟨hP, hD, hS⟩
  have hK : va_K G vwCl [(c_1, .int)] s := hK.sub [0] rfl
  have hC : CallFix p m c cX1_init 1 s ([.ref h0] : List Value).toArray lw_all RX1 := ⟨hx, hb, hml, hown, hts⟩
  exact W.vret hx hb hr (fun t ht hW => ⟨⟨(c_1, a), rfl, a0, by rw [ht]; exact hI.1, va_K.moved hW.alike hK, hI.2.1⟩, hI.2.2.F ht⟩) hI.2.2.2.2 dX1_init_46
end
section
/-! ===== the view: what a look sees at a path ===== -/
theorem ot_top_eq {h h' : Nat → Int32} {q : Nat} : ∀ {n : Nat} (f : Nat), (∀ l, l < n → h' (85 * l + q) = h (85 * l + q)) → ot_top h' q n f = ot_top h q n f := by
  intro n
  induction n with
  | zero => intro f _; rfl
  | succ n ih =>
    intro f e
    unfold ot_top
    rw [e n (by omega), ih f (fun l hl => e l (by omega))]
theorem ot_rai_eq {h h' : Nat → Int32} {q : Nat} : ∀ {n : Nat} (f : Nat), (∀ l, l < n → h' (85 * l + q) = h (85 * l + q)) → ot_rai h' q n f = ot_rai h q n f := by
  intro n
  induction n with
  | zero => intro f _; rfl
  | succ n ih =>
    intro f e
    unfold ot_rai
    rw [e n (by omega), ih f (fun l hl => e l (by omega))]
theorem ot_set_eq {h h' : Nat → Int32} {q : Nat} (f : Nat) (e : ∀ l, l < 5 → h' (85 * l + q) = h (85 * l + q)) : ot_set h' q f = ot_set h q f := by
  unfold ot_set
  rw [ot_top_eq f e]
  cases ht : ot_top h q 5 f with
  | none => rfl
  | some l => simp only [ot_hole, e l (ot_top_lt ht).2.1]
/-- one step down -/
def ot_st (h : Nat → Int32) (q : Nat) (x : Option Nat) : Option Nat := match x with
  | none => none
  | some f => match ot_set h q f with
    | none => none
    | some l => if h (85 * l + q) = 1 then none else some (ot_rai h q 5 f)
/-- what is seen there: sort and value -/
def ot_vs (h ct : Nat → Int32) (q : Nat) (x : Option Nat) : Int32 × Int32 := match x with
  | none => (0, 0)
  | some f => match ot_set h q f with
    | none => (0, 0)
    | some l => if h (85 * l + q) = 1 then (1, ct (85 * l + q)) else (2, 0)
theorem ot_flS (h : Nat → Int32) {q : Nat} (hq : 0 < q) : ot_fl h q = ot_st h q (ot_fl h (ot_par q)) := ot_fl_s h hq
theorem ot_vwS (h ct : Nat → Int32) {q : Nat} (hq : 0 < q) : ot_vw h q = (ot_vs h ct q (ot_fl h (ot_par q))).1 := by
  unfold ot_vw ot_fd ot_vs
  rw [if_neg (by omega)]
  cases ot_fl h (ot_par q) with
  | none => rfl
  | some f =>
    dsimp only
    cases ot_set h q f with
    | none => rfl
    | some l => dsimp only; split <;> rfl
theorem ot_vlS (h ct : Nat → Int32) {q : Nat} (hq : 0 < q) : ot_vl h ct q = (ot_vs h ct q (ot_fl h (ot_par q))).2 := by
  unfold ot_vl ot_fd ot_vs
  rw [if_neg (by omega)]
  cases ot_fl h (ot_par q) with
  | none => rfl
  | some f =>
    dsimp only
    cases ot_set h q f with
    | none => rfl
    | some l => dsimp only; split <;> rfl
theorem ot_st_eq {h h' : Nat → Int32} {q : Nat} (e : ∀ l, l < 5 → h' (85 * l + q) = h (85 * l + q)) (x : Option Nat) : ot_st h' q x = ot_st h q x := by
  unfold ot_st
  cases x with
  | none => rfl
  | some f =>
    dsimp only
    rw [ot_set_eq f e, ot_rai_eq f e]
    cases hs : ot_set h q f with
    | none => rfl
    | some l => dsimp only; rw [e l (ot_set_lt hs).2.1]
theorem ot_vs_eq {h h' ct ct' : Nat → Int32} {q : Nat} (e : ∀ l, l < 5 → h' (85 * l + q) = h (85 * l + q)) (ec : ∀ l, l < 5 → ct' (85 * l + q) = ct (85 * l + q)) (x : Option Nat) : ot_vs h' ct' q x = ot_vs h ct q x := by
  unfold ot_vs
  cases x with
  | none => rfl
  | some f =>
    dsimp only
    rw [ot_set_eq f e]
    cases hs : ot_set h q f with
    | none => rfl
    | some l => dsimp only; rw [e l (ot_set_lt hs).2.1, ec l (ot_set_lt hs).2.1]
theorem ot_vw_0 {h : Nat → Int32} (h0 : h 340 = 2) : ot_vw h 0 = 2 := by
  unfold ot_vw
  rw [ot_fd_0]
  dsimp only
  rw [if_neg (by rw [show 85 * 4 + 0 = 340 from rfl, h0]; decide)]
theorem ot_vl_0 {h : Nat → Int32} (ct : Nat → Int32) (h0 : h 340 = 2) : ot_vl h ct 0 = 0 := by
  unfold ot_vl
  rw [ot_fd_0]
  dsimp only
  rw [if_neg (by rw [show 85 * 4 + 0 = 340 from rfl, h0]; decide)]
/-- directories are what has a floor -/
theorem ot_vw_fl {h : Nat → Int32} (h0 : h 340 = 2) {q : Nat} : ot_vw h q = 2 ↔ ∃ f, ot_fl h q = some f := by
  rcases Nat.eq_zero_or_pos q with e | e
  · subst e
    exact ⟨fun _ => ⟨0, ot_fl_0 h⟩, fun _ => ot_vw_0 h0⟩
  · rw [ot_vwS h h e, ot_flS h e]
    unfold ot_vs ot_st
    cases ot_fl h (ot_par q) with
    | none => simp
    | some f =>
      dsimp only
      cases ot_set h q f with
      | none => simp
      | some l =>
        dsimp only
        split
        · simp
        · simp
theorem ot_vw_no {h : Nat → Int32} (h0 : h 340 = 2) {q : Nat} (h2 : ¬ ot_vw h q = 2) : ot_fl h q = none := by
  cases hf : ot_fl h q with
  | none => rfl
  | some f => exact absurd ((ot_vw_fl h0).mpr ⟨f, hf⟩) h2
/-- under what is no directory there is nothing -/
theorem ot_vw_par0 {h : Nat → Int32} (ct : Nat → Int32) (h0 : h 340 = 2) {q : Nat} (hq : 0 < q) (h2 : ¬ ot_vw h (ot_par q) = 2) : ot_vw h q = 0 ∧ ot_vl h ct q = 0 := by
  rw [ot_vwS h ct hq, ot_vlS h ct hq, ot_vw_no h0 h2]
  exact ⟨rfl, rfl⟩
theorem ot_vw_012 (h : Nat → Int32) (q : Nat) : ot_vw h q = 0 ∨ ot_vw h q = 1 ∨ ot_vw h q = 2 := by
  unfold ot_vw
  split
  · exact Or.inl rfl
  · split
    · exact Or.inr (Or.inl rfl)
    · exact Or.inr (Or.inr rfl)
theorem ot_par_2 {h : Nat → Int32} (h0 : h 340 = 2) {q : Nat} (hq : 0 < q) (hv : ¬ ot_vw h q = 0) : ot_vw h (ot_par q) = 2 := by
  rcases ot_vw_012 h (ot_par q) with e | e | e
  · exact absurd (ot_vw_par0 h h0 hq (by rw [e]; decide)).1 hv
  · exact absurd (ot_vw_par0 h h0 hq (by rw [e]; decide)).1 hv
  · exact e
/-- the path k, or one under it -/
def ot_on (k q : Nat) : Prop := q = k ∨ ot_und 3 q k = true
theorem ot_und_up0 : ∀ q : Fin 85, ∀ k : Fin 85, 0 < q.val → ot_und 3 (ot_par q.val) k.val = true → ot_und 3 q.val k.val = true := by decide +kernel
theorem ot_und_par {q k : Nat} (hq : q < 85) (h0 : 0 < q) (e : ot_par q = k) : ot_und 3 q k = true := by
  rw [ot_und, if_neg (by omega), if_pos e]
theorem ot_und_dn {q k : Nat} (h : ot_und 3 q k = true) : ot_on k (ot_par q) := by
  rw [ot_und] at h
  split at h
  · cases h
  · split at h
    · exact Or.inl (by assumption)
    · refine Or.inr ?_
      rw [ot_und] at h
      split at h
      · cases h
      · rename_i h1
        rw [ot_und, if_neg h1]
        split at h
        · rw [if_pos (by assumption)]
        · rename_i h2
          rw [if_neg h2]
          rw [ot_und] at h
          split at h
          · cases h
          · rename_i h3
            rw [ot_und, if_neg h3]
            split at h
            · rw [if_pos (by assumption)]
            · cases h
theorem ot_on_dn {q k : Nat} (hq : q < 85) (h0 : 0 < q) (h : ot_on k (ot_par q)) : ot_und 3 q k = true := by
  rcases h with h | h
  · exact ot_und_par hq h0 h
  · have hk := ot_und_lt h
    have hp := ot_par84 hq
    exact ot_und_up0 ⟨q, hq⟩ ⟨k, by omega⟩ h0 h
theorem ot_on_le {q k : Nat} (h : ot_on k q) : k ≤ q := by
  rcases h with h | h
  · omega
  · have := ot_und_lt h; omega
section OtLoc
variable {h h' ct ct' : Nat → Int32} {k : Nat}
/-- a change at k and under it alone isn't seen elsewhere -/
theorem ot_loc (e : ∀ q, 0 < q → q < 85 → ¬ ot_on k q → ∀ l, l < 5 → h' (85 * l + q) = h (85 * l + q)) : ∀ q, q < 85 → ¬ ot_on k q → ot_fl h' q = ot_fl h q := by
  intro q
  induction q using Nat.strongRecOn with
  | ind q ih =>
    intro hq hn
    rcases Nat.eq_zero_or_pos q with z | z
    · subst z; rw [ot_fl_0, ot_fl_0]
    · rw [ot_flS h' z, ot_flS h z, ih (ot_par q) (ot_par_lt z) (ot_par84 hq) (fun w => hn (Or.inr (ot_on_dn hq z w))), ot_st_eq (e q z hq hn)]
theorem ot_locV (h0 : h 340 = 2) (h0' : h' 340 = 2) (e : ∀ q, 0 < q → q < 85 → ¬ ot_on k q → ∀ l, l < 5 → h' (85 * l + q) = h (85 * l + q)) (ec : ∀ q, 0 < q → q < 85 → ¬ ot_on k q → ∀ l, l < 5 → ct' (85 * l + q) = ct (85 * l + q)) {q : Nat} (hq : q < 85) (hn : ¬ ot_on k q) : ot_vw h' q = ot_vw h q ∧ ot_vl h' ct' q = ot_vl h ct q := by
  rcases Nat.eq_zero_or_pos q with z | z
  · subst z
    rw [ot_vw_0 h0, ot_vw_0 h0', ot_vl_0 _ h0, ot_vl_0 _ h0']
    exact ⟨rfl, rfl⟩
  · have e1 := ot_loc e (ot_par q) (ot_par84 hq) (fun w => hn (Or.inr (ot_on_dn hq z w)))
    rw [ot_vwS h' ct' z, ot_vwS h ct z, ot_vlS h' ct' z, ot_vlS h ct z, e1, ot_vs_eq (e q z hq hn) (ec q z hq hn)]
    exact ⟨rfl, rfl⟩
/-- under a path that is no directory there is nothing -/
theorem ot_vw_und (h0 : h 340 = 2) (ct : Nat → Int32) (hk : ¬ ot_vw h k = 2) : ∀ q, q < 85 → ot_und 3 q k = true → ot_vw h q = 0 ∧ ot_vl h ct q = 0 := by
  intro q
  induction q using Nat.strongRecOn with
  | ind q ih =>
    intro hq hu
    have z := ot_und_pos hu
    refine ot_vw_par0 ct h0 z ?_
    rcases ot_und_dn hu with w | w
    · rw [w]; exact hk
    · rw [(ih (ot_par q) (ot_par_lt z) (ot_par84 hq) w).1]; decide
end OtLoc
/-! ===== the state's invariant, when it is mounted ===== -/
def ot_rg (x : Int32) : Prop := x = 0 ∨ x = 1 ∨ x = 2 ∨ x = 3 ∨ x = 4
/-- what the top layer holds has its parent there -/
def ot_FC (h : Nat → Int32) : Prop := ∀ q, 0 < q → q < 85 → ¬ h (340 + q) = 0 → ot_par q = 0 ∨ h (340 + ot_par q) = 2 ∨ h (340 + ot_par q) = 3
def ot_J (h : Nat → Int32) : Prop := ∀ q, 0 < q → q < 85 → h (340 + q) = 2 → ¬ h (255 + q) = 1 ∧ ¬ h (255 + q) = 4
def ot_inv (h : Nat → Int32) : Prop := h 340 = 2 ∧ (∀ j, ot_rg (h j)) ∧ ot_FC h ∧ ot_J h
/-- one step of top, set, rai at the top layer -/
theorem ot_top5 (h : Nat → Int32) (q : Nat) {f : Nat} (hf : f ≤ 4) (hn : ¬ h (340 + q) = 0) : ot_top h q 5 f = some 4 := by
  rw [ot_top, if_neg (by omega), if_neg hn]
theorem ot_top50 (h : Nat → Int32) (q : Nat) {f : Nat} (hf : f ≤ 4) (hn : h (340 + q) = 0) : ot_top h q 5 f = ot_top h q 4 f := by
  rw [ot_top, if_neg (by omega), if_pos hn]
theorem ot_top4 (h : Nat → Int32) (q : Nat) {f : Nat} (hf : f ≤ 3) (hn : ¬ h (255 + q) = 0) : ot_top h q 4 f = some 3 := by
  rw [ot_top, if_neg (by omega), if_neg hn]
theorem ot_top40 (h : Nat → Int32) (q : Nat) {f : Nat} (hf : f ≤ 3) (hn : h (255 + q) = 0) : ot_top h q 4 f = ot_top h q 3 f := by
  rw [ot_top, if_neg (by omega), if_pos hn]
theorem ot_top_no (h : Nat → Int32) (q : Nat) {n f : Nat} (hf : n ≤ f) : ot_top h q n f = none := by
  cases n with
  | zero => rfl
  | succ n => rw [ot_top, if_pos (by omega)]
theorem ot_rai_no (h : Nat → Int32) (q : Nat) {n f : Nat} (hf : n ≤ f) : ot_rai h q n f = f := by
  cases n with
  | zero => rfl
  | succ n => rw [ot_rai, if_pos (by omega)]
theorem ot_set5 {h : Nat → Int32} {q f : Nat} (hf : f ≤ 4) (hn : ¬ h (340 + q) = 0) (h4 : ¬ h (340 + q) = 4) : ot_set h q f = some 4 := by
  rw [ot_set, ot_top5 h q hf hn]
  show (if h (340 + q) = 4 then none else some 4) = some 4
  rw [if_neg h4]
theorem ot_set54 {h : Nat → Int32} {q f : Nat} (hf : f ≤ 4) (h4 : h (340 + q) = 4) : ot_set h q f = none := by
  rw [ot_set, ot_top5 h q hf (by rw [h4]; decide)]
  show (if h (340 + q) = 4 then none else some 4) = none
  rw [if_pos h4]
theorem ot_rai5 {h : Nat → Int32} {q f : Nat} (hf : f ≤ 4) : ot_rai h q 5 f = if h (340 + q) = 3 then 4 else if h (340 + q) = 1 ∨ h (340 + q) = 4 then 5 else ot_rai h q 4 f := by
  rw [ot_rai, if_neg (by omega)]
theorem ot_rai4 {h : Nat → Int32} {q f : Nat} (hf : f ≤ 3) : ot_rai h q 4 f = if h (255 + q) = 3 then 3 else if h (255 + q) = 1 ∨ h (255 + q) = 4 then 4 else ot_rai h q 3 f := by
  rw [ot_rai, if_neg (by omega)]
theorem ot_rai_n {h : Nat → Int32} {q : Nat} : ∀ {n f g : Nat}, f ≤ g → n ≤ g → ot_rai h q n f ≤ g := by
  intro n
  induction n with
  | zero => intro f g hf _; simpa [ot_rai] using hf
  | succ n ih =>
    intro f g hf hn
    unfold ot_rai
    split
    · exact hf
    · split
      · omega
      · split
        · omega
        · exact ih hf (by omega)
theorem ot_fl4 {h : Nat → Int32} : ∀ {q f : Nat}, ot_fl h q = some f → f ≤ 4 := by
  intro q
  induction q using Nat.strongRecOn with
  | ind q ih =>
    intro f e
    rcases Nat.eq_zero_or_pos q with z | z
    · subst z; rw [ot_fl_0] at e; cases e; omega
    · rw [ot_flS h z] at e
      unfold ot_st at e
      split at e
      · cases e
      · rename_i g hg
        have hg4 := ih (ot_par q) (ot_par_lt z) hg
        split at e
        · cases e
        · rename_i l hl
          split at e
          · cases e
          · rename_i h1
            cases e
            rw [ot_rai5 hg4]
            by_cases h3 : h (340 + q) = 3
            · rw [if_pos h3]; omega
            · rw [if_neg h3, if_neg]
              · exact ot_rai_n hg4 (by omega)
              · rintro (w | w)
                · rw [ot_set5 hg4 (by rw [w]; decide) (by rw [w]; decide)] at hl
                  cases hl
                  exact h1 w
                · rw [ot_set54 hg4 w] at hl
                  cases hl
/-- a directory that the top layer holds is one there -/
theorem ot_FV {h : Nat → Int32} (h0 : h 340 = 2) (hr : ∀ j, ot_rg (h j)) {q : Nat} (hq : 0 < q) (hv : ot_vw h q = 2) (hn : ¬ h (340 + q) = 0) : h (340 + q) = 2 ∨ h (340 + q) = 3 := by
  obtain ⟨f, hf⟩ := (ot_vw_fl h0).mp (ot_par_2 h0 hq (by rw [hv]; decide))
  have hf4 := ot_fl4 hf
  rw [ot_vwS h h hq, hf] at hv
  unfold ot_vs at hv
  dsimp only at hv
  rcases hr (340 + q) with w | w | w | w | w
  · exact absurd w hn
  · rw [ot_set5 hf4 hn (by rw [w]; decide)] at hv
    have hv : (if h (340 + q) = 1 then ((1 : Int32), h (340 + q)) else (2, 0)).1 = 2 := hv
    rw [if_pos w] at hv
    exact absurd (show (1 : Int32) = 2 from hv) (by decide)
  · exact Or.inl w
  · exact Or.inr w
  · rw [ot_set54 hf4 w] at hv
    exact absurd (show (0 : Int32) = 2 from hv) (by decide)
/-- what is a directory in the top layer, and has a directory above, is seen as one -/
theorem ot_VF {h : Nat → Int32} (h0 : h 340 = 2) {q : Nat} (hq : 0 < q) (hp : ot_vw h (ot_par q) = 2) (hn : h (340 + q) = 2 ∨ h (340 + q) = 3) : ot_vw h q = 2 := by
  obtain ⟨f, hf⟩ := (ot_vw_fl h0).mp hp
  have hf4 := ot_fl4 hf
  have h1 : ¬ h (340 + q) = 1 := by rcases hn with w | w <;> (rw [w]; decide)
  rw [ot_vwS h h hq, hf]
  unfold ot_vs
  dsimp only
  rw [ot_set5 hf4 (by rcases hn with w | w <;> (rw [w]; decide)) (by rcases hn with w | w <;> (rw [w]; decide))]
  show (if h (340 + q) = 1 then ((1 : Int32), h (340 + q)) else (2, 0)).1 = 2
  rw [if_neg h1]
end
section
/-! ===== the top layer's changes ===== -/
theorem ot_off {h : Nat → Int32} {k q l : Nat} {v : Int32} (hk : k < 85) (hq : q < 85) (hl : l < 5) (hne : ¬ q = k) : upd h (340 + k) v (85 * l + q) = h (85 * l + q) := pk_un (by omega)
theorem ot_rg_upd {h : Nat → Int32} {k : Nat} {v : Int32} (hr : ∀ j, ot_rg (h j)) (hv : ot_rg v) : ∀ j, ot_rg (upd h k v j) := by
  intro j
  by_cases e : j = k
  · subst e; rw [pk_us]; exact hv
  · rw [pk_un e]; exact hr j
theorem ot_newJ {h : Nat → Int32} (h0 : h 340 = 2) {b : Nat} (hb : 0 < b) (hv : ot_vw h b = 2) (hF : h (340 + b) = 0) : ¬ h (255 + b) = 1 ∧ ¬ h (255 + b) = 4 := by
  obtain ⟨f, hf⟩ := (ot_vw_fl h0).mp (ot_par_2 h0 hb (by rw [hv]; decide))
  have hf4 := ot_fl4 hf
  rw [ot_vwS h h hb, hf] at hv
  unfold ot_vs at hv
  dsimp only at hv
  rw [ot_set, ot_top50 h b hf4 hF] at hv
  rcases Nat.lt_or_ge f 4 with z | z
  · constructor
    · intro w
      rw [ot_top4 h b (by omega) (by rw [w]; decide)] at hv
      have hv : (match (if h (255 + b) = 4 then none else some 3 : Option Nat) with
        | none => ((0 : Int32), (0 : Int32))
        | some l => if h (85 * l + b) = 1 then (1, h (85 * l + b)) else (2, 0)).1 = 2 := hv
      rw [if_neg (by rw [w]; decide)] at hv
      have hv : (if h (255 + b) = 1 then ((1 : Int32), h (255 + b)) else (2, 0)).1 = 2 := hv
      rw [if_pos w] at hv
      exact absurd (show (1 : Int32) = 2 from hv) (by decide)
    · intro w
      rw [ot_top4 h b (by omega) (by rw [w]; decide)] at hv
      have hv : (match (if h (255 + b) = 4 then none else some 3 : Option Nat) with
        | none => ((0 : Int32), (0 : Int32))
        | some l => if h (85 * l + b) = 1 then (1, h (85 * l + b)) else (2, 0)).1 = 2 := hv
      rw [if_pos w] at hv
      exact absurd (show (0 : Int32) = 2 from hv) (by decide)
  · rw [ot_top_no h b z] at hv
    exact absurd (show (0 : Int32) = 2 from hv) (by decide)
/-- a directory is copied up: nothing else is seen -/
theorem ot_cup1 {h : Nat → Int32} (h0 : h 340 = 2) {b : Nat} (hb0 : 0 < b) (hb : b < 85) (hv : ot_vw h b = 2) (hF : h (340 + b) = 0) : (∀ q, q < 85 → ot_fl (upd h (340 + b) 2) q = ot_fl h q) ∧ ∀ (ct : Nat → Int32) (q : Nat), q < 85 → ot_vw (upd h (340 + b) 2) q = ot_vw h q ∧ ot_vl (upd h (340 + b) 2) ct q = ot_vl h ct q := by
  have h0' : upd h (340 + b) 2 340 = 2 := by rw [pk_un (by omega)]; exact h0
  obtain ⟨f, hf⟩ := (ot_vw_fl h0).mp (ot_par_2 h0 hb0 (by rw [hv]; decide))
  have hf4 := ot_fl4 hf
  obtain ⟨g, hg⟩ := (ot_vw_fl h0).mp hv
  have e4 : upd h (340 + b) 2 (340 + b) = 2 := pk_us
  have hset : ot_set (upd h (340 + b) 2) b f = some 4 := ot_set5 hf4 (by rw [e4]; decide) (by rw [e4]; decide)
  have hst : ot_st (upd h (340 + b) 2) b (some f) = ot_st h b (some f) := by
    have hg' : ot_st h b (some f) = some g := by rw [← hf, ← ot_flS h hb0]; exact hg
    have hgr : g = ot_rai h b 5 f := by
      unfold ot_st at hg'
      dsimp only at hg'
      split at hg'
      · cases hg'
      · split at hg'
        · cases hg'
        · exact (Option.some.inj hg').symm
    rw [hg', hgr]
    unfold ot_st
    dsimp only
    rw [hset]
    show (if upd h (340 + b) 2 (340 + b) = 1 then none else some (ot_rai (upd h (340 + b) 2) b 5 f)) = _
    rw [if_neg (by rw [e4]; decide), ot_rai5 hf4, ot_rai5 hf4, e4, hF, if_neg (by decide), if_neg (by decide), if_neg (by decide), if_neg (by decide)]
    rw [ot_rai_eq f (fun l hl => pk_un (by omega))]
  have hfl : ∀ q, q < 85 → ot_fl (upd h (340 + b) 2) q = ot_fl h q := by
    intro q
    induction q using Nat.strongRecOn with
    | ind q ih =>
      intro hq
      rcases Nat.eq_zero_or_pos q with z | z
      · subst z; rw [ot_fl_0, ot_fl_0]
      · rw [ot_flS _ z, ot_flS h z, ih (ot_par q) (ot_par_lt z) (ot_par84 hq)]
        by_cases e : q = b
        · subst e; rw [hf]; exact hst
        · exact ot_st_eq (fun l hl => ot_off hb hq hl e) _
  refine ⟨hfl, fun ct q hq => ?_⟩
  rcases Nat.eq_zero_or_pos q with z | z
  · subst z
    rw [ot_vw_0 h0, ot_vw_0 h0', ot_vl_0 _ h0, ot_vl_0 _ h0']
    exact ⟨rfl, rfl⟩
  · by_cases e : q = b
    · subst e
      have e1 : ot_vw (upd h (340 + q) 2) q = 2 := (ot_vw_fl h0').mpr ⟨g, by rw [hfl q hq]; exact hg⟩
      have dir0 : ∀ {k : Nat → Int32} {c : Nat → Int32}, k 340 = 2 → ot_vw k q = 2 → ot_vl k c q = 0 := by
        intro k c k0 kv
        rw [ot_vwS k c z] at kv
        rw [ot_vlS k c z]
        unfold ot_vs at kv ⊢
        split
        · rfl
        · rename_i x hx
          rw [hx] at kv
          dsimp only at kv ⊢
          split
          · rfl
          · rename_i y hy
            rw [hy] at kv
            dsimp only at kv
            split
            · rename_i w
              rw [if_pos w] at kv
              exact absurd (show (1 : Int32) = 2 from kv) (by decide)
            · rfl
      rw [e1, hv, dir0 h0' e1, dir0 h0 hv]
      exact ⟨rfl, rfl⟩
    · rw [ot_vwS _ ct z, ot_vwS h ct z, ot_vlS _ ct z, ot_vlS h ct z, hfl (ot_par q) (ot_par84 hq), ot_vs_eq (fun l hl => ot_off hb hq hl e) (fun _ _ => rfl)]
      exact ⟨rfl, rfl⟩
/-- b is a, or above it -/
def ot_cb (b a : Nat) : Prop := ∃ i, ot_anc a i = b
theorem ot_anc_par (a : Nat) : ∀ i, ot_anc a (i + 1) = ot_anc (ot_par a) i
  | 0 => rfl
  | i + 1 => congrArg ot_par (ot_anc_par a i)
theorem ot_anc_le (a : Nat) : ∀ i, ot_anc a i ≤ a
  | 0 => Nat.le_refl a
  | i + 1 => Nat.le_trans (ot_par_le _) (ot_anc_le a i)
theorem ot_cb_le {b a : Nat} (h : ot_cb b a) : b ≤ a := by
  obtain ⟨i, rfl⟩ := h
  exact ot_anc_le a i
theorem ot_cb_up {b a : Nat} (h : ot_cb b a) : ot_cb (ot_par b) a := by
  obtain ⟨i, rfl⟩ := h
  exact ⟨i + 1, rfl⟩
theorem ot_cb_cases {b a : Nat} (h : ot_cb b a) : b = a ∨ ot_cb b (ot_par a) := by
  obtain ⟨i, hi⟩ := h
  cases i with
  | zero => exact Or.inl hi.symm
  | succ i => exact Or.inr ⟨i, by rw [← ot_anc_par]; exact hi⟩
theorem ot_cb_par {b a : Nat} (h : ot_cb b (ot_par a)) : ot_cb b a := by
  obtain ⟨i, hi⟩ := h
  exact ⟨i + 1, by rw [ot_anc_par]; exact hi⟩
def ot_up (a : Nat) (h h' : Nat → Int32) : Prop := h' 340 = 2 ∧ (∀ j, ot_rg (h' j)) ∧ (∀ (ct : Nat → Int32) (q : Nat), q < 85 → ot_vw h' q = ot_vw h q ∧ ot_vl h' ct q = ot_vl h ct q) ∧ (∀ j, h' j = h j ∨ (h j = 0 ∧ h' j = 2 ∧ ∃ b, 0 < b ∧ b < 85 ∧ j = 340 + b ∧ ot_cb b a ∧ ot_vw h b = 2)) ∧ ∀ b, 0 < b → ot_cb b a → ¬ h' (340 + b) = 0
theorem ot_cup_up : ∀ (n : Nat) (h : Nat → Int32) (a : Nat), a < 85 → ot_anc a n = 0 → h 340 = 2 → (∀ j, ot_rg (h j)) → (a = 0 ∨ ot_vw h a = 2) → ot_up a h (ot_cup n h a) := by
  have zero : ∀ h : Nat → Int32, h 340 = 2 → (∀ j, ot_rg (h j)) → ot_up 0 h h := fun h h0 hr => ⟨h0, hr, fun _ _ _ => ⟨rfl, rfl⟩, fun _ => Or.inl rfl, fun b hb hc => absurd (ot_cb_le hc) (by omega)⟩
  intro n
  induction n with
  | zero =>
    intro h a ha h3 h0 hr _
    have h3 : a = 0 := h3
    subst h3
    exact zero h h0 hr
  | succ n ih =>
    intro h a ha h3 h0 hr hv
    rcases Nat.eq_zero_or_pos a with z | z
    · subst z
      rw [ot_cup, if_pos rfl]
      exact zero h h0 hr
    · have hv := hv.resolve_left (by omega)
      rw [ot_cup, if_neg (by omega)]
      have hp84 := ot_par84 ha
      have h3' : ot_anc (ot_par a) n = 0 := by rw [← ot_anc_par]; exact h3
      by_cases hF : h (340 + a) = 0
      · rw [if_pos hF]
        obtain ⟨-, c1⟩ := ot_cup1 h0 z ha hv hF
        have h0' : upd h (340 + a) 2 340 = 2 := by rw [pk_un (by omega)]; exact h0
        have hp2 : ot_vw (upd h (340 + a) 2) (ot_par a) = 2 := by rw [(c1 h _ hp84).1]; exact ot_par_2 h0 z (by rw [hv]; decide)
        obtain ⟨u1, u2, u3, u4, u5⟩ := ih (upd h (340 + a) 2) (ot_par a) hp84 h3' h0' (ot_rg_upd hr (Or.inr (Or.inr (Or.inl rfl)))) (Or.inr hp2)
        refine ⟨u1, u2, fun ct q hq => ⟨(u3 ct q hq).1.trans (c1 ct q hq).1, (u3 ct q hq).2.trans (c1 ct q hq).2⟩, fun j => ?_, fun b hb hc => ?_⟩
        · rcases u4 j with w | ⟨w1, w2, b, b1, b2, b3, b4, b5⟩
          · by_cases e : j = 340 + a
            · subst e
              refine Or.inr ⟨hF, by rw [w]; exact pk_us, a, z, ha, rfl, ⟨0, rfl⟩, hv⟩
            · rw [pk_un e] at w
              exact Or.inl w
          · have e : ¬ j = 340 + a := by
              intro e
              subst e
              rw [pk_us] at w1
              exact absurd w1 (by decide)
            rw [pk_un e] at w1
            refine Or.inr ⟨w1, w2, b, b1, b2, b3, ot_cb_par b4, ?_⟩
            rw [← (c1 h b b2).1]
            exact b5
        · rcases ot_cb_cases hc with w | w
          · subst w
            rcases u4 (340 + b) with w | ⟨w1, w2, -⟩
            · rw [w, pk_us]; decide
            · rw [w2]; decide
          · exact u5 b hb w
      · rw [if_neg hF]
        obtain ⟨u1, u2, u3, u4, u5⟩ := ih h (ot_par a) hp84 h3' h0 hr (Or.inr (ot_par_2 h0 z (by rw [hv]; decide)))
        refine ⟨u1, u2, u3, fun j => ?_, fun b hb hc => ?_⟩
        · rcases u4 j with w | ⟨w1, w2, b, b1, b2, b3, b4, b5⟩
          · exact Or.inl w
          · exact Or.inr ⟨w1, w2, b, b1, b2, b3, ot_cb_par b4, b5⟩
        · rcases ot_cb_cases hc with w | w
          · subst w
            rcases u4 (340 + b) with w | ⟨w1, w2, -⟩
            · rw [w]; exact hF
            · rw [w2]; decide
          · exact u5 b hb w
theorem ot_cup_inv {h : Nat → Int32} {a : Nat} (hi : ot_inv h) (ha : a < 85) (hv : a = 0 ∨ ot_vw h a = 2) : ot_inv (ot_cup 3 h a) ∧ ot_up a h (ot_cup 3 h a) := by
  obtain ⟨h0, hr, hFC, hJ⟩ := hi
  have U := ot_cup_up 3 h a ha (ot_anc3 ha) h0 hr hv
  obtain ⟨u1, u2, u3, u4, u5⟩ := id U
  refine ⟨⟨u1, u2, ?_, ?_⟩, U⟩
  · intro c hc0 hc hn
    rcases u4 (340 + c) with w | ⟨w1, w2, b, b1, b2, b3, b4, b5⟩
    · rw [w] at hn
      rcases hFC c hc0 hc hn with z | z
      · exact Or.inl z
      · refine Or.inr ?_
        rcases u4 (340 + ot_par c) with y | ⟨y1, -⟩
        · rw [y]; exact z
        · rw [y1] at z
          exact z.elim (fun z => absurd z (by decide)) (fun z => absurd z (by decide))
    · have hbc : b = c := by omega
      subst hbc
      rcases Nat.eq_zero_or_pos (ot_par b) with z | z
      · exact Or.inl z
      · refine Or.inr (ot_FV u1 u2 z ?_ (u5 _ z (ot_cb_up b4)))
        rw [(u3 h (ot_par b) (ot_par84 hc)).1]
        exact ot_par_2 h0 hc0 (by rw [b5]; decide)
  · intro c hc0 hc h2
    have e : ot_cup 3 h a (255 + c) = h (255 + c) := by
      rcases u4 (255 + c) with w | ⟨-, -, b, b1, b2, b3, -⟩
      · exact w
      · omega
    rw [e]
    rcases u4 (340 + c) with w | ⟨w1, w2, b, b1, b2, b3, b4, b5⟩
    · rw [w] at h2
      exact hJ c hc0 hc h2
    · have hbc : b = c := by omega
      subst hbc
      exact ot_newJ h0 hc0 b5 w1
/-- something is put into the top layer, below a directory -/
theorem ot_putV {h : Nat → Int32} (ct : Nat → Int32) (h0 : h 340 = 2) {k : Nat} (hk0 : 0 < k) (hk : k < 85) (hp : ot_vw h (ot_par k) = 2) {s v : Int32} (hs : s = 1 ∨ s = 3 ∨ s = 4) (hc : s = 3 → ∀ c, 0 < c → c < 85 → ot_par c = k → h (340 + c) = 0) :
    (∀ q, q < 85 → ¬ ot_on k q → ot_vw (upd h (340 + k) s) q = ot_vw h q ∧ ot_vl (upd h (340 + k) s) (upd ct (340 + k) v) q = ot_vl h ct q) ∧
    (ot_vw (upd h (340 + k) s) k = (if s = 1 then 1 else if s = 3 then 2 else 0) ∧ ot_vl (upd h (340 + k) s) (upd ct (340 + k) v) k = (if s = 1 then v else 0)) ∧
    (∀ q, q < 85 → ot_und 3 q k = true → ot_vw (upd h (340 + k) s) q = 0 ∧ ot_vl (upd h (340 + k) s) (upd ct (340 + k) v) q = 0) := by
  have h0' : upd h (340 + k) s 340 = 2 := by rw [pk_un (by omega)]; exact h0
  have e4 : upd h (340 + k) s (340 + k) = s := pk_us
  have ne : ∀ {q : Nat}, ¬ ot_on k q → ¬ q = k := fun w z => w (Or.inl z)
  have hpk : ¬ ot_on k (ot_par k) := fun w => absurd (ot_on_le w) (by have := ot_par_lt hk0; omega)
  have eloc : ∀ q, 0 < q → q < 85 → ¬ ot_on k q → ∀ l, l < 5 → upd h (340 + k) s (85 * l + q) = h (85 * l + q) := fun q _ hq hn l hl => ot_off hk hq hl (ne hn)
  obtain ⟨f, hf⟩ := (ot_vw_fl h0).mp hp
  have hf4 := ot_fl4 hf
  have hf' : ot_fl (upd h (340 + k) s) (ot_par k) = some f := by rw [ot_loc eloc (ot_par k) (ot_par84 hk) hpk]; exact hf
  have hb : ot_vw (upd h (340 + k) s) k = (if s = 1 then 1 else if s = 3 then 2 else 0) ∧ ot_vl (upd h (340 + k) s) (upd ct (340 + k) v) k = (if s = 1 then v else 0) := by
    rw [ot_vwS _ (upd ct (340 + k) v) hk0, ot_vlS _ (upd ct (340 + k) v) hk0, hf']
    unfold ot_vs
    dsimp only
    rcases hs with w | w | w
    · subst w
      rw [ot_set5 hf4 (by rw [e4]; decide) (by rw [e4]; decide)]
      show (if upd h (340 + k) 1 (340 + k) = 1 then ((1 : Int32), upd ct (340 + k) v (340 + k)) else (2, 0)).1 = _ ∧ (if upd h (340 + k) 1 (340 + k) = 1 then ((1 : Int32), upd ct (340 + k) v (340 + k)) else (2, 0)).2 = _
      rw [e4, if_pos rfl, if_pos rfl, if_pos rfl]
      exact ⟨rfl, pk_us⟩
    · subst w
      rw [ot_set5 hf4 (by rw [e4]; decide) (by rw [e4]; decide)]
      show (if upd h (340 + k) 3 (340 + k) = 1 then ((1 : Int32), upd ct (340 + k) v (340 + k)) else (2, 0)).1 = _ ∧ (if upd h (340 + k) 3 (340 + k) = 1 then ((1 : Int32), upd ct (340 + k) v (340 + k)) else (2, 0)).2 = _
      rw [e4]
      exact ⟨by simp, by simp⟩
    · subst w
      rw [ot_set54 hf4 e4]
      exact ⟨rfl, rfl⟩
  refine ⟨fun q hq hn => ?_, hb, ?_⟩
  · exact ot_locV h0 h0' eloc (fun q _ hq hn l hl => ot_off hk hq hl (ne hn)) hq hn
  · by_cases h3 : s = 3
    · subst h3
      have hfk : ot_fl (upd h (340 + k) 3) k = some 4 := by
        rw [ot_flS _ hk0, hf']
        unfold ot_st
        dsimp only
        rw [ot_set5 hf4 (by rw [e4]; decide) (by rw [e4]; decide)]
        show (if upd h (340 + k) 3 (340 + k) = 1 then none else some (ot_rai (upd h (340 + k) 3) k 5 f)) = _
        rw [e4, if_neg (by decide), ot_rai5 hf4, e4, if_pos rfl]
      intro q
      induction q using Nat.strongRecOn with
      | ind q ih =>
        intro hq hu
        have z := ot_und_pos hu
        rcases ot_und_dn hu with w | w
        · have hlt := ot_und_lt hu
          have hq0 : upd h (340 + k) 3 (340 + q) = 0 := by rw [pk_un (by omega)]; exact hc rfl q z hq w
          rw [ot_vwS _ (upd ct (340 + k) v) z, ot_vlS _ (upd ct (340 + k) v) z, w, hfk]
          unfold ot_vs
          dsimp only
          rw [ot_set, ot_top50 _ q (Nat.le_refl 4) hq0, ot_top_no _ q (Nat.le_refl 4)]
          exact ⟨rfl, rfl⟩
        · exact ot_vw_par0 _ h0' z (by rw [(ih (ot_par q) (ot_par_lt z) (ot_par84 hq) w).1]; decide)
    · refine ot_vw_und h0' _ ?_
      rw [hb.1]
      rcases hs with w | w | w
      · rw [if_pos w]; decide
      · exact absurd w h3
      · rw [if_neg (by rw [w]; decide), if_neg h3]; decide
theorem ot_put_inv {h : Nat → Int32} (hi : ot_inv h) {k : Nat} (hk0 : 0 < k) (hk : k < 85) {s : Int32} (hs : s = 1 ∨ s = 3 ∨ s = 4) (hF : ot_par k = 0 ∨ h (340 + ot_par k) = 2 ∨ h (340 + ot_par k) = 3) (hc : ∀ c, 0 < c → c < 85 → ot_par c = k → h (340 + c) = 0) : ot_inv (upd h (340 + k) s) := by
  obtain ⟨h0, hr, hFC, hJ⟩ := hi
  have hpk := ot_par_lt hk0
  refine ⟨by rw [pk_un (by omega)]; exact h0, ot_rg_upd hr (by rcases hs with w | w | w <;> subst w <;> simp [ot_rg]), ?_, ?_⟩
  · intro q hq0 hq hn
    by_cases e : q = k
    · subst e
      rw [pk_un (by omega)]
      exact hF
    · rw [pk_un (by omega)] at hn
      by_cases e2 : ot_par q = k
      · exact absurd (hc q hq0 hq e2) hn
      · rw [pk_un (by omega)]
        exact hFC q hq0 hq hn
  · intro q hq0 hq h2
    rw [pk_un (by omega)]
    by_cases e : q = k
    · subst e
      rw [pk_us] at h2
      rcases hs with w | w | w <;> (rw [w] at h2; exact absurd h2 (by decide))
    · rw [pk_un (by omega)] at h2
      exact hJ q hq0 hq h2
/-- below what is no directory the top layer holds nothing -/
theorem ot_child0 {h : Nat → Int32} (hi : ot_inv h) {k : Nat} (hk0 : 0 < k) (hp : ot_vw h (ot_par k) = 2) (hv : ¬ ot_vw h k = 2) : ∀ c, 0 < c → c < 85 → ot_par c = k → h (340 + c) = 0 := by
  intro c hc0 hc e
  by_cases z : h (340 + c) = 0
  · exact z
  · rcases hi.2.2.1 c hc0 hc z with w | w
    · omega
    · rw [e] at w
      exact absurd (ot_VF hi.1 hk0 hp w) hv
end
section
/-! ===== what is under a path is taken out of a layer ===== -/
theorem ot_clr_val (b k : Nat) : ∀ (m q : Nat) (h : Nat → Int32) (j : Nat), ot_clr b k m q h j = if b + q ≤ j ∧ j < b + q + m ∧ ot_und 3 (j - b) k = true then 0 else h j := by
  intro m
  induction m with
  | zero =>
    intro q h j
    rw [ot_clr, if_neg (fun z => absurd z.2.1 (by omega))]
  | succ m ih =>
    intro q h j
    rw [ot_clr, ih]
    by_cases hu : ot_und 3 q k = true
    · rw [if_pos hu]
      by_cases e : j = b + q
      · subst e
        rw [if_neg (fun z => absurd z.1 (by omega)), pk_us, if_pos ⟨by omega, by omega, by rw [Nat.add_sub_cancel_left]; exact hu⟩]
      · rw [pk_un e]
        by_cases z : b + (q + 1) ≤ j ∧ j < b + (q + 1) + m ∧ ot_und 3 (j - b) k = true
        · rw [if_pos z, if_pos ⟨by omega, by omega, z.2.2⟩]
        · rw [if_neg z, if_neg (fun w => z ⟨by omega, by omega, w.2.2⟩)]
    · rw [if_neg hu]
      by_cases e : j = b + q
      · subst e
        rw [if_neg (fun z => absurd z.1 (by omega)), if_neg (fun z => hu (by have := z.2.2; rw [Nat.add_sub_cancel_left] at this; exact this))]
      · by_cases z : b + (q + 1) ≤ j ∧ j < b + (q + 1) + m ∧ ot_und 3 (j - b) k = true
        · rw [if_pos z, if_pos ⟨by omega, by omega, z.2.2⟩]
        · rw [if_neg z, if_neg (fun w => z ⟨by omega, by omega, w.2.2⟩)]
/-- a layer cleared under k -/
theorem ot_clrK {b k : Nat} (hk : k < 85) (h : Nat → Int32) (j : Nat) : ot_clr b k (84 - k) (k + 1) h j = if b ≤ j ∧ j < b + 85 ∧ ot_und 3 (j - b) k = true then 0 else h j := by
  rw [ot_clr_val]
  by_cases z : b ≤ j ∧ j < b + 85 ∧ ot_und 3 (j - b) k = true
  · have := ot_und_lt z.2.2
    rw [if_pos z, if_pos ⟨by omega, by omega, z.2.2⟩]
  · rw [if_neg z, if_neg (fun w => z ⟨by omega, by omega, w.2.2⟩)]
theorem ot_clrK_in {b k q : Nat} (hk : k < 85) (hq : q < 85) (hu : ot_und 3 q k = true) (h : Nat → Int32) : ot_clr b k (84 - k) (k + 1) h (b + q) = 0 := by
  rw [ot_clrK hk, if_pos ⟨by omega, by omega, by rw [Nat.add_sub_cancel_left]; exact hu⟩]
theorem ot_clrK_un {b k q : Nat} (hk : k < 85) (hu : ¬ ot_und 3 q k = true) (h : Nat → Int32) : ot_clr b k (84 - k) (k + 1) h (b + q) = h (b + q) := by
  rw [ot_clrK hk, if_neg (fun z => hu (by have := z.2.2; rw [Nat.add_sub_cancel_left] at this; exact this))]
theorem ot_clrK_out {b k j : Nat} (hk : k < 85) (hj : j < b ∨ b + 85 ≤ j) (h : Nat → Int32) : ot_clr b k (84 - k) (k + 1) h j = h j := by
  rw [ot_clrK hk, if_neg (fun z => by have := z.1; have := z.2.1; omega)]
theorem ot_clrK_rg {b k : Nat} (hk : k < 85) {h : Nat → Int32} (hr : ∀ j, ot_rg (h j)) : ∀ j, ot_rg (ot_clr b k (84 - k) (k + 1) h j) := by
  intro j
  rw [ot_clrK hk]
  split
  · exact Or.inl rfl
  · exact hr j
theorem ot_und_self (k : Nat) : ¬ ot_und 3 k k = true := fun h => absurd (ot_und_lt h) (by omega)
theorem ot_le0 {x : Int32} (h : x = 0 ∨ x = 1 ∨ x = 2) : x ≤ 0 ↔ x = 0 := by
  rcases h with w | w | w <;> subst w <;> decide
theorem ot_srt1 {mt : Int32} (hm : ¬ mt = 0) (h : Nat → Int32) (q : Nat) : ot_srt mt h q = ot_vw h q := by rw [ot_srt, if_neg hm]
/-- a path is taken away with all that is under it -/
theorem ot_tkaV {mt : Int32} (hm : ¬ mt = 0) {h ct : Nat → Int32} (hi : ot_inv h) {k : Nat} (hk0 : 0 < k) (hk : k < 85) (hp : ot_vw h (ot_par k) = 2) :
    ot_inv (ot_tka mt h ct k).1 ∧
    (∀ q, q < 85 → ¬ ot_on k q → ot_vw (ot_tka mt h ct k).1 q = ot_vw h q ∧ ot_vl (ot_tka mt h ct k).1 (ot_tka mt h ct k).2 q = ot_vl h ct q) ∧
    (∀ q, q < 85 → ot_on k q → ot_vw (ot_tka mt h ct k).1 q = 0 ∧ ot_vl (ot_tka mt h ct k).1 (ot_tka mt h ct k).2 q = 0) := by
  obtain ⟨h0, hr, hFC, hJ⟩ := id hi
  unfold ot_tka
  rw [ot_srt1 hm]
  obtain ⟨g, hg⟩ : ∃ g, g = upd (ot_clr 340 k (84 - k) (k + 1) h) (340 + k) 0 := ⟨_, rfl⟩
  rw [← hg]
  have gk : g (340 + k) = 0 := by rw [hg]; exact pk_us
  have gu : ∀ q, q < 85 → ot_und 3 q k = true → g (340 + q) = 0 := by
    intro q hq hu
    have := ot_und_lt hu
    rw [hg, pk_un (by omega)]
    exact ot_clrK_in hk hq hu h
  have gn : ∀ q, q < 85 → ¬ ot_on k q → g (340 + q) = h (340 + q) := by
    intro q hq hn
    rw [hg, pk_un (fun z => hn (Or.inl (by omega)))]
    exact ot_clrK_un hk (fun z => hn (Or.inr z)) h
  have glo : ∀ j, j < 340 → g j = h j := by
    intro j hj
    rw [hg, pk_un (by omega)]
    exact ot_clrK_out hk (Or.inl hj) h
  have g0 : g 340 = 2 := by
    have := gn 0 (by omega) (fun z => absurd (ot_on_le z) (by omega))
    rw [this]; exact h0
  have gr : ∀ j, ot_rg (g j) := by rw [hg]; exact ot_rg_upd (ot_clrK_rg hk hr) (Or.inl rfl)
  have gloc : ∀ q, 0 < q → q < 85 → ¬ ot_on k q → ∀ l, l < 5 → g (85 * l + q) = h (85 * l + q) := by
    intro q _ hq hn l hl
    rcases (show l < 4 ∨ l = 4 by omega) with z | z
    · exact glo _ (by omega)
    · subst z; exact gn q hq hn
  have gV := fun (q : Nat) (hq : q < 85) (hn : ¬ ot_on k q) => ot_locV (ct := ct) (ct' := ct) h0 g0 gloc (fun _ _ _ _ _ _ => rfl) hq hn
  have hpk : ¬ ot_on k (ot_par k) := fun w => absurd (ot_on_le w) (by have := ot_par_lt hk0; omega)
  have gp : ot_vw g (ot_par k) = 2 := by rw [(gV _ (ot_par84 hk) hpk).1]; exact hp
  have ginv : ot_inv g := by
    refine ⟨g0, gr, ?_, ?_⟩
    · intro q hq0 hq hn
      have hnq : ¬ ot_on k q := fun z => z.elim (fun z => hn (by rw [z]; exact gk)) (fun z => hn (gu q hq z))
      have hnp : ¬ ot_on k (ot_par q) := fun z => hnq (Or.inr (ot_on_dn hq hq0 z))
      rw [gn q hq hnq] at hn
      rw [gn _ (ot_par84 hq) hnp]
      exact hFC q hq0 hq hn
    · intro q hq0 hq h2
      have hnq : ¬ ot_on k q := fun z => z.elim (fun z => by rw [z, gk] at h2; exact absurd h2 (by decide)) (fun z => by rw [gu q hq z] at h2; exact absurd h2 (by decide))
      rw [gn q hq hnq] at h2
      rw [glo _ (by omega)]
      exact hJ q hq0 hq h2
  by_cases hv : ot_vw g k ≤ 0
  · rw [if_pos hv]
    rw [ot_le0 (ot_vw_012 g k)] at hv
    refine ⟨ginv, gV, fun q hq ho => ?_⟩
    dsimp only
    rcases ho with z | z
    · subst z
      refine ⟨hv, ?_⟩
      rw [ot_vwS g ct hk0] at hv
      rw [ot_vlS g ct hk0]
      unfold ot_vs at hv ⊢
      split
      · rfl
      · rename_i x hx
        rw [hx] at hv
        dsimp only at hv ⊢
        split
        · rfl
        · rename_i y hy
          rw [hy] at hv
          dsimp only at hv
          split
          · rename_i w
            rw [if_pos w] at hv
            exact absurd (show (1 : Int32) = 0 from hv) (by decide)
          · rfl
    · exact ot_vw_und g0 ct (by rw [hv]; decide) q hq z
  · rw [if_neg hv]
    obtain ⟨cinv, c1, c2, c3, c4, c5⟩ := ot_cup_inv ginv (ot_par84 hk) (Or.inr gp)
    obtain ⟨w, hw⟩ : ∃ w, w = ot_cup 3 g (ot_par k) := ⟨_, rfl⟩
    rw [← hw] at cinv c1 c2 c3 c4 c5 ⊢
    have wp : ot_vw w (ot_par k) = 2 := by rw [(c3 ct _ (ot_par84 hk)).1]; exact gp
    have wF : ot_par k = 0 ∨ w (340 + ot_par k) = 2 ∨ w (340 + ot_par k) = 3 := by
      rcases Nat.eq_zero_or_pos (ot_par k) with z | z
      · exact Or.inl z
      · exact Or.inr (ot_FV c1 c2 z wp (c5 _ z ⟨0, rfl⟩))
    have wc : ∀ c, 0 < c → c < 85 → ot_par c = k → w (340 + c) = 0 := by
      intro c hc0 hc e
      have hu := ot_und_par hc hc0 e
      have hlt := ot_und_lt hu
      have hpl := ot_par_lt hk0
      rcases c4 (340 + c) with z | ⟨-, -, b, b1, b2, b3, b4, -⟩
      · rw [z]; exact gu c hc hu
      · have := ot_cb_le b4
        omega
    obtain ⟨p1, p2, p3⟩ := ot_putV ct c1 hk0 hk wp (s := 4) (v := 0) (Or.inr (Or.inr rfl)) (fun z => absurd z (by decide))
    refine ⟨ot_put_inv cinv hk0 hk (Or.inr (Or.inr rfl)) wF wc, fun q hq hn => ?_, fun q hq ho => ?_⟩
    · dsimp only
      rw [(p1 q hq hn).1, (p1 q hq hn).2, (c3 ct q hq).1, (c3 ct q hq).2]
      exact gV q hq hn
    · dsimp only
      rcases ho with z | z
      · subst z; exact p2
      · exact p3 q hq z
end
section
/-! ===== the top layer is pressed into the one below ===== -/
theorem ot_fl3 {h : Nat → Int32} {q : Nat} (hZ : ∀ b, 0 < b → b < q → h (340 + b) = 0) : ∀ {x f : Nat}, x < q → ot_fl h x = some f → f ≤ 3 := by
  intro x
  induction x using Nat.strongRecOn with
  | ind x ih =>
    intro f hx e
    rcases Nat.eq_zero_or_pos x with z | z
    · subst z; rw [ot_fl_0] at e; cases e; omega
    · have hF := hZ x z hx
      rw [ot_flS h z] at e
      unfold ot_st at e
      split at e
      · cases e
      · rename_i g hg
        have hg3 := ih (ot_par x) (ot_par_lt z) (by have := ot_par_lt z; omega) hg
        split at e
        · cases e
        · rename_i l hl
          split at e
          · cases e
          · rename_i h1
            cases e
            rw [ot_rai5 (by omega), hF, if_neg (by decide), if_neg (by decide), ot_rai4 hg3]
            by_cases h3 : h (255 + x) = 3
            · rw [if_pos h3]; omega
            · rw [if_neg h3, if_neg]
              · exact ot_rai_n hg3 (by omega)
              · have hs : ¬ h (255 + x) = 0 → ot_set h x g = ot_hole h x (some 3) := fun w => by rw [ot_set, ot_top50 h x (by omega) hF, ot_top4 h x hg3 w]
                rintro (w | w)
                · rw [hs (by rw [w]; decide)] at hl
                  have hl : (if h (255 + x) = 4 then none else some 3) = some l := hl
                  rw [if_neg (by rw [w]; decide)] at hl
                  cases hl
                  exact h1 w
                · rw [hs (by rw [w]; decide)] at hl
                  have hl : (if h (255 + x) = 4 then none else some 3) = some l := hl
                  rw [if_pos w] at hl
                  cases hl
theorem ot_set4 {h : Nat → Int32} {q f : Nat} (hf : f ≤ 3) (hF : h (340 + q) = 0) (hn : ¬ h (255 + q) = 0) (h4 : ¬ h (255 + q) = 4) : ot_set h q f = some 3 := by
  rw [ot_set, ot_top50 h q (by omega) hF, ot_top4 h q hf hn]
  show (if h (255 + q) = 4 then none else some 3) = some 3
  rw [if_neg h4]
theorem ot_set44 {h : Nat → Int32} {q f : Nat} (hf : f ≤ 3) (hF : h (340 + q) = 0) (h4 : h (255 + q) = 4) : ot_set h q f = none := by
  rw [ot_set, ot_top50 h q (by omega) hF, ot_top4 h q hf (by rw [h4]; decide)]
  show (if h (255 + q) = 4 then none else some 3) = none
  rw [if_pos h4]
/-- with nothing in the layer below, floor 3 sees what floor 4 sees -/
theorem ot_nd {h h' : Nat → Int32} {x g : Nat} (hF : h' (340 + x) = h (340 + x)) (hP : h' (255 + x) = 0) (hg : g = 4 ∨ g = 3) : ot_set h' x g = ot_set h x 4 := by
  by_cases z : h (340 + x) = 0
  · have hr : ot_set h x 4 = none := by rw [ot_set, ot_top50 h x (Nat.le_refl 4) z, ot_top_no h x (Nat.le_refl 4)]; rfl
    rw [hr]
    rcases hg with w | w
    · subst w
      rw [ot_set, ot_top50 h' x (Nat.le_refl 4) (by rw [hF]; exact z), ot_top_no h' x (Nat.le_refl 4)]; rfl
    · subst w
      rw [ot_set, ot_top50 h' x (by omega) (by rw [hF]; exact z), ot_top40 h' x (Nat.le_refl 3) hP, ot_top_no h' x (Nat.le_refl 3)]; rfl
  · by_cases w : h (340 + x) = 4
    · rw [ot_set54 (Nat.le_refl 4) w, ot_set54 (by omega) (by rw [hF]; exact w)]
    · rw [ot_set5 (Nat.le_refl 4) z w, ot_set5 (by omega) (by rw [hF]; exact z) (by rw [hF]; exact w)]
theorem ot_nd_st {h h' : Nat → Int32} {x g : Nat} (hr : ∀ j, ot_rg (h j)) (hF : h' (340 + x) = h (340 + x)) (hP : h' (255 + x) = 0) (hg : g = 4 ∨ g = 3) : (ot_st h x (some 4) = none ∧ ot_st h' x (some g) = none) ∨ (ot_st h x (some 4) = some 4 ∧ (ot_st h' x (some g) = some 4 ∨ ot_st h' x (some g) = some 3)) := by
  unfold ot_st
  dsimp only
  rw [ot_nd hF hP hg]
  cases hs : ot_set h x 4 with
  | none => exact Or.inl ⟨rfl, rfl⟩
  | some l =>
    have hl := ot_set_lt hs
    obtain rfl : l = 4 := by omega
    dsimp only
    have e1 : h' (85 * 4 + x) = h (85 * 4 + x) := hF
    rw [e1]
    have hl3 : ¬ h (340 + x) = 0 := hl.2.2.1
    have hl4 : ¬ h (340 + x) = 4 := hl.2.2.2
    by_cases w1 : h (85 * 4 + x) = 1
    · rw [if_pos w1, if_pos w1]; exact Or.inl ⟨rfl, rfl⟩
    · rw [if_neg w1, if_neg w1]
      have w1 : ¬ h (340 + x) = 1 := w1
      refine Or.inr ?_
      rw [ot_rai5 (Nat.le_refl 4), ot_rai5 (show g ≤ 4 by omega), hF]
      by_cases w3 : h (340 + x) = 3
      · rw [if_pos w3, if_pos w3]; exact ⟨rfl, Or.inl rfl⟩
      · rw [if_neg w3, if_neg w3, if_neg (not_or.mpr ⟨w1, hl4⟩), if_neg (not_or.mpr ⟨w1, hl4⟩), ot_rai_no h x (Nat.le_refl 4)]
        refine ⟨rfl, ?_⟩
        rcases hg with w | w
        · subst w; rw [ot_rai_no h' x (Nat.le_refl 4)]; exact Or.inl rfl
        · subst w; rw [ot_rai4 (Nat.le_refl 3), hP, if_neg (by decide), if_neg (by decide), ot_rai_no h' x (Nat.le_refl 3)]; exact Or.inr rfl
theorem ot_nd_vs {h h' ct ct' : Nat → Int32} {x g : Nat} (hF : h' (340 + x) = h (340 + x)) (hC : ct' (340 + x) = ct (340 + x)) (hP : h' (255 + x) = 0) (hg : g = 4 ∨ g = 3) : ot_vs h' ct' x (some g) = ot_vs h ct x (some 4) := by
  unfold ot_vs
  dsimp only
  rw [ot_nd hF hP hg]
  cases hs : ot_set h x 4 with
  | none => rfl
  | some l =>
    obtain rfl : l = 4 := by have := ot_set_lt hs; omega
    dsimp only
    have e1 : h' (85 * 4 + x) = h (85 * 4 + x) := hF
    have e2 : ct' (85 * 4 + x) = ct (85 * 4 + x) := hC
    rw [e1, e2]
def ot_pG (q : Nat) (h : Nat → Int32) : Prop := h 340 = 2 ∧ (∀ j, ot_rg (h j)) ∧ ot_J h ∧ ∀ b, 0 < b → b < q → h (340 + b) = 0
theorem ot_prs1V {h : Nat → Int32} (ct : Nat → Int32) {q : Nat} (hG : ot_pG q h) (hq0 : 0 < q) (hq : q < 85) : ot_pG (q + 1) (ot_prs1 h ct q).1 ∧ ∀ x, x < 85 → ot_vw (ot_prs1 h ct q).1 x = ot_vw h x ∧ ot_vl (ot_prs1 h ct q).1 (ot_prs1 h ct q).2 x = ot_vl h ct x := by
  obtain ⟨h0, hr, hJ, hZ⟩ := id hG
  have hpl := ot_par_lt hq0
  have hp84 := ot_par84 hq
  unfold ot_prs1
  by_cases c2 : h (340 + q) = 2
  · rw [if_pos c2]
    obtain ⟨hP1, hP4⟩ := hJ q hq0 hq c2
    rw [if_neg (not_or.mpr ⟨hP1, hP4⟩)]
    obtain ⟨v, hv⟩ : ∃ v : Int32, v = if h (255 + q) = 3 then 3 else 2 := ⟨_, rfl⟩
    rw [← hv]
    have hv23 : (v = 3 ∧ h (255 + q) = 3) ∨ (v = 2 ∧ ¬ h (255 + q) = 3) := by
      by_cases w : h (255 + q) = 3
      · rw [if_pos w] at hv; exact Or.inl ⟨hv, w⟩
      · rw [if_neg w] at hv; exact Or.inr ⟨hv, w⟩
    obtain ⟨g, hg⟩ : ∃ g, g = upd (upd h (255 + q) v) (340 + q) 0 := ⟨_, rfl⟩
    dsimp only
    rw [← hg]
    have gF : g (340 + q) = 0 := by rw [hg]; exact pk_us
    have gP : g (255 + q) = v := by rw [hg, pk_un (by omega)]; exact pk_us
    have go : ∀ j, ¬ j = 255 + q → ¬ j = 340 + q → g j = h j := fun j a b => by rw [hg, pk_un b, pk_un a]
    have gx : ∀ x, x < 85 → ¬ x = q → ∀ l, l < 5 → g (85 * l + x) = h (85 * l + x) := fun x hx hne l hl => go _ (by omega) (by omega)
    have g0 : g 340 = 2 := by rw [go 340 (by omega) (by omega)]; exact h0
    have gv : ¬ v = 0 ∧ ¬ v = 4 ∧ ¬ v = 1 := by
      rcases hv23 with w | w
      · rw [w.1]; decide
      · rw [w.1]; decide
    have gfl : ∀ x, x < 85 → ot_fl g x = ot_fl h x := by
      intro x
      induction x using Nat.strongRecOn with
      | ind x ih =>
        intro hx
        rcases Nat.eq_zero_or_pos x with z | z
        · subst z; rw [ot_fl_0, ot_fl_0]
        · rw [ot_flS g z, ot_flS h z, ih (ot_par x) (ot_par_lt z) (ot_par84 hx)]
          by_cases e : x = q
          · subst e
            cases hf : ot_fl h (ot_par x) with
            | none => rfl
            | some f =>
              have hf3 := ot_fl3 hZ hpl hf
              unfold ot_st
              dsimp only
              rw [ot_set4 hf3 gF (by rw [gP]; exact gv.1) (by rw [gP]; exact gv.2.1), ot_set5 (by omega) (by rw [c2]; decide) (by rw [c2]; decide)]
              show (if g (255 + x) = 1 then none else some (ot_rai g x 5 f)) = (if h (340 + x) = 1 then none else some (ot_rai h x 5 f))
              rw [if_neg (by rw [gP]; exact gv.2.2), if_neg (by rw [c2]; decide), ot_rai5 (by omega), ot_rai5 (by omega), gF, c2, if_neg (by decide), if_neg (by decide), if_neg (by decide), if_neg (by decide), ot_rai4 hf3, ot_rai4 hf3, gP]
              rcases hv23 with w | w
              · rw [w.1, w.2, if_pos rfl, if_pos rfl]
              · rw [w.1, if_neg (by decide), if_neg (by decide), if_neg w.2, if_neg (not_or.mpr ⟨hP1, hP4⟩), ot_rai_eq f (fun l hl => go _ (by omega) (by omega))]
          · exact ot_st_eq (gx x hx e) _
    refine ⟨⟨g0, ?_, ?_, ?_⟩, fun x hx => ?_⟩
    · rw [hg]
      refine ot_rg_upd (ot_rg_upd hr ?_) (Or.inl rfl)
      rcases hv23 with w | w
      · rw [w.1]; exact Or.inr (Or.inr (Or.inr (Or.inl rfl)))
      · rw [w.1]; exact Or.inr (Or.inr (Or.inl rfl))
    · intro x hx0 hx h2
      by_cases e : x = q
      · subst e; rw [gF] at h2; exact absurd h2 (by decide)
      · rw [go _ (by omega) (by omega)] at h2
        rw [go _ (by omega) (by omega)]
        exact hJ x hx0 hx h2
    · intro b hb0 hb
      by_cases e : b = q
      · subst e; exact gF
      · rw [go _ (by omega) (by omega)]
        exact hZ b hb0 (by omega)
    · rcases Nat.eq_zero_or_pos x with z | z
      · subst z
        rw [ot_vw_0 h0, ot_vw_0 g0, ot_vl_0 _ h0, ot_vl_0 _ g0]
        exact ⟨rfl, rfl⟩
      · rw [ot_vwS g ct z, ot_vwS h ct z, ot_vlS g ct z, ot_vlS h ct z, gfl (ot_par x) (ot_par84 hx)]
        by_cases e : x = q
        · subst e
          cases hf : ot_fl h (ot_par x) with
          | none => exact ⟨rfl, rfl⟩
          | some f =>
            have hf3 := ot_fl3 hZ hpl hf
            unfold ot_vs
            dsimp only
            rw [ot_set4 hf3 gF (by rw [gP]; exact gv.1) (by rw [gP]; exact gv.2.1), ot_set5 (by omega) (by rw [c2]; decide) (by rw [c2]; decide)]
            dsimp only
            rw [if_neg (show ¬ g (85 * 3 + x) = 1 by rw [show 85 * 3 + x = 255 + x from rfl, gP]; exact gv.2.2), if_neg (show ¬ h (85 * 4 + x) = 1 by rw [show 85 * 4 + x = 340 + x from rfl, c2]; decide)]
            exact ⟨rfl, rfl⟩
        · rw [ot_vs_eq (gx x hx e) (fun _ _ => rfl)]
          exact ⟨rfl, rfl⟩
  · rw [if_neg c2]
    by_cases c0 : h (340 + q) = 0
    · rw [if_pos c0]
      have e : upd h (340 + q) 0 = h := by
        funext j
        by_cases e : j = 340 + q
        · subst e; rw [pk_us]; exact c0.symm
        · exact pk_un e
      dsimp only
      rw [e]
      refine ⟨⟨h0, hr, hJ, fun b hb0 hb => ?_⟩, fun _ _ => ⟨rfl, rfl⟩⟩
      by_cases e : b = q
      · subst e; exact c0
      · exact hZ b hb0 (by omega)
    · rw [if_neg c0]
      obtain ⟨s, hs⟩ : ∃ s, s = h (340 + q) := ⟨_, rfl⟩
      rw [← hs] at c2 c0 ⊢
      have hs134 : s = 1 ∨ s = 3 ∨ s = 4 := by
        rcases hr (340 + q) with w | w | w | w | w <;> rw [← hs] at w
        · exact absurd w c0
        · exact Or.inl w
        · exact absurd w c2
        · exact Or.inr (Or.inl w)
        · exact Or.inr (Or.inr w)
      obtain ⟨g, hg⟩ : ∃ g, g = upd (upd (ot_clr 255 q (84 - q) (q + 1) h) (255 + q) s) (340 + q) 0 := ⟨_, rfl⟩
      obtain ⟨d, hd⟩ : ∃ d, d = upd ct (255 + q) (ct (340 + q)) := ⟨_, rfl⟩
      dsimp only
      rw [← hg, ← hd]
      have gF : g (340 + q) = 0 := by rw [hg]; exact pk_us
      have gP : g (255 + q) = s := by rw [hg, pk_un (by omega)]; exact pk_us
      have gout : ∀ j, ¬ j = 255 + q → ¬ j = 340 + q → (j < 255 ∨ 340 ≤ j) → g j = h j := fun j a b c => by rw [hg, pk_un b, pk_un a, ot_clrK_out hq (by omega)]
      have gin : ∀ x, x < 85 → ot_und 3 x q = true → g (255 + x) = 0 := by
        intro x hx hu
        have := ot_und_lt hu
        rw [hg, pk_un (by omega), pk_un (by omega)]
        exact ot_clrK_in hq hx hu h
      have gun : ∀ x, x < 85 → ¬ ot_on q x → g (255 + x) = h (255 + x) := by
        intro x hx hn
        rw [hg, pk_un (by omega), pk_un (fun z => hn (Or.inl (by omega)))]
        exact ot_clrK_un hq (fun z => hn (Or.inr z)) h
      have gx : ∀ x, 0 < x → x < 85 → ¬ ot_on q x → ∀ l, l < 5 → g (85 * l + x) = h (85 * l + x) := by
        intro x _ hx hn l hl
        have hne : ¬ x = q := fun z => hn (Or.inl z)
        by_cases e : l = 3
        · subst e; exact gun x hx hn
        · exact gout _ (by omega) (by omega) (by omega)
      have dx : ∀ x, 0 < x → x < 85 → ¬ ot_on q x → ∀ l, l < 5 → d (85 * l + x) = ct (85 * l + x) := by
        intro x _ hx hn l hl
        have hne : ¬ x = q := fun z => hn (Or.inl z)
        rw [hd, pk_un (by omega)]
      have g0 : g 340 = 2 := by rw [gout 340 (by omega) (by omega) (by omega)]; exact h0
      have hnp : ¬ ot_on q (ot_par q) := fun w => absurd (ot_on_le w) (by omega)
      have gfp : ot_fl g (ot_par q) = ot_fl h (ot_par q) := ot_loc gx _ hp84 hnp
      have gu4 : ∀ x, x < 85 → ot_und 3 x q = true → g (340 + x) = h (340 + x) := by
        intro x hx hu
        have := ot_und_lt hu
        exact gout _ (by omega) (by omega) (by omega)
      have du4 : ∀ x, x < 85 → ot_und 3 x q = true → d (340 + x) = ct (340 + x) := by
        intro x hx hu
        rw [hd, pk_un (by omega)]
      -- the floors at q and under it
      have hrel : ∀ x, x < 85 → ot_on q x → (ot_fl h x = none ∧ ot_fl g x = none) ∨ (ot_fl h x = some 4 ∧ (ot_fl g x = some 4 ∨ ot_fl g x = some 3)) := by
        intro x
        induction x using Nat.strongRecOn with
        | ind x ih =>
          intro hx ho
          have z : 0 < x := by have := ot_on_le ho; omega
          rw [ot_flS g z, ot_flS h z]
          rcases ho with e | e
          · subst e
            rw [gfp]
            cases hf : ot_fl h (ot_par x) with
            | none => exact Or.inl ⟨rfl, rfl⟩
            | some f =>
              have hf3 := ot_fl3 hZ hpl hf
              unfold ot_st
              dsimp only
              rcases hs134 with w | w | w
              · rw [ot_set4 hf3 gF (by rw [gP, w]; decide) (by rw [gP, w]; decide), ot_set5 (by omega) (by rw [← hs, w]; decide) (by rw [← hs, w]; decide)]
                dsimp only
                rw [if_pos (show g (85 * 3 + x) = 1 by rw [show 85 * 3 + x = 255 + x from rfl, gP]; exact w), if_pos (show h (85 * 4 + x) = 1 by rw [show 85 * 4 + x = 340 + x from rfl, ← hs]; exact w)]
                exact Or.inl ⟨rfl, rfl⟩
              · rw [ot_set4 hf3 gF (by rw [gP, w]; decide) (by rw [gP, w]; decide), ot_set5 (by omega) (by rw [← hs, w]; decide) (by rw [← hs, w]; decide)]
                dsimp only
                rw [if_neg (show ¬ g (85 * 3 + x) = 1 by rw [show 85 * 3 + x = 255 + x from rfl, gP, w]; decide), if_neg (show ¬ h (85 * 4 + x) = 1 by rw [show 85 * 4 + x = 340 + x from rfl, ← hs, w]; decide)]
                rw [ot_rai5 (show f ≤ 4 by omega), ot_rai5 (show f ≤ 4 by omega), ← hs, w, if_pos rfl, gF, if_neg (by decide), if_neg (by decide), ot_rai4 hf3, gP, w, if_pos rfl]
                exact Or.inr ⟨rfl, Or.inr rfl⟩
              · rw [ot_set44 hf3 gF (by rw [gP]; exact w), ot_set54 (by omega) (by rw [← hs]; exact w)]
                exact Or.inl ⟨rfl, rfl⟩
          · rcases ih (ot_par x) (ot_par_lt z) (ot_par84 hx) (ot_und_dn e) with ⟨w1, w2⟩ | ⟨w1, w2⟩
            · rw [w1, w2]; exact Or.inl ⟨rfl, rfl⟩
            · rw [w1]
              rcases w2 with w2 | w2
              · rw [w2]; exact ot_nd_st hr (gu4 x hx e) (gin x hx e) (Or.inl rfl)
              · rw [w2]; exact ot_nd_st hr (gu4 x hx e) (gin x hx e) (Or.inr rfl)
      refine ⟨⟨g0, ?_, ?_, ?_⟩, fun x hx => ?_⟩
      · rw [hg]
        exact ot_rg_upd (ot_rg_upd (ot_clrK_rg hq hr) (by rw [hs]; exact hr _)) (Or.inl rfl)
      · intro x hx0 hx h2
        by_cases e : x = q
        · subst e; rw [gF] at h2; exact absurd h2 (by decide)
        · rw [gout _ (by omega) (by omega) (by omega)] at h2
          by_cases hu : ot_und 3 x q = true
          · rw [gin x hx hu]; exact ⟨by decide, by decide⟩
          · rw [gun x hx (fun z => z.elim e hu)]
            exact hJ x hx0 hx h2
      · intro b hb0 hb
        by_cases e : b = q
        · subst e; exact gF
        · rw [gout _ (by omega) (by omega) (by omega)]
          exact hZ b hb0 (by omega)
      · by_cases ho : ot_on q x
        · have z : 0 < x := by have := ot_on_le ho; omega
          rw [ot_vwS g d z, ot_vwS h ct z, ot_vlS g d z, ot_vlS h ct z]
          rcases ho with e | e
          · subst e
            rw [gfp]
            cases hf : ot_fl h (ot_par x) with
            | none => exact ⟨rfl, rfl⟩
            | some f =>
              have hf3 := ot_fl3 hZ hpl hf
              unfold ot_vs
              dsimp only
              rcases hs134 with w | w | w
              · rw [ot_set4 hf3 gF (by rw [gP, w]; decide) (by rw [gP, w]; decide), ot_set5 (by omega) (by rw [← hs, w]; decide) (by rw [← hs, w]; decide)]
                dsimp only
                rw [if_pos (show g (85 * 3 + x) = 1 by rw [show 85 * 3 + x = 255 + x from rfl, gP]; exact w), if_pos (show h (85 * 4 + x) = 1 by rw [show 85 * 4 + x = 340 + x from rfl, ← hs]; exact w)]
                refine ⟨rfl, ?_⟩
                show d (255 + x) = ct (340 + x)
                rw [hd]; exact pk_us
              · rw [ot_set4 hf3 gF (by rw [gP, w]; decide) (by rw [gP, w]; decide), ot_set5 (by omega) (by rw [← hs, w]; decide) (by rw [← hs, w]; decide)]
                dsimp only
                rw [if_neg (show ¬ g (85 * 3 + x) = 1 by rw [show 85 * 3 + x = 255 + x from rfl, gP, w]; decide), if_neg (show ¬ h (85 * 4 + x) = 1 by rw [show 85 * 4 + x = 340 + x from rfl, ← hs, w]; decide)]
                exact ⟨rfl, rfl⟩
              · rw [ot_set44 hf3 gF (by rw [gP]; exact w), ot_set54 (by omega) (by rw [← hs]; exact w)]
                exact ⟨rfl, rfl⟩
          · rcases hrel (ot_par x) (ot_par84 hx) (ot_und_dn e) with ⟨w1, w2⟩ | ⟨w1, w2⟩
            · rw [w1, w2]; exact ⟨rfl, rfl⟩
            · rw [w1]
              rcases w2 with w2 | w2
              · rw [w2, ot_nd_vs (gu4 x hx e) (du4 x hx e) (gin x hx e) (Or.inl rfl)]; exact ⟨rfl, rfl⟩
              · rw [w2, ot_nd_vs (gu4 x hx e) (du4 x hx e) (gin x hx e) (Or.inr rfl)]; exact ⟨rfl, rfl⟩
        · exact ot_locV h0 g0 gx dx hx ho
theorem ot_prsV : ∀ (m q : Nat) (h ct : Nat → Int32), q + m = 85 → 0 < q → ot_pG q h → ot_pG 85 (ot_prs m q h ct).1 ∧ ∀ x, x < 85 → ot_vw (ot_prs m q h ct).1 x = ot_vw h x ∧ ot_vl (ot_prs m q h ct).1 (ot_prs m q h ct).2 x = ot_vl h ct x := by
  intro m
  induction m with
  | zero =>
    intro q h ct e _ hG
    obtain rfl : q = 85 := by omega
    exact ⟨hG, fun _ _ => ⟨rfl, rfl⟩⟩
  | succ m ih =>
    intro q h ct e hq0 hG
    obtain ⟨g1, g2⟩ := ot_prs1V ct hG hq0 (by omega)
    obtain ⟨i1, i2⟩ := ih (q + 1) (ot_prs1 h ct q).1 (ot_prs1 h ct q).2 (by omega) (by omega) g1
    rw [ot_prs]
    exact ⟨i1, fun x hx => ⟨(i2 x hx).1.trans (g2 x hx).1, (i2 x hx).2.trans (g2 x hx).2⟩⟩
theorem ot_prs_inv {h : Nat → Int32} (ct : Nat → Int32) (hi : ot_inv h) : ot_inv (ot_prs 84 1 h ct).1 ∧ ∀ x, x < 85 → ot_vw (ot_prs 84 1 h ct).1 x = ot_vw h x ∧ ot_vl (ot_prs 84 1 h ct).1 (ot_prs 84 1 h ct).2 x = ot_vl h ct x := by
  obtain ⟨h0, hr, hFC, hJ⟩ := hi
  obtain ⟨⟨g1, g2, g3, g4⟩, g5⟩ := ot_prsV 84 1 h ct rfl (by omega) ⟨h0, hr, hJ, fun b hb0 hb => absurd hb (by omega)⟩
  exact ⟨⟨g1, g2, fun q hq0 hq hn => absurd (g4 q hq0 hq) hn, g3⟩, g5⟩
end
section
/-! ===== mounting: the layers merged are what is seen ===== -/
def ot_bl (x : Int32) : Prop := x = 1 ∨ x = 3 ∨ x = 4
theorem ot_rai_spec (h : Nat → Int32) (q : Nat) : ∀ n f : Nat, (ot_rai h q n f = f ∧ ∀ l, f ≤ l → l < n → ¬ ot_bl (h (85 * l + q))) ∨ ∃ l, f ≤ l ∧ l < n ∧ (∀ j, l < j → j < n → ¬ ot_bl (h (85 * j + q))) ∧ ((h (85 * l + q) = 3 ∧ ot_rai h q n f = l) ∨ ((h (85 * l + q) = 1 ∨ h (85 * l + q) = 4) ∧ ot_rai h q n f = l + 1)) := by
  intro n
  induction n with
  | zero => intro f; exact Or.inl ⟨rfl, fun l _ hl => absurd hl (by omega)⟩
  | succ n ih =>
    intro f
    unfold ot_rai
    by_cases c : n < f
    · rw [if_pos c]
      exact Or.inl ⟨rfl, fun l h1 h2 => absurd h2 (by omega)⟩
    · rw [if_neg c]
      by_cases c3 : h (85 * n + q) = 3
      · rw [if_pos c3]
        exact Or.inr ⟨n, by omega, by omega, fun j h1 h2 => absurd h2 (by omega), Or.inl ⟨c3, rfl⟩⟩
      · rw [if_neg c3]
        by_cases c14 : h (85 * n + q) = 1 ∨ h (85 * n + q) = 4
        · rw [if_pos c14]
          exact Or.inr ⟨n, by omega, by omega, fun j h1 h2 => absurd h2 (by omega), Or.inr ⟨c14, rfl⟩⟩
        · rw [if_neg c14]
          have hn : ¬ ot_bl (h (85 * n + q)) := by
            rintro (w | w | w)
            · exact c14 (Or.inl w)
            · exact c3 w
            · exact c14 (Or.inr w)
          rcases ih f with ⟨e, g⟩ | ⟨l, a, b, g, e⟩
          · refine Or.inl ⟨e, fun l h1 h2 => ?_⟩
            by_cases z : l = n
            · subst z; exact hn
            · exact g l h1 (by omega)
          · refine Or.inr ⟨l, a, by omega, fun j h1 h2 => ?_, e⟩
            by_cases z : j = n
            · subst z; exact hn
            · exact g j h1 (by omega)
/-- layer l hides, at a or above it, what lies below it -/
def ot_hb (h : Nat → Int32) (l a : Nat) : Prop := ∃ b, 0 < b ∧ ot_cb b a ∧ ot_bl (h (85 * l + b))
theorem ot_hb_par {h : Nat → Int32} {l a : Nat} (w : ot_hb h l (ot_par a)) : ot_hb h l a := by
  obtain ⟨b, h1, h2, h3⟩ := w
  exact ⟨b, h1, ot_cb_par h2, h3⟩
theorem ot_hb_self {h : Nat → Int32} {l a : Nat} (ha : 0 < a) (w : ot_bl (h (85 * l + a))) : ot_hb h l a := ⟨a, ha, ⟨0, rfl⟩, w⟩
theorem ot_hb_cases {h : Nat → Int32} {l a : Nat} (w : ot_hb h l a) : (0 < a ∧ ot_bl (h (85 * l + a))) ∨ ot_hb h l (ot_par a) := by
  obtain ⟨b, h1, h2, h3⟩ := w
  rcases ot_cb_cases h2 with e | e
  · subst e; exact Or.inl ⟨h1, h3⟩
  · exact Or.inr ⟨b, h1, e, h3⟩
theorem ot_hid_iff {ls_ h : Nat → Int32} {l : Nat} (e : ∀ q, 0 < q → q < 85 → ls_ (85 * l + q) = h (85 * l + q)) : ∀ (n q : Nat), q ≤ n → q < 85 → 0 < q → (ot_hid ls_ l n q = true ↔ ot_hb h l (ot_par q)) := by
  intro n
  induction n with
  | zero => intro q h1 _ h2; omega
  | succ n ih =>
    intro q h1 hq h2
    have hp := ot_par_lt h2
    have hp84 := ot_par84 hq
    rw [ot_hid, if_neg (by omega)]
    rcases Nat.eq_zero_or_pos (ot_par q) with z | z
    · rw [if_neg (fun w => absurd w.1 (by omega)), z]
      constructor
      · intro w
        cases n with
        | zero => simp [ot_hid] at w
        | succ n => rw [ot_hid, if_pos rfl] at w; cases w
      · rintro ⟨b, b1, b2, -⟩
        exact absurd (ot_cb_le b2) (by omega)
    · rw [e _ z hp84]
      by_cases c : ot_bl (h (85 * l + ot_par q))
      · rw [if_pos ⟨z, c⟩]
        exact ⟨fun _ => ot_hb_self z c, fun _ => rfl⟩
      · rw [if_neg (fun w => c w.2), ih (ot_par q) (by omega) hp84 z]
        constructor
        · exact ot_hb_par
        · intro w
          rcases ot_hb_cases w with ⟨-, y⟩ | y
          · exact absurd y c
          · exact y
/-- the start's layers: three are filled, two are empty; what a layer holds has its parent there -/
def ot_lay (h : Nat → Int32) : Prop := (∀ j, ot_rg (h j)) ∧ (∀ l, l < 5 → h (85 * l) = 2) ∧ (∀ q, 0 < q → q < 85 → h (255 + q) = 0 ∧ h (340 + q) = 0) ∧ ∀ l, l < 3 → ∀ q, 0 < q → q < 85 → ¬ h (85 * l + q) = 0 → ot_par q = 0 ∨ h (85 * l + ot_par q) = 2 ∨ h (85 * l + ot_par q) = 3
theorem ot_lay_hi {h : Nat → Int32} (hy : ot_lay h) {l q : Nat} (hl : l < 5) (hq0 : 0 < q) (hq : q < 85) (hn : ¬ h (85 * l + q) = 0) : l < 3 := by
  rcases (show l < 3 ∨ l = 3 ∨ l = 4 by omega) with z | z | z
  · exact z
  · subst z; exact absurd (hy.2.2.1 q hq0 hq).1 hn
  · subst z; exact absurd (hy.2.2.1 q hq0 hq).2 hn
theorem ot_floor {h : Nat → Int32} (hy : ot_lay h) : ∀ {a f : Nat}, a < 85 → ot_fl h a = some f → (∀ l, l < 3 → ot_hb h l a → l ≤ f) ∧ ∀ l, l < f → (∃ j, l < j ∧ j < 3 ∧ ot_hb h j a) ∨ (ot_hb h l a ∧ ∀ c, 0 < c → c < 85 → ot_par c = a → h (85 * l + c) = 0) := by
  intro a
  induction a using Nat.strongRecOn with
  | ind a ih =>
    intro f ha e
    rcases Nat.eq_zero_or_pos a with z | z
    · subst z
      rw [ot_fl_0] at e
      cases e
      refine ⟨?_, fun l hl => absurd hl (by omega)⟩
      rintro l _ ⟨b, b1, b2, -⟩
      exact absurd (ot_cb_le b2) (by omega)
    · rw [ot_flS h z] at e
      unfold ot_st at e
      split at e
      · cases e
      · rename_i g hg
        obtain ⟨i1, i2⟩ := ih (ot_par a) (ot_par_lt z) (ot_par84 ha) hg
        split at e
        · cases e
        · split at e
          · cases e
          · cases e
            have up : ∀ l, l < g → (∃ j, l < j ∧ j < 3 ∧ ot_hb h j a) ∨ (ot_hb h l a ∧ ∀ c, 0 < c → c < 85 → ot_par c = a → h (85 * l + c) = 0) := by
              intro l hl
              rcases i2 l hl with ⟨j, j1, j2, j3⟩ | ⟨j1, j2⟩
              · exact Or.inl ⟨j, j1, j2, ot_hb_par j3⟩
              · refine Or.inr ⟨ot_hb_par j1, fun c hc0 hc ec => ?_⟩
                by_cases w : h (85 * l + c) = 0
                · exact w
                · have hg4 := ot_fl4 hg
                  have hl3 := ot_lay_hi hy (l := l) (by omega) hc0 hc w
                  have h0 := j2 a z ha rfl
                  rcases hy.2.2.2 l hl3 c hc0 hc w with y | y
                  · omega
                  · rw [ec, h0] at y
                    exact y.elim (fun y => absurd y (by decide)) (fun y => absurd y (by decide))
            have hbn : ∀ l, l < 5 → ot_bl (h (85 * l + a)) → l < 3 := fun l hl w => ot_lay_hi hy hl z ha (by rcases w with w | w | w <;> (rw [w]; decide))
            rcases ot_rai_spec h a 5 g with ⟨r1, r2⟩ | ⟨n, n1, n2, n3, n4⟩
            · rw [r1]
              refine ⟨fun l hl w => ?_, up⟩
              rcases ot_hb_cases w with ⟨-, y⟩ | y
              · rcases Nat.lt_or_ge l g with x | x
                · omega
                · exact absurd y (r2 l x (by omega))
              · exact i1 l hl y
            · have hbl : ot_bl (h (85 * n + a)) := by
                rcases n4 with ⟨y, -⟩ | ⟨y | y, -⟩
                · exact Or.inr (Or.inl y)
                · exact Or.inl y
                · exact Or.inr (Or.inr y)
              have hn3 := hbn n n2 hbl
              have hge : n ≤ ot_rai h a 5 g := by rcases n4 with ⟨-, y⟩ | ⟨-, y⟩ <;> omega
              refine ⟨fun l hl w => ?_, fun l hl => ?_⟩
              · rcases ot_hb_cases w with ⟨-, y⟩ | y
                · rcases Nat.lt_or_ge n l with x | x
                  · exact absurd y (n3 l x (by omega))
                  · omega
                · have := i1 l hl y; omega
              · rcases Nat.lt_or_ge l n with x | x
                · exact Or.inl ⟨n, x, hn3, ot_hb_self z hbl⟩
                · rcases n4 with ⟨-, y⟩ | ⟨y1, y⟩
                  · omega
                  · obtain rfl : l = n := by omega
                    refine Or.inr ⟨ot_hb_self z hbl, fun c hc0 hc ec => ?_⟩
                    by_cases w : h (85 * l + c) = 0
                    · exact w
                    · rcases hy.2.2.2 l hn3 c hc0 hc w with u | u
                      · omega
                      · rw [ec] at u
                        rcases y1 with y1 | y1 <;> (rw [y1] at u; exact u.elim (fun u => absurd u (by decide)) (fun u => absurd u (by decide)))
def ot_mrT (h lv_ : Nat → Int32) (q : Nat) (o : Option Nat) (so va : Nat → Int32) : (Nat → Int32) × (Nat → Int32) := match o with
  | none => (so, va)
  | some l => if h (85 * l + q) = 1 then (upd so q 1, upd va q (lv_ (85 * l + q))) else (upd so q 2, va)
theorem ot_mrg_eq {h ls_ lv_ : Nat → Int32} (hy : ot_lay h) (e : ∀ l, l < 3 → ∀ q, 0 < q → q < 85 → ls_ (85 * l + q) = h (85 * l + q)) {q f : Nat} (hq0 : 0 < q) (hq : q < 85) (hf : ot_fl h (ot_par q) = some f) (so va : Nat → Int32) : ∀ n, n ≤ 3 → (∀ l, n ≤ l → l < 3 → ¬ ot_hb h l (ot_par q)) → ot_mrg ls_ lv_ q n so va = ot_mrT h lv_ q (ot_hole h q (ot_top h q n f)) so va := by
  obtain ⟨F1, F2⟩ := ot_floor hy (ot_par84 hq) hf
  intro n
  induction n with
  | zero => intro _ _; rfl
  | succ n ih =>
    intro hn hB
    have en := e n (by omega) q hq0 hq
    have hid := ot_hid_iff (l := n) (e n (by omega)) 84 q (by omega) hq hq0
    rw [ot_mrg, en]
    by_cases c0 : h (85 * n + q) = 0
    · rw [if_pos c0]
      have ht : ot_top h q (n + 1) f = ot_top h q n f := by
        rw [ot_top]
        by_cases c : n < f
        · rw [if_pos c, ot_top_no h q (by omega)]
        · rw [if_neg c, if_pos c0]
      rw [ht]
      by_cases c : ot_hb h n (ot_par q)
      · rw [if_pos (hid.mpr c), ot_top_no h q (F1 n (by omega) c)]
        rfl
      · rw [if_neg (fun w => c (hid.mp w))]
        refine ih (by omega) (fun l h1 h2 => ?_)
        by_cases z : l = n
        · subst z; exact c
        · exact hB l (by omega) h2
    · rw [if_neg c0]
      have hfn : ¬ n < f := by
        intro w
        rcases F2 n w with ⟨j, j1, j2, j3⟩ | ⟨-, j2⟩
        · exact hB j (by omega) j2 j3
        · exact c0 (j2 q hq0 hq rfl)
      have ht : ot_top h q (n + 1) f = some n := by rw [ot_top, if_neg hfn, if_neg c0]
      rw [ht]
      show _ = ot_mrT h lv_ q (if h (85 * n + q) = 4 then none else some n) so va
      by_cases c4 : h (85 * n + q) = 4
      · rw [if_pos c4, c4, if_neg (by decide), if_neg (by decide)]
        rfl
      · rw [if_neg c4]
        show _ = if h (85 * n + q) = 1 then (upd so q 1, upd va q (lv_ (85 * n + q))) else (upd so q 2, va)
        by_cases c1 : h (85 * n + q) = 1
        · rw [if_pos c1, if_pos c1]
        · rw [if_neg c1, if_neg c1, if_pos]
          rcases hy.1 (85 * n + q) with w | w | w | w | w
          · exact absurd w c0
          · exact absurd w c1
          · exact Or.inl w
          · exact Or.inr w
          · exact absurd w c4
theorem ot_lay_inv {h : Nat → Int32} (hy : ot_lay h) : ot_inv h := ⟨hy.2.1 4 (by omega), hy.1, fun q hq0 hq hn => absurd (hy.2.2.1 q hq0 hq).2 hn, fun q hq0 hq h2 => by rw [(hy.2.2.1 q hq0 hq).2] at h2; exact absurd h2 (by decide)⟩
/-- one path is merged -/
theorem ot_mrg1V {h ct ls_ lv_ so va : Nat → Int32} (hy : ot_lay h) (e : ∀ l, l < 3 → ∀ q, 0 < q → q < 85 → ls_ (85 * l + q) = h (85 * l + q)) (ev : ∀ l, l < 3 → ∀ q, 0 < q → q < 85 → h (85 * l + q) = 1 → lv_ (85 * l + q) = ct (85 * l + q)) {q : Nat} (hq0 : 0 < q) (hq : q < 85) (hp : so (ot_par q) = ot_vw h (ot_par q)) (hs : so q = 0) :
    (∀ x, ¬ x = q → (ot_mrg1 ls_ lv_ q so va).1 x = so x ∧ (ot_mrg1 ls_ lv_ q so va).2 x = va x) ∧ (ot_mrg1 ls_ lv_ q so va).1 q = ot_vw h q ∧ (ot_vw h q = 1 → (ot_mrg1 ls_ lv_ q so va).2 q = ot_vl h ct q) := by
  have hi := ot_lay_inv hy
  unfold ot_mrg1
  by_cases c : so (ot_par q) = 2
  · rw [if_pos c]
    obtain ⟨f, hf⟩ := (ot_vw_fl hi.1).mp (hp.symm.trans c)
    have hf3 : f ≤ 3 := ot_fl3 (q := 85) (fun b hb0 hb => (hy.2.2.1 b hb0 hb).2) (ot_par84 hq) hf
    have hset : ot_set h q f = ot_hole h q (ot_top h q 3 f) := by
      rw [ot_set, ot_top50 h q (by omega) (hy.2.2.1 q hq0 hq).2]
      rw [ot_top40 h q hf3 (hy.2.2.1 q hq0 hq).1]
    rw [ot_mrg_eq hy e hq0 hq hf so va 3 (Nat.le_refl 3) (fun l h1 h2 => absurd h2 (by omega)), ← hset, ot_vwS h ct hq0, ot_vlS h ct hq0, hf]
    unfold ot_mrT ot_vs
    dsimp only
    cases hz : ot_set h q f with
    | none => exact ⟨fun x _ => ⟨rfl, rfl⟩, hs, fun w => absurd (show (0 : Int32) = 1 from w) (by decide)⟩
    | some l =>
      dsimp only
      by_cases c1 : h (85 * l + q) = 1
      · rw [if_pos c1, if_pos c1]
        have hl := ot_set_lt hz
        refine ⟨fun x hx => ⟨pk_un hx, pk_un hx⟩, pk_us, fun _ => ?_⟩
        show upd va q (lv_ (85 * l + q)) q = ct (85 * l + q)
        rw [pk_us]
        exact ev l (ot_lay_hi hy hl.2.1 hq0 hq hl.2.2.1) q hq0 hq c1
      · rw [if_neg c1, if_neg c1]
        exact ⟨fun x hx => ⟨pk_un hx, rfl⟩, pk_us, fun w => absurd (show (2 : Int32) = 1 from w) (by decide)⟩
  · rw [if_neg c]
    have h2 := ot_vw_par0 ct hi.1 hq0 (fun w => c (hp.trans w))
    exact ⟨fun x _ => ⟨rfl, rfl⟩, hs.trans h2.1.symm, fun w => by rw [h2.1] at w; exact absurd w (by decide)⟩
theorem ot_mntV {h ct ls_ lv_ : Nat → Int32} (hy : ot_lay h) (e : ∀ l, l < 3 → ∀ q, 0 < q → q < 85 → ls_ (85 * l + q) = h (85 * l + q)) (ev : ∀ l, l < 3 → ∀ q, 0 < q → q < 85 → h (85 * l + q) = 1 → lv_ (85 * l + q) = ct (85 * l + q)) : ∀ (m q : Nat) (so va : Nat → Int32), q + m = 85 → 0 < q → (∀ x, x < q → so x = ot_vw h x ∧ (ot_vw h x = 1 → va x = ot_vl h ct x)) → (∀ x, q ≤ x → x < 85 → so x = 0) → ∀ x, x < 85 → (ot_mnt ls_ lv_ m q so va).1 x = ot_vw h x ∧ (ot_vw h x = 1 → (ot_mnt ls_ lv_ m q so va).2 x = ot_vl h ct x) := by
  intro m
  induction m with
  | zero => intro q so va hq _ h1 _ x hx; exact h1 x (by omega)
  | succ m ih =>
    intro q so va hq hq0 h1 h2
    rw [ot_mnt]
    obtain ⟨a1, a2, a3⟩ := ot_mrg1V (va := va) hy e ev hq0 (by omega) (h1 _ (ot_par_lt hq0)).1 (h2 q (Nat.le_refl q) (by omega))
    refine ih (q + 1) _ _ (by omega) (by omega) (fun x hx => ?_) (fun x hx1 hx2 => ?_)
    · by_cases z : x = q
      · subst z; exact ⟨a2, a3⟩
      · rw [(a1 x z).1, (a1 x z).2]
        exact h1 x (by omega)
    · rw [(a1 x (by omega)).1]
      exact h2 x (by omega) hx2
/-! ===== counting ===== -/
theorem ot_tot_eq {f so : Nat → Int32} (hf : ∀ x, f x = 0 ∨ f x = 1 ∨ f x = 2) (e : ∀ x, x < 85 → so x = f x) : ∀ m q n, q + m ≤ 85 → ot_cnt f m q n = ot_cntM so m q n := by
  intro m
  induction m with
  | zero => intro q n _; rfl
  | succ m ih =>
    intro q n hq
    rw [ot_cnt, ot_cntM, e q (by omega), ih (q + 1) _ (by omega)]
    by_cases c : f q = 0
    · rw [if_pos c, if_pos ((ot_le0 (hf q)).mpr c)]
    · rw [if_neg c, if_neg (fun w => c ((ot_le0 (hf q)).mp w))]
theorem ot_cntK_no {so : Nat → Int32} {k : Nat} : ∀ m q n, (∀ p, q ≤ p → p < q + m → ¬ ot_par p = k) → ot_cntK so k m q n = n := by
  intro m
  induction m with
  | zero => intro q n _; rfl
  | succ m ih =>
    intro q n hp
    rw [ot_cntK, ih (q + 1) _ (fun p h1 h2 => hp p (by omega) (by omega)), if_neg (hp q (by omega) (by omega))]
    split <;> rfl
theorem ot_cntK_add {so : Nat → Int32} {k : Nat} : ∀ m1 m2 q n, ot_cntK so k (m1 + m2) q n = ot_cntK so k m2 (q + m1) (ot_cntK so k m1 q n) := by
  intro m1
  induction m1 with
  | zero => intro m2 q n; rw [Nat.zero_add]; rfl
  | succ m1 ih =>
    intro m2 q n
    rw [show m1 + 1 + m2 = (m1 + m2) + 1 by omega, ot_cntK, ih, ot_cntK, show q + 1 + m1 = q + (m1 + 1) by omega]
theorem ot_ent_eq {f so : Nat → Int32} (hf : ∀ x, f x = 0 ∨ f x = 1 ∨ f x = 2) (e : ∀ x, x < 85 → so x = f x) {k : Nat} (hk : k < 85) : ot_cntE f 4 (4 * k + 1) 0 = ot_cntK so k 84 1 0 := by
  by_cases c : k ≤ 20
  · have h1 : ot_cntK so k 84 1 0 = ot_cntK so k 4 (4 * k + 1) 0 := by
      rw [show 84 = 4 * k + (4 + (80 - 4 * k)) by omega, ot_cntK_add, ot_cntK_add, ot_cntK_no (4 * k) 1 0 (fun p a b => by unfold ot_par; omega), ot_cntK_no (80 - 4 * k) _ _ (fun p a b => by unfold ot_par; omega), Nat.add_comm 1 (4 * k)]
    have st : ∀ m q n, 4 * k + 1 ≤ q → q + m = 4 * k + 5 → ot_cntE f m q n = ot_cntK so k m q n := by
      intro m
      induction m with
      | zero => intro q n _ _; rfl
      | succ m ih =>
        intro q n hq1 hq2
        rw [ot_cntE, ot_cntK, if_neg (by omega), e q (by omega), ih (q + 1) _ (by omega) (by omega), if_pos (show ot_par q = k by unfold ot_par; omega)]
        by_cases c : f q = 0
        · rw [if_pos c, if_pos ((ot_le0 (hf q)).mpr c)]
        · rw [if_neg c, if_neg (fun w => c ((ot_le0 (hf q)).mp w))]
    rw [h1, st 4 _ _ (Nat.le_refl _) rfl]
  · rw [ot_cntK_no 84 1 0 (fun p a b => by unfold ot_par; omega), ot_cntE, if_pos (by omega)]
theorem ot_cntK_le {so : Nat → Int32} {k : Nat} : ∀ m q n, ot_cntK so k m q n ≤ n + m := by
  intro m
  induction m with
  | zero => intro q n; exact Nat.le_refl _
  | succ m ih =>
    intro q n
    rw [ot_cntK]
    refine Nat.le_trans (ih _ _) ?_
    split
    · omega
    · split <;> omega
/-- some child is there, or none is counted -/
theorem ot_kid_cnt {so : Nat → Int32} {k : Nat} : ∀ m q n, (ot_kid so k m q = true ↔ n < ot_cntK so k m q n) ∧ n ≤ ot_cntK so k m q n := by
  intro m
  induction m with
  | zero => intro q n; simp [ot_kid, ot_cntK]
  | succ m ih =>
    intro q n
    rw [ot_kid, ot_cntK]
    by_cases c : so q = 0
    · rw [if_pos c, if_pos c]; exact ih (q + 1) n
    · rw [if_neg c, if_neg c]
      by_cases c2 : ot_par q = k
      · rw [if_pos c2, if_pos c2]
        have := (ih (q + 1) (n + 1)).2
        exact ⟨⟨fun _ => by omega, fun _ => rfl⟩, by omega⟩
      · rw [if_neg c2, if_neg c2]; exact ih (q + 1) n
end
section
set_option maxRecDepth 100000
/-! ===== class and reference, side by side ===== -/
/-- mounted: the reference holds what is seen -/
def ot_M (h ct so va : Nat → Int32) : Prop := ot_inv h ∧ ∀ q, q < 85 → so q = ot_vw h q ∧ (so q = 1 → va q = ot_vl h ct q)
/-- not mounted: the same layers -/
def ot_U (h ct ls_ lv_ so : Nat → Int32) : Prop := ot_lay h ∧ (∀ l, l < 3 → ∀ q, 0 < q → q < 85 → ls_ (85 * l + q) = h (85 * l + q)) ∧ (∀ l, l < 3 → ∀ q, 0 < q → q < 85 → h (85 * l + q) = 1 → lv_ (85 * l + q) = ct (85 * l + q)) ∧ ∀ q, q < 85 → so q = 0
def ot_R (mt : Int32) (h ct : Nat → Int32) (mu : Int32) (ls_ lv_ so va : Nat → Int32) : Prop := (mt = 0 ∧ mu = 0 ∧ ot_U h ct ls_ lv_ so) ∨ (¬ mt = 0 ∧ ¬ mu = 0 ∧ ot_M h ct so va)
def ot_RQ (x : ot_xR) (y : ot_mR) : Prop := x.1 = y.1 ∧ ot_R x.2.1 x.2.2.1 x.2.2.2 y.2.1 y.2.2.1 y.2.2.2.1 y.2.2.2.2.1 y.2.2.2.2.2
theorem ot_RQ_same {r mt mu : Int32} {h ct ls_ lv_ so va : Nat → Int32} (hR : ot_R mt h ct mu ls_ lv_ so va) : ot_RQ (r, mt, h, ct) (r, mu, ls_, lv_, so, va) := ⟨rfl, hR⟩
theorem ot_srt_012 (mt : Int32) (h : Nat → Int32) (q : Nat) : ot_srt mt h q = 0 ∨ ot_srt mt h q = 1 ∨ ot_srt mt h q = 2 := by
  unfold ot_srt
  split
  · exact Or.inl rfl
  · exact ot_vw_012 h q
theorem ot_gt0 {x : Int32} : ¬ x < 1 ↔ 0 < x := by
  rw [Int32.lt_iff_toInt_lt, Int32.lt_iff_toInt_lt]
  have h0 : (0 : Int32).toInt = 0 := by decide
  have h1 : (1 : Int32).toInt = 1 := by decide
  omega
section OtOps
variable {mt mu : Int32} {h ct ls_ lv_ so va : Nat → Int32}
theorem ot_R_mt (hR : ot_R mt h ct mu ls_ lv_ so va) : mt = 0 ↔ mu = 0 := by
  rcases hR with ⟨a, b, -⟩ | ⟨a, b, -⟩
  · exact ⟨fun _ => b, fun _ => a⟩
  · exact ⟨fun w => absurd w a, fun w => absurd w b⟩
theorem ot_R_srt (hR : ot_R mt h ct mu ls_ lv_ so va) : ∀ x, x < 85 → so x = ot_srt mt h x := by
  intro x hx
  rcases hR with ⟨a, b, c⟩ | ⟨a, b, c⟩
  · rw [ot_srt, if_pos a]; exact c.2.2.2 x hx
  · rw [ot_srt1 a]; exact (c.2 x hx).1
theorem ot_sort_ok (hR : ot_R mt h ct mu ls_ lv_ so va) (x : Int32) : ot_xsort mt h x = ot_msort so x := by
  unfold ot_xsort ot_msort
  by_cases c : x < 0 ∨ 84 < x
  · rw [if_pos c, if_pos c]
  · rw [if_neg c, if_neg c]
    exact (ot_R_srt hR _ (ot_k85 (fun w => c (Or.inl w)) (fun w => c (Or.inr w)))).symm
theorem ot_value_ok (hR : ot_R mt h ct mu ls_ lv_ so va) (x : Int32) : ot_xval mt h ct x = ot_mval so va x := by
  unfold ot_xval
  rw [ot_sort_ok hR]
  unfold ot_msort ot_mval
  by_cases c : x < 0 ∨ 84 < x
  · rw [if_pos c, if_pos c, if_neg (by decide)]
  · rw [if_neg c, if_neg c]
    have hk := ot_k85 (fun w => c (Or.inl w)) (fun w => c (Or.inr w))
    by_cases c1 : so (ot_k x) = 1
    · rw [if_pos c1, if_pos c1]
      rcases hR with ⟨-, -, w⟩ | ⟨-, -, w⟩
      · rw [w.2.2.2 _ hk] at c1; exact absurd c1 (by decide)
      · exact ((w.2 _ hk).2 c1).symm
    · rw [if_neg c1, if_neg c1]
theorem ot_entries_ok (hR : ot_R mt h ct mu ls_ lv_ so va) (x : Int32) : ot_xent mt h x = ot_ment so x := by
  unfold ot_xent
  rw [ot_sort_ok hR]
  unfold ot_msort ot_ment
  by_cases c : x < 0 ∨ 84 < x
  · rw [if_pos c, if_pos c, if_neg (by decide)]
  · rw [if_neg c, if_neg c]
    rw [ot_ent_eq (ot_srt_012 mt h) (ot_R_srt hR) (ot_k85 (fun w => c (Or.inl w)) (fun w => c (Or.inr w)))]
theorem ot_total_ok (hR : ot_R mt h ct mu ls_ lv_ so va) : ot_xtot mt h = ot_mtot so := by
  unfold ot_xtot ot_mtot
  rw [ot_tot_eq (ot_srt_012 mt h) (ot_R_srt hR) 84 1 0 (by omega)]
theorem ot_room_ok (hR : ot_R mt h ct mu ls_ lv_ so va) (x : Int32) : ot_room mt h x ↔ ot_can mu so x := by
  have h1 := ot_R_mt hR
  constructor
  · rintro ⟨a, b, c, d, e⟩
    have hk := ot_k85 (fun w => b (Int32.lt_trans w (by decide))) c
    exact ⟨fun w => a (h1.mpr w), ot_gt0.mp b, c, (ot_R_srt hR _ hk).trans d, (ot_R_srt hR _ (ot_par84 hk)).trans e⟩
  · rintro ⟨a, b, c, d, e⟩
    have hk := ot_k85 (fun w => Int32.lt_irrefl (Int32.lt_trans w b)) c
    exact ⟨fun w => a (h1.mp w), ot_gt0.mpr b, c, (ot_R_srt hR _ hk).symm.trans d, (ot_R_srt hR _ (ot_par84 hk)).symm.trans e⟩
/-- something new, or a file written over -/
theorem ot_put_M (hM : ot_M h ct so va) {k : Nat} (hk0 : 0 < k) (hk : k < 85) (hp : so (ot_par k) = 2) (hn : ¬ so k = 2) {s v : Int32} (hs : s = 1 ∨ s = 3) {so' va' : Nat → Int32} (e1 : so' k = if s = 1 then 1 else 2) (e2 : s = 1 → va' k = v) (e3 : ∀ q, ¬ q = k → so' q = so q ∧ va' q = va q) : ot_M (upd (ot_cup 3 h (ot_par k)) (340 + k) s) (upd ct (340 + k) v) so' va' := by
  obtain ⟨hi, hv⟩ := hM
  have hp84 := ot_par84 hk
  have hpl := ot_par_lt hk0
  have vp : ot_vw h (ot_par k) = 2 := (hv _ hp84).1.symm.trans hp
  have vk : ¬ ot_vw h k = 2 := fun w => hn ((hv k hk).1.trans w)
  obtain ⟨cinv, c1, c2, c3, c4, c5⟩ := ot_cup_inv hi hp84 (Or.inr vp)
  obtain ⟨w, hw⟩ : ∃ w, w = ot_cup 3 h (ot_par k) := ⟨_, rfl⟩
  rw [← hw] at cinv c1 c2 c3 c4 c5 ⊢
  have wp : ot_vw w (ot_par k) = 2 := by rw [(c3 ct _ hp84).1]; exact vp
  have wk : ¬ ot_vw w k = 2 := by rw [(c3 ct _ hk).1]; exact vk
  have wF : ot_par k = 0 ∨ w (340 + ot_par k) = 2 ∨ w (340 + ot_par k) = 3 := by
    rcases Nat.eq_zero_or_pos (ot_par k) with z | z
    · exact Or.inl z
    · exact Or.inr (ot_FV c1 c2 z wp (c5 _ z ⟨0, rfl⟩))
  have wc := ot_child0 cinv hk0 wp wk
  have hs3 : s = 1 ∨ s = 3 ∨ s = 4 := hs.elim Or.inl (fun z => Or.inr (Or.inl z))
  obtain ⟨p1, p2, p3⟩ := ot_putV ct c1 hk0 hk wp (s := s) (v := v) hs3 (fun _ => wc)
  refine ⟨ot_put_inv cinv hk0 hk hs3 wF wc, fun q hq => ?_⟩
  by_cases e : q = k
  · subst e
    rw [e1, p2.1, p2.2]
    rcases hs with z | z
    · rw [if_pos z, if_pos z, if_pos z]; exact ⟨rfl, fun _ => e2 z⟩
    · subst z; exact ⟨by decide, fun y => absurd y (by decide)⟩
  · rw [(e3 q e).1, (e3 q e).2]
    by_cases hu : ot_und 3 q k = true
    · rw [(p3 q hq hu).1, (hv q hq).1, (ot_vw_und hi.1 ct vk q hq hu).1]
      exact ⟨rfl, fun y => absurd y (by decide)⟩
    · have hn : ¬ ot_on k q := fun y => y.elim e hu
      rw [(p1 q hq hn).1, (p1 q hq hn).2, (c3 ct q hq).1, (c3 ct q hq).2]
      exact hv q hq
theorem ot_make_ok (hR : ot_R mt h ct mu ls_ lv_ so va) (x v : Int32) : ot_RQ (ot_xmake mt h ct x v) (ot_mmake mu ls_ lv_ so va x v) := by
  unfold ot_xmake ot_mmake
  have hc := ot_room_ok hR x
  by_cases c : ot_can mu so x
  · rw [if_pos (hc.mpr c), if_pos c]
    obtain ⟨k, hk0, hk, rfl⟩ := ot_room_k (hc.mpr c)
    obtain ⟨a, -, -, d, e⟩ := c
    rcases hR with ⟨-, b, -⟩ | ⟨m1, m2, m3⟩
    · exact absurd b a
    · rw [ot_kI (by omega)] at d e ⊢
      exact ⟨rfl, Or.inr ⟨m1, m2, ot_put_M m3 hk0 hk e (by rw [d]; decide) (Or.inl rfl) (show upd so k 1 k = (if (1 : Int32) = 1 then 1 else 2) by rw [pk_us, if_pos rfl]) (fun _ => pk_us) (fun q hq => ⟨pk_un hq, pk_un hq⟩)⟩⟩
  · rw [if_neg (fun w => c (hc.mp w)), if_neg c]
    exact ot_RQ_same hR
theorem ot_mkd_ok (hR : ot_R mt h ct mu ls_ lv_ so va) (x : Int32) : ot_RQ (ot_xmkd mt h ct x) (ot_mmkd mu ls_ lv_ so va x) := by
  unfold ot_xmkd ot_mmkd
  have hc := ot_room_ok hR x
  by_cases c : ot_can mu so x
  · rw [if_pos (hc.mpr c), if_pos c]
    obtain ⟨k, hk0, hk, rfl⟩ := ot_room_k (hc.mpr c)
    obtain ⟨a, -, -, d, e⟩ := c
    rcases hR with ⟨-, b, -⟩ | ⟨m1, m2, m3⟩
    · exact absurd b a
    · rw [ot_kI (by omega)] at d e ⊢
      exact ⟨rfl, Or.inr ⟨m1, m2, ot_put_M m3 hk0 hk e (by rw [d]; decide) (Or.inr rfl) (show upd so k 2 k = (if (3 : Int32) = 1 then 1 else 2) by rw [pk_us, if_neg (by decide)]) (fun z => absurd z (by decide)) (fun q hq => ⟨pk_un hq, rfl⟩)⟩⟩
  · rw [if_neg (fun w => c (hc.mp w)), if_neg c]
    exact ot_RQ_same hR
theorem ot_write_ok (hR : ot_R mt h ct mu ls_ lv_ so va) (x v : Int32) : ot_RQ (ot_xwri mt h ct x v) (ot_mwri mu ls_ lv_ so va x v) := by
  unfold ot_xwri
  rw [ot_value_ok hR]
  by_cases c : ot_xsort mt h x = 1
  · rw [if_pos c]
    obtain ⟨hm, k, l, hk, hl, rfl, hs, h1⟩ := ot_xsrt1 c
    have hm' : ¬ mu = 0 := fun w => hm ((ot_R_mt hR).mpr w)
    have ek : ot_k (nI k) = k := ot_kI (by omega)
    have hb : ¬ (nI k < 0 ∨ 84 < nI k) := fun w => w.elim (ot_nlt (by omega)) (ot_n84 hk)
    rw [ot_sort_ok hR, ot_msort, if_neg hb, ek] at c
    rw [ot_mwri, if_neg (fun w => w.elim hm' hb), ek, if_pos c, ot_mval, if_neg hb, ek, if_pos c]
    rcases hR with ⟨a, -, -⟩ | ⟨m1, m2, m3⟩
    · exact absurd a hm
    · have hk0 : 0 < k := by
        rcases Nat.eq_zero_or_pos k with z | z
        · subst z
          rw [(m3.2 0 hk).1, ot_vw_0 m3.1.1] at c
          exact absurd c (by decide)
        · exact z
      have vk : ot_vw h k = 1 := (m3.2 k hk).1.symm.trans c
      have hp : so (ot_par k) = 2 := (m3.2 _ (ot_par84 hk)).1.trans (ot_par_2 m3.1.1 hk0 (by rw [vk]; decide))
      exact ⟨rfl, Or.inr ⟨m1, m2, ot_put_M m3 hk0 hk hp (by rw [c]; decide) (Or.inl rfl) (by rw [if_pos rfl]; exact c) (fun _ => pk_us) (fun q hq => ⟨rfl, pk_un hq⟩)⟩⟩
  · rw [if_neg c]
    unfold ot_mwri
    by_cases c2 : mu = 0 ∨ x < 0 ∨ 84 < x
    · rw [if_pos c2]; exact ot_RQ_same hR
    · rw [if_neg c2]
      rw [ot_sort_ok hR, ot_msort, if_neg (fun w => c2 (Or.inr w))] at c
      rw [if_neg c]; exact ot_RQ_same hR
theorem ot_kid_ex {so : Nat → Int32} {k : Nat} : ∀ m q, ot_kid so k m q = true → ∃ p, q ≤ p ∧ p < q + m ∧ ¬ so p = 0 ∧ ot_par p = k := by
  intro m
  induction m with
  | zero => intro q e; simp [ot_kid] at e
  | succ m ih =>
    intro q e
    rw [ot_kid] at e
    have go : ot_kid so k m (q + 1) = true → ∃ p, q ≤ p ∧ p < q + (m + 1) ∧ ¬ so p = 0 ∧ ot_par p = k := fun w => by
      obtain ⟨p, a, b, c⟩ := ih (q + 1) w
      exact ⟨p, by omega, by omega, c⟩
    split at e
    · exact go e
    · split at e
      · exact ⟨q, by omega, by omega, by assumption, by assumption⟩
      · exact go e
theorem ot_kid_no {so : Nat → Int32} {k : Nat} : ∀ m q, ot_kid so k m q = false → ∀ p, q ≤ p → p < q + m → ot_par p = k → so p = 0 := by
  intro m
  induction m with
  | zero => intro q _ p h1 h2; omega
  | succ m ih =>
    intro q e p h1 h2 hp
    rw [ot_kid] at e
    by_cases c : so q = 0
    · rw [if_pos c] at e
      by_cases z : p = q
      · subst z; exact c
      · exact ih (q + 1) e p (by omega) (by omega) hp
    · rw [if_neg c] at e
      by_cases c2 : ot_par q = k
      · rw [if_pos c2] at e; cases e
      · rw [if_neg c2] at e
        by_cases z : p = q
        · subst z; exact absurd hp c2
        · exact ih (q + 1) e p (by omega) (by omega) hp
theorem ot_und_0 {h ct : Nat → Int32} (h0 : h 340 = 2) {k : Nat} (hc : ∀ c, 0 < c → c < 85 → ot_par c = k → ot_vw h c = 0) : ∀ q, q < 85 → ot_und 3 q k = true → ot_vw h q = 0 := by
  intro q
  induction q using Nat.strongRecOn with
  | ind q ih =>
    intro hq hu
    have z := ot_und_pos hu
    rcases ot_und_dn hu with w | w
    · exact hc q z hq w
    · exact (ot_vw_par0 ct h0 z (by rw [ih (ot_par q) (ot_par_lt z) (ot_par84 hq) w]; decide)).1
theorem ot_remove_ok (hR : ot_R mt h ct mu ls_ lv_ so va) (x : Int32) : ot_RQ (ot_xrem mt h ct x) (ot_mrem mu ls_ lv_ so va x) := by
  unfold ot_xrem
  rw [ot_sort_ok hR, ot_entries_ok hR]
  unfold ot_mrem
  by_cases c : mu = 0 ∨ x < 1 ∨ 84 < x
  · rw [if_pos c, if_pos]
    · exact ot_RQ_same hR
    · by_cases hb : x < 0 ∨ 84 < x
      · rw [ot_msort, if_pos hb]; exact Or.inl (by decide)
      · obtain ⟨k, hk, rfl⟩ := ot_ix (fun w => hb (Or.inl w)) (fun w => hb (Or.inr w))
        have ek : ot_k (nI k) = k := ot_kI (by omega)
        rcases c with c | c | c
        · rcases hR with ⟨-, -, w⟩ | ⟨-, w, -⟩
          · rw [ot_msort, if_neg hb, ek, w.2.2.2 k hk]; exact Or.inl (by decide)
          · exact absurd c w
        · have : k = 0 := by
            rcases Nat.eq_zero_or_pos k with z | z
            · exact z
            · exact absurd c (ot_n1 z hk)
          subst this
          exact Or.inr (Or.inl rfl)
        · exact absurd (Or.inr c) hb
  · rw [if_neg c]
    have hm : ¬ mu = 0 := fun w => c (Or.inl w)
    rcases id hR with ⟨-, w, -⟩ | ⟨m1, m2, m3⟩
    · exact absurd w hm
    · obtain ⟨k, hk0, hk, rfl⟩ := ot_ix1 (x := x) (fun w => c (Or.inr (Or.inl w))) (fun w => c (Or.inr (Or.inr w)))
      have ek : ot_k (nI k) = k := ot_kI (by omega)
      have hb : ¬ (nI k < 0 ∨ 84 < nI k) := fun w => w.elim (ot_nlt (by omega)) (ot_n84 hk)
      have hne : ¬ nI k = 0 := nI_ne0 hk0 (by omega)
      obtain ⟨hi, hv⟩ := id m3
      rw [ot_msort, if_neg hb, ot_ment, if_neg hb, ek]
      have h012 : so k = 0 ∨ so k = 1 ∨ so k = 2 := by rw [(hv k hk).1]; exact ot_vw_012 h k
      by_cases c0 : so k = 0
      · rw [if_pos (Or.inl c0), if_pos (Or.inl ((ot_le0 h012).mpr c0))]
        exact ot_RQ_same hR
      · have cnt : so k = 2 → (¬ (if so k = 2 then nI (ot_cntK so k 84 1 0) else -1) ≤ 0 ↔ ot_kid so k 84 1 = true) := by
          intro w
          have hle := ot_cntK_le (so := so) (k := k) 84 1 0
          rw [if_pos w, (ot_kid_cnt 84 1 0).1]
          have := nI_leI (a := ot_cntK so k 84 1 0) (b := 0) (by omega) (by decide)
          constructor
          · intro z
            rcases Nat.eq_zero_or_pos (ot_cntK so k 84 1 0) with y | y
            · exact absurd (this.mpr (by omega)) z
            · exact y
          · intro z y
            have := this.mp y
            omega
        by_cases ck : ot_kid so k 84 1 = true
        · obtain ⟨p, p1, p2, p3, p4⟩ := ot_kid_ex 84 1 ck
          have h2 : so k = 2 := by
            have := ot_par_2 (q := p) hi.1 (by omega) (fun w => p3 ((hv p (by omega)).1.trans w))
            rw [p4] at this
            exact (hv k hk).1.trans this
          rw [if_pos (Or.inr ck), if_pos (Or.inr (Or.inr ⟨h2, (cnt h2).mpr ck⟩))]
          exact ot_RQ_same hR
        · rw [if_neg (fun w => w.elim (fun z => c0 ((ot_le0 h012).mp z)) (fun w => w.elim hne (fun w => ck ((cnt w.1).mp w.2)))), if_neg (fun w => w.elim c0 ck)]
          have ck : ot_kid so k 84 1 = false := by cases hz : ot_kid so k 84 1 with
            | false => rfl
            | true => exact absurd hz ck
          have vk : ¬ ot_vw h k = 0 := fun w => c0 ((hv k hk).1.trans w)
          obtain ⟨t1, t2, t3⟩ := ot_tkaV (ct := ct) m1 hi hk0 hk (ot_par_2 hi.1 hk0 vk)
          refine ⟨rfl, Or.inr ⟨m1, m2, t1, fun q hq => ?_⟩⟩
          dsimp only
          by_cases e : q = k
          · subst e
            rw [pk_us, (t3 q hq (Or.inl rfl)).1]
            exact ⟨rfl, fun y => absurd y (by decide)⟩
          · rw [pk_un e]
            by_cases hu : ot_und 3 q k = true
            · have e0 : ot_vw h q = 0 := ot_und_0 (ct := ct) hi.1 (fun c hc0 hc ec => (hv c hc).1.symm.trans (ot_kid_no 84 1 ck c (by omega) (by omega) ec)) q hq hu
              rw [(t3 q hq (Or.inr hu)).1, (hv q hq).1, e0]
              exact ⟨rfl, fun y => absurd y (by decide)⟩
            · have hn : ¬ ot_on k q := fun y => y.elim e hu
              rw [(t2 q hq hn).1, (t2 q hq hn).2]
              exact hv q hq
theorem ot_press_ok (hR : ot_R mt h ct mu ls_ lv_ so va) : (ot_xprs mt h ct).1 = ot_mprs mu ∧ ot_R (ot_xprs mt h ct).2.1 (ot_xprs mt h ct).2.2.1 (ot_xprs mt h ct).2.2.2 mu ls_ lv_ so va := by
  unfold ot_xprs ot_mprs
  rcases id hR with ⟨a, b, -⟩ | ⟨a, b, hi, hv⟩
  · rw [if_pos a, if_pos b]; exact ⟨rfl, hR⟩
  · rw [if_neg a, if_neg b]
    obtain ⟨p1, p2⟩ := ot_prs_inv ct hi
    obtain ⟨z, hz⟩ : ∃ z, z = ot_prs 84 1 h ct := ⟨_, rfl⟩
    rw [← hz] at p1 p2 ⊢
    refine ⟨rfl, Or.inr ⟨a, b, p1, fun q hq => ?_⟩⟩
    dsimp only
    rw [(p2 q hq).1, (p2 q hq).2]
    exact hv q hq
theorem ot_mount_ok (hR : ot_R mt h ct mu ls_ lv_ so va) : ot_RQ (ot_xmount mt h ct) (ot_mmount mu ls_ lv_ so va) := by
  unfold ot_xmount ot_mmount
  rcases id hR with ⟨a, b, hy, e1, e2, e3⟩ | ⟨a, b, -⟩
  · rw [if_pos a, if_pos b]
    have hi := ot_lay_inv hy
    have V := ot_mntV hy e1 e2 84 1 (upd so 0 2) va rfl (by omega) (fun x hx => by
      obtain rfl : x = 0 := by omega
      rw [pk_us, ot_vw_0 hi.1]
      exact ⟨rfl, fun w => absurd w (by decide)⟩) (fun x h1 h2 => by rw [pk_un (by omega)]; exact e3 x h2)
    obtain ⟨z, hz⟩ : ∃ z, z = ot_mnt ls_ lv_ 84 1 (upd so 0 2) va := ⟨_, rfl⟩
    rw [← hz] at V ⊢
    have hR' : ot_R 1 h ct 1 ls_ lv_ z.1 z.2 := Or.inr ⟨by decide, by decide, hi, fun q hq => ⟨(V q hq).1, fun w => (V q hq).2 ((V q hq).1.symm.trans w)⟩⟩
    exact ⟨ot_total_ok hR', hR'⟩
  · rw [if_neg a, if_neg b]; exact ot_RQ_same hR
theorem ot_14 {x : Int32} (h1 : ¬ x < 1) (h2 : x ≤ 4) : x = 1 ∨ x = 2 ∨ x = 3 ∨ x = 4 := by
  obtain ⟨j, hj, rfl⟩ := nI_of (x := x) (fun w => h1 (Int32.lt_trans w (by decide)))
  have hj4 : j ≤ 4 := (nI_leI (a := j) (b := 4) hj (by decide)).mp h2
  have hj1 : 1 ≤ j := by
    rcases Nat.eq_zero_or_pos j with z | z
    · subst z; exact absurd (by decide) h1
    · exact z
  rcases (show j = 1 ∨ j = 2 ∨ j = 3 ∨ j = 4 by omega) with z | z | z | z <;> subst z
  · exact Or.inl rfl
  · exact Or.inr (Or.inl rfl)
  · exact Or.inr (Or.inr (Or.inl rfl))
  · exact Or.inr (Or.inr (Or.inr rfl))
theorem ot_fill_ok (hR : ot_R mt h ct mu ls_ lv_ so va) (p0 p1 p2 p3 : Int32) : ot_RQ (ot_xfill mt h ct p0 p1 p2 p3) (ot_mfill mu ls_ lv_ so va p0 p1 p2 p3) := by
  unfold ot_xfill ot_mfill
  by_cases c : mt = 0 ∧ ¬ p0 < 0 ∧ ¬ 2 < p0 ∧ ¬ p1 < 1 ∧ ¬ 84 < p1 ∧ ¬ p2 < 1 ∧ p2 ≤ 4
  · have c' : mu = 0 ∧ ¬ p0 < 0 ∧ ¬ 2 < p0 ∧ ¬ p1 < 1 ∧ ¬ 84 < p1 ∧ ¬ p2 < 1 ∧ p2 ≤ 4 := ⟨(ot_R_mt hR).mp c.1, c.2⟩
    rw [if_pos c, if_pos c']
    clear c'
    obtain ⟨c1, c2, c3, c4, c5, c6, c7⟩ := c
    obtain ⟨y, hy, rfl⟩ := ot_ix2 c2 c3
    obtain ⟨k, hk0, hk, rfl⟩ := ot_ix1 c4 c5
    have ey : ot_k (nI y) = y := ot_kI (by omega)
    have ek : ot_k (nI k) = k := ot_kI (by omega)
    rw [ey, ek]
    rcases id hR with ⟨a, b, hl, e1, e2, e3⟩ | ⟨a, -⟩
    · have hp84 := ot_par84 hk
      have hpl := ot_par_lt hk0
      have hpar : (h (85 * y + ot_par k) = 2 ∨ h (85 * y + ot_par k) = 3) ↔ (ot_par k = 0 ∨ ls_ (85 * y + ot_par k) = 2 ∨ ls_ (85 * y + ot_par k) = 3) := by
        rcases Nat.eq_zero_or_pos (ot_par k) with z | z
        · rw [z]; exact ⟨fun _ => Or.inl rfl, fun _ => Or.inl (hl.2.1 y (by omega))⟩
        · rw [e1 y hy _ z hp84]
          exact ⟨Or.inr, fun w => w.resolve_left (by omega)⟩
      rw [e1 y hy k hk0 hk]
      by_cases d : h (85 * y + k) = 0 ∧ (h (85 * y + ot_par k) = 2 ∨ h (85 * y + ot_par k) = 3)
      · have d' : h (85 * y + k) = 0 ∧ (ot_par k = 0 ∨ ls_ (85 * y + ot_par k) = 2 ∨ ls_ (85 * y + ot_par k) = 3) := ⟨d.1, hpar.mp d.2⟩
        rw [if_pos d, if_pos d']
        have h14 := ot_14 c6 c7
        refine ⟨rfl, Or.inl ⟨a, b, ⟨?_, ?_, ?_, ?_⟩, ?_, ?_, e3⟩⟩
        · exact ot_rg_upd hl.1 (Or.inr h14)
        · intro l hl5
          dsimp only
          rw [pk_un (by omega)]
          exact hl.2.1 l hl5
        · intro q hq0 hq
          dsimp only
          rw [pk_un (by omega), pk_un (by omega)]
          exact hl.2.2.1 q hq0 hq
        · intro l hl3 q hq0 hq
          dsimp only
          intro hn
          have hq84 := ot_par84 hq
          by_cases z : l = y ∧ q = k
          · obtain ⟨rfl, rfl⟩ := z
            rw [pk_un (by omega)]
            exact Or.inr d.2
          · rw [pk_un (by omega)] at hn
            have w := hl.2.2.2 l hl3 q hq0 hq hn
            by_cases z2 : l = y ∧ ot_par q = k
            · obtain ⟨rfl, z3⟩ := z2
              rcases w with w | w
              · exact Or.inl w
              · rw [z3, d.1] at w
                exact w.elim (fun w => absurd w (by decide)) (fun w => absurd w (by decide))
            · rw [pk_un (by omega)]
              exact w
        · intro l hl3 q hq0 hq
          dsimp only
          by_cases z : l = y ∧ q = k
          · obtain ⟨rfl, rfl⟩ := z
            rw [pk_us, pk_us]
          · rw [pk_un (by omega), pk_un (by omega)]
            exact e1 l hl3 q hq0 hq
        · intro l hl3 q hq0 hq
          dsimp only
          by_cases z : l = y ∧ q = k
          · obtain ⟨rfl, rfl⟩ := z
            rw [pk_us, pk_us, pk_us]
            intro w
            rw [if_pos w]
          · rw [pk_un (by omega), pk_un (by omega), pk_un (by omega)]
            exact e2 l hl3 q hq0 hq
      · have d' : ¬ (h (85 * y + k) = 0 ∧ (ot_par k = 0 ∨ ls_ (85 * y + ot_par k) = 2 ∨ ls_ (85 * y + ot_par k) = 3)) := fun w => d ⟨w.1, hpar.mpr w.2⟩
        rw [if_neg d, if_neg d']
        exact ot_RQ_same hR
    · exact absurd c1 a
  · rw [if_neg c, if_neg (fun w => c ⟨(ot_R_mt hR).mpr w.1, w.2⟩)]
    exact ot_RQ_same hR
end OtOps
theorem ot_R0 : ot_R 0 ot_h0 (fun _ => 0) 0 (fun _ => 0) (fun _ => 0) (fun _ => 0) (fun _ => 0) := by
  have hv : ∀ j, ot_h0 j = if j = 340 ∨ j = 255 ∨ j = 170 ∨ j = 85 ∨ j = 0 then 2 else 0 := by
    intro j
    unfold ot_h0 upd
    by_cases a : j = 340
    · rw [if_pos a, if_pos (Or.inl a)]
    · by_cases b : j = 255
      · rw [if_neg a, if_pos b, if_pos (Or.inr (Or.inl b))]
      · by_cases c : j = 170
        · rw [if_neg a, if_neg b, if_pos c, if_pos (Or.inr (Or.inr (Or.inl c)))]
        · by_cases d : j = 85
          · rw [if_neg a, if_neg b, if_neg c, if_pos d, if_pos (Or.inr (Or.inr (Or.inr (Or.inl d))))]
          · by_cases e : j = 0
            · rw [if_neg a, if_neg b, if_neg c, if_neg d, if_pos e, if_pos (Or.inr (Or.inr (Or.inr (Or.inr e))))]
            · rw [if_neg a, if_neg b, if_neg c, if_neg d, if_neg e, if_neg (by omega)]
  have h0 : ∀ l q, l < 5 → 0 < q → q < 85 → ot_h0 (85 * l + q) = 0 := fun l q hl hq0 hq => by rw [hv, if_neg (by omega)]
  refine Or.inl ⟨rfl, rfl, ⟨?_, ?_, ?_, ?_⟩, ?_, ?_, fun _ _ => rfl⟩
  · intro j
    rw [hv]
    split
    · exact Or.inr (Or.inr (Or.inl rfl))
    · exact Or.inl rfl
  · intro l hl
    rw [hv, if_pos (by omega)]
  · intro q hq0 hq
    exact ⟨h0 3 q (by omega) hq0 hq, h0 4 q (by omega) hq0 hq⟩
  · intro l hl q hq0 hq hn
    exact absurd (h0 l q (by omega) hq0 hq) hn
  · intro l hl q hq0 hq
    rw [h0 l q (by omega) hq0 hq]
  · intro l hl q hq0 hq w
    exact absurd ((h0 l q (by omega) hq0 hq).symm.trans w) (by decide)
end
section
set_option maxRecDepth 100000
/-! ===== moving ===== -/
/-- where a path of the part goes -/
def ot_pl (f t q : Nat) : Nat :=
  if _h1 : q = f then t else if _h2 : q = 0 then 0 else 4 * ot_pl f t (ot_par q) + 1 + (q - 1) % 4
termination_by q
decreasing_by exact ot_par_lt (by omega)
theorem ot_pl_f (f t : Nat) : ot_pl f t f = t := by rw [ot_pl, dif_pos rfl]
theorem ot_pl_s {f t q : Nat} (h1 : ¬ q = f) (h2 : 0 < q) : ot_pl f t q = 4 * ot_pl f t (ot_par q) + 1 + (q - 1) % 4 := by rw [ot_pl, dif_neg h1, dif_neg (by omega)]
theorem ot_plc_pl (f t : Nat) : ∀ n q, (q = f ∨ ot_und n q f = true) → ot_plc f t n q = ot_pl f t q := by
  intro n
  induction n with
  | zero =>
    intro q h
    rcases h with h | h
    · subst h; rw [ot_pl_f]; rfl
    · simp [ot_und] at h
  | succ n ih =>
    intro q h
    rw [ot_plc]
    by_cases c : q = f
    · rw [if_pos c, c, ot_pl_f]
    · have hu := h.resolve_left c
      have hq := ot_und_pos hu
      rw [if_neg c, ot_pl_s c hq, ih (ot_par q)]
      rw [ot_und, if_neg (by omega)] at hu
      split at hu
      · exact Or.inl (by assumption)
      · exact Or.inr hu
theorem ot_on_par {f q : Nat} (h : ot_on f q) (hne : ¬ q = f) : ot_on f (ot_par q) := ot_und_dn (h.resolve_left hne)
theorem ot_par_pl {f t q : Nat} (h1 : ¬ q = f) (h2 : 0 < q) : ot_par (ot_pl f t q) = ot_pl f t (ot_par q) := by
  rw [ot_pl_s h1 h2]
  generalize ot_pl f t (ot_par q) = z
  unfold ot_par
  omega
section OtMove
variable {f t : Nat}
theorem ot_pl_ge (hf : 0 < f) : ∀ q, ot_on f q → t ≤ ot_pl f t q := by
  intro q
  induction q using Nat.strongRecOn with
  | ind q ih =>
    intro h
    by_cases c : q = f
    · rw [c, ot_pl_f]; omega
    · have hq : 0 < q := by have := ot_on_le h; omega
      have := ih (ot_par q) (ot_par_lt hq) (ot_on_par h c)
      rw [ot_pl_s c hq]; omega
theorem ot_pl_gt (hf : 0 < f) (ht : 0 < t) {q : Nat} (h : ot_on f q) (c : ¬ q = f) : t < ot_pl f t q ∧ ot_pl f t (ot_par q) < ot_pl f t q := by
  have hq : 0 < q := by have := ot_on_le h; omega
  have := ot_pl_ge (t := t) hf (ot_par q) (ot_on_par h c)
  rw [ot_pl_s c hq]; omega
theorem ot_pl_inj (hf : 0 < f) (ht : 0 < t) : ∀ q, ot_on f q → ∀ p, ot_on f p → ot_pl f t q = ot_pl f t p → q = p := by
  intro q
  induction q using Nat.strongRecOn with
  | ind q ih =>
    intro hq p hp e
    by_cases c : q = f
    · by_cases c2 : p = f
      · omega
      · have := (ot_pl_gt hf ht hp c2).1
        rw [c, ot_pl_f] at e; omega
    · by_cases c2 : p = f
      · have := (ot_pl_gt hf ht hq c).1
        rw [c2, ot_pl_f] at e; omega
      · have q0 : 0 < q := by have := ot_on_le hq; omega
        have p0 : 0 < p := by have := ot_on_le hp; omega
        have e2 : ot_pl f t (ot_par q) = ot_pl f t (ot_par p) := by rw [← ot_par_pl c q0, ← ot_par_pl c2 p0, e]
        have e3 := ih (ot_par q) (ot_par_lt q0) (ot_on_par hq c) (ot_par p) (ot_on_par hp c2) e2
        rw [ot_pl_s c q0, ot_pl_s c2 p0, e2] at e
        unfold ot_par at e3
        omega
theorem ot_pl_on (hf : 0 < f) (ht : 0 < t) : ∀ q, ot_on f q → ot_pl f t q < 85 → ot_on t (ot_pl f t q) := by
  intro q
  induction q using Nat.strongRecOn with
  | ind q ih =>
    intro h hlt
    by_cases c : q = f
    · rw [c, ot_pl_f]; exact Or.inl rfl
    · have hq : 0 < q := by have := ot_on_le h; omega
      have hg := ot_pl_gt (t := t) hf ht h c
      refine Or.inr (ot_on_dn hlt (by omega) ?_)
      rw [ot_par_pl c hq]
      exact ih (ot_par q) (ot_par_lt hq) (ot_on_par h c) (by omega)
theorem ot_on_two : ∀ x, ot_on t x → ot_on f x → ot_on t f ∨ ot_on f t := by
  intro x
  induction x using Nat.strongRecOn with
  | ind x ih =>
    intro h1 h2
    by_cases c : x = t
    · subst c; exact Or.inr h2
    · by_cases c2 : x = f
      · subst c2; exact Or.inl h1
      · exact ih (ot_par x) (ot_par_lt (ot_und_pos (h1.resolve_left c))) (ot_on_par h1 c) (ot_on_par h2 c2)
/-- the reference's images -/
theorem ot_fo1V (hf : 0 < f) (ht : t < 85) {im : Nat → Int32} {q : Nat} (hq : q < 85) (hI : ∀ x, x < q → (ot_on f x → im x = nI (min (ot_pl f t x) 85)) ∧ (¬ ot_on f x → im x = -1)) : (∀ x, ¬ x = q → ot_fo1 f t im q x = im x) ∧ (ot_on f q → ot_fo1 f t im q q = nI (min (ot_pl f t q) 85)) ∧ (¬ ot_on f q → ot_fo1 f t im q q = -1) := by
  obtain ⟨v, i2, e1, e2, e3, e4⟩ : ∃ (v : Int32) (i2 : Nat → Int32), ot_fo1 f t im q = (if i2 q ≤ 84 then i2 else upd i2 q 85) ∧ (∀ x, ¬ x = q → i2 x = im x) ∧ (ot_on f q → ∃ n, i2 q = nI n ∧ n < 1000 ∧ min n 85 = min (ot_pl f t q) 85) ∧ (¬ ot_on f q → i2 q = -1) := by
    unfold ot_fo1
    dsimp only
    by_cases c : q = f
    · rw [if_pos c]
      refine ⟨0, _, rfl, fun x hx => by rw [pk_un hx, pk_un hx], fun _ => ⟨t, pk_us, by omega, by rw [c, ot_pl_f]⟩, fun w => absurd (Or.inl c) w⟩
    · rw [if_neg c]
      by_cases z : q = 0
      · rw [if_pos z]
        refine ⟨0, _, rfl, fun x hx => pk_un hx, fun w => absurd (ot_on_le w) (by omega), fun _ => pk_us⟩
      · rw [if_neg z]
        have hp := ot_par_lt (q := q) (by omega)
        rw [show upd im q (-1) (ot_par q) = im (ot_par q) from pk_un (by omega)]
        obtain ⟨a1, a2⟩ := hI (ot_par q) hp
        by_cases w : ot_on f (ot_par q)
        · rw [a1 w]
          have hn : ¬ nI (min (ot_pl f t (ot_par q)) 85) < 0 := nI_pos (by omega)
          rw [if_neg hn]
          refine ⟨0, _, rfl, fun x hx => by rw [pk_un hx, pk_un hx], fun _ => ⟨4 * min (ot_pl f t (ot_par q)) 85 + (q - 1) % 4 + 1, ?_, by omega, ?_⟩, fun y => absurd (Or.inr (ot_on_dn hq (by omega) w)) y⟩
          · rw [pk_us, ← nI_add, ← nI_add, ← pk_mul]; rfl
          · rw [ot_pl_s c (by omega)]; omega
        · rw [a2 w, if_pos (show (-1 : Int32) < 0 by decide)]
          refine ⟨0, _, rfl, fun x hx => pk_un hx, fun y => absurd (ot_on_par y c) w, fun _ => pk_us⟩
  rw [e1]
  refine ⟨fun x hx => ?_, fun w => ?_, fun w => ?_⟩
  · split
    · exact e2 x hx
    · rw [pk_un hx]; exact e2 x hx
  · obtain ⟨n, n1, n2, n3⟩ := e3 w
    rw [n1, ← n3]
    have hle : nI n ≤ 84 ↔ n ≤ 84 := nI_leI (a := n) (b := 84) (by omega) (by decide)
    by_cases c : n ≤ 84
    · rw [if_pos (hle.mpr c), n1, Nat.min_eq_left (by omega)]
    · rw [if_neg (fun y => c (hle.mp y)), pk_us, Nat.min_eq_right (by omega)]; rfl
  · rw [e4 w, if_pos (by decide)]
    exact e4 w
theorem ot_folV (hf : 0 < f) (ht : t < 85) : ∀ (m q : Nat) (im : Nat → Int32), q + m = 85 → (∀ x, x < q → (ot_on f x → im x = nI (min (ot_pl f t x) 85)) ∧ (¬ ot_on f x → im x = -1)) → ∀ x, x < 85 → (ot_on f x → ot_fol f t m q im x = nI (min (ot_pl f t x) 85)) ∧ (¬ ot_on f x → ot_fol f t m q im x = -1) := by
  intro m
  induction m with
  | zero => intro q im hq hI x hx; exact hI x (by omega)
  | succ m ih =>
    intro q im hq hI
    rw [ot_fol]
    obtain ⟨a1, a2, a3⟩ := ot_fo1V hf ht (q := q) (by omega) hI
    refine ih (q + 1) _ (by omega) (fun x hx => ?_)
    by_cases c : x = q
    · subst c; exact ⟨a2, a3⟩
    · rw [a1 x c]; exact hI x (by omega)
/-- what of the part is there -/
abbrev ot_pr (so : Nat → Int32) (f p : Nat) : Prop := (p = f ∨ ot_und 3 p f = true) ∧ ¬ so p = 0
def ot_cn (so : Nat → Int32) (f : Nat) : Nat → Nat → Nat → Nat
  | 0, _, n => n
  | m + 1, q, n => ot_cn so f m (q + 1) (if (q = f ∨ ot_und 3 q f = true) ∧ ¬ so q = 0 then n + 1 else n)
theorem ot_cn_skip {so : Nat → Int32} : ∀ m1 m2 q n, (∀ p, q ≤ p → p < q + m1 → ¬ ot_pr so f p) → ot_cn so f (m1 + m2) q n = ot_cn so f m2 (q + m1) n := by
  intro m1
  induction m1 with
  | zero => intro m2 q n _; rw [Nat.zero_add]; rfl
  | succ m1 ih =>
    intro m2 q n hp
    rw [show m1 + 1 + m2 = (m1 + m2) + 1 by omega, ot_cn, if_neg (hp q (by omega) (by omega)), ih m2 (q + 1) n (fun p h1 h2 => hp p (by omega) (by omega)), show q + 1 + m1 = q + (m1 + 1) by omega]
theorem ot_farV {so im : Nat → Int32} : ∀ m q, ot_far so im m q = true ↔ ∃ p, q ≤ p ∧ p < q + m ∧ im p = 85 ∧ ¬ so p = 0 := by
  intro m
  induction m with
  | zero =>
    intro q
    constructor
    · intro e; simp [ot_far] at e
    · rintro ⟨p, h1, h2, -⟩; omega
  | succ m ih =>
    intro q
    rw [ot_far]
    have go : (∃ p, q + 1 ≤ p ∧ p < q + 1 + m ∧ im p = 85 ∧ ¬ so p = 0) → ∃ p, q ≤ p ∧ p < q + (m + 1) ∧ im p = 85 ∧ ¬ so p = 0 := by
      rintro ⟨p, h1, h2, h3⟩
      exact ⟨p, by omega, by omega, h3⟩
    have back : (¬ (im q = 85 ∧ ¬ so q = 0)) → (∃ p, q ≤ p ∧ p < q + (m + 1) ∧ im p = 85 ∧ ¬ so p = 0) → ∃ p, q + 1 ≤ p ∧ p < q + 1 + m ∧ im p = 85 ∧ ¬ so p = 0 := by
      rintro hn ⟨p, h1, h2, h3⟩
      have : ¬ p = q := fun z => hn (z ▸ h3)
      exact ⟨p, by omega, by omega, h3⟩
    by_cases c : im q = 85
    · rw [if_pos c]
      by_cases c2 : so q = 0
      · rw [if_pos c2, ih]; exact ⟨go, back (fun w => w.2 c2)⟩
      · rw [if_neg c2]; exact ⟨fun _ => ⟨q, by omega, by omega, c, c2⟩, fun _ => rfl⟩
    · rw [if_neg c, ih]; exact ⟨go, back (fun w => c w.1)⟩
/-- the class lists the part -/
theorem ot_cpV {mt : Int32} {h ct so : Nat → Int32} (hf : 0 < f) (ht : 0 < t) (es : ∀ x, x < 85 → so x = ot_srt mt h x) : ∀ (m q n : Nat) (ps pv : Nat → Int32), q + m = 85 →
    ((∃ p, q ≤ p ∧ p < 85 ∧ ot_pr so f p ∧ 84 < ot_pl f t p) → ot_cp h ct mt f t m q n ps pv = none) ∧
    ((∀ p, q ≤ p → p < 85 → ot_pr so f p → ot_pl f t p ≤ 84) → ∃ ps' pv', ot_cp h ct mt f t m q n ps pv = some (ot_cn so f m q n, ps', pv') ∧ (∀ p, q ≤ p → p < 85 → ot_pr so f p → ps' (ot_pl f t p) = so p ∧ (so p = 1 → pv' (ot_pl f t p) = ot_vl h ct p)) ∧ ∀ j, (∀ p, q ≤ p → p < 85 → ot_pr so f p → ¬ ot_pl f t p = j) → ps' j = ps j ∧ pv' j = pv j) := by
  intro m
  induction m with
  | zero =>
    intro q n ps pv hq
    refine ⟨fun ⟨p, h1, h2, _⟩ => by omega, fun _ => ⟨ps, pv, rfl, fun p h1 h2 => by omega, fun j _ => ⟨rfl, rfl⟩⟩⟩
  | succ m ih =>
    intro q n ps pv hq
    rw [ot_cp, ot_cn, ← es q (by omega)]
    have h012 : so q = 0 ∨ so q = 1 ∨ so q = 2 := by rw [es q (by omega)]; exact ot_srt_012 mt h q
    have hle := ot_le0 h012
    by_cases c : ot_pr so f q
    · have c' : (q = f ∨ ot_und 3 q f = true) ∧ ¬ so q ≤ 0 := ⟨c.1, fun w => c.2 (hle.mp w)⟩
      rw [if_pos c', if_pos c, ot_plc_pl f t 3 q c.1]
      have inj : ∀ p, q + 1 ≤ p → ot_pr so f p → ¬ ot_pl f t p = ot_pl f t q := fun p hp hc e => by
        have := ot_pl_inj hf ht p hc.1 q c.1 e
        omega
      obtain ⟨i1, i2⟩ := ih (q + 1) (n + 1) (upd ps (ot_pl f t q) (so q)) (upd pv (ot_pl f t q) (if so q = 1 then ot_vl h ct q else 0)) (by omega)
      constructor
      · rintro ⟨p, p1, p2, p3, p4⟩
        by_cases c84 : 84 < ot_pl f t q
        · rw [if_pos c84]
        · rw [if_neg c84]
          refine i1 ⟨p, ?_, p2, p3, p4⟩
          have : ¬ p = q := fun z => c84 (z ▸ p4)
          omega
      · intro hall
        have := hall q (Nat.le_refl q) (by omega) c
        rw [if_neg (by omega)]
        obtain ⟨ps', pv', a1, a2, a3⟩ := i2 (fun p h1 h2 h3 => hall p (by omega) h2 h3)
        refine ⟨ps', pv', a1, fun p h1 h2 h3 => ?_, fun j hj => ?_⟩
        · by_cases z : p = q
          · subst z
            obtain ⟨b1, b2⟩ := a3 (ot_pl f t p) (fun p' h1' _ h3' => inj p' h1' h3')
            rw [b1, b2, pk_us, pk_us]
            exact ⟨rfl, fun w => by rw [if_pos w]⟩
          · exact a2 p (by omega) h2 h3
        · obtain ⟨b1, b2⟩ := a3 j (fun p h1 h2 h3 => hj p (by omega) h2 h3)
          have := hj q (Nat.le_refl q) (by omega) c
          rw [b1, b2, pk_un (fun w => this w.symm), pk_un (fun w => this w.symm)]
          exact ⟨rfl, rfl⟩
    · have c' : ¬ ((q = f ∨ ot_und 3 q f = true) ∧ ¬ so q ≤ 0) := fun w => c ⟨w.1, fun z => w.2 (hle.mpr z)⟩
      rw [if_neg c', if_neg c]
      obtain ⟨i1, i2⟩ := ih (q + 1) n ps pv (by omega)
      have ne : ∀ p, q ≤ p → ot_pr so f p → q + 1 ≤ p := fun p h1 h3 => by
        have : ¬ p = q := fun z => c (z ▸ h3)
        omega
      constructor
      · rintro ⟨p, p1, p2, p3, p4⟩
        exact i1 ⟨p, ne p p1 p3, p2, p3, p4⟩
      · intro hall
        obtain ⟨ps', pv', a1, a2, a3⟩ := i2 (fun p h1 h2 h3 => hall p (by omega) h2 h3)
        exact ⟨ps', pv', a1, fun p h1 h2 h3 => a2 p (ne p h1 h3) h2 h3, fun j hj => a3 j (fun p h1 h2 h3 => hj p (by omega) h2 h3)⟩
/-- the reference moves it -/
theorem ot_mvV {so va im : Nat → Int32} (hf : 0 < f) (ht : 0 < t) (hd : ∀ x, ot_on t x → ¬ ot_on f x) (hI : ∀ x, x < 85 → (ot_on f x → im x = nI (min (ot_pl f t x) 85)) ∧ (¬ ot_on f x → im x = -1)) (hall : ∀ p, p < 85 → ot_pr so f p → ot_pl f t p ≤ 84) : ∀ (m q n : Nat) (s1 v1 : Nat → Int32), q + m = 85 → (∀ p, q ≤ p → p < 85 → ot_on f p → s1 p = so p ∧ v1 p = va p) →
    (ot_mv im m q n s1 v1).1 = ot_cn so f m q n ∧
    (∀ p, q ≤ p → p < 85 → ot_pr so f p → (ot_mv im m q n s1 v1).2.1 (ot_pl f t p) = so p ∧ (ot_mv im m q n s1 v1).2.2 (ot_pl f t p) = va p) ∧
    (∀ p, q ≤ p → p < 85 → ot_pr so f p → (ot_mv im m q n s1 v1).2.1 p = 0) ∧
    (∀ j, (∀ p, q ≤ p → p < 85 → ot_pr so f p → ¬ ot_pl f t p = j ∧ ¬ p = j) → (ot_mv im m q n s1 v1).2.1 j = s1 j ∧ (ot_mv im m q n s1 v1).2.2 j = v1 j) := by
  intro m
  induction m with
  | zero =>
    intro q n s1 v1 hq _
    exact ⟨rfl, fun p h1 h2 => by omega, fun p h1 h2 => by omega, fun j _ => ⟨rfl, rfl⟩⟩
  | succ m ih =>
    intro q n s1 v1 hq hu
    rw [ot_mv, ot_cn]
    by_cases c : ot_pr so f q
    · have hq85 : q < 85 := by omega
      have hp := hall q hq85 c
      have e1 : im q = nI (ot_pl f t q) := by rw [(hI q hq85).1 c.1, Nat.min_eq_left (by omega)]
      obtain ⟨e2, e3⟩ := hu q (Nat.le_refl q) hq85 c.1
      have hn : ¬ (im q < 0 ∨ 85 ≤ im q ∨ s1 q = 0) := by
        rw [e1, e2]
        rintro (w | w | w)
        · exact nI_pos (by omega) w
        · have := (nI_leI (a := 85) (b := ot_pl f t q) (by decide) (by omega)).mp w; omega
        · exact c.2 w
      rw [if_neg hn, if_pos c, e1, ot_kI (by omega), e2, e3]
      have ont := ot_pl_on hf ht q c.1 (by omega)
      have noS : ∀ p, ot_on f p → ¬ p = ot_pl f t q := fun p hp e => hd _ ont (e ▸ hp)
      have inj : ∀ p, q + 1 ≤ p → ot_pr so f p → ¬ ot_pl f t p = ot_pl f t q := fun p hp hc e => by
        have := ot_pl_inj hf ht p hc.1 q c.1 e
        omega
      have noP : ∀ p, p < 85 → ot_pr so f p → ¬ ot_pl f t p = q := fun p hp hc e => hd _ (ot_pl_on hf ht p hc.1 (by have := hall p hp hc; omega)) (by rw [e]; exact c.1)
      obtain ⟨i1, i2, i3, i4⟩ := ih (q + 1) (n + 1) (upd (upd s1 (ot_pl f t q) (so q)) q 0) (upd v1 (ot_pl f t q) (va q)) (by omega) (fun p h1 h2 h3 => by
        rw [pk_un (by omega), pk_un (noS p h3), pk_un (noS p h3)]
        exact hu p (by omega) h2 h3)
      refine ⟨i1, fun p h1 h2 h3 => ?_, fun p h1 h2 h3 => ?_, fun j hj => ?_⟩
      · by_cases z : p = q
        · subst z
          obtain ⟨b1, b2⟩ := i4 (ot_pl f t p) (fun p' h1' _ h3' => ⟨inj p' h1' h3', noS p' h3'.1⟩)
          rw [b1, b2, pk_un (fun w => noS p h3.1 w.symm), pk_us, pk_us]
          exact ⟨rfl, rfl⟩
        · exact i2 p (by omega) h2 h3
      · by_cases z : p = q
        · subst z
          rw [(i4 p (fun p' h1' h2' h3' => ⟨noP p' h2' h3', by omega⟩)).1, pk_us]
        · exact i3 p (by omega) h2 h3
      · obtain ⟨b1, b2⟩ := i4 j (fun p h1 h2 h3 => hj p (by omega) h2 h3)
        obtain ⟨d1, d2⟩ := hj q (Nat.le_refl q) hq85 c
        rw [b1, b2, pk_un (fun w => d2 w.symm), pk_un (fun w => d1 w.symm), pk_un (fun w => d1 w.symm)]
        exact ⟨rfl, rfl⟩
    · have hs : im q < 0 ∨ 85 ≤ im q ∨ s1 q = 0 := by
        by_cases w : ot_on f q
        · refine Or.inr (Or.inr ?_)
          rw [(hu q (Nat.le_refl q) (by omega) w).1]
          by_cases z : so q = 0
          · exact z
          · exact absurd ⟨w, z⟩ c
        · rw [(hI q (by omega)).2 w]; exact Or.inl (by decide)
      rw [if_pos hs, if_neg c]
      obtain ⟨i1, i2, i3, i4⟩ := ih (q + 1) n s1 v1 (by omega) (fun p h1 h2 h3 => hu p (by omega) h2 h3)
      have ne : ∀ p, q ≤ p → ot_pr so f p → q + 1 ≤ p := fun p h1 h3 => by
        have : ¬ p = q := fun z => c (z ▸ h3)
        omega
      exact ⟨i1, fun p h1 h2 h3 => i2 p (ne p h1 h3) h2 h3, fun p h1 h2 h3 => i3 p (ne p h1 h3) h2 h3, fun j hj => i4 j (fun p h1 h2 h3 => hj p (by omega) h2 h3)⟩
theorem ot_zerV : ∀ (m q : Nat) (ps : Nat → Int32) (j : Nat), q ≤ j → j < q + m → ot_zer ps m q j = 0 := by
  have keep : ∀ (m q : Nat) (ps : Nat → Int32) (j : Nat), j < q → ot_zer ps m q j = ps j := by
    intro m
    induction m with
    | zero => intro q ps j _; rfl
    | succ m ih =>
      intro q ps j hj
      rw [ot_zer, ih (q + 1) _ j (by omega), pk_un (by omega)]
  intro m
  induction m with
  | zero => intro q ps j h1 h2; omega
  | succ m ih =>
    intro q ps j h1 h2
    rw [ot_zer]
    by_cases c : j = q
    · subst c; rw [keep m (j + 1) _ j (by omega), pk_us]
    · exact ih (q + 1) _ j (by omega) (by omega)
theorem ot_vl00 {h ct : Nat → Int32} {q : Nat} (hv : ot_vw h q = 0) : ot_vl h ct q = 0 := by
  unfold ot_vw at hv
  unfold ot_vl
  split
  · rfl
  · rename_i l hl
    rw [hl] at hv
    dsimp only at hv
    split
    · rename_i w; rw [if_pos w] at hv; exact absurd hv (by decide)
    · rfl
/-- the class puts it at its new place -/
theorem ot_ptlV {g0 c0 ps pv : Nat → Int32} (ht : 0 < t) (hB : ∀ x, x < 85 → ot_on t x → ot_vw g0 x = 0) (hps : ∀ x, x < 85 → ¬ ps x = 0 → (ps x = 1 ∨ ps x = 2) ∧ ot_on t x ∧ (x = t ∨ ps (ot_par x) = 2)) (hpt : ot_vw g0 (ot_par t) = 2) : ∀ (m q : Nat) (g c : Nat → Int32), q + m = 85 → ot_inv g → (∀ x, x < q → ¬ ps x = 0 → ot_vw g x = ps x ∧ (ps x = 1 → ot_vl g c x = pv x)) → (∀ x, x < 85 → (q ≤ x ∨ ps x = 0) → ot_vw g x = ot_vw g0 x ∧ ot_vl g c x = ot_vl g0 c0 x) → (∀ x, x < q → ps x = 2 → g (340 + x) = 3) → (ot_par t = 0 ∨ g (340 + ot_par t) = 2 ∨ g (340 + ot_par t) = 3) →
    ot_inv (ot_ptl ps pv m q g c).1 ∧ (∀ x, x < 85 → ¬ ps x = 0 → ot_vw (ot_ptl ps pv m q g c).1 x = ps x ∧ (ps x = 1 → ot_vl (ot_ptl ps pv m q g c).1 (ot_ptl ps pv m q g c).2 x = pv x)) ∧ (∀ x, x < 85 → ps x = 0 → ot_vw (ot_ptl ps pv m q g c).1 x = ot_vw g0 x ∧ ot_vl (ot_ptl ps pv m q g c).1 (ot_ptl ps pv m q g c).2 x = ot_vl g0 c0 x) := by
  intro m
  induction m with
  | zero =>
    intro q g c hq hi h1 h2 _ _
    exact ⟨hi, fun x hx hn => h1 x (by omega) hn, fun x hx hn => h2 x hx (Or.inr hn)⟩
  | succ m ih =>
    intro q g c hq hi h1 h2 h3 h4
    have hq85 : q < 85 := by omega
    -- one put
    have one : ∀ s v : Int32, ¬ ps q = 0 → (s = 1 ∨ s = 3) → (ps q = if s = 1 then 1 else 2) → (s = 1 → v = pv q) →
        (∀ x, x < q + 1 → ¬ ps x = 0 → ot_vw (upd g (340 + q) s) x = ps x ∧ (ps x = 1 → ot_vl (upd g (340 + q) s) (upd c (340 + q) v) x = pv x)) ∧
        (∀ x, x < 85 → (q + 1 ≤ x ∨ ps x = 0) → ot_vw (upd g (340 + q) s) x = ot_vw g0 x ∧ ot_vl (upd g (340 + q) s) (upd c (340 + q) v) x = ot_vl g0 c0 x) ∧
        (∀ x, x < q + 1 → ps x = 2 → upd g (340 + q) s (340 + x) = 3) ∧ (ot_par t = 0 ∨ upd g (340 + q) s (340 + ot_par t) = 2 ∨ upd g (340 + q) s (340 + ot_par t) = 3) ∧ ot_inv (upd g (340 + q) s) := by
      intro s v hn hs hsq hv
      obtain ⟨-, ont, hpar⟩ := hps q hq85 hn
      have hq0 : 0 < q := by have := ot_on_le ont; omega
      have hpl := ot_par_lt hq0
      have hptl := ot_par_lt ht
      have htq := ot_on_le ont
      have notPt : ps (ot_par t) = 0 := by
        by_cases w : ps (ot_par t) = 0
        · exact w
        · have := ot_on_le (hps (ot_par t) (by omega) w).2.1; omega
      have gp : ot_vw g (ot_par q) = 2 := by
        rcases hpar with e | e
        · rw [e, (h2 (ot_par t) (by omega) (Or.inr notPt)).1]; exact hpt
        · rw [(h1 (ot_par q) hpl (by rw [e]; decide)).1]; exact e
      have gF : ot_par q = 0 ∨ g (340 + ot_par q) = 2 ∨ g (340 + ot_par q) = 3 := by
        rcases hpar with e | e
        · rw [e]; exact h4
        · exact Or.inr (Or.inr (h3 (ot_par q) hpl e))
      have gq : ¬ ot_vw g q = 2 := by
        rw [(h2 q hq85 (Or.inl (Nat.le_refl q))).1, hB q hq85 ont]; decide
      have gc := ot_child0 hi hq0 gp gq
      have hs3 : s = 1 ∨ s = 3 ∨ s = 4 := hs.elim Or.inl (fun z => Or.inr (Or.inl z))
      obtain ⟨p1, p2, p3⟩ := ot_putV c hi.1 hq0 hq85 gp (s := s) (v := v) hs3 (fun _ => gc)
      have undT : ∀ x, x < 85 → ot_und 3 x q = true → ot_on t x := by
        intro x hx hu
        have key : ∀ y, y < 85 → ot_und 3 y q = true → ot_on t y := by
          intro y
          induction y using Nat.strongRecOn with
          | ind y ihy =>
            intro hy hu
            have y0 := ot_und_pos hu
            refine Or.inr (ot_on_dn hy y0 ?_)
            rcases ot_und_dn hu with e | e
            · rw [e]; exact ont
            · exact ihy (ot_par y) (ot_par_lt y0) (ot_par84 hy) e
        exact key x hx hu
      refine ⟨fun x hx hnx => ?_, fun x hx hor => ?_, fun x hx h2x => ?_, ?_, ot_put_inv hi hq0 hq85 hs3 gF gc⟩
      · by_cases z : x = q
        · subst z
          rw [p2.1, p2.2, hsq]
          rcases hs with w | w
          · rw [if_pos w, if_pos w, if_pos w]; exact ⟨rfl, fun _ => hv w⟩
          · subst w; exact ⟨by decide, fun y => absurd y (by decide)⟩
        · have hno : ¬ ot_on q x := fun w => by have := ot_on_le w; omega
          rw [(p1 x (by omega) hno).1, (p1 x (by omega) hno).2]
          exact h1 x (by omega) hnx
      · by_cases z : x = q
        · subst z
          rcases hor with w | w
          · omega
          · exact absurd w hn
        · by_cases hu : ot_und 3 x q = true
          · have e0 := hB x hx (undT x hx hu)
            rw [(p3 x hx hu).1, (p3 x hx hu).2, e0, ot_vl00 e0]
            exact ⟨rfl, rfl⟩
          · have hno : ¬ ot_on q x := fun w => w.elim z hu
            rw [(p1 x hx hno).1, (p1 x hx hno).2]
            exact h2 x hx (hor.imp (fun w => by omega) id)
      · by_cases z : x = q
        · subst z
          rw [pk_us]
          rcases hs with w | w
          · rw [hsq, if_pos w] at h2x; exact absurd h2x (by decide)
          · exact w
        · rw [pk_un (by omega)]; exact h3 x (by omega) h2x
      · rw [pk_un (by omega)]; exact h4
    rw [ot_ptl]
    by_cases c1 : ps q = 1
    · rw [if_pos c1]
      obtain ⟨a1, a2, a3, a4, a5⟩ := one 1 (pv q) (by rw [c1]; decide) (Or.inl rfl) (by rw [if_pos rfl]; exact c1) (fun _ => rfl)
      exact ih (q + 1) _ _ (by omega) a5 a1 a2 a3 a4
    · rw [if_neg c1]
      by_cases c2 : ps q = 2
      · rw [if_pos c2]
        obtain ⟨a1, a2, a3, a4, a5⟩ := one 3 0 (by rw [c2]; decide) (Or.inr rfl) (by rw [if_neg (by decide)]; exact c2) (fun z => absurd z (by decide))
        exact ih (q + 1) _ _ (by omega) a5 a1 a2 a3 a4
      · rw [if_neg c2]
        have c0 : ps q = 0 := by
          by_cases w : ps q = 0
          · exact w
          · exact absurd (hps q hq85 w).1 (not_or.mpr ⟨c1, c2⟩)
        refine ih (q + 1) _ _ (by omega) hi (fun x hx hn => ?_) (fun x hx hor => ?_) (fun x hx h2x => ?_) h4
        · by_cases z : x = q
          · subst z; exact absurd c0 hn
          · exact h1 x (by omega) hn
        · by_cases z : x = q
          · subst z; exact h2 x hx (Or.inl (Nat.le_refl x))
          · exact h2 x hx (hor.imp (fun w => by omega) id)
        · by_cases z : x = q
          · subst z; exact absurd h2x c2
          · exact h3 x (by omega) h2x
end OtMove
end
section
set_option maxRecDepth 100000
/-! ===== moving: class and reference ===== -/
theorem ot_move_in {mt mu : Int32} {h ct ls_ lv_ so va : Nat → Int32} (m1 : ¬ mt = 0) (m2 : ¬ mu = 0) (hM : ot_M h ct so va) (ps pv im : Nat → Int32) {f t : Nat} (hf0 : 0 < f) (hf : f < 85) (ht0 : 0 < t) (ht : t < 85) (sf : ¬ so f = 0) (st : so t = 0) (sp : so (ot_par t) = 2) (hu : ¬ ot_und 3 t f = true) :
    ot_RQ (ot_xmov1 mt h ct f t (ot_cp h ct mt f t (85 - f) f 0 (ot_zer ps 85 0) pv)) (if 0 ≤ ot_fol f t 85 0 im t ∨ ot_far so (ot_fol f t 85 0 im) 84 1 = true then (-1, mu, ls_, lv_, so, va) else (nI (ot_mv (ot_fol f t 85 0 im) 84 1 0 so va).1, mu, ls_, lv_, (ot_mv (ot_fol f t 85 0 im) 84 1 0 so va).2.1, (ot_mv (ot_fol f t 85 0 im) 84 1 0 so va).2.2)) := by
  have hR : ot_R mt h ct mu ls_ lv_ so va := Or.inr ⟨m1, m2, hM⟩
  have es : ∀ x, x < 85 → so x = ot_srt mt h x := ot_R_srt hR
  obtain ⟨hi, hv⟩ := id hM
  have IM := ot_folV (f := f) (t := t) hf0 ht 85 0 im rfl (fun x hx => by omega)
  obtain ⟨I, hIe⟩ : ∃ I, I = ot_fol f t 85 0 im := ⟨_, rfl⟩
  rw [← hIe] at IM ⊢
  obtain ⟨z0, hz0⟩ : ∃ z0, z0 = ot_zer ps 85 0 := ⟨_, rfl⟩
  have Z0 : ∀ j, j < 85 → z0 j = 0 := fun j hj => by rw [hz0]; exact ot_zerV 85 0 ps j (by omega) (by omega)
  rw [← hz0]
  have hft : ¬ t = f := fun e => sf (by rw [← e]; exact st)
  have nS : ¬ ot_on f t := fun w => w.elim hft hu
  have vt : ot_vw h t = 0 := (hv t ht).1.symm.trans st
  have vf : ¬ ot_vw h f = 0 := fun w => sf ((hv f hf).1.trans w)
  have nT : ¬ ot_on t f := by
    rintro (w | w)
    · exact hft w.symm
    · exact vf (ot_vw_und hi.1 ct (by rw [vt]; decide) f hf w).1
  have hd : ∀ x, ot_on t x → ¬ ot_on f x := fun x a b => (ot_on_two x a b).elim nT nS
  have It : ¬ 0 ≤ I t := by rw [(IM t ht).2 nS]; decide
  have farI : ot_far so I 84 1 = true ↔ ∃ p, p < 85 ∧ ot_pr so f p ∧ 84 < ot_pl f t p := by
    rw [ot_farV]
    constructor
    · rintro ⟨p, p1, p2, p3, p4⟩
      by_cases w : ot_on f p
      · rw [(IM p (by omega)).1 w] at p3
        have := (nI_eq (a := min (ot_pl f t p) 85) (b := 85) (by omega) (by decide)).mp p3
        exact ⟨p, by omega, ⟨w, p4⟩, by omega⟩
      · rw [(IM p (by omega)).2 w] at p3
        exact absurd p3 (by decide)
    · rintro ⟨p, p1, p2, p3⟩
      have := ot_on_le p2.1
      refine ⟨p, by omega, by omega, ?_, p2.2⟩
      rw [(IM p p1).1 p2.1, Nat.min_eq_right (by omega)]
      rfl
  have ge : ∀ p, ot_pr so f p → f ≤ p := fun p hp => ot_on_le hp.1
  obtain ⟨cp1, cp2⟩ := ot_cpV (h := h) (ct := ct) (mt := mt) (so := so) hf0 ht0 es (85 - f) f 0 z0 pv (by omega)
  by_cases cF : ot_far so I 84 1 = true
  · obtain ⟨p, p1, p2, p3⟩ := farI.mp cF
    rw [if_pos (Or.inr cF), cp1 ⟨p, ge p p2, p1, p2, p3⟩]
    exact ot_RQ_same hR
  · rw [if_neg (fun w => w.elim It cF)]
    have hall : ∀ p, p < 85 → ot_pr so f p → ot_pl f t p ≤ 84 := by
      intro p p1 p2
      rcases Nat.lt_or_ge 84 (ot_pl f t p) with w | w
      · exact absurd (farI.mpr ⟨p, p1, p2, w⟩) cF
      · exact w
    obtain ⟨ps', pv', c1, c2, c3⟩ := cp2 (fun p _ p1 p2 => hall p p1 p2)
    obtain ⟨v1, v2, v3, v4⟩ := ot_mvV (so := so) (va := va) hf0 ht0 hd IM hall 84 1 0 so va rfl (fun p _ _ _ => ⟨rfl, rfl⟩)
    rw [c1]
    have ecn : ot_cn so f 84 1 0 = ot_cn so f (85 - f) f 0 := by
      have := ot_cn_skip (f := f) (so := so) (f - 1) (85 - f) 1 0 (fun p h1 h2 hp => absurd (ge p hp) (by omega))
      rw [show f - 1 + (85 - f) = 84 by omega, show 1 + (f - 1) = f by omega] at this
      exact this
    obtain ⟨V, hV⟩ : ∃ V, V = ot_mv I 84 1 0 so va := ⟨_, rfl⟩
    rw [← hV] at v1 v2 v3 v4 ⊢
    obtain ⟨T, hT⟩ : ∃ T, T = ot_tka mt h ct f := ⟨_, rfl⟩
    obtain ⟨t1, t2, t3⟩ := ot_tkaV (ct := ct) m1 hi hf0 hf (ot_par_2 hi.1 hf0 vf)
    rw [← hT] at t1 t2 t3
    have hpt84 := ot_par84 ht
    have nSp : ¬ ot_on f (ot_par t) := fun w => hu (ot_on_dn ht ht0 w)
    have Tp : ot_vw T.1 (ot_par t) = 2 := by rw [(t2 _ hpt84 nSp).1, ← (hv _ hpt84).1]; exact sp
    obtain ⟨cinv, u1, u2, u3, u4, u5⟩ := ot_cup_inv t1 hpt84 (Or.inr Tp)
    show ot_RQ (nI (ot_cn so f (85 - f) f 0), mt, (ot_ptl ps' pv' 85 0 (ot_cup 3 (ot_tka mt h ct f).1 (ot_par t)) (ot_tka mt h ct f).2).1, (ot_ptl ps' pv' 85 0 (ot_cup 3 (ot_tka mt h ct f).1 (ot_par t)) (ot_tka mt h ct f).2).2) _
    rw [← hT]
    obtain ⟨g0, hg0⟩ : ∃ g0, g0 = ot_cup 3 T.1 (ot_par t) := ⟨_, rfl⟩
    rw [← hg0] at cinv u1 u2 u3 u4 u5 ⊢
    have gpt : ot_vw g0 (ot_par t) = 2 := by rw [(u3 T.2 _ hpt84).1]; exact Tp
    have gF : ot_par t = 0 ∨ g0 (340 + ot_par t) = 2 ∨ g0 (340 + ot_par t) = 3 := by
      rcases Nat.eq_zero_or_pos (ot_par t) with z | z
      · exact Or.inl z
      · exact Or.inr (ot_FV u1 u2 z gpt (u5 _ z ⟨0, rfl⟩))
    have gB : ∀ x, x < 85 → ot_on t x → ot_vw g0 x = 0 := by
      intro x hx ho
      rw [(u3 T.2 x hx).1, (t2 x hx (hd x ho)).1]
      rcases ho with w | w
      · rw [w]; exact vt
      · exact (ot_vw_und hi.1 ct (by rw [vt]; decide) x hx w).1
    -- what the list says
    have hps0 : ∀ x, x < 85 → (∀ p, p < 85 → ot_pr so f p → ¬ ot_pl f t p = x) → ps' x = 0 := fun x hx hn => (c3 x (fun p _ p1 p2 => hn p p1 p2)).1.trans (Z0 x hx)
    have hpsI : ∀ x, x < 85 → ¬ ps' x = 0 → ∃ p, p < 85 ∧ ot_pr so f p ∧ ot_pl f t p = x := by
      intro x hx hn
      by_cases w : ∃ p, p < 85 ∧ ot_pr so f p ∧ ot_pl f t p = x
      · exact w
      · exact absurd (hps0 x hx (fun p p1 p2 e => w ⟨p, p1, p2, e⟩)) hn
    have so012 : ∀ p, p < 85 → so p = 0 ∨ so p = 1 ∨ so p = 2 := fun p hp => by rw [(hv p hp).1]; exact ot_vw_012 h p
    have hps : ∀ x, x < 85 → ¬ ps' x = 0 → (ps' x = 1 ∨ ps' x = 2) ∧ ot_on t x ∧ (x = t ∨ ps' (ot_par x) = 2) := by
      intro x hx hn
      obtain ⟨p, p1, p2, p3⟩ := hpsI x hx hn
      have e := (c2 p (ge p p2) p1 p2).1
      rw [p3] at e
      refine ⟨by rw [e]; exact (so012 p p1).resolve_left p2.2, by rw [← p3]; exact ot_pl_on hf0 ht0 p p2.1 (by rw [p3]; exact hx), ?_⟩
      by_cases w : p = f
      · left; rw [← p3, w, ot_pl_f]
      · right
        have p0 : 0 < p := by have := ge p p2; omega
        have hpp : so (ot_par p) = 2 := (hv _ (ot_par84 p1)).1.trans (ot_par_2 hi.1 p0 (fun y => p2.2 ((hv p p1).1.trans y)))
        have hpr : ot_pr so f (ot_par p) := ⟨ot_on_par p2.1 w, by rw [hpp]; decide⟩
        have e2 := (c2 (ot_par p) (ge _ hpr) (ot_par84 p1) hpr).1
        rw [← p3, ot_par_pl w p0, e2]
        exact hpp
    obtain ⟨r1, r2, r3⟩ := ot_ptlV (g0 := g0) (c0 := T.2) (pv := pv') ht0 gB hps gpt 85 0 g0 T.2 rfl cinv (fun x hx => by omega) (fun x _ _ => ⟨rfl, rfl⟩) (fun x hx => by omega) gF
    obtain ⟨Y, hY⟩ : ∃ Y, Y = ot_ptl ps' pv' 85 0 g0 T.2 := ⟨_, rfl⟩
    rw [← hY] at r1 r2 r3 ⊢
    refine ⟨?_, Or.inr ⟨m1, m2, r1, fun x hx => ?_⟩⟩
    · show nI (ot_cn so f (85 - f) f 0) = nI V.1
      rw [v1, ecn]
    · show V.2.1 x = ot_vw Y.1 x ∧ (V.2.1 x = 1 → V.2.2 x = ot_vl Y.1 Y.2 x)
      by_cases w : ∃ p, p < 85 ∧ ot_pr so f p ∧ ot_pl f t p = x
      · obtain ⟨p, p1, p2, p3⟩ := w
        have hfp := ge p p2
        obtain ⟨e1, e2⟩ := c2 p hfp p1 p2
        obtain ⟨e3, e4⟩ := v2 p (by omega) p1 p2
        rw [p3] at e1 e2 e3 e4
        obtain ⟨e5, e6⟩ := r2 x hx (by rw [e1]; exact p2.2)
        rw [e3, e5, e1, e4]
        refine ⟨rfl, fun y => ?_⟩
        rw [e6 (e1.trans y), e2 y]
        exact (hv p p1).2 y
      · have px : ps' x = 0 := hps0 x hx (fun p p1 p2 e => w ⟨p, p1, p2, e⟩)
        obtain ⟨e5, e6⟩ := r3 x hx px
        rw [e5, e6, (u3 T.2 x hx).1, (u3 T.2 x hx).2]
        by_cases w2 : ot_pr so f x
        · have hfx := ge x w2
          rw [v3 x (by omega) hx w2, (t3 x hx w2.1).1]
          exact ⟨rfl, fun y => absurd y (by decide)⟩
        · obtain ⟨e7, e8⟩ := v4 x (fun p _ p1 p2 => ⟨fun e => w ⟨p, p1, p2, e⟩, fun e => w2 (e ▸ p2)⟩)
          rw [e7, e8]
          by_cases w3 : ot_on f x
          · have s0 : so x = 0 := by
              by_cases y : so x = 0
              · exact y
              · exact absurd ⟨w3, y⟩ w2
            rw [(t3 x hx w3).1, s0]
            exact ⟨rfl, fun y => absurd y (by decide)⟩
          · rw [(t2 x hx w3).1, (t2 x hx w3).2]
            exact hv x hx
theorem ot_move_ok {mt mu : Int32} {h ct ls_ lv_ so va : Nat → Int32} (hR : ot_R mt h ct mu ls_ lv_ so va) (ps pv im : Nat → Int32) (p0 p1 : Int32) : ot_RQ (ot_xmov mt h ct ps pv p0 p1) (ot_mmov mu ls_ lv_ so va im p0 p1) := by
  unfold ot_xmov
  rw [ot_sort_ok hR]
  have hc := ot_room_ok hR p1
  unfold ot_mmov
  by_cases c : mu = 0 ∨ p0 < 1 ∨ 84 < p0
  · rw [if_pos c, if_pos]
    · exact ot_RQ_same hR
    · by_cases hb : p0 < 0 ∨ 84 < p0
      · rw [ot_msort, if_pos hb]; exact Or.inl (by decide)
      · obtain ⟨k, hk, rfl⟩ := ot_ix (fun w => hb (Or.inl w)) (fun w => hb (Or.inr w))
        have ek : ot_k (nI k) = k := ot_kI (by omega)
        rcases c with c | c | c
        · rcases hR with ⟨-, -, w⟩ | ⟨-, w, -⟩
          · rw [ot_msort, if_neg hb, ek, w.2.2.2 k hk]; exact Or.inl (by decide)
          · exact absurd c w
        · have : k = 0 := by
            rcases Nat.eq_zero_or_pos k with z | z
            · exact z
            · exact absurd c (ot_n1 z hk)
          subst this
          exact Or.inr (Or.inl rfl)
        · exact absurd (Or.inr c) hb
  · rw [if_neg c]
    have hm : ¬ mu = 0 := fun w => c (Or.inl w)
    obtain ⟨f, hf0, hf, rfl⟩ := ot_ix1 (x := p0) (fun w => c (Or.inr (Or.inl w))) (fun w => c (Or.inr (Or.inr w)))
    have ef : ot_k (nI f) = f := ot_kI (by omega)
    have hb : ¬ (nI f < 0 ∨ 84 < nI f) := fun w => w.elim (ot_nlt (by omega)) (ot_n84 hf)
    have hne : ¬ nI f = 0 := nI_ne0 hf0 (by omega)
    rw [ot_msort, if_neg hb, ef]
    have h012 : so f = 0 ∨ so f = 1 ∨ so f = 2 := by rw [ot_R_srt hR f hf]; exact ot_srt_012 mt h f
    by_cases d : so f = 0 ∨ ¬ ot_can mu so p1
    · rw [if_pos d, if_pos]
      · exact ot_RQ_same hR
      · rcases d with d | d
        · exact Or.inl ((ot_le0 h012).mpr d)
        · exact Or.inr (Or.inr (Or.inl (fun w => d (hc.mp w))))
    · have sf : ¬ so f = 0 := fun w => d (Or.inl w)
      have hcan : ot_can mu so p1 := Decidable.not_not.mp (fun w => d (Or.inr w))
      have hroom := hc.mpr hcan
      obtain ⟨t, ht0, ht, rfl⟩ := ot_room_k hroom
      have et : ot_k (nI t) = t := ot_kI (by omega)
      rcases id hR with ⟨-, w, -⟩ | ⟨m1, m2, m3⟩
      · exact absurd w hm
      · have st : so t = 0 := by have := hcan.2.2.2.1; rwa [et] at this
        have sp : so (ot_par t) = 2 := by have := hcan.2.2.2.2; rwa [et] at this
        rw [if_neg d]
        by_cases u : ot_und 3 t f = true
        · rw [if_pos (Or.inr (Or.inr (Or.inr (by rw [et]; exact u)))), et]
          have IM := ot_folV (f := f) (t := t) hf0 ht 85 0 im rfl (fun x hx => by omega)
          have h0 : 0 ≤ ot_fol f t 85 0 im t := by
            rw [(IM t ht).1 (Or.inr u)]
            exact nI_pos' (by omega)
          rw [if_pos (Or.inl h0)]
          exact ot_RQ_same hR
        · rw [if_neg, et]
          · exact ot_move_in m1 m2 m3 ps pv im hf0 hf ht0 ht sf st sp u
          · rintro (w | w | w | w)
            · exact sf ((ot_le0 h012).mp w)
            · exact hne w
            · exact w hroom
            · rw [et] at w; exact u w
end
section
set_option maxRecDepth 100000
/-! THE CLAIM OUT OF ONE WALK OF THE LAW'S BODY. Your part is whole_start (and what it stands on); all else here is the same for every law, but numbers. -/
def R_law : String := "OverlayTreeLaw"
def lw_P (b : Addr) (xs : List Int32) (args : Array Value) (s : State) : Prop := args = #[.ref b] ∧ s.IntsAt b xs ∧ xs.length ≤ 320 ∧ (Jvm.Cond.and given_1 narrow_1).before args s = true
def lw_Q (_ : Array Value) (s : State) (o : Outcome) (t : State) : Prop := o = .returned (some (.int 1)) ∧ Framed s o t [] 600000 7290000
def lw_Z (below : List Frame) (a : Array Value) (s : State) : State → Prop := fun t => ∃ o, t.status = .running ∧ Ended t below o ∧ lw_Q a s o t
/-- the law's own end, with 1 on the stack, nothing written that was there before, its room as the claim has it -/
theorem lw_ret {p : Program} {l : Launch} {e : Env} {s : State} {m : MethodId} {below : List Frame} {meth : Method} {c : Code} {b : Nat} (hx : p.tables.exec = Jvm.exec) (hb : c.code = code) (hr : meth.sig.returnType = ret) (hlocks : meth.locks = false) {pc : Nat} {H : Heap} {ls : Array Slot} (hdg : decode code pc = .ok (.ireturn, 1)) : W p l e room_1 s m #[Value.ref b] below meth c H [] 600000 7290000 (lw_Z below #[Value.ref b] s) (F0 m pc ls [.int 1]) := by
  intro T hT X
  obtain ⟨fs, hret, hrun, hended, hW, hframe⟩ := X.leave (v := some (.int 1)) (hlocks := hlocks) (fun h => by rw [hr] at h; cases h)
  have hmeth' : T.vm.method? m = some meth := X.method'
  refine ⟨T.setFrames fs, ?_, .returned (some (.int 1)), hrun, hended, rfl, ⟨_, rfl⟩, hW, hframe⟩
  jvm_step X.here [X.here.top, hx, hb, hdg, hmeth', hr, ret, narrow_b1]
  (try refine ⟨rfl, ?_⟩); (try refine ⟨rfl, ?_⟩)
  first | (intro acts; rw [hret _ acts rfl rfl rfl]) | rw [hret _ _ rfl rfl rfl]
  exact Steps.refl _
/-- what holds at the law's entry: the machine, the code, the tables' words (any of lw_tbl by 'hts w (by decide +kernel)'), the script of L ints xs at the cell b, what the Statement gives of the start (any of its parts by flat_of_before) -/
def lw_At (p : Program) (s : State) (m : MethodId) (meth : Method) (c : Code) (b L : Nat) (xs : Nat → Int32) : Prop :=
  p.tables.exec = Jvm.exec ∧ c.code = code ∧ meth.sig.returnType = ret ∧ c.maxLocals = 4 ∧ s.vm.findClass R_law = some m.cls ∧ (∀ w ∈ lw_tbl, w.before #[Value.ref b] s = true) ∧ va_X b L xs s s.heap ∧ b < s.heap.size ∧ meth.locks = false ∧ (Jvm.Cond.and given_1 narrow_1).before #[Value.ref b] s = true

theorem ot_inc5 (j : Nat) : nI j + Int32.ofInt 5 = nI (j + 5) := nI_add j 5
theorem ot_lim {L i : Nat} (hL : L ≤ 320) (hi : i ≤ 325) : nI L - 5 < nI i ↔ L < i + 5 := by
  rw [Int32.lt_iff_toInt_lt]
  have h1 : (nI L - 5).toInt = (L : Int) - 5 := pk_sub_toInt (a := L) (b := 5) (by omega) (by decide)
  rw [h1, nI_toInt (by omega)]
  omega
def ot_RR (u : ot_xS) (v : ot_mS) : Prop := ot_R u.1 u.2.2.2.1 u.2.2.2.2.1 v.1 v.2.1 v.2.2.1 v.2.2.2.1 v.2.2.2.2.1
theorem ot_comb {q : ot_xR} {w : ot_mR} {r r' : Int32} {u : ot_xS} {v : ot_mS} (hx : ot_xP q r u) (hm : ot_mP w r' v) (hQ : ot_RQ q w) : r = r' ∧ ot_RR u v := by
  obtain ⟨x1, x2, x3, x4⟩ := hx
  obtain ⟨m1, m2, m3, m4, m5, m6⟩ := hm
  unfold ot_RR
  rw [x1, m1, x2, x3, x4, m2, m3, m4, m5, m6]
  exact hQ
theorem ot_combR {q : ot_xR} {r r' : Int32} {u : ot_xS} {v : ot_mS} (hx : ot_xP q r u) (hQ : q.1 = r' ∧ ot_R q.2.1 q.2.2.1 q.2.2.2 v.1 v.2.1 v.2.2.1 v.2.2.2.1 v.2.2.2.2.1) : r = r' ∧ ot_RR u v := by
  obtain ⟨x1, x2, x3, x4⟩ := hx
  unfold ot_RR
  rw [x1, x2, x3, x4]
  exact hQ
theorem ot_Pl {G : va_G} {w1 w2 : va_W} {H : Heap} (h : va_P G vwCl (w1 ++ w2) H) : va_P G vwCl w1 H := fun k q hq => h k q (by rw [List.getElem?_append_left (List.getElem?_eq_some_iff.mp hq).1]; exact hq)
theorem ot_Pr {G : va_G} {w1 w2 : va_W} {H : Heap} (h : va_P G vwCl (w1 ++ w2) H) : va_P G vwCl w2 H := fun k q hq => h (w1.length + k) q (by rw [List.getElem?_append_right (by omega), Nat.add_sub_cancel_left]; exact hq)
theorem ot_sw {G : va_G} {A : Nat → Prop} {s : State} {H : Heap} {locs : List Loc} {w1 w2 : va_W} (h : ot_I G A s H locs (w1 ++ w2)) : ot_I G A s H locs (w2 ++ w1) := by
  obtain ⟨hP, hD, hS⟩ := h
  have l1 : ∀ (k : Nat) (q : Nat × va_E), w1[k]? = some q → (w1 ++ w2)[k]? = some q := fun k q hq => by rw [List.getElem?_append_left (List.getElem?_eq_some_iff.mp hq).1]; exact hq
  have l2 : ∀ (k : Nat) (q : Nat × va_E), w2[k]? = some q → (w1 ++ w2)[w1.length + k]? = some q := fun k q hq => by rw [List.getElem?_append_right (by omega), Nat.add_sub_cancel_left]; exact hq
  refine ⟨(ot_Pr hP).app (ot_Pl hP), va_D.app ⟨fun i j x z hx hz e => ?_, fun k q hq => hD.2 _ q (l2 k q hq)⟩ ⟨fun i j x z hx hz e => hD.1 i j x z (l1 i x hx) (l1 j z hz) e, fun k q hq => hD.2 _ q (l1 k q hq)⟩ (fun i j x z hx hz e => ?_), hS⟩
  · have := hD.1 _ _ x z (l2 i x hx) (l2 j z hz) e
    omega
  · have h1 := hD.1 _ _ x z (l2 i x hx) (l1 j z hz) e
    have h2 := (List.getElem?_eq_some_iff.mp hz).1
    omega
section OtLaw
variable {p : Program} {l : Launch} {e : Env} {R : Room} {s : State} {m : MethodId} {args : Array Value} {below : List Frame} {meth : Method} {c : Code} {H : Heap} {locs : List Loc} {cells slots : Nat} {Q : State → Prop}
variable {cc : ByteArray} {pc : Nat} {ls : Array Slot} {rest : List Value} {A : Nat → Prop}
theorem ot_sld (hexec : p.tables.exec = Jvm.exec) (hb : c.code = cc) {b L : Nat} {xs : Nat → Int32} (hX : va_X b L xs s s.heap) (hbl : b < s.heap.size) (hbA : ¬ A b) (hS : va_S A s.heap H locs) {i : Int32} {j : Nat} (hi : i = nI j) (hj : j < L) (hL : L ≤ 320) (hdg : decode cc pc = .ok (.iaload, 1)) (kk : W p l e R s m args below meth c H locs cells slots Q (F0 m (pc + 1) ls (.int (xs j) :: rest))) : W p l e R s m args below meth c H locs cells slots Q (F0 m pc ls (.int i :: .ref b :: rest)) := by
  subst hi
  refine va_sld hexec hb hX hbl hbA hS (vp_in_nI hj (by omega)) hdg ?_
  rw [nI_clamp (show j < 2 ^ 31 by omega)]
  exact kk
end OtLaw
end
section
set_option maxRecDepth 100000
set_option maxHeartbeats 4000000 in
set_option maxRecDepth 100000 in
theorem ot_law_fill {p : Program} {l : Launch} {e : Env} {s : State} {m : MethodId} {below : List Frame} {meth : Method} {c : Code} {b L : Nat} {xs : Nat → Int32} {G : va_G} {d : ClassId} {a a' : Nat → Nat} (hL : L ≤ 320) (C0 : lw_At p s m meth c b L xs) (hK : va_K G vwCl [(d, .int)] s) (i : Nat) (hi : i + 5 ≤ L) (u : ot_xS) (v : ot_mS) (hR : ot_RR u v) (next : ∀ (u : ot_xS) (v : ot_mS), ot_RR u v → ∀ (H : Heap) (locs : List Loc), ot_I G (fun q : Nat => s.heap.size ≤ q) s H locs (ot_xW d a u ++ ot_mW d a' v) → ∀ (ls : Array Slot), lv_has ls 4 [(0, .ref b), (1, .ref (a 0)), (2, .ref (a' 0)), (3, .int (nI i))] → W p l e room_1 s m #[Value.ref b] below meth c H locs 12 1803 (lw_Z below #[Value.ref b] s) (F0 m 402 ls [])) (H : Heap) (locs : List Loc) (hI : ot_I G (fun q : Nat => s.heap.size ≤ q) s H locs (ot_xW d a u ++ ot_mW d a' v)) (ls : Array Slot) (hl : lv_has ls 4 [(0, .ref b), (1, .ref (a 0)), (2, .ref (a' 0)), (3, .int (nI i))]) : W p l e room_1 s m #[Value.ref b] below meth c H locs 12 1803 (lw_Z below #[Value.ref b] s) (F0 m 96 ls []) := by
  obtain ⟨hx, hb, hr, hml, hown, hts0, hX, hbl, hlocks, hgv⟩ := id C0
  have hts : ∀ w ∈ lw_all, w.before #[Value.ref b] s = true := fun w h => hts0 w (lw_all_tbl h)
  have hA : ∀ q : Nat, s.heap.size ≤ q → (fun q : Nat => s.heap.size ≤ q) q := fun _ h => h
  have hbA : ¬ (fun q : Nat => s.heap.size ≤ q) b := Nat.not_le.mpr hbl
  have hC : CallFix p m c code 4 s #[Value.ref b] lw_all R_law := ⟨hx, hb, hml, hown, hts⟩
  obtain ⟨mt, fd, fl, hd, ct, wy, ps, pv⟩ := u
  obtain ⟨mu, ls_, lv_, so, va, im⟩ := v
  have hR : ot_R mt hd ct mu ls_ lv_ so va := hR
  refine lv_aload_n hx hb dL_law_96 rfl (lv_at hl 1 rfl) ?_
  refine lv_aload_n hx hb dL_law_97 rfl (lv_at hl 0 rfl) ?_
  refine lv_iload_n hx hb dL_law_98 rfl (lv_at hl 3 rfl) ?_
  refine lv_iconst (v := 1) hx hb dL_law_99 (by decide) ?_
  refine ot_iadd hx hb (a := i) (b := 1) rfl rfl dL_law_100 ?_
  refine ot_sld hx hb hX hbl hbA hI.2.2 (j := i + 1) rfl (by omega) hL dL_law_101 ?_
  refine lv_aload_n hx hb dL_law_102 rfl (lv_at hl 0 rfl) ?_
  refine lv_iload_n hx hb dL_law_103 rfl (lv_at hl 3 rfl) ?_
  refine lv_iconst (v := 2) hx hb dL_law_104 (by decide) ?_
  refine ot_iadd hx hb (a := i) (b := 2) rfl rfl dL_law_105 ?_
  refine ot_sld hx hb hX hbl hbA hI.2.2 (j := i + 2) rfl (by omega) hL dL_law_106 ?_
  refine lv_aload_n hx hb dL_law_107 rfl (lv_at hl 0 rfl) ?_
  refine lv_iload_n hx hb dL_law_108 rfl (lv_at hl 3 rfl) ?_
  refine lv_iconst (v := 3) hx hb dL_law_109 (by decide) ?_
  refine ot_iadd hx hb (a := i) (b := 3) rfl rfl dL_law_110 ?_
  refine ot_sld hx hb hX hbl hbA hI.2.2 (j := i + 3) rfl (by omega) hL dL_law_111 ?_
  refine lv_aload_n hx hb dL_law_112 rfl (lv_at hl 0 rfl) ?_
  refine lv_iload_n hx hb dL_law_113 rfl (lv_at hl 3 rfl) ?_
  refine lv_iconst (v := 4) hx hb dL_law_114 (by decide) ?_
  refine ot_iadd hx hb (a := i) (b := 4) rfl rfl dL_law_115 ?_
  refine ot_sld hx hb hX hbl hbA hI.2.2 (j := i + 4) rfl (by omega) hL dL_law_116 ?_
  refine ot_calli (wf := ot_xW d a) (wr := ot_mW d a' (mu, ls_, lv_, so, va, im)) (ci := 0) (C := RX0) (As := [.int (xs (i + 1)), .int (xs (i + 2)), .int (xs (i + 3)), .int (xs (i + 4))]) (rest := []) (xm_fill l G d a mt fd fl hd ct wy ps pv (xs (i + 1)) (xs (i + 2)) (xs (i + 3)) (xs (i + 4))) hC hK hI hA (ot_xA d a) rfl rfl (cwV 4 hts (lw_V q52 q53 q54 q16 q55) rfl rfl rfl ok_yX0_fill ⟨Nat.le_of_ble_eq_true rfl, Nat.le_of_ble_eq_true rfl⟩) rfl rfl hl.1 (Nat.le_of_ble_eq_true rfl) dL_law_117 ⟨Nat.le_of_ble_eq_true rfl, Nat.le_of_ble_eq_true rfl⟩ (fun r1 u1 H locs hp1 hI => ?_)
  refine lv_aload_n hx hb dL_law_120 rfl (lv_at hl 2 rfl) ?_
  refine lv_aload_n hx hb dL_law_121 rfl (lv_at hl 0 rfl) ?_
  refine lv_iload_n hx hb dL_law_122 rfl (lv_at hl 3 rfl) ?_
  refine lv_iconst (v := 1) hx hb dL_law_123 (by decide) ?_
  refine ot_iadd hx hb (a := i) (b := 1) rfl rfl dL_law_124 ?_
  refine ot_sld hx hb hX hbl hbA hI.2.2 (j := i + 1) rfl (by omega) hL dL_law_125 ?_
  refine lv_aload_n hx hb dL_law_126 rfl (lv_at hl 0 rfl) ?_
  refine lv_iload_n hx hb dL_law_127 rfl (lv_at hl 3 rfl) ?_
  refine lv_iconst (v := 2) hx hb dL_law_128 (by decide) ?_
  refine ot_iadd hx hb (a := i) (b := 2) rfl rfl dL_law_129 ?_
  refine ot_sld hx hb hX hbl hbA hI.2.2 (j := i + 2) rfl (by omega) hL dL_law_130 ?_
  refine lv_aload_n hx hb dL_law_131 rfl (lv_at hl 0 rfl) ?_
  refine lv_iload_n hx hb dL_law_132 rfl (lv_at hl 3 rfl) ?_
  refine lv_iconst (v := 3) hx hb dL_law_133 (by decide) ?_
  refine ot_iadd hx hb (a := i) (b := 3) rfl rfl dL_law_134 ?_
  refine ot_sld hx hb hX hbl hbA hI.2.2 (j := i + 3) rfl (by omega) hL dL_law_135 ?_
  refine lv_aload_n hx hb dL_law_136 rfl (lv_at hl 0 rfl) ?_
  refine lv_iload_n hx hb dL_law_137 rfl (lv_at hl 3 rfl) ?_
  refine lv_iconst (v := 4) hx hb dL_law_138 (by decide) ?_
  refine ot_iadd hx hb (a := i) (b := 4) rfl rfl dL_law_139 ?_
  refine ot_sld hx hb hX hbl hbA hI.2.2 (j := i + 4) rfl (by omega) hL dL_law_140 ?_
  have hI := ot_sw hI
  refine ot_calli (wf := ot_mW d a') (wr := ot_xW d a u1) (ci := 1) (C := RX1) (As := [.int (xs (i + 1)), .int (xs (i + 2)), .int (xs (i + 3)), .int (xs (i + 4))]) (rest := [.int (r1)]) (mm_fill l G d a' mu ls_ lv_ so va im (xs (i + 1)) (xs (i + 2)) (xs (i + 3)) (xs (i + 4))) hC hK hI hA (ot_mA d a') rfl rfl (cwV 4 hts (lw_V q175 q176 q177 q17 q178) rfl rfl rfl ok_yX1_fill ⟨Nat.le_of_ble_eq_true rfl, Nat.le_of_ble_eq_true rfl⟩) rfl rfl hl.1 (Nat.le_of_ble_eq_true rfl) dL_law_141 ⟨Nat.le_of_ble_eq_true rfl, Nat.le_of_ble_eq_true rfl⟩ (fun r2 v1 H locs hp2 hI => ?_)
  have hI := ot_sw hI
  obtain ⟨he, hRR⟩ := ot_comb hp1 hp2 (ot_fill_ok hR (xs (i + 1)) (xs (i + 2)) (xs (i + 3)) (xs (i + 4)))
  refine lv_icmp_eq (tgt := 402) hx hb dL_law_144 (by decide) (fun _ => ?_) (fun c_ => absurd he c_)
  exact next u1 v1 hRR _ _ hI _ (lv_sub hl [0, 1, 2, 3] rfl)
set_option maxHeartbeats 4000000 in
set_option maxRecDepth 100000 in
theorem ot_law_mount {p : Program} {l : Launch} {e : Env} {s : State} {m : MethodId} {below : List Frame} {meth : Method} {c : Code} {b L : Nat} {xs : Nat → Int32} {G : va_G} {d : ClassId} {a a' : Nat → Nat} (hL : L ≤ 320) (C0 : lw_At p s m meth c b L xs) (hK : va_K G vwCl [(d, .int)] s) (i : Nat) (hi : i + 5 ≤ L) (u : ot_xS) (v : ot_mS) (hR : ot_RR u v) (next : ∀ (u : ot_xS) (v : ot_mS), ot_RR u v → ∀ (H : Heap) (locs : List Loc), ot_I G (fun q : Nat => s.heap.size ≤ q) s H locs (ot_xW d a u ++ ot_mW d a' v) → ∀ (ls : Array Slot), lv_has ls 4 [(0, .ref b), (1, .ref (a 0)), (2, .ref (a' 0)), (3, .int (nI i))] → W p l e room_1 s m #[Value.ref b] below meth c H locs 12 1803 (lw_Z below #[Value.ref b] s) (F0 m 402 ls [])) (H : Heap) (locs : List Loc) (hI : ot_I G (fun q : Nat => s.heap.size ≤ q) s H locs (ot_xW d a u ++ ot_mW d a' v)) (ls : Array Slot) (hl : lv_has ls 4 [(0, .ref b), (1, .ref (a 0)), (2, .ref (a' 0)), (3, .int (nI i))]) : W p l e room_1 s m #[Value.ref b] below meth c H locs 12 1803 (lw_Z below #[Value.ref b] s) (F0 m 149 ls []) := by
  obtain ⟨hx, hb, hr, hml, hown, hts0, hX, hbl, hlocks, hgv⟩ := id C0
  have hts : ∀ w ∈ lw_all, w.before #[Value.ref b] s = true := fun w h => hts0 w (lw_all_tbl h)
  have hA : ∀ q : Nat, s.heap.size ≤ q → (fun q : Nat => s.heap.size ≤ q) q := fun _ h => h
  have hbA : ¬ (fun q : Nat => s.heap.size ≤ q) b := Nat.not_le.mpr hbl
  have hC : CallFix p m c code 4 s #[Value.ref b] lw_all R_law := ⟨hx, hb, hml, hown, hts⟩
  obtain ⟨mt, fd, fl, hd, ct, wy, ps, pv⟩ := u
  obtain ⟨mu, ls_, lv_, so, va, im⟩ := v
  have hR : ot_R mt hd ct mu ls_ lv_ so va := hR
  refine lv_aload_n hx hb dL_law_149 rfl (lv_at hl 1 rfl) ?_
  refine ot_calli (wf := ot_xW d a) (wr := ot_mW d a' (mu, ls_, lv_, so, va, im)) (ci := 0) (C := RX0) (As := []) (rest := []) (xm_mount l G d a mt fd fl hd ct wy ps pv ) hC hK hI hA (ot_xA d a) rfl rfl (cwV 0 hts (lw_V q59 q60 q61 q16 q62) rfl rfl rfl ok_yX0_mount ⟨Nat.le_of_ble_eq_true rfl, Nat.le_of_ble_eq_true rfl⟩) rfl rfl hl.1 (Nat.le_of_ble_eq_true rfl) dL_law_150 ⟨Nat.le_of_ble_eq_true rfl, Nat.le_of_ble_eq_true rfl⟩ (fun r1 u1 H locs hp1 hI => ?_)
  refine lv_aload_n hx hb dL_law_153 rfl (lv_at hl 2 rfl) ?_
  have hI := ot_sw hI
  refine ot_calli (wf := ot_mW d a') (wr := ot_xW d a u1) (ci := 1) (C := RX1) (As := []) (rest := [.int (r1)]) (mm_mount l G d a' mu ls_ lv_ so va im ) hC hK hI hA (ot_mA d a') rfl rfl (cwV 0 hts (lw_V q189 q190 q191 q17 q192) rfl rfl rfl ok_yX1_mount ⟨Nat.le_of_ble_eq_true rfl, Nat.le_of_ble_eq_true rfl⟩) rfl rfl hl.1 (Nat.le_of_ble_eq_true rfl) dL_law_154 ⟨Nat.le_of_ble_eq_true rfl, Nat.le_of_ble_eq_true rfl⟩ (fun r2 v1 H locs hp2 hI => ?_)
  have hI := ot_sw hI
  obtain ⟨he, hRR⟩ := ot_comb hp1 hp2 (ot_mount_ok hR)
  refine lv_icmp_eq (tgt := 402) hx hb dL_law_157 (by decide) (fun _ => ?_) (fun c_ => absurd he c_)
  exact next u1 v1 hRR _ _ hI _ (lv_sub hl [0, 1, 2, 3] rfl)
set_option maxHeartbeats 4000000 in
set_option maxRecDepth 100000 in
theorem ot_law_make {p : Program} {l : Launch} {e : Env} {s : State} {m : MethodId} {below : List Frame} {meth : Method} {c : Code} {b L : Nat} {xs : Nat → Int32} {G : va_G} {d : ClassId} {a a' : Nat → Nat} (hL : L ≤ 320) (C0 : lw_At p s m meth c b L xs) (hK : va_K G vwCl [(d, .int)] s) (i : Nat) (hi : i + 5 ≤ L) (u : ot_xS) (v : ot_mS) (hR : ot_RR u v) (next : ∀ (u : ot_xS) (v : ot_mS), ot_RR u v → ∀ (H : Heap) (locs : List Loc), ot_I G (fun q : Nat => s.heap.size ≤ q) s H locs (ot_xW d a u ++ ot_mW d a' v) → ∀ (ls : Array Slot), lv_has ls 4 [(0, .ref b), (1, .ref (a 0)), (2, .ref (a' 0)), (3, .int (nI i))] → W p l e room_1 s m #[Value.ref b] below meth c H locs 12 1803 (lw_Z below #[Value.ref b] s) (F0 m 402 ls [])) (H : Heap) (locs : List Loc) (hI : ot_I G (fun q : Nat => s.heap.size ≤ q) s H locs (ot_xW d a u ++ ot_mW d a' v)) (ls : Array Slot) (hl : lv_has ls 4 [(0, .ref b), (1, .ref (a 0)), (2, .ref (a' 0)), (3, .int (nI i))]) : W p l e room_1 s m #[Value.ref b] below meth c H locs 12 1803 (lw_Z below #[Value.ref b] s) (F0 m 162 ls []) := by
  obtain ⟨hx, hb, hr, hml, hown, hts0, hX, hbl, hlocks, hgv⟩ := id C0
  have hts : ∀ w ∈ lw_all, w.before #[Value.ref b] s = true := fun w h => hts0 w (lw_all_tbl h)
  have hA : ∀ q : Nat, s.heap.size ≤ q → (fun q : Nat => s.heap.size ≤ q) q := fun _ h => h
  have hbA : ¬ (fun q : Nat => s.heap.size ≤ q) b := Nat.not_le.mpr hbl
  have hC : CallFix p m c code 4 s #[Value.ref b] lw_all R_law := ⟨hx, hb, hml, hown, hts⟩
  obtain ⟨mt, fd, fl, hd, ct, wy, ps, pv⟩ := u
  obtain ⟨mu, ls_, lv_, so, va, im⟩ := v
  have hR : ot_R mt hd ct mu ls_ lv_ so va := hR
  refine lv_aload_n hx hb dL_law_162 rfl (lv_at hl 1 rfl) ?_
  refine lv_aload_n hx hb dL_law_163 rfl (lv_at hl 0 rfl) ?_
  refine lv_iload_n hx hb dL_law_164 rfl (lv_at hl 3 rfl) ?_
  refine lv_iconst (v := 1) hx hb dL_law_165 (by decide) ?_
  refine ot_iadd hx hb (a := i) (b := 1) rfl rfl dL_law_166 ?_
  refine ot_sld hx hb hX hbl hbA hI.2.2 (j := i + 1) rfl (by omega) hL dL_law_167 ?_
  refine lv_aload_n hx hb dL_law_168 rfl (lv_at hl 0 rfl) ?_
  refine lv_iload_n hx hb dL_law_169 rfl (lv_at hl 3 rfl) ?_
  refine lv_iconst (v := 2) hx hb dL_law_170 (by decide) ?_
  refine ot_iadd hx hb (a := i) (b := 2) rfl rfl dL_law_171 ?_
  refine ot_sld hx hb hX hbl hbA hI.2.2 (j := i + 2) rfl (by omega) hL dL_law_172 ?_
  refine ot_calli (wf := ot_xW d a) (wr := ot_mW d a' (mu, ls_, lv_, so, va, im)) (ci := 0) (C := RX0) (As := [.int (xs (i + 1)), .int (xs (i + 2))]) (rest := []) (xm_make l G d a mt fd fl hd ct wy ps pv (xs (i + 1)) (xs (i + 2))) hC hK hI hA (ot_xA d a) rfl rfl (cwV 2 hts (lw_V q83 q84 q85 q16 q86) rfl rfl rfl ok_yX0_make ⟨Nat.le_of_ble_eq_true rfl, Nat.le_of_ble_eq_true rfl⟩) rfl rfl hl.1 (Nat.le_of_ble_eq_true rfl) dL_law_173 ⟨Nat.le_of_ble_eq_true rfl, Nat.le_of_ble_eq_true rfl⟩ (fun r1 u1 H locs hp1 hI => ?_)
  refine lv_aload_n hx hb dL_law_176 rfl (lv_at hl 2 rfl) ?_
  refine lv_aload_n hx hb dL_law_177 rfl (lv_at hl 0 rfl) ?_
  refine lv_iload_n hx hb dL_law_178 rfl (lv_at hl 3 rfl) ?_
  refine lv_iconst (v := 1) hx hb dL_law_179 (by decide) ?_
  refine ot_iadd hx hb (a := i) (b := 1) rfl rfl dL_law_180 ?_
  refine ot_sld hx hb hX hbl hbA hI.2.2 (j := i + 1) rfl (by omega) hL dL_law_181 ?_
  refine lv_aload_n hx hb dL_law_182 rfl (lv_at hl 0 rfl) ?_
  refine lv_iload_n hx hb dL_law_183 rfl (lv_at hl 3 rfl) ?_
  refine lv_iconst (v := 2) hx hb dL_law_184 (by decide) ?_
  refine ot_iadd hx hb (a := i) (b := 2) rfl rfl dL_law_185 ?_
  refine ot_sld hx hb hX hbl hbA hI.2.2 (j := i + 2) rfl (by omega) hL dL_law_186 ?_
  have hI := ot_sw hI
  refine ot_calli (wf := ot_mW d a') (wr := ot_xW d a u1) (ci := 1) (C := RX1) (As := [.int (xs (i + 1)), .int (xs (i + 2))]) (rest := [.int (r1)]) (mm_make l G d a' mu ls_ lv_ so va im (xs (i + 1)) (xs (i + 2))) hC hK hI hA (ot_mA d a') rfl rfl (cwV 2 hts (lw_V q205 q206 q207 q17 q208) rfl rfl rfl ok_yX1_make ⟨Nat.le_of_ble_eq_true rfl, Nat.le_of_ble_eq_true rfl⟩) rfl rfl hl.1 (Nat.le_of_ble_eq_true rfl) dL_law_187 ⟨Nat.le_of_ble_eq_true rfl, Nat.le_of_ble_eq_true rfl⟩ (fun r2 v1 H locs hp2 hI => ?_)
  have hI := ot_sw hI
  obtain ⟨he, hRR⟩ := ot_comb hp1 hp2 (ot_make_ok hR (xs (i + 1)) (xs (i + 2)))
  refine lv_icmp_eq (tgt := 402) hx hb dL_law_190 (by decide) (fun _ => ?_) (fun c_ => absurd he c_)
  exact next u1 v1 hRR _ _ hI _ (lv_sub hl [0, 1, 2, 3] rfl)
set_option maxHeartbeats 4000000 in
set_option maxRecDepth 100000 in
theorem ot_law_makeDir {p : Program} {l : Launch} {e : Env} {s : State} {m : MethodId} {below : List Frame} {meth : Method} {c : Code} {b L : Nat} {xs : Nat → Int32} {G : va_G} {d : ClassId} {a a' : Nat → Nat} (hL : L ≤ 320) (C0 : lw_At p s m meth c b L xs) (hK : va_K G vwCl [(d, .int)] s) (i : Nat) (hi : i + 5 ≤ L) (u : ot_xS) (v : ot_mS) (hR : ot_RR u v) (next : ∀ (u : ot_xS) (v : ot_mS), ot_RR u v → ∀ (H : Heap) (locs : List Loc), ot_I G (fun q : Nat => s.heap.size ≤ q) s H locs (ot_xW d a u ++ ot_mW d a' v) → ∀ (ls : Array Slot), lv_has ls 4 [(0, .ref b), (1, .ref (a 0)), (2, .ref (a' 0)), (3, .int (nI i))] → W p l e room_1 s m #[Value.ref b] below meth c H locs 12 1803 (lw_Z below #[Value.ref b] s) (F0 m 402 ls [])) (H : Heap) (locs : List Loc) (hI : ot_I G (fun q : Nat => s.heap.size ≤ q) s H locs (ot_xW d a u ++ ot_mW d a' v)) (ls : Array Slot) (hl : lv_has ls 4 [(0, .ref b), (1, .ref (a 0)), (2, .ref (a' 0)), (3, .int (nI i))]) : W p l e room_1 s m #[Value.ref b] below meth c H locs 12 1803 (lw_Z below #[Value.ref b] s) (F0 m 195 ls []) := by
  obtain ⟨hx, hb, hr, hml, hown, hts0, hX, hbl, hlocks, hgv⟩ := id C0
  have hts : ∀ w ∈ lw_all, w.before #[Value.ref b] s = true := fun w h => hts0 w (lw_all_tbl h)
  have hA : ∀ q : Nat, s.heap.size ≤ q → (fun q : Nat => s.heap.size ≤ q) q := fun _ h => h
  have hbA : ¬ (fun q : Nat => s.heap.size ≤ q) b := Nat.not_le.mpr hbl
  have hC : CallFix p m c code 4 s #[Value.ref b] lw_all R_law := ⟨hx, hb, hml, hown, hts⟩
  obtain ⟨mt, fd, fl, hd, ct, wy, ps, pv⟩ := u
  obtain ⟨mu, ls_, lv_, so, va, im⟩ := v
  have hR : ot_R mt hd ct mu ls_ lv_ so va := hR
  refine lv_aload_n hx hb dL_law_195 rfl (lv_at hl 1 rfl) ?_
  refine lv_aload_n hx hb dL_law_196 rfl (lv_at hl 0 rfl) ?_
  refine lv_iload_n hx hb dL_law_197 rfl (lv_at hl 3 rfl) ?_
  refine lv_iconst (v := 1) hx hb dL_law_198 (by decide) ?_
  refine ot_iadd hx hb (a := i) (b := 1) rfl rfl dL_law_199 ?_
  refine ot_sld hx hb hX hbl hbA hI.2.2 (j := i + 1) rfl (by omega) hL dL_law_200 ?_
  refine ot_calli (wf := ot_xW d a) (wr := ot_mW d a' (mu, ls_, lv_, so, va, im)) (ci := 0) (C := RX0) (As := [.int (xs (i + 1))]) (rest := []) (xm_makeDir l G d a mt fd fl hd ct wy ps pv (xs (i + 1))) hC hK hI hA (ot_xA d a) rfl rfl (cwV 1 hts (lw_V q99 q100 q101 q16 q102) rfl rfl rfl ok_yX0_makeDir ⟨Nat.le_of_ble_eq_true rfl, Nat.le_of_ble_eq_true rfl⟩) rfl rfl hl.1 (Nat.le_of_ble_eq_true rfl) dL_law_201 ⟨Nat.le_of_ble_eq_true rfl, Nat.le_of_ble_eq_true rfl⟩ (fun r1 u1 H locs hp1 hI => ?_)
  refine lv_aload_n hx hb dL_law_204 rfl (lv_at hl 2 rfl) ?_
  refine lv_aload_n hx hb dL_law_205 rfl (lv_at hl 0 rfl) ?_
  refine lv_iload_n hx hb dL_law_206 rfl (lv_at hl 3 rfl) ?_
  refine lv_iconst (v := 1) hx hb dL_law_207 (by decide) ?_
  refine ot_iadd hx hb (a := i) (b := 1) rfl rfl dL_law_208 ?_
  refine ot_sld hx hb hX hbl hbA hI.2.2 (j := i + 1) rfl (by omega) hL dL_law_209 ?_
  have hI := ot_sw hI
  refine ot_calli (wf := ot_mW d a') (wr := ot_xW d a u1) (ci := 1) (C := RX1) (As := [.int (xs (i + 1))]) (rest := [.int (r1)]) (mm_makeDir l G d a' mu ls_ lv_ so va im (xs (i + 1))) hC hK hI hA (ot_mA d a') rfl rfl (cwV 1 hts (lw_V q213 q214 q215 q17 q216) rfl rfl rfl ok_yX1_makeDir ⟨Nat.le_of_ble_eq_true rfl, Nat.le_of_ble_eq_true rfl⟩) rfl rfl hl.1 (Nat.le_of_ble_eq_true rfl) dL_law_210 ⟨Nat.le_of_ble_eq_true rfl, Nat.le_of_ble_eq_true rfl⟩ (fun r2 v1 H locs hp2 hI => ?_)
  have hI := ot_sw hI
  obtain ⟨he, hRR⟩ := ot_comb hp1 hp2 (ot_mkd_ok hR (xs (i + 1)))
  refine lv_icmp_eq (tgt := 402) hx hb dL_law_213 (by decide) (fun _ => ?_) (fun c_ => absurd he c_)
  exact next u1 v1 hRR _ _ hI _ (lv_sub hl [0, 1, 2, 3] rfl)
set_option maxHeartbeats 4000000 in
set_option maxRecDepth 100000 in
theorem ot_law_write {p : Program} {l : Launch} {e : Env} {s : State} {m : MethodId} {below : List Frame} {meth : Method} {c : Code} {b L : Nat} {xs : Nat → Int32} {G : va_G} {d : ClassId} {a a' : Nat → Nat} (hL : L ≤ 320) (C0 : lw_At p s m meth c b L xs) (hK : va_K G vwCl [(d, .int)] s) (i : Nat) (hi : i + 5 ≤ L) (u : ot_xS) (v : ot_mS) (hR : ot_RR u v) (next : ∀ (u : ot_xS) (v : ot_mS), ot_RR u v → ∀ (H : Heap) (locs : List Loc), ot_I G (fun q : Nat => s.heap.size ≤ q) s H locs (ot_xW d a u ++ ot_mW d a' v) → ∀ (ls : Array Slot), lv_has ls 4 [(0, .ref b), (1, .ref (a 0)), (2, .ref (a' 0)), (3, .int (nI i))] → W p l e room_1 s m #[Value.ref b] below meth c H locs 12 1803 (lw_Z below #[Value.ref b] s) (F0 m 402 ls [])) (H : Heap) (locs : List Loc) (hI : ot_I G (fun q : Nat => s.heap.size ≤ q) s H locs (ot_xW d a u ++ ot_mW d a' v)) (ls : Array Slot) (hl : lv_has ls 4 [(0, .ref b), (1, .ref (a 0)), (2, .ref (a' 0)), (3, .int (nI i))]) : W p l e room_1 s m #[Value.ref b] below meth c H locs 12 1803 (lw_Z below #[Value.ref b] s) (F0 m 218 ls []) := by
  obtain ⟨hx, hb, hr, hml, hown, hts0, hX, hbl, hlocks, hgv⟩ := id C0
  have hts : ∀ w ∈ lw_all, w.before #[Value.ref b] s = true := fun w h => hts0 w (lw_all_tbl h)
  have hA : ∀ q : Nat, s.heap.size ≤ q → (fun q : Nat => s.heap.size ≤ q) q := fun _ h => h
  have hbA : ¬ (fun q : Nat => s.heap.size ≤ q) b := Nat.not_le.mpr hbl
  have hC : CallFix p m c code 4 s #[Value.ref b] lw_all R_law := ⟨hx, hb, hml, hown, hts⟩
  obtain ⟨mt, fd, fl, hd, ct, wy, ps, pv⟩ := u
  obtain ⟨mu, ls_, lv_, so, va, im⟩ := v
  have hR : ot_R mt hd ct mu ls_ lv_ so va := hR
  refine lv_aload_n hx hb dL_law_218 rfl (lv_at hl 1 rfl) ?_
  refine lv_aload_n hx hb dL_law_219 rfl (lv_at hl 0 rfl) ?_
  refine lv_iload_n hx hb dL_law_220 rfl (lv_at hl 3 rfl) ?_
  refine lv_iconst (v := 1) hx hb dL_law_221 (by decide) ?_
  refine ot_iadd hx hb (a := i) (b := 1) rfl rfl dL_law_222 ?_
  refine ot_sld hx hb hX hbl hbA hI.2.2 (j := i + 1) rfl (by omega) hL dL_law_223 ?_
  refine lv_aload_n hx hb dL_law_224 rfl (lv_at hl 0 rfl) ?_
  refine lv_iload_n hx hb dL_law_225 rfl (lv_at hl 3 rfl) ?_
  refine lv_iconst (v := 2) hx hb dL_law_226 (by decide) ?_
  refine ot_iadd hx hb (a := i) (b := 2) rfl rfl dL_law_227 ?_
  refine ot_sld hx hb hX hbl hbA hI.2.2 (j := i + 2) rfl (by omega) hL dL_law_228 ?_
  refine ot_calli (wf := ot_xW d a) (wr := ot_mW d a' (mu, ls_, lv_, so, va, im)) (ci := 0) (C := RX0) (As := [.int (xs (i + 1)), .int (xs (i + 2))]) (rest := []) (xm_write l G d a mt fd fl hd ct wy ps pv (xs (i + 1)) (xs (i + 2))) hC hK hI hA (ot_xA d a) rfl rfl (cwV 2 hts (lw_V q103 q104 q105 q16 q106) rfl rfl rfl ok_yX0_write ⟨Nat.le_of_ble_eq_true rfl, Nat.le_of_ble_eq_true rfl⟩) rfl rfl hl.1 (Nat.le_of_ble_eq_true rfl) dL_law_229 ⟨Nat.le_of_ble_eq_true rfl, Nat.le_of_ble_eq_true rfl⟩ (fun r1 u1 H locs hp1 hI => ?_)
  refine lv_aload_n hx hb dL_law_232 rfl (lv_at hl 2 rfl) ?_
  refine lv_aload_n hx hb dL_law_233 rfl (lv_at hl 0 rfl) ?_
  refine lv_iload_n hx hb dL_law_234 rfl (lv_at hl 3 rfl) ?_
  refine lv_iconst (v := 1) hx hb dL_law_235 (by decide) ?_
  refine ot_iadd hx hb (a := i) (b := 1) rfl rfl dL_law_236 ?_
  refine ot_sld hx hb hX hbl hbA hI.2.2 (j := i + 1) rfl (by omega) hL dL_law_237 ?_
  refine lv_aload_n hx hb dL_law_238 rfl (lv_at hl 0 rfl) ?_
  refine lv_iload_n hx hb dL_law_239 rfl (lv_at hl 3 rfl) ?_
  refine lv_iconst (v := 2) hx hb dL_law_240 (by decide) ?_
  refine ot_iadd hx hb (a := i) (b := 2) rfl rfl dL_law_241 ?_
  refine ot_sld hx hb hX hbl hbA hI.2.2 (j := i + 2) rfl (by omega) hL dL_law_242 ?_
  have hI := ot_sw hI
  refine ot_calli (wf := ot_mW d a') (wr := ot_xW d a u1) (ci := 1) (C := RX1) (As := [.int (xs (i + 1)), .int (xs (i + 2))]) (rest := [.int (r1)]) (mm_write l G d a' mu ls_ lv_ so va im (xs (i + 1)) (xs (i + 2))) hC hK hI hA (ot_mA d a') rfl rfl (cwV 2 hts (lw_V q217 q218 q219 q17 q220) rfl rfl rfl ok_yX1_write ⟨Nat.le_of_ble_eq_true rfl, Nat.le_of_ble_eq_true rfl⟩) rfl rfl hl.1 (Nat.le_of_ble_eq_true rfl) dL_law_243 ⟨Nat.le_of_ble_eq_true rfl, Nat.le_of_ble_eq_true rfl⟩ (fun r2 v1 H locs hp2 hI => ?_)
  have hI := ot_sw hI
  obtain ⟨he, hRR⟩ := ot_comb hp1 hp2 (ot_write_ok hR (xs (i + 1)) (xs (i + 2)))
  refine lv_icmp_eq (tgt := 402) hx hb dL_law_246 (by decide) (fun _ => ?_) (fun c_ => absurd he c_)
  exact next u1 v1 hRR _ _ hI _ (lv_sub hl [0, 1, 2, 3] rfl)
set_option maxHeartbeats 4000000 in
set_option maxRecDepth 100000 in
theorem ot_law_remove {p : Program} {l : Launch} {e : Env} {s : State} {m : MethodId} {below : List Frame} {meth : Method} {c : Code} {b L : Nat} {xs : Nat → Int32} {G : va_G} {d : ClassId} {a a' : Nat → Nat} (hL : L ≤ 320) (C0 : lw_At p s m meth c b L xs) (hK : va_K G vwCl [(d, .int)] s) (i : Nat) (hi : i + 5 ≤ L) (u : ot_xS) (v : ot_mS) (hR : ot_RR u v) (next : ∀ (u : ot_xS) (v : ot_mS), ot_RR u v → ∀ (H : Heap) (locs : List Loc), ot_I G (fun q : Nat => s.heap.size ≤ q) s H locs (ot_xW d a u ++ ot_mW d a' v) → ∀ (ls : Array Slot), lv_has ls 4 [(0, .ref b), (1, .ref (a 0)), (2, .ref (a' 0)), (3, .int (nI i))] → W p l e room_1 s m #[Value.ref b] below meth c H locs 12 1803 (lw_Z below #[Value.ref b] s) (F0 m 402 ls [])) (H : Heap) (locs : List Loc) (hI : ot_I G (fun q : Nat => s.heap.size ≤ q) s H locs (ot_xW d a u ++ ot_mW d a' v)) (ls : Array Slot) (hl : lv_has ls 4 [(0, .ref b), (1, .ref (a 0)), (2, .ref (a' 0)), (3, .int (nI i))]) : W p l e room_1 s m #[Value.ref b] below meth c H locs 12 1803 (lw_Z below #[Value.ref b] s) (F0 m 251 ls []) := by
  obtain ⟨hx, hb, hr, hml, hown, hts0, hX, hbl, hlocks, hgv⟩ := id C0
  have hts : ∀ w ∈ lw_all, w.before #[Value.ref b] s = true := fun w h => hts0 w (lw_all_tbl h)
  have hA : ∀ q : Nat, s.heap.size ≤ q → (fun q : Nat => s.heap.size ≤ q) q := fun _ h => h
  have hbA : ¬ (fun q : Nat => s.heap.size ≤ q) b := Nat.not_le.mpr hbl
  have hC : CallFix p m c code 4 s #[Value.ref b] lw_all R_law := ⟨hx, hb, hml, hown, hts⟩
  obtain ⟨mt, fd, fl, hd, ct, wy, ps, pv⟩ := u
  obtain ⟨mu, ls_, lv_, so, va, im⟩ := v
  have hR : ot_R mt hd ct mu ls_ lv_ so va := hR
  refine lv_aload_n hx hb dL_law_251 rfl (lv_at hl 1 rfl) ?_
  refine lv_aload_n hx hb dL_law_252 rfl (lv_at hl 0 rfl) ?_
  refine lv_iload_n hx hb dL_law_253 rfl (lv_at hl 3 rfl) ?_
  refine lv_iconst (v := 1) hx hb dL_law_254 (by decide) ?_
  refine ot_iadd hx hb (a := i) (b := 1) rfl rfl dL_law_255 ?_
  refine ot_sld hx hb hX hbl hbA hI.2.2 (j := i + 1) rfl (by omega) hL dL_law_256 ?_
  refine ot_calli (wf := ot_xW d a) (wr := ot_mW d a' (mu, ls_, lv_, so, va, im)) (ci := 0) (C := RX0) (As := [.int (xs (i + 1))]) (rest := []) (xm_remove l G d a mt fd fl hd ct wy ps pv (xs (i + 1))) hC hK hI hA (ot_xA d a) rfl rfl (cwV 1 hts (lw_V q111 q112 q113 q16 q114) rfl rfl rfl ok_yX0_remove ⟨Nat.le_of_ble_eq_true rfl, Nat.le_of_ble_eq_true rfl⟩) rfl rfl hl.1 (Nat.le_of_ble_eq_true rfl) dL_law_257 ⟨Nat.le_of_ble_eq_true rfl, Nat.le_of_ble_eq_true rfl⟩ (fun r1 u1 H locs hp1 hI => ?_)
  refine lv_aload_n hx hb dL_law_260 rfl (lv_at hl 2 rfl) ?_
  refine lv_aload_n hx hb dL_law_261 rfl (lv_at hl 0 rfl) ?_
  refine lv_iload_n hx hb dL_law_262 rfl (lv_at hl 3 rfl) ?_
  refine lv_iconst (v := 1) hx hb dL_law_263 (by decide) ?_
  refine ot_iadd hx hb (a := i) (b := 1) rfl rfl dL_law_264 ?_
  refine ot_sld hx hb hX hbl hbA hI.2.2 (j := i + 1) rfl (by omega) hL dL_law_265 ?_
  have hI := ot_sw hI
  refine ot_calli (wf := ot_mW d a') (wr := ot_xW d a u1) (ci := 1) (C := RX1) (As := [.int (xs (i + 1))]) (rest := [.int (r1)]) (mm_remove l G d a' mu ls_ lv_ so va im (xs (i + 1))) hC hK hI hA (ot_mA d a') rfl rfl (cwV 1 hts (lw_V q221 q222 q223 q17 q224) rfl rfl rfl ok_yX1_remove ⟨Nat.le_of_ble_eq_true rfl, Nat.le_of_ble_eq_true rfl⟩) rfl rfl hl.1 (Nat.le_of_ble_eq_true rfl) dL_law_266 ⟨Nat.le_of_ble_eq_true rfl, Nat.le_of_ble_eq_true rfl⟩ (fun r2 v1 H locs hp2 hI => ?_)
  have hI := ot_sw hI
  obtain ⟨he, hRR⟩ := ot_comb hp1 hp2 (ot_remove_ok hR (xs (i + 1)))
  refine lv_icmp_eq (tgt := 402) hx hb dL_law_269 (by decide) (fun _ => ?_) (fun c_ => absurd he c_)
  exact next u1 v1 hRR _ _ hI _ (lv_sub hl [0, 1, 2, 3] rfl)
set_option maxHeartbeats 4000000 in
set_option maxRecDepth 100000 in
theorem ot_law_move {p : Program} {l : Launch} {e : Env} {s : State} {m : MethodId} {below : List Frame} {meth : Method} {c : Code} {b L : Nat} {xs : Nat → Int32} {G : va_G} {d : ClassId} {a a' : Nat → Nat} (hL : L ≤ 320) (C0 : lw_At p s m meth c b L xs) (hK : va_K G vwCl [(d, .int)] s) (i : Nat) (hi : i + 5 ≤ L) (u : ot_xS) (v : ot_mS) (hR : ot_RR u v) (next : ∀ (u : ot_xS) (v : ot_mS), ot_RR u v → ∀ (H : Heap) (locs : List Loc), ot_I G (fun q : Nat => s.heap.size ≤ q) s H locs (ot_xW d a u ++ ot_mW d a' v) → ∀ (ls : Array Slot), lv_has ls 4 [(0, .ref b), (1, .ref (a 0)), (2, .ref (a' 0)), (3, .int (nI i))] → W p l e room_1 s m #[Value.ref b] below meth c H locs 12 1803 (lw_Z below #[Value.ref b] s) (F0 m 402 ls [])) (H : Heap) (locs : List Loc) (hI : ot_I G (fun q : Nat => s.heap.size ≤ q) s H locs (ot_xW d a u ++ ot_mW d a' v)) (ls : Array Slot) (hl : lv_has ls 4 [(0, .ref b), (1, .ref (a 0)), (2, .ref (a' 0)), (3, .int (nI i))]) : W p l e room_1 s m #[Value.ref b] below meth c H locs 12 1803 (lw_Z below #[Value.ref b] s) (F0 m 274 ls []) := by
  obtain ⟨hx, hb, hr, hml, hown, hts0, hX, hbl, hlocks, hgv⟩ := id C0
  have hts : ∀ w ∈ lw_all, w.before #[Value.ref b] s = true := fun w h => hts0 w (lw_all_tbl h)
  have hA : ∀ q : Nat, s.heap.size ≤ q → (fun q : Nat => s.heap.size ≤ q) q := fun _ h => h
  have hbA : ¬ (fun q : Nat => s.heap.size ≤ q) b := Nat.not_le.mpr hbl
  have hC : CallFix p m c code 4 s #[Value.ref b] lw_all R_law := ⟨hx, hb, hml, hown, hts⟩
  obtain ⟨mt, fd, fl, hd, ct, wy, ps, pv⟩ := u
  obtain ⟨mu, ls_, lv_, so, va, im⟩ := v
  have hR : ot_R mt hd ct mu ls_ lv_ so va := hR
  refine lv_aload_n hx hb dL_law_274 rfl (lv_at hl 1 rfl) ?_
  refine lv_aload_n hx hb dL_law_275 rfl (lv_at hl 0 rfl) ?_
  refine lv_iload_n hx hb dL_law_276 rfl (lv_at hl 3 rfl) ?_
  refine lv_iconst (v := 1) hx hb dL_law_277 (by decide) ?_
  refine ot_iadd hx hb (a := i) (b := 1) rfl rfl dL_law_278 ?_
  refine ot_sld hx hb hX hbl hbA hI.2.2 (j := i + 1) rfl (by omega) hL dL_law_279 ?_
  refine lv_aload_n hx hb dL_law_280 rfl (lv_at hl 0 rfl) ?_
  refine lv_iload_n hx hb dL_law_281 rfl (lv_at hl 3 rfl) ?_
  refine lv_iconst (v := 2) hx hb dL_law_282 (by decide) ?_
  refine ot_iadd hx hb (a := i) (b := 2) rfl rfl dL_law_283 ?_
  refine ot_sld hx hb hX hbl hbA hI.2.2 (j := i + 2) rfl (by omega) hL dL_law_284 ?_
  refine ot_calli (wf := ot_xW d a) (wr := ot_mW d a' (mu, ls_, lv_, so, va, im)) (ci := 0) (C := RX0) (As := [.int (xs (i + 1)), .int (xs (i + 2))]) (rest := []) (xm_move l G d a mt fd fl hd ct wy ps pv (xs (i + 1)) (xs (i + 2))) hC hK hI hA (ot_xA d a) rfl rfl (cwV 2 hts (lw_V q130 q131 q132 q16 q133) rfl rfl rfl ok_yX0_move ⟨Nat.le_of_ble_eq_true rfl, Nat.le_of_ble_eq_true rfl⟩) rfl rfl hl.1 (Nat.le_of_ble_eq_true rfl) dL_law_285 ⟨Nat.le_of_ble_eq_true rfl, Nat.le_of_ble_eq_true rfl⟩ (fun r1 u1 H locs hp1 hI => ?_)
  refine lv_aload_n hx hb dL_law_288 rfl (lv_at hl 2 rfl) ?_
  refine lv_aload_n hx hb dL_law_289 rfl (lv_at hl 0 rfl) ?_
  refine lv_iload_n hx hb dL_law_290 rfl (lv_at hl 3 rfl) ?_
  refine lv_iconst (v := 1) hx hb dL_law_291 (by decide) ?_
  refine ot_iadd hx hb (a := i) (b := 1) rfl rfl dL_law_292 ?_
  refine ot_sld hx hb hX hbl hbA hI.2.2 (j := i + 1) rfl (by omega) hL dL_law_293 ?_
  refine lv_aload_n hx hb dL_law_294 rfl (lv_at hl 0 rfl) ?_
  refine lv_iload_n hx hb dL_law_295 rfl (lv_at hl 3 rfl) ?_
  refine lv_iconst (v := 2) hx hb dL_law_296 (by decide) ?_
  refine ot_iadd hx hb (a := i) (b := 2) rfl rfl dL_law_297 ?_
  refine ot_sld hx hb hX hbl hbA hI.2.2 (j := i + 2) rfl (by omega) hL dL_law_298 ?_
  have hI := ot_sw hI
  refine ot_calli (wf := ot_mW d a') (wr := ot_xW d a u1) (ci := 1) (C := RX1) (As := [.int (xs (i + 1)), .int (xs (i + 2))]) (rest := [.int (r1)]) (mm_move l G d a' mu ls_ lv_ so va im (xs (i + 1)) (xs (i + 2))) hC hK hI hA (ot_mA d a') rfl rfl (cwV 2 hts (lw_V q225 q226 q227 q17 q228) rfl rfl rfl ok_yX1_move ⟨Nat.le_of_ble_eq_true rfl, Nat.le_of_ble_eq_true rfl⟩) rfl rfl hl.1 (Nat.le_of_ble_eq_true rfl) dL_law_299 ⟨Nat.le_of_ble_eq_true rfl, Nat.le_of_ble_eq_true rfl⟩ (fun r2 v1 H locs hp2 hI => ?_)
  have hI := ot_sw hI
  obtain ⟨he, hRR⟩ := ot_comb hp1 hp2 (ot_move_ok hR ps pv im (xs (i + 1)) (xs (i + 2)))
  refine lv_icmp_eq (tgt := 402) hx hb dL_law_302 (by decide) (fun _ => ?_) (fun c_ => absurd he c_)
  exact next u1 v1 hRR _ _ hI _ (lv_sub hl [0, 1, 2, 3] rfl)
set_option maxHeartbeats 4000000 in
set_option maxRecDepth 100000 in
theorem ot_law_press {p : Program} {l : Launch} {e : Env} {s : State} {m : MethodId} {below : List Frame} {meth : Method} {c : Code} {b L : Nat} {xs : Nat → Int32} {G : va_G} {d : ClassId} {a a' : Nat → Nat} (hL : L ≤ 320) (C0 : lw_At p s m meth c b L xs) (hK : va_K G vwCl [(d, .int)] s) (i : Nat) (hi : i + 5 ≤ L) (u : ot_xS) (v : ot_mS) (hR : ot_RR u v) (next : ∀ (u : ot_xS) (v : ot_mS), ot_RR u v → ∀ (H : Heap) (locs : List Loc), ot_I G (fun q : Nat => s.heap.size ≤ q) s H locs (ot_xW d a u ++ ot_mW d a' v) → ∀ (ls : Array Slot), lv_has ls 4 [(0, .ref b), (1, .ref (a 0)), (2, .ref (a' 0)), (3, .int (nI i))] → W p l e room_1 s m #[Value.ref b] below meth c H locs 12 1803 (lw_Z below #[Value.ref b] s) (F0 m 402 ls [])) (H : Heap) (locs : List Loc) (hI : ot_I G (fun q : Nat => s.heap.size ≤ q) s H locs (ot_xW d a u ++ ot_mW d a' v)) (ls : Array Slot) (hl : lv_has ls 4 [(0, .ref b), (1, .ref (a 0)), (2, .ref (a' 0)), (3, .int (nI i))]) : W p l e room_1 s m #[Value.ref b] below meth c H locs 12 1803 (lw_Z below #[Value.ref b] s) (F0 m 307 ls []) := by
  obtain ⟨hx, hb, hr, hml, hown, hts0, hX, hbl, hlocks, hgv⟩ := id C0
  have hts : ∀ w ∈ lw_all, w.before #[Value.ref b] s = true := fun w h => hts0 w (lw_all_tbl h)
  have hA : ∀ q : Nat, s.heap.size ≤ q → (fun q : Nat => s.heap.size ≤ q) q := fun _ h => h
  have hbA : ¬ (fun q : Nat => s.heap.size ≤ q) b := Nat.not_le.mpr hbl
  have hC : CallFix p m c code 4 s #[Value.ref b] lw_all R_law := ⟨hx, hb, hml, hown, hts⟩
  obtain ⟨mt, fd, fl, hd, ct, wy, ps, pv⟩ := u
  obtain ⟨mu, ls_, lv_, so, va, im⟩ := v
  have hR : ot_R mt hd ct mu ls_ lv_ so va := hR
  refine lv_aload_n hx hb dL_law_307 rfl (lv_at hl 1 rfl) ?_
  refine ot_calli (wf := ot_xW d a) (wr := ot_mW d a' (mu, ls_, lv_, so, va, im)) (ci := 0) (C := RX0) (As := []) (rest := []) (xm_press l G d a mt fd fl hd ct wy ps pv ) hC hK hI hA (ot_xA d a) rfl rfl (cwV 0 hts (lw_V q142 q143 q144 q16 q145) rfl rfl rfl ok_yX0_press ⟨Nat.le_of_ble_eq_true rfl, Nat.le_of_ble_eq_true rfl⟩) rfl rfl hl.1 (Nat.le_of_ble_eq_true rfl) dL_law_308 ⟨Nat.le_of_ble_eq_true rfl, Nat.le_of_ble_eq_true rfl⟩ (fun r1 u1 H locs hp1 hI => ?_)
  refine lv_aload_n hx hb dL_law_311 rfl (lv_at hl 2 rfl) ?_
  refine ot_callr (ci := 1) (C := RX1) (q0 := 0) (As := []) (rest := [.int (r1)]) (mm_press l G d a' mu ls_ lv_ so va im ) hC hK (ot_Pr hI.1) rfl rfl (cwV 0 hts (lw_V q233 q234 q235 q17 q236) rfl rfl rfl ok_yX1_press ⟨Nat.le_of_ble_eq_true rfl, Nat.le_of_ble_eq_true rfl⟩) rfl rfl hl.1 (Nat.le_of_ble_eq_true rfl) dL_law_312 ⟨Nat.le_of_ble_eq_true rfl, Nat.le_of_ble_eq_true rfl⟩ ?_
  obtain ⟨he, hRR⟩ := ot_combR (v := (mu, ls_, lv_, so, va, im)) hp1 (ot_press_ok hR)
  refine lv_icmp_eq (tgt := 402) hx hb dL_law_315 (by decide) (fun _ => ?_) (fun c_ => absurd he c_)
  exact next u1 (mu, ls_, lv_, so, va, im) hRR _ _ hI _ (lv_sub hl [0, 1, 2, 3] rfl)
set_option maxHeartbeats 4000000 in
set_option maxRecDepth 100000 in
theorem ot_law_sort {p : Program} {l : Launch} {e : Env} {s : State} {m : MethodId} {below : List Frame} {meth : Method} {c : Code} {b L : Nat} {xs : Nat → Int32} {G : va_G} {d : ClassId} {a a' : Nat → Nat} (hL : L ≤ 320) (C0 : lw_At p s m meth c b L xs) (hK : va_K G vwCl [(d, .int)] s) (i : Nat) (hi : i + 5 ≤ L) (u : ot_xS) (v : ot_mS) (hR : ot_RR u v) (next : ∀ (u : ot_xS) (v : ot_mS), ot_RR u v → ∀ (H : Heap) (locs : List Loc), ot_I G (fun q : Nat => s.heap.size ≤ q) s H locs (ot_xW d a u ++ ot_mW d a' v) → ∀ (ls : Array Slot), lv_has ls 4 [(0, .ref b), (1, .ref (a 0)), (2, .ref (a' 0)), (3, .int (nI i))] → W p l e room_1 s m #[Value.ref b] below meth c H locs 12 1803 (lw_Z below #[Value.ref b] s) (F0 m 402 ls [])) (H : Heap) (locs : List Loc) (hI : ot_I G (fun q : Nat => s.heap.size ≤ q) s H locs (ot_xW d a u ++ ot_mW d a' v)) (ls : Array Slot) (hl : lv_has ls 4 [(0, .ref b), (1, .ref (a 0)), (2, .ref (a' 0)), (3, .int (nI i))]) : W p l e room_1 s m #[Value.ref b] below meth c H locs 12 1803 (lw_Z below #[Value.ref b] s) (F0 m 320 ls []) := by
  obtain ⟨hx, hb, hr, hml, hown, hts0, hX, hbl, hlocks, hgv⟩ := id C0
  have hts : ∀ w ∈ lw_all, w.before #[Value.ref b] s = true := fun w h => hts0 w (lw_all_tbl h)
  have hA : ∀ q : Nat, s.heap.size ≤ q → (fun q : Nat => s.heap.size ≤ q) q := fun _ h => h
  have hbA : ¬ (fun q : Nat => s.heap.size ≤ q) b := Nat.not_le.mpr hbl
  have hC : CallFix p m c code 4 s #[Value.ref b] lw_all R_law := ⟨hx, hb, hml, hown, hts⟩
  obtain ⟨mt, fd, fl, hd, ct, wy, ps, pv⟩ := u
  obtain ⟨mu, ls_, lv_, so, va, im⟩ := v
  have hR : ot_R mt hd ct mu ls_ lv_ so va := hR
  refine lv_aload_n hx hb dL_law_320 rfl (lv_at hl 1 rfl) ?_
  refine lv_aload_n hx hb dL_law_321 rfl (lv_at hl 0 rfl) ?_
  refine lv_iload_n hx hb dL_law_322 rfl (lv_at hl 3 rfl) ?_
  refine lv_iconst (v := 1) hx hb dL_law_323 (by decide) ?_
  refine ot_iadd hx hb (a := i) (b := 1) rfl rfl dL_law_324 ?_
  refine ot_sld hx hb hX hbl hbA hI.2.2 (j := i + 1) rfl (by omega) hL dL_law_325 ?_
  refine ot_calli (wf := ot_xW d a) (wr := ot_mW d a' (mu, ls_, lv_, so, va, im)) (ci := 0) (C := RX0) (As := [.int (xs (i + 1))]) (rest := []) (xm_sort l G d a mt fd fl hd ct wy ps pv (xs (i + 1))) hC hK hI hA (ot_xA d a) rfl rfl (cwV 1 hts (lw_V q146 q68 q69 q16 q70) rfl rfl rfl ok_yX0_sort ⟨Nat.le_of_ble_eq_true rfl, Nat.le_of_ble_eq_true rfl⟩) rfl rfl hl.1 (Nat.le_of_ble_eq_true rfl) dL_law_326 ⟨Nat.le_of_ble_eq_true rfl, Nat.le_of_ble_eq_true rfl⟩ (fun r1 u1 H locs hp1 hI => ?_)
  obtain ⟨fd1, fl1, wy1, rfl, rfl, -⟩ := hp1
  refine lv_aload_n hx hb dL_law_329 rfl (lv_at hl 2 rfl) ?_
  refine lv_aload_n hx hb dL_law_330 rfl (lv_at hl 0 rfl) ?_
  refine lv_iload_n hx hb dL_law_331 rfl (lv_at hl 3 rfl) ?_
  refine lv_iconst (v := 1) hx hb dL_law_332 (by decide) ?_
  refine ot_iadd hx hb (a := i) (b := 1) rfl rfl dL_law_333 ?_
  refine ot_sld hx hb hX hbl hbA hI.2.2 (j := i + 1) rfl (by omega) hL dL_law_334 ?_
  refine ot_callr (ci := 1) (C := RX1) (q0 := 0) (As := [.int (xs (i + 1))]) (rest := [.int (ot_xsort mt hd (xs (i + 1)))]) (mm_sort l G d a' mu ls_ lv_ so va im (xs (i + 1))) hC hK (ot_Pr hI.1) rfl rfl (cwV 1 hts (lw_V q237 q238 q239 q17 q240) rfl rfl rfl ok_yX1_sort ⟨Nat.le_of_ble_eq_true rfl, Nat.le_of_ble_eq_true rfl⟩) rfl rfl hl.1 (Nat.le_of_ble_eq_true rfl) dL_law_335 ⟨Nat.le_of_ble_eq_true rfl, Nat.le_of_ble_eq_true rfl⟩ ?_
  have he := ot_sort_ok hR (xs (i + 1))
  have hRR : ot_RR (mt, fd1, fl1, hd, ct, wy1, ps, pv) (mu, ls_, lv_, so, va, im) := hR
  refine lv_icmp_eq (tgt := 402) hx hb dL_law_338 (by decide) (fun _ => ?_) (fun c_ => absurd he c_)
  exact next (mt, fd1, fl1, hd, ct, wy1, ps, pv) (mu, ls_, lv_, so, va, im) hRR _ _ hI _ (lv_sub hl [0, 1, 2, 3] rfl)
set_option maxHeartbeats 4000000 in
set_option maxRecDepth 100000 in
theorem ot_law_value {p : Program} {l : Launch} {e : Env} {s : State} {m : MethodId} {below : List Frame} {meth : Method} {c : Code} {b L : Nat} {xs : Nat → Int32} {G : va_G} {d : ClassId} {a a' : Nat → Nat} (hL : L ≤ 320) (C0 : lw_At p s m meth c b L xs) (hK : va_K G vwCl [(d, .int)] s) (i : Nat) (hi : i + 5 ≤ L) (u : ot_xS) (v : ot_mS) (hR : ot_RR u v) (next : ∀ (u : ot_xS) (v : ot_mS), ot_RR u v → ∀ (H : Heap) (locs : List Loc), ot_I G (fun q : Nat => s.heap.size ≤ q) s H locs (ot_xW d a u ++ ot_mW d a' v) → ∀ (ls : Array Slot), lv_has ls 4 [(0, .ref b), (1, .ref (a 0)), (2, .ref (a' 0)), (3, .int (nI i))] → W p l e room_1 s m #[Value.ref b] below meth c H locs 12 1803 (lw_Z below #[Value.ref b] s) (F0 m 402 ls [])) (H : Heap) (locs : List Loc) (hI : ot_I G (fun q : Nat => s.heap.size ≤ q) s H locs (ot_xW d a u ++ ot_mW d a' v)) (ls : Array Slot) (hl : lv_has ls 4 [(0, .ref b), (1, .ref (a 0)), (2, .ref (a' 0)), (3, .int (nI i))]) : W p l e room_1 s m #[Value.ref b] below meth c H locs 12 1803 (lw_Z below #[Value.ref b] s) (F0 m 343 ls []) := by
  obtain ⟨hx, hb, hr, hml, hown, hts0, hX, hbl, hlocks, hgv⟩ := id C0
  have hts : ∀ w ∈ lw_all, w.before #[Value.ref b] s = true := fun w h => hts0 w (lw_all_tbl h)
  have hA : ∀ q : Nat, s.heap.size ≤ q → (fun q : Nat => s.heap.size ≤ q) q := fun _ h => h
  have hbA : ¬ (fun q : Nat => s.heap.size ≤ q) b := Nat.not_le.mpr hbl
  have hC : CallFix p m c code 4 s #[Value.ref b] lw_all R_law := ⟨hx, hb, hml, hown, hts⟩
  obtain ⟨mt, fd, fl, hd, ct, wy, ps, pv⟩ := u
  obtain ⟨mu, ls_, lv_, so, va, im⟩ := v
  have hR : ot_R mt hd ct mu ls_ lv_ so va := hR
  refine lv_aload_n hx hb dL_law_343 rfl (lv_at hl 1 rfl) ?_
  refine lv_aload_n hx hb dL_law_344 rfl (lv_at hl 0 rfl) ?_
  refine lv_iload_n hx hb dL_law_345 rfl (lv_at hl 3 rfl) ?_
  refine lv_iconst (v := 1) hx hb dL_law_346 (by decide) ?_
  refine ot_iadd hx hb (a := i) (b := 1) rfl rfl dL_law_347 ?_
  refine ot_sld hx hb hX hbl hbA hI.2.2 (j := i + 1) rfl (by omega) hL dL_law_348 ?_
  refine ot_calli (wf := ot_xW d a) (wr := ot_mW d a' (mu, ls_, lv_, so, va, im)) (ci := 0) (C := RX0) (As := [.int (xs (i + 1))]) (rest := []) (xm_value l G d a mt fd fl hd ct wy ps pv (xs (i + 1))) hC hK hI hA (ot_xA d a) rfl rfl (cwV 1 hts (lw_V q147 q108 q109 q16 q110) rfl rfl rfl ok_yX0_value ⟨Nat.le_of_ble_eq_true rfl, Nat.le_of_ble_eq_true rfl⟩) rfl rfl hl.1 (Nat.le_of_ble_eq_true rfl) dL_law_349 ⟨Nat.le_of_ble_eq_true rfl, Nat.le_of_ble_eq_true rfl⟩ (fun r1 u1 H locs hp1 hI => ?_)
  obtain ⟨fd1, fl1, wy1, rfl, rfl⟩ := hp1
  refine lv_aload_n hx hb dL_law_352 rfl (lv_at hl 2 rfl) ?_
  refine lv_aload_n hx hb dL_law_353 rfl (lv_at hl 0 rfl) ?_
  refine lv_iload_n hx hb dL_law_354 rfl (lv_at hl 3 rfl) ?_
  refine lv_iconst (v := 1) hx hb dL_law_355 (by decide) ?_
  refine ot_iadd hx hb (a := i) (b := 1) rfl rfl dL_law_356 ?_
  refine ot_sld hx hb hX hbl hbA hI.2.2 (j := i + 1) rfl (by omega) hL dL_law_357 ?_
  refine ot_callr (ci := 1) (C := RX1) (q0 := 0) (As := [.int (xs (i + 1))]) (rest := [.int (ot_xval mt hd ct (xs (i + 1)))]) (mm_value l G d a' mu ls_ lv_ so va im (xs (i + 1))) hC hK (ot_Pr hI.1) rfl rfl (cwV 1 hts (lw_V q241 q242 q243 q17 q244) rfl rfl rfl ok_yX1_value ⟨Nat.le_of_ble_eq_true rfl, Nat.le_of_ble_eq_true rfl⟩) rfl rfl hl.1 (Nat.le_of_ble_eq_true rfl) dL_law_358 ⟨Nat.le_of_ble_eq_true rfl, Nat.le_of_ble_eq_true rfl⟩ ?_
  have he := ot_value_ok hR (xs (i + 1))
  have hRR : ot_RR (mt, fd1, fl1, hd, ct, wy1, ps, pv) (mu, ls_, lv_, so, va, im) := hR
  refine lv_icmp_eq (tgt := 402) hx hb dL_law_361 (by decide) (fun _ => ?_) (fun c_ => absurd he c_)
  exact next (mt, fd1, fl1, hd, ct, wy1, ps, pv) (mu, ls_, lv_, so, va, im) hRR _ _ hI _ (lv_sub hl [0, 1, 2, 3] rfl)
set_option maxHeartbeats 4000000 in
set_option maxRecDepth 100000 in
theorem ot_law_entries {p : Program} {l : Launch} {e : Env} {s : State} {m : MethodId} {below : List Frame} {meth : Method} {c : Code} {b L : Nat} {xs : Nat → Int32} {G : va_G} {d : ClassId} {a a' : Nat → Nat} (hL : L ≤ 320) (C0 : lw_At p s m meth c b L xs) (hK : va_K G vwCl [(d, .int)] s) (i : Nat) (hi : i + 5 ≤ L) (u : ot_xS) (v : ot_mS) (hR : ot_RR u v) (next : ∀ (u : ot_xS) (v : ot_mS), ot_RR u v → ∀ (H : Heap) (locs : List Loc), ot_I G (fun q : Nat => s.heap.size ≤ q) s H locs (ot_xW d a u ++ ot_mW d a' v) → ∀ (ls : Array Slot), lv_has ls 4 [(0, .ref b), (1, .ref (a 0)), (2, .ref (a' 0)), (3, .int (nI i))] → W p l e room_1 s m #[Value.ref b] below meth c H locs 12 1803 (lw_Z below #[Value.ref b] s) (F0 m 402 ls [])) (H : Heap) (locs : List Loc) (hI : ot_I G (fun q : Nat => s.heap.size ≤ q) s H locs (ot_xW d a u ++ ot_mW d a' v)) (ls : Array Slot) (hl : lv_has ls 4 [(0, .ref b), (1, .ref (a 0)), (2, .ref (a' 0)), (3, .int (nI i))]) : W p l e room_1 s m #[Value.ref b] below meth c H locs 12 1803 (lw_Z below #[Value.ref b] s) (F0 m 366 ls []) := by
  obtain ⟨hx, hb, hr, hml, hown, hts0, hX, hbl, hlocks, hgv⟩ := id C0
  have hts : ∀ w ∈ lw_all, w.before #[Value.ref b] s = true := fun w h => hts0 w (lw_all_tbl h)
  have hA : ∀ q : Nat, s.heap.size ≤ q → (fun q : Nat => s.heap.size ≤ q) q := fun _ h => h
  have hbA : ¬ (fun q : Nat => s.heap.size ≤ q) b := Nat.not_le.mpr hbl
  have hC : CallFix p m c code 4 s #[Value.ref b] lw_all R_law := ⟨hx, hb, hml, hown, hts⟩
  obtain ⟨mt, fd, fl, hd, ct, wy, ps, pv⟩ := u
  obtain ⟨mu, ls_, lv_, so, va, im⟩ := v
  have hR : ot_R mt hd ct mu ls_ lv_ so va := hR
  refine lv_aload_n hx hb dL_law_366 rfl (lv_at hl 1 rfl) ?_
  refine lv_aload_n hx hb dL_law_367 rfl (lv_at hl 0 rfl) ?_
  refine lv_iload_n hx hb dL_law_368 rfl (lv_at hl 3 rfl) ?_
  refine lv_iconst (v := 1) hx hb dL_law_369 (by decide) ?_
  refine ot_iadd hx hb (a := i) (b := 1) rfl rfl dL_law_370 ?_
  refine ot_sld hx hb hX hbl hbA hI.2.2 (j := i + 1) rfl (by omega) hL dL_law_371 ?_
  refine ot_calli (wf := ot_xW d a) (wr := ot_mW d a' (mu, ls_, lv_, so, va, im)) (ci := 0) (C := RX0) (As := [.int (xs (i + 1))]) (rest := []) (xm_entries l G d a mt fd fl hd ct wy ps pv (xs (i + 1))) hC hK hI hA (ot_xA d a) rfl rfl (cwV 1 hts (lw_V q148 q116 q117 q16 q118) rfl rfl rfl ok_yX0_entries ⟨Nat.le_of_ble_eq_true rfl, Nat.le_of_ble_eq_true rfl⟩) rfl rfl hl.1 (Nat.le_of_ble_eq_true rfl) dL_law_372 ⟨Nat.le_of_ble_eq_true rfl, Nat.le_of_ble_eq_true rfl⟩ (fun r1 u1 H locs hp1 hI => ?_)
  obtain ⟨fd1, fl1, wy1, rfl, rfl⟩ := hp1
  refine lv_aload_n hx hb dL_law_375 rfl (lv_at hl 2 rfl) ?_
  refine lv_aload_n hx hb dL_law_376 rfl (lv_at hl 0 rfl) ?_
  refine lv_iload_n hx hb dL_law_377 rfl (lv_at hl 3 rfl) ?_
  refine lv_iconst (v := 1) hx hb dL_law_378 (by decide) ?_
  refine ot_iadd hx hb (a := i) (b := 1) rfl rfl dL_law_379 ?_
  refine ot_sld hx hb hX hbl hbA hI.2.2 (j := i + 1) rfl (by omega) hL dL_law_380 ?_
  refine ot_callr (ci := 1) (C := RX1) (q0 := 0) (As := [.int (xs (i + 1))]) (rest := [.int (ot_xent mt hd (xs (i + 1)))]) (mm_entries l G d a' mu ls_ lv_ so va im (xs (i + 1))) hC hK (ot_Pr hI.1) rfl rfl (cwV 1 hts (lw_V q245 q246 q247 q17 q248) rfl rfl rfl ok_yX1_entries ⟨Nat.le_of_ble_eq_true rfl, Nat.le_of_ble_eq_true rfl⟩) rfl rfl hl.1 (Nat.le_of_ble_eq_true rfl) dL_law_381 ⟨Nat.le_of_ble_eq_true rfl, Nat.le_of_ble_eq_true rfl⟩ ?_
  have he := ot_entries_ok hR (xs (i + 1))
  have hRR : ot_RR (mt, fd1, fl1, hd, ct, wy1, ps, pv) (mu, ls_, lv_, so, va, im) := hR
  refine lv_icmp_eq (tgt := 402) hx hb dL_law_384 (by decide) (fun _ => ?_) (fun c_ => absurd he c_)
  exact next (mt, fd1, fl1, hd, ct, wy1, ps, pv) (mu, ls_, lv_, so, va, im) hRR _ _ hI _ (lv_sub hl [0, 1, 2, 3] rfl)
set_option maxHeartbeats 4000000 in
set_option maxRecDepth 100000 in
theorem ot_law_total {p : Program} {l : Launch} {e : Env} {s : State} {m : MethodId} {below : List Frame} {meth : Method} {c : Code} {b L : Nat} {xs : Nat → Int32} {G : va_G} {d : ClassId} {a a' : Nat → Nat} (hL : L ≤ 320) (C0 : lw_At p s m meth c b L xs) (hK : va_K G vwCl [(d, .int)] s) (i : Nat) (hi : i + 5 ≤ L) (u : ot_xS) (v : ot_mS) (hR : ot_RR u v) (next : ∀ (u : ot_xS) (v : ot_mS), ot_RR u v → ∀ (H : Heap) (locs : List Loc), ot_I G (fun q : Nat => s.heap.size ≤ q) s H locs (ot_xW d a u ++ ot_mW d a' v) → ∀ (ls : Array Slot), lv_has ls 4 [(0, .ref b), (1, .ref (a 0)), (2, .ref (a' 0)), (3, .int (nI i))] → W p l e room_1 s m #[Value.ref b] below meth c H locs 12 1803 (lw_Z below #[Value.ref b] s) (F0 m 402 ls [])) (H : Heap) (locs : List Loc) (hI : ot_I G (fun q : Nat => s.heap.size ≤ q) s H locs (ot_xW d a u ++ ot_mW d a' v)) (ls : Array Slot) (hl : lv_has ls 4 [(0, .ref b), (1, .ref (a 0)), (2, .ref (a' 0)), (3, .int (nI i))]) : W p l e room_1 s m #[Value.ref b] below meth c H locs 12 1803 (lw_Z below #[Value.ref b] s) (F0 m 389 ls []) := by
  obtain ⟨hx, hb, hr, hml, hown, hts0, hX, hbl, hlocks, hgv⟩ := id C0
  have hts : ∀ w ∈ lw_all, w.before #[Value.ref b] s = true := fun w h => hts0 w (lw_all_tbl h)
  have hA : ∀ q : Nat, s.heap.size ≤ q → (fun q : Nat => s.heap.size ≤ q) q := fun _ h => h
  have hbA : ¬ (fun q : Nat => s.heap.size ≤ q) b := Nat.not_le.mpr hbl
  have hC : CallFix p m c code 4 s #[Value.ref b] lw_all R_law := ⟨hx, hb, hml, hown, hts⟩
  obtain ⟨mt, fd, fl, hd, ct, wy, ps, pv⟩ := u
  obtain ⟨mu, ls_, lv_, so, va, im⟩ := v
  have hR : ot_R mt hd ct mu ls_ lv_ so va := hR
  refine lv_aload_n hx hb dL_law_389 rfl (lv_at hl 1 rfl) ?_
  refine ot_calli (wf := ot_xW d a) (wr := ot_mW d a' (mu, ls_, lv_, so, va, im)) (ci := 0) (C := RX0) (As := []) (rest := []) (xm_total l G d a mt fd fl hd ct wy ps pv ) hC hK hI hA (ot_xA d a) rfl rfl (cwV 0 hts (lw_V q149 q64 q65 q16 q66) rfl rfl rfl ok_yX0_total ⟨Nat.le_of_ble_eq_true rfl, Nat.le_of_ble_eq_true rfl⟩) rfl rfl hl.1 (Nat.le_of_ble_eq_true rfl) dL_law_390 ⟨Nat.le_of_ble_eq_true rfl, Nat.le_of_ble_eq_true rfl⟩ (fun r1 u1 H locs hp1 hI => ?_)
  obtain ⟨fd1, fl1, wy1, rfl, rfl⟩ := hp1
  refine lv_aload_n hx hb dL_law_393 rfl (lv_at hl 2 rfl) ?_
  refine ot_callr (ci := 1) (C := RX1) (q0 := 0) (As := []) (rest := [.int (ot_xtot mt hd)]) (mm_total l G d a' mu ls_ lv_ so va im ) hC hK (ot_Pr hI.1) rfl rfl (cwV 0 hts (lw_V q249 q202 q203 q17 q204) rfl rfl rfl ok_yX1_total ⟨Nat.le_of_ble_eq_true rfl, Nat.le_of_ble_eq_true rfl⟩) rfl rfl hl.1 (Nat.le_of_ble_eq_true rfl) dL_law_394 ⟨Nat.le_of_ble_eq_true rfl, Nat.le_of_ble_eq_true rfl⟩ ?_
  have he := ot_total_ok hR 
  have hRR : ot_RR (mt, fd1, fl1, hd, ct, wy1, ps, pv) (mu, ls_, lv_, so, va, im) := hR
  refine lv_icmp_eq (tgt := 402) hx hb dL_law_397 (by decide) (fun _ => ?_) (fun c_ => absurd he c_)
  exact next (mt, fd1, fl1, hd, ct, wy1, ps, pv) (mu, ls_, lv_, so, va, im) hRR _ _ hI _ (lv_sub hl [0, 1, 2, 3] rfl)
end
section
set_option maxRecDepth 100000
set_option maxHeartbeats 4000000 in
theorem ot_law_loop {p : Program} {l : Launch} {e : Env} {s : State} {m : MethodId} {below : List Frame} {meth : Method} {c : Code} {b L : Nat} {xs : Nat → Int32} {G : va_G} {d : ClassId} {a a' : Nat → Nat} (hL : L ≤ 320) (C0 : lw_At p s m meth c b L xs) (hK : va_K G vwCl [(d, .int)] s) : ∀ (n i : Nat) (u : ot_xS) (v : ot_mS), i ≤ 325 → 326 ≤ i + n → ot_RR u v → ∀ (H : Heap) (locs : List Loc), ot_I G (fun q : Nat => s.heap.size ≤ q) s H locs (ot_xW d a u ++ ot_mW d a' v) → ∀ (ls : Array Slot), lv_has ls 4 [(0, .ref b), (1, .ref (a 0)), (2, .ref (a' 0)), (3, .int (nI i))] → W p l e room_1 s m #[Value.ref b] below meth c H locs 12 1803 (lw_Z below #[Value.ref b] s) (F0 m 18 ls []) := by
  obtain ⟨hx, hb, hr, hml, hown, hts0, hX, hbl, hlocks, hgv⟩ := id C0
  have hbA : ¬ (fun q : Nat => s.heap.size ≤ q) b := Nat.not_le.mpr hbl
  intro n
  induction n with
  | zero => intro i u v h1 h2; exact absurd h2 (by omega)
  | succ n ih =>
    intro i u v h1 h2 hR H locs hI ls hl
    refine lv_iload_n hx hb dL_law_18 rfl (lv_at hl 3 rfl) ?_
    refine lv_aload_n hx hb dL_law_19 rfl (lv_at hl 0 rfl) ?_
    refine va_slen hx hb hX hbl hbA hI.2.2 dL_law_20 ?_
    refine lv_iconst (v := 5) hx hb dL_law_21 (by decide) ?_
    refine lv_isub hx hb dL_law_22 ?_
    refine lv_icmp_gt (tgt := 408) hx hb dL_law_23 (by decide) (fun c23 => ?_) (fun c23 => ?_)
    · refine lv_iconst (v := 1) hx hb dL_law_408 (by decide) ?_
      refine va_forget (fun q hq => hI.2.2.2.2 q hq) ?_
      refine W.widen (k := 600000) (n := 7290000) (Nat.le_of_ble_eq_true rfl) (Nat.le_of_ble_eq_true rfl) ?_
      exact lw_ret hx hb hr hlocks dL_law_409
    · have hi : i + 5 ≤ L := by
        rcases Nat.lt_or_ge L (i + 5) with z | z
        · exact absurd ((ot_lim hL h1).mpr z) c23
        · exact z
      have next : ∀ (u : ot_xS) (v : ot_mS), ot_RR u v → ∀ (H : Heap) (locs : List Loc), ot_I G (fun q : Nat => s.heap.size ≤ q) s H locs (ot_xW d a u ++ ot_mW d a' v) → ∀ (ls : Array Slot), lv_has ls 4 [(0, .ref b), (1, .ref (a 0)), (2, .ref (a' 0)), (3, .int (nI i))] → W p l e room_1 s m #[Value.ref b] below meth c H locs 12 1803 (lw_Z below #[Value.ref b] s) (F0 m 402 ls []) := by
        intro u v hR H locs hI ls hl
        refine lv_iinc (v := nI (i + 5)) (lv' := [(3, .int (nI (i + 5))), (0, .ref b), (1, .ref (a 0)), (2, .ref (a' 0))]) hx hb dL_law_402 hl (k := 3) rfl (ot_inc5 _) (by decide) rfl (fun ls hl => ?_)
        refine lv_goto (tgt := 18) hx hb dL_law_405 (by decide) ?_
        exact ih (i + 5) u v (by omega) (by omega) hR _ _ hI _ (lv_sub hl [1, 2, 3, 0] rfl)
      refine lv_aload_n hx hb dL_law_26 rfl (lv_at hl 0 rfl) ?_
      refine lv_iload_n hx hb dL_law_27 rfl (lv_at hl 3 rfl) ?_
      refine ot_sld hx hb hX hbl hbA hI.2.2 (j := i) rfl (by omega) hL dL_law_28 ?_
      refine lv_bipush (v := 15) hx hb dL_law_29 (by decide) ?_
      refine lv_iand hx hb dL_law_31 ?_
      obtain ⟨j, hj, ej⟩ := pk_andE (xs i) (m := 15) 4 (by decide)
      rw [ej]
      rcases (show j = 0 ∨ j = 1 ∨ j = 2 ∨ j = 3 ∨ j = 4 ∨ j = 5 ∨ j = 6 ∨ j = 7 ∨ j = 8 ∨ j = 9 ∨ j = 10 ∨ j = 11 ∨ j = 12 ∨ j = 13 ∨ j = 14 ∨ j = 15 by omega) with rfl | rfl | rfl | rfl | rfl | rfl | rfl | rfl | rfl | rfl | rfl | rfl | rfl | rfl | rfl | rfl
      · refine lv_tableIn (tgt := 96) (off := 64) hx hb dL_law_32 (by decide) (by decide) rfl (by decide) ?_
        exact ot_law_fill hL C0 hK i hi u v hR next H locs hI ls hl
      · refine lv_tableIn (tgt := 149) (off := 117) hx hb dL_law_32 (by decide) (by decide) rfl (by decide) ?_
        exact ot_law_mount hL C0 hK i hi u v hR next H locs hI ls hl
      · refine lv_tableIn (tgt := 162) (off := 130) hx hb dL_law_32 (by decide) (by decide) rfl (by decide) ?_
        exact ot_law_make hL C0 hK i hi u v hR next H locs hI ls hl
      · refine lv_tableIn (tgt := 195) (off := 163) hx hb dL_law_32 (by decide) (by decide) rfl (by decide) ?_
        exact ot_law_makeDir hL C0 hK i hi u v hR next H locs hI ls hl
      · refine lv_tableIn (tgt := 218) (off := 186) hx hb dL_law_32 (by decide) (by decide) rfl (by decide) ?_
        exact ot_law_write hL C0 hK i hi u v hR next H locs hI ls hl
      · refine lv_tableIn (tgt := 251) (off := 219) hx hb dL_law_32 (by decide) (by decide) rfl (by decide) ?_
        exact ot_law_remove hL C0 hK i hi u v hR next H locs hI ls hl
      · refine lv_tableIn (tgt := 274) (off := 242) hx hb dL_law_32 (by decide) (by decide) rfl (by decide) ?_
        exact ot_law_move hL C0 hK i hi u v hR next H locs hI ls hl
      · refine lv_tableIn (tgt := 307) (off := 275) hx hb dL_law_32 (by decide) (by decide) rfl (by decide) ?_
        exact ot_law_press hL C0 hK i hi u v hR next H locs hI ls hl
      · refine lv_tableIn (tgt := 320) (off := 288) hx hb dL_law_32 (by decide) (by decide) rfl (by decide) ?_
        exact ot_law_sort hL C0 hK i hi u v hR next H locs hI ls hl
      · refine lv_tableIn (tgt := 343) (off := 311) hx hb dL_law_32 (by decide) (by decide) rfl (by decide) ?_
        exact ot_law_value hL C0 hK i hi u v hR next H locs hI ls hl
      · refine lv_tableIn (tgt := 366) (off := 334) hx hb dL_law_32 (by decide) (by decide) rfl (by decide) ?_
        exact ot_law_entries hL C0 hK i hi u v hR next H locs hI ls hl
      · refine lv_tableIn (tgt := 389) (off := 357) hx hb dL_law_32 (by decide) (by decide) rfl (by decide) ?_
        exact ot_law_total hL C0 hK i hi u v hR next H locs hI ls hl
      · refine lv_tableOut (tgt := 402) hx hb dL_law_32 (Or.inr (by decide)) (by decide) ?_
        exact next u v hR H locs hI ls hl
      · refine lv_tableOut (tgt := 402) hx hb dL_law_32 (Or.inr (by decide)) (by decide) ?_
        exact next u v hR H locs hI ls hl
      · refine lv_tableOut (tgt := 402) hx hb dL_law_32 (Or.inr (by decide)) (by decide) ?_
        exact next u v hR H locs hI ls hl
      · refine lv_tableOut (tgt := 402) hx hb dL_law_32 (Or.inr (by decide)) (by decide) ?_
        exact next u v hR H locs hI ls hl
set_option maxHeartbeats 4000000 in
theorem whole_start {p : Program} {e : Env} {s : State} {m : MethodId} {below : List Frame} {meth : Method} {c : Code} (l : Launch) {b L : Nat} {xs : Nat → Int32} (hL : L ≤ 320) (C0 : lw_At p s m meth c b L xs) : W p l e room_1 s m #[Value.ref b] below meth c s.heap [] 0 0 (lw_Z below #[Value.ref b] s) (entryFrame m ([Value.ref b] : List Value).toArray 4) := by
  obtain ⟨hx, hb, hr, hml, hown, hts0, hX, hbl, hlocks, hgv⟩ := id C0
  have hts : ∀ w ∈ lw_all, w.before #[Value.ref b] s = true := fun w h => hts0 w (lw_all_tbl h)
  have hA : ∀ q : Nat, s.heap.size ≤ q → (fun q : Nat => s.heap.size ≤ q) q := fun _ h => h
  obtain ⟨c0, iS0, hKn0⟩ := u_known (C := RX0) (T := TX0) (N := 8) (n := 8) hts in_X0 (hts _ q19)
  obtain ⟨c1, iS1, hKn1⟩ := u_known (C := RX1) (T := TX1) (N := 6) (n := 6) hts in_X1 (hts _ q151)
  obtain ⟨G, hKc⟩ : ∃ G : va_G, ∀ (k : Nat) (q : vw_C), vwCl[k]? = some q → u_Kn s q.1 q.2.1 q.2.2 (G.1 k) (G.2 k) := by
    refine ⟨(fun k => if k = 0 then c0 else c1, fun k => if k = 0 then iS0 else iS1), ?_⟩
    intro k q hq
    match k, hq with
    | 0, hq => cases hq; exact hKn0
    | 1, hq => cases hq; exact hKn1
    | k + 2, hq => simp [vwCl] at hq
  have hS : va_S (fun q : Nat => s.heap.size ≤ q) s.heap s.heap [] := va_S.rf
  have hK : va_K G vwCl [] s := ⟨hKc, fun k q h => by simp at h⟩
  have hP : va_P G vwCl [] s.heap := fun k q h => by simp at h
  have hD : va_D (fun q : Nat => s.heap.size ≤ q) [] := ⟨fun i j p q h => by simp at h, fun k q h => by simp at h⟩
  have hl := lv_entry ([.ref b]) (n := 4) (Nat.le_of_ble_eq_true rfl)
  rw [lg_entry_eq]
  generalize (lg_sl ([.ref b]) ++ List.replicate (4 - (lg_sl ([.ref b])).length) Slot.unset).toArray = ls at hl ⊢
  have hl : lv_has ls 4 [(0, .ref b)] := hl
  refine va_new (ci := 0) (fs := ot_xb) (C := RX0) (T := TX0) (N := 8) hx hb hts in_X0 tyX0 tyX0_ok hown (hts _ q18) (hts _ q19) (hts _ q16) hK hP hD hS hA rfl (fun j hj => by rcases (show j = 0 ∨ j = 1 ∨ j = 2 ∨ j = 3 ∨ j = 4 ∨ j = 5 ∨ j = 6 ∨ j = 7 by omega) with rfl | rfl | rfl | rfl | rfl | rfl | rfl | rfl <;> rfl) (Nat.le_of_ble_eq_true rfl) (Nat.le_of_ble_eq_true rfl) dL_law_0 (fun q0 H hP hD hS => ?_)
  have hP : va_P G vwCl [(q0, .inr (0, ot_xb))] H := hP
  have hD : va_D (fun q : Nat => s.heap.size ≤ q) [(q0, .inr (0, ot_xb))] := hD
  refine W.widen (k := 1) (n := 8) (Nat.le_of_ble_eq_true rfl) (Nat.le_of_ble_eq_true rfl) ?_
  refine lv_dup hx hb dL_law_3 rfl ?_
  have hFc := va_free (wc := [(q0, .inr (0, ot_xb))]) hD hS hA [0] rfl
  refine va_callv (va_runI (As := []) (rest := [.ref q0]) ⟨hx, hb, hml, hown, hts⟩ (xm_init l G q0 H.size) (cwI 0 hts (lw_meth q22) rfl rfl rfl (hts _ q16) (hts _ q20) (hts _ q21) rfl ok_yX0_init ⟨Nat.le_of_ble_eq_true rfl, Nat.le_of_ble_eq_true rfl⟩) ⟨fun a U g mk q => by obtain ⟨q0, q1, qP, qK, qD⟩ := q; exact ⟨q0, q1, qP, va_K.moved (u := U) (U := U.calling g mk a) (Vm.Alike.refl U.vm) qK, qD⟩, fun U hU hW => ⟨rfl, by rw [hU], by rw [hU]; exact hP, va_K.moved hW.alike hK, hD.weaken (fun _ _ _ _ => trivial)⟩⟩ rfl rfl hl.1 rfl (lv_room (Nat.le_of_ble_eq_true rfl)) dL_law_4 ⟨Nat.le_of_ble_eq_true rfl, Nat.le_of_ble_eq_true rfl⟩) hS (fun q _ h => hFc q h) hFc (fun u t H1 locs ht hvm hw hB hz1 hk1 hS => ?_)
  obtain ⟨d, a⟩ := u
  have hw : a 0 = q0 := hw
  obtain ⟨hP1, hK1, hD1⟩ := hB
  rw [ht] at hP1
  have hK1 : va_K G vwCl [(d, .int)] s := va_K.moved hvm.symm hK1
  obtain ⟨hP, hD⟩ := va_join (wr := []) (w1 := ot_xW d a ot_x0) hP hD [0] [] rfl rfl (by decide) (by decide) hk1 hFc hP1 hD1
  have hP : va_P G vwCl (ot_xW d a ot_x0) H1 := hP
  have hD : va_D (fun q : Nat => s.heap.size ≤ q) (ot_xW d a ot_x0) := hD
  generalize H1 = H at hP hS ⊢
  refine W.widen (k := 6) (n := 1032) (Nat.le_of_ble_eq_true rfl) (Nat.le_of_ble_eq_true rfl) ?_
  refine lv_astore_n (lv' := [(1, .ref q0), (0, .ref b)]) hx hb dL_law_7 rfl hl (by decide) rfl (fun ls hl => ?_)
  rw [← hw] at hl
  refine va_new (ci := 1) (fs := ot_mb) (C := RX1) (T := TX1) (N := 6) hx hb hts in_X1 tyX1 tyX1_ok hown (hts _ q150) (hts _ q151) (hts _ q17) hK1 hP hD hS hA rfl (fun j hj => by rcases (show j = 0 ∨ j = 1 ∨ j = 2 ∨ j = 3 ∨ j = 4 ∨ j = 5 by omega) with rfl | rfl | rfl | rfl | rfl | rfl <;> rfl) (Nat.le_of_ble_eq_true rfl) (Nat.le_of_ble_eq_true rfl) dL_law_8 (fun q1 H hP hD hS => ?_)
  refine W.widen (k := 7) (n := 1038) (Nat.le_of_ble_eq_true rfl) (Nat.le_of_ble_eq_true rfl) ?_
  refine lv_dup hx hb dL_law_11 rfl ?_
  have hPc := hP.sub (ws' := [(q1, .inr (1, ot_mb))]) [6] rfl
  have hDc := hD.sub (ws' := [(q1, .inr (1, ot_mb))]) [6] (by decide) rfl
  have hFc := va_free (wc := [(q1, .inr (1, ot_mb))]) hD hS hA [6] rfl
  refine va_callv (va_runI (As := []) (rest := [.ref q1]) ⟨hx, hb, hml, hown, hts⟩ (mm_init l G q1 H.size) (cwI 0 hts (lw_meth q154) rfl rfl rfl (hts _ q17) (hts _ q152) (hts _ q153) rfl ok_yX1_init ⟨Nat.le_of_ble_eq_true rfl, Nat.le_of_ble_eq_true rfl⟩) ⟨fun a U g mk q => by obtain ⟨q0, q1, qP, qK, qD⟩ := q; exact ⟨q0, q1, qP, va_K.moved (u := U) (U := U.calling g mk a) (Vm.Alike.refl U.vm) qK, qD⟩, fun U hU hW => ⟨rfl, by rw [hU], by rw [hU]; exact hPc, va_K.moved hW.alike hK, hDc.weaken (fun _ _ _ _ => trivial)⟩⟩ rfl rfl hl.1 rfl (lv_room (Nat.le_of_ble_eq_true rfl)) dL_law_12 ⟨Nat.le_of_ble_eq_true rfl, Nat.le_of_ble_eq_true rfl⟩) hS (fun q _ h => hFc q h) hFc (fun u t H1 locs ht hvm hw2 hB hz1 hk1 hS => ?_)
  obtain ⟨d2, a2⟩ := u
  have hw2 : a2 0 = q1 := hw2
  obtain ⟨hP1, hK2, hD1⟩ := hB
  rw [ht] at hP1
  have hK2 : va_K G vwCl [(d2, .int)] s := va_K.moved hvm.symm hK2
  have ed : d = d2 := Option.some.inj ((show s.vm.findClass ("[" ++ FieldType.int.toString) = some d from (hK1.2 0 _ rfl).2).symm.trans (show s.vm.findClass ("[" ++ FieldType.int.toString) = some d2 from (hK2.2 0 _ rfl).2))
  subst ed
  obtain ⟨hP, hD⟩ := va_join (wr := ot_xW d a ot_x0) (w1 := ot_mW d a2 ot_m0) hP hD [6] [0, 1, 2, 3, 4, 5] rfl rfl (by decide) (by decide) hk1 hFc hP1 hD1
  generalize H1 = H at hP hS ⊢
  refine W.widen (k := 12) (n := 1803) (Nat.le_of_ble_eq_true rfl) (Nat.le_of_ble_eq_true rfl) ?_
  refine lv_astore_n (lv' := [(2, .ref q1), (1, .ref (a 0)), (0, .ref b)]) hx hb dL_law_15 rfl hl (by decide) rfl (fun ls hl => ?_)
  rw [← hw2] at hl
  refine lv_iconst (v := 0) hx hb dL_law_16 (by decide) ?_
  refine lv_istore_n (lv' := [(3, .int 0), (2, .ref (a2 0)), (1, .ref (a 0)), (0, .ref b)]) hx hb dL_law_17 rfl hl (by decide) rfl (fun ls hl => ?_)
  have hl : lv_has ls 4 [(3, .int (nI 0)), (2, .ref (a2 0)), (1, .ref (a 0)), (0, .ref b)] := hl
  exact ot_law_loop hL C0 hK1 326 0 ot_x0 ot_m0 (by omega) (by omega) ot_R0 _ _ ⟨hP, hD, hS⟩ _ (lv_sub hl [3, 2, 1, 0] rfl)
end
section
-- ===== YOUR PART ENDS =====
set_option maxHeartbeats 4000000 in
theorem lw_walk (l : Launch) (b : Addr) (xs : List Int32) : MetFree l x (headSpec (Jvm.Cond.code x code maxLocals ret :: tables_1) room_1) (lw_P b xs) (fun _ _ _ _ _ => True) lw_Q := by
  refine MetFree.of_bodyS (code := code) (maxLocals := maxLocals) (ret := ret) (by decide) ?_ ?_
  · intro args s m h hn
    obtain ⟨meth, c, h1, h2, h3, h4, h5, h6, -, -⟩ := Cond.code_spec hn (atoms_spec (ws := Jvm.Cond.code x code maxLocals ret :: tables_1) h _ List.mem_cons_self)
    exact ⟨meth, c, h1, h2, h3, h4, h5, h6⟩
  · intro p e s m args below meth c s₁ B hml0 hP _
    obtain ⟨rfl, hx, hbd, hgv⟩ := hP
    obtain ⟨scr, harrAt, hlist, hof, hsmall⟩ := hx
    obtain ⟨hcb, hkn, -, -⟩ := State.arrayAt?_spec harrAt
    have hown : s.vm.findClass R_law = some m.cls := findClass_of_methodNamed B.named
    have hts0 : ∀ c ∈ (Jvm.Cond.code x code maxLocals ret :: tables_1), c.before #[Value.ref b] s = true := atoms_spec (ws := Jvm.Cond.code x code maxLocals ret :: tables_1) B.pre
    have hts : ∀ w ∈ lw_tbl, w.before #[Value.ref b] s = true := k2_hts_sels lw_privs (fun w hw => hts0 w (List.mem_cons_of_mem _ hw)) lw_privs_ok
    have hml : c.maxLocals = 4 := B.maxLocals_eq (hts0 _ List.mem_cons_self)
    have X₀ : Stand p l e room_1 s m #[Value.ref b] below meth c s₁ [] 0 0 := Stand.of_body B
    have hh0 : s₁.heap = s.heap := by rw [B.state]; rfl
    have hsz : scr.slots.size = xs.length := by rw [← Array.length_toList, hlist, List.length_map]
    have hval : ∀ j : Nat, j < xs.length → scr.slots[j]? = some (.int (xs.getD j 0)) := fun j hj => by
      rw [← Array.getElem?_toList, hlist]
      simp [hj]
    have hbl : b < s.heap.size := (Array.getElem?_eq_some_iff.mp hcb).1
    have hX : va_X b xs.length (fun j => xs.getD j 0) s s.heap := ⟨scr, hcb, hof, hkn, hsz, hval⟩
    have K : W p l e room_1 s m #[Value.ref b] below meth c s₁.heap [] 0 0 (lw_Z below #[Value.ref b] s) (entryFrame m ([Value.ref b] : List Value).toArray 4) := by
      rw [hh0]
      exact whole_start l hbd ⟨B.exec, B.bytes, B.returns, hml, hown, hts, hX, hbl, B.notSynchronized, hgv⟩
    obtain ⟨t, a1, o, b1, b2, b3⟩ := K s₁ rfl X₀
    exact ⟨t, o, a1, b1, b2, b3⟩
theorem lw_pre_spec {args : Array Value} {s : State} (h : (Jvm.Cond.and given_1 narrow_1).before args s = true) (hr : rest_1_c.before args s = true) : ∃ (b : Addr) (xs : List Int32), lw_P b xs args s := by
  have hs := flat_of_before _ h
  have hq := flat_of_before _ hr
  have hc : (Cond.count 1).before args s = true := hs _ (by decide +kernel)
  have harr : (Cond.arrayOf (.arg 0) .int).before args s = true := hs _ (by decide +kernel)
  have hle : (Cond.le (.length (.arg 0)) (.int 320)).before args s = true := hs _ (by decide +kernel)
  have hlen : (Cond.isInt (.length (.arg 0))).before args s = true := hq _ (by decide +kernel)
  have hall : (Cond.all (.arg 0) (.isInt (.elem (.arg 0) (.index 0)))).before args s = true := hq _ (by decide +kernel)
  obtain ⟨b, xs, hb, hx⟩ := State.ints_of_pre rfl harr hlen hall
  have hsm : xs.length < 2 ^ 31 := hx.choose_spec.2.2.2
  have hev : (Term.length (.arg 0)).eval args s none [] s = some (.int xs.length.toInt32) := hx.length_eval hb
  have hv := Cond.le_ints hev (show (Term.int 320).eval args s none [] s = some (.int 320) from rfl)
  have hd : xs.length.toInt32 ≤ 320 := by
    simpa [Cond.before, Cond.holds, hv] using hle
  have hN : xs.length ≤ 320 := (Int32.ofNat_le_ofNat hsm (by decide)).mp (show Int32.ofNat xs.length ≤ Int32.ofNat 320 from hd)
  exact ⟨b, xs, Cond.one_arg hc (show args[0]? = some (.ref b) from hb), hx, hN, h⟩
theorem lw_comes (l : Launch) : Comes l x (Jvm.Cond.code x code maxLocals ret :: tables_1) room_1 (fun tb e args s => Calls_1 tb e args s ∧ rest_1 tb e args s ∧ Pre_1 tb e args s)
    (fun _ _ args s o t => lw_Q args s o t) := by
  intro p e ha hc hk s m args below hf hfit hheap happ hpre
  obtain ⟨b, xs, hP⟩ := lw_pre_spec hpre.2.2 hpre.2.1
  obtain ⟨k, o, h1, h2, h3, hQ⟩ := lw_walk l b xs p e ha hc hk s m args below hf ((Spec.applies_iff_loose hf).mp happ).1 hP trivial
  exact ⟨k, o, h1, h2, h3, hQ⟩
theorem lw_frame {s t : State} {o : Outcome} {args : Array Value} (h : Framed s o t [] 600000 7290000) :
    Framed s o t (fieldLocs frame_1_writes args s ++ arrayLocs frame_1_arrays args s ++ staticLocs frame_1_statics s) 600000 7290000 := h
theorem lw_limb (L : Cond) (hL : ∀ (args : Array Value) (s t : State), L.after args s (.returned (some (.int 1))) t = true) :
    ArmFor flags0 classFile x code maxLocals ret World_1 tables_1 room_1 Calls_1 rest_1 Pre_1
      (fun tb e a s o t => postC L tb e a s o t ∧ Framed s o t (fieldLocs frame_1_writes a s ++ arrayLocs frame_1_arrays a s ++ staticLocs frame_1_statics s) 600000 7290000) := by
  intro l _ _ _ p e ha hc hk s m args below hf hfit hheap happ hpre
  obtain ⟨k, o, h1, h2, h3, rfl, hF⟩ := lw_comes l p e ha hc hk s m args below hf hfit hheap happ hpre
  exact ⟨k, _, h1, h2, h3, hL args s _, lw_frame hF⟩
theorem i_vc : Claimed_1_1 ∧ Claimed_1_2 := ⟨lw_limb limb_1_1 (fun args s t => by simp [limb_1_1, Cond.after, Cond.holds, Cond.value]), lw_limb limb_1_2 (fun args s t => Cond.after_iff.mpr (by
  first | (rw [show limb_1_2 = Cond.eq .result (.int 1) from rfl, Cond.eq_ints (x := 1) (y := 1) rfl rfl]; simp; done) | (simp [limb_1_2, Cond.value, Term.eval]; done)))⟩
end
