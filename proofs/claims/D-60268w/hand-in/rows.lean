section
-- ===== PART A: goes FIRST, ahead of the names: the tables' words, and 'selects' of the private methods out of them =====
/-- a private method of a class that the tables say can be made, by its rows of tables_1 -/
def lw_okq (q : MethodName × Nat) : Prop := (q.1.cls ≠ "java/lang/invoke/MethodHandle" ∧ q.1.cls ≠ "java/lang/invoke/VarHandle") ∧ Cond.instantiable q.1.cls q.2 ∈ tables_1 ∧ Cond.privateMethod q.1 ∈ tables_1 ∧ Cond.instanceMethod q.1 ∈ tables_1
set_option maxRecDepth 100000
theorem lw_t1 {w : Cond} (h : w ∈ tables_1_1) : w ∈ tables_1 := List.mem_append_left _ h
theorem lw_t2 {w : Cond} (h : w ∈ tables_1_2) : w ∈ tables_1 := List.mem_append_right _ h
theorem lw_p0 : lw_okq (⟨"SplitTree", "put", "(III)V"⟩, 10) := ⟨⟨by decide +kernel, by decide +kernel⟩, lw_t1 (List.mem_of_getElem? (i := 4) rfl), lw_t1 (List.mem_of_getElem? (i := 49) rfl), lw_t1 (List.mem_of_getElem? (i := 50) rfl)⟩
theorem lw_p1 : lw_okq (⟨"SplitTree", "missing", "(I)Z"⟩, 10) := ⟨⟨by decide +kernel, by decide +kernel⟩, lw_t1 (List.mem_of_getElem? (i := 4) rfl), lw_t1 (List.mem_of_getElem? (i := 61) rfl), lw_t1 (List.mem_of_getElem? (i := 62) rfl)⟩
theorem lw_p2 : lw_okq (⟨"SplitTree", "get", "(II)I"⟩, 10) := ⟨⟨by decide +kernel, by decide +kernel⟩, lw_t1 (List.mem_of_getElem? (i := 4) rfl), lw_t1 (List.mem_of_getElem? (i := 65) rfl), lw_t1 (List.mem_of_getElem? (i := 66) rfl)⟩
theorem lw_p3 : lw_okq (⟨"SplitTree", "find", "()V"⟩, 10) := ⟨⟨by decide +kernel, by decide +kernel⟩, lw_t1 (List.mem_of_getElem? (i := 4) rfl), lw_t1 (List.mem_of_getElem? (i := 77) rfl), lw_t1 (List.mem_of_getElem? (i := 78) rfl)⟩
theorem lw_p4 : lw_okq (⟨"SplitTree", "addPoint", "(I)V"⟩, 10) := ⟨⟨by decide +kernel, by decide +kernel⟩, lw_t1 (List.mem_of_getElem? (i := 4) rfl), lw_t1 (List.mem_of_getElem? (i := 81) rfl), lw_t1 (List.mem_of_getElem? (i := 82) rfl)⟩
theorem lw_p5 : lw_okq (⟨"SplitTree", "tryEdge", "(II)V"⟩, 10) := ⟨⟨by decide +kernel, by decide +kernel⟩, lw_t1 (List.mem_of_getElem? (i := 4) rfl), lw_t1 (List.mem_of_getElem? (i := 85) rfl), lw_t1 (List.mem_of_getElem? (i := 86) rfl)⟩
theorem lw_p6 : lw_okq (⟨"SplitTree", "indexOf", "(II)I"⟩, 10) := ⟨⟨by decide +kernel, by decide +kernel⟩, lw_t1 (List.mem_of_getElem? (i := 4) rfl), lw_t1 (List.mem_of_getElem? (i := 89) rfl), lw_t1 (List.mem_of_getElem? (i := 90) rfl)⟩
theorem lw_p7 : lw_okq (⟨"SplitTree", "leastFor", "(IIII)I"⟩, 10) := ⟨⟨by decide +kernel, by decide +kernel⟩, lw_t1 (List.mem_of_getElem? (i := 4) rfl), lw_t1 (List.mem_of_getElem? (i := 93) rfl), lw_t1 (List.mem_of_getElem? (i := 94) rfl)⟩
theorem lw_p8 : lw_okq (⟨"SplitTree", "sortFresh", "()V"⟩, 10) := ⟨⟨by decide +kernel, by decide +kernel⟩, lw_t1 (List.mem_of_getElem? (i := 4) rfl), lw_t1 (List.mem_of_getElem? (i := 97) rfl), lw_t1 (List.mem_of_getElem? (i := 98) rfl)⟩
theorem lw_p9 : lw_okq (⟨"SplitTree", "pathOf", "(II)I"⟩, 10) := ⟨⟨by decide +kernel, by decide +kernel⟩, lw_t1 (List.mem_of_getElem? (i := 4) rfl), lw_t1 (List.mem_of_getElem? (i := 101) rfl), lw_t1 (List.mem_of_getElem? (i := 102) rfl)⟩
theorem lw_p10 : lw_okq (⟨"SplitTree", "parts", "(III)Z"⟩, 10) := ⟨⟨by decide +kernel, by decide +kernel⟩, lw_t1 (List.mem_of_getElem? (i := 4) rfl), lw_t1 (List.mem_of_getElem? (i := 105) rfl), lw_t1 (List.mem_of_getElem? (i := 106) rfl)⟩
theorem lw_p11 : lw_okq (⟨"SplitTree", "badSplit", "(I)Z"⟩, 10) := ⟨⟨by decide +kernel, by decide +kernel⟩, lw_t1 (List.mem_of_getElem? (i := 4) rfl), lw_t1 (List.mem_of_getElem? (i := 121) rfl), lw_t1 (List.mem_of_getElem? (i := 122) rfl)⟩
theorem lw_p12 : lw_okq (⟨"SplitTree", "agreesWithAll", "(I)Z"⟩, 10) := ⟨⟨by decide +kernel, by decide +kernel⟩, lw_t1 (List.mem_of_getElem? (i := 4) rfl), lw_t1 (List.mem_of_getElem? (i := 145) rfl), lw_t1 (List.mem_of_getElem? (i := 146) rfl)⟩
theorem lw_p13 : lw_okq (⟨"SplitTree", "agree", "(II)Z"⟩, 10) := ⟨⟨by decide +kernel, by decide +kernel⟩, lw_t1 (List.mem_of_getElem? (i := 4) rfl), lw_t1 (List.mem_of_getElem? (i := 149) rfl), lw_t1 (List.mem_of_getElem? (i := 150) rfl)⟩
theorem lw_p14 : lw_okq (⟨"SplitTree", "partsAt", "(I)I"⟩, 10) := ⟨⟨by decide +kernel, by decide +kernel⟩, lw_t1 (List.mem_of_getElem? (i := 4) rfl), lw_t1 (List.mem_of_getElem? (i := 157) rfl), lw_t1 (List.mem_of_getElem? (i := 158) rfl)⟩
theorem lw_p15 : lw_okq (⟨"SplitTree", "above", "(I)I"⟩, 10) := ⟨⟨by decide +kernel, by decide +kernel⟩, lw_t1 (List.mem_of_getElem? (i := 4) rfl), lw_t1 (List.mem_of_getElem? (i := 161) rfl), lw_t1 (List.mem_of_getElem? (i := 162) rfl)⟩
def lw_privs_1 : List (MethodName × Nat) := [(⟨"SplitTree", "put", "(III)V"⟩, 10), (⟨"SplitTree", "missing", "(I)Z"⟩, 10), (⟨"SplitTree", "get", "(II)I"⟩, 10), (⟨"SplitTree", "find", "()V"⟩, 10), (⟨"SplitTree", "addPoint", "(I)V"⟩, 10), (⟨"SplitTree", "tryEdge", "(II)V"⟩, 10), (⟨"SplitTree", "indexOf", "(II)I"⟩, 10), (⟨"SplitTree", "leastFor", "(IIII)I"⟩, 10), (⟨"SplitTree", "sortFresh", "()V"⟩, 10), (⟨"SplitTree", "pathOf", "(II)I"⟩, 10), (⟨"SplitTree", "parts", "(III)Z"⟩, 10), (⟨"SplitTree", "badSplit", "(I)Z"⟩, 10), (⟨"SplitTree", "agreesWithAll", "(I)Z"⟩, 10), (⟨"SplitTree", "agree", "(II)Z"⟩, 10), (⟨"SplitTree", "partsAt", "(I)I"⟩, 10), (⟨"SplitTree", "above", "(I)I"⟩, 10)]
theorem lw_r1 : ∀ q ∈ lw_privs_1, lw_okq q := List.forall_mem_cons.mpr ⟨lw_p0, List.forall_mem_cons.mpr ⟨lw_p1, List.forall_mem_cons.mpr ⟨lw_p2, List.forall_mem_cons.mpr ⟨lw_p3, List.forall_mem_cons.mpr ⟨lw_p4, List.forall_mem_cons.mpr ⟨lw_p5, List.forall_mem_cons.mpr ⟨lw_p6, List.forall_mem_cons.mpr ⟨lw_p7, List.forall_mem_cons.mpr ⟨lw_p8, List.forall_mem_cons.mpr ⟨lw_p9, List.forall_mem_cons.mpr ⟨lw_p10, List.forall_mem_cons.mpr ⟨lw_p11, List.forall_mem_cons.mpr ⟨lw_p12, List.forall_mem_cons.mpr ⟨lw_p13, List.forall_mem_cons.mpr ⟨lw_p14, List.forall_mem_cons.mpr ⟨lw_p15, fun _ h => absurd h List.not_mem_nil⟩⟩⟩⟩⟩⟩⟩⟩⟩⟩⟩⟩⟩⟩⟩⟩
theorem lw_p16 : lw_okq (⟨"SplitTree", "homeOf", "(I)I"⟩, 10) := ⟨⟨by decide +kernel, by decide +kernel⟩, lw_t1 (List.mem_of_getElem? (i := 4) rfl), lw_t1 (List.mem_of_getElem? (i := 165) rfl), lw_t1 (List.mem_of_getElem? (i := 166) rfl)⟩
theorem lw_p17 : lw_okq (⟨"SplitTree", "pointsAt", "(I)I"⟩, 10) := ⟨⟨by decide +kernel, by decide +kernel⟩, lw_t1 (List.mem_of_getElem? (i := 4) rfl), lw_t1 (List.mem_of_getElem? (i := 169) rfl), lw_t1 (List.mem_of_getElem? (i := 170) rfl)⟩
theorem lw_p18 : lw_okq (⟨"SplitTreeModel", "put", "(III)V"⟩, 4) := ⟨⟨by decide +kernel, by decide +kernel⟩, lw_t1 (List.mem_of_getElem? (i := 185) rfl), lw_t1 (List.mem_of_getElem? (i := 208) rfl), lw_t1 (List.mem_of_getElem? (i := 209) rfl)⟩
theorem lw_p19 : lw_okq (⟨"SplitTreeModel", "is", "(I)Z"⟩, 4) := ⟨⟨by decide +kernel, by decide +kernel⟩, lw_t1 (List.mem_of_getElem? (i := 185) rfl), lw_t1 (List.mem_of_getElem? (i := 220) rfl), lw_t1 (List.mem_of_getElem? (i := 221) rfl)⟩
theorem lw_p20 : lw_okq (⟨"SplitTreeModel", "work", "()V"⟩, 4) := ⟨⟨by decide +kernel, by decide +kernel⟩, lw_t1 (List.mem_of_getElem? (i := 185) rfl), lw_t1 (List.mem_of_getElem? (i := 232) rfl), lw_t1 (List.mem_of_getElem? (i := 233) rfl)⟩
theorem lw_p21 : lw_okq (⟨"SplitTreeModel", "indexOf", "(I)I"⟩, 4) := ⟨⟨by decide +kernel, by decide +kernel⟩, lw_t1 (List.mem_of_getElem? (i := 185) rfl), lw_t1 (List.mem_of_getElem? (i := 236) rfl), lw_t1 (List.mem_of_getElem? (i := 237) rfl)⟩
theorem lw_p22 : lw_okq (⟨"SplitTreeModel", "between", "(II)I"⟩, 4) := ⟨⟨by decide +kernel, by decide +kernel⟩, lw_t1 (List.mem_of_getElem? (i := 185) rfl), lw_t2 (List.mem_of_getElem? (i := 0) rfl), lw_t2 (List.mem_of_getElem? (i := 1) rfl)⟩
theorem lw_p23 : lw_okq (⟨"SplitTreeModel", "isSplit", "(I)Z"⟩, 4) := ⟨⟨by decide +kernel, by decide +kernel⟩, lw_t1 (List.mem_of_getElem? (i := 185) rfl), lw_t2 (List.mem_of_getElem? (i := 16) rfl), lw_t2 (List.mem_of_getElem? (i := 17) rfl)⟩
theorem lw_p24 : lw_okq (⟨"SplitTreeModel", "agreesWithAll", "(I)Z"⟩, 4) := ⟨⟨by decide +kernel, by decide +kernel⟩, lw_t1 (List.mem_of_getElem? (i := 185) rfl), lw_t2 (List.mem_of_getElem? (i := 40) rfl), lw_t2 (List.mem_of_getElem? (i := 41) rfl)⟩
theorem lw_p25 : lw_okq (⟨"SplitTreeModel", "agree", "(II)Z"⟩, 4) := ⟨⟨by decide +kernel, by decide +kernel⟩, lw_t1 (List.mem_of_getElem? (i := 185) rfl), lw_t2 (List.mem_of_getElem? (i := 44) rfl), lw_t2 (List.mem_of_getElem? (i := 45) rfl)⟩
theorem lw_p26 : lw_okq (⟨"SplitTreeModel", "fits", "(II)Z"⟩, 4) := ⟨⟨by decide +kernel, by decide +kernel⟩, lw_t1 (List.mem_of_getElem? (i := 185) rfl), lw_t2 (List.mem_of_getElem? (i := 56) rfl), lw_t2 (List.mem_of_getElem? (i := 57) rfl)⟩
theorem lw_p27 : lw_okq (⟨"SplitTreeModel", "level", "(III)Z"⟩, 4) := ⟨⟨by decide +kernel, by decide +kernel⟩, lw_t1 (List.mem_of_getElem? (i := 185) rfl), lw_t2 (List.mem_of_getElem? (i := 60) rfl), lw_t2 (List.mem_of_getElem? (i := 61) rfl)⟩
def lw_privs_2 : List (MethodName × Nat) := [(⟨"SplitTree", "homeOf", "(I)I"⟩, 10), (⟨"SplitTree", "pointsAt", "(I)I"⟩, 10), (⟨"SplitTreeModel", "put", "(III)V"⟩, 4), (⟨"SplitTreeModel", "is", "(I)Z"⟩, 4), (⟨"SplitTreeModel", "work", "()V"⟩, 4), (⟨"SplitTreeModel", "indexOf", "(I)I"⟩, 4), (⟨"SplitTreeModel", "between", "(II)I"⟩, 4), (⟨"SplitTreeModel", "isSplit", "(I)Z"⟩, 4), (⟨"SplitTreeModel", "agreesWithAll", "(I)Z"⟩, 4), (⟨"SplitTreeModel", "agree", "(II)Z"⟩, 4), (⟨"SplitTreeModel", "fits", "(II)Z"⟩, 4), (⟨"SplitTreeModel", "level", "(III)Z"⟩, 4)]
theorem lw_r2 : ∀ q ∈ lw_privs_2, lw_okq q := List.forall_mem_cons.mpr ⟨lw_p16, List.forall_mem_cons.mpr ⟨lw_p17, List.forall_mem_cons.mpr ⟨lw_p18, List.forall_mem_cons.mpr ⟨lw_p19, List.forall_mem_cons.mpr ⟨lw_p20, List.forall_mem_cons.mpr ⟨lw_p21, List.forall_mem_cons.mpr ⟨lw_p22, List.forall_mem_cons.mpr ⟨lw_p23, List.forall_mem_cons.mpr ⟨lw_p24, List.forall_mem_cons.mpr ⟨lw_p25, List.forall_mem_cons.mpr ⟨lw_p26, List.forall_mem_cons.mpr ⟨lw_p27, fun _ h => absurd h List.not_mem_nil⟩⟩⟩⟩⟩⟩⟩⟩⟩⟩⟩⟩
def lw_privs : List (MethodName × Nat) := lw_privs_1 ++ (lw_privs_2)
def lw_tbl : List Cond := k2_sels lw_privs ++ tables_1
theorem lw_privs_ok : ∀ q ∈ lw_privs, lw_okq q := by
  show ∀ q ∈ lw_privs_1 ++ (lw_privs_2), lw_okq q
  exact List.forall_mem_append.mpr ⟨lw_r1, lw_r2⟩
-- ===== ONE list of words for every method: the tables' words that hold all through a run =====
def lw_all : List Cond := lw_tbl.filter goodWord
/-- a word of the tables by its place: claim/WORDS.tsv -/
theorem lw_w {w : Cond} (i : Nat) (h : lw_tbl[i]? = some w) (g : goodWord w = true) : w ∈ lw_all := List.mem_filter.mpr ⟨List.mem_of_getElem? h, g⟩
theorem lw_all_tbl {w : Cond} (h : w ∈ lw_all) : w ∈ lw_tbl := (List.mem_filter.mp h).1
theorem lw_self : GoodIn lw_all lw_all := fun w h => ⟨h, good_of_word (List.mem_filter.mp h).2⟩
/-- a class's field words, by their places -/
theorem lw_in (ws : List Cond) (ps : List Nat) (hp : ws = ps.filterMap (fun i => lw_tbl[i]?)) (hg : ws.all goodWord = true) : ∀ w ∈ ws, w ∈ lw_all := by
  intro w h
  have h1 := List.all_eq_true.mp hg w h
  rw [hp] at h
  obtain ⟨i, -, hi⟩ := List.mem_filterMap.mp h
  exact lw_w i hi h1
/-- the words of a contract for the method y with code b, L locals, answer r -/
abbrev ws_ (y : MethodName) (b : ByteArray) (L : Nat) (r : Option FieldType) : List Cond := Cond.code y b L r :: lw_all
theorem lw_meth {y : MethodName} {b : ByteArray} {L : Nat} {r : Option FieldType} (h : Cond.code y b L r ∈ lw_all) : GoodIn lw_all (ws_ y b L r) := by
  intro w hw
  rcases List.mem_cons.mp hw with e | e
  · rw [e]
    exact lw_self _ h
  · exact lw_self _ e
theorem lw_app {a c : List Cond} (ha : ∀ w ∈ a, w ∈ lw_all) (hc : GoodIn lw_all c) : GoodIn lw_all (a ++ c) := by
  intro w hw
  rcases List.mem_append.mp hw with e | e
  · exact lw_self w (ha w e)
  · exact hc w e
/-- what a call through an object asks: cwV n hts (lw_V ..) -/
theorem lw_V {own : String} {idx : Nat} {C : String} {y : MethodName} {b : ByteArray} {L : Nat} {r : Option FieldType} (h1 : Cond.methodLink own idx y ∈ lw_all) (h2 : Cond.instanceMethod y ∈ lw_all) (h3 : Cond.selects C y y ∈ lw_all) (h4 : Cond.initialized C ∈ lw_all) (h5 : Cond.code y b L r ∈ lw_all) : GoodIn lw_all (wsV own idx C y (ws_ y b L r)) := by
  refine lw_app ?_ (lw_meth h5)
  intro w hw
  simp only [List.mem_cons, List.not_mem_nil, or_false] at hw
  rcases hw with e | e | e | e
  · rw [e]; exact h1
  · rw [e]; exact h2
  · rw [e]; exact h3
  · rw [e]; exact h4
/-- what a static call asks: va_cwS n hts (lw_S ..) -/
theorem lw_S {own : String} {idx : Nat} {y : MethodName} {b : ByteArray} {L : Nat} {r : Option FieldType} (h1 : Cond.methodLink own idx y ∈ lw_all) (h2 : Cond.static y ∈ lw_all) (h3 : Cond.initialized y.cls ∈ lw_all) (h4 : Cond.code y b L r ∈ lw_all) : GoodIn lw_all (va_wsS own idx y (ws_ y b L r)) := by
  refine lw_app ?_ (lw_meth h4)
  intro w hw
  simp only [List.mem_cons, List.not_mem_nil, or_false] at hw
  rcases hw with e | e | e
  · rw [e]; exact h1
  · rw [e]; exact h2
  · rw [e]; exact h3
/-- the words of a contract for a method WITH HANDLERS (hh: its table) -/
abbrev wsW_ (y : MethodName) (b : ByteArray) (L : Nat) (r : Option FieldType) (hh : List (Nat × Nat × Nat × Nat)) : List Cond := Cond.codeWith y b L r hh :: lw_all
theorem lw_methW {y : MethodName} {b : ByteArray} {L : Nat} {r : Option FieldType} {hh : List (Nat × Nat × Nat × Nat)} (h : Cond.codeWith y b L r hh ∈ lw_all) : GoodIn lw_all (wsW_ y b L r hh) := by
  intro w hw
  rcases List.mem_cons.mp hw with e | e
  · rw [e]
    exact lw_self _ h
  · exact lw_self _ e
/-- any list of words by their places (lw_in), good -/
theorem lw_good {ws : List Cond} (h : ∀ w ∈ ws, w ∈ lw_all) : GoodIn lw_all ws := fun w hw => lw_self w (h w hw)
/-- what a call of a method with handlers asks: vx_cwVW n hts (lw_VW ..), vx_cwSW n hts (lw_SW ..) -/
theorem lw_VW {own : String} {idx : Nat} {C : String} {y : MethodName} {b : ByteArray} {L : Nat} {r : Option FieldType} {hh : List (Nat × Nat × Nat × Nat)} (h1 : Cond.methodLink own idx y ∈ lw_all) (h2 : Cond.instanceMethod y ∈ lw_all) (h3 : Cond.selects C y y ∈ lw_all) (h4 : Cond.initialized C ∈ lw_all) (h5 : Cond.codeWith y b L r hh ∈ lw_all) : GoodIn lw_all (wsV own idx C y (wsW_ y b L r hh)) := by
  refine lw_app ?_ (lw_methW h5)
  intro w hw
  simp only [List.mem_cons, List.not_mem_nil, or_false] at hw
  rcases hw with e | e | e | e
  · rw [e]; exact h1
  · rw [e]; exact h2
  · rw [e]; exact h3
  · rw [e]; exact h4
theorem lw_SW {own : String} {idx : Nat} {y : MethodName} {b : ByteArray} {L : Nat} {r : Option FieldType} {hh : List (Nat × Nat × Nat × Nat)} (h1 : Cond.methodLink own idx y ∈ lw_all) (h2 : Cond.static y ∈ lw_all) (h3 : Cond.initialized y.cls ∈ lw_all) (h4 : Cond.codeWith y b L r hh ∈ lw_all) : GoodIn lw_all (va_wsS own idx y (wsW_ y b L r hh)) := by
  refine lw_app ?_ (lw_methW h4)
  intro w hw
  simp only [List.mem_cons, List.not_mem_nil, or_false] at hw
  rcases hw with e | e | e
  · rw [e]; exact h1
  · rw [e]; exact h2
  · rw [e]; exact h3
/-- a word by its place in its run of the tables -/
theorem lw_at {r : List Cond} (hr : ∀ w ∈ r, w ∈ lw_tbl) {w : Cond} (i : Nat) (h : r[i]? = some w) : w ∈ lw_tbl := hr w (List.mem_of_getElem? h)
theorem lw_g {w : Cond} (h : w ∈ lw_tbl) (g : goodWord w = true) : w ∈ lw_all := List.mem_filter.mpr ⟨h, g⟩
theorem lw_ms : ∀ w ∈ k2_sels lw_privs, w ∈ lw_tbl := fun w h => show w ∈ k2_sels lw_privs ++ tables_1 from List.mem_append_left _ h
theorem lw_m1 : ∀ w ∈ tables_1_1, w ∈ lw_tbl := fun w h => show w ∈ k2_sels lw_privs ++ tables_1 from List.mem_append_right (k2_sels lw_privs) (show w ∈ tables_1 from List.mem_append_left _ h)
theorem lw_m2 : ∀ w ∈ tables_1_2, w ∈ lw_tbl := fun w h => show w ∈ k2_sels lw_privs ++ tables_1 from List.mem_append_right (k2_sels lw_privs) (show w ∈ tables_1 from List.mem_append_right _ h)
theorem qs0 : (Cond.selects "SplitTree" ⟨"SplitTree", "put", "(III)V"⟩ ⟨"SplitTree", "put", "(III)V"⟩) ∈ lw_all := lw_g (lw_at lw_ms 0 rfl) rfl
theorem qs1 : (Cond.selects "SplitTree" ⟨"SplitTree", "missing", "(I)Z"⟩ ⟨"SplitTree", "missing", "(I)Z"⟩) ∈ lw_all := lw_g (lw_at lw_ms 1 rfl) rfl
theorem qs2 : (Cond.selects "SplitTree" ⟨"SplitTree", "get", "(II)I"⟩ ⟨"SplitTree", "get", "(II)I"⟩) ∈ lw_all := lw_g (lw_at lw_ms 2 rfl) rfl
theorem qs3 : (Cond.selects "SplitTree" ⟨"SplitTree", "find", "()V"⟩ ⟨"SplitTree", "find", "()V"⟩) ∈ lw_all := lw_g (lw_at lw_ms 3 rfl) rfl
theorem qs4 : (Cond.selects "SplitTree" ⟨"SplitTree", "addPoint", "(I)V"⟩ ⟨"SplitTree", "addPoint", "(I)V"⟩) ∈ lw_all := lw_g (lw_at lw_ms 4 rfl) rfl
theorem qs5 : (Cond.selects "SplitTree" ⟨"SplitTree", "tryEdge", "(II)V"⟩ ⟨"SplitTree", "tryEdge", "(II)V"⟩) ∈ lw_all := lw_g (lw_at lw_ms 5 rfl) rfl
theorem qs6 : (Cond.selects "SplitTree" ⟨"SplitTree", "indexOf", "(II)I"⟩ ⟨"SplitTree", "indexOf", "(II)I"⟩) ∈ lw_all := lw_g (lw_at lw_ms 6 rfl) rfl
theorem qs7 : (Cond.selects "SplitTree" ⟨"SplitTree", "leastFor", "(IIII)I"⟩ ⟨"SplitTree", "leastFor", "(IIII)I"⟩) ∈ lw_all := lw_g (lw_at lw_ms 7 rfl) rfl
theorem qs8 : (Cond.selects "SplitTree" ⟨"SplitTree", "sortFresh", "()V"⟩ ⟨"SplitTree", "sortFresh", "()V"⟩) ∈ lw_all := lw_g (lw_at lw_ms 8 rfl) rfl
theorem qs9 : (Cond.selects "SplitTree" ⟨"SplitTree", "pathOf", "(II)I"⟩ ⟨"SplitTree", "pathOf", "(II)I"⟩) ∈ lw_all := lw_g (lw_at lw_ms 9 rfl) rfl
theorem qs10 : (Cond.selects "SplitTree" ⟨"SplitTree", "parts", "(III)Z"⟩ ⟨"SplitTree", "parts", "(III)Z"⟩) ∈ lw_all := lw_g (lw_at lw_ms 10 rfl) rfl
theorem qs11 : (Cond.selects "SplitTree" ⟨"SplitTree", "badSplit", "(I)Z"⟩ ⟨"SplitTree", "badSplit", "(I)Z"⟩) ∈ lw_all := lw_g (lw_at lw_ms 11 rfl) rfl
theorem qs12 : (Cond.selects "SplitTree" ⟨"SplitTree", "agreesWithAll", "(I)Z"⟩ ⟨"SplitTree", "agreesWithAll", "(I)Z"⟩) ∈ lw_all := lw_g (lw_at lw_ms 12 rfl) rfl
theorem qs13 : (Cond.selects "SplitTree" ⟨"SplitTree", "agree", "(II)Z"⟩ ⟨"SplitTree", "agree", "(II)Z"⟩) ∈ lw_all := lw_g (lw_at lw_ms 13 rfl) rfl
theorem qs14 : (Cond.selects "SplitTree" ⟨"SplitTree", "partsAt", "(I)I"⟩ ⟨"SplitTree", "partsAt", "(I)I"⟩) ∈ lw_all := lw_g (lw_at lw_ms 14 rfl) rfl
theorem qs15 : (Cond.selects "SplitTree" ⟨"SplitTree", "above", "(I)I"⟩ ⟨"SplitTree", "above", "(I)I"⟩) ∈ lw_all := lw_g (lw_at lw_ms 15 rfl) rfl
theorem qs16 : (Cond.selects "SplitTree" ⟨"SplitTree", "homeOf", "(I)I"⟩ ⟨"SplitTree", "homeOf", "(I)I"⟩) ∈ lw_all := lw_g (lw_at lw_ms 16 rfl) rfl
theorem qs17 : (Cond.selects "SplitTree" ⟨"SplitTree", "pointsAt", "(I)I"⟩ ⟨"SplitTree", "pointsAt", "(I)I"⟩) ∈ lw_all := lw_g (lw_at lw_ms 17 rfl) rfl
theorem qs18 : (Cond.selects "SplitTreeModel" ⟨"SplitTreeModel", "put", "(III)V"⟩ ⟨"SplitTreeModel", "put", "(III)V"⟩) ∈ lw_all := lw_g (lw_at lw_ms 18 rfl) rfl
theorem qs19 : (Cond.selects "SplitTreeModel" ⟨"SplitTreeModel", "is", "(I)Z"⟩ ⟨"SplitTreeModel", "is", "(I)Z"⟩) ∈ lw_all := lw_g (lw_at lw_ms 19 rfl) rfl
theorem qs20 : (Cond.selects "SplitTreeModel" ⟨"SplitTreeModel", "work", "()V"⟩ ⟨"SplitTreeModel", "work", "()V"⟩) ∈ lw_all := lw_g (lw_at lw_ms 20 rfl) rfl
theorem qs21 : (Cond.selects "SplitTreeModel" ⟨"SplitTreeModel", "indexOf", "(I)I"⟩ ⟨"SplitTreeModel", "indexOf", "(I)I"⟩) ∈ lw_all := lw_g (lw_at lw_ms 21 rfl) rfl
theorem qs22 : (Cond.selects "SplitTreeModel" ⟨"SplitTreeModel", "between", "(II)I"⟩ ⟨"SplitTreeModel", "between", "(II)I"⟩) ∈ lw_all := lw_g (lw_at lw_ms 22 rfl) rfl
theorem qs23 : (Cond.selects "SplitTreeModel" ⟨"SplitTreeModel", "isSplit", "(I)Z"⟩ ⟨"SplitTreeModel", "isSplit", "(I)Z"⟩) ∈ lw_all := lw_g (lw_at lw_ms 23 rfl) rfl
theorem qs24 : (Cond.selects "SplitTreeModel" ⟨"SplitTreeModel", "agreesWithAll", "(I)Z"⟩ ⟨"SplitTreeModel", "agreesWithAll", "(I)Z"⟩) ∈ lw_all := lw_g (lw_at lw_ms 24 rfl) rfl
theorem qs25 : (Cond.selects "SplitTreeModel" ⟨"SplitTreeModel", "agree", "(II)Z"⟩ ⟨"SplitTreeModel", "agree", "(II)Z"⟩) ∈ lw_all := lw_g (lw_at lw_ms 25 rfl) rfl
theorem qs26 : (Cond.selects "SplitTreeModel" ⟨"SplitTreeModel", "fits", "(II)Z"⟩ ⟨"SplitTreeModel", "fits", "(II)Z"⟩) ∈ lw_all := lw_g (lw_at lw_ms 26 rfl) rfl
theorem qs27 : (Cond.selects "SplitTreeModel" ⟨"SplitTreeModel", "level", "(III)Z"⟩ ⟨"SplitTreeModel", "level", "(III)Z"⟩) ∈ lw_all := lw_g (lw_at lw_ms 27 rfl) rfl
end
section
/-! SplitTree -/
set_option maxRecDepth 100000
def RX0 : String := "SplitTree"
def TX0 : u_T := fun k => match k with
  | 0 => ("SplitTree", "count", "I", false)
  | 1 => ("SplitTree", "between", "[B", true)
  | 2 => ("SplitTree", "known", "Z", false)
  | 3 => ("SplitTree", "found", "I", false)
  | 4 => ("SplitTree", "side", "[B", true)
  | 5 => ("SplitTree", "indices", "[I", true)
  | 6 => ("SplitTree", "fresh", "I", false)
  | 7 => ("SplitTree", "freshSide", "[B", true)
  | 8 => ("SplitTree", "freshIndex", "[I", true)
  | _ => ("SplitTree", "kept", "[B", true)
def tyX0 : Nat → FieldType := fun k => match k with
  | 0 => .int
  | 1 => .array .byte
  | 2 => .boolean
  | 3 => .int
  | 4 => .array .byte
  | 5 => .array .int
  | 6 => .int
  | 7 => .array .byte
  | 8 => .array .int
  | _ => .array .byte
abbrev wsX00 : List Cond := u_ws RX0 TX0 10
theorem nmX0 : ∀ a, a < 10 → ∀ b, b < 10 → a ≠ b → (TX0 a).2.1 ≠ (TX0 b).2.1 := by decide +kernel
theorem tyX0_ok : ∀ k, k < 10 → parseFieldDescriptor (TX0 k).2.2.1 = some (tyX0 k) := by decide +kernel
abbrev cX0_init : ByteArray := prog_1_method_1_code
def yX0_init : MethodName := ⟨RX0, "<init>", "()V"⟩
theorem dX0_init_0 : decode cX0_init 0 = .ok (.aload_n 0, 1) := by decide +kernel
theorem dX0_init_1 : decode cX0_init 1 = .ok (.invokespecial 1, 3) := by decide +kernel
theorem dX0_init_4 : decode cX0_init 4 = .ok (.aload_n 0, 1) := by decide +kernel
theorem dX0_init_5 : decode cX0_init 5 = .ok (.bipush 49, 2) := by decide +kernel
theorem dX0_init_7 : decode cX0_init 7 = .ok (.newarray .byte, 2) := by decide +kernel
theorem dX0_init_9 : decode cX0_init 9 = .ok (.putfield 7, 3) := by decide +kernel
theorem dX0_init_12 : decode cX0_init 12 = .ok (.aload_n 0, 1) := by decide +kernel
theorem dX0_init_13 : decode cX0_init 13 = .ok (.bipush 32, 2) := by decide +kernel
theorem dX0_init_15 : decode cX0_init 15 = .ok (.newarray .byte, 2) := by decide +kernel
theorem dX0_init_17 : decode cX0_init 17 = .ok (.putfield 13, 3) := by decide +kernel
theorem dX0_init_20 : decode cX0_init 20 = .ok (.aload_n 0, 1) := by decide +kernel
theorem dX0_init_21 : decode cX0_init 21 = .ok (.bipush 32, 2) := by decide +kernel
theorem dX0_init_23 : decode cX0_init 23 = .ok (.newarray .int, 2) := by decide +kernel
theorem dX0_init_25 : decode cX0_init 25 = .ok (.putfield 16, 3) := by decide +kernel
theorem dX0_init_28 : decode cX0_init 28 = .ok (.aload_n 0, 1) := by decide +kernel
theorem dX0_init_29 : decode cX0_init 29 = .ok (.bipush 32, 2) := by decide +kernel
theorem dX0_init_31 : decode cX0_init 31 = .ok (.newarray .byte, 2) := by decide +kernel
theorem dX0_init_33 : decode cX0_init 33 = .ok (.putfield 20, 3) := by decide +kernel
theorem dX0_init_36 : decode cX0_init 36 = .ok (.aload_n 0, 1) := by decide +kernel
theorem dX0_init_37 : decode cX0_init 37 = .ok (.bipush 32, 2) := by decide +kernel
theorem dX0_init_39 : decode cX0_init 39 = .ok (.newarray .int, 2) := by decide +kernel
theorem dX0_init_41 : decode cX0_init 41 = .ok (.putfield 23, 3) := by decide +kernel
theorem dX0_init_44 : decode cX0_init 44 = .ok (.aload_n 0, 1) := by decide +kernel
theorem dX0_init_45 : decode cX0_init 45 = .ok (.bipush 49, 2) := by decide +kernel
theorem dX0_init_47 : decode cX0_init 47 = .ok (.newarray .byte, 2) := by decide +kernel
theorem dX0_init_49 : decode cX0_init 49 = .ok (.putfield 26, 3) := by decide +kernel
theorem dX0_init_52 : decode cX0_init 52 = .ok (.aload_n 0, 1) := by decide +kernel
theorem dX0_init_53 : decode cX0_init 53 = .ok (.iconst 0, 1) := by decide +kernel
theorem dX0_init_54 : decode cX0_init 54 = .ok (.putfield 29, 3) := by decide +kernel
theorem dX0_init_57 : decode cX0_init 57 = .ok (.return_, 1) := by decide +kernel
abbrev cX0_point : ByteArray := prog_1_method_5_code
def yX0_point : MethodName := ⟨RX0, "point", "(I)I"⟩
theorem dX0_point_0 : decode cX0_point 0 = .ok (.iload_n 1, 1) := by decide +kernel
theorem dX0_point_1 : decode cX0_point 1 = .ok (.ifCond .lt 9, 3) := by decide +kernel
theorem dX0_point_4 : decode cX0_point 4 = .ok (.iload_n 1, 1) := by decide +kernel
theorem dX0_point_5 : decode cX0_point 5 = .ok (.bipush 60, 2) := by decide +kernel
theorem dX0_point_7 : decode cX0_point 7 = .ok (.if_icmp .le 7, 3) := by decide +kernel
theorem dX0_point_10 : decode cX0_point 10 = .ok (.sipush (-1000), 3) := by decide +kernel
theorem dX0_point_13 : decode cX0_point 13 = .ok (.ireturn, 1) := by decide +kernel
theorem dX0_point_14 : decode cX0_point 14 = .ok (.aload_n 0, 1) := by decide +kernel
theorem dX0_point_15 : decode cX0_point 15 = .ok (.getfield 29, 3) := by decide +kernel
theorem dX0_point_18 : decode cX0_point 18 = .ok (.bipush 7, 2) := by decide +kernel
theorem dX0_point_20 : decode cX0_point 20 = .ok (.if_icmp .ne 7, 3) := by decide +kernel
theorem dX0_point_23 : decode cX0_point 23 = .ok (.sipush (-1001), 3) := by decide +kernel
theorem dX0_point_26 : decode cX0_point 26 = .ok (.ireturn, 1) := by decide +kernel
theorem dX0_point_27 : decode cX0_point 27 = .ok (.aload_n 0, 1) := by decide +kernel
theorem dX0_point_28 : decode cX0_point 28 = .ok (.getfield 7, 3) := by decide +kernel
theorem dX0_point_31 : decode cX0_point 31 = .ok (.bipush 8, 2) := by decide +kernel
theorem dX0_point_33 : decode cX0_point 33 = .ok (.aload_n 0, 1) := by decide +kernel
theorem dX0_point_34 : decode cX0_point 34 = .ok (.getfield 29, 3) := by decide +kernel
theorem dX0_point_37 : decode cX0_point 37 = .ok (.imul, 1) := by decide +kernel
theorem dX0_point_38 : decode cX0_point 38 = .ok (.iconst 0, 1) := by decide +kernel
theorem dX0_point_39 : decode cX0_point 39 = .ok (.bastore, 1) := by decide +kernel
theorem dX0_point_40 : decode cX0_point 40 = .ok (.iconst 0, 1) := by decide +kernel
theorem dX0_point_41 : decode cX0_point 41 = .ok (.istore_n 2, 1) := by decide +kernel
theorem dX0_point_42 : decode cX0_point 42 = .ok (.iload_n 2, 1) := by decide +kernel
theorem dX0_point_43 : decode cX0_point 43 = .ok (.aload_n 0, 1) := by decide +kernel
theorem dX0_point_44 : decode cX0_point 44 = .ok (.getfield 29, 3) := by decide +kernel
theorem dX0_point_47 : decode cX0_point 47 = .ok (.if_icmp .ge 19, 3) := by decide +kernel
theorem dX0_point_50 : decode cX0_point 50 = .ok (.aload_n 0, 1) := by decide +kernel
theorem dX0_point_51 : decode cX0_point 51 = .ok (.iload_n 2, 1) := by decide +kernel
theorem dX0_point_52 : decode cX0_point 52 = .ok (.aload_n 0, 1) := by decide +kernel
theorem dX0_point_53 : decode cX0_point 53 = .ok (.getfield 29, 3) := by decide +kernel
theorem dX0_point_56 : decode cX0_point 56 = .ok (.iload_n 1, 1) := by decide +kernel
theorem dX0_point_57 : decode cX0_point 57 = .ok (.invokevirtual 37, 3) := by decide +kernel
theorem dX0_point_60 : decode cX0_point 60 = .ok (.iinc 2 1, 3) := by decide +kernel
theorem dX0_point_63 : decode cX0_point 63 = .ok (.goto (-21), 3) := by decide +kernel
theorem dX0_point_66 : decode cX0_point 66 = .ok (.aload_n 0, 1) := by decide +kernel
theorem dX0_point_67 : decode cX0_point 67 = .ok (.dup, 1) := by decide +kernel
theorem dX0_point_68 : decode cX0_point 68 = .ok (.getfield 29, 3) := by decide +kernel
theorem dX0_point_71 : decode cX0_point 71 = .ok (.iconst 1, 1) := by decide +kernel
theorem dX0_point_72 : decode cX0_point 72 = .ok (.iadd, 1) := by decide +kernel
theorem dX0_point_73 : decode cX0_point 73 = .ok (.putfield 29, 3) := by decide +kernel
theorem dX0_point_76 : decode cX0_point 76 = .ok (.aload_n 0, 1) := by decide +kernel
theorem dX0_point_77 : decode cX0_point 77 = .ok (.iconst 0, 1) := by decide +kernel
theorem dX0_point_78 : decode cX0_point 78 = .ok (.putfield 33, 3) := by decide +kernel
theorem dX0_point_81 : decode cX0_point 81 = .ok (.aload_n 0, 1) := by decide +kernel
theorem dX0_point_82 : decode cX0_point 82 = .ok (.getfield 29, 3) := by decide +kernel
theorem dX0_point_85 : decode cX0_point 85 = .ok (.iconst 1, 1) := by decide +kernel
theorem dX0_point_86 : decode cX0_point 86 = .ok (.isub, 1) := by decide +kernel
theorem dX0_point_87 : decode cX0_point 87 = .ok (.ireturn, 1) := by decide +kernel
abbrev cX0_put : ByteArray := prog_1_method_4_code
def yX0_put : MethodName := ⟨RX0, "put", "(III)V"⟩
theorem dX0_put_0 : decode cX0_put 0 = .ok (.aload_n 0, 1) := by decide +kernel
theorem dX0_put_1 : decode cX0_put 1 = .ok (.getfield 7, 3) := by decide +kernel
theorem dX0_put_4 : decode cX0_put 4 = .ok (.bipush 7, 2) := by decide +kernel
theorem dX0_put_6 : decode cX0_put 6 = .ok (.iload_n 1, 1) := by decide +kernel
theorem dX0_put_7 : decode cX0_put 7 = .ok (.imul, 1) := by decide +kernel
theorem dX0_put_8 : decode cX0_put 8 = .ok (.iload_n 2, 1) := by decide +kernel
theorem dX0_put_9 : decode cX0_put 9 = .ok (.iadd, 1) := by decide +kernel
theorem dX0_put_10 : decode cX0_put 10 = .ok (.iload_n 3, 1) := by decide +kernel
theorem dX0_put_11 : decode cX0_put 11 = .ok (.i2b, 1) := by decide +kernel
theorem dX0_put_12 : decode cX0_put 12 = .ok (.bastore, 1) := by decide +kernel
theorem dX0_put_13 : decode cX0_put 13 = .ok (.aload_n 0, 1) := by decide +kernel
theorem dX0_put_14 : decode cX0_put 14 = .ok (.getfield 7, 3) := by decide +kernel
theorem dX0_put_17 : decode cX0_put 17 = .ok (.bipush 7, 2) := by decide +kernel
theorem dX0_put_19 : decode cX0_put 19 = .ok (.iload_n 2, 1) := by decide +kernel
theorem dX0_put_20 : decode cX0_put 20 = .ok (.imul, 1) := by decide +kernel
theorem dX0_put_21 : decode cX0_put 21 = .ok (.iload_n 1, 1) := by decide +kernel
theorem dX0_put_22 : decode cX0_put 22 = .ok (.iadd, 1) := by decide +kernel
theorem dX0_put_23 : decode cX0_put 23 = .ok (.iload_n 3, 1) := by decide +kernel
theorem dX0_put_24 : decode cX0_put 24 = .ok (.i2b, 1) := by decide +kernel
theorem dX0_put_25 : decode cX0_put 25 = .ok (.bastore, 1) := by decide +kernel
theorem dX0_put_26 : decode cX0_put 26 = .ok (.aload_n 0, 1) := by decide +kernel
theorem dX0_put_27 : decode cX0_put 27 = .ok (.iconst 0, 1) := by decide +kernel
theorem dX0_put_28 : decode cX0_put 28 = .ok (.putfield 33, 3) := by decide +kernel
theorem dX0_put_31 : decode cX0_put 31 = .ok (.return_, 1) := by decide +kernel
abbrev cX0_drop : ByteArray := prog_1_method_6_code
def yX0_drop : MethodName := ⟨RX0, "drop", "()I"⟩
theorem dX0_drop_0 : decode cX0_drop 0 = .ok (.aload_n 0, 1) := by decide +kernel
theorem dX0_drop_1 : decode cX0_drop 1 = .ok (.getfield 29, 3) := by decide +kernel
theorem dX0_drop_4 : decode cX0_drop 4 = .ok (.ifCond .ne 7, 3) := by decide +kernel
theorem dX0_drop_7 : decode cX0_drop 7 = .ok (.sipush (-1002), 3) := by decide +kernel
theorem dX0_drop_10 : decode cX0_drop 10 = .ok (.ireturn, 1) := by decide +kernel
theorem dX0_drop_11 : decode cX0_drop 11 = .ok (.aload_n 0, 1) := by decide +kernel
theorem dX0_drop_12 : decode cX0_drop 12 = .ok (.dup, 1) := by decide +kernel
theorem dX0_drop_13 : decode cX0_drop 13 = .ok (.getfield 29, 3) := by decide +kernel
theorem dX0_drop_16 : decode cX0_drop 16 = .ok (.iconst 1, 1) := by decide +kernel
theorem dX0_drop_17 : decode cX0_drop 17 = .ok (.isub, 1) := by decide +kernel
theorem dX0_drop_18 : decode cX0_drop 18 = .ok (.putfield 29, 3) := by decide +kernel
theorem dX0_drop_21 : decode cX0_drop 21 = .ok (.aload_n 0, 1) := by decide +kernel
theorem dX0_drop_22 : decode cX0_drop 22 = .ok (.iconst 0, 1) := by decide +kernel
theorem dX0_drop_23 : decode cX0_drop 23 = .ok (.putfield 33, 3) := by decide +kernel
theorem dX0_drop_26 : decode cX0_drop 26 = .ok (.aload_n 0, 1) := by decide +kernel
theorem dX0_drop_27 : decode cX0_drop 27 = .ok (.getfield 29, 3) := by decide +kernel
theorem dX0_drop_30 : decode cX0_drop 30 = .ok (.ireturn, 1) := by decide +kernel
abbrev cX0_set : ByteArray := prog_1_method_7_code
def yX0_set : MethodName := ⟨RX0, "set", "(III)I"⟩
theorem dX0_set_0 : decode cX0_set 0 = .ok (.aload_n 0, 1) := by decide +kernel
theorem dX0_set_1 : decode cX0_set 1 = .ok (.iload_n 1, 1) := by decide +kernel
theorem dX0_set_2 : decode cX0_set 2 = .ok (.invokevirtual 41, 3) := by decide +kernel
theorem dX0_set_5 : decode cX0_set 5 = .ok (.ifCond .ne 26, 3) := by decide +kernel
theorem dX0_set_8 : decode cX0_set 8 = .ok (.aload_n 0, 1) := by decide +kernel
theorem dX0_set_9 : decode cX0_set 9 = .ok (.iload_n 2, 1) := by decide +kernel
theorem dX0_set_10 : decode cX0_set 10 = .ok (.invokevirtual 41, 3) := by decide +kernel
theorem dX0_set_13 : decode cX0_set 13 = .ok (.ifCond .ne 18, 3) := by decide +kernel
theorem dX0_set_16 : decode cX0_set 16 = .ok (.iload_n 1, 1) := by decide +kernel
theorem dX0_set_17 : decode cX0_set 17 = .ok (.iload_n 2, 1) := by decide +kernel
theorem dX0_set_18 : decode cX0_set 18 = .ok (.if_icmp .eq 13, 3) := by decide +kernel
theorem dX0_set_21 : decode cX0_set 21 = .ok (.iload_n 3, 1) := by decide +kernel
theorem dX0_set_22 : decode cX0_set 22 = .ok (.ifCond .lt 9, 3) := by decide +kernel
theorem dX0_set_25 : decode cX0_set 25 = .ok (.iload_n 3, 1) := by decide +kernel
theorem dX0_set_26 : decode cX0_set 26 = .ok (.bipush 60, 2) := by decide +kernel
theorem dX0_set_28 : decode cX0_set 28 = .ok (.if_icmp .le 7, 3) := by decide +kernel
theorem dX0_set_31 : decode cX0_set 31 = .ok (.sipush (-1000), 3) := by decide +kernel
theorem dX0_set_34 : decode cX0_set 34 = .ok (.ireturn, 1) := by decide +kernel
theorem dX0_set_35 : decode cX0_set 35 = .ok (.aload_n 0, 1) := by decide +kernel
theorem dX0_set_36 : decode cX0_set 36 = .ok (.iload_n 1, 1) := by decide +kernel
theorem dX0_set_37 : decode cX0_set 37 = .ok (.iload_n 2, 1) := by decide +kernel
theorem dX0_set_38 : decode cX0_set 38 = .ok (.invokevirtual 45, 3) := by decide +kernel
theorem dX0_set_41 : decode cX0_set 41 = .ok (.istore 4, 2) := by decide +kernel
theorem dX0_set_43 : decode cX0_set 43 = .ok (.aload_n 0, 1) := by decide +kernel
theorem dX0_set_44 : decode cX0_set 44 = .ok (.iload_n 1, 1) := by decide +kernel
theorem dX0_set_45 : decode cX0_set 45 = .ok (.iload_n 2, 1) := by decide +kernel
theorem dX0_set_46 : decode cX0_set 46 = .ok (.iload_n 3, 1) := by decide +kernel
theorem dX0_set_47 : decode cX0_set 47 = .ok (.invokevirtual 37, 3) := by decide +kernel
theorem dX0_set_50 : decode cX0_set 50 = .ok (.iload 4, 2) := by decide +kernel
theorem dX0_set_52 : decode cX0_set 52 = .ok (.ireturn, 1) := by decide +kernel
abbrev cX0_missing : ByteArray := prog_1_method_2_code
def yX0_missing : MethodName := ⟨RX0, "missing", "(I)Z"⟩
theorem dX0_missing_0 : decode cX0_missing 0 = .ok (.iload_n 1, 1) := by decide +kernel
theorem dX0_missing_1 : decode cX0_missing 1 = .ok (.ifCond .lt 11, 3) := by decide +kernel
theorem dX0_missing_4 : decode cX0_missing 4 = .ok (.iload_n 1, 1) := by decide +kernel
theorem dX0_missing_5 : decode cX0_missing 5 = .ok (.aload_n 0, 1) := by decide +kernel
theorem dX0_missing_6 : decode cX0_missing 6 = .ok (.getfield 29, 3) := by decide +kernel
theorem dX0_missing_9 : decode cX0_missing 9 = .ok (.if_icmp .lt 7, 3) := by decide +kernel
theorem dX0_missing_12 : decode cX0_missing 12 = .ok (.iconst 1, 1) := by decide +kernel
theorem dX0_missing_13 : decode cX0_missing 13 = .ok (.goto 4, 3) := by decide +kernel
theorem dX0_missing_16 : decode cX0_missing 16 = .ok (.iconst 0, 1) := by decide +kernel
theorem dX0_missing_17 : decode cX0_missing 17 = .ok (.ireturn, 1) := by decide +kernel
abbrev cX0_get : ByteArray := prog_1_method_3_code
def yX0_get : MethodName := ⟨RX0, "get", "(II)I"⟩
theorem dX0_get_0 : decode cX0_get 0 = .ok (.aload_n 0, 1) := by decide +kernel
theorem dX0_get_1 : decode cX0_get 1 = .ok (.getfield 7, 3) := by decide +kernel
theorem dX0_get_4 : decode cX0_get 4 = .ok (.bipush 7, 2) := by decide +kernel
theorem dX0_get_6 : decode cX0_get 6 = .ok (.iload_n 1, 1) := by decide +kernel
theorem dX0_get_7 : decode cX0_get 7 = .ok (.imul, 1) := by decide +kernel
theorem dX0_get_8 : decode cX0_get 8 = .ok (.iload_n 2, 1) := by decide +kernel
theorem dX0_get_9 : decode cX0_get 9 = .ok (.iadd, 1) := by decide +kernel
theorem dX0_get_10 : decode cX0_get 10 = .ok (.baload, 1) := by decide +kernel
theorem dX0_get_11 : decode cX0_get 11 = .ok (.ireturn, 1) := by decide +kernel
abbrev cX0_move : ByteArray := prog_1_method_8_code
def yX0_move : MethodName := ⟨RX0, "move", "(II)I"⟩
theorem dX0_move_0 : decode cX0_move 0 = .ok (.iload_n 2, 1) := by decide +kernel
theorem dX0_move_1 : decode cX0_move 1 = .ok (.bipush (-60), 2) := by decide +kernel
theorem dX0_move_3 : decode cX0_move 3 = .ok (.if_icmp .lt 9, 3) := by decide +kernel
theorem dX0_move_6 : decode cX0_move 6 = .ok (.iload_n 2, 1) := by decide +kernel
theorem dX0_move_7 : decode cX0_move 7 = .ok (.bipush 60, 2) := by decide +kernel
theorem dX0_move_9 : decode cX0_move 9 = .ok (.if_icmp .le 7, 3) := by decide +kernel
theorem dX0_move_12 : decode cX0_move 12 = .ok (.sipush (-1000), 3) := by decide +kernel
theorem dX0_move_15 : decode cX0_move 15 = .ok (.ireturn, 1) := by decide +kernel
theorem dX0_move_16 : decode cX0_move 16 = .ok (.iconst 0, 1) := by decide +kernel
theorem dX0_move_17 : decode cX0_move 17 = .ok (.istore_n 3, 1) := by decide +kernel
theorem dX0_move_18 : decode cX0_move 18 = .ok (.iconst 0, 1) := by decide +kernel
theorem dX0_move_19 : decode cX0_move 19 = .ok (.istore 4, 2) := by decide +kernel
theorem dX0_move_21 : decode cX0_move 21 = .ok (.iload 4, 2) := by decide +kernel
theorem dX0_move_23 : decode cX0_move 23 = .ok (.aload_n 0, 1) := by decide +kernel
theorem dX0_move_24 : decode cX0_move 24 = .ok (.getfield 29, 3) := by decide +kernel
theorem dX0_move_27 : decode cX0_move 27 = .ok (.aload_n 0, 1) := by decide +kernel
theorem dX0_move_28 : decode cX0_move 28 = .ok (.getfield 29, 3) := by decide +kernel
theorem dX0_move_31 : decode cX0_move 31 = .ok (.imul, 1) := by decide +kernel
theorem dX0_move_32 : decode cX0_move 32 = .ok (.if_icmp .ge 92, 3) := by decide +kernel
theorem dX0_move_35 : decode cX0_move 35 = .ok (.iload 4, 2) := by decide +kernel
theorem dX0_move_37 : decode cX0_move 37 = .ok (.aload_n 0, 1) := by decide +kernel
theorem dX0_move_38 : decode cX0_move 38 = .ok (.getfield 29, 3) := by decide +kernel
theorem dX0_move_41 : decode cX0_move 41 = .ok (.idiv, 1) := by decide +kernel
theorem dX0_move_42 : decode cX0_move 42 = .ok (.istore 5, 2) := by decide +kernel
theorem dX0_move_44 : decode cX0_move 44 = .ok (.iload 4, 2) := by decide +kernel
theorem dX0_move_46 : decode cX0_move 46 = .ok (.aload_n 0, 1) := by decide +kernel
theorem dX0_move_47 : decode cX0_move 47 = .ok (.getfield 29, 3) := by decide +kernel
theorem dX0_move_50 : decode cX0_move 50 = .ok (.irem, 1) := by decide +kernel
theorem dX0_move_51 : decode cX0_move 51 = .ok (.istore 6, 2) := by decide +kernel
theorem dX0_move_53 : decode cX0_move 53 = .ok (.aload_n 0, 1) := by decide +kernel
theorem dX0_move_54 : decode cX0_move 54 = .ok (.iload 5, 2) := by decide +kernel
theorem dX0_move_56 : decode cX0_move 56 = .ok (.iload 6, 2) := by decide +kernel
theorem dX0_move_58 : decode cX0_move 58 = .ok (.invokevirtual 45, 3) := by decide +kernel
theorem dX0_move_61 : decode cX0_move 61 = .ok (.iload_n 2, 1) := by decide +kernel
theorem dX0_move_62 : decode cX0_move 62 = .ok (.iadd, 1) := by decide +kernel
theorem dX0_move_63 : decode cX0_move 63 = .ok (.istore 7, 2) := by decide +kernel
theorem dX0_move_65 : decode cX0_move 65 = .ok (.iload_n 1, 1) := by decide +kernel
theorem dX0_move_66 : decode cX0_move 66 = .ok (.iload 5, 2) := by decide +kernel
theorem dX0_move_68 : decode cX0_move 68 = .ok (.ishr, 1) := by decide +kernel
theorem dX0_move_69 : decode cX0_move 69 = .ok (.iconst 1, 1) := by decide +kernel
theorem dX0_move_70 : decode cX0_move 70 = .ok (.iand, 1) := by decide +kernel
theorem dX0_move_71 : decode cX0_move 71 = .ok (.iconst 1, 1) := by decide +kernel
theorem dX0_move_72 : decode cX0_move 72 = .ok (.if_icmp .ne 46, 3) := by decide +kernel
theorem dX0_move_75 : decode cX0_move 75 = .ok (.iload_n 1, 1) := by decide +kernel
theorem dX0_move_76 : decode cX0_move 76 = .ok (.iload 6, 2) := by decide +kernel
theorem dX0_move_78 : decode cX0_move 78 = .ok (.ishr, 1) := by decide +kernel
theorem dX0_move_79 : decode cX0_move 79 = .ok (.iconst 1, 1) := by decide +kernel
theorem dX0_move_80 : decode cX0_move 80 = .ok (.iand, 1) := by decide +kernel
theorem dX0_move_81 : decode cX0_move 81 = .ok (.ifCond .ne 37, 3) := by decide +kernel
theorem dX0_move_84 : decode cX0_move 84 = .ok (.iload 7, 2) := by decide +kernel
theorem dX0_move_86 : decode cX0_move 86 = .ok (.ifCond .lt 32, 3) := by decide +kernel
theorem dX0_move_89 : decode cX0_move 89 = .ok (.iload 7, 2) := by decide +kernel
theorem dX0_move_91 : decode cX0_move 91 = .ok (.bipush 60, 2) := by decide +kernel
theorem dX0_move_93 : decode cX0_move 93 = .ok (.if_icmp .gt 25, 3) := by decide +kernel
theorem dX0_move_96 : decode cX0_move 96 = .ok (.aload_n 0, 1) := by decide +kernel
theorem dX0_move_97 : decode cX0_move 97 = .ok (.iload 5, 2) := by decide +kernel
theorem dX0_move_99 : decode cX0_move 99 = .ok (.iload 6, 2) := by decide +kernel
theorem dX0_move_101 : decode cX0_move 101 = .ok (.iload 7, 2) := by decide +kernel
theorem dX0_move_103 : decode cX0_move 103 = .ok (.invokevirtual 37, 3) := by decide +kernel
theorem dX0_move_106 : decode cX0_move 106 = .ok (.iload_n 2, 1) := by decide +kernel
theorem dX0_move_107 : decode cX0_move 107 = .ok (.ifCond .eq 9, 3) := by decide +kernel
theorem dX0_move_110 : decode cX0_move 110 = .ok (.iload_n 3, 1) := by decide +kernel
theorem dX0_move_111 : decode cX0_move 111 = .ok (.iconst 1, 1) := by decide +kernel
theorem dX0_move_112 : decode cX0_move 112 = .ok (.iadd, 1) := by decide +kernel
theorem dX0_move_113 : decode cX0_move 113 = .ok (.goto 4, 3) := by decide +kernel
theorem dX0_move_116 : decode cX0_move 116 = .ok (.iload_n 3, 1) := by decide +kernel
theorem dX0_move_117 : decode cX0_move 117 = .ok (.istore_n 3, 1) := by decide +kernel
theorem dX0_move_118 : decode cX0_move 118 = .ok (.iinc 4 1, 3) := by decide +kernel
theorem dX0_move_121 : decode cX0_move 121 = .ok (.goto (-100), 3) := by decide +kernel
theorem dX0_move_124 : decode cX0_move 124 = .ok (.iload_n 3, 1) := by decide +kernel
theorem dX0_move_125 : decode cX0_move 125 = .ok (.ireturn, 1) := by decide +kernel
abbrev cX0_smooth : ByteArray := prog_1_method_9_code
def yX0_smooth : MethodName := ⟨RX0, "smooth", "()I"⟩
theorem dX0_smooth_0 : decode cX0_smooth 0 = .ok (.aload_n 0, 1) := by decide +kernel
theorem dX0_smooth_1 : decode cX0_smooth 1 = .ok (.invokevirtual 49, 3) := by decide +kernel
theorem dX0_smooth_4 : decode cX0_smooth 4 = .ok (.iconst 0, 1) := by decide +kernel
theorem dX0_smooth_5 : decode cX0_smooth 5 = .ok (.istore_n 1, 1) := by decide +kernel
theorem dX0_smooth_6 : decode cX0_smooth 6 = .ok (.iload_n 1, 1) := by decide +kernel
theorem dX0_smooth_7 : decode cX0_smooth 7 = .ok (.aload_n 0, 1) := by decide +kernel
theorem dX0_smooth_8 : decode cX0_smooth 8 = .ok (.getfield 29, 3) := by decide +kernel
theorem dX0_smooth_11 : decode cX0_smooth 11 = .ok (.aload_n 0, 1) := by decide +kernel
theorem dX0_smooth_12 : decode cX0_smooth 12 = .ok (.getfield 29, 3) := by decide +kernel
theorem dX0_smooth_15 : decode cX0_smooth 15 = .ok (.imul, 1) := by decide +kernel
theorem dX0_smooth_16 : decode cX0_smooth 16 = .ok (.if_icmp .ge 47, 3) := by decide +kernel
theorem dX0_smooth_19 : decode cX0_smooth 19 = .ok (.aload_n 0, 1) := by decide +kernel
theorem dX0_smooth_20 : decode cX0_smooth 20 = .ok (.iload_n 1, 1) := by decide +kernel
theorem dX0_smooth_21 : decode cX0_smooth 21 = .ok (.aload_n 0, 1) := by decide +kernel
theorem dX0_smooth_22 : decode cX0_smooth 22 = .ok (.getfield 29, 3) := by decide +kernel
theorem dX0_smooth_25 : decode cX0_smooth 25 = .ok (.idiv, 1) := by decide +kernel
theorem dX0_smooth_26 : decode cX0_smooth 26 = .ok (.iload_n 1, 1) := by decide +kernel
theorem dX0_smooth_27 : decode cX0_smooth 27 = .ok (.aload_n 0, 1) := by decide +kernel
theorem dX0_smooth_28 : decode cX0_smooth 28 = .ok (.getfield 29, 3) := by decide +kernel
theorem dX0_smooth_31 : decode cX0_smooth 31 = .ok (.irem, 1) := by decide +kernel
theorem dX0_smooth_32 : decode cX0_smooth 32 = .ok (.invokevirtual 52, 3) := by decide +kernel
theorem dX0_smooth_35 : decode cX0_smooth 35 = .ok (.iconst 1, 1) := by decide +kernel
theorem dX0_smooth_36 : decode cX0_smooth 36 = .ok (.ishr, 1) := by decide +kernel
theorem dX0_smooth_37 : decode cX0_smooth 37 = .ok (.istore_n 2, 1) := by decide +kernel
theorem dX0_smooth_38 : decode cX0_smooth 38 = .ok (.aload_n 0, 1) := by decide +kernel
theorem dX0_smooth_39 : decode cX0_smooth 39 = .ok (.getfield 26, 3) := by decide +kernel
theorem dX0_smooth_42 : decode cX0_smooth 42 = .ok (.iload_n 1, 1) := by decide +kernel
theorem dX0_smooth_43 : decode cX0_smooth 43 = .ok (.iload_n 2, 1) := by decide +kernel
theorem dX0_smooth_44 : decode cX0_smooth 44 = .ok (.bipush 60, 2) := by decide +kernel
theorem dX0_smooth_46 : decode cX0_smooth 46 = .ok (.if_icmp .le 8, 3) := by decide +kernel
theorem dX0_smooth_49 : decode cX0_smooth 49 = .ok (.bipush 60, 2) := by decide +kernel
theorem dX0_smooth_51 : decode cX0_smooth 51 = .ok (.goto 4, 3) := by decide +kernel
theorem dX0_smooth_54 : decode cX0_smooth 54 = .ok (.iload_n 2, 1) := by decide +kernel
theorem dX0_smooth_55 : decode cX0_smooth 55 = .ok (.i2b, 1) := by decide +kernel
theorem dX0_smooth_56 : decode cX0_smooth 56 = .ok (.bastore, 1) := by decide +kernel
theorem dX0_smooth_57 : decode cX0_smooth 57 = .ok (.iinc 1 1, 3) := by decide +kernel
theorem dX0_smooth_60 : decode cX0_smooth 60 = .ok (.goto (-54), 3) := by decide +kernel
theorem dX0_smooth_63 : decode cX0_smooth 63 = .ok (.iconst 0, 1) := by decide +kernel
theorem dX0_smooth_64 : decode cX0_smooth 64 = .ok (.istore_n 1, 1) := by decide +kernel
theorem dX0_smooth_65 : decode cX0_smooth 65 = .ok (.iconst 0, 1) := by decide +kernel
theorem dX0_smooth_66 : decode cX0_smooth 66 = .ok (.istore_n 2, 1) := by decide +kernel
theorem dX0_smooth_67 : decode cX0_smooth 67 = .ok (.iload_n 2, 1) := by decide +kernel
theorem dX0_smooth_68 : decode cX0_smooth 68 = .ok (.aload_n 0, 1) := by decide +kernel
theorem dX0_smooth_69 : decode cX0_smooth 69 = .ok (.getfield 29, 3) := by decide +kernel
theorem dX0_smooth_72 : decode cX0_smooth 72 = .ok (.aload_n 0, 1) := by decide +kernel
theorem dX0_smooth_73 : decode cX0_smooth 73 = .ok (.getfield 29, 3) := by decide +kernel
theorem dX0_smooth_76 : decode cX0_smooth 76 = .ok (.imul, 1) := by decide +kernel
theorem dX0_smooth_77 : decode cX0_smooth 77 = .ok (.if_icmp .ge 62, 3) := by decide +kernel
theorem dX0_smooth_80 : decode cX0_smooth 80 = .ok (.iload_n 2, 1) := by decide +kernel
theorem dX0_smooth_81 : decode cX0_smooth 81 = .ok (.aload_n 0, 1) := by decide +kernel
theorem dX0_smooth_82 : decode cX0_smooth 82 = .ok (.getfield 29, 3) := by decide +kernel
theorem dX0_smooth_85 : decode cX0_smooth 85 = .ok (.idiv, 1) := by decide +kernel
theorem dX0_smooth_86 : decode cX0_smooth 86 = .ok (.istore_n 3, 1) := by decide +kernel
theorem dX0_smooth_87 : decode cX0_smooth 87 = .ok (.iload_n 2, 1) := by decide +kernel
theorem dX0_smooth_88 : decode cX0_smooth 88 = .ok (.aload_n 0, 1) := by decide +kernel
theorem dX0_smooth_89 : decode cX0_smooth 89 = .ok (.getfield 29, 3) := by decide +kernel
theorem dX0_smooth_92 : decode cX0_smooth 92 = .ok (.irem, 1) := by decide +kernel
theorem dX0_smooth_93 : decode cX0_smooth 93 = .ok (.istore 4, 2) := by decide +kernel
theorem dX0_smooth_95 : decode cX0_smooth 95 = .ok (.iload_n 3, 1) := by decide +kernel
theorem dX0_smooth_96 : decode cX0_smooth 96 = .ok (.iload 4, 2) := by decide +kernel
theorem dX0_smooth_98 : decode cX0_smooth 98 = .ok (.if_icmp .ge 35, 3) := by decide +kernel
theorem dX0_smooth_101 : decode cX0_smooth 101 = .ok (.aload_n 0, 1) := by decide +kernel
theorem dX0_smooth_102 : decode cX0_smooth 102 = .ok (.getfield 26, 3) := by decide +kernel
theorem dX0_smooth_105 : decode cX0_smooth 105 = .ok (.iload_n 2, 1) := by decide +kernel
theorem dX0_smooth_106 : decode cX0_smooth 106 = .ok (.baload, 1) := by decide +kernel
theorem dX0_smooth_107 : decode cX0_smooth 107 = .ok (.aload_n 0, 1) := by decide +kernel
theorem dX0_smooth_108 : decode cX0_smooth 108 = .ok (.iload_n 3, 1) := by decide +kernel
theorem dX0_smooth_109 : decode cX0_smooth 109 = .ok (.iload 4, 2) := by decide +kernel
theorem dX0_smooth_111 : decode cX0_smooth 111 = .ok (.invokevirtual 45, 3) := by decide +kernel
theorem dX0_smooth_114 : decode cX0_smooth 114 = .ok (.if_icmp .eq 19, 3) := by decide +kernel
theorem dX0_smooth_117 : decode cX0_smooth 117 = .ok (.aload_n 0, 1) := by decide +kernel
theorem dX0_smooth_118 : decode cX0_smooth 118 = .ok (.iload_n 3, 1) := by decide +kernel
theorem dX0_smooth_119 : decode cX0_smooth 119 = .ok (.iload 4, 2) := by decide +kernel
theorem dX0_smooth_121 : decode cX0_smooth 121 = .ok (.aload_n 0, 1) := by decide +kernel
theorem dX0_smooth_122 : decode cX0_smooth 122 = .ok (.getfield 26, 3) := by decide +kernel
theorem dX0_smooth_125 : decode cX0_smooth 125 = .ok (.iload_n 2, 1) := by decide +kernel
theorem dX0_smooth_126 : decode cX0_smooth 126 = .ok (.baload, 1) := by decide +kernel
theorem dX0_smooth_127 : decode cX0_smooth 127 = .ok (.invokevirtual 37, 3) := by decide +kernel
theorem dX0_smooth_130 : decode cX0_smooth 130 = .ok (.iinc 1 1, 3) := by decide +kernel
theorem dX0_smooth_133 : decode cX0_smooth 133 = .ok (.iinc 2 1, 3) := by decide +kernel
theorem dX0_smooth_136 : decode cX0_smooth 136 = .ok (.goto (-69), 3) := by decide +kernel
theorem dX0_smooth_139 : decode cX0_smooth 139 = .ok (.iload_n 1, 1) := by decide +kernel
theorem dX0_smooth_140 : decode cX0_smooth 140 = .ok (.ireturn, 1) := by decide +kernel
abbrev cX0_find : ByteArray := prog_1_method_17_code
def yX0_find : MethodName := ⟨RX0, "find", "()V"⟩
theorem dX0_find_0 : decode cX0_find 0 = .ok (.aload_n 0, 1) := by decide +kernel
theorem dX0_find_1 : decode cX0_find 1 = .ok (.getfield 33, 3) := by decide +kernel
theorem dX0_find_4 : decode cX0_find 4 = .ok (.ifCond .eq 4, 3) := by decide +kernel
theorem dX0_find_7 : decode cX0_find 7 = .ok (.return_, 1) := by decide +kernel
theorem dX0_find_8 : decode cX0_find 8 = .ok (.aload_n 0, 1) := by decide +kernel
theorem dX0_find_9 : decode cX0_find 9 = .ok (.iconst 1, 1) := by decide +kernel
theorem dX0_find_10 : decode cX0_find 10 = .ok (.putfield 33, 3) := by decide +kernel
theorem dX0_find_13 : decode cX0_find 13 = .ok (.aload_n 0, 1) := by decide +kernel
theorem dX0_find_14 : decode cX0_find 14 = .ok (.iconst 0, 1) := by decide +kernel
theorem dX0_find_15 : decode cX0_find 15 = .ok (.putfield 65, 3) := by decide +kernel
theorem dX0_find_18 : decode cX0_find 18 = .ok (.iconst 1, 1) := by decide +kernel
theorem dX0_find_19 : decode cX0_find 19 = .ok (.istore_n 1, 1) := by decide +kernel
theorem dX0_find_20 : decode cX0_find 20 = .ok (.iload_n 1, 1) := by decide +kernel
theorem dX0_find_21 : decode cX0_find 21 = .ok (.aload_n 0, 1) := by decide +kernel
theorem dX0_find_22 : decode cX0_find 22 = .ok (.getfield 29, 3) := by decide +kernel
theorem dX0_find_25 : decode cX0_find 25 = .ok (.if_icmp .ge 14, 3) := by decide +kernel
theorem dX0_find_28 : decode cX0_find 28 = .ok (.aload_n 0, 1) := by decide +kernel
theorem dX0_find_29 : decode cX0_find 29 = .ok (.iload_n 1, 1) := by decide +kernel
theorem dX0_find_30 : decode cX0_find 30 = .ok (.invokevirtual 75, 3) := by decide +kernel
theorem dX0_find_33 : decode cX0_find 33 = .ok (.iinc 1 1, 3) := by decide +kernel
theorem dX0_find_36 : decode cX0_find 36 = .ok (.goto (-16), 3) := by decide +kernel
theorem dX0_find_39 : decode cX0_find 39 = .ok (.return_, 1) := by decide +kernel
abbrev cX0_addPoint : ByteArray := prog_1_method_16_code
def yX0_addPoint : MethodName := ⟨RX0, "addPoint", "(I)V"⟩
theorem dX0_addPoint_0 : decode cX0_addPoint 0 = .ok (.aload_n 0, 1) := by decide +kernel
theorem dX0_addPoint_1 : decode cX0_addPoint 1 = .ok (.iconst 0, 1) := by decide +kernel
theorem dX0_addPoint_2 : decode cX0_addPoint 2 = .ok (.putfield 62, 3) := by decide +kernel
theorem dX0_addPoint_5 : decode cX0_addPoint 5 = .ok (.aload_n 0, 1) := by decide +kernel
theorem dX0_addPoint_6 : decode cX0_addPoint 6 = .ok (.iconst 1, 1) := by decide +kernel
theorem dX0_addPoint_7 : decode cX0_addPoint 7 = .ok (.iload_n 1, 1) := by decide +kernel
theorem dX0_addPoint_8 : decode cX0_addPoint 8 = .ok (.ishl, 1) := by decide +kernel
theorem dX0_addPoint_9 : decode cX0_addPoint 9 = .ok (.iconst 1, 1) := by decide +kernel
theorem dX0_addPoint_10 : decode cX0_addPoint 10 = .ok (.isub, 1) := by decide +kernel
theorem dX0_addPoint_11 : decode cX0_addPoint 11 = .ok (.iload_n 1, 1) := by decide +kernel
theorem dX0_addPoint_12 : decode cX0_addPoint 12 = .ok (.iconst 1, 1) := by decide +kernel
theorem dX0_addPoint_13 : decode cX0_addPoint 13 = .ok (.iadd, 1) := by decide +kernel
theorem dX0_addPoint_14 : decode cX0_addPoint 14 = .ok (.invokevirtual 68, 3) := by decide +kernel
theorem dX0_addPoint_17 : decode cX0_addPoint 17 = .ok (.iconst 0, 1) := by decide +kernel
theorem dX0_addPoint_18 : decode cX0_addPoint 18 = .ok (.istore_n 2, 1) := by decide +kernel
theorem dX0_addPoint_19 : decode cX0_addPoint 19 = .ok (.iload_n 2, 1) := by decide +kernel
theorem dX0_addPoint_20 : decode cX0_addPoint 20 = .ok (.aload_n 0, 1) := by decide +kernel
theorem dX0_addPoint_21 : decode cX0_addPoint 21 = .ok (.getfield 65, 3) := by decide +kernel
theorem dX0_addPoint_24 : decode cX0_addPoint 24 = .ok (.if_icmp .ge 39, 3) := by decide +kernel
theorem dX0_addPoint_27 : decode cX0_addPoint 27 = .ok (.aload_n 0, 1) := by decide +kernel
theorem dX0_addPoint_28 : decode cX0_addPoint 28 = .ok (.aload_n 0, 1) := by decide +kernel
theorem dX0_addPoint_29 : decode cX0_addPoint 29 = .ok (.getfield 13, 3) := by decide +kernel
theorem dX0_addPoint_32 : decode cX0_addPoint 32 = .ok (.iload_n 2, 1) := by decide +kernel
theorem dX0_addPoint_33 : decode cX0_addPoint 33 = .ok (.baload, 1) := by decide +kernel
theorem dX0_addPoint_34 : decode cX0_addPoint 34 = .ok (.iload_n 1, 1) := by decide +kernel
theorem dX0_addPoint_35 : decode cX0_addPoint 35 = .ok (.iconst 1, 1) := by decide +kernel
theorem dX0_addPoint_36 : decode cX0_addPoint 36 = .ok (.iadd, 1) := by decide +kernel
theorem dX0_addPoint_37 : decode cX0_addPoint 37 = .ok (.invokevirtual 68, 3) := by decide +kernel
theorem dX0_addPoint_40 : decode cX0_addPoint 40 = .ok (.aload_n 0, 1) := by decide +kernel
theorem dX0_addPoint_41 : decode cX0_addPoint 41 = .ok (.aload_n 0, 1) := by decide +kernel
theorem dX0_addPoint_42 : decode cX0_addPoint 42 = .ok (.getfield 13, 3) := by decide +kernel
theorem dX0_addPoint_45 : decode cX0_addPoint 45 = .ok (.iload_n 2, 1) := by decide +kernel
theorem dX0_addPoint_46 : decode cX0_addPoint 46 = .ok (.baload, 1) := by decide +kernel
theorem dX0_addPoint_47 : decode cX0_addPoint 47 = .ok (.iconst 1, 1) := by decide +kernel
theorem dX0_addPoint_48 : decode cX0_addPoint 48 = .ok (.iload_n 1, 1) := by decide +kernel
theorem dX0_addPoint_49 : decode cX0_addPoint 49 = .ok (.ishl, 1) := by decide +kernel
theorem dX0_addPoint_50 : decode cX0_addPoint 50 = .ok (.ior, 1) := by decide +kernel
theorem dX0_addPoint_51 : decode cX0_addPoint 51 = .ok (.iload_n 1, 1) := by decide +kernel
theorem dX0_addPoint_52 : decode cX0_addPoint 52 = .ok (.iconst 1, 1) := by decide +kernel
theorem dX0_addPoint_53 : decode cX0_addPoint 53 = .ok (.iadd, 1) := by decide +kernel
theorem dX0_addPoint_54 : decode cX0_addPoint 54 = .ok (.invokevirtual 68, 3) := by decide +kernel
theorem dX0_addPoint_57 : decode cX0_addPoint 57 = .ok (.iinc 2 1, 3) := by decide +kernel
theorem dX0_addPoint_60 : decode cX0_addPoint 60 = .ok (.goto (-41), 3) := by decide +kernel
theorem dX0_addPoint_63 : decode cX0_addPoint 63 = .ok (.aload_n 0, 1) := by decide +kernel
theorem dX0_addPoint_64 : decode cX0_addPoint 64 = .ok (.invokevirtual 72, 3) := by decide +kernel
theorem dX0_addPoint_67 : decode cX0_addPoint 67 = .ok (.return_, 1) := by decide +kernel
abbrev cX0_tryEdge : ByteArray := prog_1_method_14_code
def yX0_tryEdge : MethodName := ⟨RX0, "tryEdge", "(II)V"⟩
theorem dX0_tryEdge_0 : decode cX0_tryEdge 0 = .ok (.iload_n 1, 1) := by decide +kernel
end
section
set_option maxRecDepth 100000
theorem dX0_tryEdge_1 : decode cX0_tryEdge 1 = .ok (.iconst 1, 1) := by decide +kernel
theorem dX0_tryEdge_2 : decode cX0_tryEdge 2 = .ok (.iload_n 2, 1) := by decide +kernel
theorem dX0_tryEdge_3 : decode cX0_tryEdge 3 = .ok (.ishl, 1) := by decide +kernel
theorem dX0_tryEdge_4 : decode cX0_tryEdge 4 = .ok (.iconst 1, 1) := by decide +kernel
theorem dX0_tryEdge_5 : decode cX0_tryEdge 5 = .ok (.isub, 1) := by decide +kernel
theorem dX0_tryEdge_6 : decode cX0_tryEdge 6 = .ok (.if_icmp .ne 4, 3) := by decide +kernel
theorem dX0_tryEdge_9 : decode cX0_tryEdge 9 = .ok (.return_, 1) := by decide +kernel
theorem dX0_tryEdge_10 : decode cX0_tryEdge 10 = .ok (.aload_n 0, 1) := by decide +kernel
theorem dX0_tryEdge_11 : decode cX0_tryEdge 11 = .ok (.iload_n 1, 1) := by decide +kernel
theorem dX0_tryEdge_12 : decode cX0_tryEdge 12 = .ok (.iload_n 2, 1) := by decide +kernel
theorem dX0_tryEdge_13 : decode cX0_tryEdge 13 = .ok (.invokevirtual 59, 3) := by decide +kernel
theorem dX0_tryEdge_16 : decode cX0_tryEdge 16 = .ok (.istore_n 3, 1) := by decide +kernel
theorem dX0_tryEdge_17 : decode cX0_tryEdge 17 = .ok (.iload_n 3, 1) := by decide +kernel
theorem dX0_tryEdge_18 : decode cX0_tryEdge 18 = .ok (.ifCond .le 43, 3) := by decide +kernel
theorem dX0_tryEdge_21 : decode cX0_tryEdge 21 = .ok (.aload_n 0, 1) := by decide +kernel
theorem dX0_tryEdge_22 : decode cX0_tryEdge 22 = .ok (.getfield 62, 3) := by decide +kernel
theorem dX0_tryEdge_25 : decode cX0_tryEdge 25 = .ok (.bipush 32, 2) := by decide +kernel
theorem dX0_tryEdge_27 : decode cX0_tryEdge 27 = .ok (.if_icmp .ge 34, 3) := by decide +kernel
theorem dX0_tryEdge_30 : decode cX0_tryEdge 30 = .ok (.aload_n 0, 1) := by decide +kernel
theorem dX0_tryEdge_31 : decode cX0_tryEdge 31 = .ok (.getfield 20, 3) := by decide +kernel
theorem dX0_tryEdge_34 : decode cX0_tryEdge 34 = .ok (.aload_n 0, 1) := by decide +kernel
theorem dX0_tryEdge_35 : decode cX0_tryEdge 35 = .ok (.getfield 62, 3) := by decide +kernel
theorem dX0_tryEdge_38 : decode cX0_tryEdge 38 = .ok (.iload_n 1, 1) := by decide +kernel
theorem dX0_tryEdge_39 : decode cX0_tryEdge 39 = .ok (.i2b, 1) := by decide +kernel
theorem dX0_tryEdge_40 : decode cX0_tryEdge 40 = .ok (.bastore, 1) := by decide +kernel
theorem dX0_tryEdge_41 : decode cX0_tryEdge 41 = .ok (.aload_n 0, 1) := by decide +kernel
theorem dX0_tryEdge_42 : decode cX0_tryEdge 42 = .ok (.getfield 23, 3) := by decide +kernel
theorem dX0_tryEdge_45 : decode cX0_tryEdge 45 = .ok (.aload_n 0, 1) := by decide +kernel
theorem dX0_tryEdge_46 : decode cX0_tryEdge 46 = .ok (.getfield 62, 3) := by decide +kernel
theorem dX0_tryEdge_49 : decode cX0_tryEdge 49 = .ok (.iload_n 3, 1) := by decide +kernel
theorem dX0_tryEdge_50 : decode cX0_tryEdge 50 = .ok (.iastore, 1) := by decide +kernel
theorem dX0_tryEdge_51 : decode cX0_tryEdge 51 = .ok (.aload_n 0, 1) := by decide +kernel
theorem dX0_tryEdge_52 : decode cX0_tryEdge 52 = .ok (.dup, 1) := by decide +kernel
theorem dX0_tryEdge_53 : decode cX0_tryEdge 53 = .ok (.getfield 62, 3) := by decide +kernel
theorem dX0_tryEdge_56 : decode cX0_tryEdge 56 = .ok (.iconst 1, 1) := by decide +kernel
theorem dX0_tryEdge_57 : decode cX0_tryEdge 57 = .ok (.iadd, 1) := by decide +kernel
theorem dX0_tryEdge_58 : decode cX0_tryEdge 58 = .ok (.putfield 62, 3) := by decide +kernel
theorem dX0_tryEdge_61 : decode cX0_tryEdge 61 = .ok (.return_, 1) := by decide +kernel
abbrev cX0_indexOf : ByteArray := prog_1_method_12_code
def yX0_indexOf : MethodName := ⟨RX0, "indexOf", "(II)I"⟩
theorem dX0_indexOf_0 : decode cX0_indexOf 0 = .ok (.sipush 1000, 3) := by decide +kernel
theorem dX0_indexOf_3 : decode cX0_indexOf 3 = .ok (.istore_n 3, 1) := by decide +kernel
theorem dX0_indexOf_4 : decode cX0_indexOf 4 = .ok (.iconst 0, 1) := by decide +kernel
theorem dX0_indexOf_5 : decode cX0_indexOf 5 = .ok (.istore 4, 2) := by decide +kernel
theorem dX0_indexOf_7 : decode cX0_indexOf 7 = .ok (.iload 4, 2) := by decide +kernel
theorem dX0_indexOf_9 : decode cX0_indexOf 9 = .ok (.iload_n 2, 1) := by decide +kernel
theorem dX0_indexOf_10 : decode cX0_indexOf 10 = .ok (.iload_n 2, 1) := by decide +kernel
theorem dX0_indexOf_11 : decode cX0_indexOf 11 = .ok (.imul, 1) := by decide +kernel
theorem dX0_indexOf_12 : decode cX0_indexOf 12 = .ok (.if_icmp .ge 73, 3) := by decide +kernel
theorem dX0_indexOf_15 : decode cX0_indexOf 15 = .ok (.iload 4, 2) := by decide +kernel
theorem dX0_indexOf_17 : decode cX0_indexOf 17 = .ok (.iload_n 2, 1) := by decide +kernel
theorem dX0_indexOf_18 : decode cX0_indexOf 18 = .ok (.idiv, 1) := by decide +kernel
theorem dX0_indexOf_19 : decode cX0_indexOf 19 = .ok (.istore 5, 2) := by decide +kernel
theorem dX0_indexOf_21 : decode cX0_indexOf 21 = .ok (.iload 4, 2) := by decide +kernel
theorem dX0_indexOf_23 : decode cX0_indexOf 23 = .ok (.iload_n 2, 1) := by decide +kernel
theorem dX0_indexOf_24 : decode cX0_indexOf 24 = .ok (.irem, 1) := by decide +kernel
theorem dX0_indexOf_25 : decode cX0_indexOf 25 = .ok (.istore 6, 2) := by decide +kernel
theorem dX0_indexOf_27 : decode cX0_indexOf 27 = .ok (.iload 5, 2) := by decide +kernel
theorem dX0_indexOf_29 : decode cX0_indexOf 29 = .ok (.iload 6, 2) := by decide +kernel
theorem dX0_indexOf_31 : decode cX0_indexOf 31 = .ok (.if_icmp .gt 48, 3) := by decide +kernel
theorem dX0_indexOf_34 : decode cX0_indexOf 34 = .ok (.iload_n 1, 1) := by decide +kernel
theorem dX0_indexOf_35 : decode cX0_indexOf 35 = .ok (.iload 5, 2) := by decide +kernel
theorem dX0_indexOf_37 : decode cX0_indexOf 37 = .ok (.ishr, 1) := by decide +kernel
theorem dX0_indexOf_38 : decode cX0_indexOf 38 = .ok (.iconst 1, 1) := by decide +kernel
theorem dX0_indexOf_39 : decode cX0_indexOf 39 = .ok (.iand, 1) := by decide +kernel
theorem dX0_indexOf_40 : decode cX0_indexOf 40 = .ok (.iconst 1, 1) := by decide +kernel
theorem dX0_indexOf_41 : decode cX0_indexOf 41 = .ok (.if_icmp .ne 38, 3) := by decide +kernel
theorem dX0_indexOf_44 : decode cX0_indexOf 44 = .ok (.iload_n 1, 1) := by decide +kernel
theorem dX0_indexOf_45 : decode cX0_indexOf 45 = .ok (.iload 6, 2) := by decide +kernel
theorem dX0_indexOf_47 : decode cX0_indexOf 47 = .ok (.ishr, 1) := by decide +kernel
theorem dX0_indexOf_48 : decode cX0_indexOf 48 = .ok (.iconst 1, 1) := by decide +kernel
theorem dX0_indexOf_49 : decode cX0_indexOf 49 = .ok (.iand, 1) := by decide +kernel
theorem dX0_indexOf_50 : decode cX0_indexOf 50 = .ok (.iconst 1, 1) := by decide +kernel
theorem dX0_indexOf_51 : decode cX0_indexOf 51 = .ok (.if_icmp .ne 28, 3) := by decide +kernel
theorem dX0_indexOf_54 : decode cX0_indexOf 54 = .ok (.aload_n 0, 1) := by decide +kernel
theorem dX0_indexOf_55 : decode cX0_indexOf 55 = .ok (.iload_n 1, 1) := by decide +kernel
theorem dX0_indexOf_56 : decode cX0_indexOf 56 = .ok (.iload_n 2, 1) := by decide +kernel
theorem dX0_indexOf_57 : decode cX0_indexOf 57 = .ok (.iload 5, 2) := by decide +kernel
theorem dX0_indexOf_59 : decode cX0_indexOf 59 = .ok (.iload 6, 2) := by decide +kernel
theorem dX0_indexOf_61 : decode cX0_indexOf 61 = .ok (.invokevirtual 55, 3) := by decide +kernel
theorem dX0_indexOf_64 : decode cX0_indexOf 64 = .ok (.istore 7, 2) := by decide +kernel
theorem dX0_indexOf_66 : decode cX0_indexOf 66 = .ok (.iload 7, 2) := by decide +kernel
theorem dX0_indexOf_68 : decode cX0_indexOf 68 = .ok (.iload_n 3, 1) := by decide +kernel
theorem dX0_indexOf_69 : decode cX0_indexOf 69 = .ok (.if_icmp .ge 8, 3) := by decide +kernel
theorem dX0_indexOf_72 : decode cX0_indexOf 72 = .ok (.iload 7, 2) := by decide +kernel
theorem dX0_indexOf_74 : decode cX0_indexOf 74 = .ok (.goto 4, 3) := by decide +kernel
theorem dX0_indexOf_77 : decode cX0_indexOf 77 = .ok (.iload_n 3, 1) := by decide +kernel
theorem dX0_indexOf_78 : decode cX0_indexOf 78 = .ok (.istore_n 3, 1) := by decide +kernel
theorem dX0_indexOf_79 : decode cX0_indexOf 79 = .ok (.iinc 4 1, 3) := by decide +kernel
theorem dX0_indexOf_82 : decode cX0_indexOf 82 = .ok (.goto (-75), 3) := by decide +kernel
theorem dX0_indexOf_85 : decode cX0_indexOf 85 = .ok (.iload_n 3, 1) := by decide +kernel
theorem dX0_indexOf_86 : decode cX0_indexOf 86 = .ok (.ireturn, 1) := by decide +kernel
abbrev cX0_leastFor : ByteArray := prog_1_method_13_code
def yX0_leastFor : MethodName := ⟨RX0, "leastFor", "(IIII)I"⟩
theorem dX0_leastFor_0 : decode cX0_leastFor 0 = .ok (.sipush 1000, 3) := by decide +kernel
theorem dX0_leastFor_3 : decode cX0_leastFor 3 = .ok (.istore 5, 2) := by decide +kernel
theorem dX0_leastFor_5 : decode cX0_leastFor 5 = .ok (.iconst 0, 1) := by decide +kernel
theorem dX0_leastFor_6 : decode cX0_leastFor 6 = .ok (.istore 6, 2) := by decide +kernel
theorem dX0_leastFor_8 : decode cX0_leastFor 8 = .ok (.iload 6, 2) := by decide +kernel
theorem dX0_leastFor_10 : decode cX0_leastFor 10 = .ok (.iload_n 2, 1) := by decide +kernel
theorem dX0_leastFor_11 : decode cX0_leastFor 11 = .ok (.iload_n 2, 1) := by decide +kernel
theorem dX0_leastFor_12 : decode cX0_leastFor 12 = .ok (.imul, 1) := by decide +kernel
theorem dX0_leastFor_13 : decode cX0_leastFor 13 = .ok (.if_icmp .ge 90, 3) := by decide +kernel
theorem dX0_leastFor_16 : decode cX0_leastFor 16 = .ok (.iload 6, 2) := by decide +kernel
theorem dX0_leastFor_18 : decode cX0_leastFor 18 = .ok (.iload_n 2, 1) := by decide +kernel
theorem dX0_leastFor_19 : decode cX0_leastFor 19 = .ok (.idiv, 1) := by decide +kernel
theorem dX0_leastFor_20 : decode cX0_leastFor 20 = .ok (.istore 7, 2) := by decide +kernel
theorem dX0_leastFor_22 : decode cX0_leastFor 22 = .ok (.iload 6, 2) := by decide +kernel
theorem dX0_leastFor_24 : decode cX0_leastFor 24 = .ok (.iload_n 2, 1) := by decide +kernel
theorem dX0_leastFor_25 : decode cX0_leastFor 25 = .ok (.irem, 1) := by decide +kernel
theorem dX0_leastFor_26 : decode cX0_leastFor 26 = .ok (.istore 8, 2) := by decide +kernel
theorem dX0_leastFor_28 : decode cX0_leastFor 28 = .ok (.iload_n 1, 1) := by decide +kernel
theorem dX0_leastFor_29 : decode cX0_leastFor 29 = .ok (.iload 7, 2) := by decide +kernel
theorem dX0_leastFor_31 : decode cX0_leastFor 31 = .ok (.ishr, 1) := by decide +kernel
theorem dX0_leastFor_32 : decode cX0_leastFor 32 = .ok (.iconst 1, 1) := by decide +kernel
theorem dX0_leastFor_33 : decode cX0_leastFor 33 = .ok (.iand, 1) := by decide +kernel
theorem dX0_leastFor_34 : decode cX0_leastFor 34 = .ok (.ifCond .ne 63, 3) := by decide +kernel
theorem dX0_leastFor_37 : decode cX0_leastFor 37 = .ok (.iload_n 1, 1) := by decide +kernel
theorem dX0_leastFor_38 : decode cX0_leastFor 38 = .ok (.iload 8, 2) := by decide +kernel
theorem dX0_leastFor_40 : decode cX0_leastFor 40 = .ok (.ishr, 1) := by decide +kernel
theorem dX0_leastFor_41 : decode cX0_leastFor 41 = .ok (.iconst 1, 1) := by decide +kernel
theorem dX0_leastFor_42 : decode cX0_leastFor 42 = .ok (.iand, 1) := by decide +kernel
theorem dX0_leastFor_43 : decode cX0_leastFor 43 = .ok (.ifCond .ne 54, 3) := by decide +kernel
theorem dX0_leastFor_46 : decode cX0_leastFor 46 = .ok (.aload_n 0, 1) := by decide +kernel
theorem dX0_leastFor_47 : decode cX0_leastFor 47 = .ok (.iload_n 3, 1) := by decide +kernel
theorem dX0_leastFor_48 : decode cX0_leastFor 48 = .ok (.iload 7, 2) := by decide +kernel
theorem dX0_leastFor_50 : decode cX0_leastFor 50 = .ok (.invokevirtual 45, 3) := by decide +kernel
theorem dX0_leastFor_53 : decode cX0_leastFor 53 = .ok (.aload_n 0, 1) := by decide +kernel
theorem dX0_leastFor_54 : decode cX0_leastFor 54 = .ok (.iload 4, 2) := by decide +kernel
theorem dX0_leastFor_56 : decode cX0_leastFor 56 = .ok (.iload 8, 2) := by decide +kernel
theorem dX0_leastFor_58 : decode cX0_leastFor 58 = .ok (.invokevirtual 45, 3) := by decide +kernel
theorem dX0_leastFor_61 : decode cX0_leastFor 61 = .ok (.iadd, 1) := by decide +kernel
theorem dX0_leastFor_62 : decode cX0_leastFor 62 = .ok (.aload_n 0, 1) := by decide +kernel
theorem dX0_leastFor_63 : decode cX0_leastFor 63 = .ok (.iload_n 3, 1) := by decide +kernel
theorem dX0_leastFor_64 : decode cX0_leastFor 64 = .ok (.iload 4, 2) := by decide +kernel
theorem dX0_leastFor_66 : decode cX0_leastFor 66 = .ok (.invokevirtual 45, 3) := by decide +kernel
theorem dX0_leastFor_69 : decode cX0_leastFor 69 = .ok (.isub, 1) := by decide +kernel
theorem dX0_leastFor_70 : decode cX0_leastFor 70 = .ok (.aload_n 0, 1) := by decide +kernel
theorem dX0_leastFor_71 : decode cX0_leastFor 71 = .ok (.iload 7, 2) := by decide +kernel
theorem dX0_leastFor_73 : decode cX0_leastFor 73 = .ok (.iload 8, 2) := by decide +kernel
theorem dX0_leastFor_75 : decode cX0_leastFor 75 = .ok (.invokevirtual 45, 3) := by decide +kernel
theorem dX0_leastFor_78 : decode cX0_leastFor 78 = .ok (.isub, 1) := by decide +kernel
theorem dX0_leastFor_79 : decode cX0_leastFor 79 = .ok (.istore 9, 2) := by decide +kernel
theorem dX0_leastFor_81 : decode cX0_leastFor 81 = .ok (.iload 9, 2) := by decide +kernel
theorem dX0_leastFor_83 : decode cX0_leastFor 83 = .ok (.iload 5, 2) := by decide +kernel
theorem dX0_leastFor_85 : decode cX0_leastFor 85 = .ok (.if_icmp .ge 8, 3) := by decide +kernel
theorem dX0_leastFor_88 : decode cX0_leastFor 88 = .ok (.iload 9, 2) := by decide +kernel
theorem dX0_leastFor_90 : decode cX0_leastFor 90 = .ok (.goto 5, 3) := by decide +kernel
theorem dX0_leastFor_93 : decode cX0_leastFor 93 = .ok (.iload 5, 2) := by decide +kernel
theorem dX0_leastFor_95 : decode cX0_leastFor 95 = .ok (.istore 5, 2) := by decide +kernel
theorem dX0_leastFor_97 : decode cX0_leastFor 97 = .ok (.iinc 6 1, 3) := by decide +kernel
theorem dX0_leastFor_100 : decode cX0_leastFor 100 = .ok (.goto (-92), 3) := by decide +kernel
theorem dX0_leastFor_103 : decode cX0_leastFor 103 = .ok (.iload 5, 2) := by decide +kernel
theorem dX0_leastFor_105 : decode cX0_leastFor 105 = .ok (.ireturn, 1) := by decide +kernel
abbrev cX0_sortFresh : ByteArray := prog_1_method_15_code
def yX0_sortFresh : MethodName := ⟨RX0, "sortFresh", "()V"⟩
theorem dX0_sortFresh_0 : decode cX0_sortFresh 0 = .ok (.aload_n 0, 1) := by decide +kernel
theorem dX0_sortFresh_1 : decode cX0_sortFresh 1 = .ok (.iconst 0, 1) := by decide +kernel
theorem dX0_sortFresh_2 : decode cX0_sortFresh 2 = .ok (.putfield 65, 3) := by decide +kernel
theorem dX0_sortFresh_5 : decode cX0_sortFresh 5 = .ok (.iconst 0, 1) := by decide +kernel
theorem dX0_sortFresh_6 : decode cX0_sortFresh 6 = .ok (.istore_n 1, 1) := by decide +kernel
theorem dX0_sortFresh_7 : decode cX0_sortFresh 7 = .ok (.iload_n 1, 1) := by decide +kernel
theorem dX0_sortFresh_8 : decode cX0_sortFresh 8 = .ok (.aload_n 0, 1) := by decide +kernel
theorem dX0_sortFresh_9 : decode cX0_sortFresh 9 = .ok (.getfield 62, 3) := by decide +kernel
theorem dX0_sortFresh_12 : decode cX0_sortFresh 12 = .ok (.if_icmp .ge 103, 3) := by decide +kernel
theorem dX0_sortFresh_15 : decode cX0_sortFresh 15 = .ok (.aload_n 0, 1) := by decide +kernel
theorem dX0_sortFresh_16 : decode cX0_sortFresh 16 = .ok (.getfield 65, 3) := by decide +kernel
theorem dX0_sortFresh_19 : decode cX0_sortFresh 19 = .ok (.istore_n 2, 1) := by decide +kernel
theorem dX0_sortFresh_20 : decode cX0_sortFresh 20 = .ok (.iload_n 2, 1) := by decide +kernel
theorem dX0_sortFresh_21 : decode cX0_sortFresh 21 = .ok (.ifCond .le 54, 3) := by decide +kernel
theorem dX0_sortFresh_24 : decode cX0_sortFresh 24 = .ok (.aload_n 0, 1) := by decide +kernel
theorem dX0_sortFresh_25 : decode cX0_sortFresh 25 = .ok (.getfield 13, 3) := by decide +kernel
theorem dX0_sortFresh_28 : decode cX0_sortFresh 28 = .ok (.iload_n 2, 1) := by decide +kernel
theorem dX0_sortFresh_29 : decode cX0_sortFresh 29 = .ok (.iconst 1, 1) := by decide +kernel
theorem dX0_sortFresh_30 : decode cX0_sortFresh 30 = .ok (.isub, 1) := by decide +kernel
theorem dX0_sortFresh_31 : decode cX0_sortFresh 31 = .ok (.baload, 1) := by decide +kernel
theorem dX0_sortFresh_32 : decode cX0_sortFresh 32 = .ok (.aload_n 0, 1) := by decide +kernel
theorem dX0_sortFresh_33 : decode cX0_sortFresh 33 = .ok (.getfield 20, 3) := by decide +kernel
theorem dX0_sortFresh_36 : decode cX0_sortFresh 36 = .ok (.iload_n 1, 1) := by decide +kernel
theorem dX0_sortFresh_37 : decode cX0_sortFresh 37 = .ok (.baload, 1) := by decide +kernel
theorem dX0_sortFresh_38 : decode cX0_sortFresh 38 = .ok (.if_icmp .le 37, 3) := by decide +kernel
theorem dX0_sortFresh_41 : decode cX0_sortFresh 41 = .ok (.aload_n 0, 1) := by decide +kernel
theorem dX0_sortFresh_42 : decode cX0_sortFresh 42 = .ok (.getfield 13, 3) := by decide +kernel
theorem dX0_sortFresh_45 : decode cX0_sortFresh 45 = .ok (.iload_n 2, 1) := by decide +kernel
theorem dX0_sortFresh_46 : decode cX0_sortFresh 46 = .ok (.aload_n 0, 1) := by decide +kernel
theorem dX0_sortFresh_47 : decode cX0_sortFresh 47 = .ok (.getfield 13, 3) := by decide +kernel
theorem dX0_sortFresh_50 : decode cX0_sortFresh 50 = .ok (.iload_n 2, 1) := by decide +kernel
theorem dX0_sortFresh_51 : decode cX0_sortFresh 51 = .ok (.iconst 1, 1) := by decide +kernel
theorem dX0_sortFresh_52 : decode cX0_sortFresh 52 = .ok (.isub, 1) := by decide +kernel
theorem dX0_sortFresh_53 : decode cX0_sortFresh 53 = .ok (.baload, 1) := by decide +kernel
theorem dX0_sortFresh_54 : decode cX0_sortFresh 54 = .ok (.bastore, 1) := by decide +kernel
theorem dX0_sortFresh_55 : decode cX0_sortFresh 55 = .ok (.aload_n 0, 1) := by decide +kernel
theorem dX0_sortFresh_56 : decode cX0_sortFresh 56 = .ok (.getfield 16, 3) := by decide +kernel
theorem dX0_sortFresh_59 : decode cX0_sortFresh 59 = .ok (.iload_n 2, 1) := by decide +kernel
theorem dX0_sortFresh_60 : decode cX0_sortFresh 60 = .ok (.aload_n 0, 1) := by decide +kernel
theorem dX0_sortFresh_61 : decode cX0_sortFresh 61 = .ok (.getfield 16, 3) := by decide +kernel
theorem dX0_sortFresh_64 : decode cX0_sortFresh 64 = .ok (.iload_n 2, 1) := by decide +kernel
theorem dX0_sortFresh_65 : decode cX0_sortFresh 65 = .ok (.iconst 1, 1) := by decide +kernel
theorem dX0_sortFresh_66 : decode cX0_sortFresh 66 = .ok (.isub, 1) := by decide +kernel
theorem dX0_sortFresh_67 : decode cX0_sortFresh 67 = .ok (.iaload, 1) := by decide +kernel
theorem dX0_sortFresh_68 : decode cX0_sortFresh 68 = .ok (.iastore, 1) := by decide +kernel
theorem dX0_sortFresh_69 : decode cX0_sortFresh 69 = .ok (.iinc 2 (-1), 3) := by decide +kernel
theorem dX0_sortFresh_72 : decode cX0_sortFresh 72 = .ok (.goto (-52), 3) := by decide +kernel
theorem dX0_sortFresh_75 : decode cX0_sortFresh 75 = .ok (.aload_n 0, 1) := by decide +kernel
theorem dX0_sortFresh_76 : decode cX0_sortFresh 76 = .ok (.getfield 13, 3) := by decide +kernel
theorem dX0_sortFresh_79 : decode cX0_sortFresh 79 = .ok (.iload_n 2, 1) := by decide +kernel
theorem dX0_sortFresh_80 : decode cX0_sortFresh 80 = .ok (.aload_n 0, 1) := by decide +kernel
theorem dX0_sortFresh_81 : decode cX0_sortFresh 81 = .ok (.getfield 20, 3) := by decide +kernel
theorem dX0_sortFresh_84 : decode cX0_sortFresh 84 = .ok (.iload_n 1, 1) := by decide +kernel
theorem dX0_sortFresh_85 : decode cX0_sortFresh 85 = .ok (.baload, 1) := by decide +kernel
theorem dX0_sortFresh_86 : decode cX0_sortFresh 86 = .ok (.bastore, 1) := by decide +kernel
theorem dX0_sortFresh_87 : decode cX0_sortFresh 87 = .ok (.aload_n 0, 1) := by decide +kernel
theorem dX0_sortFresh_88 : decode cX0_sortFresh 88 = .ok (.getfield 16, 3) := by decide +kernel
theorem dX0_sortFresh_91 : decode cX0_sortFresh 91 = .ok (.iload_n 2, 1) := by decide +kernel
theorem dX0_sortFresh_92 : decode cX0_sortFresh 92 = .ok (.aload_n 0, 1) := by decide +kernel
theorem dX0_sortFresh_93 : decode cX0_sortFresh 93 = .ok (.getfield 23, 3) := by decide +kernel
theorem dX0_sortFresh_96 : decode cX0_sortFresh 96 = .ok (.iload_n 1, 1) := by decide +kernel
theorem dX0_sortFresh_97 : decode cX0_sortFresh 97 = .ok (.iaload, 1) := by decide +kernel
theorem dX0_sortFresh_98 : decode cX0_sortFresh 98 = .ok (.iastore, 1) := by decide +kernel
theorem dX0_sortFresh_99 : decode cX0_sortFresh 99 = .ok (.aload_n 0, 1) := by decide +kernel
theorem dX0_sortFresh_100 : decode cX0_sortFresh 100 = .ok (.dup, 1) := by decide +kernel
theorem dX0_sortFresh_101 : decode cX0_sortFresh 101 = .ok (.getfield 65, 3) := by decide +kernel
theorem dX0_sortFresh_104 : decode cX0_sortFresh 104 = .ok (.iconst 1, 1) := by decide +kernel
theorem dX0_sortFresh_105 : decode cX0_sortFresh 105 = .ok (.iadd, 1) := by decide +kernel
theorem dX0_sortFresh_106 : decode cX0_sortFresh 106 = .ok (.putfield 65, 3) := by decide +kernel
theorem dX0_sortFresh_109 : decode cX0_sortFresh 109 = .ok (.iinc 1 1, 3) := by decide +kernel
theorem dX0_sortFresh_112 : decode cX0_sortFresh 112 = .ok (.goto (-105), 3) := by decide +kernel
theorem dX0_sortFresh_115 : decode cX0_sortFresh 115 = .ok (.return_, 1) := by decide +kernel
abbrev cX0_pathOf : ByteArray := prog_1_method_19_code
def yX0_pathOf : MethodName := ⟨RX0, "pathOf", "(II)I"⟩
theorem dX0_pathOf_0 : decode cX0_pathOf 0 = .ok (.iconst 0, 1) := by decide +kernel
theorem dX0_pathOf_1 : decode cX0_pathOf 1 = .ok (.istore_n 3, 1) := by decide +kernel
theorem dX0_pathOf_2 : decode cX0_pathOf 2 = .ok (.iconst 0, 1) := by decide +kernel
theorem dX0_pathOf_3 : decode cX0_pathOf 3 = .ok (.istore 4, 2) := by decide +kernel
theorem dX0_pathOf_5 : decode cX0_pathOf 5 = .ok (.iload 4, 2) := by decide +kernel
theorem dX0_pathOf_7 : decode cX0_pathOf 7 = .ok (.aload_n 0, 1) := by decide +kernel
theorem dX0_pathOf_8 : decode cX0_pathOf 8 = .ok (.getfield 65, 3) := by decide +kernel
theorem dX0_pathOf_11 : decode cX0_pathOf 11 = .ok (.if_icmp .ge 34, 3) := by decide +kernel
theorem dX0_pathOf_14 : decode cX0_pathOf 14 = .ok (.aload_n 0, 1) := by decide +kernel
theorem dX0_pathOf_15 : decode cX0_pathOf 15 = .ok (.iload 4, 2) := by decide +kernel
theorem dX0_pathOf_17 : decode cX0_pathOf 17 = .ok (.iload_n 1, 1) := by decide +kernel
theorem dX0_pathOf_18 : decode cX0_pathOf 18 = .ok (.iload_n 2, 1) := by decide +kernel
theorem dX0_pathOf_19 : decode cX0_pathOf 19 = .ok (.invokevirtual 79, 3) := by decide +kernel
theorem dX0_pathOf_22 : decode cX0_pathOf 22 = .ok (.ifCond .eq 15, 3) := by decide +kernel
theorem dX0_pathOf_25 : decode cX0_pathOf 25 = .ok (.iload_n 3, 1) := by decide +kernel
theorem dX0_pathOf_26 : decode cX0_pathOf 26 = .ok (.aload_n 0, 1) := by decide +kernel
theorem dX0_pathOf_27 : decode cX0_pathOf 27 = .ok (.getfield 16, 3) := by decide +kernel
theorem dX0_pathOf_30 : decode cX0_pathOf 30 = .ok (.iload 4, 2) := by decide +kernel
theorem dX0_pathOf_32 : decode cX0_pathOf 32 = .ok (.iaload, 1) := by decide +kernel
theorem dX0_pathOf_33 : decode cX0_pathOf 33 = .ok (.iadd, 1) := by decide +kernel
theorem dX0_pathOf_34 : decode cX0_pathOf 34 = .ok (.goto 4, 3) := by decide +kernel
theorem dX0_pathOf_37 : decode cX0_pathOf 37 = .ok (.iload_n 3, 1) := by decide +kernel
theorem dX0_pathOf_38 : decode cX0_pathOf 38 = .ok (.istore_n 3, 1) := by decide +kernel
theorem dX0_pathOf_39 : decode cX0_pathOf 39 = .ok (.iinc 4 1, 3) := by decide +kernel
theorem dX0_pathOf_42 : decode cX0_pathOf 42 = .ok (.goto (-37), 3) := by decide +kernel
theorem dX0_pathOf_45 : decode cX0_pathOf 45 = .ok (.iload_n 3, 1) := by decide +kernel
theorem dX0_pathOf_46 : decode cX0_pathOf 46 = .ok (.ireturn, 1) := by decide +kernel
abbrev cX0_parts : ByteArray := prog_1_method_18_code
def yX0_parts : MethodName := ⟨RX0, "parts", "(III)Z"⟩
theorem dX0_parts_0 : decode cX0_parts 0 = .ok (.aload_n 0, 1) := by decide +kernel
theorem dX0_parts_1 : decode cX0_parts 1 = .ok (.getfield 13, 3) := by decide +kernel
theorem dX0_parts_4 : decode cX0_parts 4 = .ok (.iload_n 1, 1) := by decide +kernel
theorem dX0_parts_5 : decode cX0_parts 5 = .ok (.baload, 1) := by decide +kernel
theorem dX0_parts_6 : decode cX0_parts 6 = .ok (.iload_n 2, 1) := by decide +kernel
theorem dX0_parts_7 : decode cX0_parts 7 = .ok (.ishr, 1) := by decide +kernel
theorem dX0_parts_8 : decode cX0_parts 8 = .ok (.iconst 1, 1) := by decide +kernel
theorem dX0_parts_9 : decode cX0_parts 9 = .ok (.iand, 1) := by decide +kernel
theorem dX0_parts_10 : decode cX0_parts 10 = .ok (.aload_n 0, 1) := by decide +kernel
theorem dX0_parts_11 : decode cX0_parts 11 = .ok (.getfield 13, 3) := by decide +kernel
theorem dX0_parts_14 : decode cX0_parts 14 = .ok (.iload_n 1, 1) := by decide +kernel
theorem dX0_parts_15 : decode cX0_parts 15 = .ok (.baload, 1) := by decide +kernel
theorem dX0_parts_16 : decode cX0_parts 16 = .ok (.iload_n 3, 1) := by decide +kernel
theorem dX0_parts_17 : decode cX0_parts 17 = .ok (.ishr, 1) := by decide +kernel
theorem dX0_parts_18 : decode cX0_parts 18 = .ok (.iconst 1, 1) := by decide +kernel
theorem dX0_parts_19 : decode cX0_parts 19 = .ok (.iand, 1) := by decide +kernel
theorem dX0_parts_20 : decode cX0_parts 20 = .ok (.if_icmp .eq 7, 3) := by decide +kernel
theorem dX0_parts_23 : decode cX0_parts 23 = .ok (.iconst 1, 1) := by decide +kernel
theorem dX0_parts_24 : decode cX0_parts 24 = .ok (.goto 4, 3) := by decide +kernel
theorem dX0_parts_27 : decode cX0_parts 27 = .ok (.iconst 0, 1) := by decide +kernel
theorem dX0_parts_28 : decode cX0_parts 28 = .ok (.ireturn, 1) := by decide +kernel
abbrev cX0_points : ByteArray := prog_1_method_10_code
def yX0_points : MethodName := ⟨RX0, "points", "()I"⟩
theorem dX0_points_0 : decode cX0_points 0 = .ok (.aload_n 0, 1) := by decide +kernel
theorem dX0_points_1 : decode cX0_points 1 = .ok (.getfield 29, 3) := by decide +kernel
theorem dX0_points_4 : decode cX0_points 4 = .ok (.ireturn, 1) := by decide +kernel
abbrev cX0_distance : ByteArray := prog_1_method_11_code
def yX0_distance : MethodName := ⟨RX0, "distance", "(II)I"⟩
theorem dX0_distance_0 : decode cX0_distance 0 = .ok (.aload_n 0, 1) := by decide +kernel
theorem dX0_distance_1 : decode cX0_distance 1 = .ok (.iload_n 1, 1) := by decide +kernel
theorem dX0_distance_2 : decode cX0_distance 2 = .ok (.invokevirtual 41, 3) := by decide +kernel
theorem dX0_distance_5 : decode cX0_distance 5 = .ok (.ifCond .ne 11, 3) := by decide +kernel
theorem dX0_distance_8 : decode cX0_distance 8 = .ok (.aload_n 0, 1) := by decide +kernel
theorem dX0_distance_9 : decode cX0_distance 9 = .ok (.iload_n 2, 1) := by decide +kernel
theorem dX0_distance_10 : decode cX0_distance 10 = .ok (.invokevirtual 41, 3) := by decide +kernel
theorem dX0_distance_13 : decode cX0_distance 13 = .ok (.ifCond .eq 9, 3) := by decide +kernel
theorem dX0_distance_16 : decode cX0_distance 16 = .ok (.sipush (-1000), 3) := by decide +kernel
theorem dX0_distance_19 : decode cX0_distance 19 = .ok (.goto 9, 3) := by decide +kernel
theorem dX0_distance_22 : decode cX0_distance 22 = .ok (.aload_n 0, 1) := by decide +kernel
theorem dX0_distance_23 : decode cX0_distance 23 = .ok (.iload_n 1, 1) := by decide +kernel
theorem dX0_distance_24 : decode cX0_distance 24 = .ok (.iload_n 2, 1) := by decide +kernel
theorem dX0_distance_25 : decode cX0_distance 25 = .ok (.invokevirtual 45, 3) := by decide +kernel
theorem dX0_distance_28 : decode cX0_distance 28 = .ok (.ireturn, 1) := by decide +kernel
abbrev cX0_index : ByteArray := prog_1_method_21_code
def yX0_index : MethodName := ⟨RX0, "index", "(I)I"⟩
theorem dX0_index_0 : decode cX0_index 0 = .ok (.aload_n 0, 1) := by decide +kernel
theorem dX0_index_1 : decode cX0_index 1 = .ok (.iload_n 1, 1) := by decide +kernel
theorem dX0_index_2 : decode cX0_index 2 = .ok (.invokevirtual 83, 3) := by decide +kernel
theorem dX0_index_5 : decode cX0_index 5 = .ok (.ifCond .eq 9, 3) := by decide +kernel
theorem dX0_index_8 : decode cX0_index 8 = .ok (.sipush (-1000), 3) := by decide +kernel
theorem dX0_index_11 : decode cX0_index 11 = .ok (.goto 12, 3) := by decide +kernel
theorem dX0_index_14 : decode cX0_index 14 = .ok (.aload_n 0, 1) := by decide +kernel
theorem dX0_index_15 : decode cX0_index 15 = .ok (.iload_n 1, 1) := by decide +kernel
theorem dX0_index_16 : decode cX0_index 16 = .ok (.aload_n 0, 1) := by decide +kernel
theorem dX0_index_17 : decode cX0_index 17 = .ok (.getfield 29, 3) := by decide +kernel
theorem dX0_index_20 : decode cX0_index 20 = .ok (.invokevirtual 59, 3) := by decide +kernel
theorem dX0_index_23 : decode cX0_index 23 = .ok (.ireturn, 1) := by decide +kernel
abbrev cX0_badSplit : ByteArray := prog_1_method_20_code
def yX0_badSplit : MethodName := ⟨RX0, "badSplit", "(I)Z"⟩
theorem dX0_badSplit_0 : decode cX0_badSplit 0 = .ok (.aload_n 0, 1) := by decide +kernel
theorem dX0_badSplit_1 : decode cX0_badSplit 1 = .ok (.getfield 29, 3) := by decide +kernel
theorem dX0_badSplit_4 : decode cX0_badSplit 4 = .ok (.iconst 2, 1) := by decide +kernel
theorem dX0_badSplit_5 : decode cX0_badSplit 5 = .ok (.if_icmp .lt 26, 3) := by decide +kernel
theorem dX0_badSplit_8 : decode cX0_badSplit 8 = .ok (.iload_n 1, 1) := by decide +kernel
theorem dX0_badSplit_9 : decode cX0_badSplit 9 = .ok (.iconst 1, 1) := by decide +kernel
theorem dX0_badSplit_10 : decode cX0_badSplit 10 = .ok (.if_icmp .lt 21, 3) := by decide +kernel
theorem dX0_badSplit_13 : decode cX0_badSplit 13 = .ok (.iload_n 1, 1) := by decide +kernel
theorem dX0_badSplit_14 : decode cX0_badSplit 14 = .ok (.iconst 1, 1) := by decide +kernel
theorem dX0_badSplit_15 : decode cX0_badSplit 15 = .ok (.aload_n 0, 1) := by decide +kernel
theorem dX0_badSplit_16 : decode cX0_badSplit 16 = .ok (.getfield 29, 3) := by decide +kernel
theorem dX0_badSplit_19 : decode cX0_badSplit 19 = .ok (.ishl, 1) := by decide +kernel
theorem dX0_badSplit_20 : decode cX0_badSplit 20 = .ok (.iconst 1, 1) := by decide +kernel
theorem dX0_badSplit_21 : decode cX0_badSplit 21 = .ok (.isub, 1) := by decide +kernel
theorem dX0_badSplit_22 : decode cX0_badSplit 22 = .ok (.if_icmp .ge 9, 3) := by decide +kernel
theorem dX0_badSplit_25 : decode cX0_badSplit 25 = .ok (.iload_n 1, 1) := by decide +kernel
theorem dX0_badSplit_26 : decode cX0_badSplit 26 = .ok (.iconst 1, 1) := by decide +kernel
theorem dX0_badSplit_27 : decode cX0_badSplit 27 = .ok (.iand, 1) := by decide +kernel
theorem dX0_badSplit_28 : decode cX0_badSplit 28 = .ok (.ifCond .ne 7, 3) := by decide +kernel
theorem dX0_badSplit_31 : decode cX0_badSplit 31 = .ok (.iconst 1, 1) := by decide +kernel
theorem dX0_badSplit_32 : decode cX0_badSplit 32 = .ok (.goto 4, 3) := by decide +kernel
theorem dX0_badSplit_35 : decode cX0_badSplit 35 = .ok (.iconst 0, 1) := by decide +kernel
theorem dX0_badSplit_36 : decode cX0_badSplit 36 = .ok (.ireturn, 1) := by decide +kernel
abbrev cX0_edges : ByteArray := prog_1_method_22_code
def yX0_edges : MethodName := ⟨RX0, "edges", "()I"⟩
theorem dX0_edges_0 : decode cX0_edges 0 = .ok (.aload_n 0, 1) := by decide +kernel
theorem dX0_edges_1 : decode cX0_edges 1 = .ok (.invokevirtual 49, 3) := by decide +kernel
theorem dX0_edges_4 : decode cX0_edges 4 = .ok (.aload_n 0, 1) := by decide +kernel
theorem dX0_edges_5 : decode cX0_edges 5 = .ok (.getfield 65, 3) := by decide +kernel
theorem dX0_edges_8 : decode cX0_edges 8 = .ok (.ireturn, 1) := by decide +kernel
abbrev cX0_edge : ByteArray := prog_1_method_23_code
def yX0_edge : MethodName := ⟨RX0, "edge", "(I)I"⟩
theorem dX0_edge_0 : decode cX0_edge 0 = .ok (.aload_n 0, 1) := by decide +kernel
theorem dX0_edge_1 : decode cX0_edge 1 = .ok (.invokevirtual 49, 3) := by decide +kernel
theorem dX0_edge_4 : decode cX0_edge 4 = .ok (.iload_n 1, 1) := by decide +kernel
theorem dX0_edge_5 : decode cX0_edge 5 = .ok (.ifCond .lt 11, 3) := by decide +kernel
theorem dX0_edge_8 : decode cX0_edge 8 = .ok (.iload_n 1, 1) := by decide +kernel
theorem dX0_edge_9 : decode cX0_edge 9 = .ok (.aload_n 0, 1) := by decide +kernel
theorem dX0_edge_10 : decode cX0_edge 10 = .ok (.getfield 65, 3) := by decide +kernel
theorem dX0_edge_13 : decode cX0_edge 13 = .ok (.if_icmp .lt 9, 3) := by decide +kernel
theorem dX0_edge_16 : decode cX0_edge 16 = .ok (.sipush (-1002), 3) := by decide +kernel
theorem dX0_edge_19 : decode cX0_edge 19 = .ok (.goto 9, 3) := by decide +kernel
theorem dX0_edge_22 : decode cX0_edge 22 = .ok (.aload_n 0, 1) := by decide +kernel
theorem dX0_edge_23 : decode cX0_edge 23 = .ok (.getfield 13, 3) := by decide +kernel
theorem dX0_edge_26 : decode cX0_edge 26 = .ok (.iload_n 1, 1) := by decide +kernel
theorem dX0_edge_27 : decode cX0_edge 27 = .ok (.baload, 1) := by decide +kernel
theorem dX0_edge_28 : decode cX0_edge 28 = .ok (.ireturn, 1) := by decide +kernel
abbrev cX0_treeDistance : ByteArray := prog_1_method_24_code
def yX0_treeDistance : MethodName := ⟨RX0, "treeDistance", "(II)I"⟩
theorem dX0_treeDistance_0 : decode cX0_treeDistance 0 = .ok (.aload_n 0, 1) := by decide +kernel
theorem dX0_treeDistance_1 : decode cX0_treeDistance 1 = .ok (.iload_n 1, 1) := by decide +kernel
theorem dX0_treeDistance_2 : decode cX0_treeDistance 2 = .ok (.invokevirtual 41, 3) := by decide +kernel
theorem dX0_treeDistance_5 : decode cX0_treeDistance 5 = .ok (.ifCond .ne 11, 3) := by decide +kernel
theorem dX0_treeDistance_8 : decode cX0_treeDistance 8 = .ok (.aload_n 0, 1) := by decide +kernel
theorem dX0_treeDistance_9 : decode cX0_treeDistance 9 = .ok (.iload_n 2, 1) := by decide +kernel
theorem dX0_treeDistance_10 : decode cX0_treeDistance 10 = .ok (.invokevirtual 41, 3) := by decide +kernel
theorem dX0_treeDistance_13 : decode cX0_treeDistance 13 = .ok (.ifCond .eq 7, 3) := by decide +kernel
theorem dX0_treeDistance_16 : decode cX0_treeDistance 16 = .ok (.sipush (-1000), 3) := by decide +kernel
theorem dX0_treeDistance_19 : decode cX0_treeDistance 19 = .ok (.ireturn, 1) := by decide +kernel
theorem dX0_treeDistance_20 : decode cX0_treeDistance 20 = .ok (.aload_n 0, 1) := by decide +kernel
theorem dX0_treeDistance_21 : decode cX0_treeDistance 21 = .ok (.invokevirtual 49, 3) := by decide +kernel
theorem dX0_treeDistance_24 : decode cX0_treeDistance 24 = .ok (.aload_n 0, 1) := by decide +kernel
theorem dX0_treeDistance_25 : decode cX0_treeDistance 25 = .ok (.iload_n 1, 1) := by decide +kernel
theorem dX0_treeDistance_26 : decode cX0_treeDistance 26 = .ok (.iload_n 2, 1) := by decide +kernel
theorem dX0_treeDistance_27 : decode cX0_treeDistance 27 = .ok (.invokevirtual 52, 3) := by decide +kernel
theorem dX0_treeDistance_30 : decode cX0_treeDistance 30 = .ok (.ireturn, 1) := by decide +kernel
abbrev cX0_together : ByteArray := prog_1_method_25_code
def yX0_together : MethodName := ⟨RX0, "together", "(II)I"⟩
theorem dX0_together_0 : decode cX0_together 0 = .ok (.aload_n 0, 1) := by decide +kernel
theorem dX0_together_1 : decode cX0_together 1 = .ok (.iload_n 1, 1) := by decide +kernel
theorem dX0_together_2 : decode cX0_together 2 = .ok (.invokevirtual 41, 3) := by decide +kernel
theorem dX0_together_5 : decode cX0_together 5 = .ok (.ifCond .ne 11, 3) := by decide +kernel
theorem dX0_together_8 : decode cX0_together 8 = .ok (.aload_n 0, 1) := by decide +kernel
theorem dX0_together_9 : decode cX0_together 9 = .ok (.iload_n 2, 1) := by decide +kernel
theorem dX0_together_10 : decode cX0_together 10 = .ok (.invokevirtual 41, 3) := by decide +kernel
theorem dX0_together_13 : decode cX0_together 13 = .ok (.ifCond .eq 7, 3) := by decide +kernel
theorem dX0_together_16 : decode cX0_together 16 = .ok (.sipush (-1000), 3) := by decide +kernel
theorem dX0_together_19 : decode cX0_together 19 = .ok (.ireturn, 1) := by decide +kernel
theorem dX0_together_20 : decode cX0_together 20 = .ok (.aload_n 0, 1) := by decide +kernel
theorem dX0_together_21 : decode cX0_together 21 = .ok (.invokevirtual 49, 3) := by decide +kernel
theorem dX0_together_24 : decode cX0_together 24 = .ok (.aload_n 0, 1) := by decide +kernel
theorem dX0_together_25 : decode cX0_together 25 = .ok (.iload_n 1, 1) := by decide +kernel
theorem dX0_together_26 : decode cX0_together 26 = .ok (.iload_n 2, 1) := by decide +kernel
theorem dX0_together_27 : decode cX0_together 27 = .ok (.invokevirtual 52, 3) := by decide +kernel
theorem dX0_together_30 : decode cX0_together 30 = .ok (.istore_n 3, 1) := by decide +kernel
theorem dX0_together_31 : decode cX0_together 31 = .ok (.iload_n 3, 1) := by decide +kernel
theorem dX0_together_32 : decode cX0_together 32 = .ok (.ifCond .ne 7, 3) := by decide +kernel
theorem dX0_together_35 : decode cX0_together 35 = .ok (.iconst 1, 1) := by decide +kernel
theorem dX0_together_36 : decode cX0_together 36 = .ok (.goto 4, 3) := by decide +kernel
theorem dX0_together_39 : decode cX0_together 39 = .ok (.iconst 0, 1) := by decide +kernel
theorem dX0_together_40 : decode cX0_together 40 = .ok (.ireturn, 1) := by decide +kernel
abbrev cX0_agrees : ByteArray := prog_1_method_28_code
def yX0_agrees : MethodName := ⟨RX0, "agrees", "(I)I"⟩
theorem dX0_agrees_0 : decode cX0_agrees 0 = .ok (.aload_n 0, 1) := by decide +kernel
theorem dX0_agrees_1 : decode cX0_agrees 1 = .ok (.iload_n 1, 1) := by decide +kernel
theorem dX0_agrees_2 : decode cX0_agrees 2 = .ok (.invokevirtual 83, 3) := by decide +kernel
theorem dX0_agrees_5 : decode cX0_agrees 5 = .ok (.ifCond .eq 7, 3) := by decide +kernel
theorem dX0_agrees_8 : decode cX0_agrees 8 = .ok (.sipush (-1000), 3) := by decide +kernel
theorem dX0_agrees_11 : decode cX0_agrees 11 = .ok (.ireturn, 1) := by decide +kernel
theorem dX0_agrees_12 : decode cX0_agrees 12 = .ok (.aload_n 0, 1) := by decide +kernel
theorem dX0_agrees_13 : decode cX0_agrees 13 = .ok (.invokevirtual 49, 3) := by decide +kernel
theorem dX0_agrees_16 : decode cX0_agrees 16 = .ok (.aload_n 0, 1) := by decide +kernel
end
section
set_option maxRecDepth 100000
theorem dX0_agrees_17 : decode cX0_agrees 17 = .ok (.iload_n 1, 1) := by decide +kernel
theorem dX0_agrees_18 : decode cX0_agrees 18 = .ok (.invokevirtual 90, 3) := by decide +kernel
theorem dX0_agrees_21 : decode cX0_agrees 21 = .ok (.istore_n 2, 1) := by decide +kernel
theorem dX0_agrees_22 : decode cX0_agrees 22 = .ok (.iload_n 2, 1) := by decide +kernel
theorem dX0_agrees_23 : decode cX0_agrees 23 = .ok (.ifCond .eq 7, 3) := by decide +kernel
theorem dX0_agrees_26 : decode cX0_agrees 26 = .ok (.iconst 1, 1) := by decide +kernel
theorem dX0_agrees_27 : decode cX0_agrees 27 = .ok (.goto 4, 3) := by decide +kernel
theorem dX0_agrees_30 : decode cX0_agrees 30 = .ok (.iconst 0, 1) := by decide +kernel
theorem dX0_agrees_31 : decode cX0_agrees 31 = .ok (.ireturn, 1) := by decide +kernel
abbrev cX0_agreesWithAll : ByteArray := prog_1_method_27_code
def yX0_agreesWithAll : MethodName := ⟨RX0, "agreesWithAll", "(I)Z"⟩
theorem dX0_agreesWithAll_0 : decode cX0_agreesWithAll 0 = .ok (.iconst 1, 1) := by decide +kernel
theorem dX0_agreesWithAll_1 : decode cX0_agreesWithAll 1 = .ok (.istore_n 2, 1) := by decide +kernel
theorem dX0_agreesWithAll_2 : decode cX0_agreesWithAll 2 = .ok (.iconst 0, 1) := by decide +kernel
theorem dX0_agreesWithAll_3 : decode cX0_agreesWithAll 3 = .ok (.istore_n 3, 1) := by decide +kernel
theorem dX0_agreesWithAll_4 : decode cX0_agreesWithAll 4 = .ok (.iload_n 3, 1) := by decide +kernel
theorem dX0_agreesWithAll_5 : decode cX0_agreesWithAll 5 = .ok (.aload_n 0, 1) := by decide +kernel
theorem dX0_agreesWithAll_6 : decode cX0_agreesWithAll 6 = .ok (.getfield 65, 3) := by decide +kernel
theorem dX0_agreesWithAll_9 : decode cX0_agreesWithAll 9 = .ok (.if_icmp .ge 25, 3) := by decide +kernel
theorem dX0_agreesWithAll_12 : decode cX0_agreesWithAll 12 = .ok (.iload_n 2, 1) := by decide +kernel
theorem dX0_agreesWithAll_13 : decode cX0_agreesWithAll 13 = .ok (.ifCond .eq 21, 3) := by decide +kernel
theorem dX0_agreesWithAll_16 : decode cX0_agreesWithAll 16 = .ok (.aload_n 0, 1) := by decide +kernel
theorem dX0_agreesWithAll_17 : decode cX0_agreesWithAll 17 = .ok (.iload_n 1, 1) := by decide +kernel
theorem dX0_agreesWithAll_18 : decode cX0_agreesWithAll 18 = .ok (.aload_n 0, 1) := by decide +kernel
theorem dX0_agreesWithAll_19 : decode cX0_agreesWithAll 19 = .ok (.getfield 13, 3) := by decide +kernel
theorem dX0_agreesWithAll_22 : decode cX0_agreesWithAll 22 = .ok (.iload_n 3, 1) := by decide +kernel
theorem dX0_agreesWithAll_23 : decode cX0_agreesWithAll 23 = .ok (.baload, 1) := by decide +kernel
theorem dX0_agreesWithAll_24 : decode cX0_agreesWithAll 24 = .ok (.invokevirtual 86, 3) := by decide +kernel
theorem dX0_agreesWithAll_27 : decode cX0_agreesWithAll 27 = .ok (.istore_n 2, 1) := by decide +kernel
theorem dX0_agreesWithAll_28 : decode cX0_agreesWithAll 28 = .ok (.iinc 3 1, 3) := by decide +kernel
theorem dX0_agreesWithAll_31 : decode cX0_agreesWithAll 31 = .ok (.goto (-27), 3) := by decide +kernel
theorem dX0_agreesWithAll_34 : decode cX0_agreesWithAll 34 = .ok (.iload_n 2, 1) := by decide +kernel
theorem dX0_agreesWithAll_35 : decode cX0_agreesWithAll 35 = .ok (.ireturn, 1) := by decide +kernel
abbrev cX0_agree : ByteArray := prog_1_method_26_code
def yX0_agree : MethodName := ⟨RX0, "agree", "(II)Z"⟩
theorem dX0_agree_0 : decode cX0_agree 0 = .ok (.iconst 1, 1) := by decide +kernel
theorem dX0_agree_1 : decode cX0_agree 1 = .ok (.aload_n 0, 1) := by decide +kernel
theorem dX0_agree_2 : decode cX0_agree 2 = .ok (.getfield 29, 3) := by decide +kernel
theorem dX0_agree_5 : decode cX0_agree 5 = .ok (.ishl, 1) := by decide +kernel
theorem dX0_agree_6 : decode cX0_agree 6 = .ok (.iconst 1, 1) := by decide +kernel
theorem dX0_agree_7 : decode cX0_agree 7 = .ok (.isub, 1) := by decide +kernel
theorem dX0_agree_8 : decode cX0_agree 8 = .ok (.istore_n 3, 1) := by decide +kernel
theorem dX0_agree_9 : decode cX0_agree 9 = .ok (.iload_n 1, 1) := by decide +kernel
theorem dX0_agree_10 : decode cX0_agree 10 = .ok (.iload_n 2, 1) := by decide +kernel
theorem dX0_agree_11 : decode cX0_agree 11 = .ok (.iconst (-1), 1) := by decide +kernel
theorem dX0_agree_12 : decode cX0_agree 12 = .ok (.ixor, 1) := by decide +kernel
theorem dX0_agree_13 : decode cX0_agree 13 = .ok (.iand, 1) := by decide +kernel
theorem dX0_agree_14 : decode cX0_agree 14 = .ok (.ifCond .eq 18, 3) := by decide +kernel
theorem dX0_agree_17 : decode cX0_agree 17 = .ok (.iload_n 2, 1) := by decide +kernel
theorem dX0_agree_18 : decode cX0_agree 18 = .ok (.iload_n 1, 1) := by decide +kernel
theorem dX0_agree_19 : decode cX0_agree 19 = .ok (.iconst (-1), 1) := by decide +kernel
theorem dX0_agree_20 : decode cX0_agree 20 = .ok (.ixor, 1) := by decide +kernel
theorem dX0_agree_21 : decode cX0_agree 21 = .ok (.iand, 1) := by decide +kernel
theorem dX0_agree_22 : decode cX0_agree 22 = .ok (.ifCond .eq 10, 3) := by decide +kernel
theorem dX0_agree_25 : decode cX0_agree 25 = .ok (.iload_n 1, 1) := by decide +kernel
theorem dX0_agree_26 : decode cX0_agree 26 = .ok (.iload_n 2, 1) := by decide +kernel
theorem dX0_agree_27 : decode cX0_agree 27 = .ok (.ior, 1) := by decide +kernel
theorem dX0_agree_28 : decode cX0_agree 28 = .ok (.iload_n 3, 1) := by decide +kernel
theorem dX0_agree_29 : decode cX0_agree 29 = .ok (.if_icmp .ne 7, 3) := by decide +kernel
theorem dX0_agree_32 : decode cX0_agree 32 = .ok (.iconst 1, 1) := by decide +kernel
theorem dX0_agree_33 : decode cX0_agree 33 = .ok (.goto 4, 3) := by decide +kernel
theorem dX0_agree_36 : decode cX0_agree 36 = .ok (.iconst 0, 1) := by decide +kernel
theorem dX0_agree_37 : decode cX0_agree 37 = .ok (.ireturn, 1) := by decide +kernel
abbrev cX0_agreeing : ByteArray := prog_1_method_32_code
def yX0_agreeing : MethodName := ⟨RX0, "agreeing", "()I"⟩
theorem dX0_agreeing_0 : decode cX0_agreeing 0 = .ok (.aload_n 0, 1) := by decide +kernel
theorem dX0_agreeing_1 : decode cX0_agreeing 1 = .ok (.invokevirtual 49, 3) := by decide +kernel
theorem dX0_agreeing_4 : decode cX0_agreeing 4 = .ok (.aload_n 0, 1) := by decide +kernel
theorem dX0_agreeing_5 : decode cX0_agreeing 5 = .ok (.getfield 65, 3) := by decide +kernel
theorem dX0_agreeing_8 : decode cX0_agreeing 8 = .ok (.istore_n 1, 1) := by decide +kernel
theorem dX0_agreeing_9 : decode cX0_agreeing 9 = .ok (.iconst (-1), 1) := by decide +kernel
theorem dX0_agreeing_10 : decode cX0_agreeing 10 = .ok (.istore_n 2, 1) := by decide +kernel
theorem dX0_agreeing_11 : decode cX0_agreeing 11 = .ok (.iload_n 2, 1) := by decide +kernel
theorem dX0_agreeing_12 : decode cX0_agreeing 12 = .ok (.aload_n 0, 1) := by decide +kernel
theorem dX0_agreeing_13 : decode cX0_agreeing 13 = .ok (.getfield 65, 3) := by decide +kernel
theorem dX0_agreeing_16 : decode cX0_agreeing 16 = .ok (.if_icmp .ge 65, 3) := by decide +kernel
theorem dX0_agreeing_19 : decode cX0_agreeing 19 = .ok (.aload_n 0, 1) := by decide +kernel
theorem dX0_agreeing_20 : decode cX0_agreeing 20 = .ok (.iload_n 2, 1) := by decide +kernel
theorem dX0_agreeing_21 : decode cX0_agreeing 21 = .ok (.invokevirtual 100, 3) := by decide +kernel
theorem dX0_agreeing_24 : decode cX0_agreeing 24 = .ok (.istore_n 3, 1) := by decide +kernel
theorem dX0_agreeing_25 : decode cX0_agreeing 25 = .ok (.iload_n 3, 1) := by decide +kernel
theorem dX0_agreeing_26 : decode cX0_agreeing 26 = .ok (.aload_n 0, 1) := by decide +kernel
theorem dX0_agreeing_27 : decode cX0_agreeing 27 = .ok (.iload_n 2, 1) := by decide +kernel
theorem dX0_agreeing_28 : decode cX0_agreeing 28 = .ok (.invokevirtual 103, 3) := by decide +kernel
theorem dX0_agreeing_31 : decode cX0_agreeing 31 = .ok (.isub, 1) := by decide +kernel
theorem dX0_agreeing_32 : decode cX0_agreeing 32 = .ok (.istore 4, 2) := by decide +kernel
theorem dX0_agreeing_34 : decode cX0_agreeing 34 = .ok (.iload_n 3, 1) := by decide +kernel
theorem dX0_agreeing_35 : decode cX0_agreeing 35 = .ok (.iconst 2, 1) := by decide +kernel
theorem dX0_agreeing_36 : decode cX0_agreeing 36 = .ok (.if_icmp .ne 13, 3) := by decide +kernel
theorem dX0_agreeing_39 : decode cX0_agreeing 39 = .ok (.iload 4, 2) := by decide +kernel
theorem dX0_agreeing_41 : decode cX0_agreeing 41 = .ok (.iconst 1, 1) := by decide +kernel
theorem dX0_agreeing_42 : decode cX0_agreeing 42 = .ok (.if_icmp .le 7, 3) := by decide +kernel
theorem dX0_agreeing_45 : decode cX0_agreeing 45 = .ok (.iconst 1, 1) := by decide +kernel
theorem dX0_agreeing_46 : decode cX0_agreeing 46 = .ok (.goto 5, 3) := by decide +kernel
theorem dX0_agreeing_49 : decode cX0_agreeing 49 = .ok (.iload 4, 2) := by decide +kernel
theorem dX0_agreeing_51 : decode cX0_agreeing 51 = .ok (.istore 4, 2) := by decide +kernel
theorem dX0_agreeing_53 : decode cX0_agreeing 53 = .ok (.iload_n 3, 1) := by decide +kernel
theorem dX0_agreeing_54 : decode cX0_agreeing 54 = .ok (.iconst 1, 1) := by decide +kernel
theorem dX0_agreeing_55 : decode cX0_agreeing 55 = .ok (.if_icmp .le 18, 3) := by decide +kernel
theorem dX0_agreeing_58 : decode cX0_agreeing 58 = .ok (.iload_n 1, 1) := by decide +kernel
theorem dX0_agreeing_59 : decode cX0_agreeing 59 = .ok (.iconst 1, 1) := by decide +kernel
theorem dX0_agreeing_60 : decode cX0_agreeing 60 = .ok (.iload_n 3, 1) := by decide +kernel
theorem dX0_agreeing_61 : decode cX0_agreeing 61 = .ok (.iconst 1, 1) := by decide +kernel
theorem dX0_agreeing_62 : decode cX0_agreeing 62 = .ok (.isub, 1) := by decide +kernel
theorem dX0_agreeing_63 : decode cX0_agreeing 63 = .ok (.ishl, 1) := by decide +kernel
theorem dX0_agreeing_64 : decode cX0_agreeing 64 = .ok (.iadd, 1) := by decide +kernel
theorem dX0_agreeing_65 : decode cX0_agreeing 65 = .ok (.iconst 1, 1) := by decide +kernel
theorem dX0_agreeing_66 : decode cX0_agreeing 66 = .ok (.isub, 1) := by decide +kernel
theorem dX0_agreeing_67 : decode cX0_agreeing 67 = .ok (.iload 4, 2) := by decide +kernel
theorem dX0_agreeing_69 : decode cX0_agreeing 69 = .ok (.isub, 1) := by decide +kernel
theorem dX0_agreeing_70 : decode cX0_agreeing 70 = .ok (.goto 4, 3) := by decide +kernel
theorem dX0_agreeing_73 : decode cX0_agreeing 73 = .ok (.iload_n 1, 1) := by decide +kernel
theorem dX0_agreeing_74 : decode cX0_agreeing 74 = .ok (.istore_n 1, 1) := by decide +kernel
theorem dX0_agreeing_75 : decode cX0_agreeing 75 = .ok (.iinc 2 1, 3) := by decide +kernel
theorem dX0_agreeing_78 : decode cX0_agreeing 78 = .ok (.goto (-67), 3) := by decide +kernel
theorem dX0_agreeing_81 : decode cX0_agreeing 81 = .ok (.iload_n 1, 1) := by decide +kernel
theorem dX0_agreeing_82 : decode cX0_agreeing 82 = .ok (.ireturn, 1) := by decide +kernel
abbrev cX0_partsAt : ByteArray := prog_1_method_30_code
def yX0_partsAt : MethodName := ⟨RX0, "partsAt", "(I)I"⟩
theorem dX0_partsAt_0 : decode cX0_partsAt 0 = .ok (.iload_n 1, 1) := by decide +kernel
theorem dX0_partsAt_1 : decode cX0_partsAt 1 = .ok (.ifCond .ge 7, 3) := by decide +kernel
theorem dX0_partsAt_4 : decode cX0_partsAt 4 = .ok (.iconst 0, 1) := by decide +kernel
theorem dX0_partsAt_5 : decode cX0_partsAt 5 = .ok (.goto 4, 3) := by decide +kernel
theorem dX0_partsAt_8 : decode cX0_partsAt 8 = .ok (.iconst 1, 1) := by decide +kernel
theorem dX0_partsAt_9 : decode cX0_partsAt 9 = .ok (.istore_n 2, 1) := by decide +kernel
theorem dX0_partsAt_10 : decode cX0_partsAt 10 = .ok (.iconst 0, 1) := by decide +kernel
theorem dX0_partsAt_11 : decode cX0_partsAt 11 = .ok (.istore_n 3, 1) := by decide +kernel
theorem dX0_partsAt_12 : decode cX0_partsAt 12 = .ok (.iload_n 3, 1) := by decide +kernel
theorem dX0_partsAt_13 : decode cX0_partsAt 13 = .ok (.aload_n 0, 1) := by decide +kernel
theorem dX0_partsAt_14 : decode cX0_partsAt 14 = .ok (.getfield 65, 3) := by decide +kernel
theorem dX0_partsAt_17 : decode cX0_partsAt 17 = .ok (.if_icmp .ge 30, 3) := by decide +kernel
theorem dX0_partsAt_20 : decode cX0_partsAt 20 = .ok (.aload_n 0, 1) := by decide +kernel
theorem dX0_partsAt_21 : decode cX0_partsAt 21 = .ok (.iload_n 3, 1) := by decide +kernel
theorem dX0_partsAt_22 : decode cX0_partsAt 22 = .ok (.invokevirtual 93, 3) := by decide +kernel
theorem dX0_partsAt_25 : decode cX0_partsAt 25 = .ok (.istore 4, 2) := by decide +kernel
theorem dX0_partsAt_27 : decode cX0_partsAt 27 = .ok (.iload 4, 2) := by decide +kernel
theorem dX0_partsAt_29 : decode cX0_partsAt 29 = .ok (.iload_n 1, 1) := by decide +kernel
theorem dX0_partsAt_30 : decode cX0_partsAt 30 = .ok (.if_icmp .ne 9, 3) := by decide +kernel
theorem dX0_partsAt_33 : decode cX0_partsAt 33 = .ok (.iload_n 2, 1) := by decide +kernel
theorem dX0_partsAt_34 : decode cX0_partsAt 34 = .ok (.iconst 1, 1) := by decide +kernel
theorem dX0_partsAt_35 : decode cX0_partsAt 35 = .ok (.iadd, 1) := by decide +kernel
theorem dX0_partsAt_36 : decode cX0_partsAt 36 = .ok (.goto 4, 3) := by decide +kernel
theorem dX0_partsAt_39 : decode cX0_partsAt 39 = .ok (.iload_n 2, 1) := by decide +kernel
theorem dX0_partsAt_40 : decode cX0_partsAt 40 = .ok (.istore_n 2, 1) := by decide +kernel
theorem dX0_partsAt_41 : decode cX0_partsAt 41 = .ok (.iinc 3 1, 3) := by decide +kernel
theorem dX0_partsAt_44 : decode cX0_partsAt 44 = .ok (.goto (-32), 3) := by decide +kernel
theorem dX0_partsAt_47 : decode cX0_partsAt 47 = .ok (.iconst 0, 1) := by decide +kernel
theorem dX0_partsAt_48 : decode cX0_partsAt 48 = .ok (.istore_n 3, 1) := by decide +kernel
theorem dX0_partsAt_49 : decode cX0_partsAt 49 = .ok (.iload_n 3, 1) := by decide +kernel
theorem dX0_partsAt_50 : decode cX0_partsAt 50 = .ok (.aload_n 0, 1) := by decide +kernel
theorem dX0_partsAt_51 : decode cX0_partsAt 51 = .ok (.getfield 29, 3) := by decide +kernel
theorem dX0_partsAt_54 : decode cX0_partsAt 54 = .ok (.if_icmp .ge 30, 3) := by decide +kernel
theorem dX0_partsAt_57 : decode cX0_partsAt 57 = .ok (.aload_n 0, 1) := by decide +kernel
theorem dX0_partsAt_58 : decode cX0_partsAt 58 = .ok (.iload_n 3, 1) := by decide +kernel
theorem dX0_partsAt_59 : decode cX0_partsAt 59 = .ok (.invokevirtual 97, 3) := by decide +kernel
theorem dX0_partsAt_62 : decode cX0_partsAt 62 = .ok (.istore 4, 2) := by decide +kernel
theorem dX0_partsAt_64 : decode cX0_partsAt 64 = .ok (.iload 4, 2) := by decide +kernel
theorem dX0_partsAt_66 : decode cX0_partsAt 66 = .ok (.iload_n 1, 1) := by decide +kernel
theorem dX0_partsAt_67 : decode cX0_partsAt 67 = .ok (.if_icmp .ne 9, 3) := by decide +kernel
theorem dX0_partsAt_70 : decode cX0_partsAt 70 = .ok (.iload_n 2, 1) := by decide +kernel
theorem dX0_partsAt_71 : decode cX0_partsAt 71 = .ok (.iconst 1, 1) := by decide +kernel
theorem dX0_partsAt_72 : decode cX0_partsAt 72 = .ok (.iadd, 1) := by decide +kernel
theorem dX0_partsAt_73 : decode cX0_partsAt 73 = .ok (.goto 4, 3) := by decide +kernel
theorem dX0_partsAt_76 : decode cX0_partsAt 76 = .ok (.iload_n 2, 1) := by decide +kernel
theorem dX0_partsAt_77 : decode cX0_partsAt 77 = .ok (.istore_n 2, 1) := by decide +kernel
theorem dX0_partsAt_78 : decode cX0_partsAt 78 = .ok (.iinc 3 1, 3) := by decide +kernel
theorem dX0_partsAt_81 : decode cX0_partsAt 81 = .ok (.goto (-32), 3) := by decide +kernel
theorem dX0_partsAt_84 : decode cX0_partsAt 84 = .ok (.iload_n 2, 1) := by decide +kernel
theorem dX0_partsAt_85 : decode cX0_partsAt 85 = .ok (.ireturn, 1) := by decide +kernel
abbrev cX0_above : ByteArray := prog_1_method_29_code
def yX0_above : MethodName := ⟨RX0, "above", "(I)I"⟩
theorem dX0_above_0 : decode cX0_above 0 = .ok (.iconst (-1), 1) := by decide +kernel
theorem dX0_above_1 : decode cX0_above 1 = .ok (.istore_n 2, 1) := by decide +kernel
theorem dX0_above_2 : decode cX0_above 2 = .ok (.iconst 0, 1) := by decide +kernel
theorem dX0_above_3 : decode cX0_above 3 = .ok (.istore_n 3, 1) := by decide +kernel
theorem dX0_above_4 : decode cX0_above 4 = .ok (.iload_n 3, 1) := by decide +kernel
theorem dX0_above_5 : decode cX0_above 5 = .ok (.aload_n 0, 1) := by decide +kernel
theorem dX0_above_6 : decode cX0_above 6 = .ok (.getfield 65, 3) := by decide +kernel
theorem dX0_above_9 : decode cX0_above 9 = .ok (.if_icmp .ge 72, 3) := by decide +kernel
theorem dX0_above_12 : decode cX0_above 12 = .ok (.iload_n 3, 1) := by decide +kernel
theorem dX0_above_13 : decode cX0_above 13 = .ok (.iload_n 1, 1) := by decide +kernel
theorem dX0_above_14 : decode cX0_above 14 = .ok (.if_icmp .eq 25, 3) := by decide +kernel
theorem dX0_above_17 : decode cX0_above 17 = .ok (.aload_n 0, 1) := by decide +kernel
theorem dX0_above_18 : decode cX0_above 18 = .ok (.getfield 13, 3) := by decide +kernel
theorem dX0_above_21 : decode cX0_above 21 = .ok (.iload_n 3, 1) := by decide +kernel
theorem dX0_above_22 : decode cX0_above 22 = .ok (.baload, 1) := by decide +kernel
theorem dX0_above_23 : decode cX0_above 23 = .ok (.aload_n 0, 1) := by decide +kernel
theorem dX0_above_24 : decode cX0_above 24 = .ok (.getfield 13, 3) := by decide +kernel
theorem dX0_above_27 : decode cX0_above 27 = .ok (.iload_n 1, 1) := by decide +kernel
theorem dX0_above_28 : decode cX0_above 28 = .ok (.baload, 1) := by decide +kernel
theorem dX0_above_29 : decode cX0_above 29 = .ok (.iconst (-1), 1) := by decide +kernel
theorem dX0_above_30 : decode cX0_above 30 = .ok (.ixor, 1) := by decide +kernel
theorem dX0_above_31 : decode cX0_above 31 = .ok (.iand, 1) := by decide +kernel
theorem dX0_above_32 : decode cX0_above 32 = .ok (.ifCond .ne 7, 3) := by decide +kernel
theorem dX0_above_35 : decode cX0_above 35 = .ok (.iconst 1, 1) := by decide +kernel
theorem dX0_above_36 : decode cX0_above 36 = .ok (.goto 4, 3) := by decide +kernel
theorem dX0_above_39 : decode cX0_above 39 = .ok (.iconst 0, 1) := by decide +kernel
theorem dX0_above_40 : decode cX0_above 40 = .ok (.istore 4, 2) := by decide +kernel
theorem dX0_above_42 : decode cX0_above 42 = .ok (.iload 4, 2) := by decide +kernel
theorem dX0_above_44 : decode cX0_above 44 = .ok (.ifCond .eq 29, 3) := by decide +kernel
theorem dX0_above_47 : decode cX0_above 47 = .ok (.iload_n 2, 1) := by decide +kernel
theorem dX0_above_48 : decode cX0_above 48 = .ok (.ifCond .lt 21, 3) := by decide +kernel
theorem dX0_above_51 : decode cX0_above 51 = .ok (.aload_n 0, 1) := by decide +kernel
theorem dX0_above_52 : decode cX0_above 52 = .ok (.getfield 13, 3) := by decide +kernel
theorem dX0_above_55 : decode cX0_above 55 = .ok (.iload_n 2, 1) := by decide +kernel
theorem dX0_above_56 : decode cX0_above 56 = .ok (.baload, 1) := by decide +kernel
theorem dX0_above_57 : decode cX0_above 57 = .ok (.aload_n 0, 1) := by decide +kernel
theorem dX0_above_58 : decode cX0_above 58 = .ok (.getfield 13, 3) := by decide +kernel
theorem dX0_above_61 : decode cX0_above 61 = .ok (.iload_n 3, 1) := by decide +kernel
theorem dX0_above_62 : decode cX0_above 62 = .ok (.baload, 1) := by decide +kernel
theorem dX0_above_63 : decode cX0_above 63 = .ok (.iconst (-1), 1) := by decide +kernel
theorem dX0_above_64 : decode cX0_above 64 = .ok (.ixor, 1) := by decide +kernel
theorem dX0_above_65 : decode cX0_above 65 = .ok (.iand, 1) := by decide +kernel
theorem dX0_above_66 : decode cX0_above 66 = .ok (.ifCond .ne 7, 3) := by decide +kernel
theorem dX0_above_69 : decode cX0_above 69 = .ok (.iload_n 3, 1) := by decide +kernel
theorem dX0_above_70 : decode cX0_above 70 = .ok (.goto 4, 3) := by decide +kernel
theorem dX0_above_73 : decode cX0_above 73 = .ok (.iload_n 2, 1) := by decide +kernel
theorem dX0_above_74 : decode cX0_above 74 = .ok (.istore_n 2, 1) := by decide +kernel
theorem dX0_above_75 : decode cX0_above 75 = .ok (.iinc 3 1, 3) := by decide +kernel
theorem dX0_above_78 : decode cX0_above 78 = .ok (.goto (-74), 3) := by decide +kernel
theorem dX0_above_81 : decode cX0_above 81 = .ok (.iload_n 2, 1) := by decide +kernel
theorem dX0_above_82 : decode cX0_above 82 = .ok (.ireturn, 1) := by decide +kernel
abbrev cX0_homeOf : ByteArray := prog_1_method_31_code
def yX0_homeOf : MethodName := ⟨RX0, "homeOf", "(I)I"⟩
theorem dX0_homeOf_0 : decode cX0_homeOf 0 = .ok (.iconst (-1), 1) := by decide +kernel
theorem dX0_homeOf_1 : decode cX0_homeOf 1 = .ok (.istore_n 2, 1) := by decide +kernel
theorem dX0_homeOf_2 : decode cX0_homeOf 2 = .ok (.iconst 0, 1) := by decide +kernel
theorem dX0_homeOf_3 : decode cX0_homeOf 3 = .ok (.istore_n 3, 1) := by decide +kernel
theorem dX0_homeOf_4 : decode cX0_homeOf 4 = .ok (.iload_n 3, 1) := by decide +kernel
theorem dX0_homeOf_5 : decode cX0_homeOf 5 = .ok (.aload_n 0, 1) := by decide +kernel
theorem dX0_homeOf_6 : decode cX0_homeOf 6 = .ok (.getfield 65, 3) := by decide +kernel
theorem dX0_homeOf_9 : decode cX0_homeOf 9 = .ok (.if_icmp .ge 62, 3) := by decide +kernel
theorem dX0_homeOf_12 : decode cX0_homeOf 12 = .ok (.aload_n 0, 1) := by decide +kernel
theorem dX0_homeOf_13 : decode cX0_homeOf 13 = .ok (.getfield 13, 3) := by decide +kernel
theorem dX0_homeOf_16 : decode cX0_homeOf 16 = .ok (.iload_n 3, 1) := by decide +kernel
theorem dX0_homeOf_17 : decode cX0_homeOf 17 = .ok (.baload, 1) := by decide +kernel
theorem dX0_homeOf_18 : decode cX0_homeOf 18 = .ok (.iload_n 1, 1) := by decide +kernel
theorem dX0_homeOf_19 : decode cX0_homeOf 19 = .ok (.ishr, 1) := by decide +kernel
theorem dX0_homeOf_20 : decode cX0_homeOf 20 = .ok (.iconst 1, 1) := by decide +kernel
theorem dX0_homeOf_21 : decode cX0_homeOf 21 = .ok (.iand, 1) := by decide +kernel
theorem dX0_homeOf_22 : decode cX0_homeOf 22 = .ok (.ifCond .ne 7, 3) := by decide +kernel
theorem dX0_homeOf_25 : decode cX0_homeOf 25 = .ok (.iconst 1, 1) := by decide +kernel
theorem dX0_homeOf_26 : decode cX0_homeOf 26 = .ok (.goto 4, 3) := by decide +kernel
theorem dX0_homeOf_29 : decode cX0_homeOf 29 = .ok (.iconst 0, 1) := by decide +kernel
theorem dX0_homeOf_30 : decode cX0_homeOf 30 = .ok (.istore 4, 2) := by decide +kernel
theorem dX0_homeOf_32 : decode cX0_homeOf 32 = .ok (.iload 4, 2) := by decide +kernel
theorem dX0_homeOf_34 : decode cX0_homeOf 34 = .ok (.ifCond .eq 29, 3) := by decide +kernel
theorem dX0_homeOf_37 : decode cX0_homeOf 37 = .ok (.iload_n 2, 1) := by decide +kernel
theorem dX0_homeOf_38 : decode cX0_homeOf 38 = .ok (.ifCond .lt 21, 3) := by decide +kernel
theorem dX0_homeOf_41 : decode cX0_homeOf 41 = .ok (.aload_n 0, 1) := by decide +kernel
theorem dX0_homeOf_42 : decode cX0_homeOf 42 = .ok (.getfield 13, 3) := by decide +kernel
theorem dX0_homeOf_45 : decode cX0_homeOf 45 = .ok (.iload_n 2, 1) := by decide +kernel
theorem dX0_homeOf_46 : decode cX0_homeOf 46 = .ok (.baload, 1) := by decide +kernel
theorem dX0_homeOf_47 : decode cX0_homeOf 47 = .ok (.aload_n 0, 1) := by decide +kernel
theorem dX0_homeOf_48 : decode cX0_homeOf 48 = .ok (.getfield 13, 3) := by decide +kernel
theorem dX0_homeOf_51 : decode cX0_homeOf 51 = .ok (.iload_n 3, 1) := by decide +kernel
theorem dX0_homeOf_52 : decode cX0_homeOf 52 = .ok (.baload, 1) := by decide +kernel
theorem dX0_homeOf_53 : decode cX0_homeOf 53 = .ok (.iconst (-1), 1) := by decide +kernel
theorem dX0_homeOf_54 : decode cX0_homeOf 54 = .ok (.ixor, 1) := by decide +kernel
theorem dX0_homeOf_55 : decode cX0_homeOf 55 = .ok (.iand, 1) := by decide +kernel
theorem dX0_homeOf_56 : decode cX0_homeOf 56 = .ok (.ifCond .ne 7, 3) := by decide +kernel
theorem dX0_homeOf_59 : decode cX0_homeOf 59 = .ok (.iload_n 3, 1) := by decide +kernel
theorem dX0_homeOf_60 : decode cX0_homeOf 60 = .ok (.goto 4, 3) := by decide +kernel
theorem dX0_homeOf_63 : decode cX0_homeOf 63 = .ok (.iload_n 2, 1) := by decide +kernel
theorem dX0_homeOf_64 : decode cX0_homeOf 64 = .ok (.istore_n 2, 1) := by decide +kernel
theorem dX0_homeOf_65 : decode cX0_homeOf 65 = .ok (.iinc 3 1, 3) := by decide +kernel
theorem dX0_homeOf_68 : decode cX0_homeOf 68 = .ok (.goto (-64), 3) := by decide +kernel
theorem dX0_homeOf_71 : decode cX0_homeOf 71 = .ok (.iload_n 2, 1) := by decide +kernel
theorem dX0_homeOf_72 : decode cX0_homeOf 72 = .ok (.ireturn, 1) := by decide +kernel
abbrev cX0_pointsAt : ByteArray := prog_1_method_33_code
def yX0_pointsAt : MethodName := ⟨RX0, "pointsAt", "(I)I"⟩
theorem dX0_pointsAt_0 : decode cX0_pointsAt 0 = .ok (.iconst 0, 1) := by decide +kernel
theorem dX0_pointsAt_1 : decode cX0_pointsAt 1 = .ok (.istore_n 2, 1) := by decide +kernel
theorem dX0_pointsAt_2 : decode cX0_pointsAt 2 = .ok (.iconst 0, 1) := by decide +kernel
theorem dX0_pointsAt_3 : decode cX0_pointsAt 3 = .ok (.istore_n 3, 1) := by decide +kernel
theorem dX0_pointsAt_4 : decode cX0_pointsAt 4 = .ok (.iload_n 3, 1) := by decide +kernel
theorem dX0_pointsAt_5 : decode cX0_pointsAt 5 = .ok (.aload_n 0, 1) := by decide +kernel
theorem dX0_pointsAt_6 : decode cX0_pointsAt 6 = .ok (.getfield 29, 3) := by decide +kernel
theorem dX0_pointsAt_9 : decode cX0_pointsAt 9 = .ok (.if_icmp .ge 30, 3) := by decide +kernel
theorem dX0_pointsAt_12 : decode cX0_pointsAt 12 = .ok (.aload_n 0, 1) := by decide +kernel
theorem dX0_pointsAt_13 : decode cX0_pointsAt 13 = .ok (.iload_n 3, 1) := by decide +kernel
theorem dX0_pointsAt_14 : decode cX0_pointsAt 14 = .ok (.invokevirtual 97, 3) := by decide +kernel
theorem dX0_pointsAt_17 : decode cX0_pointsAt 17 = .ok (.istore 4, 2) := by decide +kernel
theorem dX0_pointsAt_19 : decode cX0_pointsAt 19 = .ok (.iload 4, 2) := by decide +kernel
theorem dX0_pointsAt_21 : decode cX0_pointsAt 21 = .ok (.iload_n 1, 1) := by decide +kernel
theorem dX0_pointsAt_22 : decode cX0_pointsAt 22 = .ok (.if_icmp .ne 9, 3) := by decide +kernel
theorem dX0_pointsAt_25 : decode cX0_pointsAt 25 = .ok (.iload_n 2, 1) := by decide +kernel
theorem dX0_pointsAt_26 : decode cX0_pointsAt 26 = .ok (.iconst 1, 1) := by decide +kernel
theorem dX0_pointsAt_27 : decode cX0_pointsAt 27 = .ok (.iadd, 1) := by decide +kernel
theorem dX0_pointsAt_28 : decode cX0_pointsAt 28 = .ok (.goto 4, 3) := by decide +kernel
theorem dX0_pointsAt_31 : decode cX0_pointsAt 31 = .ok (.iload_n 2, 1) := by decide +kernel
theorem dX0_pointsAt_32 : decode cX0_pointsAt 32 = .ok (.istore_n 2, 1) := by decide +kernel
theorem dX0_pointsAt_33 : decode cX0_pointsAt 33 = .ok (.iinc 3 1, 3) := by decide +kernel
theorem dX0_pointsAt_36 : decode cX0_pointsAt 36 = .ok (.goto (-32), 3) := by decide +kernel
theorem dX0_pointsAt_39 : decode cX0_pointsAt 39 = .ok (.iload_n 2, 1) := by decide +kernel
theorem dX0_pointsAt_40 : decode cX0_pointsAt 40 = .ok (.ireturn, 1) := by decide +kernel
abbrev cX0_treelike : ByteArray := prog_1_method_34_code
def yX0_treelike : MethodName := ⟨RX0, "treelike", "()I"⟩
theorem dX0_treelike_0 : decode cX0_treelike 0 = .ok (.aload_n 0, 1) := by decide +kernel
theorem dX0_treelike_1 : decode cX0_treelike 1 = .ok (.invokevirtual 49, 3) := by decide +kernel
theorem dX0_treelike_4 : decode cX0_treelike 4 = .ok (.iconst 1, 1) := by decide +kernel
theorem dX0_treelike_5 : decode cX0_treelike 5 = .ok (.istore_n 1, 1) := by decide +kernel
theorem dX0_treelike_6 : decode cX0_treelike 6 = .ok (.iconst 0, 1) := by decide +kernel
theorem dX0_treelike_7 : decode cX0_treelike 7 = .ok (.istore_n 2, 1) := by decide +kernel
theorem dX0_treelike_8 : decode cX0_treelike 8 = .ok (.iload_n 2, 1) := by decide +kernel
theorem dX0_treelike_9 : decode cX0_treelike 9 = .ok (.aload_n 0, 1) := by decide +kernel
theorem dX0_treelike_10 : decode cX0_treelike 10 = .ok (.getfield 29, 3) := by decide +kernel
theorem dX0_treelike_13 : decode cX0_treelike 13 = .ok (.aload_n 0, 1) := by decide +kernel
theorem dX0_treelike_14 : decode cX0_treelike 14 = .ok (.getfield 29, 3) := by decide +kernel
theorem dX0_treelike_17 : decode cX0_treelike 17 = .ok (.imul, 1) := by decide +kernel
theorem dX0_treelike_18 : decode cX0_treelike 18 = .ok (.if_icmp .ge 58, 3) := by decide +kernel
theorem dX0_treelike_21 : decode cX0_treelike 21 = .ok (.aload_n 0, 1) := by decide +kernel
theorem dX0_treelike_22 : decode cX0_treelike 22 = .ok (.iload_n 2, 1) := by decide +kernel
theorem dX0_treelike_23 : decode cX0_treelike 23 = .ok (.aload_n 0, 1) := by decide +kernel
theorem dX0_treelike_24 : decode cX0_treelike 24 = .ok (.getfield 29, 3) := by decide +kernel
theorem dX0_treelike_27 : decode cX0_treelike 27 = .ok (.idiv, 1) := by decide +kernel
theorem dX0_treelike_28 : decode cX0_treelike 28 = .ok (.iload_n 2, 1) := by decide +kernel
theorem dX0_treelike_29 : decode cX0_treelike 29 = .ok (.aload_n 0, 1) := by decide +kernel
theorem dX0_treelike_30 : decode cX0_treelike 30 = .ok (.getfield 29, 3) := by decide +kernel
theorem dX0_treelike_33 : decode cX0_treelike 33 = .ok (.irem, 1) := by decide +kernel
theorem dX0_treelike_34 : decode cX0_treelike 34 = .ok (.invokevirtual 52, 3) := by decide +kernel
theorem dX0_treelike_37 : decode cX0_treelike 37 = .ok (.istore_n 3, 1) := by decide +kernel
theorem dX0_treelike_38 : decode cX0_treelike 38 = .ok (.iload_n 1, 1) := by decide +kernel
theorem dX0_treelike_39 : decode cX0_treelike 39 = .ok (.ifCond .eq 29, 3) := by decide +kernel
theorem dX0_treelike_42 : decode cX0_treelike 42 = .ok (.iload_n 3, 1) := by decide +kernel
theorem dX0_treelike_43 : decode cX0_treelike 43 = .ok (.iconst 2, 1) := by decide +kernel
theorem dX0_treelike_44 : decode cX0_treelike 44 = .ok (.aload_n 0, 1) := by decide +kernel
theorem dX0_treelike_45 : decode cX0_treelike 45 = .ok (.iload_n 2, 1) := by decide +kernel
theorem dX0_treelike_46 : decode cX0_treelike 46 = .ok (.aload_n 0, 1) := by decide +kernel
theorem dX0_treelike_47 : decode cX0_treelike 47 = .ok (.getfield 29, 3) := by decide +kernel
theorem dX0_treelike_50 : decode cX0_treelike 50 = .ok (.idiv, 1) := by decide +kernel
theorem dX0_treelike_51 : decode cX0_treelike 51 = .ok (.iload_n 2, 1) := by decide +kernel
theorem dX0_treelike_52 : decode cX0_treelike 52 = .ok (.aload_n 0, 1) := by decide +kernel
theorem dX0_treelike_53 : decode cX0_treelike 53 = .ok (.getfield 29, 3) := by decide +kernel
theorem dX0_treelike_56 : decode cX0_treelike 56 = .ok (.irem, 1) := by decide +kernel
theorem dX0_treelike_57 : decode cX0_treelike 57 = .ok (.invokevirtual 45, 3) := by decide +kernel
theorem dX0_treelike_60 : decode cX0_treelike 60 = .ok (.imul, 1) := by decide +kernel
theorem dX0_treelike_61 : decode cX0_treelike 61 = .ok (.if_icmp .ne 7, 3) := by decide +kernel
theorem dX0_treelike_64 : decode cX0_treelike 64 = .ok (.iconst 1, 1) := by decide +kernel
theorem dX0_treelike_65 : decode cX0_treelike 65 = .ok (.goto 4, 3) := by decide +kernel
theorem dX0_treelike_68 : decode cX0_treelike 68 = .ok (.iconst 0, 1) := by decide +kernel
theorem dX0_treelike_69 : decode cX0_treelike 69 = .ok (.istore_n 1, 1) := by decide +kernel
theorem dX0_treelike_70 : decode cX0_treelike 70 = .ok (.iinc 2 1, 3) := by decide +kernel
theorem dX0_treelike_73 : decode cX0_treelike 73 = .ok (.goto (-65), 3) := by decide +kernel
theorem dX0_treelike_76 : decode cX0_treelike 76 = .ok (.iload_n 1, 1) := by decide +kernel
theorem dX0_treelike_77 : decode cX0_treelike 77 = .ok (.ifCond .eq 7, 3) := by decide +kernel
theorem dX0_treelike_80 : decode cX0_treelike 80 = .ok (.iconst 1, 1) := by decide +kernel
theorem dX0_treelike_81 : decode cX0_treelike 81 = .ok (.goto 4, 3) := by decide +kernel
theorem dX0_treelike_84 : decode cX0_treelike 84 = .ok (.iconst 0, 1) := by decide +kernel
theorem dX0_treelike_85 : decode cX0_treelike 85 = .ok (.ireturn, 1) := by decide +kernel
abbrev cX0_span : ByteArray := prog_1_method_35_code
def yX0_span : MethodName := ⟨RX0, "span", "()I"⟩
theorem dX0_span_0 : decode cX0_span 0 = .ok (.aload_n 0, 1) := by decide +kernel
theorem dX0_span_1 : decode cX0_span 1 = .ok (.invokevirtual 49, 3) := by decide +kernel
theorem dX0_span_4 : decode cX0_span 4 = .ok (.iconst 0, 1) := by decide +kernel
theorem dX0_span_5 : decode cX0_span 5 = .ok (.istore_n 1, 1) := by decide +kernel
theorem dX0_span_6 : decode cX0_span 6 = .ok (.iconst 0, 1) := by decide +kernel
theorem dX0_span_7 : decode cX0_span 7 = .ok (.istore_n 2, 1) := by decide +kernel
theorem dX0_span_8 : decode cX0_span 8 = .ok (.iload_n 2, 1) := by decide +kernel
theorem dX0_span_9 : decode cX0_span 9 = .ok (.aload_n 0, 1) := by decide +kernel
theorem dX0_span_10 : decode cX0_span 10 = .ok (.getfield 29, 3) := by decide +kernel
theorem dX0_span_13 : decode cX0_span 13 = .ok (.aload_n 0, 1) := by decide +kernel
theorem dX0_span_14 : decode cX0_span 14 = .ok (.getfield 29, 3) := by decide +kernel
theorem dX0_span_17 : decode cX0_span 17 = .ok (.imul, 1) := by decide +kernel
theorem dX0_span_18 : decode cX0_span 18 = .ok (.if_icmp .ge 37, 3) := by decide +kernel
theorem dX0_span_21 : decode cX0_span 21 = .ok (.aload_n 0, 1) := by decide +kernel
theorem dX0_span_22 : decode cX0_span 22 = .ok (.iload_n 2, 1) := by decide +kernel
theorem dX0_span_23 : decode cX0_span 23 = .ok (.aload_n 0, 1) := by decide +kernel
theorem dX0_span_24 : decode cX0_span 24 = .ok (.getfield 29, 3) := by decide +kernel
theorem dX0_span_27 : decode cX0_span 27 = .ok (.idiv, 1) := by decide +kernel
theorem dX0_span_28 : decode cX0_span 28 = .ok (.iload_n 2, 1) := by decide +kernel
theorem dX0_span_29 : decode cX0_span 29 = .ok (.aload_n 0, 1) := by decide +kernel
theorem dX0_span_30 : decode cX0_span 30 = .ok (.getfield 29, 3) := by decide +kernel
theorem dX0_span_33 : decode cX0_span 33 = .ok (.irem, 1) := by decide +kernel
theorem dX0_span_34 : decode cX0_span 34 = .ok (.invokevirtual 52, 3) := by decide +kernel
theorem dX0_span_37 : decode cX0_span 37 = .ok (.istore_n 3, 1) := by decide +kernel
theorem dX0_span_38 : decode cX0_span 38 = .ok (.iload_n 3, 1) := by decide +kernel
theorem dX0_span_39 : decode cX0_span 39 = .ok (.iload_n 1, 1) := by decide +kernel
theorem dX0_span_40 : decode cX0_span 40 = .ok (.if_icmp .le 7, 3) := by decide +kernel
theorem dX0_span_43 : decode cX0_span 43 = .ok (.iload_n 3, 1) := by decide +kernel
theorem dX0_span_44 : decode cX0_span 44 = .ok (.goto 4, 3) := by decide +kernel
theorem dX0_span_47 : decode cX0_span 47 = .ok (.iload_n 1, 1) := by decide +kernel
theorem dX0_span_48 : decode cX0_span 48 = .ok (.istore_n 1, 1) := by decide +kernel
theorem dX0_span_49 : decode cX0_span 49 = .ok (.iinc 2 1, 3) := by decide +kernel
theorem dX0_span_52 : decode cX0_span 52 = .ok (.goto (-44), 3) := by decide +kernel
theorem dX0_span_55 : decode cX0_span 55 = .ok (.iload_n 1, 1) := by decide +kernel
theorem dX0_span_56 : decode cX0_span 56 = .ok (.ireturn, 1) := by decide +kernel
abbrev cX0_weight : ByteArray := prog_1_method_36_code
def yX0_weight : MethodName := ⟨RX0, "weight", "()I"⟩
theorem dX0_weight_0 : decode cX0_weight 0 = .ok (.aload_n 0, 1) := by decide +kernel
theorem dX0_weight_1 : decode cX0_weight 1 = .ok (.invokevirtual 49, 3) := by decide +kernel
theorem dX0_weight_4 : decode cX0_weight 4 = .ok (.iconst 0, 1) := by decide +kernel
theorem dX0_weight_5 : decode cX0_weight 5 = .ok (.istore_n 1, 1) := by decide +kernel
theorem dX0_weight_6 : decode cX0_weight 6 = .ok (.iconst 0, 1) := by decide +kernel
theorem dX0_weight_7 : decode cX0_weight 7 = .ok (.istore_n 2, 1) := by decide +kernel
theorem dX0_weight_8 : decode cX0_weight 8 = .ok (.iload_n 2, 1) := by decide +kernel
theorem dX0_weight_9 : decode cX0_weight 9 = .ok (.aload_n 0, 1) := by decide +kernel
theorem dX0_weight_10 : decode cX0_weight 10 = .ok (.getfield 65, 3) := by decide +kernel
theorem dX0_weight_13 : decode cX0_weight 13 = .ok (.if_icmp .ge 18, 3) := by decide +kernel
theorem dX0_weight_16 : decode cX0_weight 16 = .ok (.iload_n 1, 1) := by decide +kernel
theorem dX0_weight_17 : decode cX0_weight 17 = .ok (.aload_n 0, 1) := by decide +kernel
theorem dX0_weight_18 : decode cX0_weight 18 = .ok (.getfield 16, 3) := by decide +kernel
theorem dX0_weight_21 : decode cX0_weight 21 = .ok (.iload_n 2, 1) := by decide +kernel
theorem dX0_weight_22 : decode cX0_weight 22 = .ok (.iaload, 1) := by decide +kernel
theorem dX0_weight_23 : decode cX0_weight 23 = .ok (.iadd, 1) := by decide +kernel
theorem dX0_weight_24 : decode cX0_weight 24 = .ok (.istore_n 1, 1) := by decide +kernel
theorem dX0_weight_25 : decode cX0_weight 25 = .ok (.iinc 2 1, 3) := by decide +kernel
theorem dX0_weight_28 : decode cX0_weight 28 = .ok (.goto (-20), 3) := by decide +kernel
theorem dX0_weight_31 : decode cX0_weight 31 = .ok (.iload_n 1, 1) := by decide +kernel
theorem dX0_weight_32 : decode cX0_weight 32 = .ok (.ireturn, 1) := by decide +kernel
theorem q29 : (Jvm.Cond.initialized "SplitTree") ∈ lw_all := lw_g (lw_at lw_m1 1 rfl) rfl
theorem q32 : (Jvm.Cond.instantiable "SplitTree" (10 : Nat)) ∈ lw_all := lw_g (lw_at lw_m1 4 rfl) rfl
theorem q34 : (Jvm.Cond.instanceMethod ({ cls := "SplitTree", name := "<init>", desc := "()V" } : Jvm.MethodName)) ∈ lw_all := lw_g (lw_at lw_m1 6 rfl) rfl
theorem q35 : (Jvm.Cond.code ({ cls := "SplitTree", name := "<init>", desc := "()V" } : Jvm.MethodName) prog_1_method_1_code (1 : Nat) (Option.none : Option Jvm.ClassFile.FieldType)) ∈ lw_all := lw_g (lw_at lw_m1 7 rfl) rfl
theorem q36 : (Jvm.Cond.methodLink "SplitTree" (1 : Nat) ({ cls := "java/lang/Object", name := "<init>", desc := "()V" } : Jvm.MethodName)) ∈ lw_all := lw_g (lw_at lw_m1 8 rfl) rfl
theorem q39 : (Jvm.Cond.fieldLink "SplitTree" (29 : Nat) "SplitTree" "count" "I") ∈ lw_all := lw_g (lw_at lw_m1 11 rfl) rfl
theorem q40 : (Jvm.Cond.fieldLink "SplitTree" (7 : Nat) "SplitTree" "between" "[B") ∈ lw_all := lw_g (lw_at lw_m1 12 rfl) rfl
theorem q41 : (Jvm.Cond.fieldLink "SplitTree" (33 : Nat) "SplitTree" "known" "Z") ∈ lw_all := lw_g (lw_at lw_m1 13 rfl) rfl
theorem q42 : (Jvm.Cond.fieldLink "SplitTree" (65 : Nat) "SplitTree" "found" "I") ∈ lw_all := lw_g (lw_at lw_m1 14 rfl) rfl
theorem q43 : (Jvm.Cond.fieldLink "SplitTree" (13 : Nat) "SplitTree" "side" "[B") ∈ lw_all := lw_g (lw_at lw_m1 15 rfl) rfl
theorem q44 : (Jvm.Cond.fieldLink "SplitTree" (16 : Nat) "SplitTree" "indices" "[I") ∈ lw_all := lw_g (lw_at lw_m1 16 rfl) rfl
theorem q45 : (Jvm.Cond.fieldLink "SplitTree" (62 : Nat) "SplitTree" "fresh" "I") ∈ lw_all := lw_g (lw_at lw_m1 17 rfl) rfl
theorem q46 : (Jvm.Cond.fieldLink "SplitTree" (20 : Nat) "SplitTree" "freshSide" "[B") ∈ lw_all := lw_g (lw_at lw_m1 18 rfl) rfl
theorem q47 : (Jvm.Cond.fieldLink "SplitTree" (23 : Nat) "SplitTree" "freshIndex" "[I") ∈ lw_all := lw_g (lw_at lw_m1 19 rfl) rfl
theorem q48 : (Jvm.Cond.fieldLink "SplitTree" (26 : Nat) "SplitTree" "kept" "[B") ∈ lw_all := lw_g (lw_at lw_m1 20 rfl) rfl
theorem q49 : (Jvm.Cond.lays "SplitTree" "SplitTree" "count" "I") ∈ lw_all := lw_g (lw_at lw_m1 21 rfl) rfl
theorem q50 : (Jvm.Cond.soleField "SplitTree" "count") ∈ lw_all := lw_g (lw_at lw_m1 22 rfl) rfl
theorem q51 : (Jvm.Cond.laysFinal "SplitTree" "SplitTree" "between" "[B") ∈ lw_all := lw_g (lw_at lw_m1 23 rfl) rfl
theorem q52 : (Jvm.Cond.soleField "SplitTree" "between") ∈ lw_all := lw_g (lw_at lw_m1 24 rfl) rfl
theorem q53 : (Jvm.Cond.lays "SplitTree" "SplitTree" "known" "Z") ∈ lw_all := lw_g (lw_at lw_m1 25 rfl) rfl
theorem q54 : (Jvm.Cond.soleField "SplitTree" "known") ∈ lw_all := lw_g (lw_at lw_m1 26 rfl) rfl
theorem q55 : (Jvm.Cond.lays "SplitTree" "SplitTree" "found" "I") ∈ lw_all := lw_g (lw_at lw_m1 27 rfl) rfl
theorem q56 : (Jvm.Cond.soleField "SplitTree" "found") ∈ lw_all := lw_g (lw_at lw_m1 28 rfl) rfl
theorem q57 : (Jvm.Cond.laysFinal "SplitTree" "SplitTree" "side" "[B") ∈ lw_all := lw_g (lw_at lw_m1 29 rfl) rfl
theorem q58 : (Jvm.Cond.soleField "SplitTree" "side") ∈ lw_all := lw_g (lw_at lw_m1 30 rfl) rfl
theorem q59 : (Jvm.Cond.laysFinal "SplitTree" "SplitTree" "indices" "[I") ∈ lw_all := lw_g (lw_at lw_m1 31 rfl) rfl
theorem q60 : (Jvm.Cond.soleField "SplitTree" "indices") ∈ lw_all := lw_g (lw_at lw_m1 32 rfl) rfl
theorem q61 : (Jvm.Cond.lays "SplitTree" "SplitTree" "fresh" "I") ∈ lw_all := lw_g (lw_at lw_m1 33 rfl) rfl
theorem q62 : (Jvm.Cond.soleField "SplitTree" "fresh") ∈ lw_all := lw_g (lw_at lw_m1 34 rfl) rfl
theorem q63 : (Jvm.Cond.laysFinal "SplitTree" "SplitTree" "freshSide" "[B") ∈ lw_all := lw_g (lw_at lw_m1 35 rfl) rfl
theorem q64 : (Jvm.Cond.soleField "SplitTree" "freshSide") ∈ lw_all := lw_g (lw_at lw_m1 36 rfl) rfl
theorem q65 : (Jvm.Cond.laysFinal "SplitTree" "SplitTree" "freshIndex" "[I") ∈ lw_all := lw_g (lw_at lw_m1 37 rfl) rfl
theorem q66 : (Jvm.Cond.soleField "SplitTree" "freshIndex") ∈ lw_all := lw_g (lw_at lw_m1 38 rfl) rfl
theorem q67 : (Jvm.Cond.laysFinal "SplitTree" "SplitTree" "kept" "[B") ∈ lw_all := lw_g (lw_at lw_m1 39 rfl) rfl
theorem q68 : (Jvm.Cond.soleField "SplitTree" "kept") ∈ lw_all := lw_g (lw_at lw_m1 40 rfl) rfl
theorem q69 : (Jvm.Cond.superclass "SplitTree" "java/lang/Object") ∈ lw_all := lw_g (lw_at lw_m1 41 rfl) rfl
theorem q73 : (Jvm.Cond.instanceMethod ({ cls := "SplitTree", name := "point", desc := "(I)I" } : Jvm.MethodName)) ∈ lw_all := lw_g (lw_at lw_m1 45 rfl) rfl
theorem q74 : (Jvm.Cond.selects "SplitTree" ({ cls := "SplitTree", name := "point", desc := "(I)I" } : Jvm.MethodName) ({ cls := "SplitTree", name := "point", desc := "(I)I" } : Jvm.MethodName)) ∈ lw_all := lw_g (lw_at lw_m1 46 rfl) rfl
theorem q75 : (Jvm.Cond.code ({ cls := "SplitTree", name := "point", desc := "(I)I" } : Jvm.MethodName) prog_1_method_5_code (3 : Nat) (Option.some Jvm.ClassFile.FieldType.int)) ∈ lw_all := lw_g (lw_at lw_m1 47 rfl) rfl
theorem q76 : (Jvm.Cond.methodLink "SplitTree" (37 : Nat) ({ cls := "SplitTree", name := "put", desc := "(III)V" } : Jvm.MethodName)) ∈ lw_all := lw_g (lw_at lw_m1 48 rfl) rfl
theorem q77 : (Jvm.Cond.privateMethod ({ cls := "SplitTree", name := "put", desc := "(III)V" } : Jvm.MethodName)) ∈ lw_tbl := lw_at lw_m1 49 rfl
theorem q78 : (Jvm.Cond.instanceMethod ({ cls := "SplitTree", name := "put", desc := "(III)V" } : Jvm.MethodName)) ∈ lw_all := lw_g (lw_at lw_m1 50 rfl) rfl
theorem q79 : (Jvm.Cond.code ({ cls := "SplitTree", name := "put", desc := "(III)V" } : Jvm.MethodName) prog_1_method_4_code (4 : Nat) (Option.none : Option Jvm.ClassFile.FieldType)) ∈ lw_all := lw_g (lw_at lw_m1 51 rfl) rfl
theorem q81 : (Jvm.Cond.instanceMethod ({ cls := "SplitTree", name := "drop", desc := "()I" } : Jvm.MethodName)) ∈ lw_all := lw_g (lw_at lw_m1 53 rfl) rfl
theorem q82 : (Jvm.Cond.selects "SplitTree" ({ cls := "SplitTree", name := "drop", desc := "()I" } : Jvm.MethodName) ({ cls := "SplitTree", name := "drop", desc := "()I" } : Jvm.MethodName)) ∈ lw_all := lw_g (lw_at lw_m1 54 rfl) rfl
theorem q83 : (Jvm.Cond.code ({ cls := "SplitTree", name := "drop", desc := "()I" } : Jvm.MethodName) prog_1_method_6_code (1 : Nat) (Option.some Jvm.ClassFile.FieldType.int)) ∈ lw_all := lw_g (lw_at lw_m1 55 rfl) rfl
theorem q85 : (Jvm.Cond.instanceMethod ({ cls := "SplitTree", name := "set", desc := "(III)I" } : Jvm.MethodName)) ∈ lw_all := lw_g (lw_at lw_m1 57 rfl) rfl
theorem q86 : (Jvm.Cond.selects "SplitTree" ({ cls := "SplitTree", name := "set", desc := "(III)I" } : Jvm.MethodName) ({ cls := "SplitTree", name := "set", desc := "(III)I" } : Jvm.MethodName)) ∈ lw_all := lw_g (lw_at lw_m1 58 rfl) rfl
theorem q87 : (Jvm.Cond.code ({ cls := "SplitTree", name := "set", desc := "(III)I" } : Jvm.MethodName) prog_1_method_7_code (5 : Nat) (Option.some Jvm.ClassFile.FieldType.int)) ∈ lw_all := lw_g (lw_at lw_m1 59 rfl) rfl
theorem q88 : (Jvm.Cond.methodLink "SplitTree" (41 : Nat) ({ cls := "SplitTree", name := "missing", desc := "(I)Z" } : Jvm.MethodName)) ∈ lw_all := lw_g (lw_at lw_m1 60 rfl) rfl
theorem q89 : (Jvm.Cond.privateMethod ({ cls := "SplitTree", name := "missing", desc := "(I)Z" } : Jvm.MethodName)) ∈ lw_tbl := lw_at lw_m1 61 rfl
theorem q90 : (Jvm.Cond.instanceMethod ({ cls := "SplitTree", name := "missing", desc := "(I)Z" } : Jvm.MethodName)) ∈ lw_all := lw_g (lw_at lw_m1 62 rfl) rfl
theorem q91 : (Jvm.Cond.code ({ cls := "SplitTree", name := "missing", desc := "(I)Z" } : Jvm.MethodName) prog_1_method_2_code (2 : Nat) (Option.some Jvm.ClassFile.FieldType.boolean)) ∈ lw_all := lw_g (lw_at lw_m1 63 rfl) rfl
theorem q92 : (Jvm.Cond.methodLink "SplitTree" (45 : Nat) ({ cls := "SplitTree", name := "get", desc := "(II)I" } : Jvm.MethodName)) ∈ lw_all := lw_g (lw_at lw_m1 64 rfl) rfl
theorem q93 : (Jvm.Cond.privateMethod ({ cls := "SplitTree", name := "get", desc := "(II)I" } : Jvm.MethodName)) ∈ lw_tbl := lw_at lw_m1 65 rfl
theorem q94 : (Jvm.Cond.instanceMethod ({ cls := "SplitTree", name := "get", desc := "(II)I" } : Jvm.MethodName)) ∈ lw_all := lw_g (lw_at lw_m1 66 rfl) rfl
theorem q95 : (Jvm.Cond.code ({ cls := "SplitTree", name := "get", desc := "(II)I" } : Jvm.MethodName) prog_1_method_3_code (3 : Nat) (Option.some Jvm.ClassFile.FieldType.int)) ∈ lw_all := lw_g (lw_at lw_m1 67 rfl) rfl
theorem q97 : (Jvm.Cond.instanceMethod ({ cls := "SplitTree", name := "move", desc := "(II)I" } : Jvm.MethodName)) ∈ lw_all := lw_g (lw_at lw_m1 69 rfl) rfl
theorem q98 : (Jvm.Cond.selects "SplitTree" ({ cls := "SplitTree", name := "move", desc := "(II)I" } : Jvm.MethodName) ({ cls := "SplitTree", name := "move", desc := "(II)I" } : Jvm.MethodName)) ∈ lw_all := lw_g (lw_at lw_m1 70 rfl) rfl
theorem q99 : (Jvm.Cond.code ({ cls := "SplitTree", name := "move", desc := "(II)I" } : Jvm.MethodName) prog_1_method_8_code (8 : Nat) (Option.some Jvm.ClassFile.FieldType.int)) ∈ lw_all := lw_g (lw_at lw_m1 71 rfl) rfl
theorem q101 : (Jvm.Cond.instanceMethod ({ cls := "SplitTree", name := "smooth", desc := "()I" } : Jvm.MethodName)) ∈ lw_all := lw_g (lw_at lw_m1 73 rfl) rfl
theorem q102 : (Jvm.Cond.selects "SplitTree" ({ cls := "SplitTree", name := "smooth", desc := "()I" } : Jvm.MethodName) ({ cls := "SplitTree", name := "smooth", desc := "()I" } : Jvm.MethodName)) ∈ lw_all := lw_g (lw_at lw_m1 74 rfl) rfl
theorem q103 : (Jvm.Cond.code ({ cls := "SplitTree", name := "smooth", desc := "()I" } : Jvm.MethodName) prog_1_method_9_code (5 : Nat) (Option.some Jvm.ClassFile.FieldType.int)) ∈ lw_all := lw_g (lw_at lw_m1 75 rfl) rfl
theorem q104 : (Jvm.Cond.methodLink "SplitTree" (49 : Nat) ({ cls := "SplitTree", name := "find", desc := "()V" } : Jvm.MethodName)) ∈ lw_all := lw_g (lw_at lw_m1 76 rfl) rfl
theorem q105 : (Jvm.Cond.privateMethod ({ cls := "SplitTree", name := "find", desc := "()V" } : Jvm.MethodName)) ∈ lw_tbl := lw_at lw_m1 77 rfl
theorem q106 : (Jvm.Cond.instanceMethod ({ cls := "SplitTree", name := "find", desc := "()V" } : Jvm.MethodName)) ∈ lw_all := lw_g (lw_at lw_m1 78 rfl) rfl
theorem q107 : (Jvm.Cond.code ({ cls := "SplitTree", name := "find", desc := "()V" } : Jvm.MethodName) prog_1_method_17_code (2 : Nat) (Option.none : Option Jvm.ClassFile.FieldType)) ∈ lw_all := lw_g (lw_at lw_m1 79 rfl) rfl
theorem q108 : (Jvm.Cond.methodLink "SplitTree" (75 : Nat) ({ cls := "SplitTree", name := "addPoint", desc := "(I)V" } : Jvm.MethodName)) ∈ lw_all := lw_g (lw_at lw_m1 80 rfl) rfl
theorem q109 : (Jvm.Cond.privateMethod ({ cls := "SplitTree", name := "addPoint", desc := "(I)V" } : Jvm.MethodName)) ∈ lw_tbl := lw_at lw_m1 81 rfl
theorem q110 : (Jvm.Cond.instanceMethod ({ cls := "SplitTree", name := "addPoint", desc := "(I)V" } : Jvm.MethodName)) ∈ lw_all := lw_g (lw_at lw_m1 82 rfl) rfl
theorem q111 : (Jvm.Cond.code ({ cls := "SplitTree", name := "addPoint", desc := "(I)V" } : Jvm.MethodName) prog_1_method_16_code (3 : Nat) (Option.none : Option Jvm.ClassFile.FieldType)) ∈ lw_all := lw_g (lw_at lw_m1 83 rfl) rfl
theorem q112 : (Jvm.Cond.methodLink "SplitTree" (68 : Nat) ({ cls := "SplitTree", name := "tryEdge", desc := "(II)V" } : Jvm.MethodName)) ∈ lw_all := lw_g (lw_at lw_m1 84 rfl) rfl
theorem q113 : (Jvm.Cond.privateMethod ({ cls := "SplitTree", name := "tryEdge", desc := "(II)V" } : Jvm.MethodName)) ∈ lw_tbl := lw_at lw_m1 85 rfl
theorem q114 : (Jvm.Cond.instanceMethod ({ cls := "SplitTree", name := "tryEdge", desc := "(II)V" } : Jvm.MethodName)) ∈ lw_all := lw_g (lw_at lw_m1 86 rfl) rfl
theorem q115 : (Jvm.Cond.code ({ cls := "SplitTree", name := "tryEdge", desc := "(II)V" } : Jvm.MethodName) prog_1_method_14_code (4 : Nat) (Option.none : Option Jvm.ClassFile.FieldType)) ∈ lw_all := lw_g (lw_at lw_m1 87 rfl) rfl
theorem q116 : (Jvm.Cond.methodLink "SplitTree" (59 : Nat) ({ cls := "SplitTree", name := "indexOf", desc := "(II)I" } : Jvm.MethodName)) ∈ lw_all := lw_g (lw_at lw_m1 88 rfl) rfl
theorem q117 : (Jvm.Cond.privateMethod ({ cls := "SplitTree", name := "indexOf", desc := "(II)I" } : Jvm.MethodName)) ∈ lw_tbl := lw_at lw_m1 89 rfl
theorem q118 : (Jvm.Cond.instanceMethod ({ cls := "SplitTree", name := "indexOf", desc := "(II)I" } : Jvm.MethodName)) ∈ lw_all := lw_g (lw_at lw_m1 90 rfl) rfl
theorem q119 : (Jvm.Cond.code ({ cls := "SplitTree", name := "indexOf", desc := "(II)I" } : Jvm.MethodName) prog_1_method_12_code (8 : Nat) (Option.some Jvm.ClassFile.FieldType.int)) ∈ lw_all := lw_g (lw_at lw_m1 91 rfl) rfl
theorem q120 : (Jvm.Cond.methodLink "SplitTree" (55 : Nat) ({ cls := "SplitTree", name := "leastFor", desc := "(IIII)I" } : Jvm.MethodName)) ∈ lw_all := lw_g (lw_at lw_m1 92 rfl) rfl
theorem q121 : (Jvm.Cond.privateMethod ({ cls := "SplitTree", name := "leastFor", desc := "(IIII)I" } : Jvm.MethodName)) ∈ lw_tbl := lw_at lw_m1 93 rfl
theorem q122 : (Jvm.Cond.instanceMethod ({ cls := "SplitTree", name := "leastFor", desc := "(IIII)I" } : Jvm.MethodName)) ∈ lw_all := lw_g (lw_at lw_m1 94 rfl) rfl
theorem q123 : (Jvm.Cond.code ({ cls := "SplitTree", name := "leastFor", desc := "(IIII)I" } : Jvm.MethodName) prog_1_method_13_code (10 : Nat) (Option.some Jvm.ClassFile.FieldType.int)) ∈ lw_all := lw_g (lw_at lw_m1 95 rfl) rfl
theorem q124 : (Jvm.Cond.methodLink "SplitTree" (72 : Nat) ({ cls := "SplitTree", name := "sortFresh", desc := "()V" } : Jvm.MethodName)) ∈ lw_all := lw_g (lw_at lw_m1 96 rfl) rfl
theorem q125 : (Jvm.Cond.privateMethod ({ cls := "SplitTree", name := "sortFresh", desc := "()V" } : Jvm.MethodName)) ∈ lw_tbl := lw_at lw_m1 97 rfl
theorem q126 : (Jvm.Cond.instanceMethod ({ cls := "SplitTree", name := "sortFresh", desc := "()V" } : Jvm.MethodName)) ∈ lw_all := lw_g (lw_at lw_m1 98 rfl) rfl
theorem q127 : (Jvm.Cond.code ({ cls := "SplitTree", name := "sortFresh", desc := "()V" } : Jvm.MethodName) prog_1_method_15_code (3 : Nat) (Option.none : Option Jvm.ClassFile.FieldType)) ∈ lw_all := lw_g (lw_at lw_m1 99 rfl) rfl
theorem q128 : (Jvm.Cond.methodLink "SplitTree" (52 : Nat) ({ cls := "SplitTree", name := "pathOf", desc := "(II)I" } : Jvm.MethodName)) ∈ lw_all := lw_g (lw_at lw_m1 100 rfl) rfl
theorem q129 : (Jvm.Cond.privateMethod ({ cls := "SplitTree", name := "pathOf", desc := "(II)I" } : Jvm.MethodName)) ∈ lw_tbl := lw_at lw_m1 101 rfl
theorem q130 : (Jvm.Cond.instanceMethod ({ cls := "SplitTree", name := "pathOf", desc := "(II)I" } : Jvm.MethodName)) ∈ lw_all := lw_g (lw_at lw_m1 102 rfl) rfl
theorem q131 : (Jvm.Cond.code ({ cls := "SplitTree", name := "pathOf", desc := "(II)I" } : Jvm.MethodName) prog_1_method_19_code (5 : Nat) (Option.some Jvm.ClassFile.FieldType.int)) ∈ lw_all := lw_g (lw_at lw_m1 103 rfl) rfl
theorem q132 : (Jvm.Cond.methodLink "SplitTree" (79 : Nat) ({ cls := "SplitTree", name := "parts", desc := "(III)Z" } : Jvm.MethodName)) ∈ lw_all := lw_g (lw_at lw_m1 104 rfl) rfl
theorem q133 : (Jvm.Cond.privateMethod ({ cls := "SplitTree", name := "parts", desc := "(III)Z" } : Jvm.MethodName)) ∈ lw_tbl := lw_at lw_m1 105 rfl
theorem q134 : (Jvm.Cond.instanceMethod ({ cls := "SplitTree", name := "parts", desc := "(III)Z" } : Jvm.MethodName)) ∈ lw_all := lw_g (lw_at lw_m1 106 rfl) rfl
theorem q135 : (Jvm.Cond.code ({ cls := "SplitTree", name := "parts", desc := "(III)Z" } : Jvm.MethodName) prog_1_method_18_code (4 : Nat) (Option.some Jvm.ClassFile.FieldType.boolean)) ∈ lw_all := lw_g (lw_at lw_m1 107 rfl) rfl
theorem q137 : (Jvm.Cond.instanceMethod ({ cls := "SplitTree", name := "points", desc := "()I" } : Jvm.MethodName)) ∈ lw_all := lw_g (lw_at lw_m1 109 rfl) rfl
theorem q138 : (Jvm.Cond.selects "SplitTree" ({ cls := "SplitTree", name := "points", desc := "()I" } : Jvm.MethodName) ({ cls := "SplitTree", name := "points", desc := "()I" } : Jvm.MethodName)) ∈ lw_all := lw_g (lw_at lw_m1 110 rfl) rfl
theorem q139 : (Jvm.Cond.code ({ cls := "SplitTree", name := "points", desc := "()I" } : Jvm.MethodName) prog_1_method_10_code (1 : Nat) (Option.some Jvm.ClassFile.FieldType.int)) ∈ lw_all := lw_g (lw_at lw_m1 111 rfl) rfl
theorem q141 : (Jvm.Cond.instanceMethod ({ cls := "SplitTree", name := "distance", desc := "(II)I" } : Jvm.MethodName)) ∈ lw_all := lw_g (lw_at lw_m1 113 rfl) rfl
theorem q142 : (Jvm.Cond.selects "SplitTree" ({ cls := "SplitTree", name := "distance", desc := "(II)I" } : Jvm.MethodName) ({ cls := "SplitTree", name := "distance", desc := "(II)I" } : Jvm.MethodName)) ∈ lw_all := lw_g (lw_at lw_m1 114 rfl) rfl
theorem q143 : (Jvm.Cond.code ({ cls := "SplitTree", name := "distance", desc := "(II)I" } : Jvm.MethodName) prog_1_method_11_code (3 : Nat) (Option.some Jvm.ClassFile.FieldType.int)) ∈ lw_all := lw_g (lw_at lw_m1 115 rfl) rfl
theorem q145 : (Jvm.Cond.instanceMethod ({ cls := "SplitTree", name := "index", desc := "(I)I" } : Jvm.MethodName)) ∈ lw_all := lw_g (lw_at lw_m1 117 rfl) rfl
theorem q146 : (Jvm.Cond.selects "SplitTree" ({ cls := "SplitTree", name := "index", desc := "(I)I" } : Jvm.MethodName) ({ cls := "SplitTree", name := "index", desc := "(I)I" } : Jvm.MethodName)) ∈ lw_all := lw_g (lw_at lw_m1 118 rfl) rfl
theorem q147 : (Jvm.Cond.code ({ cls := "SplitTree", name := "index", desc := "(I)I" } : Jvm.MethodName) prog_1_method_21_code (2 : Nat) (Option.some Jvm.ClassFile.FieldType.int)) ∈ lw_all := lw_g (lw_at lw_m1 119 rfl) rfl
theorem q148 : (Jvm.Cond.methodLink "SplitTree" (83 : Nat) ({ cls := "SplitTree", name := "badSplit", desc := "(I)Z" } : Jvm.MethodName)) ∈ lw_all := lw_g (lw_at lw_m1 120 rfl) rfl
theorem q149 : (Jvm.Cond.privateMethod ({ cls := "SplitTree", name := "badSplit", desc := "(I)Z" } : Jvm.MethodName)) ∈ lw_tbl := lw_at lw_m1 121 rfl
theorem q150 : (Jvm.Cond.instanceMethod ({ cls := "SplitTree", name := "badSplit", desc := "(I)Z" } : Jvm.MethodName)) ∈ lw_all := lw_g (lw_at lw_m1 122 rfl) rfl
theorem q151 : (Jvm.Cond.code ({ cls := "SplitTree", name := "badSplit", desc := "(I)Z" } : Jvm.MethodName) prog_1_method_20_code (2 : Nat) (Option.some Jvm.ClassFile.FieldType.boolean)) ∈ lw_all := lw_g (lw_at lw_m1 123 rfl) rfl
theorem q153 : (Jvm.Cond.instanceMethod ({ cls := "SplitTree", name := "edges", desc := "()I" } : Jvm.MethodName)) ∈ lw_all := lw_g (lw_at lw_m1 125 rfl) rfl
theorem q154 : (Jvm.Cond.selects "SplitTree" ({ cls := "SplitTree", name := "edges", desc := "()I" } : Jvm.MethodName) ({ cls := "SplitTree", name := "edges", desc := "()I" } : Jvm.MethodName)) ∈ lw_all := lw_g (lw_at lw_m1 126 rfl) rfl
theorem q155 : (Jvm.Cond.code ({ cls := "SplitTree", name := "edges", desc := "()I" } : Jvm.MethodName) prog_1_method_22_code (1 : Nat) (Option.some Jvm.ClassFile.FieldType.int)) ∈ lw_all := lw_g (lw_at lw_m1 127 rfl) rfl
theorem q157 : (Jvm.Cond.instanceMethod ({ cls := "SplitTree", name := "edge", desc := "(I)I" } : Jvm.MethodName)) ∈ lw_all := lw_g (lw_at lw_m1 129 rfl) rfl
theorem q158 : (Jvm.Cond.selects "SplitTree" ({ cls := "SplitTree", name := "edge", desc := "(I)I" } : Jvm.MethodName) ({ cls := "SplitTree", name := "edge", desc := "(I)I" } : Jvm.MethodName)) ∈ lw_all := lw_g (lw_at lw_m1 130 rfl) rfl
theorem q159 : (Jvm.Cond.code ({ cls := "SplitTree", name := "edge", desc := "(I)I" } : Jvm.MethodName) prog_1_method_23_code (2 : Nat) (Option.some Jvm.ClassFile.FieldType.int)) ∈ lw_all := lw_g (lw_at lw_m1 131 rfl) rfl
theorem q161 : (Jvm.Cond.instanceMethod ({ cls := "SplitTree", name := "treeDistance", desc := "(II)I" } : Jvm.MethodName)) ∈ lw_all := lw_g (lw_at lw_m1 133 rfl) rfl
theorem q162 : (Jvm.Cond.selects "SplitTree" ({ cls := "SplitTree", name := "treeDistance", desc := "(II)I" } : Jvm.MethodName) ({ cls := "SplitTree", name := "treeDistance", desc := "(II)I" } : Jvm.MethodName)) ∈ lw_all := lw_g (lw_at lw_m1 134 rfl) rfl
theorem q163 : (Jvm.Cond.code ({ cls := "SplitTree", name := "treeDistance", desc := "(II)I" } : Jvm.MethodName) prog_1_method_24_code (3 : Nat) (Option.some Jvm.ClassFile.FieldType.int)) ∈ lw_all := lw_g (lw_at lw_m1 135 rfl) rfl
theorem q165 : (Jvm.Cond.instanceMethod ({ cls := "SplitTree", name := "together", desc := "(II)I" } : Jvm.MethodName)) ∈ lw_all := lw_g (lw_at lw_m1 137 rfl) rfl
theorem q166 : (Jvm.Cond.selects "SplitTree" ({ cls := "SplitTree", name := "together", desc := "(II)I" } : Jvm.MethodName) ({ cls := "SplitTree", name := "together", desc := "(II)I" } : Jvm.MethodName)) ∈ lw_all := lw_g (lw_at lw_m1 138 rfl) rfl
theorem q167 : (Jvm.Cond.code ({ cls := "SplitTree", name := "together", desc := "(II)I" } : Jvm.MethodName) prog_1_method_25_code (4 : Nat) (Option.some Jvm.ClassFile.FieldType.int)) ∈ lw_all := lw_g (lw_at lw_m1 139 rfl) rfl
theorem q169 : (Jvm.Cond.instanceMethod ({ cls := "SplitTree", name := "agrees", desc := "(I)I" } : Jvm.MethodName)) ∈ lw_all := lw_g (lw_at lw_m1 141 rfl) rfl
theorem q170 : (Jvm.Cond.selects "SplitTree" ({ cls := "SplitTree", name := "agrees", desc := "(I)I" } : Jvm.MethodName) ({ cls := "SplitTree", name := "agrees", desc := "(I)I" } : Jvm.MethodName)) ∈ lw_all := lw_g (lw_at lw_m1 142 rfl) rfl
theorem q171 : (Jvm.Cond.code ({ cls := "SplitTree", name := "agrees", desc := "(I)I" } : Jvm.MethodName) prog_1_method_28_code (3 : Nat) (Option.some Jvm.ClassFile.FieldType.int)) ∈ lw_all := lw_g (lw_at lw_m1 143 rfl) rfl
theorem q172 : (Jvm.Cond.methodLink "SplitTree" (90 : Nat) ({ cls := "SplitTree", name := "agreesWithAll", desc := "(I)Z" } : Jvm.MethodName)) ∈ lw_all := lw_g (lw_at lw_m1 144 rfl) rfl
theorem q173 : (Jvm.Cond.privateMethod ({ cls := "SplitTree", name := "agreesWithAll", desc := "(I)Z" } : Jvm.MethodName)) ∈ lw_tbl := lw_at lw_m1 145 rfl
theorem q174 : (Jvm.Cond.instanceMethod ({ cls := "SplitTree", name := "agreesWithAll", desc := "(I)Z" } : Jvm.MethodName)) ∈ lw_all := lw_g (lw_at lw_m1 146 rfl) rfl
theorem q175 : (Jvm.Cond.code ({ cls := "SplitTree", name := "agreesWithAll", desc := "(I)Z" } : Jvm.MethodName) prog_1_method_27_code (4 : Nat) (Option.some Jvm.ClassFile.FieldType.boolean)) ∈ lw_all := lw_g (lw_at lw_m1 147 rfl) rfl
theorem q176 : (Jvm.Cond.methodLink "SplitTree" (86 : Nat) ({ cls := "SplitTree", name := "agree", desc := "(II)Z" } : Jvm.MethodName)) ∈ lw_all := lw_g (lw_at lw_m1 148 rfl) rfl
theorem q177 : (Jvm.Cond.privateMethod ({ cls := "SplitTree", name := "agree", desc := "(II)Z" } : Jvm.MethodName)) ∈ lw_tbl := lw_at lw_m1 149 rfl
theorem q178 : (Jvm.Cond.instanceMethod ({ cls := "SplitTree", name := "agree", desc := "(II)Z" } : Jvm.MethodName)) ∈ lw_all := lw_g (lw_at lw_m1 150 rfl) rfl
theorem q179 : (Jvm.Cond.code ({ cls := "SplitTree", name := "agree", desc := "(II)Z" } : Jvm.MethodName) prog_1_method_26_code (4 : Nat) (Option.some Jvm.ClassFile.FieldType.boolean)) ∈ lw_all := lw_g (lw_at lw_m1 151 rfl) rfl
theorem q181 : (Jvm.Cond.instanceMethod ({ cls := "SplitTree", name := "agreeing", desc := "()I" } : Jvm.MethodName)) ∈ lw_all := lw_g (lw_at lw_m1 153 rfl) rfl
theorem q182 : (Jvm.Cond.selects "SplitTree" ({ cls := "SplitTree", name := "agreeing", desc := "()I" } : Jvm.MethodName) ({ cls := "SplitTree", name := "agreeing", desc := "()I" } : Jvm.MethodName)) ∈ lw_all := lw_g (lw_at lw_m1 154 rfl) rfl
theorem q183 : (Jvm.Cond.code ({ cls := "SplitTree", name := "agreeing", desc := "()I" } : Jvm.MethodName) prog_1_method_32_code (5 : Nat) (Option.some Jvm.ClassFile.FieldType.int)) ∈ lw_all := lw_g (lw_at lw_m1 155 rfl) rfl
theorem q184 : (Jvm.Cond.methodLink "SplitTree" (100 : Nat) ({ cls := "SplitTree", name := "partsAt", desc := "(I)I" } : Jvm.MethodName)) ∈ lw_all := lw_g (lw_at lw_m1 156 rfl) rfl
theorem q185 : (Jvm.Cond.privateMethod ({ cls := "SplitTree", name := "partsAt", desc := "(I)I" } : Jvm.MethodName)) ∈ lw_tbl := lw_at lw_m1 157 rfl
theorem q186 : (Jvm.Cond.instanceMethod ({ cls := "SplitTree", name := "partsAt", desc := "(I)I" } : Jvm.MethodName)) ∈ lw_all := lw_g (lw_at lw_m1 158 rfl) rfl
theorem q187 : (Jvm.Cond.code ({ cls := "SplitTree", name := "partsAt", desc := "(I)I" } : Jvm.MethodName) prog_1_method_30_code (5 : Nat) (Option.some Jvm.ClassFile.FieldType.int)) ∈ lw_all := lw_g (lw_at lw_m1 159 rfl) rfl
theorem q188 : (Jvm.Cond.methodLink "SplitTree" (93 : Nat) ({ cls := "SplitTree", name := "above", desc := "(I)I" } : Jvm.MethodName)) ∈ lw_all := lw_g (lw_at lw_m1 160 rfl) rfl
theorem q189 : (Jvm.Cond.privateMethod ({ cls := "SplitTree", name := "above", desc := "(I)I" } : Jvm.MethodName)) ∈ lw_tbl := lw_at lw_m1 161 rfl
theorem q190 : (Jvm.Cond.instanceMethod ({ cls := "SplitTree", name := "above", desc := "(I)I" } : Jvm.MethodName)) ∈ lw_all := lw_g (lw_at lw_m1 162 rfl) rfl
theorem q191 : (Jvm.Cond.code ({ cls := "SplitTree", name := "above", desc := "(I)I" } : Jvm.MethodName) prog_1_method_29_code (5 : Nat) (Option.some Jvm.ClassFile.FieldType.int)) ∈ lw_all := lw_g (lw_at lw_m1 163 rfl) rfl
theorem q192 : (Jvm.Cond.methodLink "SplitTree" (97 : Nat) ({ cls := "SplitTree", name := "homeOf", desc := "(I)I" } : Jvm.MethodName)) ∈ lw_all := lw_g (lw_at lw_m1 164 rfl) rfl
theorem q193 : (Jvm.Cond.privateMethod ({ cls := "SplitTree", name := "homeOf", desc := "(I)I" } : Jvm.MethodName)) ∈ lw_tbl := lw_at lw_m1 165 rfl
theorem q194 : (Jvm.Cond.instanceMethod ({ cls := "SplitTree", name := "homeOf", desc := "(I)I" } : Jvm.MethodName)) ∈ lw_all := lw_g (lw_at lw_m1 166 rfl) rfl
theorem q195 : (Jvm.Cond.code ({ cls := "SplitTree", name := "homeOf", desc := "(I)I" } : Jvm.MethodName) prog_1_method_31_code (5 : Nat) (Option.some Jvm.ClassFile.FieldType.int)) ∈ lw_all := lw_g (lw_at lw_m1 167 rfl) rfl
theorem q196 : (Jvm.Cond.methodLink "SplitTree" (103 : Nat) ({ cls := "SplitTree", name := "pointsAt", desc := "(I)I" } : Jvm.MethodName)) ∈ lw_all := lw_g (lw_at lw_m1 168 rfl) rfl
theorem q197 : (Jvm.Cond.privateMethod ({ cls := "SplitTree", name := "pointsAt", desc := "(I)I" } : Jvm.MethodName)) ∈ lw_tbl := lw_at lw_m1 169 rfl
theorem q198 : (Jvm.Cond.instanceMethod ({ cls := "SplitTree", name := "pointsAt", desc := "(I)I" } : Jvm.MethodName)) ∈ lw_all := lw_g (lw_at lw_m1 170 rfl) rfl
theorem q199 : (Jvm.Cond.code ({ cls := "SplitTree", name := "pointsAt", desc := "(I)I" } : Jvm.MethodName) prog_1_method_33_code (5 : Nat) (Option.some Jvm.ClassFile.FieldType.int)) ∈ lw_all := lw_g (lw_at lw_m1 171 rfl) rfl
theorem q201 : (Jvm.Cond.instanceMethod ({ cls := "SplitTree", name := "treelike", desc := "()I" } : Jvm.MethodName)) ∈ lw_all := lw_g (lw_at lw_m1 173 rfl) rfl
theorem q202 : (Jvm.Cond.selects "SplitTree" ({ cls := "SplitTree", name := "treelike", desc := "()I" } : Jvm.MethodName) ({ cls := "SplitTree", name := "treelike", desc := "()I" } : Jvm.MethodName)) ∈ lw_all := lw_g (lw_at lw_m1 174 rfl) rfl
theorem q203 : (Jvm.Cond.code ({ cls := "SplitTree", name := "treelike", desc := "()I" } : Jvm.MethodName) prog_1_method_34_code (4 : Nat) (Option.some Jvm.ClassFile.FieldType.int)) ∈ lw_all := lw_g (lw_at lw_m1 175 rfl) rfl
theorem q205 : (Jvm.Cond.instanceMethod ({ cls := "SplitTree", name := "span", desc := "()I" } : Jvm.MethodName)) ∈ lw_all := lw_g (lw_at lw_m1 177 rfl) rfl
theorem q206 : (Jvm.Cond.selects "SplitTree" ({ cls := "SplitTree", name := "span", desc := "()I" } : Jvm.MethodName) ({ cls := "SplitTree", name := "span", desc := "()I" } : Jvm.MethodName)) ∈ lw_all := lw_g (lw_at lw_m1 178 rfl) rfl
theorem q207 : (Jvm.Cond.code ({ cls := "SplitTree", name := "span", desc := "()I" } : Jvm.MethodName) prog_1_method_35_code (4 : Nat) (Option.some Jvm.ClassFile.FieldType.int)) ∈ lw_all := lw_g (lw_at lw_m1 179 rfl) rfl
theorem q209 : (Jvm.Cond.instanceMethod ({ cls := "SplitTree", name := "weight", desc := "()I" } : Jvm.MethodName)) ∈ lw_all := lw_g (lw_at lw_m1 181 rfl) rfl
theorem q210 : (Jvm.Cond.selects "SplitTree" ({ cls := "SplitTree", name := "weight", desc := "()I" } : Jvm.MethodName) ({ cls := "SplitTree", name := "weight", desc := "()I" } : Jvm.MethodName)) ∈ lw_all := lw_g (lw_at lw_m1 182 rfl) rfl
theorem q211 : (Jvm.Cond.code ({ cls := "SplitTree", name := "weight", desc := "()I" } : Jvm.MethodName) prog_1_method_36_code (3 : Nat) (Option.some Jvm.ClassFile.FieldType.int)) ∈ lw_all := lw_g (lw_at lw_m1 183 rfl) rfl
theorem in_X0 : ∀ w ∈ wsX00, w ∈ lw_all := lw_in wsX00 [49, 51, 53, 55, 57, 59, 61, 63, 65, 67] (by decide +kernel) (by decide +kernel)
end
section
/-! SplitTreeModel -/
set_option maxRecDepth 100000
def RX1 : String := "SplitTreeModel"
def TX1 : u_T := fun k => match k with
  | 0 => ("SplitTreeModel", "n", "I", false)
  | 1 => ("SplitTreeModel", "ds", "[I", false)
  | 2 => ("SplitTreeModel", "made", "[I", false)
  | _ => ("SplitTreeModel", "indices", "[I", false)
def tyX1 : Nat → FieldType := fun k => match k with
  | 0 => .int
  | 1 => .array .int
  | 2 => .array .int
  | _ => .array .int
abbrev wsX10 : List Cond := u_ws RX1 TX1 4
theorem nmX1 : ∀ a, a < 4 → ∀ b, b < 4 → a ≠ b → (TX1 a).2.1 ≠ (TX1 b).2.1 := by decide +kernel
theorem tyX1_ok : ∀ k, k < 4 → parseFieldDescriptor (TX1 k).2.2.1 = some (tyX1 k) := by decide +kernel
abbrev cX1_init : ByteArray := prog_3_method_1_code
def yX1_init : MethodName := ⟨RX1, "<init>", "()V"⟩
theorem dX1_init_0 : decode cX1_init 0 = .ok (.aload_n 0, 1) := by decide +kernel
theorem dX1_init_1 : decode cX1_init 1 = .ok (.invokespecial 1, 3) := by decide +kernel
theorem dX1_init_4 : decode cX1_init 4 = .ok (.aload_n 0, 1) := by decide +kernel
theorem dX1_init_5 : decode cX1_init 5 = .ok (.bipush 49, 2) := by decide +kernel
theorem dX1_init_7 : decode cX1_init 7 = .ok (.newarray .int, 2) := by decide +kernel
theorem dX1_init_9 : decode cX1_init 9 = .ok (.putfield 7, 3) := by decide +kernel
theorem dX1_init_12 : decode cX1_init 12 = .ok (.aload_n 0, 1) := by decide +kernel
theorem dX1_init_13 : decode cX1_init 13 = .ok (.bipush 49, 2) := by decide +kernel
theorem dX1_init_15 : decode cX1_init 15 = .ok (.newarray .int, 2) := by decide +kernel
theorem dX1_init_17 : decode cX1_init 17 = .ok (.putfield 13, 3) := by decide +kernel
theorem dX1_init_20 : decode cX1_init 20 = .ok (.aload_n 0, 1) := by decide +kernel
theorem dX1_init_21 : decode cX1_init 21 = .ok (.sipush 128, 3) := by decide +kernel
theorem dX1_init_24 : decode cX1_init 24 = .ok (.newarray .int, 2) := by decide +kernel
theorem dX1_init_26 : decode cX1_init 26 = .ok (.putfield 16, 3) := by decide +kernel
theorem dX1_init_29 : decode cX1_init 29 = .ok (.return_, 1) := by decide +kernel
abbrev cX1_point : ByteArray := prog_3_method_4_code
def yX1_point : MethodName := ⟨RX1, "point", "(I)I"⟩
theorem dX1_point_0 : decode cX1_point 0 = .ok (.iload_n 1, 1) := by decide +kernel
theorem dX1_point_1 : decode cX1_point 1 = .ok (.ifCond .lt 9, 3) := by decide +kernel
theorem dX1_point_4 : decode cX1_point 4 = .ok (.iload_n 1, 1) := by decide +kernel
theorem dX1_point_5 : decode cX1_point 5 = .ok (.bipush 60, 2) := by decide +kernel
theorem dX1_point_7 : decode cX1_point 7 = .ok (.if_icmp .le 7, 3) := by decide +kernel
theorem dX1_point_10 : decode cX1_point 10 = .ok (.sipush (-1000), 3) := by decide +kernel
theorem dX1_point_13 : decode cX1_point 13 = .ok (.ireturn, 1) := by decide +kernel
theorem dX1_point_14 : decode cX1_point 14 = .ok (.aload_n 0, 1) := by decide +kernel
theorem dX1_point_15 : decode cX1_point 15 = .ok (.getfield 19, 3) := by decide +kernel
theorem dX1_point_18 : decode cX1_point 18 = .ok (.bipush 7, 2) := by decide +kernel
theorem dX1_point_20 : decode cX1_point 20 = .ok (.if_icmp .ne 7, 3) := by decide +kernel
theorem dX1_point_23 : decode cX1_point 23 = .ok (.sipush (-1001), 3) := by decide +kernel
theorem dX1_point_26 : decode cX1_point 26 = .ok (.ireturn, 1) := by decide +kernel
theorem dX1_point_27 : decode cX1_point 27 = .ok (.iconst 0, 1) := by decide +kernel
theorem dX1_point_28 : decode cX1_point 28 = .ok (.istore_n 2, 1) := by decide +kernel
theorem dX1_point_29 : decode cX1_point 29 = .ok (.iload_n 2, 1) := by decide +kernel
theorem dX1_point_30 : decode cX1_point 30 = .ok (.aload_n 0, 1) := by decide +kernel
theorem dX1_point_31 : decode cX1_point 31 = .ok (.getfield 19, 3) := by decide +kernel
theorem dX1_point_34 : decode cX1_point 34 = .ok (.if_icmp .ge 19, 3) := by decide +kernel
theorem dX1_point_37 : decode cX1_point 37 = .ok (.aload_n 0, 1) := by decide +kernel
theorem dX1_point_38 : decode cX1_point 38 = .ok (.iload_n 2, 1) := by decide +kernel
theorem dX1_point_39 : decode cX1_point 39 = .ok (.aload_n 0, 1) := by decide +kernel
theorem dX1_point_40 : decode cX1_point 40 = .ok (.getfield 19, 3) := by decide +kernel
theorem dX1_point_43 : decode cX1_point 43 = .ok (.iload_n 1, 1) := by decide +kernel
theorem dX1_point_44 : decode cX1_point 44 = .ok (.invokevirtual 23, 3) := by decide +kernel
theorem dX1_point_47 : decode cX1_point 47 = .ok (.iinc 2 1, 3) := by decide +kernel
theorem dX1_point_50 : decode cX1_point 50 = .ok (.goto (-21), 3) := by decide +kernel
theorem dX1_point_53 : decode cX1_point 53 = .ok (.aload_n 0, 1) := by decide +kernel
theorem dX1_point_54 : decode cX1_point 54 = .ok (.getfield 7, 3) := by decide +kernel
theorem dX1_point_57 : decode cX1_point 57 = .ok (.bipush 8, 2) := by decide +kernel
theorem dX1_point_59 : decode cX1_point 59 = .ok (.aload_n 0, 1) := by decide +kernel
theorem dX1_point_60 : decode cX1_point 60 = .ok (.getfield 19, 3) := by decide +kernel
theorem dX1_point_63 : decode cX1_point 63 = .ok (.imul, 1) := by decide +kernel
theorem dX1_point_64 : decode cX1_point 64 = .ok (.iconst 0, 1) := by decide +kernel
theorem dX1_point_65 : decode cX1_point 65 = .ok (.iastore, 1) := by decide +kernel
theorem dX1_point_66 : decode cX1_point 66 = .ok (.aload_n 0, 1) := by decide +kernel
theorem dX1_point_67 : decode cX1_point 67 = .ok (.dup, 1) := by decide +kernel
theorem dX1_point_68 : decode cX1_point 68 = .ok (.getfield 19, 3) := by decide +kernel
theorem dX1_point_71 : decode cX1_point 71 = .ok (.iconst 1, 1) := by decide +kernel
theorem dX1_point_72 : decode cX1_point 72 = .ok (.iadd, 1) := by decide +kernel
theorem dX1_point_73 : decode cX1_point 73 = .ok (.putfield 19, 3) := by decide +kernel
theorem dX1_point_76 : decode cX1_point 76 = .ok (.aload_n 0, 1) := by decide +kernel
theorem dX1_point_77 : decode cX1_point 77 = .ok (.getfield 19, 3) := by decide +kernel
theorem dX1_point_80 : decode cX1_point 80 = .ok (.iconst 1, 1) := by decide +kernel
theorem dX1_point_81 : decode cX1_point 81 = .ok (.isub, 1) := by decide +kernel
theorem dX1_point_82 : decode cX1_point 82 = .ok (.ireturn, 1) := by decide +kernel
abbrev cX1_put : ByteArray := prog_3_method_3_code
def yX1_put : MethodName := ⟨RX1, "put", "(III)V"⟩
theorem dX1_put_0 : decode cX1_put 0 = .ok (.aload_n 0, 1) := by decide +kernel
theorem dX1_put_1 : decode cX1_put 1 = .ok (.getfield 7, 3) := by decide +kernel
theorem dX1_put_4 : decode cX1_put 4 = .ok (.bipush 7, 2) := by decide +kernel
theorem dX1_put_6 : decode cX1_put 6 = .ok (.iload_n 1, 1) := by decide +kernel
theorem dX1_put_7 : decode cX1_put 7 = .ok (.imul, 1) := by decide +kernel
theorem dX1_put_8 : decode cX1_put 8 = .ok (.iload_n 2, 1) := by decide +kernel
theorem dX1_put_9 : decode cX1_put 9 = .ok (.iadd, 1) := by decide +kernel
theorem dX1_put_10 : decode cX1_put 10 = .ok (.iload_n 3, 1) := by decide +kernel
theorem dX1_put_11 : decode cX1_put 11 = .ok (.iastore, 1) := by decide +kernel
theorem dX1_put_12 : decode cX1_put 12 = .ok (.aload_n 0, 1) := by decide +kernel
theorem dX1_put_13 : decode cX1_put 13 = .ok (.getfield 7, 3) := by decide +kernel
theorem dX1_put_16 : decode cX1_put 16 = .ok (.bipush 7, 2) := by decide +kernel
theorem dX1_put_18 : decode cX1_put 18 = .ok (.iload_n 2, 1) := by decide +kernel
theorem dX1_put_19 : decode cX1_put 19 = .ok (.imul, 1) := by decide +kernel
theorem dX1_put_20 : decode cX1_put 20 = .ok (.iload_n 1, 1) := by decide +kernel
theorem dX1_put_21 : decode cX1_put 21 = .ok (.iadd, 1) := by decide +kernel
theorem dX1_put_22 : decode cX1_put 22 = .ok (.iload_n 3, 1) := by decide +kernel
theorem dX1_put_23 : decode cX1_put 23 = .ok (.iastore, 1) := by decide +kernel
theorem dX1_put_24 : decode cX1_put 24 = .ok (.return_, 1) := by decide +kernel
abbrev cX1_drop : ByteArray := prog_3_method_5_code
def yX1_drop : MethodName := ⟨RX1, "drop", "()I"⟩
theorem dX1_drop_0 : decode cX1_drop 0 = .ok (.aload_n 0, 1) := by decide +kernel
theorem dX1_drop_1 : decode cX1_drop 1 = .ok (.getfield 19, 3) := by decide +kernel
theorem dX1_drop_4 : decode cX1_drop 4 = .ok (.ifCond .ne 7, 3) := by decide +kernel
theorem dX1_drop_7 : decode cX1_drop 7 = .ok (.sipush (-1002), 3) := by decide +kernel
theorem dX1_drop_10 : decode cX1_drop 10 = .ok (.ireturn, 1) := by decide +kernel
theorem dX1_drop_11 : decode cX1_drop 11 = .ok (.aload_n 0, 1) := by decide +kernel
theorem dX1_drop_12 : decode cX1_drop 12 = .ok (.dup, 1) := by decide +kernel
theorem dX1_drop_13 : decode cX1_drop 13 = .ok (.getfield 19, 3) := by decide +kernel
theorem dX1_drop_16 : decode cX1_drop 16 = .ok (.iconst 1, 1) := by decide +kernel
theorem dX1_drop_17 : decode cX1_drop 17 = .ok (.isub, 1) := by decide +kernel
theorem dX1_drop_18 : decode cX1_drop 18 = .ok (.putfield 19, 3) := by decide +kernel
theorem dX1_drop_21 : decode cX1_drop 21 = .ok (.aload_n 0, 1) := by decide +kernel
theorem dX1_drop_22 : decode cX1_drop 22 = .ok (.getfield 19, 3) := by decide +kernel
theorem dX1_drop_25 : decode cX1_drop 25 = .ok (.ireturn, 1) := by decide +kernel
abbrev cX1_set : ByteArray := prog_3_method_6_code
def yX1_set : MethodName := ⟨RX1, "set", "(III)I"⟩
theorem dX1_set_0 : decode cX1_set 0 = .ok (.aload_n 0, 1) := by decide +kernel
theorem dX1_set_1 : decode cX1_set 1 = .ok (.iload_n 1, 1) := by decide +kernel
theorem dX1_set_2 : decode cX1_set 2 = .ok (.invokevirtual 27, 3) := by decide +kernel
theorem dX1_set_5 : decode cX1_set 5 = .ok (.ifCond .eq 26, 3) := by decide +kernel
theorem dX1_set_8 : decode cX1_set 8 = .ok (.aload_n 0, 1) := by decide +kernel
theorem dX1_set_9 : decode cX1_set 9 = .ok (.iload_n 2, 1) := by decide +kernel
theorem dX1_set_10 : decode cX1_set 10 = .ok (.invokevirtual 27, 3) := by decide +kernel
theorem dX1_set_13 : decode cX1_set 13 = .ok (.ifCond .eq 18, 3) := by decide +kernel
theorem dX1_set_16 : decode cX1_set 16 = .ok (.iload_n 1, 1) := by decide +kernel
theorem dX1_set_17 : decode cX1_set 17 = .ok (.iload_n 2, 1) := by decide +kernel
theorem dX1_set_18 : decode cX1_set 18 = .ok (.if_icmp .eq 13, 3) := by decide +kernel
theorem dX1_set_21 : decode cX1_set 21 = .ok (.iload_n 3, 1) := by decide +kernel
theorem dX1_set_22 : decode cX1_set 22 = .ok (.ifCond .lt 9, 3) := by decide +kernel
theorem dX1_set_25 : decode cX1_set 25 = .ok (.iload_n 3, 1) := by decide +kernel
theorem dX1_set_26 : decode cX1_set 26 = .ok (.bipush 60, 2) := by decide +kernel
theorem dX1_set_28 : decode cX1_set 28 = .ok (.if_icmp .le 7, 3) := by decide +kernel
theorem dX1_set_31 : decode cX1_set 31 = .ok (.sipush (-1000), 3) := by decide +kernel
theorem dX1_set_34 : decode cX1_set 34 = .ok (.ireturn, 1) := by decide +kernel
theorem dX1_set_35 : decode cX1_set 35 = .ok (.aload_n 0, 1) := by decide +kernel
theorem dX1_set_36 : decode cX1_set 36 = .ok (.getfield 7, 3) := by decide +kernel
theorem dX1_set_39 : decode cX1_set 39 = .ok (.bipush 7, 2) := by decide +kernel
theorem dX1_set_41 : decode cX1_set 41 = .ok (.iload_n 1, 1) := by decide +kernel
theorem dX1_set_42 : decode cX1_set 42 = .ok (.imul, 1) := by decide +kernel
theorem dX1_set_43 : decode cX1_set 43 = .ok (.iload_n 2, 1) := by decide +kernel
theorem dX1_set_44 : decode cX1_set 44 = .ok (.iadd, 1) := by decide +kernel
theorem dX1_set_45 : decode cX1_set 45 = .ok (.iaload, 1) := by decide +kernel
theorem dX1_set_46 : decode cX1_set 46 = .ok (.istore 4, 2) := by decide +kernel
theorem dX1_set_48 : decode cX1_set 48 = .ok (.aload_n 0, 1) := by decide +kernel
theorem dX1_set_49 : decode cX1_set 49 = .ok (.iload_n 1, 1) := by decide +kernel
theorem dX1_set_50 : decode cX1_set 50 = .ok (.iload_n 2, 1) := by decide +kernel
theorem dX1_set_51 : decode cX1_set 51 = .ok (.iload_n 3, 1) := by decide +kernel
theorem dX1_set_52 : decode cX1_set 52 = .ok (.invokevirtual 23, 3) := by decide +kernel
theorem dX1_set_55 : decode cX1_set 55 = .ok (.iload 4, 2) := by decide +kernel
theorem dX1_set_57 : decode cX1_set 57 = .ok (.ireturn, 1) := by decide +kernel
abbrev cX1_is : ByteArray := prog_3_method_2_code
def yX1_is : MethodName := ⟨RX1, "is", "(I)Z"⟩
theorem dX1_is_0 : decode cX1_is 0 = .ok (.iload_n 1, 1) := by decide +kernel
theorem dX1_is_1 : decode cX1_is 1 = .ok (.ifCond .lt 15, 3) := by decide +kernel
theorem dX1_is_4 : decode cX1_is 4 = .ok (.iload_n 1, 1) := by decide +kernel
theorem dX1_is_5 : decode cX1_is 5 = .ok (.aload_n 0, 1) := by decide +kernel
theorem dX1_is_6 : decode cX1_is 6 = .ok (.getfield 19, 3) := by decide +kernel
theorem dX1_is_9 : decode cX1_is 9 = .ok (.if_icmp .ge 7, 3) := by decide +kernel
theorem dX1_is_12 : decode cX1_is 12 = .ok (.iconst 1, 1) := by decide +kernel
theorem dX1_is_13 : decode cX1_is 13 = .ok (.goto 4, 3) := by decide +kernel
theorem dX1_is_16 : decode cX1_is 16 = .ok (.iconst 0, 1) := by decide +kernel
theorem dX1_is_17 : decode cX1_is 17 = .ok (.ireturn, 1) := by decide +kernel
abbrev cX1_move : ByteArray := prog_3_method_7_code
def yX1_move : MethodName := ⟨RX1, "move", "(II)I"⟩
theorem dX1_move_0 : decode cX1_move 0 = .ok (.iload_n 2, 1) := by decide +kernel
theorem dX1_move_1 : decode cX1_move 1 = .ok (.bipush (-60), 2) := by decide +kernel
theorem dX1_move_3 : decode cX1_move 3 = .ok (.if_icmp .lt 9, 3) := by decide +kernel
theorem dX1_move_6 : decode cX1_move 6 = .ok (.iload_n 2, 1) := by decide +kernel
theorem dX1_move_7 : decode cX1_move 7 = .ok (.bipush 60, 2) := by decide +kernel
theorem dX1_move_9 : decode cX1_move 9 = .ok (.if_icmp .le 7, 3) := by decide +kernel
theorem dX1_move_12 : decode cX1_move 12 = .ok (.sipush (-1000), 3) := by decide +kernel
theorem dX1_move_15 : decode cX1_move 15 = .ok (.ireturn, 1) := by decide +kernel
theorem dX1_move_16 : decode cX1_move 16 = .ok (.iconst 0, 1) := by decide +kernel
theorem dX1_move_17 : decode cX1_move 17 = .ok (.istore_n 3, 1) := by decide +kernel
theorem dX1_move_18 : decode cX1_move 18 = .ok (.iconst 0, 1) := by decide +kernel
theorem dX1_move_19 : decode cX1_move 19 = .ok (.istore 4, 2) := by decide +kernel
theorem dX1_move_21 : decode cX1_move 21 = .ok (.iload 4, 2) := by decide +kernel
theorem dX1_move_23 : decode cX1_move 23 = .ok (.aload_n 0, 1) := by decide +kernel
theorem dX1_move_24 : decode cX1_move 24 = .ok (.getfield 19, 3) := by decide +kernel
theorem dX1_move_27 : decode cX1_move 27 = .ok (.if_icmp .ge 92, 3) := by decide +kernel
theorem dX1_move_30 : decode cX1_move 30 = .ok (.iconst 0, 1) := by decide +kernel
theorem dX1_move_31 : decode cX1_move 31 = .ok (.istore 5, 2) := by decide +kernel
theorem dX1_move_33 : decode cX1_move 33 = .ok (.iload 5, 2) := by decide +kernel
theorem dX1_move_35 : decode cX1_move 35 = .ok (.aload_n 0, 1) := by decide +kernel
theorem dX1_move_36 : decode cX1_move 36 = .ok (.getfield 19, 3) := by decide +kernel
theorem dX1_move_39 : decode cX1_move 39 = .ok (.if_icmp .ge 74, 3) := by decide +kernel
theorem dX1_move_42 : decode cX1_move 42 = .ok (.aload_n 0, 1) := by decide +kernel
theorem dX1_move_43 : decode cX1_move 43 = .ok (.getfield 7, 3) := by decide +kernel
theorem dX1_move_46 : decode cX1_move 46 = .ok (.bipush 7, 2) := by decide +kernel
theorem dX1_move_48 : decode cX1_move 48 = .ok (.iload 4, 2) := by decide +kernel
theorem dX1_move_50 : decode cX1_move 50 = .ok (.imul, 1) := by decide +kernel
theorem dX1_move_51 : decode cX1_move 51 = .ok (.iload 5, 2) := by decide +kernel
theorem dX1_move_53 : decode cX1_move 53 = .ok (.iadd, 1) := by decide +kernel
theorem dX1_move_54 : decode cX1_move 54 = .ok (.iaload, 1) := by decide +kernel
theorem dX1_move_55 : decode cX1_move 55 = .ok (.iload_n 2, 1) := by decide +kernel
theorem dX1_move_56 : decode cX1_move 56 = .ok (.iadd, 1) := by decide +kernel
theorem dX1_move_57 : decode cX1_move 57 = .ok (.istore 6, 2) := by decide +kernel
theorem dX1_move_59 : decode cX1_move 59 = .ok (.iload_n 1, 1) := by decide +kernel
theorem dX1_move_60 : decode cX1_move 60 = .ok (.iload 4, 2) := by decide +kernel
theorem dX1_move_62 : decode cX1_move 62 = .ok (.ishr, 1) := by decide +kernel
theorem dX1_move_63 : decode cX1_move 63 = .ok (.iconst 1, 1) := by decide +kernel
theorem dX1_move_64 : decode cX1_move 64 = .ok (.iand, 1) := by decide +kernel
theorem dX1_move_65 : decode cX1_move 65 = .ok (.iconst 1, 1) := by decide +kernel
theorem dX1_move_66 : decode cX1_move 66 = .ok (.if_icmp .ne 41, 3) := by decide +kernel
theorem dX1_move_69 : decode cX1_move 69 = .ok (.iload_n 1, 1) := by decide +kernel
theorem dX1_move_70 : decode cX1_move 70 = .ok (.iload 5, 2) := by decide +kernel
theorem dX1_move_72 : decode cX1_move 72 = .ok (.ishr, 1) := by decide +kernel
theorem dX1_move_73 : decode cX1_move 73 = .ok (.iconst 1, 1) := by decide +kernel
theorem dX1_move_74 : decode cX1_move 74 = .ok (.iand, 1) := by decide +kernel
theorem dX1_move_75 : decode cX1_move 75 = .ok (.ifCond .ne 32, 3) := by decide +kernel
theorem dX1_move_78 : decode cX1_move 78 = .ok (.iload 6, 2) := by decide +kernel
theorem dX1_move_80 : decode cX1_move 80 = .ok (.ifCond .lt 27, 3) := by decide +kernel
theorem dX1_move_83 : decode cX1_move 83 = .ok (.iload 6, 2) := by decide +kernel
theorem dX1_move_85 : decode cX1_move 85 = .ok (.bipush 60, 2) := by decide +kernel
theorem dX1_move_87 : decode cX1_move 87 = .ok (.if_icmp .gt 20, 3) := by decide +kernel
theorem dX1_move_90 : decode cX1_move 90 = .ok (.iload_n 2, 1) := by decide +kernel
theorem dX1_move_91 : decode cX1_move 91 = .ok (.ifCond .eq 16, 3) := by decide +kernel
theorem dX1_move_94 : decode cX1_move 94 = .ok (.aload_n 0, 1) := by decide +kernel
theorem dX1_move_95 : decode cX1_move 95 = .ok (.iload 4, 2) := by decide +kernel
theorem dX1_move_97 : decode cX1_move 97 = .ok (.iload 5, 2) := by decide +kernel
theorem dX1_move_99 : decode cX1_move 99 = .ok (.iload 6, 2) := by decide +kernel
theorem dX1_move_101 : decode cX1_move 101 = .ok (.invokevirtual 23, 3) := by decide +kernel
theorem dX1_move_104 : decode cX1_move 104 = .ok (.iinc 3 1, 3) := by decide +kernel
theorem dX1_move_107 : decode cX1_move 107 = .ok (.iinc 5 1, 3) := by decide +kernel
theorem dX1_move_110 : decode cX1_move 110 = .ok (.goto (-77), 3) := by decide +kernel
theorem dX1_move_113 : decode cX1_move 113 = .ok (.iinc 4 1, 3) := by decide +kernel
theorem dX1_move_116 : decode cX1_move 116 = .ok (.goto (-95), 3) := by decide +kernel
theorem dX1_move_119 : decode cX1_move 119 = .ok (.iload_n 3, 1) := by decide +kernel
theorem dX1_move_120 : decode cX1_move 120 = .ok (.ireturn, 1) := by decide +kernel
abbrev cX1_smooth : ByteArray := prog_3_method_12_code
def yX1_smooth : MethodName := ⟨RX1, "smooth", "()I"⟩
theorem dX1_smooth_0 : decode cX1_smooth 0 = .ok (.aload_n 0, 1) := by decide +kernel
theorem dX1_smooth_1 : decode cX1_smooth 1 = .ok (.invokevirtual 35, 3) := by decide +kernel
theorem dX1_smooth_4 : decode cX1_smooth 4 = .ok (.iconst 0, 1) := by decide +kernel
theorem dX1_smooth_5 : decode cX1_smooth 5 = .ok (.istore_n 1, 1) := by decide +kernel
theorem dX1_smooth_6 : decode cX1_smooth 6 = .ok (.iconst 0, 1) := by decide +kernel
theorem dX1_smooth_7 : decode cX1_smooth 7 = .ok (.istore_n 2, 1) := by decide +kernel
theorem dX1_smooth_8 : decode cX1_smooth 8 = .ok (.iload_n 2, 1) := by decide +kernel
theorem dX1_smooth_9 : decode cX1_smooth 9 = .ok (.aload_n 0, 1) := by decide +kernel
theorem dX1_smooth_10 : decode cX1_smooth 10 = .ok (.getfield 19, 3) := by decide +kernel
theorem dX1_smooth_13 : decode cX1_smooth 13 = .ok (.if_icmp .ge 93, 3) := by decide +kernel
theorem dX1_smooth_16 : decode cX1_smooth 16 = .ok (.iconst 0, 1) := by decide +kernel
theorem dX1_smooth_17 : decode cX1_smooth 17 = .ok (.istore_n 3, 1) := by decide +kernel
theorem dX1_smooth_18 : decode cX1_smooth 18 = .ok (.iload_n 3, 1) := by decide +kernel
theorem dX1_smooth_19 : decode cX1_smooth 19 = .ok (.aload_n 0, 1) := by decide +kernel
theorem dX1_smooth_20 : decode cX1_smooth 20 = .ok (.getfield 19, 3) := by decide +kernel
theorem dX1_smooth_23 : decode cX1_smooth 23 = .ok (.if_icmp .ge 77, 3) := by decide +kernel
theorem dX1_smooth_26 : decode cX1_smooth 26 = .ok (.aload_n 0, 1) := by decide +kernel
theorem dX1_smooth_27 : decode cX1_smooth 27 = .ok (.iload_n 2, 1) := by decide +kernel
theorem dX1_smooth_28 : decode cX1_smooth 28 = .ok (.iload_n 3, 1) := by decide +kernel
theorem dX1_smooth_29 : decode cX1_smooth 29 = .ok (.invokevirtual 38, 3) := by decide +kernel
theorem dX1_smooth_32 : decode cX1_smooth 32 = .ok (.iconst 2, 1) := by decide +kernel
theorem dX1_smooth_33 : decode cX1_smooth 33 = .ok (.idiv, 1) := by decide +kernel
theorem dX1_smooth_34 : decode cX1_smooth 34 = .ok (.istore 4, 2) := by decide +kernel
theorem dX1_smooth_36 : decode cX1_smooth 36 = .ok (.aload_n 0, 1) := by decide +kernel
theorem dX1_smooth_37 : decode cX1_smooth 37 = .ok (.getfield 13, 3) := by decide +kernel
theorem dX1_smooth_40 : decode cX1_smooth 40 = .ok (.bipush 7, 2) := by decide +kernel
theorem dX1_smooth_42 : decode cX1_smooth 42 = .ok (.iload_n 2, 1) := by decide +kernel
theorem dX1_smooth_43 : decode cX1_smooth 43 = .ok (.imul, 1) := by decide +kernel
theorem dX1_smooth_44 : decode cX1_smooth 44 = .ok (.iload_n 3, 1) := by decide +kernel
theorem dX1_smooth_45 : decode cX1_smooth 45 = .ok (.iadd, 1) := by decide +kernel
theorem dX1_smooth_46 : decode cX1_smooth 46 = .ok (.iload 4, 2) := by decide +kernel
theorem dX1_smooth_48 : decode cX1_smooth 48 = .ok (.bipush 60, 2) := by decide +kernel
theorem dX1_smooth_50 : decode cX1_smooth 50 = .ok (.if_icmp .le 8, 3) := by decide +kernel
theorem dX1_smooth_53 : decode cX1_smooth 53 = .ok (.bipush 60, 2) := by decide +kernel
theorem dX1_smooth_55 : decode cX1_smooth 55 = .ok (.goto 5, 3) := by decide +kernel
theorem dX1_smooth_58 : decode cX1_smooth 58 = .ok (.iload 4, 2) := by decide +kernel
theorem dX1_smooth_60 : decode cX1_smooth 60 = .ok (.iastore, 1) := by decide +kernel
theorem dX1_smooth_61 : decode cX1_smooth 61 = .ok (.iload_n 2, 1) := by decide +kernel
theorem dX1_smooth_62 : decode cX1_smooth 62 = .ok (.iload_n 3, 1) := by decide +kernel
theorem dX1_smooth_63 : decode cX1_smooth 63 = .ok (.if_icmp .ge 31, 3) := by decide +kernel
theorem dX1_smooth_66 : decode cX1_smooth 66 = .ok (.aload_n 0, 1) := by decide +kernel
theorem dX1_smooth_67 : decode cX1_smooth 67 = .ok (.getfield 13, 3) := by decide +kernel
theorem dX1_smooth_70 : decode cX1_smooth 70 = .ok (.bipush 7, 2) := by decide +kernel
theorem dX1_smooth_72 : decode cX1_smooth 72 = .ok (.iload_n 2, 1) := by decide +kernel
theorem dX1_smooth_73 : decode cX1_smooth 73 = .ok (.imul, 1) := by decide +kernel
theorem dX1_smooth_74 : decode cX1_smooth 74 = .ok (.iload_n 3, 1) := by decide +kernel
theorem dX1_smooth_75 : decode cX1_smooth 75 = .ok (.iadd, 1) := by decide +kernel
theorem dX1_smooth_76 : decode cX1_smooth 76 = .ok (.iaload, 1) := by decide +kernel
theorem dX1_smooth_77 : decode cX1_smooth 77 = .ok (.aload_n 0, 1) := by decide +kernel
theorem dX1_smooth_78 : decode cX1_smooth 78 = .ok (.getfield 7, 3) := by decide +kernel
theorem dX1_smooth_81 : decode cX1_smooth 81 = .ok (.bipush 7, 2) := by decide +kernel
theorem dX1_smooth_83 : decode cX1_smooth 83 = .ok (.iload_n 2, 1) := by decide +kernel
theorem dX1_smooth_84 : decode cX1_smooth 84 = .ok (.imul, 1) := by decide +kernel
theorem dX1_smooth_85 : decode cX1_smooth 85 = .ok (.iload_n 3, 1) := by decide +kernel
theorem dX1_smooth_86 : decode cX1_smooth 86 = .ok (.iadd, 1) := by decide +kernel
theorem dX1_smooth_87 : decode cX1_smooth 87 = .ok (.iaload, 1) := by decide +kernel
theorem dX1_smooth_88 : decode cX1_smooth 88 = .ok (.if_icmp .eq 6, 3) := by decide +kernel
theorem dX1_smooth_91 : decode cX1_smooth 91 = .ok (.iinc 1 1, 3) := by decide +kernel
theorem dX1_smooth_94 : decode cX1_smooth 94 = .ok (.iinc 3 1, 3) := by decide +kernel
theorem dX1_smooth_97 : decode cX1_smooth 97 = .ok (.goto (-79), 3) := by decide +kernel
theorem dX1_smooth_100 : decode cX1_smooth 100 = .ok (.iinc 2 1, 3) := by decide +kernel
theorem dX1_smooth_103 : decode cX1_smooth 103 = .ok (.goto (-95), 3) := by decide +kernel
theorem dX1_smooth_106 : decode cX1_smooth 106 = .ok (.iconst 0, 1) := by decide +kernel
theorem dX1_smooth_107 : decode cX1_smooth 107 = .ok (.istore_n 2, 1) := by decide +kernel
theorem dX1_smooth_108 : decode cX1_smooth 108 = .ok (.iload_n 2, 1) := by decide +kernel
theorem dX1_smooth_109 : decode cX1_smooth 109 = .ok (.aload_n 0, 1) := by decide +kernel
theorem dX1_smooth_110 : decode cX1_smooth 110 = .ok (.getfield 19, 3) := by decide +kernel
theorem dX1_smooth_113 : decode cX1_smooth 113 = .ok (.if_icmp .ge 47, 3) := by decide +kernel
theorem dX1_smooth_116 : decode cX1_smooth 116 = .ok (.iconst 0, 1) := by decide +kernel
theorem dX1_smooth_117 : decode cX1_smooth 117 = .ok (.istore_n 3, 1) := by decide +kernel
theorem dX1_smooth_118 : decode cX1_smooth 118 = .ok (.iload_n 3, 1) := by decide +kernel
theorem dX1_smooth_119 : decode cX1_smooth 119 = .ok (.aload_n 0, 1) := by decide +kernel
theorem dX1_smooth_120 : decode cX1_smooth 120 = .ok (.getfield 19, 3) := by decide +kernel
theorem dX1_smooth_123 : decode cX1_smooth 123 = .ok (.if_icmp .ge 31, 3) := by decide +kernel
theorem dX1_smooth_126 : decode cX1_smooth 126 = .ok (.aload_n 0, 1) := by decide +kernel
theorem dX1_smooth_127 : decode cX1_smooth 127 = .ok (.getfield 7, 3) := by decide +kernel
theorem dX1_smooth_130 : decode cX1_smooth 130 = .ok (.bipush 7, 2) := by decide +kernel
theorem dX1_smooth_132 : decode cX1_smooth 132 = .ok (.iload_n 2, 1) := by decide +kernel
theorem dX1_smooth_133 : decode cX1_smooth 133 = .ok (.imul, 1) := by decide +kernel
theorem dX1_smooth_134 : decode cX1_smooth 134 = .ok (.iload_n 3, 1) := by decide +kernel
theorem dX1_smooth_135 : decode cX1_smooth 135 = .ok (.iadd, 1) := by decide +kernel
theorem dX1_smooth_136 : decode cX1_smooth 136 = .ok (.aload_n 0, 1) := by decide +kernel
theorem dX1_smooth_137 : decode cX1_smooth 137 = .ok (.getfield 13, 3) := by decide +kernel
theorem dX1_smooth_140 : decode cX1_smooth 140 = .ok (.bipush 7, 2) := by decide +kernel
theorem dX1_smooth_142 : decode cX1_smooth 142 = .ok (.iload_n 2, 1) := by decide +kernel
theorem dX1_smooth_143 : decode cX1_smooth 143 = .ok (.imul, 1) := by decide +kernel
theorem dX1_smooth_144 : decode cX1_smooth 144 = .ok (.iload_n 3, 1) := by decide +kernel
theorem dX1_smooth_145 : decode cX1_smooth 145 = .ok (.iadd, 1) := by decide +kernel
theorem dX1_smooth_146 : decode cX1_smooth 146 = .ok (.iaload, 1) := by decide +kernel
theorem dX1_smooth_147 : decode cX1_smooth 147 = .ok (.iastore, 1) := by decide +kernel
theorem dX1_smooth_148 : decode cX1_smooth 148 = .ok (.iinc 3 1, 3) := by decide +kernel
theorem dX1_smooth_151 : decode cX1_smooth 151 = .ok (.goto (-33), 3) := by decide +kernel
theorem dX1_smooth_154 : decode cX1_smooth 154 = .ok (.iinc 2 1, 3) := by decide +kernel
theorem dX1_smooth_157 : decode cX1_smooth 157 = .ok (.goto (-49), 3) := by decide +kernel
theorem dX1_smooth_160 : decode cX1_smooth 160 = .ok (.iload_n 1, 1) := by decide +kernel
theorem dX1_smooth_161 : decode cX1_smooth 161 = .ok (.ireturn, 1) := by decide +kernel
abbrev cX1_work : ByteArray := prog_3_method_10_code
def yX1_work : MethodName := ⟨RX1, "work", "()V"⟩
theorem dX1_work_0 : decode cX1_work 0 = .ok (.iconst 1, 1) := by decide +kernel
theorem dX1_work_1 : decode cX1_work 1 = .ok (.istore_n 1, 1) := by decide +kernel
theorem dX1_work_2 : decode cX1_work 2 = .ok (.iload_n 1, 1) := by decide +kernel
theorem dX1_work_3 : decode cX1_work 3 = .ok (.iconst 1, 1) := by decide +kernel
theorem dX1_work_4 : decode cX1_work 4 = .ok (.aload_n 0, 1) := by decide +kernel
theorem dX1_work_5 : decode cX1_work 5 = .ok (.getfield 19, 3) := by decide +kernel
theorem dX1_work_8 : decode cX1_work 8 = .ok (.ishl, 1) := by decide +kernel
end
section
set_option maxRecDepth 100000
theorem dX1_work_9 : decode cX1_work 9 = .ok (.iconst 1, 1) := by decide +kernel
theorem dX1_work_10 : decode cX1_work 10 = .ok (.isub, 1) := by decide +kernel
theorem dX1_work_11 : decode cX1_work 11 = .ok (.if_icmp .ge 20, 3) := by decide +kernel
theorem dX1_work_14 : decode cX1_work 14 = .ok (.aload_n 0, 1) := by decide +kernel
theorem dX1_work_15 : decode cX1_work 15 = .ok (.getfield 16, 3) := by decide +kernel
theorem dX1_work_18 : decode cX1_work 18 = .ok (.iload_n 1, 1) := by decide +kernel
theorem dX1_work_19 : decode cX1_work 19 = .ok (.aload_n 0, 1) := by decide +kernel
theorem dX1_work_20 : decode cX1_work 20 = .ok (.iload_n 1, 1) := by decide +kernel
theorem dX1_work_21 : decode cX1_work 21 = .ok (.invokevirtual 31, 3) := by decide +kernel
theorem dX1_work_24 : decode cX1_work 24 = .ok (.iastore, 1) := by decide +kernel
theorem dX1_work_25 : decode cX1_work 25 = .ok (.iinc 1 2, 3) := by decide +kernel
theorem dX1_work_28 : decode cX1_work 28 = .ok (.goto (-26), 3) := by decide +kernel
theorem dX1_work_31 : decode cX1_work 31 = .ok (.return_, 1) := by decide +kernel
abbrev cX1_indexOf : ByteArray := prog_3_method_8_code
def yX1_indexOf : MethodName := ⟨RX1, "indexOf", "(I)I"⟩
theorem dX1_indexOf_0 : decode cX1_indexOf 0 = .ok (.sipush 1000, 3) := by decide +kernel
theorem dX1_indexOf_3 : decode cX1_indexOf 3 = .ok (.istore_n 2, 1) := by decide +kernel
theorem dX1_indexOf_4 : decode cX1_indexOf 4 = .ok (.iconst 0, 1) := by decide +kernel
theorem dX1_indexOf_5 : decode cX1_indexOf 5 = .ok (.istore_n 3, 1) := by decide +kernel
theorem dX1_indexOf_6 : decode cX1_indexOf 6 = .ok (.iload_n 3, 1) := by decide +kernel
theorem dX1_indexOf_7 : decode cX1_indexOf 7 = .ok (.aload_n 0, 1) := by decide +kernel
theorem dX1_indexOf_8 : decode cX1_indexOf 8 = .ok (.getfield 19, 3) := by decide +kernel
theorem dX1_indexOf_11 : decode cX1_indexOf 11 = .ok (.if_icmp .ge 176, 3) := by decide +kernel
theorem dX1_indexOf_14 : decode cX1_indexOf 14 = .ok (.iconst 0, 1) := by decide +kernel
theorem dX1_indexOf_15 : decode cX1_indexOf 15 = .ok (.istore 4, 2) := by decide +kernel
theorem dX1_indexOf_17 : decode cX1_indexOf 17 = .ok (.iload 4, 2) := by decide +kernel
theorem dX1_indexOf_19 : decode cX1_indexOf 19 = .ok (.aload_n 0, 1) := by decide +kernel
theorem dX1_indexOf_20 : decode cX1_indexOf 20 = .ok (.getfield 19, 3) := by decide +kernel
theorem dX1_indexOf_23 : decode cX1_indexOf 23 = .ok (.if_icmp .ge 158, 3) := by decide +kernel
theorem dX1_indexOf_26 : decode cX1_indexOf 26 = .ok (.iload_n 1, 1) := by decide +kernel
theorem dX1_indexOf_27 : decode cX1_indexOf 27 = .ok (.iload_n 3, 1) := by decide +kernel
theorem dX1_indexOf_28 : decode cX1_indexOf 28 = .ok (.ishr, 1) := by decide +kernel
theorem dX1_indexOf_29 : decode cX1_indexOf 29 = .ok (.iconst 1, 1) := by decide +kernel
theorem dX1_indexOf_30 : decode cX1_indexOf 30 = .ok (.iand, 1) := by decide +kernel
theorem dX1_indexOf_31 : decode cX1_indexOf 31 = .ok (.iconst 1, 1) := by decide +kernel
theorem dX1_indexOf_32 : decode cX1_indexOf 32 = .ok (.if_icmp .ne 17, 3) := by decide +kernel
theorem dX1_indexOf_35 : decode cX1_indexOf 35 = .ok (.iload_n 1, 1) := by decide +kernel
theorem dX1_indexOf_36 : decode cX1_indexOf 36 = .ok (.iload 4, 2) := by decide +kernel
theorem dX1_indexOf_38 : decode cX1_indexOf 38 = .ok (.ishr, 1) := by decide +kernel
theorem dX1_indexOf_39 : decode cX1_indexOf 39 = .ok (.iconst 1, 1) := by decide +kernel
theorem dX1_indexOf_40 : decode cX1_indexOf 40 = .ok (.iand, 1) := by decide +kernel
theorem dX1_indexOf_41 : decode cX1_indexOf 41 = .ok (.iconst 1, 1) := by decide +kernel
theorem dX1_indexOf_42 : decode cX1_indexOf 42 = .ok (.if_icmp .ne 7, 3) := by decide +kernel
theorem dX1_indexOf_45 : decode cX1_indexOf 45 = .ok (.iconst 1, 1) := by decide +kernel
theorem dX1_indexOf_46 : decode cX1_indexOf 46 = .ok (.goto 4, 3) := by decide +kernel
theorem dX1_indexOf_49 : decode cX1_indexOf 49 = .ok (.iconst 0, 1) := by decide +kernel
theorem dX1_indexOf_50 : decode cX1_indexOf 50 = .ok (.istore 5, 2) := by decide +kernel
theorem dX1_indexOf_52 : decode cX1_indexOf 52 = .ok (.iconst 0, 1) := by decide +kernel
theorem dX1_indexOf_53 : decode cX1_indexOf 53 = .ok (.istore 6, 2) := by decide +kernel
theorem dX1_indexOf_55 : decode cX1_indexOf 55 = .ok (.iload 6, 2) := by decide +kernel
theorem dX1_indexOf_57 : decode cX1_indexOf 57 = .ok (.aload_n 0, 1) := by decide +kernel
theorem dX1_indexOf_58 : decode cX1_indexOf 58 = .ok (.getfield 19, 3) := by decide +kernel
theorem dX1_indexOf_61 : decode cX1_indexOf 61 = .ok (.if_icmp .ge 114, 3) := by decide +kernel
theorem dX1_indexOf_64 : decode cX1_indexOf 64 = .ok (.iload 5, 2) := by decide +kernel
theorem dX1_indexOf_66 : decode cX1_indexOf 66 = .ok (.ifCond .eq 109, 3) := by decide +kernel
theorem dX1_indexOf_69 : decode cX1_indexOf 69 = .ok (.iconst 0, 1) := by decide +kernel
theorem dX1_indexOf_70 : decode cX1_indexOf 70 = .ok (.istore 7, 2) := by decide +kernel
theorem dX1_indexOf_72 : decode cX1_indexOf 72 = .ok (.iload 7, 2) := by decide +kernel
theorem dX1_indexOf_74 : decode cX1_indexOf 74 = .ok (.aload_n 0, 1) := by decide +kernel
theorem dX1_indexOf_75 : decode cX1_indexOf 75 = .ok (.getfield 19, 3) := by decide +kernel
theorem dX1_indexOf_78 : decode cX1_indexOf 78 = .ok (.if_icmp .ge 91, 3) := by decide +kernel
theorem dX1_indexOf_81 : decode cX1_indexOf 81 = .ok (.aload_n 0, 1) := by decide +kernel
theorem dX1_indexOf_82 : decode cX1_indexOf 82 = .ok (.getfield 7, 3) := by decide +kernel
theorem dX1_indexOf_85 : decode cX1_indexOf 85 = .ok (.bipush 7, 2) := by decide +kernel
theorem dX1_indexOf_87 : decode cX1_indexOf 87 = .ok (.iload_n 3, 1) := by decide +kernel
theorem dX1_indexOf_88 : decode cX1_indexOf 88 = .ok (.imul, 1) := by decide +kernel
theorem dX1_indexOf_89 : decode cX1_indexOf 89 = .ok (.iload 6, 2) := by decide +kernel
theorem dX1_indexOf_91 : decode cX1_indexOf 91 = .ok (.iadd, 1) := by decide +kernel
theorem dX1_indexOf_92 : decode cX1_indexOf 92 = .ok (.iaload, 1) := by decide +kernel
theorem dX1_indexOf_93 : decode cX1_indexOf 93 = .ok (.aload_n 0, 1) := by decide +kernel
theorem dX1_indexOf_94 : decode cX1_indexOf 94 = .ok (.getfield 7, 3) := by decide +kernel
theorem dX1_indexOf_97 : decode cX1_indexOf 97 = .ok (.bipush 7, 2) := by decide +kernel
theorem dX1_indexOf_99 : decode cX1_indexOf 99 = .ok (.iload 4, 2) := by decide +kernel
theorem dX1_indexOf_101 : decode cX1_indexOf 101 = .ok (.imul, 1) := by decide +kernel
theorem dX1_indexOf_102 : decode cX1_indexOf 102 = .ok (.iload 7, 2) := by decide +kernel
theorem dX1_indexOf_104 : decode cX1_indexOf 104 = .ok (.iadd, 1) := by decide +kernel
theorem dX1_indexOf_105 : decode cX1_indexOf 105 = .ok (.iaload, 1) := by decide +kernel
theorem dX1_indexOf_106 : decode cX1_indexOf 106 = .ok (.iadd, 1) := by decide +kernel
theorem dX1_indexOf_107 : decode cX1_indexOf 107 = .ok (.aload_n 0, 1) := by decide +kernel
theorem dX1_indexOf_108 : decode cX1_indexOf 108 = .ok (.getfield 7, 3) := by decide +kernel
theorem dX1_indexOf_111 : decode cX1_indexOf 111 = .ok (.bipush 7, 2) := by decide +kernel
theorem dX1_indexOf_113 : decode cX1_indexOf 113 = .ok (.iload_n 3, 1) := by decide +kernel
theorem dX1_indexOf_114 : decode cX1_indexOf 114 = .ok (.imul, 1) := by decide +kernel
theorem dX1_indexOf_115 : decode cX1_indexOf 115 = .ok (.iload 4, 2) := by decide +kernel
theorem dX1_indexOf_117 : decode cX1_indexOf 117 = .ok (.iadd, 1) := by decide +kernel
theorem dX1_indexOf_118 : decode cX1_indexOf 118 = .ok (.iaload, 1) := by decide +kernel
theorem dX1_indexOf_119 : decode cX1_indexOf 119 = .ok (.isub, 1) := by decide +kernel
theorem dX1_indexOf_120 : decode cX1_indexOf 120 = .ok (.aload_n 0, 1) := by decide +kernel
theorem dX1_indexOf_121 : decode cX1_indexOf 121 = .ok (.getfield 7, 3) := by decide +kernel
theorem dX1_indexOf_124 : decode cX1_indexOf 124 = .ok (.bipush 7, 2) := by decide +kernel
theorem dX1_indexOf_126 : decode cX1_indexOf 126 = .ok (.iload 6, 2) := by decide +kernel
theorem dX1_indexOf_128 : decode cX1_indexOf 128 = .ok (.imul, 1) := by decide +kernel
theorem dX1_indexOf_129 : decode cX1_indexOf 129 = .ok (.iload 7, 2) := by decide +kernel
theorem dX1_indexOf_131 : decode cX1_indexOf 131 = .ok (.iadd, 1) := by decide +kernel
theorem dX1_indexOf_132 : decode cX1_indexOf 132 = .ok (.iaload, 1) := by decide +kernel
theorem dX1_indexOf_133 : decode cX1_indexOf 133 = .ok (.isub, 1) := by decide +kernel
theorem dX1_indexOf_134 : decode cX1_indexOf 134 = .ok (.istore 8, 2) := by decide +kernel
theorem dX1_indexOf_136 : decode cX1_indexOf 136 = .ok (.iload_n 1, 1) := by decide +kernel
theorem dX1_indexOf_137 : decode cX1_indexOf 137 = .ok (.iload 6, 2) := by decide +kernel
theorem dX1_indexOf_139 : decode cX1_indexOf 139 = .ok (.ishr, 1) := by decide +kernel
theorem dX1_indexOf_140 : decode cX1_indexOf 140 = .ok (.iconst 1, 1) := by decide +kernel
theorem dX1_indexOf_141 : decode cX1_indexOf 141 = .ok (.iand, 1) := by decide +kernel
theorem dX1_indexOf_142 : decode cX1_indexOf 142 = .ok (.ifCond .ne 21, 3) := by decide +kernel
theorem dX1_indexOf_145 : decode cX1_indexOf 145 = .ok (.iload_n 1, 1) := by decide +kernel
theorem dX1_indexOf_146 : decode cX1_indexOf 146 = .ok (.iload 7, 2) := by decide +kernel
theorem dX1_indexOf_148 : decode cX1_indexOf 148 = .ok (.ishr, 1) := by decide +kernel
theorem dX1_indexOf_149 : decode cX1_indexOf 149 = .ok (.iconst 1, 1) := by decide +kernel
theorem dX1_indexOf_150 : decode cX1_indexOf 150 = .ok (.iand, 1) := by decide +kernel
theorem dX1_indexOf_151 : decode cX1_indexOf 151 = .ok (.ifCond .ne 12, 3) := by decide +kernel
theorem dX1_indexOf_154 : decode cX1_indexOf 154 = .ok (.iload 8, 2) := by decide +kernel
theorem dX1_indexOf_156 : decode cX1_indexOf 156 = .ok (.iload_n 2, 1) := by decide +kernel
theorem dX1_indexOf_157 : decode cX1_indexOf 157 = .ok (.if_icmp .ge 6, 3) := by decide +kernel
theorem dX1_indexOf_160 : decode cX1_indexOf 160 = .ok (.iload 8, 2) := by decide +kernel
theorem dX1_indexOf_162 : decode cX1_indexOf 162 = .ok (.istore_n 2, 1) := by decide +kernel
theorem dX1_indexOf_163 : decode cX1_indexOf 163 = .ok (.iinc 7 1, 3) := by decide +kernel
theorem dX1_indexOf_166 : decode cX1_indexOf 166 = .ok (.goto (-94), 3) := by decide +kernel
theorem dX1_indexOf_169 : decode cX1_indexOf 169 = .ok (.iinc 6 1, 3) := by decide +kernel
theorem dX1_indexOf_172 : decode cX1_indexOf 172 = .ok (.goto (-117), 3) := by decide +kernel
theorem dX1_indexOf_175 : decode cX1_indexOf 175 = .ok (.iinc 4 1, 3) := by decide +kernel
theorem dX1_indexOf_178 : decode cX1_indexOf 178 = .ok (.goto (-161), 3) := by decide +kernel
theorem dX1_indexOf_181 : decode cX1_indexOf 181 = .ok (.iinc 3 1, 3) := by decide +kernel
theorem dX1_indexOf_184 : decode cX1_indexOf 184 = .ok (.goto (-178), 3) := by decide +kernel
theorem dX1_indexOf_187 : decode cX1_indexOf 187 = .ok (.iload_n 2, 1) := by decide +kernel
theorem dX1_indexOf_188 : decode cX1_indexOf 188 = .ok (.ireturn, 1) := by decide +kernel
abbrev cX1_between : ByteArray := prog_3_method_11_code
def yX1_between : MethodName := ⟨RX1, "between", "(II)I"⟩
theorem dX1_between_0 : decode cX1_between 0 = .ok (.iconst 0, 1) := by decide +kernel
theorem dX1_between_1 : decode cX1_between 1 = .ok (.istore_n 3, 1) := by decide +kernel
theorem dX1_between_2 : decode cX1_between 2 = .ok (.iconst 1, 1) := by decide +kernel
theorem dX1_between_3 : decode cX1_between 3 = .ok (.istore 4, 2) := by decide +kernel
theorem dX1_between_5 : decode cX1_between 5 = .ok (.iload 4, 2) := by decide +kernel
theorem dX1_between_7 : decode cX1_between 7 = .ok (.iconst 1, 1) := by decide +kernel
theorem dX1_between_8 : decode cX1_between 8 = .ok (.aload_n 0, 1) := by decide +kernel
theorem dX1_between_9 : decode cX1_between 9 = .ok (.getfield 19, 3) := by decide +kernel
theorem dX1_between_12 : decode cX1_between 12 = .ok (.ishl, 1) := by decide +kernel
theorem dX1_between_13 : decode cX1_between 13 = .ok (.iconst 1, 1) := by decide +kernel
theorem dX1_between_14 : decode cX1_between 14 = .ok (.isub, 1) := by decide +kernel
theorem dX1_between_15 : decode cX1_between 15 = .ok (.if_icmp .ge 44, 3) := by decide +kernel
theorem dX1_between_18 : decode cX1_between 18 = .ok (.iload 4, 2) := by decide +kernel
theorem dX1_between_20 : decode cX1_between 20 = .ok (.iload_n 1, 1) := by decide +kernel
theorem dX1_between_21 : decode cX1_between 21 = .ok (.ishr, 1) := by decide +kernel
theorem dX1_between_22 : decode cX1_between 22 = .ok (.iconst 1, 1) := by decide +kernel
theorem dX1_between_23 : decode cX1_between 23 = .ok (.iand, 1) := by decide +kernel
theorem dX1_between_24 : decode cX1_between 24 = .ok (.iload 4, 2) := by decide +kernel
theorem dX1_between_26 : decode cX1_between 26 = .ok (.iload_n 2, 1) := by decide +kernel
theorem dX1_between_27 : decode cX1_between 27 = .ok (.ishr, 1) := by decide +kernel
theorem dX1_between_28 : decode cX1_between 28 = .ok (.iconst 1, 1) := by decide +kernel
theorem dX1_between_29 : decode cX1_between 29 = .ok (.iand, 1) := by decide +kernel
theorem dX1_between_30 : decode cX1_between 30 = .ok (.if_icmp .eq 23, 3) := by decide +kernel
theorem dX1_between_33 : decode cX1_between 33 = .ok (.aload_n 0, 1) := by decide +kernel
theorem dX1_between_34 : decode cX1_between 34 = .ok (.getfield 16, 3) := by decide +kernel
theorem dX1_between_37 : decode cX1_between 37 = .ok (.iload 4, 2) := by decide +kernel
theorem dX1_between_39 : decode cX1_between 39 = .ok (.iaload, 1) := by decide +kernel
theorem dX1_between_40 : decode cX1_between 40 = .ok (.ifCond .le 13, 3) := by decide +kernel
theorem dX1_between_43 : decode cX1_between 43 = .ok (.iload_n 3, 1) := by decide +kernel
theorem dX1_between_44 : decode cX1_between 44 = .ok (.aload_n 0, 1) := by decide +kernel
theorem dX1_between_45 : decode cX1_between 45 = .ok (.getfield 16, 3) := by decide +kernel
theorem dX1_between_48 : decode cX1_between 48 = .ok (.iload 4, 2) := by decide +kernel
theorem dX1_between_50 : decode cX1_between 50 = .ok (.iaload, 1) := by decide +kernel
theorem dX1_between_51 : decode cX1_between 51 = .ok (.iadd, 1) := by decide +kernel
theorem dX1_between_52 : decode cX1_between 52 = .ok (.istore_n 3, 1) := by decide +kernel
theorem dX1_between_53 : decode cX1_between 53 = .ok (.iinc 4 2, 3) := by decide +kernel
theorem dX1_between_56 : decode cX1_between 56 = .ok (.goto (-51), 3) := by decide +kernel
theorem dX1_between_59 : decode cX1_between 59 = .ok (.iload_n 3, 1) := by decide +kernel
theorem dX1_between_60 : decode cX1_between 60 = .ok (.ireturn, 1) := by decide +kernel
abbrev cX1_points : ByteArray := prog_3_method_13_code
def yX1_points : MethodName := ⟨RX1, "points", "()I"⟩
theorem dX1_points_0 : decode cX1_points 0 = .ok (.aload_n 0, 1) := by decide +kernel
theorem dX1_points_1 : decode cX1_points 1 = .ok (.getfield 19, 3) := by decide +kernel
theorem dX1_points_4 : decode cX1_points 4 = .ok (.ireturn, 1) := by decide +kernel
abbrev cX1_distance : ByteArray := prog_3_method_14_code
def yX1_distance : MethodName := ⟨RX1, "distance", "(II)I"⟩
theorem dX1_distance_0 : decode cX1_distance 0 = .ok (.aload_n 0, 1) := by decide +kernel
theorem dX1_distance_1 : decode cX1_distance 1 = .ok (.iload_n 1, 1) := by decide +kernel
theorem dX1_distance_2 : decode cX1_distance 2 = .ok (.invokevirtual 27, 3) := by decide +kernel
theorem dX1_distance_5 : decode cX1_distance 5 = .ok (.ifCond .eq 25, 3) := by decide +kernel
theorem dX1_distance_8 : decode cX1_distance 8 = .ok (.aload_n 0, 1) := by decide +kernel
theorem dX1_distance_9 : decode cX1_distance 9 = .ok (.iload_n 2, 1) := by decide +kernel
theorem dX1_distance_10 : decode cX1_distance 10 = .ok (.invokevirtual 27, 3) := by decide +kernel
theorem dX1_distance_13 : decode cX1_distance 13 = .ok (.ifCond .eq 17, 3) := by decide +kernel
theorem dX1_distance_16 : decode cX1_distance 16 = .ok (.aload_n 0, 1) := by decide +kernel
theorem dX1_distance_17 : decode cX1_distance 17 = .ok (.getfield 7, 3) := by decide +kernel
theorem dX1_distance_20 : decode cX1_distance 20 = .ok (.bipush 7, 2) := by decide +kernel
theorem dX1_distance_22 : decode cX1_distance 22 = .ok (.iload_n 1, 1) := by decide +kernel
theorem dX1_distance_23 : decode cX1_distance 23 = .ok (.imul, 1) := by decide +kernel
theorem dX1_distance_24 : decode cX1_distance 24 = .ok (.iload_n 2, 1) := by decide +kernel
theorem dX1_distance_25 : decode cX1_distance 25 = .ok (.iadd, 1) := by decide +kernel
theorem dX1_distance_26 : decode cX1_distance 26 = .ok (.iaload, 1) := by decide +kernel
theorem dX1_distance_27 : decode cX1_distance 27 = .ok (.goto 6, 3) := by decide +kernel
theorem dX1_distance_30 : decode cX1_distance 30 = .ok (.sipush (-1000), 3) := by decide +kernel
theorem dX1_distance_33 : decode cX1_distance 33 = .ok (.ireturn, 1) := by decide +kernel
abbrev cX1_index : ByteArray := prog_3_method_15_code
def yX1_index : MethodName := ⟨RX1, "index", "(I)I"⟩
theorem dX1_index_0 : decode cX1_index 0 = .ok (.aload_n 0, 1) := by decide +kernel
theorem dX1_index_1 : decode cX1_index 1 = .ok (.iload_n 1, 1) := by decide +kernel
theorem dX1_index_2 : decode cX1_index 2 = .ok (.invokevirtual 42, 3) := by decide +kernel
theorem dX1_index_5 : decode cX1_index 5 = .ok (.ifCond .eq 11, 3) := by decide +kernel
theorem dX1_index_8 : decode cX1_index 8 = .ok (.aload_n 0, 1) := by decide +kernel
theorem dX1_index_9 : decode cX1_index 9 = .ok (.iload_n 1, 1) := by decide +kernel
theorem dX1_index_10 : decode cX1_index 10 = .ok (.invokevirtual 31, 3) := by decide +kernel
theorem dX1_index_13 : decode cX1_index 13 = .ok (.goto 6, 3) := by decide +kernel
theorem dX1_index_16 : decode cX1_index 16 = .ok (.sipush (-1000), 3) := by decide +kernel
theorem dX1_index_19 : decode cX1_index 19 = .ok (.ireturn, 1) := by decide +kernel
abbrev cX1_isSplit : ByteArray := prog_3_method_9_code
def yX1_isSplit : MethodName := ⟨RX1, "isSplit", "(I)Z"⟩
theorem dX1_isSplit_0 : decode cX1_isSplit 0 = .ok (.iload_n 1, 1) := by decide +kernel
theorem dX1_isSplit_1 : decode cX1_isSplit 1 = .ok (.ifCond .le 26, 3) := by decide +kernel
theorem dX1_isSplit_4 : decode cX1_isSplit 4 = .ok (.iload_n 1, 1) := by decide +kernel
theorem dX1_isSplit_5 : decode cX1_isSplit 5 = .ok (.iconst 1, 1) := by decide +kernel
theorem dX1_isSplit_6 : decode cX1_isSplit 6 = .ok (.aload_n 0, 1) := by decide +kernel
theorem dX1_isSplit_7 : decode cX1_isSplit 7 = .ok (.getfield 19, 3) := by decide +kernel
theorem dX1_isSplit_10 : decode cX1_isSplit 10 = .ok (.ishl, 1) := by decide +kernel
theorem dX1_isSplit_11 : decode cX1_isSplit 11 = .ok (.iconst 1, 1) := by decide +kernel
theorem dX1_isSplit_12 : decode cX1_isSplit 12 = .ok (.isub, 1) := by decide +kernel
theorem dX1_isSplit_13 : decode cX1_isSplit 13 = .ok (.if_icmp .ge 14, 3) := by decide +kernel
theorem dX1_isSplit_16 : decode cX1_isSplit 16 = .ok (.iload_n 1, 1) := by decide +kernel
theorem dX1_isSplit_17 : decode cX1_isSplit 17 = .ok (.iconst 2, 1) := by decide +kernel
theorem dX1_isSplit_18 : decode cX1_isSplit 18 = .ok (.irem, 1) := by decide +kernel
theorem dX1_isSplit_19 : decode cX1_isSplit 19 = .ok (.iconst 1, 1) := by decide +kernel
theorem dX1_isSplit_20 : decode cX1_isSplit 20 = .ok (.if_icmp .ne 7, 3) := by decide +kernel
theorem dX1_isSplit_23 : decode cX1_isSplit 23 = .ok (.iconst 1, 1) := by decide +kernel
theorem dX1_isSplit_24 : decode cX1_isSplit 24 = .ok (.goto 4, 3) := by decide +kernel
theorem dX1_isSplit_27 : decode cX1_isSplit 27 = .ok (.iconst 0, 1) := by decide +kernel
theorem dX1_isSplit_28 : decode cX1_isSplit 28 = .ok (.ireturn, 1) := by decide +kernel
abbrev cX1_edges : ByteArray := prog_3_method_16_code
def yX1_edges : MethodName := ⟨RX1, "edges", "()I"⟩
theorem dX1_edges_0 : decode cX1_edges 0 = .ok (.aload_n 0, 1) := by decide +kernel
theorem dX1_edges_1 : decode cX1_edges 1 = .ok (.invokevirtual 35, 3) := by decide +kernel
theorem dX1_edges_4 : decode cX1_edges 4 = .ok (.iconst 0, 1) := by decide +kernel
theorem dX1_edges_5 : decode cX1_edges 5 = .ok (.istore_n 1, 1) := by decide +kernel
theorem dX1_edges_6 : decode cX1_edges 6 = .ok (.iconst 1, 1) := by decide +kernel
theorem dX1_edges_7 : decode cX1_edges 7 = .ok (.istore_n 2, 1) := by decide +kernel
theorem dX1_edges_8 : decode cX1_edges 8 = .ok (.iload_n 2, 1) := by decide +kernel
theorem dX1_edges_9 : decode cX1_edges 9 = .ok (.iconst 1, 1) := by decide +kernel
theorem dX1_edges_10 : decode cX1_edges 10 = .ok (.aload_n 0, 1) := by decide +kernel
theorem dX1_edges_11 : decode cX1_edges 11 = .ok (.getfield 19, 3) := by decide +kernel
theorem dX1_edges_14 : decode cX1_edges 14 = .ok (.ishl, 1) := by decide +kernel
theorem dX1_edges_15 : decode cX1_edges 15 = .ok (.iconst 1, 1) := by decide +kernel
theorem dX1_edges_16 : decode cX1_edges 16 = .ok (.isub, 1) := by decide +kernel
theorem dX1_edges_17 : decode cX1_edges 17 = .ok (.if_icmp .ge 21, 3) := by decide +kernel
theorem dX1_edges_20 : decode cX1_edges 20 = .ok (.aload_n 0, 1) := by decide +kernel
theorem dX1_edges_21 : decode cX1_edges 21 = .ok (.getfield 16, 3) := by decide +kernel
theorem dX1_edges_24 : decode cX1_edges 24 = .ok (.iload_n 2, 1) := by decide +kernel
theorem dX1_edges_25 : decode cX1_edges 25 = .ok (.iaload, 1) := by decide +kernel
theorem dX1_edges_26 : decode cX1_edges 26 = .ok (.ifCond .le 6, 3) := by decide +kernel
theorem dX1_edges_29 : decode cX1_edges 29 = .ok (.iinc 1 1, 3) := by decide +kernel
theorem dX1_edges_32 : decode cX1_edges 32 = .ok (.iinc 2 2, 3) := by decide +kernel
theorem dX1_edges_35 : decode cX1_edges 35 = .ok (.goto (-27), 3) := by decide +kernel
theorem dX1_edges_38 : decode cX1_edges 38 = .ok (.iload_n 1, 1) := by decide +kernel
theorem dX1_edges_39 : decode cX1_edges 39 = .ok (.ireturn, 1) := by decide +kernel
abbrev cX1_edge : ByteArray := prog_3_method_17_code
def yX1_edge : MethodName := ⟨RX1, "edge", "(I)I"⟩
theorem dX1_edge_0 : decode cX1_edge 0 = .ok (.aload_n 0, 1) := by decide +kernel
theorem dX1_edge_1 : decode cX1_edge 1 = .ok (.invokevirtual 35, 3) := by decide +kernel
theorem dX1_edge_4 : decode cX1_edge 4 = .ok (.iconst 0, 1) := by decide +kernel
theorem dX1_edge_5 : decode cX1_edge 5 = .ok (.istore_n 2, 1) := by decide +kernel
theorem dX1_edge_6 : decode cX1_edge 6 = .ok (.iconst 1, 1) := by decide +kernel
theorem dX1_edge_7 : decode cX1_edge 7 = .ok (.istore_n 3, 1) := by decide +kernel
theorem dX1_edge_8 : decode cX1_edge 8 = .ok (.iload_n 3, 1) := by decide +kernel
theorem dX1_edge_9 : decode cX1_edge 9 = .ok (.iconst 1, 1) := by decide +kernel
theorem dX1_edge_10 : decode cX1_edge 10 = .ok (.aload_n 0, 1) := by decide +kernel
theorem dX1_edge_11 : decode cX1_edge 11 = .ok (.getfield 19, 3) := by decide +kernel
theorem dX1_edge_14 : decode cX1_edge 14 = .ok (.ishl, 1) := by decide +kernel
theorem dX1_edge_15 : decode cX1_edge 15 = .ok (.iconst 1, 1) := by decide +kernel
theorem dX1_edge_16 : decode cX1_edge 16 = .ok (.isub, 1) := by decide +kernel
theorem dX1_edge_17 : decode cX1_edge 17 = .ok (.if_icmp .ge 28, 3) := by decide +kernel
theorem dX1_edge_20 : decode cX1_edge 20 = .ok (.aload_n 0, 1) := by decide +kernel
theorem dX1_edge_21 : decode cX1_edge 21 = .ok (.getfield 16, 3) := by decide +kernel
theorem dX1_edge_24 : decode cX1_edge 24 = .ok (.iload_n 3, 1) := by decide +kernel
theorem dX1_edge_25 : decode cX1_edge 25 = .ok (.iaload, 1) := by decide +kernel
theorem dX1_edge_26 : decode cX1_edge 26 = .ok (.ifCond .le 13, 3) := by decide +kernel
theorem dX1_edge_29 : decode cX1_edge 29 = .ok (.iload_n 2, 1) := by decide +kernel
theorem dX1_edge_30 : decode cX1_edge 30 = .ok (.iload_n 1, 1) := by decide +kernel
theorem dX1_edge_31 : decode cX1_edge 31 = .ok (.if_icmp .ne 5, 3) := by decide +kernel
theorem dX1_edge_34 : decode cX1_edge 34 = .ok (.iload_n 3, 1) := by decide +kernel
theorem dX1_edge_35 : decode cX1_edge 35 = .ok (.ireturn, 1) := by decide +kernel
theorem dX1_edge_36 : decode cX1_edge 36 = .ok (.iinc 2 1, 3) := by decide +kernel
theorem dX1_edge_39 : decode cX1_edge 39 = .ok (.iinc 3 2, 3) := by decide +kernel
theorem dX1_edge_42 : decode cX1_edge 42 = .ok (.goto (-34), 3) := by decide +kernel
theorem dX1_edge_45 : decode cX1_edge 45 = .ok (.sipush (-1002), 3) := by decide +kernel
theorem dX1_edge_48 : decode cX1_edge 48 = .ok (.ireturn, 1) := by decide +kernel
abbrev cX1_treeDistance : ByteArray := prog_3_method_18_code
def yX1_treeDistance : MethodName := ⟨RX1, "treeDistance", "(II)I"⟩
theorem dX1_treeDistance_0 : decode cX1_treeDistance 0 = .ok (.aload_n 0, 1) := by decide +kernel
theorem dX1_treeDistance_1 : decode cX1_treeDistance 1 = .ok (.iload_n 1, 1) := by decide +kernel
theorem dX1_treeDistance_2 : decode cX1_treeDistance 2 = .ok (.invokevirtual 27, 3) := by decide +kernel
theorem dX1_treeDistance_5 : decode cX1_treeDistance 5 = .ok (.ifCond .eq 11, 3) := by decide +kernel
theorem dX1_treeDistance_8 : decode cX1_treeDistance 8 = .ok (.aload_n 0, 1) := by decide +kernel
theorem dX1_treeDistance_9 : decode cX1_treeDistance 9 = .ok (.iload_n 2, 1) := by decide +kernel
theorem dX1_treeDistance_10 : decode cX1_treeDistance 10 = .ok (.invokevirtual 27, 3) := by decide +kernel
theorem dX1_treeDistance_13 : decode cX1_treeDistance 13 = .ok (.ifCond .ne 7, 3) := by decide +kernel
theorem dX1_treeDistance_16 : decode cX1_treeDistance 16 = .ok (.sipush (-1000), 3) := by decide +kernel
theorem dX1_treeDistance_19 : decode cX1_treeDistance 19 = .ok (.ireturn, 1) := by decide +kernel
theorem dX1_treeDistance_20 : decode cX1_treeDistance 20 = .ok (.aload_n 0, 1) := by decide +kernel
theorem dX1_treeDistance_21 : decode cX1_treeDistance 21 = .ok (.invokevirtual 35, 3) := by decide +kernel
theorem dX1_treeDistance_24 : decode cX1_treeDistance 24 = .ok (.aload_n 0, 1) := by decide +kernel
theorem dX1_treeDistance_25 : decode cX1_treeDistance 25 = .ok (.iload_n 1, 1) := by decide +kernel
theorem dX1_treeDistance_26 : decode cX1_treeDistance 26 = .ok (.iload_n 2, 1) := by decide +kernel
theorem dX1_treeDistance_27 : decode cX1_treeDistance 27 = .ok (.invokevirtual 38, 3) := by decide +kernel
theorem dX1_treeDistance_30 : decode cX1_treeDistance 30 = .ok (.ireturn, 1) := by decide +kernel
abbrev cX1_together : ByteArray := prog_3_method_19_code
def yX1_together : MethodName := ⟨RX1, "together", "(II)I"⟩
theorem dX1_together_0 : decode cX1_together 0 = .ok (.aload_n 0, 1) := by decide +kernel
theorem dX1_together_1 : decode cX1_together 1 = .ok (.iload_n 1, 1) := by decide +kernel
theorem dX1_together_2 : decode cX1_together 2 = .ok (.invokevirtual 27, 3) := by decide +kernel
theorem dX1_together_5 : decode cX1_together 5 = .ok (.ifCond .eq 11, 3) := by decide +kernel
theorem dX1_together_8 : decode cX1_together 8 = .ok (.aload_n 0, 1) := by decide +kernel
theorem dX1_together_9 : decode cX1_together 9 = .ok (.iload_n 2, 1) := by decide +kernel
theorem dX1_together_10 : decode cX1_together 10 = .ok (.invokevirtual 27, 3) := by decide +kernel
theorem dX1_together_13 : decode cX1_together 13 = .ok (.ifCond .ne 7, 3) := by decide +kernel
theorem dX1_together_16 : decode cX1_together 16 = .ok (.sipush (-1000), 3) := by decide +kernel
theorem dX1_together_19 : decode cX1_together 19 = .ok (.ireturn, 1) := by decide +kernel
theorem dX1_together_20 : decode cX1_together 20 = .ok (.aload_n 0, 1) := by decide +kernel
theorem dX1_together_21 : decode cX1_together 21 = .ok (.invokevirtual 35, 3) := by decide +kernel
theorem dX1_together_24 : decode cX1_together 24 = .ok (.aload_n 0, 1) := by decide +kernel
theorem dX1_together_25 : decode cX1_together 25 = .ok (.iload_n 1, 1) := by decide +kernel
theorem dX1_together_26 : decode cX1_together 26 = .ok (.iload_n 2, 1) := by decide +kernel
theorem dX1_together_27 : decode cX1_together 27 = .ok (.invokevirtual 38, 3) := by decide +kernel
theorem dX1_together_30 : decode cX1_together 30 = .ok (.ifCond .ne 7, 3) := by decide +kernel
theorem dX1_together_33 : decode cX1_together 33 = .ok (.iconst 1, 1) := by decide +kernel
theorem dX1_together_34 : decode cX1_together 34 = .ok (.goto 4, 3) := by decide +kernel
theorem dX1_together_37 : decode cX1_together 37 = .ok (.iconst 0, 1) := by decide +kernel
theorem dX1_together_38 : decode cX1_together 38 = .ok (.ireturn, 1) := by decide +kernel
abbrev cX1_agrees : ByteArray := prog_3_method_22_code
def yX1_agrees : MethodName := ⟨RX1, "agrees", "(I)I"⟩
theorem dX1_agrees_0 : decode cX1_agrees 0 = .ok (.aload_n 0, 1) := by decide +kernel
theorem dX1_agrees_1 : decode cX1_agrees 1 = .ok (.iload_n 1, 1) := by decide +kernel
theorem dX1_agrees_2 : decode cX1_agrees 2 = .ok (.invokevirtual 42, 3) := by decide +kernel
end
section
set_option maxRecDepth 100000
theorem dX1_agrees_5 : decode cX1_agrees 5 = .ok (.ifCond .ne 7, 3) := by decide +kernel
theorem dX1_agrees_8 : decode cX1_agrees 8 = .ok (.sipush (-1000), 3) := by decide +kernel
theorem dX1_agrees_11 : decode cX1_agrees 11 = .ok (.ireturn, 1) := by decide +kernel
theorem dX1_agrees_12 : decode cX1_agrees 12 = .ok (.aload_n 0, 1) := by decide +kernel
theorem dX1_agrees_13 : decode cX1_agrees 13 = .ok (.invokevirtual 35, 3) := by decide +kernel
theorem dX1_agrees_16 : decode cX1_agrees 16 = .ok (.aload_n 0, 1) := by decide +kernel
theorem dX1_agrees_17 : decode cX1_agrees 17 = .ok (.iload_n 1, 1) := by decide +kernel
theorem dX1_agrees_18 : decode cX1_agrees 18 = .ok (.invokevirtual 49, 3) := by decide +kernel
theorem dX1_agrees_21 : decode cX1_agrees 21 = .ok (.ifCond .eq 7, 3) := by decide +kernel
theorem dX1_agrees_24 : decode cX1_agrees 24 = .ok (.iconst 1, 1) := by decide +kernel
theorem dX1_agrees_25 : decode cX1_agrees 25 = .ok (.goto 4, 3) := by decide +kernel
theorem dX1_agrees_28 : decode cX1_agrees 28 = .ok (.iconst 0, 1) := by decide +kernel
theorem dX1_agrees_29 : decode cX1_agrees 29 = .ok (.ireturn, 1) := by decide +kernel
abbrev cX1_agreesWithAll : ByteArray := prog_3_method_21_code
def yX1_agreesWithAll : MethodName := ⟨RX1, "agreesWithAll", "(I)Z"⟩
theorem dX1_agreesWithAll_0 : decode cX1_agreesWithAll 0 = .ok (.iconst 1, 1) := by decide +kernel
theorem dX1_agreesWithAll_1 : decode cX1_agreesWithAll 1 = .ok (.istore_n 2, 1) := by decide +kernel
theorem dX1_agreesWithAll_2 : decode cX1_agreesWithAll 2 = .ok (.iload_n 2, 1) := by decide +kernel
theorem dX1_agreesWithAll_3 : decode cX1_agreesWithAll 3 = .ok (.iconst 1, 1) := by decide +kernel
theorem dX1_agreesWithAll_4 : decode cX1_agreesWithAll 4 = .ok (.aload_n 0, 1) := by decide +kernel
theorem dX1_agreesWithAll_5 : decode cX1_agreesWithAll 5 = .ok (.getfield 19, 3) := by decide +kernel
theorem dX1_agreesWithAll_8 : decode cX1_agreesWithAll 8 = .ok (.ishl, 1) := by decide +kernel
theorem dX1_agreesWithAll_9 : decode cX1_agreesWithAll 9 = .ok (.iconst 1, 1) := by decide +kernel
theorem dX1_agreesWithAll_10 : decode cX1_agreesWithAll 10 = .ok (.isub, 1) := by decide +kernel
theorem dX1_agreesWithAll_11 : decode cX1_agreesWithAll 11 = .ok (.if_icmp .ge 29, 3) := by decide +kernel
theorem dX1_agreesWithAll_14 : decode cX1_agreesWithAll 14 = .ok (.aload_n 0, 1) := by decide +kernel
theorem dX1_agreesWithAll_15 : decode cX1_agreesWithAll 15 = .ok (.getfield 16, 3) := by decide +kernel
theorem dX1_agreesWithAll_18 : decode cX1_agreesWithAll 18 = .ok (.iload_n 2, 1) := by decide +kernel
theorem dX1_agreesWithAll_19 : decode cX1_agreesWithAll 19 = .ok (.iaload, 1) := by decide +kernel
theorem dX1_agreesWithAll_20 : decode cX1_agreesWithAll 20 = .ok (.ifCond .le 14, 3) := by decide +kernel
theorem dX1_agreesWithAll_23 : decode cX1_agreesWithAll 23 = .ok (.aload_n 0, 1) := by decide +kernel
theorem dX1_agreesWithAll_24 : decode cX1_agreesWithAll 24 = .ok (.iload_n 1, 1) := by decide +kernel
theorem dX1_agreesWithAll_25 : decode cX1_agreesWithAll 25 = .ok (.iload_n 2, 1) := by decide +kernel
theorem dX1_agreesWithAll_26 : decode cX1_agreesWithAll 26 = .ok (.invokevirtual 45, 3) := by decide +kernel
theorem dX1_agreesWithAll_29 : decode cX1_agreesWithAll 29 = .ok (.ifCond .ne 5, 3) := by decide +kernel
theorem dX1_agreesWithAll_32 : decode cX1_agreesWithAll 32 = .ok (.iconst 0, 1) := by decide +kernel
theorem dX1_agreesWithAll_33 : decode cX1_agreesWithAll 33 = .ok (.ireturn, 1) := by decide +kernel
theorem dX1_agreesWithAll_34 : decode cX1_agreesWithAll 34 = .ok (.iinc 2 2, 3) := by decide +kernel
theorem dX1_agreesWithAll_37 : decode cX1_agreesWithAll 37 = .ok (.goto (-35), 3) := by decide +kernel
theorem dX1_agreesWithAll_40 : decode cX1_agreesWithAll 40 = .ok (.iconst 1, 1) := by decide +kernel
theorem dX1_agreesWithAll_41 : decode cX1_agreesWithAll 41 = .ok (.ireturn, 1) := by decide +kernel
abbrev cX1_agree : ByteArray := prog_3_method_20_code
def yX1_agree : MethodName := ⟨RX1, "agree", "(II)Z"⟩
theorem dX1_agree_0 : decode cX1_agree 0 = .ok (.iconst 1, 1) := by decide +kernel
theorem dX1_agree_1 : decode cX1_agree 1 = .ok (.aload_n 0, 1) := by decide +kernel
theorem dX1_agree_2 : decode cX1_agree 2 = .ok (.getfield 19, 3) := by decide +kernel
theorem dX1_agree_5 : decode cX1_agree 5 = .ok (.ishl, 1) := by decide +kernel
theorem dX1_agree_6 : decode cX1_agree 6 = .ok (.iconst 1, 1) := by decide +kernel
theorem dX1_agree_7 : decode cX1_agree 7 = .ok (.isub, 1) := by decide +kernel
theorem dX1_agree_8 : decode cX1_agree 8 = .ok (.istore_n 3, 1) := by decide +kernel
theorem dX1_agree_9 : decode cX1_agree 9 = .ok (.iload_n 1, 1) := by decide +kernel
theorem dX1_agree_10 : decode cX1_agree 10 = .ok (.iload_n 2, 1) := by decide +kernel
theorem dX1_agree_11 : decode cX1_agree 11 = .ok (.iand, 1) := by decide +kernel
theorem dX1_agree_12 : decode cX1_agree 12 = .ok (.istore 4, 2) := by decide +kernel
theorem dX1_agree_14 : decode cX1_agree 14 = .ok (.iload_n 1, 1) := by decide +kernel
theorem dX1_agree_15 : decode cX1_agree 15 = .ok (.iload_n 2, 1) := by decide +kernel
theorem dX1_agree_16 : decode cX1_agree 16 = .ok (.iconst (-1), 1) := by decide +kernel
theorem dX1_agree_17 : decode cX1_agree 17 = .ok (.ixor, 1) := by decide +kernel
theorem dX1_agree_18 : decode cX1_agree 18 = .ok (.iand, 1) := by decide +kernel
theorem dX1_agree_19 : decode cX1_agree 19 = .ok (.istore 5, 2) := by decide +kernel
theorem dX1_agree_21 : decode cX1_agree 21 = .ok (.iload_n 2, 1) := by decide +kernel
theorem dX1_agree_22 : decode cX1_agree 22 = .ok (.iload_n 1, 1) := by decide +kernel
theorem dX1_agree_23 : decode cX1_agree 23 = .ok (.iconst (-1), 1) := by decide +kernel
theorem dX1_agree_24 : decode cX1_agree 24 = .ok (.ixor, 1) := by decide +kernel
theorem dX1_agree_25 : decode cX1_agree 25 = .ok (.iand, 1) := by decide +kernel
theorem dX1_agree_26 : decode cX1_agree 26 = .ok (.istore 6, 2) := by decide +kernel
theorem dX1_agree_28 : decode cX1_agree 28 = .ok (.iload_n 3, 1) := by decide +kernel
theorem dX1_agree_29 : decode cX1_agree 29 = .ok (.iload_n 1, 1) := by decide +kernel
theorem dX1_agree_30 : decode cX1_agree 30 = .ok (.iconst (-1), 1) := by decide +kernel
theorem dX1_agree_31 : decode cX1_agree 31 = .ok (.ixor, 1) := by decide +kernel
theorem dX1_agree_32 : decode cX1_agree 32 = .ok (.iand, 1) := by decide +kernel
theorem dX1_agree_33 : decode cX1_agree 33 = .ok (.iload_n 2, 1) := by decide +kernel
theorem dX1_agree_34 : decode cX1_agree 34 = .ok (.iconst (-1), 1) := by decide +kernel
theorem dX1_agree_35 : decode cX1_agree 35 = .ok (.ixor, 1) := by decide +kernel
theorem dX1_agree_36 : decode cX1_agree 36 = .ok (.iand, 1) := by decide +kernel
theorem dX1_agree_37 : decode cX1_agree 37 = .ok (.istore 7, 2) := by decide +kernel
theorem dX1_agree_39 : decode cX1_agree 39 = .ok (.iload 4, 2) := by decide +kernel
theorem dX1_agree_41 : decode cX1_agree 41 = .ok (.ifCond .eq 18, 3) := by decide +kernel
theorem dX1_agree_44 : decode cX1_agree 44 = .ok (.iload 5, 2) := by decide +kernel
theorem dX1_agree_46 : decode cX1_agree 46 = .ok (.ifCond .eq 13, 3) := by decide +kernel
theorem dX1_agree_49 : decode cX1_agree 49 = .ok (.iload 6, 2) := by decide +kernel
theorem dX1_agree_51 : decode cX1_agree 51 = .ok (.ifCond .eq 8, 3) := by decide +kernel
theorem dX1_agree_54 : decode cX1_agree 54 = .ok (.iload 7, 2) := by decide +kernel
theorem dX1_agree_56 : decode cX1_agree 56 = .ok (.ifCond .ne 7, 3) := by decide +kernel
theorem dX1_agree_59 : decode cX1_agree 59 = .ok (.iconst 1, 1) := by decide +kernel
theorem dX1_agree_60 : decode cX1_agree 60 = .ok (.goto 4, 3) := by decide +kernel
theorem dX1_agree_63 : decode cX1_agree 63 = .ok (.iconst 0, 1) := by decide +kernel
theorem dX1_agree_64 : decode cX1_agree 64 = .ok (.ireturn, 1) := by decide +kernel
abbrev cX1_agreeing : ByteArray := prog_3_method_23_code
def yX1_agreeing : MethodName := ⟨RX1, "agreeing", "()I"⟩
theorem dX1_agreeing_0 : decode cX1_agreeing 0 = .ok (.aload_n 0, 1) := by decide +kernel
theorem dX1_agreeing_1 : decode cX1_agreeing 1 = .ok (.invokevirtual 35, 3) := by decide +kernel
theorem dX1_agreeing_4 : decode cX1_agreeing 4 = .ok (.iconst 0, 1) := by decide +kernel
theorem dX1_agreeing_5 : decode cX1_agreeing 5 = .ok (.istore_n 1, 1) := by decide +kernel
theorem dX1_agreeing_6 : decode cX1_agreeing 6 = .ok (.iconst 1, 1) := by decide +kernel
theorem dX1_agreeing_7 : decode cX1_agreeing 7 = .ok (.istore_n 2, 1) := by decide +kernel
theorem dX1_agreeing_8 : decode cX1_agreeing 8 = .ok (.iload_n 2, 1) := by decide +kernel
theorem dX1_agreeing_9 : decode cX1_agreeing 9 = .ok (.iconst 1, 1) := by decide +kernel
theorem dX1_agreeing_10 : decode cX1_agreeing 10 = .ok (.aload_n 0, 1) := by decide +kernel
theorem dX1_agreeing_11 : decode cX1_agreeing 11 = .ok (.getfield 19, 3) := by decide +kernel
theorem dX1_agreeing_14 : decode cX1_agreeing 14 = .ok (.ishl, 1) := by decide +kernel
theorem dX1_agreeing_15 : decode cX1_agreeing 15 = .ok (.iconst 1, 1) := by decide +kernel
theorem dX1_agreeing_16 : decode cX1_agreeing 16 = .ok (.isub, 1) := by decide +kernel
theorem dX1_agreeing_17 : decode cX1_agreeing 17 = .ok (.if_icmp .ge 20, 3) := by decide +kernel
theorem dX1_agreeing_20 : decode cX1_agreeing 20 = .ok (.aload_n 0, 1) := by decide +kernel
theorem dX1_agreeing_21 : decode cX1_agreeing 21 = .ok (.iload_n 2, 1) := by decide +kernel
theorem dX1_agreeing_22 : decode cX1_agreeing 22 = .ok (.invokevirtual 49, 3) := by decide +kernel
theorem dX1_agreeing_25 : decode cX1_agreeing 25 = .ok (.ifCond .eq 6, 3) := by decide +kernel
theorem dX1_agreeing_28 : decode cX1_agreeing 28 = .ok (.iinc 1 1, 3) := by decide +kernel
theorem dX1_agreeing_31 : decode cX1_agreeing 31 = .ok (.iinc 2 2, 3) := by decide +kernel
theorem dX1_agreeing_34 : decode cX1_agreeing 34 = .ok (.goto (-26), 3) := by decide +kernel
theorem dX1_agreeing_37 : decode cX1_agreeing 37 = .ok (.iload_n 1, 1) := by decide +kernel
theorem dX1_agreeing_38 : decode cX1_agreeing 38 = .ok (.ireturn, 1) := by decide +kernel
abbrev cX1_treelike : ByteArray := prog_3_method_26_code
def yX1_treelike : MethodName := ⟨RX1, "treelike", "()I"⟩
theorem dX1_treelike_0 : decode cX1_treelike 0 = .ok (.iconst 0, 1) := by decide +kernel
theorem dX1_treelike_1 : decode cX1_treelike 1 = .ok (.istore_n 1, 1) := by decide +kernel
theorem dX1_treelike_2 : decode cX1_treelike 2 = .ok (.iload_n 1, 1) := by decide +kernel
theorem dX1_treelike_3 : decode cX1_treelike 3 = .ok (.aload_n 0, 1) := by decide +kernel
theorem dX1_treelike_4 : decode cX1_treelike 4 = .ok (.getfield 19, 3) := by decide +kernel
theorem dX1_treelike_7 : decode cX1_treelike 7 = .ok (.if_icmp .ge 36, 3) := by decide +kernel
theorem dX1_treelike_10 : decode cX1_treelike 10 = .ok (.iconst 0, 1) := by decide +kernel
theorem dX1_treelike_11 : decode cX1_treelike 11 = .ok (.istore_n 2, 1) := by decide +kernel
theorem dX1_treelike_12 : decode cX1_treelike 12 = .ok (.iload_n 2, 1) := by decide +kernel
theorem dX1_treelike_13 : decode cX1_treelike 13 = .ok (.aload_n 0, 1) := by decide +kernel
theorem dX1_treelike_14 : decode cX1_treelike 14 = .ok (.getfield 19, 3) := by decide +kernel
theorem dX1_treelike_17 : decode cX1_treelike 17 = .ok (.if_icmp .ge 20, 3) := by decide +kernel
theorem dX1_treelike_20 : decode cX1_treelike 20 = .ok (.aload_n 0, 1) := by decide +kernel
theorem dX1_treelike_21 : decode cX1_treelike 21 = .ok (.iload_n 1, 1) := by decide +kernel
theorem dX1_treelike_22 : decode cX1_treelike 22 = .ok (.iload_n 2, 1) := by decide +kernel
theorem dX1_treelike_23 : decode cX1_treelike 23 = .ok (.invokevirtual 56, 3) := by decide +kernel
theorem dX1_treelike_26 : decode cX1_treelike 26 = .ok (.ifCond .ne 5, 3) := by decide +kernel
theorem dX1_treelike_29 : decode cX1_treelike 29 = .ok (.iconst 0, 1) := by decide +kernel
theorem dX1_treelike_30 : decode cX1_treelike 30 = .ok (.ireturn, 1) := by decide +kernel
theorem dX1_treelike_31 : decode cX1_treelike 31 = .ok (.iinc 2 1, 3) := by decide +kernel
theorem dX1_treelike_34 : decode cX1_treelike 34 = .ok (.goto (-22), 3) := by decide +kernel
theorem dX1_treelike_37 : decode cX1_treelike 37 = .ok (.iinc 1 1, 3) := by decide +kernel
theorem dX1_treelike_40 : decode cX1_treelike 40 = .ok (.goto (-38), 3) := by decide +kernel
theorem dX1_treelike_43 : decode cX1_treelike 43 = .ok (.iconst 1, 1) := by decide +kernel
theorem dX1_treelike_44 : decode cX1_treelike 44 = .ok (.ireturn, 1) := by decide +kernel
abbrev cX1_fits : ByteArray := prog_3_method_25_code
def yX1_fits : MethodName := ⟨RX1, "fits", "(II)Z"⟩
theorem dX1_fits_0 : decode cX1_fits 0 = .ok (.iconst 0, 1) := by decide +kernel
theorem dX1_fits_1 : decode cX1_fits 1 = .ok (.istore_n 3, 1) := by decide +kernel
theorem dX1_fits_2 : decode cX1_fits 2 = .ok (.iload_n 3, 1) := by decide +kernel
theorem dX1_fits_3 : decode cX1_fits 3 = .ok (.aload_n 0, 1) := by decide +kernel
theorem dX1_fits_4 : decode cX1_fits 4 = .ok (.getfield 19, 3) := by decide +kernel
theorem dX1_fits_7 : decode cX1_fits 7 = .ok (.if_icmp .ge 120, 3) := by decide +kernel
theorem dX1_fits_10 : decode cX1_fits 10 = .ok (.iconst 0, 1) := by decide +kernel
theorem dX1_fits_11 : decode cX1_fits 11 = .ok (.istore 4, 2) := by decide +kernel
theorem dX1_fits_13 : decode cX1_fits 13 = .ok (.iload 4, 2) := by decide +kernel
theorem dX1_fits_15 : decode cX1_fits 15 = .ok (.aload_n 0, 1) := by decide +kernel
theorem dX1_fits_16 : decode cX1_fits 16 = .ok (.getfield 19, 3) := by decide +kernel
theorem dX1_fits_19 : decode cX1_fits 19 = .ok (.if_icmp .ge 102, 3) := by decide +kernel
theorem dX1_fits_22 : decode cX1_fits 22 = .ok (.aload_n 0, 1) := by decide +kernel
theorem dX1_fits_23 : decode cX1_fits 23 = .ok (.getfield 7, 3) := by decide +kernel
theorem dX1_fits_26 : decode cX1_fits 26 = .ok (.bipush 7, 2) := by decide +kernel
theorem dX1_fits_28 : decode cX1_fits 28 = .ok (.iload_n 1, 1) := by decide +kernel
theorem dX1_fits_29 : decode cX1_fits 29 = .ok (.imul, 1) := by decide +kernel
theorem dX1_fits_30 : decode cX1_fits 30 = .ok (.iload_n 2, 1) := by decide +kernel
theorem dX1_fits_31 : decode cX1_fits 31 = .ok (.iadd, 1) := by decide +kernel
theorem dX1_fits_32 : decode cX1_fits 32 = .ok (.iaload, 1) := by decide +kernel
theorem dX1_fits_33 : decode cX1_fits 33 = .ok (.aload_n 0, 1) := by decide +kernel
theorem dX1_fits_34 : decode cX1_fits 34 = .ok (.getfield 7, 3) := by decide +kernel
theorem dX1_fits_37 : decode cX1_fits 37 = .ok (.bipush 7, 2) := by decide +kernel
theorem dX1_fits_39 : decode cX1_fits 39 = .ok (.iload_n 3, 1) := by decide +kernel
theorem dX1_fits_40 : decode cX1_fits 40 = .ok (.imul, 1) := by decide +kernel
theorem dX1_fits_41 : decode cX1_fits 41 = .ok (.iload 4, 2) := by decide +kernel
theorem dX1_fits_43 : decode cX1_fits 43 = .ok (.iadd, 1) := by decide +kernel
theorem dX1_fits_44 : decode cX1_fits 44 = .ok (.iaload, 1) := by decide +kernel
theorem dX1_fits_45 : decode cX1_fits 45 = .ok (.iadd, 1) := by decide +kernel
theorem dX1_fits_46 : decode cX1_fits 46 = .ok (.istore 5, 2) := by decide +kernel
theorem dX1_fits_48 : decode cX1_fits 48 = .ok (.aload_n 0, 1) := by decide +kernel
theorem dX1_fits_49 : decode cX1_fits 49 = .ok (.getfield 7, 3) := by decide +kernel
theorem dX1_fits_52 : decode cX1_fits 52 = .ok (.bipush 7, 2) := by decide +kernel
theorem dX1_fits_54 : decode cX1_fits 54 = .ok (.iload_n 1, 1) := by decide +kernel
theorem dX1_fits_55 : decode cX1_fits 55 = .ok (.imul, 1) := by decide +kernel
theorem dX1_fits_56 : decode cX1_fits 56 = .ok (.iload_n 3, 1) := by decide +kernel
theorem dX1_fits_57 : decode cX1_fits 57 = .ok (.iadd, 1) := by decide +kernel
theorem dX1_fits_58 : decode cX1_fits 58 = .ok (.iaload, 1) := by decide +kernel
theorem dX1_fits_59 : decode cX1_fits 59 = .ok (.aload_n 0, 1) := by decide +kernel
theorem dX1_fits_60 : decode cX1_fits 60 = .ok (.getfield 7, 3) := by decide +kernel
theorem dX1_fits_63 : decode cX1_fits 63 = .ok (.bipush 7, 2) := by decide +kernel
theorem dX1_fits_65 : decode cX1_fits 65 = .ok (.iload_n 2, 1) := by decide +kernel
theorem dX1_fits_66 : decode cX1_fits 66 = .ok (.imul, 1) := by decide +kernel
theorem dX1_fits_67 : decode cX1_fits 67 = .ok (.iload 4, 2) := by decide +kernel
theorem dX1_fits_69 : decode cX1_fits 69 = .ok (.iadd, 1) := by decide +kernel
theorem dX1_fits_70 : decode cX1_fits 70 = .ok (.iaload, 1) := by decide +kernel
theorem dX1_fits_71 : decode cX1_fits 71 = .ok (.iadd, 1) := by decide +kernel
theorem dX1_fits_72 : decode cX1_fits 72 = .ok (.istore 6, 2) := by decide +kernel
theorem dX1_fits_74 : decode cX1_fits 74 = .ok (.aload_n 0, 1) := by decide +kernel
theorem dX1_fits_75 : decode cX1_fits 75 = .ok (.getfield 7, 3) := by decide +kernel
theorem dX1_fits_78 : decode cX1_fits 78 = .ok (.bipush 7, 2) := by decide +kernel
theorem dX1_fits_80 : decode cX1_fits 80 = .ok (.iload_n 1, 1) := by decide +kernel
theorem dX1_fits_81 : decode cX1_fits 81 = .ok (.imul, 1) := by decide +kernel
theorem dX1_fits_82 : decode cX1_fits 82 = .ok (.iload 4, 2) := by decide +kernel
theorem dX1_fits_84 : decode cX1_fits 84 = .ok (.iadd, 1) := by decide +kernel
theorem dX1_fits_85 : decode cX1_fits 85 = .ok (.iaload, 1) := by decide +kernel
theorem dX1_fits_86 : decode cX1_fits 86 = .ok (.aload_n 0, 1) := by decide +kernel
theorem dX1_fits_87 : decode cX1_fits 87 = .ok (.getfield 7, 3) := by decide +kernel
theorem dX1_fits_90 : decode cX1_fits 90 = .ok (.bipush 7, 2) := by decide +kernel
theorem dX1_fits_92 : decode cX1_fits 92 = .ok (.iload_n 2, 1) := by decide +kernel
theorem dX1_fits_93 : decode cX1_fits 93 = .ok (.imul, 1) := by decide +kernel
theorem dX1_fits_94 : decode cX1_fits 94 = .ok (.iload_n 3, 1) := by decide +kernel
theorem dX1_fits_95 : decode cX1_fits 95 = .ok (.iadd, 1) := by decide +kernel
theorem dX1_fits_96 : decode cX1_fits 96 = .ok (.iaload, 1) := by decide +kernel
theorem dX1_fits_97 : decode cX1_fits 97 = .ok (.iadd, 1) := by decide +kernel
theorem dX1_fits_98 : decode cX1_fits 98 = .ok (.istore 7, 2) := by decide +kernel
theorem dX1_fits_100 : decode cX1_fits 100 = .ok (.aload_n 0, 1) := by decide +kernel
theorem dX1_fits_101 : decode cX1_fits 101 = .ok (.iload 5, 2) := by decide +kernel
theorem dX1_fits_103 : decode cX1_fits 103 = .ok (.iload 6, 2) := by decide +kernel
theorem dX1_fits_105 : decode cX1_fits 105 = .ok (.iload 7, 2) := by decide +kernel
theorem dX1_fits_107 : decode cX1_fits 107 = .ok (.invokevirtual 52, 3) := by decide +kernel
theorem dX1_fits_110 : decode cX1_fits 110 = .ok (.ifCond .ne 5, 3) := by decide +kernel
theorem dX1_fits_113 : decode cX1_fits 113 = .ok (.iconst 0, 1) := by decide +kernel
theorem dX1_fits_114 : decode cX1_fits 114 = .ok (.ireturn, 1) := by decide +kernel
theorem dX1_fits_115 : decode cX1_fits 115 = .ok (.iinc 4 1, 3) := by decide +kernel
theorem dX1_fits_118 : decode cX1_fits 118 = .ok (.goto (-105), 3) := by decide +kernel
theorem dX1_fits_121 : decode cX1_fits 121 = .ok (.iinc 3 1, 3) := by decide +kernel
theorem dX1_fits_124 : decode cX1_fits 124 = .ok (.goto (-122), 3) := by decide +kernel
theorem dX1_fits_127 : decode cX1_fits 127 = .ok (.iconst 1, 1) := by decide +kernel
theorem dX1_fits_128 : decode cX1_fits 128 = .ok (.ireturn, 1) := by decide +kernel
abbrev cX1_level : ByteArray := prog_3_method_24_code
def yX1_level : MethodName := ⟨RX1, "level", "(III)Z"⟩
theorem dX1_level_0 : decode cX1_level 0 = .ok (.iload_n 1, 1) := by decide +kernel
theorem dX1_level_1 : decode cX1_level 1 = .ok (.iload_n 2, 1) := by decide +kernel
theorem dX1_level_2 : decode cX1_level 2 = .ok (.if_icmp .ne 14, 3) := by decide +kernel
theorem dX1_level_5 : decode cX1_level 5 = .ok (.iload_n 3, 1) := by decide +kernel
theorem dX1_level_6 : decode cX1_level 6 = .ok (.iload_n 1, 1) := by decide +kernel
theorem dX1_level_7 : decode cX1_level 7 = .ok (.if_icmp .gt 7, 3) := by decide +kernel
theorem dX1_level_10 : decode cX1_level 10 = .ok (.iconst 1, 1) := by decide +kernel
theorem dX1_level_11 : decode cX1_level 11 = .ok (.goto 4, 3) := by decide +kernel
theorem dX1_level_14 : decode cX1_level 14 = .ok (.iconst 0, 1) := by decide +kernel
theorem dX1_level_15 : decode cX1_level 15 = .ok (.ireturn, 1) := by decide +kernel
theorem dX1_level_16 : decode cX1_level 16 = .ok (.iload_n 1, 1) := by decide +kernel
theorem dX1_level_17 : decode cX1_level 17 = .ok (.iload_n 3, 1) := by decide +kernel
theorem dX1_level_18 : decode cX1_level 18 = .ok (.if_icmp .ne 14, 3) := by decide +kernel
theorem dX1_level_21 : decode cX1_level 21 = .ok (.iload_n 2, 1) := by decide +kernel
theorem dX1_level_22 : decode cX1_level 22 = .ok (.iload_n 1, 1) := by decide +kernel
theorem dX1_level_23 : decode cX1_level 23 = .ok (.if_icmp .gt 7, 3) := by decide +kernel
theorem dX1_level_26 : decode cX1_level 26 = .ok (.iconst 1, 1) := by decide +kernel
theorem dX1_level_27 : decode cX1_level 27 = .ok (.goto 4, 3) := by decide +kernel
theorem dX1_level_30 : decode cX1_level 30 = .ok (.iconst 0, 1) := by decide +kernel
theorem dX1_level_31 : decode cX1_level 31 = .ok (.ireturn, 1) := by decide +kernel
theorem dX1_level_32 : decode cX1_level 32 = .ok (.iload_n 2, 1) := by decide +kernel
theorem dX1_level_33 : decode cX1_level 33 = .ok (.iload_n 3, 1) := by decide +kernel
theorem dX1_level_34 : decode cX1_level 34 = .ok (.if_icmp .ne 12, 3) := by decide +kernel
theorem dX1_level_37 : decode cX1_level 37 = .ok (.iload_n 1, 1) := by decide +kernel
theorem dX1_level_38 : decode cX1_level 38 = .ok (.iload_n 2, 1) := by decide +kernel
theorem dX1_level_39 : decode cX1_level 39 = .ok (.if_icmp .gt 7, 3) := by decide +kernel
theorem dX1_level_42 : decode cX1_level 42 = .ok (.iconst 1, 1) := by decide +kernel
theorem dX1_level_43 : decode cX1_level 43 = .ok (.goto 4, 3) := by decide +kernel
theorem dX1_level_46 : decode cX1_level 46 = .ok (.iconst 0, 1) := by decide +kernel
theorem dX1_level_47 : decode cX1_level 47 = .ok (.ireturn, 1) := by decide +kernel
abbrev cX1_span : ByteArray := prog_3_method_27_code
def yX1_span : MethodName := ⟨RX1, "span", "()I"⟩
theorem dX1_span_0 : decode cX1_span 0 = .ok (.aload_n 0, 1) := by decide +kernel
theorem dX1_span_1 : decode cX1_span 1 = .ok (.invokevirtual 35, 3) := by decide +kernel
theorem dX1_span_4 : decode cX1_span 4 = .ok (.iconst 0, 1) := by decide +kernel
theorem dX1_span_5 : decode cX1_span 5 = .ok (.istore_n 1, 1) := by decide +kernel
theorem dX1_span_6 : decode cX1_span 6 = .ok (.iconst 0, 1) := by decide +kernel
theorem dX1_span_7 : decode cX1_span 7 = .ok (.istore_n 2, 1) := by decide +kernel
theorem dX1_span_8 : decode cX1_span 8 = .ok (.iload_n 2, 1) := by decide +kernel
theorem dX1_span_9 : decode cX1_span 9 = .ok (.aload_n 0, 1) := by decide +kernel
theorem dX1_span_10 : decode cX1_span 10 = .ok (.getfield 19, 3) := by decide +kernel
theorem dX1_span_13 : decode cX1_span 13 = .ok (.if_icmp .ge 42, 3) := by decide +kernel
theorem dX1_span_16 : decode cX1_span 16 = .ok (.iconst 0, 1) := by decide +kernel
theorem dX1_span_17 : decode cX1_span 17 = .ok (.istore_n 3, 1) := by decide +kernel
theorem dX1_span_18 : decode cX1_span 18 = .ok (.iload_n 3, 1) := by decide +kernel
theorem dX1_span_19 : decode cX1_span 19 = .ok (.aload_n 0, 1) := by decide +kernel
theorem dX1_span_20 : decode cX1_span 20 = .ok (.getfield 19, 3) := by decide +kernel
theorem dX1_span_23 : decode cX1_span 23 = .ok (.if_icmp .ge 26, 3) := by decide +kernel
theorem dX1_span_26 : decode cX1_span 26 = .ok (.aload_n 0, 1) := by decide +kernel
theorem dX1_span_27 : decode cX1_span 27 = .ok (.iload_n 2, 1) := by decide +kernel
theorem dX1_span_28 : decode cX1_span 28 = .ok (.iload_n 3, 1) := by decide +kernel
theorem dX1_span_29 : decode cX1_span 29 = .ok (.invokevirtual 38, 3) := by decide +kernel
theorem dX1_span_32 : decode cX1_span 32 = .ok (.istore 4, 2) := by decide +kernel
theorem dX1_span_34 : decode cX1_span 34 = .ok (.iload 4, 2) := by decide +kernel
theorem dX1_span_36 : decode cX1_span 36 = .ok (.iload_n 1, 1) := by decide +kernel
theorem dX1_span_37 : decode cX1_span 37 = .ok (.if_icmp .le 6, 3) := by decide +kernel
theorem dX1_span_40 : decode cX1_span 40 = .ok (.iload 4, 2) := by decide +kernel
theorem dX1_span_42 : decode cX1_span 42 = .ok (.istore_n 1, 1) := by decide +kernel
theorem dX1_span_43 : decode cX1_span 43 = .ok (.iinc 3 1, 3) := by decide +kernel
theorem dX1_span_46 : decode cX1_span 46 = .ok (.goto (-28), 3) := by decide +kernel
theorem dX1_span_49 : decode cX1_span 49 = .ok (.iinc 2 1, 3) := by decide +kernel
theorem dX1_span_52 : decode cX1_span 52 = .ok (.goto (-44), 3) := by decide +kernel
theorem dX1_span_55 : decode cX1_span 55 = .ok (.iload_n 1, 1) := by decide +kernel
theorem dX1_span_56 : decode cX1_span 56 = .ok (.ireturn, 1) := by decide +kernel
abbrev cX1_weight : ByteArray := prog_3_method_28_code
def yX1_weight : MethodName := ⟨RX1, "weight", "()I"⟩
theorem dX1_weight_0 : decode cX1_weight 0 = .ok (.aload_n 0, 1) := by decide +kernel
theorem dX1_weight_1 : decode cX1_weight 1 = .ok (.invokevirtual 35, 3) := by decide +kernel
theorem dX1_weight_4 : decode cX1_weight 4 = .ok (.iconst 0, 1) := by decide +kernel
theorem dX1_weight_5 : decode cX1_weight 5 = .ok (.istore_n 1, 1) := by decide +kernel
theorem dX1_weight_6 : decode cX1_weight 6 = .ok (.iconst 1, 1) := by decide +kernel
theorem dX1_weight_7 : decode cX1_weight 7 = .ok (.istore_n 2, 1) := by decide +kernel
theorem dX1_weight_8 : decode cX1_weight 8 = .ok (.iload_n 2, 1) := by decide +kernel
theorem dX1_weight_9 : decode cX1_weight 9 = .ok (.iconst 1, 1) := by decide +kernel
theorem dX1_weight_10 : decode cX1_weight 10 = .ok (.aload_n 0, 1) := by decide +kernel
theorem dX1_weight_11 : decode cX1_weight 11 = .ok (.getfield 19, 3) := by decide +kernel
theorem dX1_weight_14 : decode cX1_weight 14 = .ok (.ishl, 1) := by decide +kernel
theorem dX1_weight_15 : decode cX1_weight 15 = .ok (.iconst 1, 1) := by decide +kernel
theorem dX1_weight_16 : decode cX1_weight 16 = .ok (.isub, 1) := by decide +kernel
theorem dX1_weight_17 : decode cX1_weight 17 = .ok (.if_icmp .ge 27, 3) := by decide +kernel
theorem dX1_weight_20 : decode cX1_weight 20 = .ok (.aload_n 0, 1) := by decide +kernel
theorem dX1_weight_21 : decode cX1_weight 21 = .ok (.getfield 16, 3) := by decide +kernel
theorem dX1_weight_24 : decode cX1_weight 24 = .ok (.iload_n 2, 1) := by decide +kernel
theorem dX1_weight_25 : decode cX1_weight 25 = .ok (.iaload, 1) := by decide +kernel
theorem dX1_weight_26 : decode cX1_weight 26 = .ok (.ifCond .le 12, 3) := by decide +kernel
theorem dX1_weight_29 : decode cX1_weight 29 = .ok (.iload_n 1, 1) := by decide +kernel
theorem dX1_weight_30 : decode cX1_weight 30 = .ok (.aload_n 0, 1) := by decide +kernel
theorem dX1_weight_31 : decode cX1_weight 31 = .ok (.getfield 16, 3) := by decide +kernel
theorem dX1_weight_34 : decode cX1_weight 34 = .ok (.iload_n 2, 1) := by decide +kernel
theorem dX1_weight_35 : decode cX1_weight 35 = .ok (.iaload, 1) := by decide +kernel
theorem dX1_weight_36 : decode cX1_weight 36 = .ok (.iadd, 1) := by decide +kernel
theorem dX1_weight_37 : decode cX1_weight 37 = .ok (.istore_n 1, 1) := by decide +kernel
theorem dX1_weight_38 : decode cX1_weight 38 = .ok (.iinc 2 2, 3) := by decide +kernel
theorem dX1_weight_41 : decode cX1_weight 41 = .ok (.goto (-33), 3) := by decide +kernel
theorem dX1_weight_44 : decode cX1_weight 44 = .ok (.iload_n 1, 1) := by decide +kernel
theorem dX1_weight_45 : decode cX1_weight 45 = .ok (.ireturn, 1) := by decide +kernel
theorem q30 : (Jvm.Cond.initialized "SplitTreeModel") ∈ lw_all := lw_g (lw_at lw_m1 2 rfl) rfl
theorem q213 : (Jvm.Cond.instantiable "SplitTreeModel" (4 : Nat)) ∈ lw_all := lw_g (lw_at lw_m1 185 rfl) rfl
theorem q215 : (Jvm.Cond.instanceMethod ({ cls := "SplitTreeModel", name := "<init>", desc := "()V" } : Jvm.MethodName)) ∈ lw_all := lw_g (lw_at lw_m1 187 rfl) rfl
theorem q216 : (Jvm.Cond.code ({ cls := "SplitTreeModel", name := "<init>", desc := "()V" } : Jvm.MethodName) prog_3_method_1_code (1 : Nat) (Option.none : Option Jvm.ClassFile.FieldType)) ∈ lw_all := lw_g (lw_at lw_m1 188 rfl) rfl
theorem q217 : (Jvm.Cond.methodLink "SplitTreeModel" (1 : Nat) ({ cls := "java/lang/Object", name := "<init>", desc := "()V" } : Jvm.MethodName)) ∈ lw_all := lw_g (lw_at lw_m1 189 rfl) rfl
theorem q218 : (Jvm.Cond.fieldLink "SplitTreeModel" (19 : Nat) "SplitTreeModel" "n" "I") ∈ lw_all := lw_g (lw_at lw_m1 190 rfl) rfl
theorem q219 : (Jvm.Cond.fieldLink "SplitTreeModel" (7 : Nat) "SplitTreeModel" "ds" "[I") ∈ lw_all := lw_g (lw_at lw_m1 191 rfl) rfl
theorem q220 : (Jvm.Cond.fieldLink "SplitTreeModel" (13 : Nat) "SplitTreeModel" "made" "[I") ∈ lw_all := lw_g (lw_at lw_m1 192 rfl) rfl
theorem q221 : (Jvm.Cond.fieldLink "SplitTreeModel" (16 : Nat) "SplitTreeModel" "indices" "[I") ∈ lw_all := lw_g (lw_at lw_m1 193 rfl) rfl
theorem q222 : (Jvm.Cond.lays "SplitTreeModel" "SplitTreeModel" "n" "I") ∈ lw_all := lw_g (lw_at lw_m1 194 rfl) rfl
theorem q223 : (Jvm.Cond.soleField "SplitTreeModel" "n") ∈ lw_all := lw_g (lw_at lw_m1 195 rfl) rfl
theorem q224 : (Jvm.Cond.lays "SplitTreeModel" "SplitTreeModel" "ds" "[I") ∈ lw_all := lw_g (lw_at lw_m1 196 rfl) rfl
theorem q225 : (Jvm.Cond.soleField "SplitTreeModel" "ds") ∈ lw_all := lw_g (lw_at lw_m1 197 rfl) rfl
theorem q226 : (Jvm.Cond.lays "SplitTreeModel" "SplitTreeModel" "made" "[I") ∈ lw_all := lw_g (lw_at lw_m1 198 rfl) rfl
theorem q227 : (Jvm.Cond.soleField "SplitTreeModel" "made") ∈ lw_all := lw_g (lw_at lw_m1 199 rfl) rfl
theorem q228 : (Jvm.Cond.lays "SplitTreeModel" "SplitTreeModel" "indices" "[I") ∈ lw_all := lw_g (lw_at lw_m1 200 rfl) rfl
theorem q229 : (Jvm.Cond.soleField "SplitTreeModel" "indices") ∈ lw_all := lw_g (lw_at lw_m1 201 rfl) rfl
theorem q230 : (Jvm.Cond.superclass "SplitTreeModel" "java/lang/Object") ∈ lw_all := lw_g (lw_at lw_m1 202 rfl) rfl
theorem q232 : (Jvm.Cond.instanceMethod ({ cls := "SplitTreeModel", name := "point", desc := "(I)I" } : Jvm.MethodName)) ∈ lw_all := lw_g (lw_at lw_m1 204 rfl) rfl
theorem q233 : (Jvm.Cond.selects "SplitTreeModel" ({ cls := "SplitTreeModel", name := "point", desc := "(I)I" } : Jvm.MethodName) ({ cls := "SplitTreeModel", name := "point", desc := "(I)I" } : Jvm.MethodName)) ∈ lw_all := lw_g (lw_at lw_m1 205 rfl) rfl
theorem q234 : (Jvm.Cond.code ({ cls := "SplitTreeModel", name := "point", desc := "(I)I" } : Jvm.MethodName) prog_3_method_4_code (3 : Nat) (Option.some Jvm.ClassFile.FieldType.int)) ∈ lw_all := lw_g (lw_at lw_m1 206 rfl) rfl
theorem q235 : (Jvm.Cond.methodLink "SplitTreeModel" (23 : Nat) ({ cls := "SplitTreeModel", name := "put", desc := "(III)V" } : Jvm.MethodName)) ∈ lw_all := lw_g (lw_at lw_m1 207 rfl) rfl
theorem q236 : (Jvm.Cond.privateMethod ({ cls := "SplitTreeModel", name := "put", desc := "(III)V" } : Jvm.MethodName)) ∈ lw_tbl := lw_at lw_m1 208 rfl
theorem q237 : (Jvm.Cond.instanceMethod ({ cls := "SplitTreeModel", name := "put", desc := "(III)V" } : Jvm.MethodName)) ∈ lw_all := lw_g (lw_at lw_m1 209 rfl) rfl
theorem q238 : (Jvm.Cond.code ({ cls := "SplitTreeModel", name := "put", desc := "(III)V" } : Jvm.MethodName) prog_3_method_3_code (4 : Nat) (Option.none : Option Jvm.ClassFile.FieldType)) ∈ lw_all := lw_g (lw_at lw_m1 210 rfl) rfl
theorem q240 : (Jvm.Cond.instanceMethod ({ cls := "SplitTreeModel", name := "drop", desc := "()I" } : Jvm.MethodName)) ∈ lw_all := lw_g (lw_at lw_m1 212 rfl) rfl
theorem q241 : (Jvm.Cond.selects "SplitTreeModel" ({ cls := "SplitTreeModel", name := "drop", desc := "()I" } : Jvm.MethodName) ({ cls := "SplitTreeModel", name := "drop", desc := "()I" } : Jvm.MethodName)) ∈ lw_all := lw_g (lw_at lw_m1 213 rfl) rfl
theorem q242 : (Jvm.Cond.code ({ cls := "SplitTreeModel", name := "drop", desc := "()I" } : Jvm.MethodName) prog_3_method_5_code (1 : Nat) (Option.some Jvm.ClassFile.FieldType.int)) ∈ lw_all := lw_g (lw_at lw_m1 214 rfl) rfl
theorem q244 : (Jvm.Cond.instanceMethod ({ cls := "SplitTreeModel", name := "set", desc := "(III)I" } : Jvm.MethodName)) ∈ lw_all := lw_g (lw_at lw_m1 216 rfl) rfl
theorem q245 : (Jvm.Cond.selects "SplitTreeModel" ({ cls := "SplitTreeModel", name := "set", desc := "(III)I" } : Jvm.MethodName) ({ cls := "SplitTreeModel", name := "set", desc := "(III)I" } : Jvm.MethodName)) ∈ lw_all := lw_g (lw_at lw_m1 217 rfl) rfl
theorem q246 : (Jvm.Cond.code ({ cls := "SplitTreeModel", name := "set", desc := "(III)I" } : Jvm.MethodName) prog_3_method_6_code (5 : Nat) (Option.some Jvm.ClassFile.FieldType.int)) ∈ lw_all := lw_g (lw_at lw_m1 218 rfl) rfl
theorem q247 : (Jvm.Cond.methodLink "SplitTreeModel" (27 : Nat) ({ cls := "SplitTreeModel", name := "is", desc := "(I)Z" } : Jvm.MethodName)) ∈ lw_all := lw_g (lw_at lw_m1 219 rfl) rfl
theorem q248 : (Jvm.Cond.privateMethod ({ cls := "SplitTreeModel", name := "is", desc := "(I)Z" } : Jvm.MethodName)) ∈ lw_tbl := lw_at lw_m1 220 rfl
theorem q249 : (Jvm.Cond.instanceMethod ({ cls := "SplitTreeModel", name := "is", desc := "(I)Z" } : Jvm.MethodName)) ∈ lw_all := lw_g (lw_at lw_m1 221 rfl) rfl
theorem q250 : (Jvm.Cond.code ({ cls := "SplitTreeModel", name := "is", desc := "(I)Z" } : Jvm.MethodName) prog_3_method_2_code (2 : Nat) (Option.some Jvm.ClassFile.FieldType.boolean)) ∈ lw_all := lw_g (lw_at lw_m1 222 rfl) rfl
theorem q252 : (Jvm.Cond.instanceMethod ({ cls := "SplitTreeModel", name := "move", desc := "(II)I" } : Jvm.MethodName)) ∈ lw_all := lw_g (lw_at lw_m1 224 rfl) rfl
theorem q253 : (Jvm.Cond.selects "SplitTreeModel" ({ cls := "SplitTreeModel", name := "move", desc := "(II)I" } : Jvm.MethodName) ({ cls := "SplitTreeModel", name := "move", desc := "(II)I" } : Jvm.MethodName)) ∈ lw_all := lw_g (lw_at lw_m1 225 rfl) rfl
theorem q254 : (Jvm.Cond.code ({ cls := "SplitTreeModel", name := "move", desc := "(II)I" } : Jvm.MethodName) prog_3_method_7_code (7 : Nat) (Option.some Jvm.ClassFile.FieldType.int)) ∈ lw_all := lw_g (lw_at lw_m1 226 rfl) rfl
theorem q256 : (Jvm.Cond.instanceMethod ({ cls := "SplitTreeModel", name := "smooth", desc := "()I" } : Jvm.MethodName)) ∈ lw_all := lw_g (lw_at lw_m1 228 rfl) rfl
theorem q257 : (Jvm.Cond.selects "SplitTreeModel" ({ cls := "SplitTreeModel", name := "smooth", desc := "()I" } : Jvm.MethodName) ({ cls := "SplitTreeModel", name := "smooth", desc := "()I" } : Jvm.MethodName)) ∈ lw_all := lw_g (lw_at lw_m1 229 rfl) rfl
theorem q258 : (Jvm.Cond.code ({ cls := "SplitTreeModel", name := "smooth", desc := "()I" } : Jvm.MethodName) prog_3_method_12_code (5 : Nat) (Option.some Jvm.ClassFile.FieldType.int)) ∈ lw_all := lw_g (lw_at lw_m1 230 rfl) rfl
theorem q259 : (Jvm.Cond.methodLink "SplitTreeModel" (35 : Nat) ({ cls := "SplitTreeModel", name := "work", desc := "()V" } : Jvm.MethodName)) ∈ lw_all := lw_g (lw_at lw_m1 231 rfl) rfl
theorem q260 : (Jvm.Cond.privateMethod ({ cls := "SplitTreeModel", name := "work", desc := "()V" } : Jvm.MethodName)) ∈ lw_tbl := lw_at lw_m1 232 rfl
theorem q261 : (Jvm.Cond.instanceMethod ({ cls := "SplitTreeModel", name := "work", desc := "()V" } : Jvm.MethodName)) ∈ lw_all := lw_g (lw_at lw_m1 233 rfl) rfl
theorem q262 : (Jvm.Cond.code ({ cls := "SplitTreeModel", name := "work", desc := "()V" } : Jvm.MethodName) prog_3_method_10_code (2 : Nat) (Option.none : Option Jvm.ClassFile.FieldType)) ∈ lw_all := lw_g (lw_at lw_m1 234 rfl) rfl
theorem q263 : (Jvm.Cond.methodLink "SplitTreeModel" (31 : Nat) ({ cls := "SplitTreeModel", name := "indexOf", desc := "(I)I" } : Jvm.MethodName)) ∈ lw_all := lw_g (lw_at lw_m1 235 rfl) rfl
theorem q264 : (Jvm.Cond.privateMethod ({ cls := "SplitTreeModel", name := "indexOf", desc := "(I)I" } : Jvm.MethodName)) ∈ lw_tbl := lw_at lw_m1 236 rfl
theorem q265 : (Jvm.Cond.instanceMethod ({ cls := "SplitTreeModel", name := "indexOf", desc := "(I)I" } : Jvm.MethodName)) ∈ lw_all := lw_g (lw_at lw_m1 237 rfl) rfl
theorem q266 : (Jvm.Cond.code ({ cls := "SplitTreeModel", name := "indexOf", desc := "(I)I" } : Jvm.MethodName) prog_3_method_8_code (9 : Nat) (Option.some Jvm.ClassFile.FieldType.int)) ∈ lw_all := lw_g (lw_at lw_m1 238 rfl) rfl
theorem q267 : (Jvm.Cond.methodLink "SplitTreeModel" (38 : Nat) ({ cls := "SplitTreeModel", name := "between", desc := "(II)I" } : Jvm.MethodName)) ∈ lw_all := lw_g (lw_at lw_m1 239 rfl) rfl
theorem q268 : (Jvm.Cond.privateMethod ({ cls := "SplitTreeModel", name := "between", desc := "(II)I" } : Jvm.MethodName)) ∈ lw_tbl := lw_at lw_m2 0 rfl
theorem q269 : (Jvm.Cond.instanceMethod ({ cls := "SplitTreeModel", name := "between", desc := "(II)I" } : Jvm.MethodName)) ∈ lw_all := lw_g (lw_at lw_m2 1 rfl) rfl
theorem q270 : (Jvm.Cond.code ({ cls := "SplitTreeModel", name := "between", desc := "(II)I" } : Jvm.MethodName) prog_3_method_11_code (5 : Nat) (Option.some Jvm.ClassFile.FieldType.int)) ∈ lw_all := lw_g (lw_at lw_m2 2 rfl) rfl
theorem q272 : (Jvm.Cond.instanceMethod ({ cls := "SplitTreeModel", name := "points", desc := "()I" } : Jvm.MethodName)) ∈ lw_all := lw_g (lw_at lw_m2 4 rfl) rfl
theorem q273 : (Jvm.Cond.selects "SplitTreeModel" ({ cls := "SplitTreeModel", name := "points", desc := "()I" } : Jvm.MethodName) ({ cls := "SplitTreeModel", name := "points", desc := "()I" } : Jvm.MethodName)) ∈ lw_all := lw_g (lw_at lw_m2 5 rfl) rfl
theorem q274 : (Jvm.Cond.code ({ cls := "SplitTreeModel", name := "points", desc := "()I" } : Jvm.MethodName) prog_3_method_13_code (1 : Nat) (Option.some Jvm.ClassFile.FieldType.int)) ∈ lw_all := lw_g (lw_at lw_m2 6 rfl) rfl
theorem q276 : (Jvm.Cond.instanceMethod ({ cls := "SplitTreeModel", name := "distance", desc := "(II)I" } : Jvm.MethodName)) ∈ lw_all := lw_g (lw_at lw_m2 8 rfl) rfl
theorem q277 : (Jvm.Cond.selects "SplitTreeModel" ({ cls := "SplitTreeModel", name := "distance", desc := "(II)I" } : Jvm.MethodName) ({ cls := "SplitTreeModel", name := "distance", desc := "(II)I" } : Jvm.MethodName)) ∈ lw_all := lw_g (lw_at lw_m2 9 rfl) rfl
theorem q278 : (Jvm.Cond.code ({ cls := "SplitTreeModel", name := "distance", desc := "(II)I" } : Jvm.MethodName) prog_3_method_14_code (3 : Nat) (Option.some Jvm.ClassFile.FieldType.int)) ∈ lw_all := lw_g (lw_at lw_m2 10 rfl) rfl
theorem q280 : (Jvm.Cond.instanceMethod ({ cls := "SplitTreeModel", name := "index", desc := "(I)I" } : Jvm.MethodName)) ∈ lw_all := lw_g (lw_at lw_m2 12 rfl) rfl
theorem q281 : (Jvm.Cond.selects "SplitTreeModel" ({ cls := "SplitTreeModel", name := "index", desc := "(I)I" } : Jvm.MethodName) ({ cls := "SplitTreeModel", name := "index", desc := "(I)I" } : Jvm.MethodName)) ∈ lw_all := lw_g (lw_at lw_m2 13 rfl) rfl
theorem q282 : (Jvm.Cond.code ({ cls := "SplitTreeModel", name := "index", desc := "(I)I" } : Jvm.MethodName) prog_3_method_15_code (2 : Nat) (Option.some Jvm.ClassFile.FieldType.int)) ∈ lw_all := lw_g (lw_at lw_m2 14 rfl) rfl
theorem q283 : (Jvm.Cond.methodLink "SplitTreeModel" (42 : Nat) ({ cls := "SplitTreeModel", name := "isSplit", desc := "(I)Z" } : Jvm.MethodName)) ∈ lw_all := lw_g (lw_at lw_m2 15 rfl) rfl
theorem q284 : (Jvm.Cond.privateMethod ({ cls := "SplitTreeModel", name := "isSplit", desc := "(I)Z" } : Jvm.MethodName)) ∈ lw_tbl := lw_at lw_m2 16 rfl
theorem q285 : (Jvm.Cond.instanceMethod ({ cls := "SplitTreeModel", name := "isSplit", desc := "(I)Z" } : Jvm.MethodName)) ∈ lw_all := lw_g (lw_at lw_m2 17 rfl) rfl
theorem q286 : (Jvm.Cond.code ({ cls := "SplitTreeModel", name := "isSplit", desc := "(I)Z" } : Jvm.MethodName) prog_3_method_9_code (2 : Nat) (Option.some Jvm.ClassFile.FieldType.boolean)) ∈ lw_all := lw_g (lw_at lw_m2 18 rfl) rfl
theorem q288 : (Jvm.Cond.instanceMethod ({ cls := "SplitTreeModel", name := "edges", desc := "()I" } : Jvm.MethodName)) ∈ lw_all := lw_g (lw_at lw_m2 20 rfl) rfl
theorem q289 : (Jvm.Cond.selects "SplitTreeModel" ({ cls := "SplitTreeModel", name := "edges", desc := "()I" } : Jvm.MethodName) ({ cls := "SplitTreeModel", name := "edges", desc := "()I" } : Jvm.MethodName)) ∈ lw_all := lw_g (lw_at lw_m2 21 rfl) rfl
theorem q290 : (Jvm.Cond.code ({ cls := "SplitTreeModel", name := "edges", desc := "()I" } : Jvm.MethodName) prog_3_method_16_code (3 : Nat) (Option.some Jvm.ClassFile.FieldType.int)) ∈ lw_all := lw_g (lw_at lw_m2 22 rfl) rfl
theorem q292 : (Jvm.Cond.instanceMethod ({ cls := "SplitTreeModel", name := "edge", desc := "(I)I" } : Jvm.MethodName)) ∈ lw_all := lw_g (lw_at lw_m2 24 rfl) rfl
theorem q293 : (Jvm.Cond.selects "SplitTreeModel" ({ cls := "SplitTreeModel", name := "edge", desc := "(I)I" } : Jvm.MethodName) ({ cls := "SplitTreeModel", name := "edge", desc := "(I)I" } : Jvm.MethodName)) ∈ lw_all := lw_g (lw_at lw_m2 25 rfl) rfl
theorem q294 : (Jvm.Cond.code ({ cls := "SplitTreeModel", name := "edge", desc := "(I)I" } : Jvm.MethodName) prog_3_method_17_code (4 : Nat) (Option.some Jvm.ClassFile.FieldType.int)) ∈ lw_all := lw_g (lw_at lw_m2 26 rfl) rfl
theorem q296 : (Jvm.Cond.instanceMethod ({ cls := "SplitTreeModel", name := "treeDistance", desc := "(II)I" } : Jvm.MethodName)) ∈ lw_all := lw_g (lw_at lw_m2 28 rfl) rfl
theorem q297 : (Jvm.Cond.selects "SplitTreeModel" ({ cls := "SplitTreeModel", name := "treeDistance", desc := "(II)I" } : Jvm.MethodName) ({ cls := "SplitTreeModel", name := "treeDistance", desc := "(II)I" } : Jvm.MethodName)) ∈ lw_all := lw_g (lw_at lw_m2 29 rfl) rfl
theorem q298 : (Jvm.Cond.code ({ cls := "SplitTreeModel", name := "treeDistance", desc := "(II)I" } : Jvm.MethodName) prog_3_method_18_code (3 : Nat) (Option.some Jvm.ClassFile.FieldType.int)) ∈ lw_all := lw_g (lw_at lw_m2 30 rfl) rfl
theorem q300 : (Jvm.Cond.instanceMethod ({ cls := "SplitTreeModel", name := "together", desc := "(II)I" } : Jvm.MethodName)) ∈ lw_all := lw_g (lw_at lw_m2 32 rfl) rfl
theorem q301 : (Jvm.Cond.selects "SplitTreeModel" ({ cls := "SplitTreeModel", name := "together", desc := "(II)I" } : Jvm.MethodName) ({ cls := "SplitTreeModel", name := "together", desc := "(II)I" } : Jvm.MethodName)) ∈ lw_all := lw_g (lw_at lw_m2 33 rfl) rfl
theorem q302 : (Jvm.Cond.code ({ cls := "SplitTreeModel", name := "together", desc := "(II)I" } : Jvm.MethodName) prog_3_method_19_code (3 : Nat) (Option.some Jvm.ClassFile.FieldType.int)) ∈ lw_all := lw_g (lw_at lw_m2 34 rfl) rfl
theorem q304 : (Jvm.Cond.instanceMethod ({ cls := "SplitTreeModel", name := "agrees", desc := "(I)I" } : Jvm.MethodName)) ∈ lw_all := lw_g (lw_at lw_m2 36 rfl) rfl
theorem q305 : (Jvm.Cond.selects "SplitTreeModel" ({ cls := "SplitTreeModel", name := "agrees", desc := "(I)I" } : Jvm.MethodName) ({ cls := "SplitTreeModel", name := "agrees", desc := "(I)I" } : Jvm.MethodName)) ∈ lw_all := lw_g (lw_at lw_m2 37 rfl) rfl
theorem q306 : (Jvm.Cond.code ({ cls := "SplitTreeModel", name := "agrees", desc := "(I)I" } : Jvm.MethodName) prog_3_method_22_code (2 : Nat) (Option.some Jvm.ClassFile.FieldType.int)) ∈ lw_all := lw_g (lw_at lw_m2 38 rfl) rfl
theorem q307 : (Jvm.Cond.methodLink "SplitTreeModel" (49 : Nat) ({ cls := "SplitTreeModel", name := "agreesWithAll", desc := "(I)Z" } : Jvm.MethodName)) ∈ lw_all := lw_g (lw_at lw_m2 39 rfl) rfl
theorem q308 : (Jvm.Cond.privateMethod ({ cls := "SplitTreeModel", name := "agreesWithAll", desc := "(I)Z" } : Jvm.MethodName)) ∈ lw_tbl := lw_at lw_m2 40 rfl
theorem q309 : (Jvm.Cond.instanceMethod ({ cls := "SplitTreeModel", name := "agreesWithAll", desc := "(I)Z" } : Jvm.MethodName)) ∈ lw_all := lw_g (lw_at lw_m2 41 rfl) rfl
theorem q310 : (Jvm.Cond.code ({ cls := "SplitTreeModel", name := "agreesWithAll", desc := "(I)Z" } : Jvm.MethodName) prog_3_method_21_code (3 : Nat) (Option.some Jvm.ClassFile.FieldType.boolean)) ∈ lw_all := lw_g (lw_at lw_m2 42 rfl) rfl
theorem q311 : (Jvm.Cond.methodLink "SplitTreeModel" (45 : Nat) ({ cls := "SplitTreeModel", name := "agree", desc := "(II)Z" } : Jvm.MethodName)) ∈ lw_all := lw_g (lw_at lw_m2 43 rfl) rfl
theorem q312 : (Jvm.Cond.privateMethod ({ cls := "SplitTreeModel", name := "agree", desc := "(II)Z" } : Jvm.MethodName)) ∈ lw_tbl := lw_at lw_m2 44 rfl
theorem q313 : (Jvm.Cond.instanceMethod ({ cls := "SplitTreeModel", name := "agree", desc := "(II)Z" } : Jvm.MethodName)) ∈ lw_all := lw_g (lw_at lw_m2 45 rfl) rfl
theorem q314 : (Jvm.Cond.code ({ cls := "SplitTreeModel", name := "agree", desc := "(II)Z" } : Jvm.MethodName) prog_3_method_20_code (8 : Nat) (Option.some Jvm.ClassFile.FieldType.boolean)) ∈ lw_all := lw_g (lw_at lw_m2 46 rfl) rfl
theorem q316 : (Jvm.Cond.instanceMethod ({ cls := "SplitTreeModel", name := "agreeing", desc := "()I" } : Jvm.MethodName)) ∈ lw_all := lw_g (lw_at lw_m2 48 rfl) rfl
theorem q317 : (Jvm.Cond.selects "SplitTreeModel" ({ cls := "SplitTreeModel", name := "agreeing", desc := "()I" } : Jvm.MethodName) ({ cls := "SplitTreeModel", name := "agreeing", desc := "()I" } : Jvm.MethodName)) ∈ lw_all := lw_g (lw_at lw_m2 49 rfl) rfl
theorem q318 : (Jvm.Cond.code ({ cls := "SplitTreeModel", name := "agreeing", desc := "()I" } : Jvm.MethodName) prog_3_method_23_code (3 : Nat) (Option.some Jvm.ClassFile.FieldType.int)) ∈ lw_all := lw_g (lw_at lw_m2 50 rfl) rfl
theorem q320 : (Jvm.Cond.instanceMethod ({ cls := "SplitTreeModel", name := "treelike", desc := "()I" } : Jvm.MethodName)) ∈ lw_all := lw_g (lw_at lw_m2 52 rfl) rfl
theorem q321 : (Jvm.Cond.selects "SplitTreeModel" ({ cls := "SplitTreeModel", name := "treelike", desc := "()I" } : Jvm.MethodName) ({ cls := "SplitTreeModel", name := "treelike", desc := "()I" } : Jvm.MethodName)) ∈ lw_all := lw_g (lw_at lw_m2 53 rfl) rfl
theorem q322 : (Jvm.Cond.code ({ cls := "SplitTreeModel", name := "treelike", desc := "()I" } : Jvm.MethodName) prog_3_method_26_code (3 : Nat) (Option.some Jvm.ClassFile.FieldType.int)) ∈ lw_all := lw_g (lw_at lw_m2 54 rfl) rfl
theorem q323 : (Jvm.Cond.methodLink "SplitTreeModel" (56 : Nat) ({ cls := "SplitTreeModel", name := "fits", desc := "(II)Z" } : Jvm.MethodName)) ∈ lw_all := lw_g (lw_at lw_m2 55 rfl) rfl
theorem q324 : (Jvm.Cond.privateMethod ({ cls := "SplitTreeModel", name := "fits", desc := "(II)Z" } : Jvm.MethodName)) ∈ lw_tbl := lw_at lw_m2 56 rfl
theorem q325 : (Jvm.Cond.instanceMethod ({ cls := "SplitTreeModel", name := "fits", desc := "(II)Z" } : Jvm.MethodName)) ∈ lw_all := lw_g (lw_at lw_m2 57 rfl) rfl
theorem q326 : (Jvm.Cond.code ({ cls := "SplitTreeModel", name := "fits", desc := "(II)Z" } : Jvm.MethodName) prog_3_method_25_code (8 : Nat) (Option.some Jvm.ClassFile.FieldType.boolean)) ∈ lw_all := lw_g (lw_at lw_m2 58 rfl) rfl
theorem q327 : (Jvm.Cond.methodLink "SplitTreeModel" (52 : Nat) ({ cls := "SplitTreeModel", name := "level", desc := "(III)Z" } : Jvm.MethodName)) ∈ lw_all := lw_g (lw_at lw_m2 59 rfl) rfl
theorem q328 : (Jvm.Cond.privateMethod ({ cls := "SplitTreeModel", name := "level", desc := "(III)Z" } : Jvm.MethodName)) ∈ lw_tbl := lw_at lw_m2 60 rfl
theorem q329 : (Jvm.Cond.instanceMethod ({ cls := "SplitTreeModel", name := "level", desc := "(III)Z" } : Jvm.MethodName)) ∈ lw_all := lw_g (lw_at lw_m2 61 rfl) rfl
theorem q330 : (Jvm.Cond.code ({ cls := "SplitTreeModel", name := "level", desc := "(III)Z" } : Jvm.MethodName) prog_3_method_24_code (4 : Nat) (Option.some Jvm.ClassFile.FieldType.boolean)) ∈ lw_all := lw_g (lw_at lw_m2 62 rfl) rfl
theorem q332 : (Jvm.Cond.instanceMethod ({ cls := "SplitTreeModel", name := "span", desc := "()I" } : Jvm.MethodName)) ∈ lw_all := lw_g (lw_at lw_m2 64 rfl) rfl
theorem q333 : (Jvm.Cond.selects "SplitTreeModel" ({ cls := "SplitTreeModel", name := "span", desc := "()I" } : Jvm.MethodName) ({ cls := "SplitTreeModel", name := "span", desc := "()I" } : Jvm.MethodName)) ∈ lw_all := lw_g (lw_at lw_m2 65 rfl) rfl
theorem q334 : (Jvm.Cond.code ({ cls := "SplitTreeModel", name := "span", desc := "()I" } : Jvm.MethodName) prog_3_method_27_code (5 : Nat) (Option.some Jvm.ClassFile.FieldType.int)) ∈ lw_all := lw_g (lw_at lw_m2 66 rfl) rfl
theorem q336 : (Jvm.Cond.instanceMethod ({ cls := "SplitTreeModel", name := "weight", desc := "()I" } : Jvm.MethodName)) ∈ lw_all := lw_g (lw_at lw_m2 68 rfl) rfl
theorem q337 : (Jvm.Cond.selects "SplitTreeModel" ({ cls := "SplitTreeModel", name := "weight", desc := "()I" } : Jvm.MethodName) ({ cls := "SplitTreeModel", name := "weight", desc := "()I" } : Jvm.MethodName)) ∈ lw_all := lw_g (lw_at lw_m2 69 rfl) rfl
theorem q338 : (Jvm.Cond.code ({ cls := "SplitTreeModel", name := "weight", desc := "()I" } : Jvm.MethodName) prog_3_method_28_code (3 : Nat) (Option.some Jvm.ClassFile.FieldType.int)) ∈ lw_all := lw_g (lw_at lw_m2 70 rfl) rfl
theorem in_X1 : ∀ w ∈ wsX10, w ∈ lw_all := lw_in wsX10 [222, 224, 226, 228] (by decide +kernel) (by decide +kernel)
end
section
/-! java/lang/Object -/
set_option maxRecDepth 100000
def RJ0 : String := "java/lang/Object"
abbrev cJ0_init : ByteArray := object_method_1_code
def yJ0_init : MethodName := ⟨RJ0, "<init>", "()V"⟩
theorem dJ0_init_0 : decode cJ0_init 0 = .ok (.return_, 1) := by decide +kernel
theorem q37 : (Jvm.Cond.instanceMethod ({ cls := "java/lang/Object", name := "<init>", desc := "()V" } : Jvm.MethodName)) ∈ lw_all := lw_g (lw_at lw_m1 9 rfl) rfl
theorem q38 : (Jvm.Cond.code ({ cls := "java/lang/Object", name := "<init>", desc := "()V" } : Jvm.MethodName) object_method_1_code (1 : Nat) (Option.none : Option Jvm.ClassFile.FieldType)) ∈ lw_all := lw_g (lw_at lw_m1 10 rfl) rfl
theorem q70 : (Jvm.Cond.arrayClass Jvm.ClassFile.FieldType.byte) ∈ lw_all := lw_g (lw_at lw_m1 42 rfl) rfl
theorem q71 : (Jvm.Cond.arrayClass Jvm.ClassFile.FieldType.int) ∈ lw_all := lw_g (lw_at lw_m1 43 rfl) rfl
theorem q28 : (Jvm.Cond.initialized "SplitTreeLaw") ∈ lw_all := lw_g (lw_at lw_m1 0 rfl) rfl
theorem q31 : (Jvm.Cond.classLink "SplitTreeLaw" (7 : Nat) "SplitTree") ∈ lw_all := lw_g (lw_at lw_m1 3 rfl) rfl
theorem q33 : (Jvm.Cond.methodLink "SplitTreeLaw" (9 : Nat) ({ cls := "SplitTree", name := "<init>", desc := "()V" } : Jvm.MethodName)) ∈ lw_all := lw_g (lw_at lw_m1 5 rfl) rfl
theorem q72 : (Jvm.Cond.methodLink "SplitTreeLaw" (13 : Nat) ({ cls := "SplitTree", name := "point", desc := "(I)I" } : Jvm.MethodName)) ∈ lw_all := lw_g (lw_at lw_m1 44 rfl) rfl
theorem q80 : (Jvm.Cond.methodLink "SplitTreeLaw" (18 : Nat) ({ cls := "SplitTree", name := "drop", desc := "()I" } : Jvm.MethodName)) ∈ lw_all := lw_g (lw_at lw_m1 52 rfl) rfl
theorem q84 : (Jvm.Cond.methodLink "SplitTreeLaw" (23 : Nat) ({ cls := "SplitTree", name := "set", desc := "(III)I" } : Jvm.MethodName)) ∈ lw_all := lw_g (lw_at lw_m1 56 rfl) rfl
theorem q96 : (Jvm.Cond.methodLink "SplitTreeLaw" (28 : Nat) ({ cls := "SplitTree", name := "move", desc := "(II)I" } : Jvm.MethodName)) ∈ lw_all := lw_g (lw_at lw_m1 68 rfl) rfl
theorem q100 : (Jvm.Cond.methodLink "SplitTreeLaw" (33 : Nat) ({ cls := "SplitTree", name := "smooth", desc := "()I" } : Jvm.MethodName)) ∈ lw_all := lw_g (lw_at lw_m1 72 rfl) rfl
theorem q136 : (Jvm.Cond.methodLink "SplitTreeLaw" (37 : Nat) ({ cls := "SplitTree", name := "points", desc := "()I" } : Jvm.MethodName)) ∈ lw_all := lw_g (lw_at lw_m1 108 rfl) rfl
theorem q140 : (Jvm.Cond.methodLink "SplitTreeLaw" (41 : Nat) ({ cls := "SplitTree", name := "distance", desc := "(II)I" } : Jvm.MethodName)) ∈ lw_all := lw_g (lw_at lw_m1 112 rfl) rfl
theorem q144 : (Jvm.Cond.methodLink "SplitTreeLaw" (45 : Nat) ({ cls := "SplitTree", name := "index", desc := "(I)I" } : Jvm.MethodName)) ∈ lw_all := lw_g (lw_at lw_m1 116 rfl) rfl
theorem q152 : (Jvm.Cond.methodLink "SplitTreeLaw" (49 : Nat) ({ cls := "SplitTree", name := "edges", desc := "()I" } : Jvm.MethodName)) ∈ lw_all := lw_g (lw_at lw_m1 124 rfl) rfl
theorem q156 : (Jvm.Cond.methodLink "SplitTreeLaw" (53 : Nat) ({ cls := "SplitTree", name := "edge", desc := "(I)I" } : Jvm.MethodName)) ∈ lw_all := lw_g (lw_at lw_m1 128 rfl) rfl
theorem q160 : (Jvm.Cond.methodLink "SplitTreeLaw" (57 : Nat) ({ cls := "SplitTree", name := "treeDistance", desc := "(II)I" } : Jvm.MethodName)) ∈ lw_all := lw_g (lw_at lw_m1 132 rfl) rfl
theorem q164 : (Jvm.Cond.methodLink "SplitTreeLaw" (61 : Nat) ({ cls := "SplitTree", name := "together", desc := "(II)I" } : Jvm.MethodName)) ∈ lw_all := lw_g (lw_at lw_m1 136 rfl) rfl
theorem q168 : (Jvm.Cond.methodLink "SplitTreeLaw" (65 : Nat) ({ cls := "SplitTree", name := "agrees", desc := "(I)I" } : Jvm.MethodName)) ∈ lw_all := lw_g (lw_at lw_m1 140 rfl) rfl
theorem q180 : (Jvm.Cond.methodLink "SplitTreeLaw" (69 : Nat) ({ cls := "SplitTree", name := "agreeing", desc := "()I" } : Jvm.MethodName)) ∈ lw_all := lw_g (lw_at lw_m1 152 rfl) rfl
theorem q200 : (Jvm.Cond.methodLink "SplitTreeLaw" (73 : Nat) ({ cls := "SplitTree", name := "treelike", desc := "()I" } : Jvm.MethodName)) ∈ lw_all := lw_g (lw_at lw_m1 172 rfl) rfl
theorem q204 : (Jvm.Cond.methodLink "SplitTreeLaw" (77 : Nat) ({ cls := "SplitTree", name := "span", desc := "()I" } : Jvm.MethodName)) ∈ lw_all := lw_g (lw_at lw_m1 176 rfl) rfl
theorem q208 : (Jvm.Cond.methodLink "SplitTreeLaw" (81 : Nat) ({ cls := "SplitTree", name := "weight", desc := "()I" } : Jvm.MethodName)) ∈ lw_all := lw_g (lw_at lw_m1 180 rfl) rfl
theorem q212 : (Jvm.Cond.classLink "SplitTreeLaw" (10 : Nat) "SplitTreeModel") ∈ lw_all := lw_g (lw_at lw_m1 184 rfl) rfl
theorem q214 : (Jvm.Cond.methodLink "SplitTreeLaw" (12 : Nat) ({ cls := "SplitTreeModel", name := "<init>", desc := "()V" } : Jvm.MethodName)) ∈ lw_all := lw_g (lw_at lw_m1 186 rfl) rfl
theorem q231 : (Jvm.Cond.methodLink "SplitTreeLaw" (17 : Nat) ({ cls := "SplitTreeModel", name := "point", desc := "(I)I" } : Jvm.MethodName)) ∈ lw_all := lw_g (lw_at lw_m1 203 rfl) rfl
theorem q239 : (Jvm.Cond.methodLink "SplitTreeLaw" (22 : Nat) ({ cls := "SplitTreeModel", name := "drop", desc := "()I" } : Jvm.MethodName)) ∈ lw_all := lw_g (lw_at lw_m1 211 rfl) rfl
theorem q243 : (Jvm.Cond.methodLink "SplitTreeLaw" (27 : Nat) ({ cls := "SplitTreeModel", name := "set", desc := "(III)I" } : Jvm.MethodName)) ∈ lw_all := lw_g (lw_at lw_m1 215 rfl) rfl
theorem q251 : (Jvm.Cond.methodLink "SplitTreeLaw" (32 : Nat) ({ cls := "SplitTreeModel", name := "move", desc := "(II)I" } : Jvm.MethodName)) ∈ lw_all := lw_g (lw_at lw_m1 223 rfl) rfl
theorem q255 : (Jvm.Cond.methodLink "SplitTreeLaw" (36 : Nat) ({ cls := "SplitTreeModel", name := "smooth", desc := "()I" } : Jvm.MethodName)) ∈ lw_all := lw_g (lw_at lw_m1 227 rfl) rfl
theorem q271 : (Jvm.Cond.methodLink "SplitTreeLaw" (40 : Nat) ({ cls := "SplitTreeModel", name := "points", desc := "()I" } : Jvm.MethodName)) ∈ lw_all := lw_g (lw_at lw_m2 3 rfl) rfl
theorem q275 : (Jvm.Cond.methodLink "SplitTreeLaw" (44 : Nat) ({ cls := "SplitTreeModel", name := "distance", desc := "(II)I" } : Jvm.MethodName)) ∈ lw_all := lw_g (lw_at lw_m2 7 rfl) rfl
theorem q279 : (Jvm.Cond.methodLink "SplitTreeLaw" (48 : Nat) ({ cls := "SplitTreeModel", name := "index", desc := "(I)I" } : Jvm.MethodName)) ∈ lw_all := lw_g (lw_at lw_m2 11 rfl) rfl
theorem q287 : (Jvm.Cond.methodLink "SplitTreeLaw" (52 : Nat) ({ cls := "SplitTreeModel", name := "edges", desc := "()I" } : Jvm.MethodName)) ∈ lw_all := lw_g (lw_at lw_m2 19 rfl) rfl
theorem q291 : (Jvm.Cond.methodLink "SplitTreeLaw" (56 : Nat) ({ cls := "SplitTreeModel", name := "edge", desc := "(I)I" } : Jvm.MethodName)) ∈ lw_all := lw_g (lw_at lw_m2 23 rfl) rfl
theorem q295 : (Jvm.Cond.methodLink "SplitTreeLaw" (60 : Nat) ({ cls := "SplitTreeModel", name := "treeDistance", desc := "(II)I" } : Jvm.MethodName)) ∈ lw_all := lw_g (lw_at lw_m2 27 rfl) rfl
theorem q299 : (Jvm.Cond.methodLink "SplitTreeLaw" (64 : Nat) ({ cls := "SplitTreeModel", name := "together", desc := "(II)I" } : Jvm.MethodName)) ∈ lw_all := lw_g (lw_at lw_m2 31 rfl) rfl
theorem q303 : (Jvm.Cond.methodLink "SplitTreeLaw" (68 : Nat) ({ cls := "SplitTreeModel", name := "agrees", desc := "(I)I" } : Jvm.MethodName)) ∈ lw_all := lw_g (lw_at lw_m2 35 rfl) rfl
theorem q315 : (Jvm.Cond.methodLink "SplitTreeLaw" (72 : Nat) ({ cls := "SplitTreeModel", name := "agreeing", desc := "()I" } : Jvm.MethodName)) ∈ lw_all := lw_g (lw_at lw_m2 47 rfl) rfl
theorem q319 : (Jvm.Cond.methodLink "SplitTreeLaw" (76 : Nat) ({ cls := "SplitTreeModel", name := "treelike", desc := "()I" } : Jvm.MethodName)) ∈ lw_all := lw_g (lw_at lw_m2 51 rfl) rfl
theorem q331 : (Jvm.Cond.methodLink "SplitTreeLaw" (80 : Nat) ({ cls := "SplitTreeModel", name := "span", desc := "()I" } : Jvm.MethodName)) ∈ lw_all := lw_g (lw_at lw_m2 63 rfl) rfl
theorem q335 : (Jvm.Cond.methodLink "SplitTreeLaw" (84 : Nat) ({ cls := "SplitTreeModel", name := "weight", desc := "()I" } : Jvm.MethodName)) ∈ lw_all := lw_g (lw_at lw_m2 67 rfl) rfl
/-! the law's own entry -/
abbrev cL_law : ByteArray := code
theorem dL_law_0 : decode cL_law 0 = .ok (.new 7, 3) := by decide +kernel
theorem dL_law_3 : decode cL_law 3 = .ok (.dup, 1) := by decide +kernel
theorem dL_law_4 : decode cL_law 4 = .ok (.invokespecial 9, 3) := by decide +kernel
theorem dL_law_7 : decode cL_law 7 = .ok (.astore_n 1, 1) := by decide +kernel
theorem dL_law_8 : decode cL_law 8 = .ok (.new 10, 3) := by decide +kernel
theorem dL_law_11 : decode cL_law 11 = .ok (.dup, 1) := by decide +kernel
theorem dL_law_12 : decode cL_law 12 = .ok (.invokespecial 12, 3) := by decide +kernel
theorem dL_law_15 : decode cL_law 15 = .ok (.astore_n 2, 1) := by decide +kernel
theorem dL_law_16 : decode cL_law 16 = .ok (.iconst 0, 1) := by decide +kernel
theorem dL_law_17 : decode cL_law 17 = .ok (.istore_n 3, 1) := by decide +kernel
theorem dL_law_18 : decode cL_law 18 = .ok (.iload_n 3, 1) := by decide +kernel
theorem dL_law_19 : decode cL_law 19 = .ok (.aload_n 0, 1) := by decide +kernel
theorem dL_law_20 : decode cL_law 20 = .ok (.arraylength, 1) := by decide +kernel
theorem dL_law_21 : decode cL_law 21 = .ok (.iconst 4, 1) := by decide +kernel
theorem dL_law_22 : decode cL_law 22 = .ok (.isub, 1) := by decide +kernel
theorem dL_law_23 : decode cL_law 23 = .ok (.if_icmp .gt 470, 3) := by decide +kernel
theorem dL_law_26 : decode cL_law 26 = .ok (.aload_n 0, 1) := by decide +kernel
theorem dL_law_27 : decode cL_law 27 = .ok (.iload_n 3, 1) := by decide +kernel
theorem dL_law_28 : decode cL_law 28 = .ok (.iaload, 1) := by decide +kernel
theorem dL_law_29 : decode cL_law 29 = .ok (.bipush 31, 2) := by decide +kernel
theorem dL_law_31 : decode cL_law 31 = .ok (.iand, 1) := by decide +kernel
theorem dL_law_32 : decode cL_law 32 = .ok (.tableswitch 455 0 16 #[84, 107, 120, 163, 196, 209, 222, 255, 278, 291, 314, 347, 380, 403, 416, 429, 442], 84) := by decide +kernel
theorem dL_law_116 : decode cL_law 116 = .ok (.aload_n 1, 1) := by decide +kernel
theorem dL_law_117 : decode cL_law 117 = .ok (.aload_n 0, 1) := by decide +kernel
theorem dL_law_118 : decode cL_law 118 = .ok (.iload_n 3, 1) := by decide +kernel
theorem dL_law_119 : decode cL_law 119 = .ok (.iconst 1, 1) := by decide +kernel
theorem dL_law_120 : decode cL_law 120 = .ok (.iadd, 1) := by decide +kernel
theorem dL_law_121 : decode cL_law 121 = .ok (.iaload, 1) := by decide +kernel
theorem dL_law_122 : decode cL_law 122 = .ok (.invokevirtual 13, 3) := by decide +kernel
theorem dL_law_125 : decode cL_law 125 = .ok (.aload_n 2, 1) := by decide +kernel
theorem dL_law_126 : decode cL_law 126 = .ok (.aload_n 0, 1) := by decide +kernel
theorem dL_law_127 : decode cL_law 127 = .ok (.iload_n 3, 1) := by decide +kernel
theorem dL_law_128 : decode cL_law 128 = .ok (.iconst 1, 1) := by decide +kernel
theorem dL_law_129 : decode cL_law 129 = .ok (.iadd, 1) := by decide +kernel
theorem dL_law_130 : decode cL_law 130 = .ok (.iaload, 1) := by decide +kernel
theorem dL_law_131 : decode cL_law 131 = .ok (.invokevirtual 17, 3) := by decide +kernel
theorem dL_law_134 : decode cL_law 134 = .ok (.if_icmp .eq 353, 3) := by decide +kernel
theorem dL_law_137 : decode cL_law 137 = .ok (.iconst 0, 1) := by decide +kernel
theorem dL_law_138 : decode cL_law 138 = .ok (.ireturn, 1) := by decide +kernel
theorem dL_law_139 : decode cL_law 139 = .ok (.aload_n 1, 1) := by decide +kernel
theorem dL_law_140 : decode cL_law 140 = .ok (.invokevirtual 18, 3) := by decide +kernel
theorem dL_law_143 : decode cL_law 143 = .ok (.aload_n 2, 1) := by decide +kernel
theorem dL_law_144 : decode cL_law 144 = .ok (.invokevirtual 22, 3) := by decide +kernel
theorem dL_law_147 : decode cL_law 147 = .ok (.if_icmp .eq 340, 3) := by decide +kernel
theorem dL_law_150 : decode cL_law 150 = .ok (.iconst 0, 1) := by decide +kernel
theorem dL_law_151 : decode cL_law 151 = .ok (.ireturn, 1) := by decide +kernel
theorem dL_law_152 : decode cL_law 152 = .ok (.aload_n 1, 1) := by decide +kernel
theorem dL_law_153 : decode cL_law 153 = .ok (.aload_n 0, 1) := by decide +kernel
theorem dL_law_154 : decode cL_law 154 = .ok (.iload_n 3, 1) := by decide +kernel
theorem dL_law_155 : decode cL_law 155 = .ok (.iconst 1, 1) := by decide +kernel
theorem dL_law_156 : decode cL_law 156 = .ok (.iadd, 1) := by decide +kernel
theorem dL_law_157 : decode cL_law 157 = .ok (.iaload, 1) := by decide +kernel
theorem dL_law_158 : decode cL_law 158 = .ok (.aload_n 0, 1) := by decide +kernel
theorem dL_law_159 : decode cL_law 159 = .ok (.iload_n 3, 1) := by decide +kernel
theorem dL_law_160 : decode cL_law 160 = .ok (.iconst 2, 1) := by decide +kernel
theorem dL_law_161 : decode cL_law 161 = .ok (.iadd, 1) := by decide +kernel
theorem dL_law_162 : decode cL_law 162 = .ok (.iaload, 1) := by decide +kernel
theorem dL_law_163 : decode cL_law 163 = .ok (.aload_n 0, 1) := by decide +kernel
theorem dL_law_164 : decode cL_law 164 = .ok (.iload_n 3, 1) := by decide +kernel
theorem dL_law_165 : decode cL_law 165 = .ok (.iconst 3, 1) := by decide +kernel
theorem dL_law_166 : decode cL_law 166 = .ok (.iadd, 1) := by decide +kernel
theorem dL_law_167 : decode cL_law 167 = .ok (.iaload, 1) := by decide +kernel
theorem dL_law_168 : decode cL_law 168 = .ok (.invokevirtual 23, 3) := by decide +kernel
theorem dL_law_171 : decode cL_law 171 = .ok (.aload_n 2, 1) := by decide +kernel
theorem dL_law_172 : decode cL_law 172 = .ok (.aload_n 0, 1) := by decide +kernel
theorem dL_law_173 : decode cL_law 173 = .ok (.iload_n 3, 1) := by decide +kernel
theorem dL_law_174 : decode cL_law 174 = .ok (.iconst 1, 1) := by decide +kernel
theorem dL_law_175 : decode cL_law 175 = .ok (.iadd, 1) := by decide +kernel
theorem dL_law_176 : decode cL_law 176 = .ok (.iaload, 1) := by decide +kernel
theorem dL_law_177 : decode cL_law 177 = .ok (.aload_n 0, 1) := by decide +kernel
theorem dL_law_178 : decode cL_law 178 = .ok (.iload_n 3, 1) := by decide +kernel
theorem dL_law_179 : decode cL_law 179 = .ok (.iconst 2, 1) := by decide +kernel
theorem dL_law_180 : decode cL_law 180 = .ok (.iadd, 1) := by decide +kernel
theorem dL_law_181 : decode cL_law 181 = .ok (.iaload, 1) := by decide +kernel
theorem dL_law_182 : decode cL_law 182 = .ok (.aload_n 0, 1) := by decide +kernel
theorem dL_law_183 : decode cL_law 183 = .ok (.iload_n 3, 1) := by decide +kernel
theorem dL_law_184 : decode cL_law 184 = .ok (.iconst 3, 1) := by decide +kernel
theorem dL_law_185 : decode cL_law 185 = .ok (.iadd, 1) := by decide +kernel
theorem dL_law_186 : decode cL_law 186 = .ok (.iaload, 1) := by decide +kernel
theorem dL_law_187 : decode cL_law 187 = .ok (.invokevirtual 27, 3) := by decide +kernel
theorem dL_law_190 : decode cL_law 190 = .ok (.if_icmp .eq 297, 3) := by decide +kernel
theorem dL_law_193 : decode cL_law 193 = .ok (.iconst 0, 1) := by decide +kernel
theorem dL_law_194 : decode cL_law 194 = .ok (.ireturn, 1) := by decide +kernel
theorem dL_law_195 : decode cL_law 195 = .ok (.aload_n 1, 1) := by decide +kernel
theorem dL_law_196 : decode cL_law 196 = .ok (.aload_n 0, 1) := by decide +kernel
theorem dL_law_197 : decode cL_law 197 = .ok (.iload_n 3, 1) := by decide +kernel
theorem dL_law_198 : decode cL_law 198 = .ok (.iconst 1, 1) := by decide +kernel
theorem dL_law_199 : decode cL_law 199 = .ok (.iadd, 1) := by decide +kernel
theorem dL_law_200 : decode cL_law 200 = .ok (.iaload, 1) := by decide +kernel
theorem dL_law_201 : decode cL_law 201 = .ok (.aload_n 0, 1) := by decide +kernel
theorem dL_law_202 : decode cL_law 202 = .ok (.iload_n 3, 1) := by decide +kernel
theorem dL_law_203 : decode cL_law 203 = .ok (.iconst 2, 1) := by decide +kernel
theorem dL_law_204 : decode cL_law 204 = .ok (.iadd, 1) := by decide +kernel
theorem dL_law_205 : decode cL_law 205 = .ok (.iaload, 1) := by decide +kernel
theorem dL_law_206 : decode cL_law 206 = .ok (.invokevirtual 28, 3) := by decide +kernel
theorem dL_law_209 : decode cL_law 209 = .ok (.aload_n 2, 1) := by decide +kernel
theorem dL_law_210 : decode cL_law 210 = .ok (.aload_n 0, 1) := by decide +kernel
theorem dL_law_211 : decode cL_law 211 = .ok (.iload_n 3, 1) := by decide +kernel
theorem dL_law_212 : decode cL_law 212 = .ok (.iconst 1, 1) := by decide +kernel
theorem dL_law_213 : decode cL_law 213 = .ok (.iadd, 1) := by decide +kernel
theorem dL_law_214 : decode cL_law 214 = .ok (.iaload, 1) := by decide +kernel
theorem dL_law_215 : decode cL_law 215 = .ok (.aload_n 0, 1) := by decide +kernel
theorem dL_law_216 : decode cL_law 216 = .ok (.iload_n 3, 1) := by decide +kernel
theorem dL_law_217 : decode cL_law 217 = .ok (.iconst 2, 1) := by decide +kernel
theorem dL_law_218 : decode cL_law 218 = .ok (.iadd, 1) := by decide +kernel
theorem dL_law_219 : decode cL_law 219 = .ok (.iaload, 1) := by decide +kernel
theorem dL_law_220 : decode cL_law 220 = .ok (.invokevirtual 32, 3) := by decide +kernel
theorem dL_law_223 : decode cL_law 223 = .ok (.if_icmp .eq 264, 3) := by decide +kernel
theorem dL_law_226 : decode cL_law 226 = .ok (.iconst 0, 1) := by decide +kernel
theorem dL_law_227 : decode cL_law 227 = .ok (.ireturn, 1) := by decide +kernel
theorem dL_law_228 : decode cL_law 228 = .ok (.aload_n 1, 1) := by decide +kernel
theorem dL_law_229 : decode cL_law 229 = .ok (.invokevirtual 33, 3) := by decide +kernel
theorem dL_law_232 : decode cL_law 232 = .ok (.aload_n 2, 1) := by decide +kernel
theorem dL_law_233 : decode cL_law 233 = .ok (.invokevirtual 36, 3) := by decide +kernel
theorem dL_law_236 : decode cL_law 236 = .ok (.if_icmp .eq 251, 3) := by decide +kernel
theorem dL_law_239 : decode cL_law 239 = .ok (.iconst 0, 1) := by decide +kernel
theorem dL_law_240 : decode cL_law 240 = .ok (.ireturn, 1) := by decide +kernel
theorem dL_law_241 : decode cL_law 241 = .ok (.aload_n 1, 1) := by decide +kernel
theorem dL_law_242 : decode cL_law 242 = .ok (.invokevirtual 37, 3) := by decide +kernel
theorem dL_law_245 : decode cL_law 245 = .ok (.aload_n 2, 1) := by decide +kernel
theorem dL_law_246 : decode cL_law 246 = .ok (.invokevirtual 40, 3) := by decide +kernel
theorem dL_law_249 : decode cL_law 249 = .ok (.if_icmp .eq 238, 3) := by decide +kernel
theorem dL_law_252 : decode cL_law 252 = .ok (.iconst 0, 1) := by decide +kernel
theorem dL_law_253 : decode cL_law 253 = .ok (.ireturn, 1) := by decide +kernel
theorem dL_law_254 : decode cL_law 254 = .ok (.aload_n 1, 1) := by decide +kernel
theorem dL_law_255 : decode cL_law 255 = .ok (.aload_n 0, 1) := by decide +kernel
theorem dL_law_256 : decode cL_law 256 = .ok (.iload_n 3, 1) := by decide +kernel
theorem dL_law_257 : decode cL_law 257 = .ok (.iconst 1, 1) := by decide +kernel
theorem dL_law_258 : decode cL_law 258 = .ok (.iadd, 1) := by decide +kernel
theorem dL_law_259 : decode cL_law 259 = .ok (.iaload, 1) := by decide +kernel
theorem dL_law_260 : decode cL_law 260 = .ok (.aload_n 0, 1) := by decide +kernel
theorem dL_law_261 : decode cL_law 261 = .ok (.iload_n 3, 1) := by decide +kernel
theorem dL_law_262 : decode cL_law 262 = .ok (.iconst 2, 1) := by decide +kernel
theorem dL_law_263 : decode cL_law 263 = .ok (.iadd, 1) := by decide +kernel
theorem dL_law_264 : decode cL_law 264 = .ok (.iaload, 1) := by decide +kernel
theorem dL_law_265 : decode cL_law 265 = .ok (.invokevirtual 41, 3) := by decide +kernel
theorem dL_law_268 : decode cL_law 268 = .ok (.aload_n 2, 1) := by decide +kernel
theorem dL_law_269 : decode cL_law 269 = .ok (.aload_n 0, 1) := by decide +kernel
theorem dL_law_270 : decode cL_law 270 = .ok (.iload_n 3, 1) := by decide +kernel
theorem dL_law_271 : decode cL_law 271 = .ok (.iconst 1, 1) := by decide +kernel
theorem dL_law_272 : decode cL_law 272 = .ok (.iadd, 1) := by decide +kernel
theorem dL_law_273 : decode cL_law 273 = .ok (.iaload, 1) := by decide +kernel
theorem dL_law_274 : decode cL_law 274 = .ok (.aload_n 0, 1) := by decide +kernel
theorem dL_law_275 : decode cL_law 275 = .ok (.iload_n 3, 1) := by decide +kernel
theorem dL_law_276 : decode cL_law 276 = .ok (.iconst 2, 1) := by decide +kernel
theorem dL_law_277 : decode cL_law 277 = .ok (.iadd, 1) := by decide +kernel
theorem dL_law_278 : decode cL_law 278 = .ok (.iaload, 1) := by decide +kernel
theorem dL_law_279 : decode cL_law 279 = .ok (.invokevirtual 44, 3) := by decide +kernel
theorem dL_law_282 : decode cL_law 282 = .ok (.if_icmp .eq 205, 3) := by decide +kernel
theorem dL_law_285 : decode cL_law 285 = .ok (.iconst 0, 1) := by decide +kernel
theorem dL_law_286 : decode cL_law 286 = .ok (.ireturn, 1) := by decide +kernel
theorem dL_law_287 : decode cL_law 287 = .ok (.aload_n 1, 1) := by decide +kernel
theorem dL_law_288 : decode cL_law 288 = .ok (.aload_n 0, 1) := by decide +kernel
theorem dL_law_289 : decode cL_law 289 = .ok (.iload_n 3, 1) := by decide +kernel
theorem dL_law_290 : decode cL_law 290 = .ok (.iconst 1, 1) := by decide +kernel
theorem dL_law_291 : decode cL_law 291 = .ok (.iadd, 1) := by decide +kernel
theorem dL_law_292 : decode cL_law 292 = .ok (.iaload, 1) := by decide +kernel
theorem dL_law_293 : decode cL_law 293 = .ok (.invokevirtual 45, 3) := by decide +kernel
theorem dL_law_296 : decode cL_law 296 = .ok (.aload_n 2, 1) := by decide +kernel
theorem dL_law_297 : decode cL_law 297 = .ok (.aload_n 0, 1) := by decide +kernel
theorem dL_law_298 : decode cL_law 298 = .ok (.iload_n 3, 1) := by decide +kernel
theorem dL_law_299 : decode cL_law 299 = .ok (.iconst 1, 1) := by decide +kernel
theorem dL_law_300 : decode cL_law 300 = .ok (.iadd, 1) := by decide +kernel
theorem dL_law_301 : decode cL_law 301 = .ok (.iaload, 1) := by decide +kernel
theorem dL_law_302 : decode cL_law 302 = .ok (.invokevirtual 48, 3) := by decide +kernel
theorem dL_law_305 : decode cL_law 305 = .ok (.if_icmp .eq 182, 3) := by decide +kernel
theorem dL_law_308 : decode cL_law 308 = .ok (.iconst 0, 1) := by decide +kernel
theorem dL_law_309 : decode cL_law 309 = .ok (.ireturn, 1) := by decide +kernel
theorem dL_law_310 : decode cL_law 310 = .ok (.aload_n 1, 1) := by decide +kernel
theorem dL_law_311 : decode cL_law 311 = .ok (.invokevirtual 49, 3) := by decide +kernel
theorem dL_law_314 : decode cL_law 314 = .ok (.aload_n 2, 1) := by decide +kernel
theorem dL_law_315 : decode cL_law 315 = .ok (.invokevirtual 52, 3) := by decide +kernel
theorem dL_law_318 : decode cL_law 318 = .ok (.if_icmp .eq 169, 3) := by decide +kernel
theorem dL_law_321 : decode cL_law 321 = .ok (.iconst 0, 1) := by decide +kernel
theorem dL_law_322 : decode cL_law 322 = .ok (.ireturn, 1) := by decide +kernel
theorem dL_law_323 : decode cL_law 323 = .ok (.aload_n 1, 1) := by decide +kernel
theorem dL_law_324 : decode cL_law 324 = .ok (.aload_n 0, 1) := by decide +kernel
theorem dL_law_325 : decode cL_law 325 = .ok (.iload_n 3, 1) := by decide +kernel
theorem dL_law_326 : decode cL_law 326 = .ok (.iconst 1, 1) := by decide +kernel
theorem dL_law_327 : decode cL_law 327 = .ok (.iadd, 1) := by decide +kernel
theorem dL_law_328 : decode cL_law 328 = .ok (.iaload, 1) := by decide +kernel
theorem dL_law_329 : decode cL_law 329 = .ok (.invokevirtual 53, 3) := by decide +kernel
theorem dL_law_332 : decode cL_law 332 = .ok (.aload_n 2, 1) := by decide +kernel
theorem dL_law_333 : decode cL_law 333 = .ok (.aload_n 0, 1) := by decide +kernel
theorem dL_law_334 : decode cL_law 334 = .ok (.iload_n 3, 1) := by decide +kernel
theorem dL_law_335 : decode cL_law 335 = .ok (.iconst 1, 1) := by decide +kernel
theorem dL_law_336 : decode cL_law 336 = .ok (.iadd, 1) := by decide +kernel
theorem dL_law_337 : decode cL_law 337 = .ok (.iaload, 1) := by decide +kernel
theorem dL_law_338 : decode cL_law 338 = .ok (.invokevirtual 56, 3) := by decide +kernel
theorem dL_law_341 : decode cL_law 341 = .ok (.if_icmp .eq 146, 3) := by decide +kernel
theorem dL_law_344 : decode cL_law 344 = .ok (.iconst 0, 1) := by decide +kernel
theorem dL_law_345 : decode cL_law 345 = .ok (.ireturn, 1) := by decide +kernel
theorem dL_law_346 : decode cL_law 346 = .ok (.aload_n 1, 1) := by decide +kernel
theorem dL_law_347 : decode cL_law 347 = .ok (.aload_n 0, 1) := by decide +kernel
theorem dL_law_348 : decode cL_law 348 = .ok (.iload_n 3, 1) := by decide +kernel
theorem dL_law_349 : decode cL_law 349 = .ok (.iconst 1, 1) := by decide +kernel
theorem dL_law_350 : decode cL_law 350 = .ok (.iadd, 1) := by decide +kernel
theorem dL_law_351 : decode cL_law 351 = .ok (.iaload, 1) := by decide +kernel
theorem dL_law_352 : decode cL_law 352 = .ok (.aload_n 0, 1) := by decide +kernel
theorem dL_law_353 : decode cL_law 353 = .ok (.iload_n 3, 1) := by decide +kernel
theorem dL_law_354 : decode cL_law 354 = .ok (.iconst 2, 1) := by decide +kernel
theorem dL_law_355 : decode cL_law 355 = .ok (.iadd, 1) := by decide +kernel
theorem dL_law_356 : decode cL_law 356 = .ok (.iaload, 1) := by decide +kernel
theorem dL_law_357 : decode cL_law 357 = .ok (.invokevirtual 57, 3) := by decide +kernel
theorem dL_law_360 : decode cL_law 360 = .ok (.aload_n 2, 1) := by decide +kernel
theorem dL_law_361 : decode cL_law 361 = .ok (.aload_n 0, 1) := by decide +kernel
theorem dL_law_362 : decode cL_law 362 = .ok (.iload_n 3, 1) := by decide +kernel
theorem dL_law_363 : decode cL_law 363 = .ok (.iconst 1, 1) := by decide +kernel
theorem dL_law_364 : decode cL_law 364 = .ok (.iadd, 1) := by decide +kernel
theorem dL_law_365 : decode cL_law 365 = .ok (.iaload, 1) := by decide +kernel
theorem dL_law_366 : decode cL_law 366 = .ok (.aload_n 0, 1) := by decide +kernel
theorem dL_law_367 : decode cL_law 367 = .ok (.iload_n 3, 1) := by decide +kernel
theorem dL_law_368 : decode cL_law 368 = .ok (.iconst 2, 1) := by decide +kernel
theorem dL_law_369 : decode cL_law 369 = .ok (.iadd, 1) := by decide +kernel
theorem dL_law_370 : decode cL_law 370 = .ok (.iaload, 1) := by decide +kernel
theorem dL_law_371 : decode cL_law 371 = .ok (.invokevirtual 60, 3) := by decide +kernel
theorem dL_law_374 : decode cL_law 374 = .ok (.if_icmp .eq 113, 3) := by decide +kernel
theorem dL_law_377 : decode cL_law 377 = .ok (.iconst 0, 1) := by decide +kernel
theorem dL_law_378 : decode cL_law 378 = .ok (.ireturn, 1) := by decide +kernel
theorem dL_law_379 : decode cL_law 379 = .ok (.aload_n 1, 1) := by decide +kernel
theorem dL_law_380 : decode cL_law 380 = .ok (.aload_n 0, 1) := by decide +kernel
theorem dL_law_381 : decode cL_law 381 = .ok (.iload_n 3, 1) := by decide +kernel
theorem dL_law_382 : decode cL_law 382 = .ok (.iconst 1, 1) := by decide +kernel
theorem dL_law_383 : decode cL_law 383 = .ok (.iadd, 1) := by decide +kernel
theorem dL_law_384 : decode cL_law 384 = .ok (.iaload, 1) := by decide +kernel
theorem dL_law_385 : decode cL_law 385 = .ok (.aload_n 0, 1) := by decide +kernel
theorem dL_law_386 : decode cL_law 386 = .ok (.iload_n 3, 1) := by decide +kernel
theorem dL_law_387 : decode cL_law 387 = .ok (.iconst 2, 1) := by decide +kernel
theorem dL_law_388 : decode cL_law 388 = .ok (.iadd, 1) := by decide +kernel
theorem dL_law_389 : decode cL_law 389 = .ok (.iaload, 1) := by decide +kernel
theorem dL_law_390 : decode cL_law 390 = .ok (.invokevirtual 61, 3) := by decide +kernel
theorem dL_law_393 : decode cL_law 393 = .ok (.aload_n 2, 1) := by decide +kernel
theorem dL_law_394 : decode cL_law 394 = .ok (.aload_n 0, 1) := by decide +kernel
theorem dL_law_395 : decode cL_law 395 = .ok (.iload_n 3, 1) := by decide +kernel
theorem dL_law_396 : decode cL_law 396 = .ok (.iconst 1, 1) := by decide +kernel
theorem dL_law_397 : decode cL_law 397 = .ok (.iadd, 1) := by decide +kernel
theorem dL_law_398 : decode cL_law 398 = .ok (.iaload, 1) := by decide +kernel
theorem dL_law_399 : decode cL_law 399 = .ok (.aload_n 0, 1) := by decide +kernel
theorem dL_law_400 : decode cL_law 400 = .ok (.iload_n 3, 1) := by decide +kernel
theorem dL_law_401 : decode cL_law 401 = .ok (.iconst 2, 1) := by decide +kernel
theorem dL_law_402 : decode cL_law 402 = .ok (.iadd, 1) := by decide +kernel
theorem dL_law_403 : decode cL_law 403 = .ok (.iaload, 1) := by decide +kernel
theorem dL_law_404 : decode cL_law 404 = .ok (.invokevirtual 64, 3) := by decide +kernel
theorem dL_law_407 : decode cL_law 407 = .ok (.if_icmp .eq 80, 3) := by decide +kernel
theorem dL_law_410 : decode cL_law 410 = .ok (.iconst 0, 1) := by decide +kernel
theorem dL_law_411 : decode cL_law 411 = .ok (.ireturn, 1) := by decide +kernel
theorem dL_law_412 : decode cL_law 412 = .ok (.aload_n 1, 1) := by decide +kernel
theorem dL_law_413 : decode cL_law 413 = .ok (.aload_n 0, 1) := by decide +kernel
theorem dL_law_414 : decode cL_law 414 = .ok (.iload_n 3, 1) := by decide +kernel
theorem dL_law_415 : decode cL_law 415 = .ok (.iconst 1, 1) := by decide +kernel
theorem dL_law_416 : decode cL_law 416 = .ok (.iadd, 1) := by decide +kernel
theorem dL_law_417 : decode cL_law 417 = .ok (.iaload, 1) := by decide +kernel
theorem dL_law_418 : decode cL_law 418 = .ok (.invokevirtual 65, 3) := by decide +kernel
theorem dL_law_421 : decode cL_law 421 = .ok (.aload_n 2, 1) := by decide +kernel
theorem dL_law_422 : decode cL_law 422 = .ok (.aload_n 0, 1) := by decide +kernel
theorem dL_law_423 : decode cL_law 423 = .ok (.iload_n 3, 1) := by decide +kernel
theorem dL_law_424 : decode cL_law 424 = .ok (.iconst 1, 1) := by decide +kernel
theorem dL_law_425 : decode cL_law 425 = .ok (.iadd, 1) := by decide +kernel
theorem dL_law_426 : decode cL_law 426 = .ok (.iaload, 1) := by decide +kernel
theorem dL_law_427 : decode cL_law 427 = .ok (.invokevirtual 68, 3) := by decide +kernel
theorem dL_law_430 : decode cL_law 430 = .ok (.if_icmp .eq 57, 3) := by decide +kernel
theorem dL_law_433 : decode cL_law 433 = .ok (.iconst 0, 1) := by decide +kernel
theorem dL_law_434 : decode cL_law 434 = .ok (.ireturn, 1) := by decide +kernel
theorem dL_law_435 : decode cL_law 435 = .ok (.aload_n 1, 1) := by decide +kernel
theorem dL_law_436 : decode cL_law 436 = .ok (.invokevirtual 69, 3) := by decide +kernel
theorem dL_law_439 : decode cL_law 439 = .ok (.aload_n 2, 1) := by decide +kernel
theorem dL_law_440 : decode cL_law 440 = .ok (.invokevirtual 72, 3) := by decide +kernel
theorem dL_law_443 : decode cL_law 443 = .ok (.if_icmp .eq 44, 3) := by decide +kernel
theorem dL_law_446 : decode cL_law 446 = .ok (.iconst 0, 1) := by decide +kernel
theorem dL_law_447 : decode cL_law 447 = .ok (.ireturn, 1) := by decide +kernel
theorem dL_law_448 : decode cL_law 448 = .ok (.aload_n 1, 1) := by decide +kernel
theorem dL_law_449 : decode cL_law 449 = .ok (.invokevirtual 73, 3) := by decide +kernel
theorem dL_law_452 : decode cL_law 452 = .ok (.aload_n 2, 1) := by decide +kernel
theorem dL_law_453 : decode cL_law 453 = .ok (.invokevirtual 76, 3) := by decide +kernel
theorem dL_law_456 : decode cL_law 456 = .ok (.if_icmp .eq 31, 3) := by decide +kernel
theorem dL_law_459 : decode cL_law 459 = .ok (.iconst 0, 1) := by decide +kernel
theorem dL_law_460 : decode cL_law 460 = .ok (.ireturn, 1) := by decide +kernel
theorem dL_law_461 : decode cL_law 461 = .ok (.aload_n 1, 1) := by decide +kernel
theorem dL_law_462 : decode cL_law 462 = .ok (.invokevirtual 77, 3) := by decide +kernel
theorem dL_law_465 : decode cL_law 465 = .ok (.aload_n 2, 1) := by decide +kernel
theorem dL_law_466 : decode cL_law 466 = .ok (.invokevirtual 80, 3) := by decide +kernel
theorem dL_law_469 : decode cL_law 469 = .ok (.if_icmp .eq 18, 3) := by decide +kernel
theorem dL_law_472 : decode cL_law 472 = .ok (.iconst 0, 1) := by decide +kernel
theorem dL_law_473 : decode cL_law 473 = .ok (.ireturn, 1) := by decide +kernel
theorem dL_law_474 : decode cL_law 474 = .ok (.aload_n 1, 1) := by decide +kernel
theorem dL_law_475 : decode cL_law 475 = .ok (.invokevirtual 81, 3) := by decide +kernel
theorem dL_law_478 : decode cL_law 478 = .ok (.aload_n 2, 1) := by decide +kernel
theorem dL_law_479 : decode cL_law 479 = .ok (.invokevirtual 84, 3) := by decide +kernel
theorem dL_law_482 : decode cL_law 482 = .ok (.if_icmp .eq 5, 3) := by decide +kernel
theorem dL_law_485 : decode cL_law 485 = .ok (.iconst 0, 1) := by decide +kernel
theorem dL_law_486 : decode cL_law 486 = .ok (.ireturn, 1) := by decide +kernel
theorem dL_law_487 : decode cL_law 487 = .ok (.iinc 3 4, 3) := by decide +kernel
theorem dL_law_490 : decode cL_law 490 = .ok (.goto (-472), 3) := by decide +kernel
theorem dL_law_493 : decode cL_law 493 = .ok (.iconst 1, 1) := by decide +kernel
theorem dL_law_494 : decode cL_law 494 = .ok (.ireturn, 1) := by decide +kernel
end
section
/-! THE LAYER sx_: W over a world of cells, short: sx_S G ws pc lv st: from any heap that holds the cells ws, at pc, with the locals lv and the stack st, the machine comes to G's end -/
set_option maxRecDepth 100000
abbrev cls2 : List vw_C := [(RX0, TX0, 10), (RX1, TX1, 4)]
def iI (z : Int) : Int32 := Int32.ofInt z
def bI (b : Bool) : Int32 := if b = true then 1 else 0
def bt (x : Int32) (i : Nat) : Bool := x.toBitVec.getLsbD i
theorem b_ext {x y : Int32} (h : ∀ i, i < 32 → bt x i = bt y i) : x = y := Int32.toBitVec_inj.mp (BitVec.eq_of_getLsbD_eq (fun i hi => h i hi))
theorem b_or (x y : Int32) (i : Nat) : bt (x ||| y) i = (bt x i || bt y i) := by unfold bt; rw [Int32.toBitVec_or, BitVec.getLsbD_or]
theorem b_and (x y : Int32) (i : Nat) : bt (x &&& y) i = (bt x i && bt y i) := by unfold bt; rw [Int32.toBitVec_and, BitVec.getLsbD_and]
theorem b_xor (x y : Int32) (i : Nat) : bt (x ^^^ y) i = (bt x i ^^ bt y i) := by unfold bt; rw [Int32.toBitVec_xor, BitVec.getLsbD_xor]
theorem b_m1 : ∀ i, i < 32 → bt (-1) i = true := by decide +kernel
theorem b_0 (i : Nat) : bt 0 i = false := BitVec.getLsbD_zero
theorem s_l : ∀ n, n < 32 → ((nI n &&& 31).toBitVec.smod 32).toNat = n := by decide +kernel
theorem b_shl (n : Nat) (hn : n < 32) (x : Int32) {i : Nat} (hi : i < 32) : bt (x <<< (nI n &&& 31)) i = (decide (n ≤ i) && bt x (i - n)) := by
  unfold bt
  rw [Int32.toBitVec_shiftLeft]
  show (x.toBitVec <<< ((nI n &&& 31).toBitVec.smod 32).toNat).getLsbD i = _
  rw [s_l n hn, BitVec.getLsbD_shiftLeft]
  rcases Nat.lt_or_ge i n with h | h
  · simp [h, Nat.not_le.mpr h]
  · simp [hi, h, Nat.not_lt.mpr h]
theorem b_sshr (n : Nat) (hn : n < 32) (x : Int32) {i : Nat} (hi : i < 32) : bt (x >>> (nI n &&& 31)) i = if n + i < 32 then bt x (n + i) else bt x 31 := by
  unfold bt
  rw [Int32.toBitVec_shiftRight]
  show (x.toBitVec.sshiftRight ((nI n &&& 31).toBitVec.smod 32).toNat).getLsbD i = _
  rw [s_l n hn, BitVec.getLsbD_sshiftRight, BitVec.msb_eq_getLsbD_last]
  simp [hi]
theorem nx_and (a b : Nat) : nI a &&& nI b = nI (a &&& b) := by
  apply Int32.toBitVec_inj.1
  show BitVec.ofNat 32 a &&& BitVec.ofNat 32 b = BitVec.ofNat 32 (a &&& b)
  apply BitVec.eq_of_getLsbD_eq
  intro i hi
  simp [hi]
theorem nx_or (a b : Nat) : nI a ||| nI b = nI (a ||| b) := by
  apply Int32.toBitVec_inj.1
  show BitVec.ofNat 32 a ||| BitVec.ofNat 32 b = BitVec.ofNat 32 (a ||| b)
  apply BitVec.eq_of_getLsbD_eq
  intro i hi
  simp [hi]
theorem bt_nI (a : Nat) {i : Nat} (hi : i < 32) : bt (nI a) i = a.testBit i := by
  show (BitVec.ofNat 32 a).getLsbD i = a.testBit i
  rw [BitVec.getLsbD_ofNat]
  simp only [hi, decide_true, Bool.true_and]
theorem bt_1 : ∀ i, i < 32 → bt (nI 1) i = decide (i = 0) := by decide +kernel
theorem bt_bI (b : Bool) {i : Nat} (hi : i < 32) : bt (bI b) i = (decide (i = 0) && b) := by
  cases b
  · show bt 0 i = _
    rw [b_0]; simp
  · show bt (nI 1) i = _
    rw [bt_1 i hi]; simp
/-- one bit of a number -/
theorem bit_of (x : Int32) {i : Nat} (hi : i < 32) : (x >>> (nI i &&& 31)) &&& nI 1 = bI (bt x i) := by
  apply b_ext
  intro j hj
  rw [b_and, b_sshr i hi x hj, bt_1 j hj, bt_bI _ hj]
  by_cases h : j = 0
  · subst h
    have h2 : i + 0 < 32 := by omega
    simp [hi]
  · simp [h]
theorem bitN_of (a : Nat) {i : Nat} (hi : i < 32) : (nI a >>> (nI i &&& 31)) &&& nI 1 = bI (a.testBit i) := by
  rw [bit_of _ hi, bt_nI a hi]
theorem shl1 (n : Nat) (hn : n < 31) : nI 1 <<< (nI n &&& 31) = nI (2 ^ n) := by
  have h := pk_shlN (n := 1) (nI n &&& 31) n (s_l n (by omega)) (by
    have : 2 ^ n ≤ 2 ^ 31 := Nat.pow_le_pow_right (by omega) (by omega)
    omega)
  rw [h]
  simp
theorem bI_0 {b : Bool} : bI b = 0 ↔ b = false := by cases b <;> decide
theorem bI_n0 {b : Bool} : ¬ bI b = 0 ↔ b = true := by cases b <;> decide
theorem bI_1 {b : Bool} : bI b = nI 1 ↔ b = true := by cases b <;> decide
theorem bI_n1 {b : Bool} : ¬ bI b = nI 1 ↔ b = false := by cases b <;> decide
theorem bI_eq {a b : Bool} : bI a = bI b ↔ a = b := by cases a <;> cases b <;> decide
theorem iI_n (n : Nat) : nI n = iI n := (Int32.ofInt_eq_ofNat).symm
theorem iI_add (a b : Int) : iI a + iI b = iI (a + b) := (Int32.ofInt_add a b).symm
theorem iI_sub (a b : Int) : iI a - iI b = iI (a - b) := (Int32.ofInt_sub a b).symm
theorem iI_toInt {a : Int} (ha : -2147483648 ≤ a ∧ a < 2147483648) : (iI a).toInt = a := Int32.toInt_ofInt_of_le (by omega) (by omega)
theorem iI_lt {a b : Int} (ha : -2147483648 ≤ a ∧ a < 2147483648) (hb : -2147483648 ≤ b ∧ b < 2147483648) : iI a < iI b ↔ a < b := by
  rw [Int32.lt_iff_toInt_lt, iI_toInt ha, iI_toInt hb]
theorem iI_le {a b : Int} (ha : -2147483648 ≤ a ∧ a < 2147483648) (hb : -2147483648 ≤ b ∧ b < 2147483648) : iI a ≤ iI b ↔ a ≤ b := by
  rw [Int32.le_iff_toInt_le, iI_toInt ha, iI_toInt hb]
theorem iI_eq {a b : Int} (ha : -2147483648 ≤ a ∧ a < 2147483648) (hb : -2147483648 ≤ b ∧ b < 2147483648) : iI a = iI b ↔ a = b := by
  rw [← Int32.toInt_inj, iI_toInt ha, iI_toInt hb]
theorem iI_of (x : Int32) : ∃ z : Int, (-2147483648 ≤ z ∧ z < 2147483648) ∧ x = iI z := by
  refine ⟨x.toInt, ⟨?_, ?_⟩, (Int32.ofInt_toInt x).symm⟩
  · have := Int32.le_toInt x
    omega
  · have := Int32.toInt_lt x
    omega
theorem iI_0 : (0 : Int32) = iI 0 := by decide
theorem z31 : -2147483648 ≤ (0 : Int) ∧ (0 : Int) < 2147483648 := by decide
theorem iI_lt0 {a : Int} (ha : -2147483648 ≤ a ∧ a < 2147483648) : iI a < 0 ↔ a < 0 := by rw [iI_0]; exact iI_lt ha z31
theorem iI_le0 {a : Int} (ha : -2147483648 ≤ a ∧ a < 2147483648) : iI a ≤ 0 ↔ a ≤ 0 := by rw [iI_0]; exact iI_le ha z31
theorem iI_0lt {a : Int} (ha : -2147483648 ≤ a ∧ a < 2147483648) : 0 < iI a ↔ 0 < a := by rw [iI_0]; exact iI_lt z31 ha
theorem iI_0le {a : Int} (ha : -2147483648 ≤ a ∧ a < 2147483648) : 0 ≤ iI a ↔ 0 ≤ a := by rw [iI_0]; exact iI_le z31 ha
theorem iI_eq0 {a : Int} (ha : -2147483648 ≤ a ∧ a < 2147483648) : iI a = 0 ↔ a = 0 := by rw [iI_0]; exact iI_eq ha z31
theorem iI_toNat {t : Int} (h : 0 ≤ t) : iI t = nI t.toNat := by rw [iI_n, Int.toNat_of_nonneg h]
theorem inc1 (a : Nat) : nI a + Int32.ofInt 1 = nI (a + 1) := nI_1 a
theorem inc2 (a : Nat) : nI a + Int32.ofInt 2 = nI (a + 2) := nI_add a 2
theorem inc4 (a : Nat) : nI a + Int32.ofInt 4 = nI (a + 4) := nI_add a 4
theorem dec1 (a : Nat) : nI (a + 1) + Int32.ofInt (-1) = nI a := pk_m1 a
theorem incI (a n : Int) : iI a + Int32.ofInt n = iI (a + n) := iI_add a n
theorem byteN {n : Nat} (h : n < 128) : (nI n).toInt8.toInt32 = nI n := (by decide +kernel : ∀ n, n < 128 → (nI n).toInt8.toInt32 = nI n) n h
theorem narN {n : Nat} (h : n < 128) : vp_nar .byte (nI n) = nI n := by rw [vp_nar_byte, byteN h]
/-- G: program, launch, env, room, start state, method id, args, frames below, method, code, cells, slots, end, locals, classes, array classes, what may change -/
abbrev sx_G := Program × Launch × Env × Room × State × MethodId × Array Value × List Frame × Method × Code × Nat × Nat × (State → Prop) × Nat × va_G × List (ClassId × FieldType) × (Nat → Prop)
abbrev g_p (G : sx_G) : Program := G.1
abbrev g_l (G : sx_G) : Launch := G.2.1
abbrev g_e (G : sx_G) : Env := G.2.2.1
abbrev g_R (G : sx_G) : Room := G.2.2.2.1
abbrev g_s (G : sx_G) : State := G.2.2.2.2.1
abbrev g_m (G : sx_G) : MethodId := G.2.2.2.2.2.1
abbrev g_a (G : sx_G) : Array Value := G.2.2.2.2.2.2.1
abbrev g_w (G : sx_G) : List Frame := G.2.2.2.2.2.2.2.1
abbrev g_t (G : sx_G) : Method := G.2.2.2.2.2.2.2.2.1
abbrev g_c (G : sx_G) : Code := G.2.2.2.2.2.2.2.2.2.1
abbrev g_k (G : sx_G) : Nat := G.2.2.2.2.2.2.2.2.2.2.1
abbrev g_o (G : sx_G) : Nat := G.2.2.2.2.2.2.2.2.2.2.2.1
abbrev g_Q (G : sx_G) : State → Prop := G.2.2.2.2.2.2.2.2.2.2.2.2.1
abbrev g_n (G : sx_G) : Nat := G.2.2.2.2.2.2.2.2.2.2.2.2.2.1
abbrev g_D (G : sx_G) : va_G := G.2.2.2.2.2.2.2.2.2.2.2.2.2.2.1
abbrev g_y (G : sx_G) : List (ClassId × FieldType) := G.2.2.2.2.2.2.2.2.2.2.2.2.2.2.2.1
abbrev g_A (G : sx_G) : Nat → Prop := G.2.2.2.2.2.2.2.2.2.2.2.2.2.2.2.2
def sx_S (G : sx_G) (ws : va_W) (pc : Nat) (lv : List (Nat × Value)) (st : List Value) : Prop :=
  ∀ (H : Heap) (locs : List Loc) (ls : Array Slot), va_P (g_D G) cls2 ws H → va_D (g_A G) ws → va_S (g_A G) (g_s G).heap H locs → lv_has ls (g_n G) lv →
    W (g_p G) (g_l G) (g_e G) (g_R G) (g_s G) (g_m G) (g_a G) (g_w G) (g_t G) (g_c G) H locs (g_k G) (g_o G) (g_Q G) (F0 (g_m G) pc ls st)
/-- what is fixed all through a method -/
def sx_E (G : sx_G) (cc : ByteArray) (own : String) (l : Launch) (D : va_G) (tys : List (ClassId × FieldType)) (R : Room) (nL : Nat) : Prop :=
  (g_p G).tables.exec = Jvm.exec ∧ (g_c G).code = cc ∧ (g_c G).maxLocals = g_n G ∧ (g_s G).vm.findClass own = some (g_m G).cls ∧ (∀ w ∈ lw_all, w.before (g_a G) (g_s G) = true) ∧ va_K (g_D G) cls2 (g_y G) (g_s G) ∧ (∀ q, (g_s G).heap.size ≤ q → g_A G q) ∧
  (g_k G ≤ (g_R G).cells ∧ g_o G ≤ (g_R G).slots) ∧ g_l G = l ∧ g_D G = D ∧ g_y G = tys ∧ g_R G = R ∧ g_n G = nL
section SX
variable {G : sx_G} {cc : ByteArray} {own : String} {l : Launch} {D : va_G} {tys : List (ClassId × FieldType)} {R : Room} {nL : Nat} {ws : va_W} {pc : Nat} {lv : List (Nat × Value)} {st rest : List Value}
theorem sx_E.n (E : sx_E G cc own l D tys R nL) : g_n G = nL := E.2.2.2.2.2.2.2.2.2.2.2.2
theorem sx_E.y (E : sx_E G cc own l D tys R nL) : g_y G = tys := E.2.2.2.2.2.2.2.2.2.2.1
theorem sx_top {x y : Int32} (h : x = y) (k : sx_S G ws pc lv (.int y :: rest)) : sx_S G ws pc lv (.int x :: rest) := h ▸ k
theorem sx_top2 {x y : Int32} {v : Value} (h : x = y) (k : sx_S G ws pc lv (v :: .int y :: rest)) : sx_S G ws pc lv (v :: .int x :: rest) := h ▸ k
theorem sx_w {ws' : va_W} (h : ws = ws') (k : sx_S G ws' pc lv rest) : sx_S G ws pc lv rest := h ▸ k
theorem sx_lve {lv' : List (Nat × Value)} (h : lv = lv') (k : sx_S G ws pc lv' rest) : sx_S G ws pc lv rest := h ▸ k
theorem sx_lv {lv' : List (Nat × Value)} (ks : List Nat) (h : lv_pick lv ks = lv') (k : sx_S G ws pc lv' rest) : sx_S G ws pc lv rest := fun H locs ls hP hD hS hl => k H locs ls hP hD hS (lv_sub hl ks h)

theorem sx_iconst (E : sx_E G cc own l D tys R nL) {n : Int} {v : Int32} (d : decode cc pc = .ok (.iconst n, 1)) (hv : Int32.ofInt n = v) (k : sx_S G ws (pc + 1) lv (.int v :: rest)) : sx_S G ws pc lv rest := fun H locs ls hP hD hS hl => lv_iconst E.1 E.2.1 d hv (k H locs ls hP hD hS hl)
theorem sx_bipush (E : sx_E G cc own l D tys R nL) {n : Int} {v : Int32} (d : decode cc pc = .ok (.bipush n, 2)) (hv : (Int8.ofInt n).toInt32 = v) (k : sx_S G ws (pc + 2) lv (.int v :: rest)) : sx_S G ws pc lv rest := fun H locs ls hP hD hS hl => lv_bipush E.1 E.2.1 d hv (k H locs ls hP hD hS hl)
theorem sx_sipush (E : sx_E G cc own l D tys R nL) {n : Int} {v : Int32} (d : decode cc pc = .ok (.sipush n, 3)) (hv : (Int16.ofInt n).toInt32 = v) (k : sx_S G ws (pc + 3) lv (.int v :: rest)) : sx_S G ws pc lv rest := fun H locs ls hP hD hS hl => lv_sipush E.1 E.2.1 d hv (k H locs ls hP hD hS hl)
theorem sx_iload_n (E : sx_E G cc own l D tys R nL) {f : Fin 4} {i : Nat} {x : Int32} (d : decode cc pc = .ok (.iload_n f, 1)) (hi : (f : Nat) = i) (j : Nat) (hj : lv[j]? = some (i, .int x)) (k : sx_S G ws (pc + 1) lv (.int x :: rest)) : sx_S G ws pc lv rest := fun H locs ls hP hD hS hl => lv_iload_n E.1 E.2.1 d hi (lv_at hl j hj) (k H locs ls hP hD hS hl)
theorem sx_iload (E : sx_E G cc own l D tys R nL) {i : Nat} {x : Int32} (d : decode cc pc = .ok (.iload i, 2)) (j : Nat) (hj : lv[j]? = some (i, .int x)) (k : sx_S G ws (pc + 2) lv (.int x :: rest)) : sx_S G ws pc lv rest := fun H locs ls hP hD hS hl => lv_iload E.1 E.2.1 d (lv_at hl j hj) (k H locs ls hP hD hS hl)
theorem sx_aload_n (E : sx_E G cc own l D tys R nL) {f : Fin 4} {i : Nat} {x : Nat} (d : decode cc pc = .ok (.aload_n f, 1)) (hi : (f : Nat) = i) (j : Nat) (hj : lv[j]? = some (i, .ref x)) (k : sx_S G ws (pc + 1) lv (.ref x :: rest)) : sx_S G ws pc lv rest := fun H locs ls hP hD hS hl => lv_aload_n E.1 E.2.1 d hi (lv_at hl j hj) (k H locs ls hP hD hS hl)
theorem sx_istore_n (E : sx_E G cc own l D tys R nL) {f : Fin 4} {i : Nat} {x : Int32} (d : decode cc pc = .ok (.istore_n f, 1)) (hi : (f : Nat) = i) (hn : i < nL) {lv' : List (Nat × Value)} (ks : List Nat) (hl' : lv_pick ((i, Value.int x) :: lv.filter (fun q => !(q.1 == i) && !(q.1 + 1 == i && q.2.category == 2))) ks = lv') (k : sx_S G ws (pc + 1) lv' rest) : sx_S G ws pc lv (.int x :: rest) := fun H locs ls hP hD hS hl => lv_istore_n E.1 E.2.1 d hi hl (by rw [E.n]; exact hn) rfl (fun ls' h' => k H locs ls' hP hD hS (lv_sub h' ks hl'))
theorem sx_istore (E : sx_E G cc own l D tys R nL) {i : Nat} {x : Int32} (d : decode cc pc = .ok (.istore i, 2)) (hn : i < nL) {lv' : List (Nat × Value)} (ks : List Nat) (hl' : lv_pick ((i, Value.int x) :: lv.filter (fun q => !(q.1 == i) && !(q.1 + 1 == i && q.2.category == 2))) ks = lv') (k : sx_S G ws (pc + 2) lv' rest) : sx_S G ws pc lv (.int x :: rest) := fun H locs ls hP hD hS hl => lv_istore E.1 E.2.1 d hl (by rw [E.n]; exact hn) rfl (fun ls' h' => k H locs ls' hP hD hS (lv_sub h' ks hl'))
theorem sx_iinc (E : sx_E G cc own l D tys R nL) {i : Nat} {n : Int} {x v : Int32} (d : decode cc pc = .ok (.iinc i n, 3)) (j : Nat) (hj : lv[j]? = some (i, .int x)) (hv : x + Int32.ofInt n = v) (hn : i < nL) {lv' : List (Nat × Value)} (ks : List Nat) (hl' : lv_pick ((i, Value.int v) :: lv.filter (fun q => !(q.1 == i) && !(q.1 + 1 == i && q.2.category == 2))) ks = lv') (k : sx_S G ws (pc + 3) lv' rest) : sx_S G ws pc lv rest := fun H locs ls hP hD hS hl => lv_iinc E.1 E.2.1 d hl hj hv (by rw [E.n]; exact hn) rfl (fun ls' h' => k H locs ls' hP hD hS (lv_sub h' ks hl'))
theorem sx_iadd (E : sx_E G cc own l D tys R nL) {x y : Int32} (d : decode cc pc = .ok (.iadd, 1)) (k : sx_S G ws (pc + 1) lv (.int (x + y) :: rest)) : sx_S G ws pc lv (.int y :: .int x :: rest) := fun H locs ls hP hD hS hl => lv_iadd E.1 E.2.1 d (k H locs ls hP hD hS hl)
theorem sx_isub (E : sx_E G cc own l D tys R nL) {x y : Int32} (d : decode cc pc = .ok (.isub, 1)) (k : sx_S G ws (pc + 1) lv (.int (x - y) :: rest)) : sx_S G ws pc lv (.int y :: .int x :: rest) := fun H locs ls hP hD hS hl => lv_isub E.1 E.2.1 d (k H locs ls hP hD hS hl)
theorem sx_imul (E : sx_E G cc own l D tys R nL) {x y : Int32} (d : decode cc pc = .ok (.imul, 1)) (k : sx_S G ws (pc + 1) lv (.int (x * y) :: rest)) : sx_S G ws pc lv (.int y :: .int x :: rest) := fun H locs ls hP hD hS hl => lv_imul E.1 E.2.1 d (k H locs ls hP hD hS hl)
theorem sx_iand (E : sx_E G cc own l D tys R nL) {x y : Int32} (d : decode cc pc = .ok (.iand, 1)) (k : sx_S G ws (pc + 1) lv (.int (x &&& y) :: rest)) : sx_S G ws pc lv (.int y :: .int x :: rest) := fun H locs ls hP hD hS hl => lv_iand E.1 E.2.1 d (k H locs ls hP hD hS hl)
theorem sx_ior (E : sx_E G cc own l D tys R nL) {x y : Int32} (d : decode cc pc = .ok (.ior, 1)) (k : sx_S G ws (pc + 1) lv (.int (x ||| y) :: rest)) : sx_S G ws pc lv (.int y :: .int x :: rest) := fun H locs ls hP hD hS hl => lv_ior E.1 E.2.1 d (k H locs ls hP hD hS hl)
theorem sx_ixor (E : sx_E G cc own l D tys R nL) {x y : Int32} (d : decode cc pc = .ok (.ixor, 1)) (k : sx_S G ws (pc + 1) lv (.int (x ^^^ y) :: rest)) : sx_S G ws pc lv (.int y :: .int x :: rest) := fun H locs ls hP hD hS hl => lv_ixor E.1 E.2.1 d (k H locs ls hP hD hS hl)
theorem sx_ishl (E : sx_E G cc own l D tys R nL) {x y : Int32} (d : decode cc pc = .ok (.ishl, 1)) (k : sx_S G ws (pc + 1) lv (.int (x <<< (y &&& 31)) :: rest)) : sx_S G ws pc lv (.int y :: .int x :: rest) := fun H locs ls hP hD hS hl => lv_ishl E.1 E.2.1 d (k H locs ls hP hD hS hl)
theorem sx_ishr (E : sx_E G cc own l D tys R nL) {x y : Int32} (d : decode cc pc = .ok (.ishr, 1)) (k : sx_S G ws (pc + 1) lv (.int (x >>> (y &&& 31)) :: rest)) : sx_S G ws pc lv (.int y :: .int x :: rest) := fun H locs ls hP hD hS hl => lv_ishr E.1 E.2.1 d (k H locs ls hP hD hS hl)
theorem sx_idiv (E : sx_E G cc own l D tys R nL) {x y : Int32} (d : decode cc pc = .ok (.idiv, 1)) (hne : ¬ y = 0) (k : sx_S G ws (pc + 1) lv (.int (x / y) :: rest)) : sx_S G ws pc lv (.int y :: .int x :: rest) := fun H locs ls hP hD hS hl => lv_idiv E.1 E.2.1 d hne (k H locs ls hP hD hS hl)
theorem sx_irem (E : sx_E G cc own l D tys R nL) {x y : Int32} (d : decode cc pc = .ok (.irem, 1)) (hne : ¬ y = 0) (k : sx_S G ws (pc + 1) lv (.int (x - x / y * y) :: rest)) : sx_S G ws pc lv (.int y :: .int x :: rest) := fun H locs ls hP hD hS hl => lv_irem E.1 E.2.1 d hne (k H locs ls hP hD hS hl)
theorem sx_iaddNN (E : sx_E G cc own l D tys R nL) {a : Nat} {b : Nat} (d : decode cc pc = .ok (.iadd, 1))  (k : sx_S G ws (pc + 1) lv (.int (nI (a + b)) :: rest)) : sx_S G ws pc lv (.int (nI b) :: .int (nI a) :: rest) := sx_iadd E d (sx_top (nI_add a b) k)
theorem sx_imulNN (E : sx_E G cc own l D tys R nL) {a : Nat} {b : Nat} (d : decode cc pc = .ok (.imul, 1))  (k : sx_S G ws (pc + 1) lv (.int (nI (a * b)) :: rest)) : sx_S G ws pc lv (.int (nI b) :: .int (nI a) :: rest) := sx_imul E d (sx_top (pk_mul a b) k)
theorem sx_isubNN (E : sx_E G cc own l D tys R nL) {a : Nat} {b : Nat} (d : decode cc pc = .ok (.isub, 1))  (k : sx_S G ws (pc + 1) lv (.int (iI ((a : Int) - (b : Int))) :: rest)) : sx_S G ws pc lv (.int (nI b) :: .int (nI a) :: rest) := sx_isub E d (sx_top (by rw [iI_n, iI_n, iI_sub]) k)
theorem sx_isubNM (E : sx_E G cc own l D tys R nL) {a : Nat} {b : Nat} (d : decode cc pc = .ok (.isub, 1)) (h : b ≤ a) (k : sx_S G ws (pc + 1) lv (.int (nI (a - b)) :: rest)) : sx_S G ws pc lv (.int (nI b) :: .int (nI a) :: rest) := sx_isub E d (sx_top (pk_sub h) k)
theorem sx_iaddII (E : sx_E G cc own l D tys R nL) {a : Int} {b : Int} (d : decode cc pc = .ok (.iadd, 1))  (k : sx_S G ws (pc + 1) lv (.int (iI (a + b)) :: rest)) : sx_S G ws pc lv (.int (iI b) :: .int (iI a) :: rest) := sx_iadd E d (sx_top (iI_add a b) k)
theorem sx_iaddIN (E : sx_E G cc own l D tys R nL) {a : Int} {b : Nat} (d : decode cc pc = .ok (.iadd, 1))  (k : sx_S G ws (pc + 1) lv (.int (iI (a + (b : Int))) :: rest)) : sx_S G ws pc lv (.int (nI b) :: .int (iI a) :: rest) := sx_iadd E d (sx_top (by rw [iI_n, iI_add]) k)
theorem sx_iaddNI (E : sx_E G cc own l D tys R nL) {a : Nat} {b : Int} (d : decode cc pc = .ok (.iadd, 1))  (k : sx_S G ws (pc + 1) lv (.int (iI ((a : Int) + b)) :: rest)) : sx_S G ws pc lv (.int (iI b) :: .int (nI a) :: rest) := sx_iadd E d (sx_top (by rw [iI_n, iI_add]) k)
theorem sx_isubII (E : sx_E G cc own l D tys R nL) {a : Int} {b : Int} (d : decode cc pc = .ok (.isub, 1))  (k : sx_S G ws (pc + 1) lv (.int (iI (a - b)) :: rest)) : sx_S G ws pc lv (.int (iI b) :: .int (iI a) :: rest) := sx_isub E d (sx_top (iI_sub a b) k)
theorem sx_isubIN (E : sx_E G cc own l D tys R nL) {a : Int} {b : Nat} (d : decode cc pc = .ok (.isub, 1))  (k : sx_S G ws (pc + 1) lv (.int (iI (a - (b : Int))) :: rest)) : sx_S G ws pc lv (.int (nI b) :: .int (iI a) :: rest) := sx_isub E d (sx_top (by rw [iI_n, iI_sub]) k)
theorem sx_isubNI (E : sx_E G cc own l D tys R nL) {a : Nat} {b : Int} (d : decode cc pc = .ok (.isub, 1))  (k : sx_S G ws (pc + 1) lv (.int (iI ((a : Int) - b)) :: rest)) : sx_S G ws pc lv (.int (iI b) :: .int (nI a) :: rest) := sx_isub E d (sx_top (by rw [iI_n, iI_sub]) k)
theorem sx_idivNN (E : sx_E G cc own l D tys R nL) {a : Nat} {b : Nat} (d : decode cc pc = .ok (.idiv, 1)) (ha : a < 2147483648) (h0 : 0 < b) (hb : b < 2147483648) (k : sx_S G ws (pc + 1) lv (.int (nI (a / b)) :: rest)) : sx_S G ws pc lv (.int (nI b) :: .int (nI a) :: rest) := sx_idiv E d (nI_ne0 h0 hb) (sx_top (pk_div ha h0 hb) k)
theorem sx_iremNN (E : sx_E G cc own l D tys R nL) {a : Nat} {b : Nat} (d : decode cc pc = .ok (.irem, 1)) (ha : a < 2147483648) (h0 : 0 < b) (hb : b < 2147483648) (k : sx_S G ws (pc + 1) lv (.int (nI (a % b)) :: rest)) : sx_S G ws pc lv (.int (nI b) :: .int (nI a) :: rest) := sx_irem E d (nI_ne0 h0 hb) (sx_top (pk_rem ha h0 hb) k)
theorem sx_iandNN (E : sx_E G cc own l D tys R nL) {a : Nat} {b : Nat} (d : decode cc pc = .ok (.iand, 1))  (k : sx_S G ws (pc + 1) lv (.int (nI (a &&& b)) :: rest)) : sx_S G ws pc lv (.int (nI b) :: .int (nI a) :: rest) := sx_iand E d (sx_top (nx_and a b) k)
theorem sx_iorNN (E : sx_E G cc own l D tys R nL) {a : Nat} {b : Nat} (d : decode cc pc = .ok (.ior, 1))  (k : sx_S G ws (pc + 1) lv (.int (nI (a ||| b)) :: rest)) : sx_S G ws pc lv (.int (nI b) :: .int (nI a) :: rest) := sx_ior E d (sx_top (nx_or a b) k)
theorem sx_bit (E : sx_E G cc own l D tys R nL) {x : Int32} {i : Nat} (d : decode cc pc = .ok (.iand, 1)) (hi : i < 32) (k : sx_S G ws (pc + 1) lv (.int (bI (bt x i)) :: rest)) : sx_S G ws pc lv (.int (nI 1) :: .int (x >>> (nI i &&& 31)) :: rest) := sx_iand E d (sx_top (bit_of x hi) k)
theorem sx_bitN (E : sx_E G cc own l D tys R nL) {a i : Nat} (d : decode cc pc = .ok (.iand, 1)) (hi : i < 32) (k : sx_S G ws (pc + 1) lv (.int (bI (a.testBit i)) :: rest)) : sx_S G ws pc lv (.int (nI 1) :: .int (nI a >>> (nI i &&& 31)) :: rest) := sx_iand E d (sx_top (bitN_of a hi) k)
theorem sx_shl1 (E : sx_E G cc own l D tys R nL) {i : Nat} (d : decode cc pc = .ok (.ishl, 1)) (hi : i < 31) (k : sx_S G ws (pc + 1) lv (.int (nI (2 ^ i)) :: rest)) : sx_S G ws pc lv (.int (nI i) :: .int (nI 1) :: rest) := sx_ishl E d (sx_top (shl1 i hi) k)
theorem sx_i2b (E : sx_E G cc own l D tys R nL) {x v : Int32} (d : decode cc pc = .ok (.i2b, 1)) (hv : x.toInt8.toInt32 = v) (k : sx_S G ws (pc + 1) lv (.int v :: rest)) : sx_S G ws pc lv (.int x :: rest) := fun H locs ls hP hD hS hl => lv_i2b E.1 E.2.1 d hv (k H locs ls hP hD hS hl)
theorem sx_i2bN (E : sx_E G cc own l D tys R nL) {a : Nat} (d : decode cc pc = .ok (.i2b, 1)) (ha : a < 128) (k : sx_S G ws (pc + 1) lv (.int (nI a) :: rest)) : sx_S G ws pc lv (.int (nI a) :: rest) := sx_i2b E d (byteN ha) k
theorem sx_dup (E : sx_E G cc own l D tys R nL) {v : Value} (d : decode cc pc = .ok (.dup, 1)) (hv : v.category = 1) (k : sx_S G ws (pc + 1) lv (v :: v :: rest)) : sx_S G ws pc lv (v :: rest) := fun H locs ls hP hD hS hl => lv_dup E.1 E.2.1 d hv (k H locs ls hP hD hS hl)
theorem sx_goto (E : sx_E G cc own l D tys R nL) {off : Int} (tgt : Nat) (d : decode cc pc = .ok (.goto off, 3)) (ht : (pc : Int) + off = (tgt : Int)) (k : sx_S G ws tgt lv rest) : sx_S G ws pc lv rest := fun H locs ls hP hD hS hl => lv_goto E.1 E.2.1 d ht (k H locs ls hP hD hS hl)
theorem sx_icmp_eq (E : sx_E G cc own l D tys R nL) {x y : Int32} {off : Int} (tgt : Nat) (d : decode cc pc = .ok (.if_icmp .eq off, 3)) (ht : (pc : Int) + off = (tgt : Int))  (kt : x = y → sx_S G ws tgt lv rest) (kf : ¬ x = y → sx_S G ws (pc + 3) lv rest) : sx_S G ws pc lv (.int y :: .int x :: rest) := fun H locs ls hP hD hS hl => lv_icmp_eq E.1 E.2.1 d ht (fun c => kt c H locs ls hP hD hS hl) (fun c => kf c H locs ls hP hD hS hl)
theorem sx_if_eq (E : sx_E G cc own l D tys R nL) {x : Int32} {off : Int} (tgt : Nat) (d : decode cc pc = .ok (.ifCond .eq off, 3)) (ht : (pc : Int) + off = (tgt : Int))  (kt : x = 0 → sx_S G ws tgt lv rest) (kf : ¬ x = 0 → sx_S G ws (pc + 3) lv rest) : sx_S G ws pc lv (.int x :: rest) := fun H locs ls hP hD hS hl => lv_if_eq E.1 E.2.1 d ht (fun c => kt c H locs ls hP hD hS hl) (fun c => kf c H locs ls hP hD hS hl)
theorem sx_icmp_eqN (E : sx_E G cc own l D tys R nL) {a b : Nat} {off : Int} (tgt : Nat) (d : decode cc pc = .ok (.if_icmp .eq off, 3)) (ht : (pc : Int) + off = (tgt : Int)) (ha : a < 2147483648) (hb : b < 2147483648) (kt : a = b → sx_S G ws tgt lv rest) (kf : a ≠ b → sx_S G ws (pc + 3) lv rest) : sx_S G ws pc lv (.int (nI b) :: .int (nI a) :: rest) := sx_icmp_eq E tgt d ht (fun c => kt ((nI_eq ha hb).mp c)) (fun c => kf (fun e => c ((nI_eq ha hb).mpr e)))
theorem sx_icmp_eqI (E : sx_E G cc own l D tys R nL) {a b : Int} {off : Int} (tgt : Nat) (d : decode cc pc = .ok (.if_icmp .eq off, 3)) (ht : (pc : Int) + off = (tgt : Int)) (ha : -2147483648 ≤ a ∧ a < 2147483648) (hb : -2147483648 ≤ b ∧ b < 2147483648) (kt : a = b → sx_S G ws tgt lv rest) (kf : a ≠ b → sx_S G ws (pc + 3) lv rest) : sx_S G ws pc lv (.int (iI b) :: .int (iI a) :: rest) := sx_icmp_eq E tgt d ht (fun c => kt ((iI_eq ha hb).mp c)) (fun c => kf (fun e => c ((iI_eq ha hb).mpr e)))
theorem sx_if_eqI (E : sx_E G cc own l D tys R nL) {a : Int} {off : Int} (tgt : Nat) (d : decode cc pc = .ok (.ifCond .eq off, 3)) (ht : (pc : Int) + off = (tgt : Int)) (ha : -2147483648 ≤ a ∧ a < 2147483648) (kt : a = 0 → sx_S G ws tgt lv rest) (kf : a ≠ 0 → sx_S G ws (pc + 3) lv rest) : sx_S G ws pc lv (.int (iI a) :: rest) := sx_if_eq E tgt d ht (fun c => kt ((iI_eq0 ha).mp c)) (fun c => kf (fun e => c ((iI_eq0 ha).mpr e)))
theorem sx_icmp_ne (E : sx_E G cc own l D tys R nL) {x y : Int32} {off : Int} (tgt : Nat) (d : decode cc pc = .ok (.if_icmp .ne off, 3)) (ht : (pc : Int) + off = (tgt : Int))  (kt : ¬ x = y → sx_S G ws tgt lv rest) (kf : x = y → sx_S G ws (pc + 3) lv rest) : sx_S G ws pc lv (.int y :: .int x :: rest) := fun H locs ls hP hD hS hl => lv_icmp_ne E.1 E.2.1 d ht (fun c => kt c H locs ls hP hD hS hl) (fun c => kf c H locs ls hP hD hS hl)
theorem sx_if_ne (E : sx_E G cc own l D tys R nL) {x : Int32} {off : Int} (tgt : Nat) (d : decode cc pc = .ok (.ifCond .ne off, 3)) (ht : (pc : Int) + off = (tgt : Int))  (kt : ¬ x = 0 → sx_S G ws tgt lv rest) (kf : x = 0 → sx_S G ws (pc + 3) lv rest) : sx_S G ws pc lv (.int x :: rest) := fun H locs ls hP hD hS hl => lv_if_ne E.1 E.2.1 d ht (fun c => kt c H locs ls hP hD hS hl) (fun c => kf c H locs ls hP hD hS hl)
theorem sx_icmp_neN (E : sx_E G cc own l D tys R nL) {a b : Nat} {off : Int} (tgt : Nat) (d : decode cc pc = .ok (.if_icmp .ne off, 3)) (ht : (pc : Int) + off = (tgt : Int)) (ha : a < 2147483648) (hb : b < 2147483648) (kt : a ≠ b → sx_S G ws tgt lv rest) (kf : a = b → sx_S G ws (pc + 3) lv rest) : sx_S G ws pc lv (.int (nI b) :: .int (nI a) :: rest) := sx_icmp_ne E tgt d ht (fun c => kt (fun e => c ((nI_eq ha hb).mpr e))) (fun c => kf ((nI_eq ha hb).mp c))
theorem sx_icmp_neI (E : sx_E G cc own l D tys R nL) {a b : Int} {off : Int} (tgt : Nat) (d : decode cc pc = .ok (.if_icmp .ne off, 3)) (ht : (pc : Int) + off = (tgt : Int)) (ha : -2147483648 ≤ a ∧ a < 2147483648) (hb : -2147483648 ≤ b ∧ b < 2147483648) (kt : a ≠ b → sx_S G ws tgt lv rest) (kf : a = b → sx_S G ws (pc + 3) lv rest) : sx_S G ws pc lv (.int (iI b) :: .int (iI a) :: rest) := sx_icmp_ne E tgt d ht (fun c => kt (fun e => c ((iI_eq ha hb).mpr e))) (fun c => kf ((iI_eq ha hb).mp c))
theorem sx_if_neI (E : sx_E G cc own l D tys R nL) {a : Int} {off : Int} (tgt : Nat) (d : decode cc pc = .ok (.ifCond .ne off, 3)) (ht : (pc : Int) + off = (tgt : Int)) (ha : -2147483648 ≤ a ∧ a < 2147483648) (kt : a ≠ 0 → sx_S G ws tgt lv rest) (kf : a = 0 → sx_S G ws (pc + 3) lv rest) : sx_S G ws pc lv (.int (iI a) :: rest) := sx_if_ne E tgt d ht (fun c => kt (fun e => c ((iI_eq0 ha).mpr e))) (fun c => kf ((iI_eq0 ha).mp c))
theorem sx_icmp_lt (E : sx_E G cc own l D tys R nL) {x y : Int32} {off : Int} (tgt : Nat) (d : decode cc pc = .ok (.if_icmp .lt off, 3)) (ht : (pc : Int) + off = (tgt : Int))  (kt : x < y → sx_S G ws tgt lv rest) (kf : ¬ x < y → sx_S G ws (pc + 3) lv rest) : sx_S G ws pc lv (.int y :: .int x :: rest) := fun H locs ls hP hD hS hl => lv_icmp_lt E.1 E.2.1 d ht (fun c => kt c H locs ls hP hD hS hl) (fun c => kf c H locs ls hP hD hS hl)
theorem sx_if_lt (E : sx_E G cc own l D tys R nL) {x : Int32} {off : Int} (tgt : Nat) (d : decode cc pc = .ok (.ifCond .lt off, 3)) (ht : (pc : Int) + off = (tgt : Int))  (kt : x < 0 → sx_S G ws tgt lv rest) (kf : ¬ x < 0 → sx_S G ws (pc + 3) lv rest) : sx_S G ws pc lv (.int x :: rest) := fun H locs ls hP hD hS hl => lv_if_lt E.1 E.2.1 d ht (fun c => kt c H locs ls hP hD hS hl) (fun c => kf c H locs ls hP hD hS hl)
theorem sx_icmp_ltN (E : sx_E G cc own l D tys R nL) {a b : Nat} {off : Int} (tgt : Nat) (d : decode cc pc = .ok (.if_icmp .lt off, 3)) (ht : (pc : Int) + off = (tgt : Int)) (ha : a < 2147483648) (hb : b < 2147483648) (kt : a < b → sx_S G ws tgt lv rest) (kf : b ≤ a → sx_S G ws (pc + 3) lv rest) : sx_S G ws pc lv (.int (nI b) :: .int (nI a) :: rest) := sx_icmp_lt E tgt d ht (fun c => kt ((nI_ltI ha hb).mp c)) (fun c => kf (Nat.le_of_not_lt (fun e => c ((nI_ltI ha hb).mpr e))))
theorem sx_icmp_ltI (E : sx_E G cc own l D tys R nL) {a b : Int} {off : Int} (tgt : Nat) (d : decode cc pc = .ok (.if_icmp .lt off, 3)) (ht : (pc : Int) + off = (tgt : Int)) (ha : -2147483648 ≤ a ∧ a < 2147483648) (hb : -2147483648 ≤ b ∧ b < 2147483648) (kt : a < b → sx_S G ws tgt lv rest) (kf : b ≤ a → sx_S G ws (pc + 3) lv rest) : sx_S G ws pc lv (.int (iI b) :: .int (iI a) :: rest) := sx_icmp_lt E tgt d ht (fun c => kt ((iI_lt ha hb).mp c)) (fun c => kf (Int.not_lt.mp (fun e => c ((iI_lt ha hb).mpr e))))
theorem sx_if_ltI (E : sx_E G cc own l D tys R nL) {a : Int} {off : Int} (tgt : Nat) (d : decode cc pc = .ok (.ifCond .lt off, 3)) (ht : (pc : Int) + off = (tgt : Int)) (ha : -2147483648 ≤ a ∧ a < 2147483648) (kt : a < 0 → sx_S G ws tgt lv rest) (kf : 0 ≤ a → sx_S G ws (pc + 3) lv rest) : sx_S G ws pc lv (.int (iI a) :: rest) := sx_if_lt E tgt d ht (fun c => kt ((iI_lt0 ha).mp c)) (fun c => kf (Int.not_lt.mp (fun e => c ((iI_lt0 ha).mpr e))))
theorem sx_icmp_ge (E : sx_E G cc own l D tys R nL) {x y : Int32} {off : Int} (tgt : Nat) (d : decode cc pc = .ok (.if_icmp .ge off, 3)) (ht : (pc : Int) + off = (tgt : Int))  (kt : y ≤ x → sx_S G ws tgt lv rest) (kf : ¬ y ≤ x → sx_S G ws (pc + 3) lv rest) : sx_S G ws pc lv (.int y :: .int x :: rest) := fun H locs ls hP hD hS hl => lv_icmp_ge E.1 E.2.1 d ht (fun c => kt c H locs ls hP hD hS hl) (fun c => kf c H locs ls hP hD hS hl)
theorem sx_if_ge (E : sx_E G cc own l D tys R nL) {x : Int32} {off : Int} (tgt : Nat) (d : decode cc pc = .ok (.ifCond .ge off, 3)) (ht : (pc : Int) + off = (tgt : Int))  (kt : 0 ≤ x → sx_S G ws tgt lv rest) (kf : ¬ 0 ≤ x → sx_S G ws (pc + 3) lv rest) : sx_S G ws pc lv (.int x :: rest) := fun H locs ls hP hD hS hl => lv_if_ge E.1 E.2.1 d ht (fun c => kt c H locs ls hP hD hS hl) (fun c => kf c H locs ls hP hD hS hl)
theorem sx_icmp_geN (E : sx_E G cc own l D tys R nL) {a b : Nat} {off : Int} (tgt : Nat) (d : decode cc pc = .ok (.if_icmp .ge off, 3)) (ht : (pc : Int) + off = (tgt : Int)) (ha : a < 2147483648) (hb : b < 2147483648) (kt : b ≤ a → sx_S G ws tgt lv rest) (kf : a < b → sx_S G ws (pc + 3) lv rest) : sx_S G ws pc lv (.int (nI b) :: .int (nI a) :: rest) := sx_icmp_ge E tgt d ht (fun c => kt ((nI_leI hb ha).mp c)) (fun c => kf (Nat.lt_of_not_le (fun e => c ((nI_leI hb ha).mpr e))))
theorem sx_icmp_geI (E : sx_E G cc own l D tys R nL) {a b : Int} {off : Int} (tgt : Nat) (d : decode cc pc = .ok (.if_icmp .ge off, 3)) (ht : (pc : Int) + off = (tgt : Int)) (ha : -2147483648 ≤ a ∧ a < 2147483648) (hb : -2147483648 ≤ b ∧ b < 2147483648) (kt : b ≤ a → sx_S G ws tgt lv rest) (kf : a < b → sx_S G ws (pc + 3) lv rest) : sx_S G ws pc lv (.int (iI b) :: .int (iI a) :: rest) := sx_icmp_ge E tgt d ht (fun c => kt ((iI_le hb ha).mp c)) (fun c => kf (Int.lt_of_not_ge (fun e => c ((iI_le hb ha).mpr e))))
theorem sx_if_geI (E : sx_E G cc own l D tys R nL) {a : Int} {off : Int} (tgt : Nat) (d : decode cc pc = .ok (.ifCond .ge off, 3)) (ht : (pc : Int) + off = (tgt : Int)) (ha : -2147483648 ≤ a ∧ a < 2147483648) (kt : 0 ≤ a → sx_S G ws tgt lv rest) (kf : a < 0 → sx_S G ws (pc + 3) lv rest) : sx_S G ws pc lv (.int (iI a) :: rest) := sx_if_ge E tgt d ht (fun c => kt ((iI_0le ha).mp c)) (fun c => kf (Int.lt_of_not_ge (fun e => c ((iI_0le ha).mpr e))))
theorem sx_icmp_gt (E : sx_E G cc own l D tys R nL) {x y : Int32} {off : Int} (tgt : Nat) (d : decode cc pc = .ok (.if_icmp .gt off, 3)) (ht : (pc : Int) + off = (tgt : Int))  (kt : y < x → sx_S G ws tgt lv rest) (kf : ¬ y < x → sx_S G ws (pc + 3) lv rest) : sx_S G ws pc lv (.int y :: .int x :: rest) := fun H locs ls hP hD hS hl => lv_icmp_gt E.1 E.2.1 d ht (fun c => kt c H locs ls hP hD hS hl) (fun c => kf c H locs ls hP hD hS hl)
theorem sx_if_gt (E : sx_E G cc own l D tys R nL) {x : Int32} {off : Int} (tgt : Nat) (d : decode cc pc = .ok (.ifCond .gt off, 3)) (ht : (pc : Int) + off = (tgt : Int))  (kt : 0 < x → sx_S G ws tgt lv rest) (kf : ¬ 0 < x → sx_S G ws (pc + 3) lv rest) : sx_S G ws pc lv (.int x :: rest) := fun H locs ls hP hD hS hl => lv_if_gt E.1 E.2.1 d ht (fun c => kt c H locs ls hP hD hS hl) (fun c => kf c H locs ls hP hD hS hl)
theorem sx_icmp_gtN (E : sx_E G cc own l D tys R nL) {a b : Nat} {off : Int} (tgt : Nat) (d : decode cc pc = .ok (.if_icmp .gt off, 3)) (ht : (pc : Int) + off = (tgt : Int)) (ha : a < 2147483648) (hb : b < 2147483648) (kt : b < a → sx_S G ws tgt lv rest) (kf : a ≤ b → sx_S G ws (pc + 3) lv rest) : sx_S G ws pc lv (.int (nI b) :: .int (nI a) :: rest) := sx_icmp_gt E tgt d ht (fun c => kt ((nI_ltI hb ha).mp c)) (fun c => kf (Nat.le_of_not_lt (fun e => c ((nI_ltI hb ha).mpr e))))
theorem sx_icmp_gtI (E : sx_E G cc own l D tys R nL) {a b : Int} {off : Int} (tgt : Nat) (d : decode cc pc = .ok (.if_icmp .gt off, 3)) (ht : (pc : Int) + off = (tgt : Int)) (ha : -2147483648 ≤ a ∧ a < 2147483648) (hb : -2147483648 ≤ b ∧ b < 2147483648) (kt : b < a → sx_S G ws tgt lv rest) (kf : a ≤ b → sx_S G ws (pc + 3) lv rest) : sx_S G ws pc lv (.int (iI b) :: .int (iI a) :: rest) := sx_icmp_gt E tgt d ht (fun c => kt ((iI_lt hb ha).mp c)) (fun c => kf (Int.not_lt.mp (fun e => c ((iI_lt hb ha).mpr e))))
theorem sx_if_gtI (E : sx_E G cc own l D tys R nL) {a : Int} {off : Int} (tgt : Nat) (d : decode cc pc = .ok (.ifCond .gt off, 3)) (ht : (pc : Int) + off = (tgt : Int)) (ha : -2147483648 ≤ a ∧ a < 2147483648) (kt : 0 < a → sx_S G ws tgt lv rest) (kf : a ≤ 0 → sx_S G ws (pc + 3) lv rest) : sx_S G ws pc lv (.int (iI a) :: rest) := sx_if_gt E tgt d ht (fun c => kt ((iI_0lt ha).mp c)) (fun c => kf (Int.not_lt.mp (fun e => c ((iI_0lt ha).mpr e))))
theorem sx_icmp_le (E : sx_E G cc own l D tys R nL) {x y : Int32} {off : Int} (tgt : Nat) (d : decode cc pc = .ok (.if_icmp .le off, 3)) (ht : (pc : Int) + off = (tgt : Int))  (kt : x ≤ y → sx_S G ws tgt lv rest) (kf : ¬ x ≤ y → sx_S G ws (pc + 3) lv rest) : sx_S G ws pc lv (.int y :: .int x :: rest) := fun H locs ls hP hD hS hl => lv_icmp_le E.1 E.2.1 d ht (fun c => kt c H locs ls hP hD hS hl) (fun c => kf c H locs ls hP hD hS hl)
theorem sx_if_le (E : sx_E G cc own l D tys R nL) {x : Int32} {off : Int} (tgt : Nat) (d : decode cc pc = .ok (.ifCond .le off, 3)) (ht : (pc : Int) + off = (tgt : Int))  (kt : x ≤ 0 → sx_S G ws tgt lv rest) (kf : ¬ x ≤ 0 → sx_S G ws (pc + 3) lv rest) : sx_S G ws pc lv (.int x :: rest) := fun H locs ls hP hD hS hl => lv_if_le E.1 E.2.1 d ht (fun c => kt c H locs ls hP hD hS hl) (fun c => kf c H locs ls hP hD hS hl)
theorem sx_icmp_leN (E : sx_E G cc own l D tys R nL) {a b : Nat} {off : Int} (tgt : Nat) (d : decode cc pc = .ok (.if_icmp .le off, 3)) (ht : (pc : Int) + off = (tgt : Int)) (ha : a < 2147483648) (hb : b < 2147483648) (kt : a ≤ b → sx_S G ws tgt lv rest) (kf : b < a → sx_S G ws (pc + 3) lv rest) : sx_S G ws pc lv (.int (nI b) :: .int (nI a) :: rest) := sx_icmp_le E tgt d ht (fun c => kt ((nI_leI ha hb).mp c)) (fun c => kf (Nat.lt_of_not_le (fun e => c ((nI_leI ha hb).mpr e))))
theorem sx_icmp_leI (E : sx_E G cc own l D tys R nL) {a b : Int} {off : Int} (tgt : Nat) (d : decode cc pc = .ok (.if_icmp .le off, 3)) (ht : (pc : Int) + off = (tgt : Int)) (ha : -2147483648 ≤ a ∧ a < 2147483648) (hb : -2147483648 ≤ b ∧ b < 2147483648) (kt : a ≤ b → sx_S G ws tgt lv rest) (kf : b < a → sx_S G ws (pc + 3) lv rest) : sx_S G ws pc lv (.int (iI b) :: .int (iI a) :: rest) := sx_icmp_le E tgt d ht (fun c => kt ((iI_le ha hb).mp c)) (fun c => kf (Int.lt_of_not_ge (fun e => c ((iI_le ha hb).mpr e))))
theorem sx_if_leI (E : sx_E G cc own l D tys R nL) {a : Int} {off : Int} (tgt : Nat) (d : decode cc pc = .ok (.ifCond .le off, 3)) (ht : (pc : Int) + off = (tgt : Int)) (ha : -2147483648 ≤ a ∧ a < 2147483648) (kt : a ≤ 0 → sx_S G ws tgt lv rest) (kf : 0 < a → sx_S G ws (pc + 3) lv rest) : sx_S G ws pc lv (.int (iI a) :: rest) := sx_if_le E tgt d ht (fun c => kt ((iI_le0 ha).mp c)) (fun c => kf (Int.lt_of_not_ge (fun e => c ((iI_le0 ha).mpr e))))
theorem sx_icmp_eqB1 (E : sx_E G cc own l D tys R nL) {a : Bool} {off : Int} (tgt : Nat) (d : decode cc pc = .ok (.if_icmp .eq off, 3)) (ht : (pc : Int) + off = (tgt : Int))  (kt : a = true → sx_S G ws tgt lv rest) (kf : a = false → sx_S G ws (pc + 3) lv rest) : sx_S G ws pc lv (.int (nI 1) :: .int (bI a) :: rest) := sx_icmp_eq E tgt d ht (fun c => kt (bI_1.mp c)) (fun c => kf (bI_n1.mp c))
theorem sx_icmp_neB1 (E : sx_E G cc own l D tys R nL) {a : Bool} {off : Int} (tgt : Nat) (d : decode cc pc = .ok (.if_icmp .ne off, 3)) (ht : (pc : Int) + off = (tgt : Int))  (kt : a = false → sx_S G ws tgt lv rest) (kf : a = true → sx_S G ws (pc + 3) lv rest) : sx_S G ws pc lv (.int (nI 1) :: .int (bI a) :: rest) := sx_icmp_ne E tgt d ht (fun c => kt (bI_n1.mp c)) (fun c => kf (bI_1.mp c))
theorem sx_if_eqB (E : sx_E G cc own l D tys R nL) {a : Bool} {off : Int} (tgt : Nat) (d : decode cc pc = .ok (.ifCond .eq off, 3)) (ht : (pc : Int) + off = (tgt : Int))  (kt : a = false → sx_S G ws tgt lv rest) (kf : a = true → sx_S G ws (pc + 3) lv rest) : sx_S G ws pc lv (.int (bI a) :: rest) := sx_if_eq E tgt d ht (fun c => kt (bI_0.mp c)) (fun c => kf (bI_n0.mp c))
theorem sx_if_neB (E : sx_E G cc own l D tys R nL) {a : Bool} {off : Int} (tgt : Nat) (d : decode cc pc = .ok (.ifCond .ne off, 3)) (ht : (pc : Int) + off = (tgt : Int))  (kt : a = true → sx_S G ws tgt lv rest) (kf : a = false → sx_S G ws (pc + 3) lv rest) : sx_S G ws pc lv (.int (bI a) :: rest) := sx_if_ne E tgt d ht (fun c => kt (bI_n0.mp c)) (fun c => kf (bI_0.mp c))
theorem sx_icmp_eqB (E : sx_E G cc own l D tys R nL) {a b : Bool} {off : Int} (tgt : Nat) (d : decode cc pc = .ok (.if_icmp .eq off, 3)) (ht : (pc : Int) + off = (tgt : Int))  (kt : a = b → sx_S G ws tgt lv rest) (kf : a ≠ b → sx_S G ws (pc + 3) lv rest) : sx_S G ws pc lv (.int (bI b) :: .int (bI a) :: rest) := sx_icmp_eq E tgt d ht (fun c => kt (bI_eq.mp c)) (fun c => kf (fun e => c (bI_eq.mpr e)))
theorem sx_icmp_neB (E : sx_E G cc own l D tys R nL) {a b : Bool} {off : Int} (tgt : Nat) (d : decode cc pc = .ok (.if_icmp .ne off, 3)) (ht : (pc : Int) + off = (tgt : Int))  (kt : a ≠ b → sx_S G ws tgt lv rest) (kf : a = b → sx_S G ws (pc + 3) lv rest) : sx_S G ws pc lv (.int (bI b) :: .int (bI a) :: rest) := sx_icmp_ne E tgt d ht (fun c => kt (fun e => c (bI_eq.mpr e))) (fun c => kf (bI_eq.mp c))
theorem sx_get (E : sx_E G cc own l D tys R nL) {C : String} {T : u_T} {N ci index : Nat} (hin : ∀ w ∈ u_ws C T N, w ∈ lw_all) (hc : cls2[ci]? = some (C, T, N)) {a : Nat} {fs : List Value} (he : ws[0]? = some (a, .inr (ci, fs))) (f : Nat) (hf : f < N) (hlink : Cond.fieldLink own index (T f).1 (T f).2.1 (T f).2.2.1 ∈ lw_all) {v : Value} (hv : fs[f]? = some v) (d : decode cc pc = .ok (.getfield index, 3)) (k : sx_S G ws (pc + 3) lv (v :: rest)) : sx_S G ws pc lv (.ref a :: rest) := fun H locs ls hP hD hS hl =>
  va_get E.1 E.2.1 E.2.2.2.2.1 hin E.2.2.2.1 E.2.2.2.2.2.1 hP 0 he hc f hf (E.2.2.2.2.1 _ hlink) (fun _ h9 => h9) hv d (k H locs ls hP hD hS hl)
theorem sx_put (E : sx_E G cc own l D tys R nL) {C : String} {T : u_T} {N ci index : Nat} (hin : ∀ w ∈ u_ws C T N, w ∈ lw_all) (ty0 : Nat → FieldType) (hty : ∀ k, k < N → parseFieldDescriptor (T k).2.2.1 = some (ty0 k)) (hnm : ∀ a, a < N → ∀ b, b < N → a ≠ b → (T a).2.1 ≠ (T b).2.1) (hc : cls2[ci]? = some (C, T, N)) {a : Nat} {fs : List Value} (he : ws[0]? = some (a, .inr (ci, fs))) (f : Nat) (hf : f < N) (hlink : Cond.fieldLink own index (T f).1 (T f).2.1 (T f).2.2.1 ∈ lw_all) (hfin : (T f).2.2.2 = false) {v : Value} (hn : narrow (ty0 f) v = v) (hfit : fits (ty0 f) v = true) (hl' : f < fs.length) (d : decode cc pc = .ok (.putfield index, 3)) {ws' : va_W} (hw : ws.set 0 (a, .inr (ci, fs.set f v)) = ws') (k : sx_S G ws' (pc + 3) lv rest) : sx_S G ws pc lv (v :: .ref a :: rest) := fun H locs ls hP hD hS hl => by
  subst hw
  exact va_put E.1 E.2.1 E.2.2.2.2.1 hin ty0 hty hnm E.2.2.2.1 E.2.2.2.2.2.1 hP hD hS 0 he hc f hf (E.2.2.2.2.1 _ hlink) (fun _ h9 => h9) hfin (hty f hf) hn hfit hl' d (fun H1 locs1 hP1 hD1 hS1 => k H1 locs1 ls hP1 hD1 hS1 hl)

theorem sx_gX (E : sx_E G cc RX0 l D tys R nL) {index a : Nat} {fs : List Value} (he : ws[0]? = some (a, .inr (0, fs))) (f : Nat) (hf : f < 10) (hlink : Cond.fieldLink RX0 index (TX0 f).1 (TX0 f).2.1 (TX0 f).2.2.1 ∈ lw_all) {v : Value} (hv : fs[f]? = some v) (d : decode cc pc = .ok (.getfield index, 3)) (k : sx_S G ws (pc + 3) lv (v :: rest)) : sx_S G ws pc lv (.ref a :: rest) := sx_get E in_X0 rfl he f hf hlink hv d k
theorem sx_pX (E : sx_E G cc RX0 l D tys R nL) {index a : Nat} {fs : List Value} (he : ws[0]? = some (a, .inr (0, fs))) (f : Nat) (hf : f < 10) (hlink : Cond.fieldLink RX0 index (TX0 f).1 (TX0 f).2.1 (TX0 f).2.2.1 ∈ lw_all) (hfin : (TX0 f).2.2.2 = false) {v : Value} (hn : narrow (tyX0 f) v = v) (hfit : fits (tyX0 f) v = true) (hl' : f < fs.length) (d : decode cc pc = .ok (.putfield index, 3)) {ws' : va_W} (hw : ws.set 0 (a, .inr (0, fs.set f v)) = ws') (k : sx_S G ws' (pc + 3) lv rest) : sx_S G ws pc lv (v :: .ref a :: rest) := sx_put E in_X0 tyX0 tyX0_ok nmX0 rfl he f hf hlink hfin hn hfit hl' d hw k
theorem sx_gM (E : sx_E G cc RX1 l D tys R nL) {index a : Nat} {fs : List Value} (he : ws[0]? = some (a, .inr (1, fs))) (f : Nat) (hf : f < 4) (hlink : Cond.fieldLink RX1 index (TX1 f).1 (TX1 f).2.1 (TX1 f).2.2.1 ∈ lw_all) {v : Value} (hv : fs[f]? = some v) (d : decode cc pc = .ok (.getfield index, 3)) (k : sx_S G ws (pc + 3) lv (v :: rest)) : sx_S G ws pc lv (.ref a :: rest) := sx_get E in_X1 rfl he f hf hlink hv d k
theorem sx_pM (E : sx_E G cc RX1 l D tys R nL) {index a : Nat} {fs : List Value} (he : ws[0]? = some (a, .inr (1, fs))) (f : Nat) (hf : f < 4) (hlink : Cond.fieldLink RX1 index (TX1 f).1 (TX1 f).2.1 (TX1 f).2.2.1 ∈ lw_all) (hfin : (TX1 f).2.2.2 = false) {v : Value} (hn : narrow (tyX1 f) v = v) (hfit : fits (tyX1 f) v = true) (hl' : f < fs.length) (d : decode cc pc = .ok (.putfield index, 3)) {ws' : va_W} (hw : ws.set 0 (a, .inr (1, fs.set f v)) = ws') (k : sx_S G ws' (pc + 3) lv rest) : sx_S G ws pc lv (v :: .ref a :: rest) := sx_put E in_X1 tyX1 tyX1_ok nmX1 rfl he f hf hlink hfin hn hfit hl' d hw k
theorem sx_bald (E : sx_E G cc own l D tys R nL) (q0 t0 : Nat) {a : Nat} {cA : ClassId} {n : Nat} {f : Nat → Int32} (ha : ws[q0]? = some (a, .inl (cA, n, .inl f))) (ht : tys[t0]? = some (cA, .byte)) {i : Nat} (hi : i < n) (hn : n < 2147483648) {v : Int32} (hv : f i = v) (d : decode cc pc = .ok (.baload, 1)) (k : sx_S G ws (pc + 1) lv (.int v :: rest)) : sx_S G ws pc lv (.int (nI i) :: .ref a :: rest) := fun H locs ls hP hD hS hl => by
  subst hv
  refine va_bald E.1 E.2.1 E.2.2.2.2.2.1 hP q0 t0 ha (by rw [E.y]; exact ht) (vp_in_nI hi hn) d ?_
  rw [nI_clamp (by omega)]
  exact k H locs ls hP hD hS hl
theorem sx_iald (E : sx_E G cc own l D tys R nL) (q0 t0 : Nat) {a : Nat} {cA : ClassId} {n : Nat} {f : Nat → Int32} (ha : ws[q0]? = some (a, .inl (cA, n, .inl f))) (ht : tys[t0]? = some (cA, .int)) {i : Nat} (hi : i < n) (hn : n < 2147483648) {v : Int32} (hv : f i = v) (d : decode cc pc = .ok (.iaload, 1)) (k : sx_S G ws (pc + 1) lv (.int v :: rest)) : sx_S G ws pc lv (.int (nI i) :: .ref a :: rest) := fun H locs ls hP hD hS hl => by
  subst hv
  refine va_iald E.1 E.2.1 E.2.2.2.2.2.1 hP q0 t0 ha (by rw [E.y]; exact ht) (vp_in_nI hi hn) d ?_
  rw [nI_clamp (by omega)]
  exact k H locs ls hP hD hS hl
theorem sx_bast (E : sx_E G cc own l D tys R nL) (q0 t0 : Nat) {a : Nat} {cA : ClassId} {n : Nat} {f f' : Nat → Int32} (ha : ws[q0]? = some (a, .inl (cA, n, .inl f))) (ht : tys[t0]? = some (cA, .byte)) {i : Nat} {x : Int32} (hi : i < n) (hn : n < 2147483648) (hf : upd f i (vp_nar .byte x) = f') (d : decode cc pc = .ok (.bastore, 1)) {ws' : va_W} (hw : ws.set q0 (a, .inl (cA, n, .inl f')) = ws') (k : sx_S G ws' (pc + 1) lv rest) : sx_S G ws pc lv (.int x :: .int (nI i) :: .ref a :: rest) := fun H locs ls hP hD hS hl => by
  subst hf
  subst hw
  refine va_bast E.1 E.2.1 E.2.2.2.2.2.1 hP hD hS q0 t0 ha (by rw [E.y]; exact ht) (vp_in_nI hi hn) d ?_
  rw [nI_clamp (by omega)]
  exact fun H1 locs1 hP1 hD1 hS1 => k H1 locs1 ls hP1 hD1 hS1 hl
theorem sx_iast (E : sx_E G cc own l D tys R nL) (q0 t0 : Nat) {a : Nat} {cA : ClassId} {n : Nat} {f f' : Nat → Int32} (ha : ws[q0]? = some (a, .inl (cA, n, .inl f))) (ht : tys[t0]? = some (cA, .int)) {i : Nat} {x : Int32} (hi : i < n) (hn : n < 2147483648) (hf : upd f i x = f') (d : decode cc pc = .ok (.iastore, 1)) {ws' : va_W} (hw : ws.set q0 (a, .inl (cA, n, .inl f')) = ws') (k : sx_S G ws' (pc + 1) lv rest) : sx_S G ws pc lv (.int x :: .int (nI i) :: .ref a :: rest) := fun H locs ls hP hD hS hl => by
  subst hf
  subst hw
  refine va_iast E.1 E.2.1 E.2.2.2.2.2.1 hP hD hS q0 t0 ha (by rw [E.y]; exact ht) (vp_in_nI hi hn) d ?_
  rw [nI_clamp (by omega)]
  exact fun H1 locs1 hP1 hD1 hS1 => k H1 locs1 ls hP1 hD1 hS1 hl
end SX
/-! contracts: the whole world of the object goes in and comes out -/
def sx_Pc (D : va_G) (tys : List (ClassId × FieldType)) (ws : va_W) (sz : Nat) (argv : List Value) : Array Value → State → Prop := va_Pc argv (fun U => U.heap.size = sz ∧ va_P D cls2 ws U.heap ∧ va_K D cls2 tys U ∧ va_D (fun _ => True) ws)
def sx_B (D : va_G) (tys : List (ClassId × FieldType)) (A : Nat → Prop) (ws : va_W) (t : State) : Prop := va_P D cls2 ws t.heap ∧ va_K D cls2 tys t ∧ va_D A ws
def sx_Ci (l : Launch) (y : MethodName) (cc : ByteArray) (nL : Nat) (ret : FieldType) (rm : Room) (D : va_G) (tys : List (ClassId × FieldType)) (argv : List Value) (ws : va_W) {S : Type} (pic : S → va_W) (post : Int32 → S → Prop) : Prop :=
  ∀ sz, Met l y (ws_ y cc nL (some ret)) rm (sx_Pc D tys ws sz argv) (va_Qi post (fun u => sx_B D tys (va_A ws sz) (pic u)) (va_A ws sz)) 0 0 (va_A ws sz)
def sx_Cv (l : Launch) (y : MethodName) (cc : ByteArray) (nL : Nat) (rm : Room) (D : va_G) (tys : List (ClassId × FieldType)) (argv : List Value) (ws : va_W) {S : Type} (pic : S → va_W) (post : S → Prop) : Prop :=
  ∀ sz, Met l y (ws_ y cc nL none) rm (sx_Pc D tys ws sz argv) (va_Qv post (fun u => sx_B D tys (va_A ws sz) (pic u)) (va_A ws sz)) 0 0 (va_A ws sz)
/-- a method that only reads -/
abbrev sx_Cr (l : Launch) (y : MethodName) (cc : ByteArray) (nL : Nat) (ret : FieldType) (rm : Room) (D : va_G) (tys : List (ClassId × FieldType)) (argv : List Value) (ws : va_W) (v : Int32) : Prop :=
  sx_Ci l y cc nL ret rm D tys argv ws (S := Unit) (fun _ => ws) (fun r _ => r = v)
theorem sx_enter_i {l : Launch} {y : MethodName} {cc : ByteArray} {nL : Nat} {ret : FieldType} {rm : Room} {D : va_G} {tys : List (ClassId × FieldType)} {argv : List Value} {ws : va_W} {S : Type} {pic : S → va_W} {post : Int32 → S → Prop} {own : String} {lv : List (Nat × Value)}
    (hy : plainName y.cls = true) (ho : y.cls = own) (hlen : (lg_sl argv).length ≤ nL) (hlv : lv_args 0 argv = lv)
    (body : ∀ G : sx_G, sx_E G cc own l D tys rm nL → (∀ (pc : Nat) (lv' : List (Nat × Value)) (v : Int32) (u : S), decode cc pc = .ok (.ireturn, 1) → narrow ret (.int v) = .int v → post v u → sx_S G (pic u) pc lv' [.int v]) → sx_S G ws 0 lv []) : sx_Ci l y cc nL ret rm D tys argv ws pic post := by
  intro sz
  refine Met.ofW (cc := cc) (maxL := nL) (ret := some ret) hy rfl ?_
  intro p e s m args below meth c s₁ B hml hv
  obtain ⟨rfl, hsz, hP, hK, hD0⟩ := hv
  have hts := atoms_spec (ws := ws_ y cc nL (some ret)) B.pre
  have hts : ∀ w ∈ lw_all, w.before argv.toArray s = true := fun w h => hts w (List.mem_cons_of_mem _ h)
  have hown : s.vm.findClass own = some m.cls := by rw [← ho]; exact findClass_of_methodNamed B.named
  subst hsz
  have hD := hD0.self (sz := s.heap.size)
  have hl := lv_entry argv hlen
  rw [lg_entry_eq]
  subst hlv
  exact body (p, l, e, rm, s, m, argv.toArray, below, meth, c, 0, 0, MQ below (va_Qi post (fun u => sx_B D tys (va_A ws s.heap.size) (pic u)) (va_A ws s.heap.size)) argv.toArray s 0 0 (va_A ws s.heap.size), nL, D, tys, va_A ws s.heap.size)
    ⟨B.exec, B.bytes, hml, hown, hts, hK, fun q h => Or.inr h, ⟨Nat.zero_le _, Nat.zero_le _⟩, rfl, rfl, rfl, rfl, rfl⟩
    (fun pc lv' v u d hn hp H locs ls hP hD hS hl => W.zret B.exec B.bytes B.returns hn (fun t ht hW => ⟨⟨v, u, rfl, hp, by rw [ht]; exact hP, va_K.moved hW.alike hK, hD⟩, hS.F ht⟩) hS.2.2 d B.notSynchronized)
    s.heap [] _ hP hD va_S.rf hl
theorem sx_enter_v {l : Launch} {y : MethodName} {cc : ByteArray} {nL : Nat} {rm : Room} {D : va_G} {tys : List (ClassId × FieldType)} {argv : List Value} {ws : va_W} {S : Type} {pic : S → va_W} {post : S → Prop} {own : String} {lv : List (Nat × Value)}
    (hy : plainName y.cls = true) (ho : y.cls = own) (hlen : (lg_sl argv).length ≤ nL) (hlv : lv_args 0 argv = lv)
    (body : ∀ G : sx_G, sx_E G cc own l D tys rm nL → (∀ (pc : Nat) (lv' : List (Nat × Value)) (u : S), decode cc pc = .ok (.return_, 1) → post u → sx_S G (pic u) pc lv' []) → sx_S G ws 0 lv []) : sx_Cv l y cc nL rm D tys argv ws pic post := by
  intro sz
  refine Met.ofW (cc := cc) (maxL := nL) (ret := none) hy rfl ?_
  intro p e s m args below meth c s₁ B hml hv
  obtain ⟨rfl, hsz, hP, hK, hD0⟩ := hv
  have hts := atoms_spec (ws := ws_ y cc nL none) B.pre
  have hts : ∀ w ∈ lw_all, w.before argv.toArray s = true := fun w h => hts w (List.mem_cons_of_mem _ h)
  have hown : s.vm.findClass own = some m.cls := by rw [← ho]; exact findClass_of_methodNamed B.named
  subst hsz
  have hD := hD0.self (sz := s.heap.size)
  have hl := lv_entry argv hlen
  rw [lg_entry_eq]
  subst hlv
  exact body (p, l, e, rm, s, m, argv.toArray, below, meth, c, 0, 0, MQ below (va_Qv post (fun u => sx_B D tys (va_A ws s.heap.size) (pic u)) (va_A ws s.heap.size)) argv.toArray s 0 0 (va_A ws s.heap.size), nL, D, tys, va_A ws s.heap.size)
    ⟨B.exec, B.bytes, hml, hown, hts, hK, fun q h => Or.inr h, ⟨Nat.zero_le _, Nat.zero_le _⟩, rfl, rfl, rfl, rfl, rfl⟩
    (fun pc lv' u d hp H locs ls hP hD hS hl => W.vret B.exec B.bytes B.returns (fun t ht hW => ⟨⟨u, rfl, hp, by rw [ht]; exact hP, va_K.moved hW.alike hK, hD⟩, hS.F ht⟩) hS.2.2 d B.notSynchronized)
    s.heap [] _ hP hD va_S.rf hl
section SXC
variable {G : sx_G} {cc : ByteArray} {own : String} {l : Launch} {D : va_G} {tys : List (ClassId × FieldType)} {R : Room} {nL : Nat} {ws : va_W} {pc : Nat} {lv : List (Nat × Value)} {st rest : List Value}
variable {y : MethodName} {bytes : ByteArray} {maxL : Nat} {ret : FieldType} {rm : Room} {As : List Value} {h ci idx : Nat} {fs : List Value} {C : String} {T : u_T} {N : Nat} {S : Type} {pic : S → va_W}
theorem sx_blind {D : va_G} {tys : List (ClassId × FieldType)} {ws : va_W} {sz : Nat} {argv : List Value} : FrameBlind (sx_Pc D tys ws sz argv) := fun a U g mk q => by
  obtain ⟨q0, q1, qP, qK, qD⟩ := q
  exact ⟨q0, q1, qP, va_K.moved (u := U) (U := U.calling g mk a) (Vm.Alike.refl U.vm) qK, qD⟩
theorem sx_free {A : Nat → Prop} {H0 H : Heap} {locs : List Loc} (hD : va_D A ws) (hS : va_S A H0 H locs) (hA : ∀ q, H0.size ≤ q → A q) : ∀ q, va_A ws H.size q → A q := by
  intro q h
  rcases h with ⟨k, e, h⟩ | h
  · exact hD.2 k (q, e) h
  · exact hA q (Nat.le_trans hS.1 h)
theorem sx_calli (E : sx_E G cc own l D tys R nL) {post : Int32 → S → Prop} (hC : sx_Ci l y bytes maxL ret rm D tys (.ref h :: As) ws pic post)
    (hw : GoodIn lw_all (wsV own idx C y (ws_ y bytes maxL (some ret)))) (hd : y.cls = C ∧ y.cls ≠ "java/lang/invoke/MethodHandle" ∧ y.cls ≠ "java/lang/invoke/VarHandle" ∧ (parseMethodDescriptor y.desc).map (fun d => d.parameters.length) = some As.length)
    (hrm : (rm.cells = 0 ∧ rm.slots = 0) ∧ rm.frames + 1 ≤ R.frames ∧ 8 + (maxL + 11) + rm.locals ≤ R.locals) (hc : cls2[ci]? = some (C, T, N)) (he : ws[0]? = some (h, .inr (ci, fs))) (hs : st = As.reverse ++ .ref h :: rest) (hr : (rest.map fun v => v.category).sum ≤ 8) (d : decode cc pc = .ok (.invokevirtual idx, 3))
    (k : ∀ (r : Int32) (u : S), post r u → sx_S G (pic u) (pc + 3) lv (.int r :: rest)) : sx_S G ws pc lv st := by
  intro H locs ls hP hD hS hl
  obtain ⟨hx, hb, hml, hown, hts, hK, hA, hk, rfl, rfl, rfl, rfl, rfl⟩ := E
  subst hs
  have hF := sx_free hD hS hA
  refine va_calli (va_runV (As := As) (rest := rest) ⟨hx, hb, hml, hown, hts⟩ (hC H.size) (cwV As.length hts hw rfl hrm.1.1 hrm.1.2 hd hrm.2) ⟨sx_blind, va_recv hK hP (ci := ci) (q0 := 0) hc he, fun U hU hW => ⟨rfl, by rw [hU], by rw [hU]; exact hP, va_K.moved hW.alike hK, hD.weaken (fun _ _ _ _ => trivial)⟩⟩ rfl rfl hl.1 rfl (lv_room hr) d ⟨hk.1, hk.2⟩) hS (fun q _ h => hF q h) hF (fun r u t H1 locs1 ht hvm hp hB hz1 hk1 hS1 => ?_)
  obtain ⟨hP1, hK1, hD1⟩ := hB
  rw [ht] at hP1
  exact k r u hp H1 locs1 ls hP1 (hD1.weaken (fun _ _ _ z => hF _ z)) hS1 hl
theorem sx_callv (E : sx_E G cc own l D tys R nL) {post : S → Prop} (hC : sx_Cv l y bytes maxL rm D tys (.ref h :: As) ws pic post)
    (hw : GoodIn lw_all (wsV own idx C y (ws_ y bytes maxL none))) (hd : y.cls = C ∧ y.cls ≠ "java/lang/invoke/MethodHandle" ∧ y.cls ≠ "java/lang/invoke/VarHandle" ∧ (parseMethodDescriptor y.desc).map (fun d => d.parameters.length) = some As.length)
    (hrm : (rm.cells = 0 ∧ rm.slots = 0) ∧ rm.frames + 1 ≤ R.frames ∧ 8 + (maxL + 11) + rm.locals ≤ R.locals) (hc : cls2[ci]? = some (C, T, N)) (he : ws[0]? = some (h, .inr (ci, fs))) (hs : st = As.reverse ++ .ref h :: rest) (hr : (rest.map fun v => v.category).sum ≤ 8) (d : decode cc pc = .ok (.invokevirtual idx, 3))
    (k : ∀ (u : S), post u → sx_S G (pic u) (pc + 3) lv rest) : sx_S G ws pc lv st := by
  intro H locs ls hP hD hS hl
  obtain ⟨hx, hb, hml, hown, hts, hK, hA, hk, rfl, rfl, rfl, rfl, rfl⟩ := E
  subst hs
  have hF := sx_free hD hS hA
  refine va_callv (va_runV (As := As) (rest := rest) ⟨hx, hb, hml, hown, hts⟩ (hC H.size) (cwV As.length hts hw rfl hrm.1.1 hrm.1.2 hd hrm.2) ⟨sx_blind, va_recv hK hP (ci := ci) (q0 := 0) hc he, fun U hU hW => ⟨rfl, by rw [hU], by rw [hU]; exact hP, va_K.moved hW.alike hK, hD.weaken (fun _ _ _ _ => trivial)⟩⟩ rfl rfl hl.1 rfl (lv_room hr) d ⟨hk.1, hk.2⟩) hS (fun q _ h => hF q h) hF (fun u t H1 locs1 ht hvm hp hB hz1 hk1 hS1 => ?_)
  obtain ⟨hP1, hK1, hD1⟩ := hB
  rw [ht] at hP1
  exact k u hp H1 locs1 ls hP1 (hD1.weaken (fun _ _ _ z => hF _ z)) hS1 hl
theorem sx_callr (E : sx_E G cc own l D tys R nL) {v : Int32} (hC : sx_Cr l y bytes maxL ret rm D tys (.ref h :: As) ws v)
    (hw : GoodIn lw_all (wsV own idx C y (ws_ y bytes maxL (some ret)))) (hd : y.cls = C ∧ y.cls ≠ "java/lang/invoke/MethodHandle" ∧ y.cls ≠ "java/lang/invoke/VarHandle" ∧ (parseMethodDescriptor y.desc).map (fun d => d.parameters.length) = some As.length)
    (hrm : (rm.cells = 0 ∧ rm.slots = 0) ∧ rm.frames + 1 ≤ R.frames ∧ 8 + (maxL + 11) + rm.locals ≤ R.locals) (hc : cls2[ci]? = some (C, T, N)) (he : ws[0]? = some (h, .inr (ci, fs))) (hs : st = As.reverse ++ .ref h :: rest) (hr : (rest.map fun v => v.category).sum ≤ 8) (d : decode cc pc = .ok (.invokevirtual idx, 3))
    (k : sx_S G ws (pc + 3) lv (.int v :: rest)) : sx_S G ws pc lv st :=
  sx_calli E hC hw hd hrm hc he hs hr d (fun r u hp => by subst hp; exact k)
end SXC
end
section
set_option maxRecDepth 100000
/-- the world of a SplitTree: the object, then its six arrays -/
def pX (h : Nat → Nat) (ca : Nat → ClassId) (cnt kn fnd fr : Int32) (bt sd ix fs fi kp : Nat → Int32) : va_W :=
  [(h 0, .inr (0, [.int cnt, .ref (h 1), .int kn, .int fnd, .ref (h 2), .ref (h 3), .int fr, .ref (h 4), .ref (h 5), .ref (h 6)])), (h 1, .inl (ca 1, 49, .inl bt)), (h 2, .inl (ca 2, 32, .inl sd)), (h 3, .inl (ca 3, 32, .inl ix)), (h 4, .inl (ca 4, 32, .inl fs)), (h 5, .inl (ca 5, 32, .inl fi)), (h 6, .inl (ca 6, 49, .inl kp))]
def tyX (ca : Nat → ClassId) : List (ClassId × FieldType) := [(ca 1, .byte), (ca 2, .byte), (ca 3, .int), (ca 4, .byte), (ca 5, .int), (ca 6, .byte)]
/-- the world of a SplitTreeModel: the object, then its three arrays -/
def pM (g : Nat → Nat) (cb : Nat → ClassId) (mn : Int32) (ds mk mi : Nat → Int32) : va_W :=
  [(g 0, .inr (1, [.int mn, .ref (g 1), .ref (g 2), .ref (g 3)])), (g 1, .inl (cb 1, 49, .inl ds)), (g 2, .inl (cb 2, 49, .inl mk)), (g 3, .inl (cb 3, 128, .inl mi))]
def tyM (cb : Nat → ClassId) : List (ClassId × FieldType) := [(cb 1, .int), (cb 2, .int), (cb 3, .int)]
abbrev rmX_above : Room := { frames := 0, cells := 0, slots := 0, locals := 0 }
theorem wX_above : GoodIn lw_all (wsV RX0 93 RX0 yX0_above (ws_ yX0_above cX0_above 5 (some .int))) := lw_V q188 q190 qs15 q29 q191
theorem kX_above : yX0_above.cls = RX0 ∧ yX0_above.cls ≠ "java/lang/invoke/MethodHandle" ∧ yX0_above.cls ≠ "java/lang/invoke/VarHandle" ∧ (parseMethodDescriptor yX0_above.desc).map (fun d => d.parameters.length) = some 1 := by decide +kernel
abbrev rmX_addPoint : Room := { frames := 4, cells := 0, slots := 0, locals := 101 }
theorem wX_addPoint : GoodIn lw_all (wsV RX0 75 RX0 yX0_addPoint (ws_ yX0_addPoint cX0_addPoint 3 none)) := lw_V q108 q110 qs4 q29 q111
theorem kX_addPoint : yX0_addPoint.cls = RX0 ∧ yX0_addPoint.cls ≠ "java/lang/invoke/MethodHandle" ∧ yX0_addPoint.cls ≠ "java/lang/invoke/VarHandle" ∧ (parseMethodDescriptor yX0_addPoint.desc).map (fun d => d.parameters.length) = some 1 := by decide +kernel
abbrev rmX_agree : Room := { frames := 0, cells := 0, slots := 0, locals := 0 }
theorem wX_agree : GoodIn lw_all (wsV RX0 86 RX0 yX0_agree (ws_ yX0_agree cX0_agree 4 (some .boolean))) := lw_V q176 q178 qs13 q29 q179
theorem kX_agree : yX0_agree.cls = RX0 ∧ yX0_agree.cls ≠ "java/lang/invoke/MethodHandle" ∧ yX0_agree.cls ≠ "java/lang/invoke/VarHandle" ∧ (parseMethodDescriptor yX0_agree.desc).map (fun d => d.parameters.length) = some 2 := by decide +kernel
abbrev rmX_agreeing : Room := { frames := 6, cells := 0, slots := 0, locals := 144 }
theorem wLX_agreeing : GoodIn lw_all (wsV "SplitTreeLaw" 69 RX0 yX0_agreeing (ws_ yX0_agreeing cX0_agreeing 5 (some .int))) := lw_V q180 q181 q182 q29 q183
theorem kX_agreeing : yX0_agreeing.cls = RX0 ∧ yX0_agreeing.cls ≠ "java/lang/invoke/MethodHandle" ∧ yX0_agreeing.cls ≠ "java/lang/invoke/VarHandle" ∧ (parseMethodDescriptor yX0_agreeing.desc).map (fun d => d.parameters.length) = some 0 := by decide +kernel
abbrev rmX_agrees : Room := { frames := 6, cells := 0, slots := 0, locals := 144 }
theorem wLX_agrees : GoodIn lw_all (wsV "SplitTreeLaw" 65 RX0 yX0_agrees (ws_ yX0_agrees cX0_agrees 3 (some .int))) := lw_V q168 q169 q170 q29 q171
theorem kX_agrees : yX0_agrees.cls = RX0 ∧ yX0_agrees.cls ≠ "java/lang/invoke/MethodHandle" ∧ yX0_agrees.cls ≠ "java/lang/invoke/VarHandle" ∧ (parseMethodDescriptor yX0_agrees.desc).map (fun d => d.parameters.length) = some 1 := by decide +kernel
abbrev rmX_agreesWithAll : Room := { frames := 1, cells := 0, slots := 0, locals := 23 }
theorem wX_agreesWithAll : GoodIn lw_all (wsV RX0 90 RX0 yX0_agreesWithAll (ws_ yX0_agreesWithAll cX0_agreesWithAll 4 (some .boolean))) := lw_V q172 q174 qs12 q29 q175
theorem kX_agreesWithAll : yX0_agreesWithAll.cls = RX0 ∧ yX0_agreesWithAll.cls ≠ "java/lang/invoke/MethodHandle" ∧ yX0_agreesWithAll.cls ≠ "java/lang/invoke/VarHandle" ∧ (parseMethodDescriptor yX0_agreesWithAll.desc).map (fun d => d.parameters.length) = some 1 := by decide +kernel
abbrev rmX_badSplit : Room := { frames := 0, cells := 0, slots := 0, locals := 0 }
theorem wX_badSplit : GoodIn lw_all (wsV RX0 83 RX0 yX0_badSplit (ws_ yX0_badSplit cX0_badSplit 2 (some .boolean))) := lw_V q148 q150 qs11 q29 q151
theorem kX_badSplit : yX0_badSplit.cls = RX0 ∧ yX0_badSplit.cls ≠ "java/lang/invoke/MethodHandle" ∧ yX0_badSplit.cls ≠ "java/lang/invoke/VarHandle" ∧ (parseMethodDescriptor yX0_badSplit.desc).map (fun d => d.parameters.length) = some 1 := by decide +kernel
abbrev rmX_distance : Room := { frames := 1, cells := 0, slots := 0, locals := 22 }
theorem wLX_distance : GoodIn lw_all (wsV "SplitTreeLaw" 41 RX0 yX0_distance (ws_ yX0_distance cX0_distance 3 (some .int))) := lw_V q140 q141 q142 q29 q143
theorem kX_distance : yX0_distance.cls = RX0 ∧ yX0_distance.cls ≠ "java/lang/invoke/MethodHandle" ∧ yX0_distance.cls ≠ "java/lang/invoke/VarHandle" ∧ (parseMethodDescriptor yX0_distance.desc).map (fun d => d.parameters.length) = some 2 := by decide +kernel
abbrev rmX_drop : Room := { frames := 0, cells := 0, slots := 0, locals := 0 }
theorem wLX_drop : GoodIn lw_all (wsV "SplitTreeLaw" 18 RX0 yX0_drop (ws_ yX0_drop cX0_drop 1 (some .int))) := lw_V q80 q81 q82 q29 q83
theorem kX_drop : yX0_drop.cls = RX0 ∧ yX0_drop.cls ≠ "java/lang/invoke/MethodHandle" ∧ yX0_drop.cls ≠ "java/lang/invoke/VarHandle" ∧ (parseMethodDescriptor yX0_drop.desc).map (fun d => d.parameters.length) = some 0 := by decide +kernel
abbrev rmX_edge : Room := { frames := 6, cells := 0, slots := 0, locals := 144 }
theorem wLX_edge : GoodIn lw_all (wsV "SplitTreeLaw" 53 RX0 yX0_edge (ws_ yX0_edge cX0_edge 2 (some .int))) := lw_V q156 q157 q158 q29 q159
theorem kX_edge : yX0_edge.cls = RX0 ∧ yX0_edge.cls ≠ "java/lang/invoke/MethodHandle" ∧ yX0_edge.cls ≠ "java/lang/invoke/VarHandle" ∧ (parseMethodDescriptor yX0_edge.desc).map (fun d => d.parameters.length) = some 1 := by decide +kernel
abbrev rmX_edges : Room := { frames := 6, cells := 0, slots := 0, locals := 144 }
theorem wLX_edges : GoodIn lw_all (wsV "SplitTreeLaw" 49 RX0 yX0_edges (ws_ yX0_edges cX0_edges 1 (some .int))) := lw_V q152 q153 q154 q29 q155
theorem kX_edges : yX0_edges.cls = RX0 ∧ yX0_edges.cls ≠ "java/lang/invoke/MethodHandle" ∧ yX0_edges.cls ≠ "java/lang/invoke/VarHandle" ∧ (parseMethodDescriptor yX0_edges.desc).map (fun d => d.parameters.length) = some 0 := by decide +kernel
abbrev rmX_find : Room := { frames := 5, cells := 0, slots := 0, locals := 123 }
theorem wX_find : GoodIn lw_all (wsV RX0 49 RX0 yX0_find (ws_ yX0_find cX0_find 2 none)) := lw_V q104 q106 qs3 q29 q107
theorem kX_find : yX0_find.cls = RX0 ∧ yX0_find.cls ≠ "java/lang/invoke/MethodHandle" ∧ yX0_find.cls ≠ "java/lang/invoke/VarHandle" ∧ (parseMethodDescriptor yX0_find.desc).map (fun d => d.parameters.length) = some 0 := by decide +kernel
abbrev rmX_get : Room := { frames := 0, cells := 0, slots := 0, locals := 0 }
theorem wX_get : GoodIn lw_all (wsV RX0 45 RX0 yX0_get (ws_ yX0_get cX0_get 3 (some .int))) := lw_V q92 q94 qs2 q29 q95
theorem kX_get : yX0_get.cls = RX0 ∧ yX0_get.cls ≠ "java/lang/invoke/MethodHandle" ∧ yX0_get.cls ≠ "java/lang/invoke/VarHandle" ∧ (parseMethodDescriptor yX0_get.desc).map (fun d => d.parameters.length) = some 2 := by decide +kernel
abbrev rmX_homeOf : Room := { frames := 0, cells := 0, slots := 0, locals := 0 }
theorem wX_homeOf : GoodIn lw_all (wsV RX0 97 RX0 yX0_homeOf (ws_ yX0_homeOf cX0_homeOf 5 (some .int))) := lw_V q192 q194 qs16 q29 q195
theorem kX_homeOf : yX0_homeOf.cls = RX0 ∧ yX0_homeOf.cls ≠ "java/lang/invoke/MethodHandle" ∧ yX0_homeOf.cls ≠ "java/lang/invoke/VarHandle" ∧ (parseMethodDescriptor yX0_homeOf.desc).map (fun d => d.parameters.length) = some 1 := by decide +kernel
abbrev rmX_index : Room := { frames := 3, cells := 0, slots := 0, locals := 78 }
theorem wLX_index : GoodIn lw_all (wsV "SplitTreeLaw" 45 RX0 yX0_index (ws_ yX0_index cX0_index 2 (some .int))) := lw_V q144 q145 q146 q29 q147
theorem kX_index : yX0_index.cls = RX0 ∧ yX0_index.cls ≠ "java/lang/invoke/MethodHandle" ∧ yX0_index.cls ≠ "java/lang/invoke/VarHandle" ∧ (parseMethodDescriptor yX0_index.desc).map (fun d => d.parameters.length) = some 1 := by decide +kernel
abbrev rmX_indexOf : Room := { frames := 2, cells := 0, slots := 0, locals := 51 }
theorem wX_indexOf : GoodIn lw_all (wsV RX0 59 RX0 yX0_indexOf (ws_ yX0_indexOf cX0_indexOf 8 (some .int))) := lw_V q116 q118 qs6 q29 q119
theorem kX_indexOf : yX0_indexOf.cls = RX0 ∧ yX0_indexOf.cls ≠ "java/lang/invoke/MethodHandle" ∧ yX0_indexOf.cls ≠ "java/lang/invoke/VarHandle" ∧ (parseMethodDescriptor yX0_indexOf.desc).map (fun d => d.parameters.length) = some 2 := by decide +kernel
abbrev rmX_leastFor : Room := { frames := 1, cells := 0, slots := 0, locals := 22 }
theorem wX_leastFor : GoodIn lw_all (wsV RX0 55 RX0 yX0_leastFor (ws_ yX0_leastFor cX0_leastFor 10 (some .int))) := lw_V q120 q122 qs7 q29 q123
theorem kX_leastFor : yX0_leastFor.cls = RX0 ∧ yX0_leastFor.cls ≠ "java/lang/invoke/MethodHandle" ∧ yX0_leastFor.cls ≠ "java/lang/invoke/VarHandle" ∧ (parseMethodDescriptor yX0_leastFor.desc).map (fun d => d.parameters.length) = some 4 := by decide +kernel
abbrev rmX_missing : Room := { frames := 0, cells := 0, slots := 0, locals := 0 }
theorem wX_missing : GoodIn lw_all (wsV RX0 41 RX0 yX0_missing (ws_ yX0_missing cX0_missing 2 (some .boolean))) := lw_V q88 q90 qs1 q29 q91
theorem kX_missing : yX0_missing.cls = RX0 ∧ yX0_missing.cls ≠ "java/lang/invoke/MethodHandle" ∧ yX0_missing.cls ≠ "java/lang/invoke/VarHandle" ∧ (parseMethodDescriptor yX0_missing.desc).map (fun d => d.parameters.length) = some 1 := by decide +kernel
abbrev rmX_move : Room := { frames := 1, cells := 0, slots := 0, locals := 23 }
theorem wLX_move : GoodIn lw_all (wsV "SplitTreeLaw" 28 RX0 yX0_move (ws_ yX0_move cX0_move 8 (some .int))) := lw_V q96 q97 q98 q29 q99
theorem kX_move : yX0_move.cls = RX0 ∧ yX0_move.cls ≠ "java/lang/invoke/MethodHandle" ∧ yX0_move.cls ≠ "java/lang/invoke/VarHandle" ∧ (parseMethodDescriptor yX0_move.desc).map (fun d => d.parameters.length) = some 2 := by decide +kernel
abbrev rmX_parts : Room := { frames := 0, cells := 0, slots := 0, locals := 0 }
theorem wX_parts : GoodIn lw_all (wsV RX0 79 RX0 yX0_parts (ws_ yX0_parts cX0_parts 4 (some .boolean))) := lw_V q132 q134 qs10 q29 q135
theorem kX_parts : yX0_parts.cls = RX0 ∧ yX0_parts.cls ≠ "java/lang/invoke/MethodHandle" ∧ yX0_parts.cls ≠ "java/lang/invoke/VarHandle" ∧ (parseMethodDescriptor yX0_parts.desc).map (fun d => d.parameters.length) = some 3 := by decide +kernel
abbrev rmX_partsAt : Room := { frames := 1, cells := 0, slots := 0, locals := 24 }
theorem wX_partsAt : GoodIn lw_all (wsV RX0 100 RX0 yX0_partsAt (ws_ yX0_partsAt cX0_partsAt 5 (some .int))) := lw_V q184 q186 qs14 q29 q187
theorem kX_partsAt : yX0_partsAt.cls = RX0 ∧ yX0_partsAt.cls ≠ "java/lang/invoke/MethodHandle" ∧ yX0_partsAt.cls ≠ "java/lang/invoke/VarHandle" ∧ (parseMethodDescriptor yX0_partsAt.desc).map (fun d => d.parameters.length) = some 1 := by decide +kernel
abbrev rmX_pathOf : Room := { frames := 1, cells := 0, slots := 0, locals := 23 }
theorem wX_pathOf : GoodIn lw_all (wsV RX0 52 RX0 yX0_pathOf (ws_ yX0_pathOf cX0_pathOf 5 (some .int))) := lw_V q128 q130 qs9 q29 q131
theorem kX_pathOf : yX0_pathOf.cls = RX0 ∧ yX0_pathOf.cls ≠ "java/lang/invoke/MethodHandle" ∧ yX0_pathOf.cls ≠ "java/lang/invoke/VarHandle" ∧ (parseMethodDescriptor yX0_pathOf.desc).map (fun d => d.parameters.length) = some 2 := by decide +kernel
abbrev rmX_point : Room := { frames := 1, cells := 0, slots := 0, locals := 23 }
theorem wLX_point : GoodIn lw_all (wsV "SplitTreeLaw" 13 RX0 yX0_point (ws_ yX0_point cX0_point 3 (some .int))) := lw_V q72 q73 q74 q29 q75
theorem kX_point : yX0_point.cls = RX0 ∧ yX0_point.cls ≠ "java/lang/invoke/MethodHandle" ∧ yX0_point.cls ≠ "java/lang/invoke/VarHandle" ∧ (parseMethodDescriptor yX0_point.desc).map (fun d => d.parameters.length) = some 1 := by decide +kernel
abbrev rmX_points : Room := { frames := 0, cells := 0, slots := 0, locals := 0 }
theorem wLX_points : GoodIn lw_all (wsV "SplitTreeLaw" 37 RX0 yX0_points (ws_ yX0_points cX0_points 1 (some .int))) := lw_V q136 q137 q138 q29 q139
theorem kX_points : yX0_points.cls = RX0 ∧ yX0_points.cls ≠ "java/lang/invoke/MethodHandle" ∧ yX0_points.cls ≠ "java/lang/invoke/VarHandle" ∧ (parseMethodDescriptor yX0_points.desc).map (fun d => d.parameters.length) = some 0 := by decide +kernel
abbrev rmX_pointsAt : Room := { frames := 1, cells := 0, slots := 0, locals := 24 }
theorem wX_pointsAt : GoodIn lw_all (wsV RX0 103 RX0 yX0_pointsAt (ws_ yX0_pointsAt cX0_pointsAt 5 (some .int))) := lw_V q196 q198 qs17 q29 q199
theorem kX_pointsAt : yX0_pointsAt.cls = RX0 ∧ yX0_pointsAt.cls ≠ "java/lang/invoke/MethodHandle" ∧ yX0_pointsAt.cls ≠ "java/lang/invoke/VarHandle" ∧ (parseMethodDescriptor yX0_pointsAt.desc).map (fun d => d.parameters.length) = some 1 := by decide +kernel
abbrev rmX_put : Room := { frames := 0, cells := 0, slots := 0, locals := 0 }
theorem wX_put : GoodIn lw_all (wsV RX0 37 RX0 yX0_put (ws_ yX0_put cX0_put 4 none)) := lw_V q76 q78 qs0 q29 q79
theorem kX_put : yX0_put.cls = RX0 ∧ yX0_put.cls ≠ "java/lang/invoke/MethodHandle" ∧ yX0_put.cls ≠ "java/lang/invoke/VarHandle" ∧ (parseMethodDescriptor yX0_put.desc).map (fun d => d.parameters.length) = some 3 := by decide +kernel
abbrev rmX_set : Room := { frames := 1, cells := 0, slots := 0, locals := 23 }
theorem wLX_set : GoodIn lw_all (wsV "SplitTreeLaw" 23 RX0 yX0_set (ws_ yX0_set cX0_set 5 (some .int))) := lw_V q84 q85 q86 q29 q87
theorem kX_set : yX0_set.cls = RX0 ∧ yX0_set.cls ≠ "java/lang/invoke/MethodHandle" ∧ yX0_set.cls ≠ "java/lang/invoke/VarHandle" ∧ (parseMethodDescriptor yX0_set.desc).map (fun d => d.parameters.length) = some 3 := by decide +kernel
abbrev rmX_smooth : Room := { frames := 6, cells := 0, slots := 0, locals := 144 }
theorem wLX_smooth : GoodIn lw_all (wsV "SplitTreeLaw" 33 RX0 yX0_smooth (ws_ yX0_smooth cX0_smooth 5 (some .int))) := lw_V q100 q101 q102 q29 q103
theorem kX_smooth : yX0_smooth.cls = RX0 ∧ yX0_smooth.cls ≠ "java/lang/invoke/MethodHandle" ∧ yX0_smooth.cls ≠ "java/lang/invoke/VarHandle" ∧ (parseMethodDescriptor yX0_smooth.desc).map (fun d => d.parameters.length) = some 0 := by decide +kernel
abbrev rmX_sortFresh : Room := { frames := 0, cells := 0, slots := 0, locals := 0 }
theorem wX_sortFresh : GoodIn lw_all (wsV RX0 72 RX0 yX0_sortFresh (ws_ yX0_sortFresh cX0_sortFresh 3 none)) := lw_V q124 q126 qs8 q29 q127
theorem kX_sortFresh : yX0_sortFresh.cls = RX0 ∧ yX0_sortFresh.cls ≠ "java/lang/invoke/MethodHandle" ∧ yX0_sortFresh.cls ≠ "java/lang/invoke/VarHandle" ∧ (parseMethodDescriptor yX0_sortFresh.desc).map (fun d => d.parameters.length) = some 0 := by decide +kernel
abbrev rmX_span : Room := { frames := 6, cells := 0, slots := 0, locals := 144 }
theorem wLX_span : GoodIn lw_all (wsV "SplitTreeLaw" 77 RX0 yX0_span (ws_ yX0_span cX0_span 4 (some .int))) := lw_V q204 q205 q206 q29 q207
theorem kX_span : yX0_span.cls = RX0 ∧ yX0_span.cls ≠ "java/lang/invoke/MethodHandle" ∧ yX0_span.cls ≠ "java/lang/invoke/VarHandle" ∧ (parseMethodDescriptor yX0_span.desc).map (fun d => d.parameters.length) = some 0 := by decide +kernel
abbrev rmX_together : Room := { frames := 6, cells := 0, slots := 0, locals := 144 }
theorem wLX_together : GoodIn lw_all (wsV "SplitTreeLaw" 61 RX0 yX0_together (ws_ yX0_together cX0_together 4 (some .int))) := lw_V q164 q165 q166 q29 q167
theorem kX_together : yX0_together.cls = RX0 ∧ yX0_together.cls ≠ "java/lang/invoke/MethodHandle" ∧ yX0_together.cls ≠ "java/lang/invoke/VarHandle" ∧ (parseMethodDescriptor yX0_together.desc).map (fun d => d.parameters.length) = some 2 := by decide +kernel
abbrev rmX_treeDistance : Room := { frames := 6, cells := 0, slots := 0, locals := 144 }
theorem wLX_treeDistance : GoodIn lw_all (wsV "SplitTreeLaw" 57 RX0 yX0_treeDistance (ws_ yX0_treeDistance cX0_treeDistance 3 (some .int))) := lw_V q160 q161 q162 q29 q163
theorem kX_treeDistance : yX0_treeDistance.cls = RX0 ∧ yX0_treeDistance.cls ≠ "java/lang/invoke/MethodHandle" ∧ yX0_treeDistance.cls ≠ "java/lang/invoke/VarHandle" ∧ (parseMethodDescriptor yX0_treeDistance.desc).map (fun d => d.parameters.length) = some 2 := by decide +kernel
abbrev rmX_treelike : Room := { frames := 6, cells := 0, slots := 0, locals := 144 }
theorem wLX_treelike : GoodIn lw_all (wsV "SplitTreeLaw" 73 RX0 yX0_treelike (ws_ yX0_treelike cX0_treelike 4 (some .int))) := lw_V q200 q201 q202 q29 q203
theorem kX_treelike : yX0_treelike.cls = RX0 ∧ yX0_treelike.cls ≠ "java/lang/invoke/MethodHandle" ∧ yX0_treelike.cls ≠ "java/lang/invoke/VarHandle" ∧ (parseMethodDescriptor yX0_treelike.desc).map (fun d => d.parameters.length) = some 0 := by decide +kernel
abbrev rmX_tryEdge : Room := { frames := 3, cells := 0, slots := 0, locals := 78 }
theorem wX_tryEdge : GoodIn lw_all (wsV RX0 68 RX0 yX0_tryEdge (ws_ yX0_tryEdge cX0_tryEdge 4 none)) := lw_V q112 q114 qs5 q29 q115
theorem kX_tryEdge : yX0_tryEdge.cls = RX0 ∧ yX0_tryEdge.cls ≠ "java/lang/invoke/MethodHandle" ∧ yX0_tryEdge.cls ≠ "java/lang/invoke/VarHandle" ∧ (parseMethodDescriptor yX0_tryEdge.desc).map (fun d => d.parameters.length) = some 2 := by decide +kernel
abbrev rmX_weight : Room := { frames := 6, cells := 0, slots := 0, locals := 144 }
theorem wLX_weight : GoodIn lw_all (wsV "SplitTreeLaw" 81 RX0 yX0_weight (ws_ yX0_weight cX0_weight 3 (some .int))) := lw_V q208 q209 q210 q29 q211
theorem kX_weight : yX0_weight.cls = RX0 ∧ yX0_weight.cls ≠ "java/lang/invoke/MethodHandle" ∧ yX0_weight.cls ≠ "java/lang/invoke/VarHandle" ∧ (parseMethodDescriptor yX0_weight.desc).map (fun d => d.parameters.length) = some 0 := by decide +kernel
abbrev rmM_agree : Room := { frames := 0, cells := 0, slots := 0, locals := 0 }
theorem wM_agree : GoodIn lw_all (wsV RX1 45 RX1 yX1_agree (ws_ yX1_agree cX1_agree 8 (some .boolean))) := lw_V q311 q313 qs25 q30 q314
theorem kM_agree : yX1_agree.cls = RX1 ∧ yX1_agree.cls ≠ "java/lang/invoke/MethodHandle" ∧ yX1_agree.cls ≠ "java/lang/invoke/VarHandle" ∧ (parseMethodDescriptor yX1_agree.desc).map (fun d => d.parameters.length) = some 2 := by decide +kernel
abbrev rmM_agreeing : Room := { frames := 2, cells := 0, slots := 0, locals := 49 }
theorem wLM_agreeing : GoodIn lw_all (wsV "SplitTreeLaw" 72 RX1 yX1_agreeing (ws_ yX1_agreeing cX1_agreeing 3 (some .int))) := lw_V q315 q316 q317 q30 q318
theorem kM_agreeing : yX1_agreeing.cls = RX1 ∧ yX1_agreeing.cls ≠ "java/lang/invoke/MethodHandle" ∧ yX1_agreeing.cls ≠ "java/lang/invoke/VarHandle" ∧ (parseMethodDescriptor yX1_agreeing.desc).map (fun d => d.parameters.length) = some 0 := by decide +kernel
abbrev rmM_agrees : Room := { frames := 2, cells := 0, slots := 0, locals := 49 }
theorem wLM_agrees : GoodIn lw_all (wsV "SplitTreeLaw" 68 RX1 yX1_agrees (ws_ yX1_agrees cX1_agrees 2 (some .int))) := lw_V q303 q304 q305 q30 q306
theorem kM_agrees : yX1_agrees.cls = RX1 ∧ yX1_agrees.cls ≠ "java/lang/invoke/MethodHandle" ∧ yX1_agrees.cls ≠ "java/lang/invoke/VarHandle" ∧ (parseMethodDescriptor yX1_agrees.desc).map (fun d => d.parameters.length) = some 1 := by decide +kernel
abbrev rmM_agreesWithAll : Room := { frames := 1, cells := 0, slots := 0, locals := 27 }
theorem wM_agreesWithAll : GoodIn lw_all (wsV RX1 49 RX1 yX1_agreesWithAll (ws_ yX1_agreesWithAll cX1_agreesWithAll 3 (some .boolean))) := lw_V q307 q309 qs24 q30 q310
theorem kM_agreesWithAll : yX1_agreesWithAll.cls = RX1 ∧ yX1_agreesWithAll.cls ≠ "java/lang/invoke/MethodHandle" ∧ yX1_agreesWithAll.cls ≠ "java/lang/invoke/VarHandle" ∧ (parseMethodDescriptor yX1_agreesWithAll.desc).map (fun d => d.parameters.length) = some 1 := by decide +kernel
abbrev rmM_between : Room := { frames := 0, cells := 0, slots := 0, locals := 0 }
theorem wM_between : GoodIn lw_all (wsV RX1 38 RX1 yX1_between (ws_ yX1_between cX1_between 5 (some .int))) := lw_V q267 q269 qs22 q30 q270
theorem kM_between : yX1_between.cls = RX1 ∧ yX1_between.cls ≠ "java/lang/invoke/MethodHandle" ∧ yX1_between.cls ≠ "java/lang/invoke/VarHandle" ∧ (parseMethodDescriptor yX1_between.desc).map (fun d => d.parameters.length) = some 2 := by decide +kernel
abbrev rmM_distance : Room := { frames := 1, cells := 0, slots := 0, locals := 21 }
theorem wLM_distance : GoodIn lw_all (wsV "SplitTreeLaw" 44 RX1 yX1_distance (ws_ yX1_distance cX1_distance 3 (some .int))) := lw_V q275 q276 q277 q30 q278
theorem kM_distance : yX1_distance.cls = RX1 ∧ yX1_distance.cls ≠ "java/lang/invoke/MethodHandle" ∧ yX1_distance.cls ≠ "java/lang/invoke/VarHandle" ∧ (parseMethodDescriptor yX1_distance.desc).map (fun d => d.parameters.length) = some 2 := by decide +kernel
abbrev rmM_drop : Room := { frames := 0, cells := 0, slots := 0, locals := 0 }
theorem wLM_drop : GoodIn lw_all (wsV "SplitTreeLaw" 22 RX1 yX1_drop (ws_ yX1_drop cX1_drop 1 (some .int))) := lw_V q239 q240 q241 q30 q242
theorem kM_drop : yX1_drop.cls = RX1 ∧ yX1_drop.cls ≠ "java/lang/invoke/MethodHandle" ∧ yX1_drop.cls ≠ "java/lang/invoke/VarHandle" ∧ (parseMethodDescriptor yX1_drop.desc).map (fun d => d.parameters.length) = some 0 := by decide +kernel
abbrev rmM_edge : Room := { frames := 2, cells := 0, slots := 0, locals := 49 }
theorem wLM_edge : GoodIn lw_all (wsV "SplitTreeLaw" 56 RX1 yX1_edge (ws_ yX1_edge cX1_edge 4 (some .int))) := lw_V q291 q292 q293 q30 q294
theorem kM_edge : yX1_edge.cls = RX1 ∧ yX1_edge.cls ≠ "java/lang/invoke/MethodHandle" ∧ yX1_edge.cls ≠ "java/lang/invoke/VarHandle" ∧ (parseMethodDescriptor yX1_edge.desc).map (fun d => d.parameters.length) = some 1 := by decide +kernel
abbrev rmM_edges : Room := { frames := 2, cells := 0, slots := 0, locals := 49 }
theorem wLM_edges : GoodIn lw_all (wsV "SplitTreeLaw" 52 RX1 yX1_edges (ws_ yX1_edges cX1_edges 3 (some .int))) := lw_V q287 q288 q289 q30 q290
theorem kM_edges : yX1_edges.cls = RX1 ∧ yX1_edges.cls ≠ "java/lang/invoke/MethodHandle" ∧ yX1_edges.cls ≠ "java/lang/invoke/VarHandle" ∧ (parseMethodDescriptor yX1_edges.desc).map (fun d => d.parameters.length) = some 0 := by decide +kernel
abbrev rmM_fits : Room := { frames := 1, cells := 0, slots := 0, locals := 23 }
theorem wM_fits : GoodIn lw_all (wsV RX1 56 RX1 yX1_fits (ws_ yX1_fits cX1_fits 8 (some .boolean))) := lw_V q323 q325 qs26 q30 q326
theorem kM_fits : yX1_fits.cls = RX1 ∧ yX1_fits.cls ≠ "java/lang/invoke/MethodHandle" ∧ yX1_fits.cls ≠ "java/lang/invoke/VarHandle" ∧ (parseMethodDescriptor yX1_fits.desc).map (fun d => d.parameters.length) = some 2 := by decide +kernel
abbrev rmM_index : Room := { frames := 1, cells := 0, slots := 0, locals := 28 }
theorem wLM_index : GoodIn lw_all (wsV "SplitTreeLaw" 48 RX1 yX1_index (ws_ yX1_index cX1_index 2 (some .int))) := lw_V q279 q280 q281 q30 q282
theorem kM_index : yX1_index.cls = RX1 ∧ yX1_index.cls ≠ "java/lang/invoke/MethodHandle" ∧ yX1_index.cls ≠ "java/lang/invoke/VarHandle" ∧ (parseMethodDescriptor yX1_index.desc).map (fun d => d.parameters.length) = some 1 := by decide +kernel
abbrev rmM_indexOf : Room := { frames := 0, cells := 0, slots := 0, locals := 0 }
theorem wM_indexOf : GoodIn lw_all (wsV RX1 31 RX1 yX1_indexOf (ws_ yX1_indexOf cX1_indexOf 9 (some .int))) := lw_V q263 q265 qs21 q30 q266
theorem kM_indexOf : yX1_indexOf.cls = RX1 ∧ yX1_indexOf.cls ≠ "java/lang/invoke/MethodHandle" ∧ yX1_indexOf.cls ≠ "java/lang/invoke/VarHandle" ∧ (parseMethodDescriptor yX1_indexOf.desc).map (fun d => d.parameters.length) = some 1 := by decide +kernel
abbrev rmM_is : Room := { frames := 0, cells := 0, slots := 0, locals := 0 }
theorem wM_is : GoodIn lw_all (wsV RX1 27 RX1 yX1_is (ws_ yX1_is cX1_is 2 (some .boolean))) := lw_V q247 q249 qs19 q30 q250
theorem kM_is : yX1_is.cls = RX1 ∧ yX1_is.cls ≠ "java/lang/invoke/MethodHandle" ∧ yX1_is.cls ≠ "java/lang/invoke/VarHandle" ∧ (parseMethodDescriptor yX1_is.desc).map (fun d => d.parameters.length) = some 1 := by decide +kernel
abbrev rmM_isSplit : Room := { frames := 0, cells := 0, slots := 0, locals := 0 }
theorem wM_isSplit : GoodIn lw_all (wsV RX1 42 RX1 yX1_isSplit (ws_ yX1_isSplit cX1_isSplit 2 (some .boolean))) := lw_V q283 q285 qs23 q30 q286
theorem kM_isSplit : yX1_isSplit.cls = RX1 ∧ yX1_isSplit.cls ≠ "java/lang/invoke/MethodHandle" ∧ yX1_isSplit.cls ≠ "java/lang/invoke/VarHandle" ∧ (parseMethodDescriptor yX1_isSplit.desc).map (fun d => d.parameters.length) = some 1 := by decide +kernel
abbrev rmM_level : Room := { frames := 0, cells := 0, slots := 0, locals := 0 }
theorem wM_level : GoodIn lw_all (wsV RX1 52 RX1 yX1_level (ws_ yX1_level cX1_level 4 (some .boolean))) := lw_V q327 q329 qs27 q30 q330
theorem kM_level : yX1_level.cls = RX1 ∧ yX1_level.cls ≠ "java/lang/invoke/MethodHandle" ∧ yX1_level.cls ≠ "java/lang/invoke/VarHandle" ∧ (parseMethodDescriptor yX1_level.desc).map (fun d => d.parameters.length) = some 3 := by decide +kernel
abbrev rmM_move : Room := { frames := 1, cells := 0, slots := 0, locals := 23 }
theorem wLM_move : GoodIn lw_all (wsV "SplitTreeLaw" 32 RX1 yX1_move (ws_ yX1_move cX1_move 7 (some .int))) := lw_V q251 q252 q253 q30 q254
theorem kM_move : yX1_move.cls = RX1 ∧ yX1_move.cls ≠ "java/lang/invoke/MethodHandle" ∧ yX1_move.cls ≠ "java/lang/invoke/VarHandle" ∧ (parseMethodDescriptor yX1_move.desc).map (fun d => d.parameters.length) = some 2 := by decide +kernel
abbrev rmM_point : Room := { frames := 1, cells := 0, slots := 0, locals := 23 }
theorem wLM_point : GoodIn lw_all (wsV "SplitTreeLaw" 17 RX1 yX1_point (ws_ yX1_point cX1_point 3 (some .int))) := lw_V q231 q232 q233 q30 q234
theorem kM_point : yX1_point.cls = RX1 ∧ yX1_point.cls ≠ "java/lang/invoke/MethodHandle" ∧ yX1_point.cls ≠ "java/lang/invoke/VarHandle" ∧ (parseMethodDescriptor yX1_point.desc).map (fun d => d.parameters.length) = some 1 := by decide +kernel
abbrev rmM_points : Room := { frames := 0, cells := 0, slots := 0, locals := 0 }
theorem wLM_points : GoodIn lw_all (wsV "SplitTreeLaw" 40 RX1 yX1_points (ws_ yX1_points cX1_points 1 (some .int))) := lw_V q271 q272 q273 q30 q274
theorem kM_points : yX1_points.cls = RX1 ∧ yX1_points.cls ≠ "java/lang/invoke/MethodHandle" ∧ yX1_points.cls ≠ "java/lang/invoke/VarHandle" ∧ (parseMethodDescriptor yX1_points.desc).map (fun d => d.parameters.length) = some 0 := by decide +kernel
abbrev rmM_put : Room := { frames := 0, cells := 0, slots := 0, locals := 0 }
theorem wM_put : GoodIn lw_all (wsV RX1 23 RX1 yX1_put (ws_ yX1_put cX1_put 4 none)) := lw_V q235 q237 qs18 q30 q238
theorem kM_put : yX1_put.cls = RX1 ∧ yX1_put.cls ≠ "java/lang/invoke/MethodHandle" ∧ yX1_put.cls ≠ "java/lang/invoke/VarHandle" ∧ (parseMethodDescriptor yX1_put.desc).map (fun d => d.parameters.length) = some 3 := by decide +kernel
abbrev rmM_set : Room := { frames := 1, cells := 0, slots := 0, locals := 23 }
theorem wLM_set : GoodIn lw_all (wsV "SplitTreeLaw" 27 RX1 yX1_set (ws_ yX1_set cX1_set 5 (some .int))) := lw_V q243 q244 q245 q30 q246
theorem kM_set : yX1_set.cls = RX1 ∧ yX1_set.cls ≠ "java/lang/invoke/MethodHandle" ∧ yX1_set.cls ≠ "java/lang/invoke/VarHandle" ∧ (parseMethodDescriptor yX1_set.desc).map (fun d => d.parameters.length) = some 3 := by decide +kernel
abbrev rmM_smooth : Room := { frames := 2, cells := 0, slots := 0, locals := 49 }
theorem wLM_smooth : GoodIn lw_all (wsV "SplitTreeLaw" 36 RX1 yX1_smooth (ws_ yX1_smooth cX1_smooth 5 (some .int))) := lw_V q255 q256 q257 q30 q258
theorem kM_smooth : yX1_smooth.cls = RX1 ∧ yX1_smooth.cls ≠ "java/lang/invoke/MethodHandle" ∧ yX1_smooth.cls ≠ "java/lang/invoke/VarHandle" ∧ (parseMethodDescriptor yX1_smooth.desc).map (fun d => d.parameters.length) = some 0 := by decide +kernel
abbrev rmM_span : Room := { frames := 2, cells := 0, slots := 0, locals := 49 }
theorem wLM_span : GoodIn lw_all (wsV "SplitTreeLaw" 80 RX1 yX1_span (ws_ yX1_span cX1_span 5 (some .int))) := lw_V q331 q332 q333 q30 q334
theorem kM_span : yX1_span.cls = RX1 ∧ yX1_span.cls ≠ "java/lang/invoke/MethodHandle" ∧ yX1_span.cls ≠ "java/lang/invoke/VarHandle" ∧ (parseMethodDescriptor yX1_span.desc).map (fun d => d.parameters.length) = some 0 := by decide +kernel
abbrev rmM_together : Room := { frames := 2, cells := 0, slots := 0, locals := 49 }
theorem wLM_together : GoodIn lw_all (wsV "SplitTreeLaw" 64 RX1 yX1_together (ws_ yX1_together cX1_together 3 (some .int))) := lw_V q299 q300 q301 q30 q302
theorem kM_together : yX1_together.cls = RX1 ∧ yX1_together.cls ≠ "java/lang/invoke/MethodHandle" ∧ yX1_together.cls ≠ "java/lang/invoke/VarHandle" ∧ (parseMethodDescriptor yX1_together.desc).map (fun d => d.parameters.length) = some 2 := by decide +kernel
abbrev rmM_treeDistance : Room := { frames := 2, cells := 0, slots := 0, locals := 49 }
theorem wLM_treeDistance : GoodIn lw_all (wsV "SplitTreeLaw" 60 RX1 yX1_treeDistance (ws_ yX1_treeDistance cX1_treeDistance 3 (some .int))) := lw_V q295 q296 q297 q30 q298
theorem kM_treeDistance : yX1_treeDistance.cls = RX1 ∧ yX1_treeDistance.cls ≠ "java/lang/invoke/MethodHandle" ∧ yX1_treeDistance.cls ≠ "java/lang/invoke/VarHandle" ∧ (parseMethodDescriptor yX1_treeDistance.desc).map (fun d => d.parameters.length) = some 2 := by decide +kernel
abbrev rmM_treelike : Room := { frames := 2, cells := 0, slots := 0, locals := 50 }
theorem wLM_treelike : GoodIn lw_all (wsV "SplitTreeLaw" 76 RX1 yX1_treelike (ws_ yX1_treelike cX1_treelike 3 (some .int))) := lw_V q319 q320 q321 q30 q322
theorem kM_treelike : yX1_treelike.cls = RX1 ∧ yX1_treelike.cls ≠ "java/lang/invoke/MethodHandle" ∧ yX1_treelike.cls ≠ "java/lang/invoke/VarHandle" ∧ (parseMethodDescriptor yX1_treelike.desc).map (fun d => d.parameters.length) = some 0 := by decide +kernel
abbrev rmM_weight : Room := { frames := 2, cells := 0, slots := 0, locals := 49 }
theorem wLM_weight : GoodIn lw_all (wsV "SplitTreeLaw" 84 RX1 yX1_weight (ws_ yX1_weight cX1_weight 3 (some .int))) := lw_V q335 q336 q337 q30 q338
theorem kM_weight : yX1_weight.cls = RX1 ∧ yX1_weight.cls ≠ "java/lang/invoke/MethodHandle" ∧ yX1_weight.cls ≠ "java/lang/invoke/VarHandle" ∧ (parseMethodDescriptor yX1_weight.desc).map (fun d => d.parameters.length) = some 0 := by decide +kernel
abbrev rmM_work : Room := { frames := 1, cells := 0, slots := 0, locals := 28 }
theorem wM_work : GoodIn lw_all (wsV RX1 35 RX1 yX1_work (ws_ yX1_work cX1_work 2 none)) := lw_V q259 q261 qs20 q30 q262
theorem kM_work : yX1_work.cls = RX1 ∧ yX1_work.cls ≠ "java/lang/invoke/MethodHandle" ∧ yX1_work.cls ≠ "java/lang/invoke/VarHandle" ∧ (parseMethodDescriptor yX1_work.desc).map (fun d => d.parameters.length) = some 0 := by decide +kernel
end
section
/-! pure words of the walks: what the methods compute -/
set_option maxRecDepth 100000
def nF (d : Nat → Nat) : Nat → Int32 := fun k => nI (d k)
def up_d (d : Nat → Nat) (i v : Nat) : Nat → Nat := fun k => if k = i then v else d k
def putD (d : Nat → Nat) (i j v : Nat) : Nat → Nat := up_d (up_d d (7 * i + j) v) (7 * j + i) v
theorem upd_nF (d : Nat → Nat) (i v : Nat) : upd (nF d) i (nI v) = nF (up_d d i v) := by
  funext k
  unfold upd nF up_d
  split <;> rfl
theorem upd_nFb (d : Nat → Nat) (i : Nat) {v : Nat} (h : v < 128) : upd (nF d) i (vp_nar .byte (nI v)) = nF (up_d d i v) := by
  rw [narN h]
  exact upd_nF d i v
def miss (n : Nat) (z : Int) : Bool := decide (z < 0 ∨ (n : Int) ≤ z)
theorem miss_t {n : Nat} {z : Int} (h : miss n z = true) : z < 0 ∨ (n : Int) ≤ z := of_decide_eq_true h
theorem miss_f {n : Nat} {z : Int} (h : miss n z = false) : ¬ (z < 0 ∨ (n : Int) ≤ z) := of_decide_eq_false h
theorem miss_1 {n : Nat} {z : Int} (h : z < 0 ∨ (n : Int) ≤ z) : nI 1 = bI (miss n z) := by
  unfold miss
  rw [decide_eq_true h]
  rfl
theorem miss_0 {n : Nat} {z : Int} (h : ¬ (z < 0 ∨ (n : Int) ≤ z)) : nI 0 = bI (miss n z) := by
  unfold miss
  rw [decide_eq_false h]
  rfl
/-- the distances behind point: the new one's own, then those to the first i -/
def ptD (d : Nat → Nat) (n v : Nat) : Nat → (Nat → Nat)
  | 0 => up_d d (8 * n) 0
  | i + 1 => putD (ptD d n v i) i n v
def spPoint (n : Nat) (d : Nat → Nat) (z : Int) : Int32 × Nat × (Nat → Nat) := if z < 0 ∨ 60 < z then (iI (-1000), n, d) else if n = 7 then (iI (-1001), n, d) else (nI n, n + 1, ptD d n z.toNat n)
def spDrop (n : Nat) (d : Nat → Nat) : Int32 × Nat × (Nat → Nat) := if n = 0 then (iI (-1002), n, d) else (nI (n - 1), n - 1, d)
def spSet (n : Nat) (d : Nat → Nat) (x y z : Int) : Int32 × Nat × (Nat → Nat) := if (x < 0 ∨ (n : Int) ≤ x) ∨ (y < 0 ∨ (n : Int) ≤ y) ∨ x = y ∨ z < 0 ∨ 60 < z then (iI (-1000), n, d) else (nI (d (7 * x.toNat + y.toNat)), n, putD d x.toNat y.toNat z.toNat)
def spDist (n : Nat) (d : Nat → Nat) (x y : Int) : Int32 := if (x < 0 ∨ (n : Int) ≤ x) ∨ (y < 0 ∨ (n : Int) ≤ y) then iI (-1000) else nI (d (7 * x.toNat + y.toNat))
/-- move, the first k pairs: the distances and how many changed -/
def mv (x : Int32) (z : Int) (n : Nat) (d : Nat → Nat) : Nat → (Nat → Nat) × Nat
  | 0 => (d, 0)
  | k + 1 => if bt x (k / n) = true ∧ bt x (k % n) = false ∧ 0 ≤ ((mv x z n d k).1 (7 * (k / n) + k % n) : Int) + z ∧ ((mv x z n d k).1 (7 * (k / n) + k % n) : Int) + z ≤ 60 then
      (putD (mv x z n d k).1 (k / n) (k % n) (((mv x z n d k).1 (7 * (k / n) + k % n) : Int) + z).toNat, if z = 0 then (mv x z n d k).2 else (mv x z n d k).2 + 1)
    else mv x z n d k
def spMove (n : Nat) (d : Nat → Nat) (x : Int32) (z : Int) : Int32 × Nat × (Nat → Nat) := if z < -60 ∨ 60 < z then (iI (-1000), n, d) else (nI (mv x z n d (n * n)).2, n, (mv x z n d (n * n)).1)
def qv (d : Nat → Nat) (a x b y : Nat) : Int := ((d (7 * a + x) + d (7 * b + y) : Nat) : Int) - ((d (7 * a + b) : Nat) : Int) - ((d (7 * x + y) : Nat) : Int)
/-- leastFor, the first k pairs -/
def lf (d : Nat → Nat) (S n a b : Nat) : Nat → Int
  | 0 => 1000
  | k + 1 => if Nat.testBit S (k / n) = false ∧ Nat.testBit S (k % n) = false ∧ qv d a (k / n) b (k % n) < lf d S n a b k then qv d a (k / n) b (k % n) else lf d S n a b k
/-- indexOf, the first k pairs -/
def ixf (d : Nat → Nat) (S n : Nat) : Nat → Int
  | 0 => 1000
  | k + 1 => if k / n ≤ k % n ∧ Nat.testBit S (k / n) = true ∧ Nat.testBit S (k % n) = true ∧ lf d S n (k / n) (k % n) (n * n) < ixf d S n k then lf d S n (k / n) (k % n) (n * n) else ixf d S n k
def idx (d : Nat → Nat) (S n : Nat) : Int := ixf d S n (n * n)
theorem mv_s (x : Int32) (z : Int) (n : Nat) (d : Nat → Nat) (k : Nat) : mv x z n d (k + 1) = if bt x (k / n) = true ∧ bt x (k % n) = false ∧ 0 ≤ ((mv x z n d k).1 (7 * (k / n) + k % n) : Int) + z ∧ ((mv x z n d k).1 (7 * (k / n) + k % n) : Int) + z ≤ 60 then
      (putD (mv x z n d k).1 (k / n) (k % n) (((mv x z n d k).1 (7 * (k / n) + k % n) : Int) + z).toNat, if z = 0 then (mv x z n d k).2 else (mv x z n d k).2 + 1)
    else mv x z n d k := rfl
theorem lf_s (d : Nat → Nat) (S n a b k : Nat) : lf d S n a b (k + 1) = if Nat.testBit S (k / n) = false ∧ Nat.testBit S (k % n) = false ∧ qv d a (k / n) b (k % n) < lf d S n a b k then qv d a (k / n) b (k % n) else lf d S n a b k := rfl
theorem ixf_s (d : Nat → Nat) (S n k : Nat) : ixf d S n (k + 1) = if k / n ≤ k % n ∧ Nat.testBit S (k / n) = true ∧ Nat.testBit S (k % n) = true ∧ lf d S n (k / n) (k % n) (n * n) < ixf d S n k then lf d S n (k / n) (k % n) (n * n) else ixf d S n k := rfl
theorem qv_bd {d : Nat → Nat} (hd : ∀ k, d k ≤ 60) (a x b y : Nat) : -120 ≤ qv d a x b y ∧ qv d a x b y ≤ 120 := by
  have h1 := hd (7 * a + x)
  have h2 := hd (7 * b + y)
  have h3 := hd (7 * a + b)
  have h4 := hd (7 * x + y)
  unfold qv
  omega
theorem lf_bd {d : Nat → Nat} (hd : ∀ k, d k ≤ 60) (S n a b : Nat) : ∀ k, -120 ≤ lf d S n a b k ∧ lf d S n a b k ≤ 1000
  | 0 => by unfold lf; omega
  | k + 1 => by
    have h1 := lf_bd hd S n a b k
    have h2 := qv_bd hd a (k / n) b (k % n)
    unfold lf
    split <;> omega
theorem ixf_bd {d : Nat → Nat} (hd : ∀ k, d k ≤ 60) (S n : Nat) : ∀ k, -120 ≤ ixf d S n k ∧ ixf d S n k ≤ 1000
  | 0 => by unfold ixf; omega
  | k + 1 => by
    have h1 := ixf_bd hd S n k
    have h2 := lf_bd hd S n (k / n) (k % n) (n * n)
    unfold ixf
    split <;> omega
theorem idx_bd {d : Nat → Nat} (hd : ∀ k, d k ≤ 60) (S n : Nat) : -120 ≤ idx d S n ∧ idx d S n ≤ 1000 := ixf_bd hd S n (n * n)
theorem kdiv {n k : Nat} (h : k < n * n) : 0 < n ∧ k / n < n ∧ k % n < n := by
  have h0 : 0 < n := by
    rcases Nat.eq_zero_or_pos n with e | e
    · subst e
      omega
    · exact e
  exact ⟨h0, Nat.div_lt_of_lt_mul h, Nat.mod_lt _ h0⟩
theorem mv_in {x : Int32} {z : Int} {n k : Nat} {d : Nat → Nat} (h1 : bt x (k / n) = true) (h2 : bt x (k % n) = false) (h3 : 0 ≤ ((mv x z n d k).1 (7 * (k / n) + k % n) : Int) + z) (h4 : ((mv x z n d k).1 (7 * (k / n) + k % n) : Int) + z ≤ 60) : mv x z n d (k + 1) = (putD (mv x z n d k).1 (k / n) (k % n) (((mv x z n d k).1 (7 * (k / n) + k % n) : Int) + z).toNat, if z = 0 then (mv x z n d k).2 else (mv x z n d k).2 + 1) := by
  rw [mv, if_pos ⟨h1, h2, h3, h4⟩]
theorem putD_le {d : Nat → Nat} (hd : ∀ k, d k ≤ 60) {i j v : Nat} (hv : v ≤ 60) : ∀ k, putD d i j v k ≤ 60 := by
  intro k
  unfold putD up_d
  have := hd k
  split
  · exact hv
  · split
    · exact hv
    · exact this
theorem mv_le {x : Int32} {z : Int} {n : Nat} {d : Nat → Nat} (hd : ∀ k, d k ≤ 60) : ∀ k j, (mv x z n d k).1 j ≤ 60
  | 0 => hd
  | k + 1 => by
    intro j
    unfold mv
    split
    · next h => exact putD_le (mv_le hd k) (by omega) j
    · exact mv_le hd k j
end
section
/-! pure words, second: edges as lists of (side, index) -/
set_option maxRecDepth 100000
abbrev EL := List (Nat × Nat)
def hold (sd ix : Nat → Int32) (L : EL) : Prop := ∀ k q, L[k]? = some q → sd k = nI q.1 ∧ ix k = nI q.2
def sdN (L : EL) (k : Nat) : Nat := (L.getD k (0, 0)).1
def ixN (L : EL) (k : Nat) : Nat := (L.getD k (0, 0)).2
def good (L : EL) : Prop := ∀ q ∈ L, q.1 < 128 ∧ q.2 ≤ 1000
def Srt (L : EL) : Prop := L.Pairwise (fun p q => p.1 < q.1)
theorem sdN_at {L : EL} {k : Nat} {q : Nat × Nat} (h : L[k]? = some q) : sdN L k = q.1 ∧ ixN L k = q.2 := by
  unfold sdN ixN
  rw [List.getD_eq_getElem?_getD, h]
  exact ⟨rfl, rfl⟩
theorem sdN_get {L : EL} {k : Nat} (h : k < L.length) : L[k]? = some (sdN L k, ixN L k) := by
  obtain ⟨q, hq⟩ : ∃ q, L[k]? = some q := ⟨L[k], List.getElem?_eq_getElem h⟩
  obtain ⟨h1, h2⟩ := sdN_at hq
  rw [hq, h1, h2]
theorem hold.sd {sd ix : Nat → Int32} {L : EL} (h : hold sd ix L) {k : Nat} (hk : k < L.length) : sd k = nI (sdN L k) := (h k _ (sdN_get hk)).1
theorem hold.ix {sd ix : Nat → Int32} {L : EL} (h : hold sd ix L) {k : Nat} (hk : k < L.length) : ix k = nI (ixN L k) := (h k _ (sdN_get hk)).2
theorem good.sd {L : EL} (h : good L) (k : Nat) : sdN L k < 128 := by
  rcases Nat.lt_or_ge k L.length with hk | hk
  · exact (h _ (List.mem_of_getElem? (sdN_get hk))).1
  · unfold sdN
    rw [List.getD_eq_getElem?_getD, List.getElem?_eq_none hk]
    decide
theorem good.ix {L : EL} (h : good L) (k : Nat) : ixN L k ≤ 1000 := by
  rcases Nat.lt_or_ge k L.length with hk | hk
  · exact (h _ (List.mem_of_getElem? (sdN_get hk))).2
  · unfold ixN
    rw [List.getD_eq_getElem?_getD, List.getElem?_eq_none hk]
    decide
theorem upd_at (f : Nat → Int32) (k : Nat) (x : Int32) : upd f k x k = x := pk_us
theorem upd_ne {f : Nat → Int32} {k j : Nat} {x : Int32} (h : j ≠ k) : upd f k x j = f j := pk_un h
theorem pow7 {n : Nat} (h : n ≤ 7) : 2 ^ n ≤ 128 := Nat.pow_le_pow_right (by decide) h
theorem hold_push {fs fi : Nat → Int32} {F : EL} (h : hold fs fi F) (q : Nat × Nat) : hold (upd fs F.length (nI q.1)) (upd fi F.length (nI q.2)) (F ++ [q]) := by
  intro k p hk
  rcases Nat.lt_trichotomy k F.length with h1 | h1 | h1
  · rw [List.getElem?_append_left h1] at hk
    rw [upd_ne (by omega), upd_ne (by omega)]
    exact h k p hk
  · subst h1
    rw [List.getElem?_append_right (Nat.le_refl _), Nat.sub_self] at hk
    cases hk
    rw [upd_at, upd_at]
    exact ⟨rfl, rfl⟩
  · rw [List.getElem?_eq_none (by simp; omega)] at hk
    cases hk
def tryF (d : Nat → Nat) (S n : Nat) (F : EL) : EL := if S = 2 ^ n - 1 then F else if 0 < idx d S n then F ++ [(S, (idx d S n).toNat)] else F
def addF (d : Nat → Nat) (m : Nat) (E : EL) : Nat → EL
  | 0 => tryF d (2 ^ m - 1) (m + 1) []
  | k + 1 => tryF d (sdN E k ||| 2 ^ m) (m + 1) (tryF d (sdN E k) (m + 1) (addF d m E k))
theorem tryF_len (d : Nat → Nat) (S n : Nat) (F : EL) : (tryF d S n F).length ≤ F.length + 1 := by
  unfold tryF
  split
  · omega
  · split
    · simp
    · omega
theorem addF_len (d : Nat → Nat) (m : Nat) (E : EL) : ∀ k, (addF d m E k).length ≤ 2 * k + 1
  | 0 => by
    have := tryF_len d (2 ^ m - 1) (m + 1) []
    unfold addF
    simp at this ⊢
    omega
  | k + 1 => by
    have h1 := addF_len d m E k
    have h2 := tryF_len d (sdN E k) (m + 1) (addF d m E k)
    have h3 := tryF_len d (sdN E k ||| 2 ^ m) (m + 1) (tryF d (sdN E k) (m + 1) (addF d m E k))
    unfold addF
    omega
theorem tryF_good {d : Nat → Nat} (hd : ∀ k, d k ≤ 60) {S n : Nat} {F : EL} (hS : S < 128) (h : good F) : good (tryF d S n F) := by
  unfold tryF
  split
  · exact h
  · split
    · intro q hq
      rcases List.mem_append.mp hq with h1 | h1
      · exact h q h1
      · rw [List.mem_singleton.mp h1]
        have := idx_bd hd S n
        exact ⟨hS, by show (idx d S n).toNat ≤ 1000; omega⟩
    · exact h
theorem or_lt7 {a b : Nat} (ha : a < 128) (hb : b < 128) : a ||| b < 128 := Nat.or_lt_two_pow (n := 7) ha hb
theorem addF_good {d : Nat → Nat} (hd : ∀ k, d k ≤ 60) {m : Nat} {E : EL} (hm : m < 7) (hE : good E) : ∀ k, good (addF d m E k)
  | 0 => by
    unfold addF
    have : 2 ^ m ≤ 128 := pow7 (by omega)
    exact tryF_good hd (by omega) (fun q h => by cases h)
  | k + 1 => by
    unfold addF
    have : 2 ^ m ≤ 2 ^ 6 := Nat.pow_le_pow_right (by decide) (by omega)
    exact tryF_good hd (or_lt7 (hE.sd k) (by omega)) (tryF_good hd (hE.sd k) (addF_good hd hm hE k))
/-- the while loop of sortFresh: the places from a on are moved up by one, and are greater than s -/
def insI (sd ix : Nat → Int32) (L : EL) (a s : Nat) : Prop := a ≤ L.length ∧ (∀ j q, j < a → L[j]? = some q → sd j = nI q.1 ∧ ix j = nI q.2) ∧ (∀ j q, a ≤ j → L[j]? = some q → sd (j + 1) = nI q.1 ∧ ix (j + 1) = nI q.2 ∧ s < q.1)
theorem insI_0 {sd ix : Nat → Int32} {L : EL} (h : hold sd ix L) (s : Nat) : insI sd ix L L.length s :=
  ⟨Nat.le_refl _, fun j q _ hj => h j q hj, fun j q h1 hj => by rw [List.getElem?_eq_none h1] at hj; cases hj⟩
theorem insI.sd {sd ix : Nat → Int32} {L : EL} {a s : Nat} (h : insI sd ix L a s) {j : Nat} (hj : j < a) : sd j = nI (sdN L j) := (h.2.1 j _ hj (sdN_get (by have := h.1; omega))).1
theorem insI.ix {sd ix : Nat → Int32} {L : EL} {a s : Nat} (h : insI sd ix L a s) {j : Nat} (hj : j < a) : ix j = nI (ixN L j) := (h.2.1 j _ hj (sdN_get (by have := h.1; omega))).2
theorem insI_step {sd ix : Nat → Int32} {L : EL} {b s : Nat} (h : insI sd ix L (b + 1) s) (hs : s < sdN L b) : insI (upd sd (b + 1) (nI (sdN L b))) (upd ix (b + 1) (nI (ixN L b))) L b s := by
  obtain ⟨h1, h2, h3⟩ := h
  refine ⟨by omega, fun j q hj hq => ?_, fun j q hj hq => ?_⟩
  · rw [upd_ne (by omega), upd_ne (by omega)]
    exact h2 j q (by omega) hq
  · by_cases e : j = b
    · subst e
      obtain ⟨e1, e2⟩ := sdN_at hq
      rw [upd_at, upd_at, e1, e2]
      exact ⟨rfl, rfl, by rw [← e1]; exact hs⟩
    · rw [upd_ne (by omega), upd_ne (by omega)]
      exact h3 j q (by omega) hq
def insL (L : EL) (a : Nat) (q : Nat × Nat) : EL := L.take a ++ q :: L.drop a
theorem insL_len {L : EL} {a : Nat} (q : Nat × Nat) : (insL L a q).length = L.length + 1 := by
  unfold insL
  simp
  omega
theorem insL_mem {L : EL} {a : Nat} {q p : Nat × Nat} : p ∈ insL L a q ↔ p = q ∨ p ∈ L := by
  unfold insL
  rw [List.mem_append, List.mem_cons]
  have h : p ∈ L ↔ p ∈ L.take a ∨ p ∈ L.drop a := by rw [← List.mem_append, List.take_append_drop]
  rw [h]
  constructor
  · rintro (h | h | h)
    · exact Or.inr (Or.inl h)
    · exact Or.inl h
    · exact Or.inr (Or.inr h)
  · rintro (h | h | h)
    · exact Or.inr (Or.inl h)
    · exact Or.inl h
    · exact Or.inr (Or.inr h)
theorem insI_end {sd ix : Nat → Int32} {L : EL} {a : Nat} {q : Nat × Nat} (h : insI sd ix L a q.1) : hold (upd sd a (nI q.1)) (upd ix a (nI q.2)) (insL L a q) := by
  obtain ⟨h1, h2, h3⟩ := h
  have hta : (L.take a).length = a := by rw [List.length_take]; omega
  intro k p hk
  unfold insL at hk
  rcases Nat.lt_trichotomy k a with h4 | h4 | h4
  · rw [List.getElem?_append_left (by omega), List.getElem?_take_of_lt h4] at hk
    rw [upd_ne (by omega), upd_ne (by omega)]
    exact h2 k p h4 hk
  · subst h4
    rw [List.getElem?_append_right (by omega), hta, Nat.sub_self] at hk
    cases hk
    rw [upd_at, upd_at]
    exact ⟨rfl, rfl⟩
  · obtain ⟨j, rfl⟩ : ∃ j, k = j + 1 := ⟨k - 1, by omega⟩
    rw [List.getElem?_append_right (by omega), hta, show j + 1 - a = (j - a) + 1 from by omega, List.getElem?_cons_succ, List.getElem?_drop, show a + (j - a) = j from by omega] at hk
    rw [upd_ne (by omega), upd_ne (by omega)]
    obtain ⟨e1, e2, -⟩ := h3 j p (by omega) hk
    exact ⟨e1, e2⟩
theorem Srt.lt {L : EL} (h : Srt L) {i j : Nat} {p q : Nat × Nat} (hij : i < j) (hi : L[i]? = some p) (hj : L[j]? = some q) : p.1 < q.1 := by
  obtain ⟨l1, e1⟩ := List.getElem?_eq_some_iff.mp hi
  obtain ⟨l2, e2⟩ := List.getElem?_eq_some_iff.mp hj
  have := List.pairwise_iff_getElem.mp h i j l1 l2 hij
  rw [e1, e2] at this
  exact this
theorem insI_srt {sd ix : Nat → Int32} {L : EL} {a : Nat} {q : Nat × Nat} (h : insI sd ix L a q.1) (hs : Srt L) (ha : ∀ b, a = b + 1 → sdN L b < q.1) : Srt (insL L a q) := by
  obtain ⟨h1, h2, h3⟩ := h
  unfold insL Srt
  rw [List.pairwise_append, List.pairwise_cons]
  refine ⟨hs.sublist (List.take_sublist a L), ⟨fun p hp => ?_, hs.sublist (List.drop_sublist a L)⟩, fun p hp r hr => ?_⟩
  · obtain ⟨j, hj⟩ := List.getElem?_of_mem hp
    rw [List.getElem?_drop] at hj
    exact (h3 _ p (by omega) hj).2.2
  · obtain ⟨i, hi⟩ := List.getElem?_of_mem hp
    have hia : i < a := by
      have := (List.getElem?_eq_some_iff.mp hi).1
      rw [List.length_take] at this
      omega
    rw [List.getElem?_take_of_lt hia] at hi
    have hpq : p.1 < q.1 := by
      obtain ⟨b, rfl⟩ : ∃ b, a = b + 1 := ⟨a - 1, by omega⟩
      have h5 := ha b rfl
      rcases Nat.lt_or_ge i b with h6 | h6
      · have := hs.lt h6 hi (sdN_get (by omega))
        simp only at this
        omega
      · obtain rfl : i = b := by omega
        rw [(sdN_at hi).1] at h5
        exact h5
    rcases List.mem_cons.mp hr with h6 | h6
    · rw [h6]; exact hpq
    · obtain ⟨j, hj⟩ := List.getElem?_of_mem h6
      rw [List.getElem?_drop] at hj
      have := (h3 _ r (by omega) hj).2.2
      omega
/-- all edges of the first n points, in order -/
def Es (d : Nat → Nat) (n : Nat) : EL := ((List.range (2 ^ n - 1)).filter (fun S => decide (S % 2 = 1) && decide (0 < idx d S n))).map (fun S => (S, (idx d S n).toNat))
theorem Es_1 (d : Nat → Nat) : Es d 1 = [] := rfl
theorem Es_0 (d : Nat → Nat) : Es d 0 = [] := rfl
/-- what find rests on: shown of all distances in a later part -/
def FindOK (d : Nat → Nat) : Prop := ∀ q, q ≤ 7 → (Es d q).length ≤ 15 ∧ good (Es d q) ∧ (1 ≤ q → q < 7 → (addF d q (Es d q) (Es d q).length).Pairwise (fun p q => p.1 ≠ q.1) ∧ ∀ L : EL, Srt L → (∀ x, x ∈ L ↔ x ∈ addF d q (Es d q) (Es d q).length) → L = Es d (q + 1))
/-- the sum of the indices of the first k edges that part i and j -/
def pthf (L : EL) (i j : Nat) : Nat → Nat
  | 0 => 0
  | k + 1 => if (Nat.testBit (sdN L k) i != Nat.testBit (sdN L k) j) = true then pthf L i j k + ixN L k else pthf L i j k
theorem pthf_s (L : EL) (i j k : Nat) : pthf L i j (k + 1) = if (Nat.testBit (sdN L k) i != Nat.testBit (sdN L k) j) = true then pthf L i j k + ixN L k else pthf L i j k := rfl
def pathL (L : EL) (i j : Nat) : Nat := pthf L i j L.length
theorem pthf_le {L : EL} (hg : good L) (i j : Nat) : ∀ k, pthf L i j k ≤ 1000 * k
  | 0 => Nat.le_refl _
  | k + 1 => by
    have h1 := pthf_le hg i j k
    have h2 := hg.ix k
    rw [pthf_s]
    split <;> omega
def bads (n : Nat) (z : Int) : Bool := decide (n < 2 ∨ z < 1 ∨ ((2 ^ n - 1 : Nat) : Int) ≤ z ∨ z % 2 = 0)
theorem bads_1 {n : Nat} {z : Int} (h : n < 2 ∨ z < 1 ∨ ((2 ^ n - 1 : Nat) : Int) ≤ z ∨ z % 2 = 0) : nI 1 = bI (bads n z) := by
  unfold bads
  rw [decide_eq_true h]
  rfl
theorem bads_0 {n : Nat} {z : Int} (h : ¬ (n < 2 ∨ z < 1 ∨ ((2 ^ n - 1 : Nat) : Int) ≤ z ∨ z % 2 = 0)) : nI 0 = bI (bads n z) := by
  unfold bads
  rw [decide_eq_false h]
  rfl
theorem bads_f {n : Nat} {z : Int} (h : bads n z = false) : ¬ (n < 2 ∨ z < 1 ∨ ((2 ^ n - 1 : Nat) : Int) ≤ z ∨ z % 2 = 0) := of_decide_eq_false h
def spIndex (n : Nat) (d : Nat → Nat) (z : Int) : Int32 := if bads n z = true then iI (-1000) else iI (idx d z.toNat n)
def agr (n S T : Nat) : Bool := decide (S &&& T = S ∨ T &&& S = T ∨ S ||| T = 2 ^ n - 1)
theorem andn {S T : Nat} (hS : S < 128) (hT : T < 128) : nI S &&& (nI T ^^^ iI (-1)) = 0 ↔ S &&& T = S := by
  have key : ∀ i, i < 32 → bt (nI S &&& (nI T ^^^ iI (-1))) i = (S.testBit i && !T.testBit i) := by
    intro i hi
    rw [b_and, b_xor, bt_nI S hi, bt_nI T hi, show iI (-1) = -1 from by decide, b_m1 i hi]
    simp
  have hbig : ∀ i, ¬ i < 32 → S.testBit i = false := fun i hi => Nat.testBit_lt_two_pow (Nat.lt_of_lt_of_le hS (show 2 ^ 7 ≤ 2 ^ i from Nat.pow_le_pow_right (by decide) (by omega)))
  constructor
  · intro h
    apply Nat.eq_of_testBit_eq
    intro i
    rw [Nat.testBit_and]
    by_cases hi : i < 32
    · have := key i hi
      rw [h, b_0] at this
      revert this
      generalize S.testBit i = a
      generalize T.testBit i = b
      cases a <;> cases b <;> decide
    · rw [hbig i hi]
      rfl
  · intro h
    apply b_ext
    intro i hi
    rw [key i hi, b_0]
    have h2 : (S &&& T).testBit i = S.testBit i := by rw [h]
    rw [Nat.testBit_and] at h2
    revert h2
    generalize S.testBit i = a
    generalize T.testBit i = b
    cases a <;> cases b <;> decide
theorem agr_1 {n S T : Nat} (h : S &&& T = S ∨ T &&& S = T ∨ S ||| T = 2 ^ n - 1) : nI 1 = bI (agr n S T) := by
  unfold agr
  rw [decide_eq_true h]
  rfl
theorem agr_0 {n S T : Nat} (h : ¬ (S &&& T = S ∨ T &&& S = T ∨ S ||| T = 2 ^ n - 1)) : nI 0 = bI (agr n S T) := by
  unfold agr
  rw [decide_eq_false h]
  rfl
def agf (L : EL) (n S : Nat) : Nat → Bool
  | 0 => true
  | k + 1 => agf L n S k && agr n S (sdN L k)
theorem agf_stop {L : EL} {n S k : Nat} (h : agf L n S k = false) : ∀ j, agf L n S (k + j) = false
  | 0 => h
  | j + 1 => by
    show (agf L n S (k + j) && _) = false
    rw [agf_stop h j]
    rfl
theorem agf_stop' {L : EL} {n S k m : Nat} (h : agf L n S k = false) (hm : k ≤ m) : agf L n S m = false := by
  have := agf_stop h (m - k)
  rw [show k + (m - k) = m from by omega] at this
  exact this
theorem narB (b : Bool) : narrow .boolean (.int (bI b)) = .int (bI b) := by cases b <;> rfl
def spAgrees (n : Nat) (L : EL) (z : Int) : Int32 := if bads n z = true then iI (-1000) else bI (agf L n z.toNat L.length)
/-- above(k), over the first q edges -/
def abv (L : EL) (k : Nat) : Nat → Int
  | 0 => -1
  | q + 1 => if (q ≠ k ∧ sdN L q &&& sdN L k = sdN L q) ∧ (abv L k q < 0 ∨ sdN L (abv L k q).toNat &&& sdN L q = sdN L (abv L k q).toNat) then (q : Int) else abv L k q
theorem abv_s (L : EL) (k q : Nat) : abv L k (q + 1) = if (q ≠ k ∧ sdN L q &&& sdN L k = sdN L q) ∧ (abv L k q < 0 ∨ sdN L (abv L k q).toNat &&& sdN L q = sdN L (abv L k q).toNat) then (q : Int) else abv L k q := rfl
theorem abv_bd (L : EL) (k : Nat) : ∀ q, -1 ≤ abv L k q ∧ abv L k q < q
  | 0 => by unfold abv; omega
  | q + 1 => by
    have := abv_bd L k q
    rw [abv_s]
    split <;> omega
def hom (L : EL) (i : Nat) : Nat → Int
  | 0 => -1
  | q + 1 => if Nat.testBit (sdN L q) i = false ∧ (hom L i q < 0 ∨ sdN L (hom L i q).toNat &&& sdN L q = sdN L (hom L i q).toNat) then (q : Int) else hom L i q
theorem hom_s (L : EL) (i q : Nat) : hom L i (q + 1) = if Nat.testBit (sdN L q) i = false ∧ (hom L i q < 0 ∨ sdN L (hom L i q).toNat &&& sdN L q = sdN L (hom L i q).toNat) then (q : Int) else hom L i q := rfl
theorem hom_bd (L : EL) (i : Nat) : ∀ q, -1 ≤ hom L i q ∧ hom L i q < q
  | 0 => by unfold hom; omega
  | q + 1 => by
    have := hom_bd L i q
    rw [hom_s]
    split <;> omega
def cntI (f : Nat → Int) (k : Int) : Nat → Nat
  | 0 => 0
  | q + 1 => if f q = k then cntI f k q + 1 else cntI f k q
theorem cntI_s (f : Nat → Int) (k : Int) (q : Nat) : cntI f k (q + 1) = if f q = k then cntI f k q + 1 else cntI f k q := rfl
theorem cntI_le (f : Nat → Int) (k : Int) : ∀ q, cntI f k q ≤ q
  | 0 => Nat.le_refl _
  | q + 1 => by
    have := cntI_le f k q
    rw [cntI_s]
    split <;> omega
def cA (L : EL) (k : Int) : Nat → Nat := cntI (fun q => abv L q L.length) k
def cH (L : EL) (k : Int) : Nat → Nat := cntI (fun i => hom L i L.length) k
def prA (L : EL) (n : Nat) (k : Int) : Nat := (if k < 0 then 0 else 1) + cA L k L.length + cH L k n
def aloA (L : EL) (n : Nat) (k : Int) : Int := if prA L n k = 2 ∧ 1 < ((prA L n k : Nat) : Int) - ((cH L k n : Nat) : Int) then 1 else ((prA L n k : Nat) : Int) - ((cH L k n : Nat) : Int)
/-- agreeing, the first t vertices (-1, 0, ..) -/
def agS (L : EL) (n : Nat) : Nat → Int
  | 0 => (L.length : Int)
  | t + 1 => if 1 < prA L n ((t : Int) - 1) then agS L n t + ((2 ^ (prA L n ((t : Int) - 1) - 1) : Nat) : Int) - 1 - aloA L n ((t : Int) - 1) else agS L n t
theorem agS_s (L : EL) (n t : Nat) : agS L n (t + 1) = if 1 < prA L n ((t : Int) - 1) then agS L n t + ((2 ^ (prA L n ((t : Int) - 1) - 1) : Nat) : Int) - 1 - aloA L n ((t : Int) - 1) else agS L n t := rfl
theorem prA_le (L : EL) (n : Nat) (k : Int) : prA L n k ≤ 1 + L.length + n := by
  have h1 : cA L k L.length ≤ L.length := cntI_le _ _ _
  have h2 : cH L k n ≤ n := cntI_le _ _ _
  unfold prA
  split <;> omega
def tlf (L : EL) (n : Nat) (d : Nat → Nat) : Nat → Bool
  | 0 => true
  | k + 1 => tlf L n d k && decide (pathL L (k / n) (k % n) = 2 * d (7 * (k / n) + k % n))
def spf (L : EL) (n : Nat) : Nat → Nat
  | 0 => 0
  | k + 1 => if spf L n k < pathL L (k / n) (k % n) then pathL L (k / n) (k % n) else spf L n k
theorem spf_s (L : EL) (n k : Nat) : spf L n (k + 1) = if spf L n k < pathL L (k / n) (k % n) then pathL L (k / n) (k % n) else spf L n k := rfl
theorem spf_le {L : EL} (hg : good L) (hl : L.length ≤ 32) (n : Nat) : ∀ k, spf L n k ≤ 32000
  | 0 => Nat.zero_le _
  | k + 1 => by
    have h1 := spf_le hg hl n k
    have h2 : pathL L (k / n) (k % n) ≤ 1000 * L.length := pthf_le hg _ _ _
    rw [spf_s]
    split <;> omega
def wgf (L : EL) : Nat → Nat
  | 0 => 0
  | k + 1 => wgf L k + ixN L k
def smh (L : EL) (n k : Nat) : Nat := if 60 < pathL L (k / n) (k % n) / 2 then 60 else pathL L (k / n) (k % n) / 2
def smf (L : EL) (n : Nat) (d : Nat → Nat) : Nat → (Nat → Nat) × Nat
  | 0 => (d, 0)
  | k + 1 => if k / n < k % n ∧ smh L n k ≠ (smf L n d k).1 (7 * (k / n) + k % n) then (putD (smf L n d k).1 (k / n) (k % n) (smh L n k), (smf L n d k).2 + 1) else smf L n d k
theorem smf_s (L : EL) (n : Nat) (d : Nat → Nat) (k : Nat) : smf L n d (k + 1) = if k / n < k % n ∧ smh L n k ≠ (smf L n d k).1 (7 * (k / n) + k % n) then (putD (smf L n d k).1 (k / n) (k % n) (smh L n k), (smf L n d k).2 + 1) else smf L n d k := rfl
theorem smh_le (L : EL) (n k : Nat) : smh L n k ≤ 60 := by
  unfold smh
  split <;> omega
theorem shr1 {p : Nat} (h : p < 2147483648) : nI p >>> (nI 1 &&& 31) = nI (p / 2) := pk_shrN h (nI 1 &&& 31) 1 (s_l 1 (by decide))
theorem path_le {L : EL} (hg : good L) (hl : L.length ≤ 32) (i j : Nat) : pathL L i j ≤ 32000 := by
  have h : pathL L i j ≤ 1000 * L.length := pthf_le hg i j L.length
  omega
theorem hold_nil (fs fi : Nat → Int32) : hold fs fi [] := fun k q h => by simp at h
/-- what a SplitTree knows: if it says so, its edges are all edges -/
def KN (n : Nat) (d : Nat → Nat) (kn fnd : Int32) (sd ix : Nat → Int32) : Prop := ∃ b : Bool, kn = bI b ∧ (b = true → fnd = nI (Es d n).length ∧ hold sd ix (Es d n))
end
section
/-! pure words, third: the answers -/
set_option maxRecDepth 100000
def spEdge (n : Nat) (d : Nat → Nat) (z : Int) : Int32 := if z < 0 ∨ ((Es d n).length : Int) ≤ z then iI (-1002) else nI (sdN (Es d n) z.toNat)
def spTD (n : Nat) (d : Nat → Nat) (x y : Int) : Int32 := if (x < 0 ∨ (n : Int) ≤ x) ∨ (y < 0 ∨ (n : Int) ≤ y) then iI (-1000) else nI (pathL (Es d n) x.toNat y.toNat)
def spTog (n : Nat) (d : Nat → Nat) (x y : Int) : Int32 := if (x < 0 ∨ (n : Int) ≤ x) ∨ (y < 0 ∨ (n : Int) ≤ y) then iI (-1000) else if pathL (Es d n) x.toNat y.toNat = 0 then nI 1 else nI 0
end
section
/-! pure words, fourth: what the methods of SplitTreeModel compute -/
set_option maxRecDepth 100000
def isb (n : Nat) (z : Int) : Bool := decide (0 ≤ z ∧ z < (n : Int))
theorem isb_1 {n : Nat} {z : Int} (h : 0 ≤ z ∧ z < (n : Int)) : nI 1 = bI (isb n z) := by
  unfold isb
  rw [decide_eq_true h]
  rfl
theorem isb_0 {n : Nat} {z : Int} (h : ¬ (0 ≤ z ∧ z < (n : Int))) : nI 0 = bI (isb n z) := by
  unfold isb
  rw [decide_eq_false h]
  rfl
theorem isb_t {n : Nat} {z : Int} (h : isb n z = true) : 0 ≤ z ∧ z < (n : Int) := of_decide_eq_true h
theorem isb_f {n : Nat} {z : Int} (h : isb n z = false) : ¬ (0 ≤ z ∧ z < (n : Int)) := of_decide_eq_false h
def ptM (d : Nat → Nat) (n v : Nat) : Nat → (Nat → Nat)
  | 0 => d
  | i + 1 => putD (ptM d n v i) i n v
theorem ptM_eq (d : Nat → Nat) (n v : Nat) : ∀ i, i ≤ n → up_d (ptM d n v i) (8 * n) 0 = ptD d n v i
  | 0, _ => rfl
  | i + 1, h => by
    have ih := ptM_eq d n v i (by omega)
    unfold ptM ptD
    rw [← ih]
    funext k
    unfold putD up_d
    by_cases h1 : k = 8 * n
    · subst h1
      rw [if_pos rfl, if_neg (by omega), if_neg (by omega), if_pos rfl]
    · rw [if_neg h1]
      by_cases h2 : k = 7 * n + i
      · rw [if_pos h2, if_pos h2]
      · rw [if_neg h2, if_neg h2]
        by_cases h3 : k = 7 * i + n
        · rw [if_pos h3, if_pos h3]
        · rw [if_neg h3, if_neg h3, if_neg h1]
theorem kij {n i j : Nat} (h : j < n) : (i * n + j) / n = i ∧ (i * n + j) % n = j := by
  have h0 : 0 < n := by omega
  constructor
  · rw [Nat.mul_comm, Nat.mul_add_div h0, Nat.div_eq_of_lt h, Nat.add_zero]
  · rw [Nat.mul_comm, Nat.mul_add_mod, Nat.mod_eq_of_lt h]
/-- one pair of move, in the model -/
def stM (x : Int32) (z : Int) (i j : Nat) (q : (Nat → Nat) × Nat) : (Nat → Nat) × Nat :=
  if bt x i = true ∧ bt x j = false ∧ 0 ≤ (q.1 (7 * i + j) : Int) + z ∧ (q.1 (7 * i + j) : Int) + z ≤ 60 ∧ z ≠ 0 then (putD q.1 i j ((q.1 (7 * i + j) : Int) + z).toNat, q.2 + 1) else q
def mvM (x : Int32) (z : Int) (n : Nat) (d : Nat → Nat) : Nat → (Nat → Nat) × Nat
  | 0 => (d, 0)
  | k + 1 => stM x z (k / n) (k % n) (mvM x z n d k)
theorem mvM_ij {x : Int32} {z : Int} {n i j : Nat} {d : Nat → Nat} (h : j < n) : mvM x z n d (i * n + (j + 1)) = stM x z i j (mvM x z n d (i * n + j)) := by
  rw [← Nat.add_assoc]
  have e : mvM x z n d (i * n + j + 1) = stM x z ((i * n + j) / n) ((i * n + j) % n) (mvM x z n d (i * n + j)) := rfl
  rw [e, (kij h).1, (kij h).2]
theorem mvM_le {x : Int32} {z : Int} {n : Nat} {d : Nat → Nat} (hd : ∀ k, d k ≤ 60) : ∀ k j, (mvM x z n d k).1 j ≤ 60
  | 0 => hd
  | k + 1 => by
    intro j
    show (stM _ _ _ _ _).1 j ≤ 60
    unfold stM
    split
    · exact putD_le (mvM_le hd k) (by omega) j
    · exact mvM_le hd k j
def spMoveM (n : Nat) (d : Nat → Nat) (x : Int32) (z : Int) : Int32 × Nat × (Nat → Nat) := if z < -60 ∨ 60 < z then (iI (-1000), n, d) else (nI (mvM x z n d (n * n)).2, n, (mvM x z n d (n * n)).1)
def i4 (d : Nat → Nat) (S a c b : Nat) (m : Int) : Nat → Int
  | 0 => m
  | e + 1 => if Nat.testBit S b = false ∧ Nat.testBit S e = false ∧ qv d a b c e < i4 d S a c b m e then qv d a b c e else i4 d S a c b m e
def i3 (d : Nat → Nat) (S n a c : Nat) (m : Int) : Nat → Int
  | 0 => m
  | b + 1 => i4 d S a c b (i3 d S n a c m b) n
def i2 (d : Nat → Nat) (S n a : Nat) (m : Int) : Nat → Int
  | 0 => m
  | c + 1 => if (Nat.testBit S a && Nat.testBit S c) = true then i3 d S n a c (i2 d S n a m c) n else i2 d S n a m c
def i1 (d : Nat → Nat) (S n : Nat) : Nat → Int
  | 0 => 1000
  | a + 1 => i2 d S n a (i1 d S n a) n
def idxM (d : Nat → Nat) (S n : Nat) : Int := i1 d S n n
theorem i4_s (d : Nat → Nat) (S a c b : Nat) (m : Int) (e : Nat) : i4 d S a c b m (e + 1) = if Nat.testBit S b = false ∧ Nat.testBit S e = false ∧ qv d a b c e < i4 d S a c b m e then qv d a b c e else i4 d S a c b m e := rfl
theorem i2_s (d : Nat → Nat) (S n a : Nat) (m : Int) (c : Nat) : i2 d S n a m (c + 1) = if (Nat.testBit S a && Nat.testBit S c) = true then i3 d S n a c (i2 d S n a m c) n else i2 d S n a m c := rfl
theorem i4_bd {d : Nat → Nat} (hd : ∀ k, d k ≤ 60) (S a c b : Nat) {m : Int} (hm : -120 ≤ m ∧ m ≤ 1000) : ∀ e, -120 ≤ i4 d S a c b m e ∧ i4 d S a c b m e ≤ 1000
  | 0 => hm
  | e + 1 => by
    have h1 := i4_bd hd S a c b hm e
    have h2 := qv_bd hd a b c e
    rw [i4_s]
    split <;> omega
theorem i3_bd {d : Nat → Nat} (hd : ∀ k, d k ≤ 60) (S n a c : Nat) {m : Int} (hm : -120 ≤ m ∧ m ≤ 1000) : ∀ b, -120 ≤ i3 d S n a c m b ∧ i3 d S n a c m b ≤ 1000
  | 0 => hm
  | b + 1 => i4_bd hd S a c b (i3_bd hd S n a c hm b) n
theorem i2_bd {d : Nat → Nat} (hd : ∀ k, d k ≤ 60) (S n a : Nat) {m : Int} (hm : -120 ≤ m ∧ m ≤ 1000) : ∀ c, -120 ≤ i2 d S n a m c ∧ i2 d S n a m c ≤ 1000
  | 0 => hm
  | c + 1 => by
    rw [i2_s]
    split
    · exact i3_bd hd S n a c (i2_bd hd S n a hm c) n
    · exact i2_bd hd S n a hm c
theorem i1_bd {d : Nat → Nat} (hd : ∀ k, d k ≤ 60) (S n : Nat) : ∀ a, -120 ≤ i1 d S n a ∧ i1 d S n a ≤ 1000
  | 0 => by unfold i1; omega
  | a + 1 => i2_bd hd S n a (i1_bd hd S n a) n
theorem idxM_bd {d : Nat → Nat} (hd : ∀ k, d k ≤ 60) (S n : Nat) : -120 ≤ idxM d S n ∧ idxM d S n ≤ 1000 := i1_bd hd S n n
theorem isp_1 {n : Nat} {z : Int} (h : 0 < z ∧ z < ((2 ^ n - 1 : Nat) : Int) ∧ z % 2 = 1) : nI 1 = bI (!bads n z) := by
  have hn : 2 ≤ n := by
    match n, h with
    | 0, h => have : ((2 ^ 0 - 1 : Nat) : Int) = 0 := rfl; omega
    | 1, h => have : ((2 ^ 1 - 1 : Nat) : Int) = 1 := rfl; omega
    | n + 2, _ => omega
  unfold bads
  rw [decide_eq_false (by omega)]
  rfl
theorem isp_0 {n : Nat} {z : Int} (h : ¬ (0 < z ∧ z < ((2 ^ n - 1 : Nat) : Int) ∧ z % 2 = 1)) : nI 0 = bI (!bads n z) := by
  unfold bads
  rw [decide_eq_true (by omega)]
  rfl
def hT (n : Nat) : Nat := (2 ^ n - 1) / 2
theorem pw (n : Nat) : 2 ^ n = 1 ∨ 2 ^ n % 2 = 0 := by
  cases n with
  | zero => exact Or.inl rfl
  | succ n => right; rw [Nat.pow_succ]; omega
/-- the model's indices are those of all splits -/
def wk (n : Nat) (d : Nat → Nat) (mi : Nat → Int32) : Prop := ∀ T, T % 2 = 1 → T < 2 ^ n - 1 → mi T = iI (idxM d T n)
def sT (f : Nat → Nat) : Nat → Nat
  | 0 => 0
  | t + 1 => sT f t + f (2 * t + 1)
def cT (f : Nat → Bool) : Nat → Nat
  | 0 => 0
  | t + 1 => if f (2 * t + 1) = true then cT f t + 1 else cT f t
def aT (f : Nat → Bool) : Nat → Bool
  | 0 => true
  | t + 1 => aT f t && f (2 * t + 1)
theorem sT_s (f : Nat → Nat) (t : Nat) : sT f (t + 1) = sT f t + f (2 * t + 1) := rfl
theorem cT_s (f : Nat → Bool) (t : Nat) : cT f (t + 1) = if f (2 * t + 1) = true then cT f t + 1 else cT f t := rfl
theorem aT_s (f : Nat → Bool) (t : Nat) : aT f (t + 1) = (aT f t && f (2 * t + 1)) := rfl
theorem cT_le (f : Nat → Bool) : ∀ t, cT f t ≤ t
  | 0 => Nat.le_refl _
  | t + 1 => by
    have := cT_le f t
    rw [cT_s]
    split <;> omega
theorem aT_stop {f : Nat → Bool} {t : Nat} (h : f (2 * t + 1) = false) : ∀ j, aT f (t + 1 + j) = false
  | 0 => by rw [Nat.add_zero, aT_s, h, Bool.and_false]
  | j + 1 => by
    show (aT f (t + 1 + j) && _) = false
    rw [aT_stop h j]
    rfl
theorem aT_stop' {f : Nat → Bool} {t m : Nat} (h : f (2 * t + 1) = false) (hm : t < m) : aT f m = false := by
  have := aT_stop h (m - t - 1)
  rw [show t + 1 + (m - t - 1) = m from by omega] at this
  exact this
def pos (d : Nat → Nat) (n S : Nat) : Bool := decide (0 < idxM d S n)
def bw (d : Nat → Nat) (n i j S : Nat) : Nat := if (Nat.testBit S i != Nat.testBit S j) = true ∧ 0 < idxM d S n then (idxM d S n).toNat else 0
def bet (d : Nat → Nat) (n i j : Nat) : Nat := sT (bw d n i j) (hT n)
theorem bw_le {d : Nat → Nat} (hd : ∀ k, d k ≤ 60) (n i j S : Nat) : bw d n i j S ≤ 1000 := by
  have := idxM_bd hd S n
  unfold bw
  split <;> omega
theorem sT_le {f : Nat → Nat} {b : Nat} (h : ∀ S, f S ≤ b) : ∀ t, sT f t ≤ b * t
  | 0 => Nat.zero_le _
  | t + 1 => by
    have h1 := sT_le h t
    have h2 := h (2 * t + 1)
    rw [sT_s, Nat.mul_succ]
    omega
theorem hT_le {n : Nat} (hn : n ≤ 7) : hT n ≤ 64 := by
  have := pow7 hn
  unfold hT
  omega
theorem bet_le {d : Nat → Nat} (hd : ∀ k, d k ≤ 60) {n : Nat} (hn : n ≤ 7) (i j : Nat) : bet d n i j ≤ 64000 := by
  have h1 : bet d n i j ≤ 1000 * hT n := sT_le (bw_le hd n i j) (hT n)
  have h2 := hT_le hn
  omega
def spTDM (n : Nat) (d : Nat → Nat) (x y : Int) : Int32 := if (x < 0 ∨ (n : Int) ≤ x) ∨ (y < 0 ∨ (n : Int) ≤ y) then iI (-1000) else nI (bet d n x.toNat y.toNat)
def spTogM (n : Nat) (d : Nat → Nat) (x y : Int) : Int32 := if (x < 0 ∨ (n : Int) ≤ x) ∨ (y < 0 ∨ (n : Int) ≤ y) then iI (-1000) else if bet d n x.toNat y.toNat = 0 then nI 1 else nI 0
def spIndexM (n : Nat) (d : Nat → Nat) (z : Int) : Int32 := if bads n z = true then iI (-1000) else iI (idxM d z.toNat n)
def agrM (n S T : Nat) : Bool := decide (S &&& T = 0 ∨ S &&& T = S ∨ T &&& S = T ∨ (2 ^ n - 1) &&& (S ||| T) = 2 ^ n - 1)
theorem agrM_1 {n S T : Nat} (h : S &&& T = 0 ∨ S &&& T = S ∨ T &&& S = T ∨ (2 ^ n - 1) &&& (S ||| T) = 2 ^ n - 1) : nI 1 = bI (agrM n S T) := by
  unfold agrM
  rw [decide_eq_true h]
  rfl
theorem agrM_0 {n S T : Nat} (h : ¬ (S &&& T = 0 ∨ S &&& T = S ∨ T &&& S = T ∨ (2 ^ n - 1) &&& (S ||| T) = 2 ^ n - 1)) : nI 0 = bI (agrM n S T) := by
  unfold agrM
  rw [decide_eq_false h]
  rfl
theorem andn2 {A S T : Nat} (hA : A < 128) : (nI A &&& (nI S ^^^ iI (-1))) &&& (nI T ^^^ iI (-1)) = 0 ↔ A &&& (S ||| T) = A := by
  have key : ∀ i, i < 32 → bt ((nI A &&& (nI S ^^^ iI (-1))) &&& (nI T ^^^ iI (-1))) i = (A.testBit i && !S.testBit i && !T.testBit i) := by
    intro i hi
    rw [b_and, b_and, b_xor, b_xor, bt_nI A hi, bt_nI S hi, bt_nI T hi, show iI (-1) = -1 from by decide, b_m1 i hi]
    simp
  have hbig : ∀ i, ¬ i < 32 → A.testBit i = false := fun i hi => Nat.testBit_lt_two_pow (Nat.lt_of_lt_of_le hA (show 2 ^ 7 ≤ 2 ^ i from Nat.pow_le_pow_right (by decide) (by omega)))
  constructor
  · intro h
    apply Nat.eq_of_testBit_eq
    intro i
    rw [Nat.testBit_and, Nat.testBit_or]
    by_cases hi : i < 32
    · have := key i hi
      rw [h, b_0] at this
      revert this
      generalize A.testBit i = a
      generalize S.testBit i = b
      generalize T.testBit i = c
      cases a <;> cases b <;> cases c <;> decide
    · rw [hbig i hi]
      rfl
  · intro h
    apply b_ext
    intro i hi
    rw [key i hi, b_0]
    have h2 : (A &&& (S ||| T)).testBit i = A.testBit i := by rw [h]
    rw [Nat.testBit_and, Nat.testBit_or] at h2
    revert h2
    generalize A.testBit i = a
    generalize S.testBit i = b
    generalize T.testBit i = c
    cases a <;> cases b <;> cases c <;> decide
def agp (d : Nat → Nat) (n S T : Nat) : Bool := !pos d n T || agrM n S T
def agM (d : Nat → Nat) (n S : Nat) : Bool := aT (agp d n S) (hT n)
def spAgreesM (n : Nat) (d : Nat → Nat) (z : Int) : Int32 := if bads n z = true then iI (-1000) else bI (agM d n z.toNat)
def lvl (x y z : Nat) : Bool := if x = y then decide (z ≤ x) else if x = z then decide (y ≤ x) else decide (y = z ∧ x ≤ y)
def alN (f : Nat → Bool) : Nat → Bool
  | 0 => true
  | k + 1 => alN f k && f k
theorem alN_s (f : Nat → Bool) (k : Nat) : alN f (k + 1) = (alN f k && f k) := rfl
theorem alN_stop {f : Nat → Bool} {t : Nat} (h : f t = false) : ∀ j, alN f (t + 1 + j) = false
  | 0 => by rw [Nat.add_zero, alN_s, h, Bool.and_false]
  | j + 1 => by
    show (alN f (t + 1 + j) && _) = false
    rw [alN_stop h j]
    rfl
theorem alN_stop' {f : Nat → Bool} {t m : Nat} (h : f t = false) (hm : t < m) : alN f m = false := by
  have := alN_stop h (m - t - 1)
  rw [show t + 1 + (m - t - 1) = m from by omega] at this
  exact this
def lvp (d : Nat → Nat) (i j k m : Nat) : Bool := lvl (d (7 * i + j) + d (7 * k + m)) (d (7 * i + k) + d (7 * j + m)) (d (7 * i + m) + d (7 * j + k))
def fitM (d : Nat → Nat) (n i j : Nat) : Bool := alN (fun k => alN (fun m => lvp d i j k m) n) n
def tlM (d : Nat → Nat) (n : Nat) : Bool := alN (fun i => alN (fun j => fitM d n i j) n) n
def sp2 (d : Nat → Nat) (n i m : Nat) : Nat → Nat
  | 0 => m
  | j + 1 => if sp2 d n i m j < bet d n i j then bet d n i j else sp2 d n i m j
def sp1 (d : Nat → Nat) (n : Nat) : Nat → Nat
  | 0 => 0
  | i + 1 => sp2 d n i (sp1 d n i) n
theorem sp2_s (d : Nat → Nat) (n i m j : Nat) : sp2 d n i m (j + 1) = if sp2 d n i m j < bet d n i j then bet d n i j else sp2 d n i m j := rfl
theorem sp2_le {d : Nat → Nat} (hd : ∀ k, d k ≤ 60) {n : Nat} (hn : n ≤ 7) (i : Nat) {m : Nat} (hm : m ≤ 64000) : ∀ j, sp2 d n i m j ≤ 64000
  | 0 => hm
  | j + 1 => by
    have h1 := sp2_le hd hn i hm j
    have h2 := bet_le hd hn i j
    rw [sp2_s]
    split <;> omega
theorem sp1_le {d : Nat → Nat} (hd : ∀ k, d k ≤ 60) {n : Nat} (hn : n ≤ 7) : ∀ i, sp1 d n i ≤ 64000
  | 0 => Nat.zero_le _
  | i + 1 => sp2_le hd hn i (sp1_le hd hn i) n
def wgt (d : Nat → Nat) (n S : Nat) : Nat := if 0 < idxM d S n then (idxM d S n).toNat else 0
def smb (d : Nat → Nat) (n i j : Nat) : Nat := if 60 < bet d n i j / 2 then 60 else bet d n i j / 2
theorem smb_le (d : Nat → Nat) (n i j : Nat) : smb d n i j ≤ 60 := by
  unfold smb
  split <;> omega
def cM (d : Nat → Nat) (n : Nat) : Nat → Nat
  | 0 => 0
  | k + 1 => if k / n < k % n ∧ smb d n (k / n) (k % n) ≠ d (7 * (k / n) + k % n) then cM d n k + 1 else cM d n k
theorem cM_ij {d : Nat → Nat} {n i j : Nat} (h : j < n) : cM d n (i * n + (j + 1)) = if i < j ∧ smb d n i j ≠ d (7 * i + j) then cM d n (i * n + j) + 1 else cM d n (i * n + j) := by
  rw [← Nat.add_assoc]
  have e : ∀ k, cM d n (k + 1) = if k / n < k % n ∧ smb d n (k / n) (k % n) ≠ d (7 * (k / n) + k % n) then cM d n k + 1 else cM d n k := fun k => rfl
  rw [e, (kij h).1, (kij h).2]
def cpM (d : Nat → Nat) (n : Nat) : Nat → (Nat → Nat)
  | 0 => d
  | k + 1 => up_d (cpM d n k) (7 * (k / n) + k % n) (smb d n (k / n) (k % n))
theorem cpM_ij {d : Nat → Nat} {n i j : Nat} (h : j < n) : cpM d n (i * n + (j + 1)) = up_d (cpM d n (i * n + j)) (7 * i + j) (smb d n i j) := by
  rw [← Nat.add_assoc]
  have e : ∀ k, cpM d n (k + 1) = up_d (cpM d n k) (7 * (k / n) + k % n) (smb d n (k / n) (k % n)) := fun k => rfl
  rw [e, (kij h).1, (kij h).2]
/-- the first i rows and, in row i, the first j places of made are filled -/
def mkI (d : Nat → Nat) (n : Nat) (mq : Nat → Int32) (i j : Nat) : Prop := ∀ a b, a < n → b < n → (a < i ∨ (a = i ∧ b < j)) → mq (7 * a + b) = nI (smb d n a b)
theorem mkI_s {d : Nat → Nat} {n : Nat} {mq : Nat → Int32} {i j : Nat} (hn : n ≤ 7) (hj : j < n) (h : mkI d n mq i j) : mkI d n (upd mq (7 * i + j) (nI (smb d n i j))) i (j + 1) := by
  intro a b ha hb hab
  by_cases e : a = i ∧ b = j
  · rw [e.1, e.2]
    exact upd_at _ _ _
  · rw [upd_ne (by omega)]
    exact h a b ha hb (by omega)
theorem mkI_row {d : Nat → Nat} {n : Nat} {mq : Nat → Int32} {i : Nat} (h : mkI d n mq i n) : mkI d n mq (i + 1) 0 := fun a b ha hb hab => h a b ha hb (by omega)
end
section
/-! the distances stay symmetric, small, with a zero diagonal; move of the model is move -/
set_option maxRecDepth 100000
def Inv (d : Nat → Nat) : Prop := (∀ k, d k ≤ 60) ∧ (∀ i j, i < 7 → j < 7 → d (7 * i + j) = d (7 * j + i)) ∧ ∀ i, i < 7 → d (8 * i) = 0
theorem f_inv0 : Inv (fun _ => 0) := ⟨fun _ => Nat.zero_le _, fun _ _ _ _ => rfl, fun _ _ => rfl⟩
theorem up_d_at (d : Nat → Nat) (i v k : Nat) : up_d d i v k = if k = i then v else d k := rfl
theorem putD_at (d : Nat → Nat) (i j v k : Nat) : putD d i j v k = if k = 7 * j + i then v else if k = 7 * i + j then v else d k := rfl
theorem putD_inv {d : Nat → Nat} (h : Inv d) {i j v : Nat} (hi : i < 7) (hj : j < 7) (hij : i ≠ j) (hv : v ≤ 60) : Inv (putD d i j v) := by
  refine ⟨putD_le h.1 hv, fun a b ha hb => ?_, fun a ha => ?_⟩
  · rw [putD_at, putD_at]
    by_cases h1 : a = j ∧ b = i
    · obtain ⟨rfl, rfl⟩ := h1
      rw [if_pos rfl, if_neg (by omega), if_pos rfl]
    · by_cases h2 : a = i ∧ b = j
      · obtain ⟨rfl, rfl⟩ := h2
        rw [if_neg (by omega), if_pos rfl, if_pos rfl]
      · rw [if_neg (by omega), if_neg (by omega), if_neg (by omega), if_neg (by omega)]
        exact h.2.1 a b ha hb
  · rw [putD_at, if_neg (by omega), if_neg (by omega)]
    exact h.2.2 a ha
theorem ptD_inv {d : Nat → Nat} (h : Inv d) {n v : Nat} (hn : n < 7) (hv : v ≤ 60) : ∀ i, i ≤ n → Inv (ptD d n v i)
  | 0, _ => by
    show Inv (up_d d (8 * n) 0)
    refine ⟨fun k => ?_, fun a b ha hb => ?_, fun a ha => ?_⟩
    · have := h.1 k
      rw [up_d_at]
      split <;> omega
    · rw [up_d_at, up_d_at]
      by_cases h1 : a = n ∧ b = n
      · obtain ⟨rfl, rfl⟩ := h1
        rfl
      · rw [if_neg (by omega), if_neg (by omega)]
        exact h.2.1 a b ha hb
    · rw [up_d_at]
      split
      · rfl
      · exact h.2.2 a ha
  | i + 1, hi => putD_inv (ptD_inv h hn hv i (by omega)) (by omega) (by omega) (by omega) hv
theorem f_point {d : Nat → Nat} {n : Nat} (h : Inv d) (hn : n ≤ 7) (z : Int) : (spPoint n d z).2.1 ≤ 7 ∧ Inv (spPoint n d z).2.2 := by
  unfold spPoint
  split
  · exact ⟨hn, h⟩
  · split
    · exact ⟨hn, h⟩
    · exact ⟨by show n + 1 ≤ 7; omega, ptD_inv h (by omega) (by omega) n (Nat.le_refl _)⟩
theorem f_drop {d : Nat → Nat} {n : Nat} (h : Inv d) (hn : n ≤ 7) : (spDrop n d).2.1 ≤ 7 ∧ Inv (spDrop n d).2.2 := by
  unfold spDrop
  split
  · exact ⟨hn, h⟩
  · exact ⟨by show n - 1 ≤ 7; omega, h⟩
theorem f_set {d : Nat → Nat} {n : Nat} (h : Inv d) (hn : n ≤ 7) (x y z : Int) : (spSet n d x y z).2.1 ≤ 7 ∧ Inv (spSet n d x y z).2.2 := by
  unfold spSet
  split
  · exact ⟨hn, h⟩
  · exact ⟨hn, putD_inv h (by omega) (by omega) (by omega) (by omega)⟩
theorem mv_inv {d : Nat → Nat} {n : Nat} (h : Inv d) (hn : n ≤ 7) (x : Int32) (z : Int) : ∀ k, k ≤ n * n → Inv (mv x z n d k).1
  | 0, _ => h
  | k + 1, hk => by
    have ih := mv_inv h hn x z k (by omega)
    have ⟨h0, h1, h2⟩ := kdiv (n := n) (k := k) (by omega)
    rw [mv_s]
    split
    · next hc =>
      obtain ⟨c1, c2, c3, c4⟩ := hc
      refine putD_inv ih (by omega) (by omega) (fun e => ?_) (by omega)
      rw [e, c2] at c1
      cases c1
    · exact ih
theorem f_moved {d : Nat → Nat} {n : Nat} (h : Inv d) (hn : n ≤ 7) (x : Int32) (z : Int) : (spMove n d x z).2.1 ≤ 7 ∧ Inv (spMove n d x z).2.2 := by
  unfold spMove
  split
  · exact ⟨hn, h⟩
  · exact ⟨hn, mv_inv h hn x z _ (Nat.le_refl _)⟩
theorem smf_inv {d : Nat → Nat} {n : Nat} (h : Inv d) (hn : n ≤ 7) (L : EL) : ∀ k, k ≤ n * n → Inv (smf L n d k).1
  | 0, _ => h
  | k + 1, hk => by
    have ih := smf_inv h hn L k (by omega)
    have ⟨h0, h1, h2⟩ := kdiv (n := n) (k := k) (by omega)
    rw [smf_s]
    split
    · next hc => exact putD_inv ih (by omega) (by omega) (by omega) (smh_le L n k)
    · exact ih
theorem f_smoothed {d : Nat → Nat} {n : Nat} (h : Inv d) (hn : n ≤ 7) : Inv (smf (Es d n) n d (n * n)).1 := smf_inv h hn _ _ (Nat.le_refl _)
theorem putD_self {d : Nat → Nat} (h : Inv d) {i j : Nat} (hi : i < 7) (hj : j < 7) : putD d i j (d (7 * i + j)) = d := by
  funext k
  rw [putD_at]
  split
  · next e => rw [e]; exact h.2.1 i j hi hj
  · split
    · next e => rw [e]
    · rfl
theorem mv_zero {d : Nat → Nat} {n : Nat} (h : Inv d) (hn : n ≤ 7) (x : Int32) : ∀ k, k ≤ n * n → mv x 0 n d k = (d, 0)
  | 0, _ => rfl
  | k + 1, hk => by
    have ih := mv_zero h hn x k (by omega)
    have ⟨h0, h1, h2⟩ := kdiv (n := n) (k := k) (by omega)
    rw [mv_s, ih]
    split
    · rw [if_pos rfl, Int.add_zero, Int.toNat_natCast]
      dsimp only
      rw [putD_self h (by omega) (by omega)]
    · rfl
theorem mvM_zero (d : Nat → Nat) (n : Nat) (x : Int32) : ∀ k, mvM x 0 n d k = (d, 0)
  | 0 => rfl
  | k + 1 => by
    show stM _ _ _ _ _ = _
    unfold stM
    rw [if_neg (fun e => e.2.2.2.2 rfl)]
    exact mvM_zero d n x k
theorem mvM_mv {d : Nat → Nat} {n : Nat} {x : Int32} {z : Int} (hz : z ≠ 0) : ∀ k, mvM x z n d k = mv x z n d k
  | 0 => rfl
  | k + 1 => by
    have ih := mvM_mv (d := d) (n := n) (x := x) hz k
    show stM _ _ _ _ _ = _
    rw [mv_s, ih]
    unfold stM
    by_cases hc : bt x (k / n) = true ∧ bt x (k % n) = false ∧ 0 ≤ ((mv x z n d k).1 (7 * (k / n) + k % n) : Int) + z ∧ ((mv x z n d k).1 (7 * (k / n) + k % n) : Int) + z ≤ 60
    · rw [if_pos ⟨hc.1, hc.2.1, hc.2.2.1, hc.2.2.2, hz⟩, if_pos hc, if_neg hz]
    · rw [if_neg (fun e => hc ⟨e.1, e.2.1, e.2.2.1, e.2.2.2.1⟩), if_neg hc]
theorem f_move {d : Nat → Nat} {n : Nat} (h : Inv d) (hn : n ≤ 7) (x : Int32) (z : Int) : spMoveM n d x z = spMove n d x z := by
  unfold spMoveM spMove
  by_cases hz : z = 0
  · subst hz
    rw [mv_zero h hn x _ (Nat.le_refl _), mvM_zero]
  · rw [mvM_mv hz]
end
section
/-! the index of a split: both orders of search give the least value over all quadruples -/
set_option maxRecDepth 100000
/-- a, b on S's side, x, y on the other, all among the first n -/
def quad (S n a x b y : Nat) : Prop := (a < n ∧ b < n ∧ x < n ∧ y < n) ∧ Nat.testBit S a = true ∧ Nat.testBit S b = true ∧ Nat.testBit S x = false ∧ Nat.testBit S y = false
def isIdx (d : Nat → Nat) (S n : Nat) (v : Int) : Prop := (∀ a x b y, quad S n a x b y → v ≤ qv d a x b y) ∧ v ≤ 1000 ∧ (v = 1000 ∨ ∃ a x b y, quad S n a x b y ∧ v = qv d a x b y)
theorem isIdx_le {d : Nat → Nat} {S n : Nat} {v w : Int} (h1 : isIdx d S n v) (h2 : isIdx d S n w) : v ≤ w := by
  rcases h2.2.2 with e | ⟨a, x, b, y, hq, e⟩
  · rw [e]; exact h1.2.1
  · rw [e]; exact h1.1 a x b y hq
theorem isIdx_eq {d : Nat → Nat} {S n : Nat} {v w : Int} (h1 : isIdx d S n v) (h2 : isIdx d S n w) : v = w := Int.le_antisymm (isIdx_le h1 h2) (isIdx_le h2 h1)
theorem lf_spec (d : Nat → Nat) (S n a b : Nat) : ∀ k, (∀ j, j < k → Nat.testBit S (j / n) = false → Nat.testBit S (j % n) = false → lf d S n a b k ≤ qv d a (j / n) b (j % n)) ∧ lf d S n a b k ≤ 1000 ∧ (lf d S n a b k = 1000 ∨ ∃ j, j < k ∧ Nat.testBit S (j / n) = false ∧ Nat.testBit S (j % n) = false ∧ lf d S n a b k = qv d a (j / n) b (j % n))
  | 0 => ⟨fun j h => absurd h (Nat.not_lt_zero _), Int.le_refl _, Or.inl rfl⟩
  | k + 1 => by
    obtain ⟨h1, h2, h3⟩ := lf_spec d S n a b k
    rw [lf_s]
    by_cases hc : Nat.testBit S (k / n) = false ∧ Nat.testBit S (k % n) = false ∧ qv d a (k / n) b (k % n) < lf d S n a b k
    · rw [if_pos hc]
      refine ⟨fun j hj b1 b2 => ?_, by omega, Or.inr ⟨k, by omega, hc.1, hc.2.1, rfl⟩⟩
      rcases Nat.lt_or_ge j k with h4 | h4
      · have := h1 j h4 b1 b2
        omega
      · obtain rfl : j = k := by omega
        exact Int.le_refl _
    · rw [if_neg hc]
      refine ⟨fun j hj b1 b2 => ?_, h2, ?_⟩
      · rcases Nat.lt_or_ge j k with h4 | h4
        · exact h1 j h4 b1 b2
        · obtain rfl : j = k := by omega
          exact Int.not_lt.mp (fun e => hc ⟨b1, b2, e⟩)
      · rcases h3 with e | ⟨j, hj, e⟩
        · exact Or.inl e
        · exact Or.inr ⟨j, by omega, e⟩
theorem ixf_spec (d : Nat → Nat) (S n : Nat) : ∀ k, (∀ j, j < k → j / n ≤ j % n → Nat.testBit S (j / n) = true → Nat.testBit S (j % n) = true → ixf d S n k ≤ lf d S n (j / n) (j % n) (n * n)) ∧ ixf d S n k ≤ 1000 ∧ (ixf d S n k = 1000 ∨ ∃ j, j < k ∧ Nat.testBit S (j / n) = true ∧ Nat.testBit S (j % n) = true ∧ ixf d S n k = lf d S n (j / n) (j % n) (n * n))
  | 0 => ⟨fun j h => absurd h (Nat.not_lt_zero _), Int.le_refl _, Or.inl rfl⟩
  | k + 1 => by
    obtain ⟨h1, h2, h3⟩ := ixf_spec d S n k
    rw [ixf_s]
    by_cases hc : k / n ≤ k % n ∧ Nat.testBit S (k / n) = true ∧ Nat.testBit S (k % n) = true ∧ lf d S n (k / n) (k % n) (n * n) < ixf d S n k
    · rw [if_pos hc]
      refine ⟨fun j hj b0 b1 b2 => ?_, by omega, Or.inr ⟨k, by omega, hc.2.1, hc.2.2.1, rfl⟩⟩
      rcases Nat.lt_or_ge j k with h4 | h4
      · have := h1 j h4 b0 b1 b2
        omega
      · obtain rfl : j = k := by omega
        exact Int.le_refl _
    · rw [if_neg hc]
      refine ⟨fun j hj b0 b1 b2 => ?_, h2, ?_⟩
      · rcases Nat.lt_or_ge j k with h4 | h4
        · exact h1 j h4 b0 b1 b2
        · obtain rfl : j = k := by omega
          exact Int.not_lt.mp (fun e => hc ⟨b0, b1, b2, e⟩)
      · rcases h3 with e | ⟨j, hj, e⟩
        · exact Or.inl e
        · exact Or.inr ⟨j, by omega, e⟩
theorem kidx {n a b : Nat} (ha : a < n) (hb : b < n) : a * n + b < n * n := by
  have h1 : (a + 1) * n ≤ n * n := Nat.mul_le_mul_right n ha
  rw [Nat.succ_mul] at h1
  omega
theorem qv_swap {d : Nat → Nat} (h : Inv d) {a x b y : Nat} (ha : a < 7) (hx : x < 7) (hb : b < 7) (hy : y < 7) : qv d a x b y = qv d b y a x := by
  unfold qv
  have h1 := h.2.1 a b ha hb
  have h2 := h.2.1 x y hx hy
  omega
theorem idx_is {d : Nat → Nat} (h : Inv d) {n : Nat} (hn : n ≤ 7) (S : Nat) : isIdx d S n (idx d S n) := by
  obtain ⟨h1, h2, h3⟩ := ixf_spec d S n (n * n)
  have key : ∀ a x b y, quad S n a x b y → a ≤ b → ixf d S n (n * n) ≤ qv d a x b y := by
    intro a x b y hq hab
    obtain ⟨⟨qa, qb, qx, qy⟩, b1, b2, b3, b4⟩ := hq
    have e1 := kij (n := n) (i := a) (j := b) qb
    have e2 := kij (n := n) (i := x) (j := y) qy
    have g1 := h1 (a * n + b) (kidx qa qb) (by rw [e1.1, e1.2]; exact hab) (by rw [e1.1]; exact b1) (by rw [e1.2]; exact b2)
    have g2 := (lf_spec d S n a b (n * n)).1 (x * n + y) (kidx qx qy) (by rw [e2.1]; exact b3) (by rw [e2.2]; exact b4)
    rw [e1.1, e1.2] at g1
    rw [e2.1, e2.2] at g2
    omega
  refine ⟨fun a x b y hq => ?_, h2, ?_⟩
  · rcases Nat.le_total a b with hab | hab
    · exact key a x b y hq hab
    · obtain ⟨⟨qa, qb, qx, qy⟩, b1, b2, b3, b4⟩ := hq
      rw [qv_swap h (by omega) (by omega) (by omega) (by omega)]
      exact key b y a x ⟨⟨qb, qa, qy, qx⟩, b2, b1, b4, b3⟩ hab
  · rcases h3 with e | ⟨j, hj, b1, b2, e⟩
    · exact Or.inl e
    · have ⟨n0, j1, j2⟩ := kdiv hj
      rcases (lf_spec d S n (j / n) (j % n) (n * n)).2.2 with e2 | ⟨i, hi, b3, b4, e2⟩
      · left
        show ixf d S n (n * n) = 1000
        rw [e, e2]
      · have ⟨_, i1, i2⟩ := kdiv hi
        right
        refine ⟨j / n, i / n, j % n, i % n, ⟨⟨j1, j2, i1, i2⟩, b1, b2, b3, b4⟩, ?_⟩
        show ixf d S n (n * n) = _
        rw [e, e2]
/-- the model's search from m on -/
theorem i4_spec (d : Nat → Nat) (S a c b : Nat) (m : Int) : ∀ k, i4 d S a c b m k ≤ m ∧ (∀ e, e < k → Nat.testBit S b = false → Nat.testBit S e = false → i4 d S a c b m k ≤ qv d a b c e) ∧ (i4 d S a c b m k = m ∨ ∃ e, e < k ∧ Nat.testBit S b = false ∧ Nat.testBit S e = false ∧ i4 d S a c b m k = qv d a b c e)
  | 0 => ⟨Int.le_refl _, fun j h => absurd h (Nat.not_lt_zero _), Or.inl rfl⟩
  | k + 1 => by
    obtain ⟨h1, h2, h3⟩ := i4_spec d S a c b m k
    rw [i4_s]
    by_cases hc : Nat.testBit S b = false ∧ Nat.testBit S k = false ∧ qv d a b c k < i4 d S a c b m k
    · rw [if_pos hc]
      refine ⟨by omega, fun j hj b1 b2 => ?_, Or.inr ⟨k, by omega, hc.1, hc.2.1, rfl⟩⟩
      rcases Nat.lt_or_ge j k with h4 | h4
      · have := h2 j h4 b1 b2
        omega
      · obtain rfl : j = k := by omega
        exact Int.le_refl _
    · rw [if_neg hc]
      refine ⟨h1, fun j hj b1 b2 => ?_, ?_⟩
      · rcases Nat.lt_or_ge j k with h4 | h4
        · exact h2 j h4 b1 b2
        · obtain rfl : j = k := by omega
          exact Int.not_lt.mp (fun e => hc ⟨b1, b2, e⟩)
      · rcases h3 with e | ⟨j, hj, e⟩
        · exact Or.inl e
        · exact Or.inr ⟨j, by omega, e⟩
theorem i3_spec (d : Nat → Nat) (S n a c : Nat) (m : Int) : ∀ k, k ≤ n → i3 d S n a c m k ≤ m ∧ (∀ b e, b < k → e < n → Nat.testBit S b = false → Nat.testBit S e = false → i3 d S n a c m k ≤ qv d a b c e) ∧ (i3 d S n a c m k = m ∨ ∃ b e, b < k ∧ e < n ∧ Nat.testBit S b = false ∧ Nat.testBit S e = false ∧ i3 d S n a c m k = qv d a b c e)
  | 0, _ => ⟨Int.le_refl _, fun b e h => absurd h (Nat.not_lt_zero _), Or.inl rfl⟩
  | k + 1, hk => by
    obtain ⟨h1, h2, h3⟩ := i3_spec d S n a c m k (by omega)
    obtain ⟨g1, g2, g3⟩ := i4_spec d S a c k (i3 d S n a c m k) n
    show i4 d S a c k (i3 d S n a c m k) n ≤ m ∧ (∀ b e, b < k + 1 → e < n → Nat.testBit S b = false → Nat.testBit S e = false → i4 d S a c k (i3 d S n a c m k) n ≤ qv d a b c e) ∧ (i4 d S a c k (i3 d S n a c m k) n = m ∨ ∃ b e, b < k + 1 ∧ e < n ∧ Nat.testBit S b = false ∧ Nat.testBit S e = false ∧ i4 d S a c k (i3 d S n a c m k) n = qv d a b c e)
    refine ⟨by omega, fun b e hb he b1 b2 => ?_, ?_⟩
    · rcases Nat.lt_or_ge b k with h4 | h4
      · have := h2 b e h4 he b1 b2
        omega
      · obtain rfl : b = k := by omega
        exact g2 e he b1 b2
    · rcases g3 with e | ⟨e, he, b1, b2, ee⟩
      · rw [e]
        rcases h3 with e3 | ⟨b, e3, hb, he, b1, b2, ee⟩
        · exact Or.inl e3
        · exact Or.inr ⟨b, e3, by omega, he, b1, b2, ee⟩
      · exact Or.inr ⟨k, e, by omega, he, b1, b2, ee⟩
theorem i2_spec (d : Nat → Nat) (S n a : Nat) (m : Int) : ∀ k, k ≤ n → i2 d S n a m k ≤ m ∧ (∀ c b e, c < k → b < n → e < n → Nat.testBit S a = true → Nat.testBit S c = true → Nat.testBit S b = false → Nat.testBit S e = false → i2 d S n a m k ≤ qv d a b c e) ∧ (i2 d S n a m k = m ∨ ∃ c b e, c < k ∧ b < n ∧ e < n ∧ Nat.testBit S a = true ∧ Nat.testBit S c = true ∧ Nat.testBit S b = false ∧ Nat.testBit S e = false ∧ i2 d S n a m k = qv d a b c e)
  | 0, _ => ⟨Int.le_refl _, fun c b e h => absurd h (Nat.not_lt_zero _), Or.inl rfl⟩
  | k + 1, hk => by
    obtain ⟨h1, h2, h3⟩ := i2_spec d S n a m k (by omega)
    rw [i2_s]
    by_cases hc : (Nat.testBit S a && Nat.testBit S k) = true
    · rw [if_pos hc]
      rw [Bool.and_eq_true] at hc
      obtain ⟨g1, g2, g3⟩ := i3_spec d S n a k (i2 d S n a m k) n (Nat.le_refl _)
      refine ⟨by omega, fun c b e hcc hb he b1 b2 b3 b4 => ?_, ?_⟩
      · rcases Nat.lt_or_ge c k with h4 | h4
        · have := h2 c b e h4 hb he b1 b2 b3 b4
          omega
        · obtain rfl : c = k := by omega
          exact g2 b e hb he b3 b4
      · rcases g3 with e | ⟨b, e, hb, he, b1, b2, ee⟩
        · rw [e]
          rcases h3 with e3 | ⟨c, b, e3, h5, rest⟩
          · exact Or.inl e3
          · exact Or.inr ⟨c, b, e3, by omega, rest⟩
        · exact Or.inr ⟨k, b, e, by omega, hb, he, hc.1, hc.2, b1, b2, ee⟩
    · rw [if_neg hc]
      refine ⟨h1, fun c b e hcc hb he b1 b2 b3 b4 => ?_, ?_⟩
      · rcases Nat.lt_or_ge c k with h4 | h4
        · exact h2 c b e h4 hb he b1 b2 b3 b4
        · obtain rfl : c = k := by omega
          exact absurd (by rw [b1, b2]; rfl) hc
      · rcases h3 with e3 | ⟨c, b, e3, h5, rest⟩
        · exact Or.inl e3
        · exact Or.inr ⟨c, b, e3, by omega, rest⟩
theorem i1_spec (d : Nat → Nat) (S n : Nat) : ∀ k, k ≤ n → i1 d S n k ≤ 1000 ∧ (∀ a c b e, a < k → c < n → b < n → e < n → Nat.testBit S a = true → Nat.testBit S c = true → Nat.testBit S b = false → Nat.testBit S e = false → i1 d S n k ≤ qv d a b c e) ∧ (i1 d S n k = 1000 ∨ ∃ a c b e, a < k ∧ c < n ∧ b < n ∧ e < n ∧ Nat.testBit S a = true ∧ Nat.testBit S c = true ∧ Nat.testBit S b = false ∧ Nat.testBit S e = false ∧ i1 d S n k = qv d a b c e)
  | 0, _ => ⟨Int.le_refl _, fun a c b e h => absurd h (Nat.not_lt_zero _), Or.inl rfl⟩
  | k + 1, hk => by
    obtain ⟨h1, h2, h3⟩ := i1_spec d S n k (by omega)
    obtain ⟨g1, g2, g3⟩ := i2_spec d S n k (i1 d S n k) n (Nat.le_refl _)
    show i2 d S n k (i1 d S n k) n ≤ 1000 ∧ (∀ a c b e, a < k + 1 → c < n → b < n → e < n → Nat.testBit S a = true → Nat.testBit S c = true → Nat.testBit S b = false → Nat.testBit S e = false → i2 d S n k (i1 d S n k) n ≤ qv d a b c e) ∧ (i2 d S n k (i1 d S n k) n = 1000 ∨ ∃ a c b e, a < k + 1 ∧ c < n ∧ b < n ∧ e < n ∧ Nat.testBit S a = true ∧ Nat.testBit S c = true ∧ Nat.testBit S b = false ∧ Nat.testBit S e = false ∧ i2 d S n k (i1 d S n k) n = qv d a b c e)
    refine ⟨by omega, fun a c b e ha hc hb he b1 b2 b3 b4 => ?_, ?_⟩
    · rcases Nat.lt_or_ge a k with h4 | h4
      · have := h2 a c b e h4 hc hb he b1 b2 b3 b4
        omega
      · obtain rfl : a = k := by omega
        exact g2 c b e hc hb he b1 b2 b3 b4
    · rcases g3 with e | ⟨c, b, e, hc, hb, he, b1, b2, b3, b4, ee⟩
      · rw [e]
        rcases h3 with e3 | ⟨a, c, b, e3, h5, rest⟩
        · exact Or.inl e3
        · exact Or.inr ⟨a, c, b, e3, by omega, rest⟩
      · exact Or.inr ⟨k, c, b, e, by omega, hc, hb, he, b1, b2, b3, b4, ee⟩
theorem idxM_is (d : Nat → Nat) (S n : Nat) : isIdx d S n (idxM d S n) := by
  obtain ⟨h1, h2, h3⟩ := i1_spec d S n n (Nat.le_refl _)
  refine ⟨fun a x b y hq => ?_, h1, ?_⟩
  · obtain ⟨⟨qa, qb, qx, qy⟩, b1, b2, b3, b4⟩ := hq
    exact h2 a b x y qa qb qx qy b1 b2 b3 b4
  · rcases h3 with e | ⟨a, c, b, e, ha, hc, hb, he, b1, b2, b3, b4, ee⟩
    · exact Or.inl e
    · exact Or.inr ⟨a, b, c, e, ⟨⟨ha, hc, hb, he⟩, b1, b2, b3, b4⟩, ee⟩
theorem idxM_eq {d : Nat → Nat} (h : Inv d) {n : Nat} (hn : n ≤ 7) (S : Nat) : idxM d S n = idx d S n := isIdx_eq (idxM_is d S n) (idx_is h hn S)
theorem f_index {d : Nat → Nat} {n : Nat} (h : Inv d) (hn : n ≤ 7) (z : Int) : spIndexM n d z = spIndex n d z := by
  unfold spIndexM spIndex
  rw [idxM_eq h hn]
/-- only the bits below n count -/
theorem idx_bits {d : Nat → Nat} (h : Inv d) {n : Nat} (hn : n ≤ 7) {S T : Nat} (hb : ∀ i, i < n → Nat.testBit S i = Nat.testBit T i) : idx d S n = idx d T n := by
  have key : ∀ {S T : Nat}, (∀ i, i < n → Nat.testBit S i = Nat.testBit T i) → ∀ {a x b y : Nat}, quad S n a x b y → quad T n a x b y := by
    intro S T hb a x b y hq
    obtain ⟨⟨qa, qb, qx, qy⟩, b1, b2, b3, b4⟩ := hq
    rw [hb a qa] at b1; rw [hb b qb] at b2; rw [hb x qx] at b3; rw [hb y qy] at b4
    exact ⟨⟨qa, qb, qx, qy⟩, b1, b2, b3, b4⟩
  obtain ⟨h1, h2, h3⟩ := idx_is h hn T
  refine isIdx_eq (idx_is h hn S) ⟨fun a x b y hq => h1 a x b y (key hb hq), h2, ?_⟩
  rcases h3 with e | ⟨a, x, b, y, hq, e⟩
  · exact Or.inl e
  · exact Or.inr ⟨a, x, b, y, key (fun i hi => (hb i hi).symm) hq, e⟩
/-- one point more: the index can only fall -/
theorem idx_mono {d : Nat → Nat} (h : Inv d) {n : Nat} (hn : n < 7) (S : Nat) : idx d S (n + 1) ≤ idx d S n := by
  obtain ⟨h1, h2, h3⟩ := idx_is h (n := n + 1) (by omega) S
  rcases (idx_is h (n := n) (by omega) S).2.2 with e | ⟨a, x, b, y, hq, e⟩
  · rw [e]; exact h2
  · rw [e]
    obtain ⟨⟨qa, qb, qx, qy⟩, rest⟩ := hq
    exact h1 a x b y ⟨⟨by omega, by omega, by omega, by omega⟩, rest⟩
/-- Buneman: two positive splits never cut each other -/
theorem buneman {d : Nat → Nat} (h : Inv d) {n : Nat} (hn : n ≤ 7) {S T : Nat} (hS : 0 < idx d S n) (hT : 0 < idx d T n) {p q r s : Nat} (hp : p < n) (hq : q < n) (hr : r < n) (hs : s < n)
    (p1 : Nat.testBit S p = true) (p2 : Nat.testBit T p = true) (q1 : Nat.testBit S q = true) (q2 : Nat.testBit T q = false) (r1 : Nat.testBit S r = false) (r2 : Nat.testBit T r = true) (s1 : Nat.testBit S s = false) (s2 : Nat.testBit T s = false) : False := by
  have h1 := (idx_is h hn S).1 p r q s ⟨⟨hp, hq, hr, hs⟩, p1, q1, r1, s1⟩
  have h2 := (idx_is h hn T).1 p q r s ⟨⟨hp, hr, hq, hs⟩, p2, r2, q2, s2⟩
  unfold qv at h1 h2
  omega
end
section
/-! the list of all edges, and sums over it -/
set_option maxRecDepth 100000
/-- the numbers h S for the odd S = 2 t + 1, t < m, with p S -/
def oL {α : Type} (p : Nat → Bool) (h : Nat → α) : Nat → List α
  | 0 => []
  | m + 1 => oL p h m ++ (if p (2 * m + 1) = true then [h (2 * m + 1)] else [])
theorem oL_s {α : Type} (p : Nat → Bool) (h : Nat → α) (m : Nat) : oL p h (m + 1) = oL p h m ++ (if p (2 * m + 1) = true then [h (2 * m + 1)] else []) := rfl
theorem oL_len {α : Type} (p : Nat → Bool) (h : Nat → α) : ∀ m, (oL p h m).length = cT p m
  | 0 => rfl
  | m + 1 => by
    rw [oL_s, cT_s, List.length_append, oL_len p h m]
    split <;> rfl
theorem oL_mem {α : Type} (p : Nat → Bool) (h : Nat → α) (x : α) : ∀ m, x ∈ oL p h m ↔ ∃ t, t < m ∧ p (2 * t + 1) = true ∧ x = h (2 * t + 1)
  | 0 => by
    constructor
    · intro h; cases h
    · rintro ⟨t, h, -⟩; exact absurd h (Nat.not_lt_zero _)
  | m + 1 => by
    rw [oL_s, List.mem_append, oL_mem p h x m]
    constructor
    · rintro (⟨t, h1, h2⟩ | h1)
      · exact ⟨t, by omega, h2⟩
      · split at h1
        · next hp => exact ⟨m, by omega, hp, List.mem_singleton.mp h1⟩
        · cases h1
    · rintro ⟨t, h1, h2, h3⟩
      rcases Nat.lt_or_ge t m with h4 | h4
      · exact Or.inl ⟨t, h4, h2, h3⟩
      · obtain rfl : t = m := by omega
        right
        rw [if_pos h2]
        exact List.mem_singleton.mpr h3
theorem oL_sum (p : Nat → Bool) {α : Type} (h : Nat → α) (g : α → Nat) : ∀ m, ((oL p h m).map g).sum = sT (fun S => if p S = true then g (h S) else 0) m
  | 0 => rfl
  | m + 1 => by
    rw [oL_s, sT_s, List.map_append, List.sum_append, oL_sum p h g m]
    split
    · simp
    · simp
/-- the place of an element: as many as there are before it -/
theorem oL_at {α : Type} (p : Nat → Bool) (h : Nat → α) : ∀ m t, t < m → p (2 * t + 1) = true → (oL p h m)[cT p t]? = some (h (2 * t + 1))
  | 0, t, ht, _ => absurd ht (Nat.not_lt_zero _)
  | m + 1, t, ht, hp => by
    rw [oL_s]
    rcases Nat.lt_or_ge t m with h4 | h4
    · have ih := oL_at p h m t h4 hp
      rw [List.getElem?_append_left (List.getElem?_eq_some_iff.mp ih).1]
      exact ih
    · obtain rfl : t = m := by omega
      rw [List.getElem?_append_right (by rw [oL_len]; exact Nat.le_refl _), oL_len, Nat.sub_self, if_pos hp]
      rfl
theorem oL_ex (p : Nat → Bool) : ∀ m k, k < cT p m → ∃ t, t < m ∧ p (2 * t + 1) = true ∧ cT p t = k
  | 0, k, h => absurd h (Nat.not_lt_zero _)
  | m + 1, k, h => by
    rw [cT_s] at h
    rcases Nat.lt_or_ge k (cT p m) with h4 | h4
    · obtain ⟨t, h1, h2⟩ := oL_ex p m k h4
      exact ⟨t, by omega, h2⟩
    · split at h
      · next hp => exact ⟨m, by omega, hp, by omega⟩
      · omega
theorem range_odd {α : Type} (p : Nat → Bool) (h : Nat → α) : ∀ m, (((List.range m).filter (fun S => decide (S % 2 = 1) && p S)).map h) = oL p h (m / 2)
  | 0 => rfl
  | m + 1 => by
    rw [List.range_succ, List.filter_append, List.map_append, range_odd p h m]
    by_cases e : m % 2 = 1
    · rw [show (m + 1) / 2 = m / 2 + 1 from by omega, oL_s, show 2 * (m / 2) + 1 = m from by omega]
      by_cases hp : p m = true
      · rw [if_pos hp]
        simp [e, hp]
      · rw [if_neg hp]
        simp [e, hp]
    · rw [show (m + 1) / 2 = m / 2 from by omega]
      simp [e]
def posI (d : Nat → Nat) (n S : Nat) : Bool := decide (0 < idx d S n)
theorem Es_oL (d : Nat → Nat) (n : Nat) : Es d n = oL (posI d n) (fun S => (S, (idx d S n).toNat)) (hT n) := range_odd (posI d n) _ _
theorem pos_eq {d : Nat → Nat} (h : Inv d) {n : Nat} (hn : n ≤ 7) : pos d n = posI d n := by
  funext S
  unfold pos posI
  rw [idxM_eq h hn]
theorem Es_mem {d : Nat → Nat} {n : Nat} {x : Nat × Nat} : x ∈ Es d n ↔ x.1 % 2 = 1 ∧ x.1 < 2 ^ n - 1 ∧ 0 < idx d x.1 n ∧ x.2 = (idx d x.1 n).toNat := by
  rw [Es_oL, oL_mem]
  have hhT : hT n = (2 ^ n - 1) / 2 := rfl
  have hp := pw n
  constructor
  · rintro ⟨t, h1, h2, h3⟩
    rw [h3]
    refine ⟨by show (2 * t + 1) % 2 = 1; omega, by show 2 * t + 1 < 2 ^ n - 1; omega, of_decide_eq_true h2, rfl⟩
  · rintro ⟨h1, h2, h3, h4⟩
    refine ⟨x.1 / 2, by omega, ?_, ?_⟩
    · rw [show 2 * (x.1 / 2) + 1 = x.1 from by omega]
      exact decide_eq_true h3
    · rw [show 2 * (x.1 / 2) + 1 = x.1 from by omega, ← h4]
theorem f_edges {d : Nat → Nat} {n : Nat} (h : Inv d) (hn : n ≤ 7) : cT (pos d n) (hT n) = (Es d n).length := by
  rw [Es_oL, oL_len, pos_eq h hn]
theorem f_edge {d : Nat → Nat} {n : Nat} (h : Inv d) (hn : n ≤ 7) {z : Int} {r : Int32} (hr : (∃ t, t < hT n ∧ pos d n (2 * t + 1) = true ∧ (cT (pos d n) t : Int) = z ∧ r = nI (2 * t + 1)) ∨ ((∀ t, t < hT n → pos d n (2 * t + 1) = true → (cT (pos d n) t : Int) ≠ z) ∧ r = iI (-1002))) : r = spEdge n d z := by
  rw [pos_eq h hn] at hr
  unfold spEdge
  have hlen : (Es d n).length = cT (posI d n) (hT n) := by rw [Es_oL, oL_len]
  rcases hr with ⟨t, h1, h2, h3, h4⟩ | ⟨h1, h2⟩
  · have h5 := oL_at (posI d n) (fun S => (S, (idx d S n).toNat)) (hT n) t h1 h2
    rw [← Es_oL] at h5
    have h6 := (List.getElem?_eq_some_iff.mp h5).1
    rw [if_neg (by omega), h4, ← h3, Int.toNat_natCast, (sdN_at h5).1]
  · rw [h2, if_pos]
    by_cases h3 : z < 0
    · exact Or.inl h3
    · right
      by_cases h4 : z < (Es d n).length
      · exfalso
        obtain ⟨t, g1, g2, g3⟩ := oL_ex (posI d n) (hT n) z.toNat (by omega)
        exact h1 t g1 g2 (by omega)
      · exact Int.not_lt.mp h4
theorem pthf_sum (L : EL) (i j : Nat) : ∀ k, k ≤ L.length → pthf L i j k = ((L.take k).map (fun q => if (Nat.testBit q.1 i != Nat.testBit q.1 j) = true then q.2 else 0)).sum
  | 0, _ => by simp [pthf]
  | k + 1, hk => by
    rw [pthf_s, pthf_sum L i j k (by omega), List.take_add_one, sdN_get (by omega), List.map_append, List.sum_append]
    split <;> simp_all
theorem path_bet {d : Nat → Nat} {n : Nat} (h : Inv d) (hn : n ≤ 7) (i j : Nat) : pathL (Es d n) i j = bet d n i j := by
  unfold pathL bet
  rw [pthf_sum _ _ _ _ (Nat.le_refl _), List.take_length, Es_oL, oL_sum]
  congr 1
  funext S
  unfold bw posI
  rw [idxM_eq h hn]
  by_cases h1 : 0 < idx d S n
  · by_cases h2 : (Nat.testBit S i != Nat.testBit S j) = true
    · rw [if_pos (decide_eq_true h1), if_pos h2, if_pos ⟨h2, h1⟩]
    · rw [if_pos (decide_eq_true h1), if_neg h2, if_neg (fun e => h2 e.1)]
  · rw [if_neg (fun e => h1 (of_decide_eq_true e)), if_neg (fun e => h1 e.2)]
theorem f_td {d : Nat → Nat} {n : Nat} (h : Inv d) (hn : n ≤ 7) (x y : Int) : spTDM n d x y = spTD n d x y := by
  unfold spTDM spTD
  rw [path_bet h hn]
theorem f_tog {d : Nat → Nat} {n : Nat} (h : Inv d) (hn : n ≤ 7) (x y : Int) : spTogM n d x y = spTog n d x y := by
  unfold spTogM spTog
  rw [path_bet h hn]
theorem spf_sp2 {d : Nat → Nat} {n : Nat} (h : Inv d) (hn : n ≤ 7) (i : Nat) : ∀ j, j ≤ n → spf (Es d n) n (i * n + j) = sp2 d n i (spf (Es d n) n (i * n)) j
  | 0, _ => rfl
  | j + 1, hj => by
    have e : spf (Es d n) n (i * n + (j + 1)) = if spf (Es d n) n (i * n + j) < pathL (Es d n) ((i * n + j) / n) ((i * n + j) % n) then pathL (Es d n) ((i * n + j) / n) ((i * n + j) % n) else spf (Es d n) n (i * n + j) := rfl
    have k := kij (n := n) (i := i) (j := j) (by omega)
    rw [e, k.1, k.2, spf_sp2 h hn i j (by omega), sp2_s, path_bet h hn]
theorem spf_sp1 {d : Nat → Nat} {n : Nat} (h : Inv d) (hn : n ≤ 7) : ∀ i, spf (Es d n) n (i * n) = sp1 d n i
  | 0 => by rw [Nat.zero_mul]; rfl
  | i + 1 => by
    rw [Nat.succ_mul, spf_sp2 h hn i n (Nat.le_refl _), spf_sp1 h hn i]
    rfl
theorem f_span {d : Nat → Nat} {n : Nat} (h : Inv d) (hn : n ≤ 7) : sp1 d n n = spf (Es d n) n (n * n) := (spf_sp1 h hn n).symm
theorem wgf_sum (L : EL) : ∀ k, k ≤ L.length → wgf L k = ((L.take k).map (fun q => q.2)).sum
  | 0, _ => by simp [wgf]
  | k + 1, hk => by
    have e : wgf L (k + 1) = wgf L k + ixN L k := rfl
    rw [e, wgf_sum L k (by omega), List.take_add_one, sdN_get (by omega), List.map_append, List.sum_append]
    simp
theorem f_weight {d : Nat → Nat} {n : Nat} (h : Inv d) (hn : n ≤ 7) : sT (wgt d n) (hT n) = wgf (Es d n) (Es d n).length := by
  rw [wgf_sum _ _ (Nat.le_refl _), List.take_length, Es_oL, oL_sum]
  congr 1
  funext S
  unfold wgt posI
  rw [idxM_eq h hn]
  by_cases h1 : 0 < idx d S n
  · rw [if_pos (decide_eq_true h1), if_pos h1]
  · rw [if_neg (fun e => h1 (of_decide_eq_true e)), if_neg h1]
theorem sT_congr {f g : Nat → Nat} : ∀ m, (∀ t, t < m → f (2 * t + 1) = g (2 * t + 1)) → sT f m = sT g m
  | 0, _ => rfl
  | m + 1, h => by rw [sT_s, sT_s, sT_congr m (fun t ht => h t (by omega)), h m (by omega)]
theorem bet_sym (d : Nat → Nat) (n i j : Nat) : bet d n i j = bet d n j i := by
  unfold bet
  congr 1
  funext S
  unfold bw
  rw [show (Nat.testBit S i != Nat.testBit S j) = (Nat.testBit S j != Nat.testBit S i) from by cases Nat.testBit S i <;> cases Nat.testBit S j <;> rfl]
theorem sT_zero : ∀ m, sT (fun _ => 0) m = 0
  | 0 => rfl
  | m + 1 => by rw [sT_s, sT_zero m]
theorem bet_diag (d : Nat → Nat) (n i : Nat) : bet d n i i = 0 := by
  unfold bet
  rw [show bw d n i i = fun _ => 0 from ?_]
  · exact sT_zero _
  · funext S
    unfold bw
    rw [if_neg]
    rintro ⟨h, -⟩
    simp at h
theorem smb_sym (d : Nat → Nat) (n i j : Nat) : smb d n i j = smb d n j i := by
  unfold smb
  rw [bet_sym]
theorem smb_diag (d : Nat → Nat) (n i : Nat) : smb d n i i = 0 := by
  unfold smb
  rw [bet_diag]
  rfl
/-- smooth of the component: pairs that were seen are smoothed, the others are as before -/
theorem smf_spec {d : Nat → Nat} {n : Nat} (h : Inv d) (hn : n ≤ 7) : ∀ k, k ≤ n * n →
    (∀ a b, a < b → b < n → a * n + b < k → (smf (Es d n) n d k).1 (7 * a + b) = smb d n a b ∧ (smf (Es d n) n d k).1 (7 * b + a) = smb d n a b) ∧
    (∀ a b, a < b → b < n → k ≤ a * n + b → (smf (Es d n) n d k).1 (7 * a + b) = d (7 * a + b) ∧ (smf (Es d n) n d k).1 (7 * b + a) = d (7 * b + a)) ∧
    (∀ m, (∀ a b, a < n → b < n → a ≠ b → m ≠ 7 * a + b) → (smf (Es d n) n d k).1 m = d m) ∧ (smf (Es d n) n d k).2 = cM d n k
  | 0, _ => ⟨fun a b _ _ h => absurd h (Nat.not_lt_zero _), fun _ _ _ _ _ => ⟨rfl, rfl⟩, fun _ _ => rfl, rfl⟩
  | k + 1, hk => by
    obtain ⟨h1, h2, h3, h4⟩ := smf_spec h hn k (by omega)
    have ⟨n0, k1, k2⟩ := kdiv (n := n) (k := k) (by omega)
    have hkk : k / n * n + k % n = k := by rw [Nat.mul_comm]; exact Nat.div_add_mod k n
    have hsm : smh (Es d n) n k = smb d n (k / n) (k % n) := by
      unfold smh smb
      rw [path_bet h hn]
    have uniq : ∀ a b, b < n → a * n + b = k → a = k / n ∧ b = k % n := by
      intro a b hb e
      have := kij (n := n) (i := a) (j := b) hb
      rw [e] at this
      exact ⟨this.1.symm, this.2.symm⟩
    have ecm : cM d n (k + 1) = if k / n < k % n ∧ smb d n (k / n) (k % n) ≠ d (7 * (k / n) + k % n) then cM d n k + 1 else cM d n k := rfl
    rw [smf_s, ecm, hsm]
    generalize hi : k / n = i at *
    generalize hj : k % n = j at *
    by_cases hij : i < j
    · have e2 := h2 i j hij (by omega) (by omega)
      rw [e2.1]
      by_cases hc : smb d n i j ≠ d (7 * i + j)
      · rw [if_pos ⟨hij, hc⟩, if_pos ⟨hij, hc⟩]
        refine ⟨fun a b hab hb hk2 => ?_, fun a b hab hb hk2 => ?_, fun m hm => ?_, by show _ + 1 = _ + 1; rw [h4]⟩
        · show putD _ i j _ _ = _ ∧ putD _ i j _ _ = _
          rw [putD_at, putD_at]
          by_cases e : a = i ∧ b = j
          · obtain ⟨rfl, rfl⟩ := e
            rw [if_neg (by omega), if_pos rfl, if_pos rfl]
            exact ⟨rfl, rfl⟩
          · have hlt : a * n + b < k := by
              rcases Nat.lt_or_ge (a * n + b) k with h5 | h5
              · exact h5
              · exact absurd (uniq a b hb (by omega)) e
            rw [if_neg (by omega), if_neg (by omega), if_neg (by omega), if_neg (by omega)]
            exact h1 a b hab hb hlt
        · show putD _ i j _ _ = _ ∧ putD _ i j _ _ = _
          rw [putD_at, putD_at]
          have e : ¬ (a = i ∧ b = j) := fun e => by rw [e.1, e.2] at hk2; omega
          rw [if_neg (by omega), if_neg (by omega), if_neg (by omega), if_neg (by omega)]
          exact h2 a b hab hb (by omega)
        · show putD _ i j _ _ = _
          rw [putD_at, if_neg (hm j i (by omega) (by omega) (by omega)), if_neg (hm i j (by omega) (by omega) (by omega))]
          exact h3 m hm
      · rw [if_neg (fun e => hc e.2), if_neg (fun e => hc e.2)]
        have hc : smb d n i j = d (7 * i + j) := Decidable.not_not.mp hc
        refine ⟨fun a b hab hb hk2 => ?_, fun a b hab hb hk2 => h2 a b hab hb (by omega), h3, h4⟩
        rcases Nat.lt_or_ge (a * n + b) k with h5 | h5
        · exact h1 a b hab hb h5
        · obtain ⟨rfl, rfl⟩ := uniq a b hb (by omega)
          rw [e2.1, e2.2, hc]
          exact ⟨rfl, h.2.1 b a (by omega) (by omega)⟩
    · rw [if_neg (fun e => hij e.1), if_neg (fun e => hij e.1)]
      refine ⟨fun a b hab hb hk2 => ?_, fun a b hab hb hk2 => h2 a b hab hb (by omega), h3, h4⟩
      rcases Nat.lt_or_ge (a * n + b) k with h5 | h5
      · exact h1 a b hab hb h5
      · obtain ⟨rfl, rfl⟩ := uniq a b hb (by omega)
        exact absurd hab hij
theorem cpM_spec (d : Nat → Nat) (n : Nat) (hn : n ≤ 7) : ∀ k, k ≤ n * n → (∀ a b, a < n → b < n → a * n + b < k → cpM d n k (7 * a + b) = smb d n a b) ∧ (∀ m, (∀ a b, a < n → b < n → m ≠ 7 * a + b) → cpM d n k m = d m)
  | 0, _ => ⟨fun a b _ _ h => absurd h (Nat.not_lt_zero _), fun _ _ => rfl⟩
  | k + 1, hk => by
    obtain ⟨h1, h2⟩ := cpM_spec d n hn k (by omega)
    have ⟨n0, k1, k2⟩ := kdiv (n := n) (k := k) (by omega)
    have e : cpM d n (k + 1) = up_d (cpM d n k) (7 * (k / n) + k % n) (smb d n (k / n) (k % n)) := rfl
    rw [e]
    refine ⟨fun a b ha hb hab => ?_, fun m hm => ?_⟩
    · rw [up_d_at]
      have kk := kij (n := n) (i := a) (j := b) hb
      by_cases e2 : a * n + b = k
      · rw [e2] at kk
        rw [kk.1, kk.2, if_pos rfl]
      · rw [if_neg (fun e3 => ?_)]
        · exact h1 a b ha hb (by omega)
        · have : a = k / n ∧ b = k % n := by omega
          rw [this.1, this.2] at e2
          exact e2 (by rw [Nat.mul_comm]; exact Nat.div_add_mod k n)
    · rw [up_d_at, if_neg (hm _ _ k1 k2)]
      exact h2 m hm
theorem f_smooth {d : Nat → Nat} {n : Nat} (h : Inv d) (hn : n ≤ 7) : cM d n (n * n) = (smf (Es d n) n d (n * n)).2 ∧ cpM d n (n * n) = (smf (Es d n) n d (n * n)).1 := by
  obtain ⟨h1, -, h3, h4⟩ := smf_spec h hn (n * n) (Nat.le_refl _)
  obtain ⟨g1, g2⟩ := cpM_spec d n hn (n * n) (Nat.le_refl _)
  refine ⟨h4.symm, ?_⟩
  funext m
  by_cases hm : ∃ a b, a < n ∧ b < n ∧ m = 7 * a + b
  · obtain ⟨a, b, ha, hb, rfl⟩ := hm
    rw [g1 a b ha hb (kidx ha hb)]
    rcases Nat.lt_trichotomy a b with e | e | e
    · exact (h1 a b e hb (kidx ha hb)).1.symm
    · subst e
      rw [smb_diag, h3 _ (fun x y hx hy hxy => by omega), show 7 * a + a = 8 * a from by omega, h.2.2 a (by omega)]
    · rw [(h1 b a e ha (kidx hb ha)).2]
      exact smb_sym d n a b
  · have hm : ∀ a b, a < n → b < n → m ≠ 7 * a + b := fun a b ha hb e => hm ⟨a, b, ha, hb, e⟩
    rw [g2 m hm, h3 m (fun a b ha hb _ => hm a b ha hb)]
theorem aT_iff (f : Nat → Bool) : ∀ m, aT f m = true ↔ ∀ t, t < m → f (2 * t + 1) = true
  | 0 => ⟨fun _ t h => absurd h (Nat.not_lt_zero _), fun _ => rfl⟩
  | m + 1 => by
    rw [aT_s, Bool.and_eq_true, aT_iff f m]
    constructor
    · rintro ⟨h1, h2⟩ t ht
      rcases Nat.lt_or_ge t m with h | h
      · exact h1 t h
      · obtain rfl : t = m := by omega
        exact h2
    · intro h
      exact ⟨fun t ht => h t (by omega), h m (by omega)⟩
theorem agf_iff (L : EL) (n S : Nat) : ∀ k, agf L n S k = true ↔ ∀ j, j < k → agr n S (sdN L j) = true
  | 0 => ⟨fun _ t h => absurd h (Nat.not_lt_zero _), fun _ => rfl⟩
  | k + 1 => by
    have e : agf L n S (k + 1) = (agf L n S k && agr n S (sdN L k)) := rfl
    rw [e, Bool.and_eq_true, agf_iff L n S k]
    constructor
    · rintro ⟨h1, h2⟩ t ht
      rcases Nat.lt_or_ge t k with h | h
      · exact h1 t h
      · obtain rfl : t = k := by omega
        exact h2
    · intro h
      exact ⟨fun t ht => h t (by omega), h k (by omega)⟩
theorem bit0 {S : Nat} : Nat.testBit S 0 = true ↔ S % 2 = 1 := by
  rw [Nat.testBit_zero]
  exact decide_eq_true_iff
theorem agrM_agr {n S T : Nat} (hS : S % 2 = 1) (hT : T % 2 = 1) (hS2 : S < 2 ^ n) (hT2 : T < 2 ^ n) : agrM n S T = agr n S T := by
  unfold agrM agr
  congr 1
  apply propext
  have h0 : S &&& T ≠ 0 := by
    intro e
    have h1 : Nat.testBit (S &&& T) 0 = true := by rw [Nat.testBit_and, bit0.mpr hS, bit0.mpr hT]; rfl
    rw [e] at h1
    simp at h1
  have hor : S ||| T < 2 ^ n := Nat.or_lt_two_pow hS2 hT2
  have hand : (2 ^ n - 1) &&& (S ||| T) = S ||| T := by
    rw [Nat.and_comm, Nat.and_two_pow_sub_one_eq_mod, Nat.mod_eq_of_lt hor]
  rw [hand]
  constructor
  · rintro (e | e | e | e)
    · exact absurd e h0
    · exact Or.inl e
    · exact Or.inr (Or.inl e)
    · exact Or.inr (Or.inr e)
  · rintro (e | e | e)
    · exact Or.inr (Or.inl e)
    · exact Or.inr (Or.inr (Or.inl e))
    · exact Or.inr (Or.inr (Or.inr e))
/-- the splits that agree with all edges, on both sides -/
theorem agM_agf {d : Nat → Nat} {n : Nat} (h : Inv d) (hn : n ≤ 7) {S : Nat} (hS : S % 2 = 1) (hS2 : S < 2 ^ n) : agM d n S = agf (Es d n) n S (Es d n).length := by
  have key : agM d n S = true ↔ agf (Es d n) n S (Es d n).length = true := by
    unfold agM
    rw [aT_iff, agf_iff]
    have hhT : hT n = (2 ^ n - 1) / 2 := rfl
    constructor
    · intro h1 j hj
      have hm := List.mem_of_getElem? (sdN_get hj)
      obtain ⟨e1, e2, e3, e4⟩ := Es_mem.mp hm
      simp only at e1 e2 e3
      have h2 := h1 (sdN (Es d n) j / 2) (by omega)
      rw [show 2 * (sdN (Es d n) j / 2) + 1 = sdN (Es d n) j from by omega] at h2
      unfold agp pos at h2
      rw [idxM_eq h hn, decide_eq_true e3, agrM_agr hS e1 hS2 (by omega)] at h2
      exact h2
    · intro h1 t ht
      unfold agp pos
      by_cases hp : 0 < idxM d (2 * t + 1) n
      · rw [decide_eq_true hp, agrM_agr hS (by omega) hS2 (by omega)]
        have hm : (2 * t + 1, (idx d (2 * t + 1) n).toNat) ∈ Es d n := Es_mem.mpr ⟨by show (2 * t + 1) % 2 = 1; omega, by show 2 * t + 1 < _; have := pw n; omega, by rw [← idxM_eq h hn]; exact hp, rfl⟩
        obtain ⟨j, hj⟩ := List.getElem?_of_mem hm
        have h2 := h1 j (List.getElem?_eq_some_iff.mp hj).1
        rw [(sdN_at hj).1] at h2
        exact h2
      · rw [decide_eq_false hp]
        rfl
  cases e1 : agM d n S <;> cases e2 : agf (Es d n) n S (Es d n).length
  · rfl
  · exact absurd (key.mpr e2) (by rw [e1]; decide)
  · exact absurd (key.mp e1) (by rw [e2]; decide)
  · rfl
theorem f_agrees {d : Nat → Nat} {n : Nat} (h : Inv d) (hn : n ≤ 7) (z : Int) : spAgreesM n d z = spAgrees n (Es d n) z := by
  unfold spAgreesM spAgrees
  split
  · rfl
  · next hb =>
    have hb := bads_f (Bool.eq_false_iff.mpr hb)
    have h2p : 1 ≤ 2 ^ n := Nat.one_le_two_pow
    rw [agM_agf h hn (by omega) (by omega)]
end
section
/-! what find rests on: edges are few, and those of one point more come from those before -/
set_option maxRecDepth 100000
theorem nodup_le : ∀ (m : Nat) (l : List Nat), l.Nodup → (∀ x ∈ l, x < m) → l.length ≤ m
  | 0, l, _, h => by
    cases l with
    | nil => exact Nat.le_refl _
    | cons a l => exact absurd (h a List.mem_cons_self) (Nat.not_lt_zero _)
  | m + 1, l, hn, h => by
    by_cases hm : m ∈ l
    · have h1 := nodup_le m (l.erase m) (hn.erase m) (fun x hx => by
        have h2 := (List.Nodup.mem_erase_iff hn).mp hx
        have h3 := h x h2.2
        omega)
      rw [List.length_erase_of_mem hm] at h1
      omega
    · have h1 := nodup_le m l hn (fun x hx => by
        have h3 := h x hx
        have : x ≠ m := fun e => hm (e ▸ hx)
        omega)
      omega
theorem srt_ext : ∀ {L M : EL}, Srt L → Srt M → (∀ x, x ∈ L ↔ x ∈ M) → L = M
  | [], M, _, _, h => by
    cases M with
    | nil => rfl
    | cons b M => exact absurd ((h b).mpr List.mem_cons_self) List.not_mem_nil
  | a :: L, [], _, _, h => absurd ((h a).mp List.mem_cons_self) List.not_mem_nil
  | a :: L, b :: M, hL, hM, h => by
    obtain ⟨l1, l2⟩ := List.pairwise_cons.mp hL
    obtain ⟨m1, m2⟩ := List.pairwise_cons.mp hM
    have hab : a = b := by
      rcases List.mem_cons.mp ((h a).mp List.mem_cons_self) with e | e
      · exact e
      · rcases List.mem_cons.mp ((h b).mpr List.mem_cons_self) with e2 | e2
        · exact e2.symm
        · have h1 := m1 a e
          have h2 := l1 b e2
          omega
    subst hab
    rw [srt_ext l2 m2 (fun x => ?_)]
    constructor
    · intro hx
      rcases List.mem_cons.mp ((h x).mp (List.mem_cons_of_mem _ hx)) with e | e
      · have := l1 x hx
        rw [e] at this
        omega
      · exact e
    · intro hx
      rcases List.mem_cons.mp ((h x).mpr (List.mem_cons_of_mem _ hx)) with e | e
      · have := m1 x hx
        rw [e] at this
        omega
      · exact e
theorem oL_srt (p : Nat → Bool) (g : Nat → Nat) : ∀ m, Srt (oL p (fun S => (S, g S)) m)
  | 0 => List.Pairwise.nil
  | m + 1 => by
    rw [oL_s]
    unfold Srt
    rw [List.pairwise_append]
    refine ⟨oL_srt p g m, ?_, fun x hx y hy => ?_⟩
    · split
      · exact List.pairwise_singleton _ _
      · exact List.Pairwise.nil
    · obtain ⟨t, h1, h2, h3⟩ := (oL_mem _ _ x m).mp hx
      split at hy
      · rw [List.mem_singleton.mp hy, h3]
        show 2 * t + 1 < 2 * m + 1
        omega
      · cases hy
theorem Es_srt (d : Nat → Nat) (n : Nat) : Srt (Es d n) := by
  rw [Es_oL]
  exact oL_srt _ _ _
theorem Es_good {d : Nat → Nat} (h : Inv d) {n : Nat} (hn : n ≤ 7) : good (Es d n) := by
  intro q hq
  obtain ⟨e1, e2, e3, e4⟩ := Es_mem.mp hq
  have h1 := pow7 hn
  have h2 := idx_bd h.1 q.1 n
  omega
def clqT : List Nat := [0, 0, 1, 7, 2, 7, 8, 11, 3, 7, 8, 11, 9, 11, 12, 13, 4, 7, 8, 11, 9, 11, 12, 13, 10, 11, 12, 13, 12, 13, 13, 14, 5, 7, 8, 11, 9, 11, 12, 13, 10, 11, 12, 13, 12, 13, 13, 14, 10, 11, 12, 13, 12, 13, 13, 14, 12, 13, 13, 14, 13, 14, 14, 6]
def clq (c : Nat) : Nat := clqT.getD c 0
theorem clq_lt : ∀ c, c < 64 → clq c < 15 := by decide +kernel
theorem clq_ok0 : (List.range 64).all (fun a => (List.range 64).all (fun b => a == 0 || b == 0 || clq a != clq b || a == b || ((a &&& b) != 0 && (a &&& b) != a && (a &&& b) != b))) = true := by decide +kernel
theorem clq_ok : ∀ a, a < 64 → ∀ b, b < 64 → a ≠ 0 → b ≠ 0 → clq a = clq b → a ≠ b → a &&& b ≠ 0 ∧ a &&& b ≠ a ∧ a &&& b ≠ b := by
  intro a ha b hb a0 b0 e n
  have h := clq_ok0
  rw [List.all_eq_true] at h
  have h := h a (List.mem_range.mpr ha)
  rw [List.all_eq_true] at h
  have h := h b (List.mem_range.mpr hb)
  simp only [Bool.or_eq_true, Bool.and_eq_true, beq_iff_eq, bne_iff_ne] at h
  rcases h with (((h | h) | h) | h) | h
  · exact absurd h a0
  · exact absurd h b0
  · exact absurd e h
  · exact absurd h n
  · exact ⟨h.1.1, h.1.2, h.2⟩
def cmp (n S : Nat) : Nat := (2 ^ n - 1 - S) / 2
theorem cmp_bit {n S : Nat} (hS : S < 2 ^ n) (i : Nat) : Nat.testBit (cmp n S) i = (decide (i + 1 < n) && !Nat.testBit S (i + 1)) := by
  unfold cmp
  rw [Nat.testBit_div_two, show 2 ^ n - 1 - S = 2 ^ n - (S + 1) from by omega, Nat.testBit_two_pow_sub_succ hS]
theorem bit_of_ne {a b : Nat} (h : a &&& b ≠ a) : ∃ i, Nat.testBit a i = true ∧ Nat.testBit b i = false := by
  apply Classical.byContradiction
  intro hc
  apply h
  apply Nat.eq_of_testBit_eq
  intro i
  rw [Nat.testBit_and]
  cases ha : Nat.testBit a i
  · rfl
  · cases hb : Nat.testBit b i
    · exact absurd ⟨i, ha, hb⟩ hc
    · rfl
theorem Es_few {d : Nat → Nat} (h : Inv d) {n : Nat} (hn : n ≤ 7) : (Es d n).length ≤ 15 := by
  have h128 := pow7 hn
  have hpw := pw n
  have hl : (Es d n).length = ((Es d n).map (fun q => clq (cmp n q.1))).length := by rw [List.length_map]
  rw [hl]
  have hc : ∀ q ∈ Es d n, cmp n q.1 < 64 ∧ cmp n q.1 ≠ 0 := by
    intro q hq
    obtain ⟨e1, e2, -, -⟩ := Es_mem.mp hq
    unfold cmp
    omega
  refine nodup_le 15 _ ?_ (fun x hx => ?_)
  · unfold List.Nodup
    rw [List.pairwise_map]
    refine List.Pairwise.imp_of_mem (fun {p q} hp hq hpq => ?_) (Es_srt d n)
    intro e
    obtain ⟨a1, a2, a3, -⟩ := Es_mem.mp hp
    obtain ⟨b1, b2, b3, -⟩ := Es_mem.mp hq
    have hne : cmp n p.1 ≠ cmp n q.1 := by unfold cmp; omega
    obtain ⟨g1, g2, g3⟩ := clq_ok _ (hc p hp).1 _ (hc q hq).1 (hc p hp).2 (hc q hq).2 e hne
    obtain ⟨s, hs⟩ := Nat.exists_testBit_of_ne_zero g1
    obtain ⟨r, r1, r2⟩ := bit_of_ne g2
    obtain ⟨t, t1, t2⟩ := bit_of_ne (a := cmp n q.1) (b := cmp n p.1) (by rw [Nat.and_comm]; exact g3)
    rw [Nat.testBit_and, Bool.and_eq_true] at hs
    rw [cmp_bit (by omega), cmp_bit (by omega)] at hs
    rw [cmp_bit (by omega)] at r1 r2 t1 t2
    simp only [Bool.and_eq_true, decide_eq_true_eq, Bool.not_eq_true', Bool.and_eq_false_iff, decide_eq_false_iff_not, Bool.not_eq_false'] at hs r1 r2 t1 t2
    refine buneman h hn a3 b3 (p := 0) (q := t + 1) (r := r + 1) (s := s + 1) (by omega) (by omega) (by omega) (by omega) (bit0.mpr a1) (bit0.mpr b1) ?_ t1.2 r1.2 ?_ hs.1.2 hs.2.2
    · rcases t2 with e1 | e1
      · exact absurd t1.1 e1
      · exact e1
    · rcases r2 with e1 | e1
      · exact absurd r1.1 e1
      · exact e1
  · obtain ⟨q, hq, rfl⟩ := List.mem_map.mp hx
    exact clq_lt _ (hc q hq).1
def tryT (d : Nat → Nat) (n S : Nat) (x : Nat × Nat) : Prop := S ≠ 2 ^ n - 1 ∧ 0 < idx d S n ∧ x = (S, (idx d S n).toNat)
theorem tryF_mem {d : Nat → Nat} {S n : Nat} {F : EL} {x : Nat × Nat} : x ∈ tryF d S n F ↔ x ∈ F ∨ tryT d n S x := by
  unfold tryF tryT
  split
  · next e => exact ⟨Or.inl, fun h => h.elim id (fun h => absurd e h.1)⟩
  · next e =>
    split
    · next e2 =>
      rw [List.mem_append, List.mem_singleton]
      exact ⟨fun h => h.imp id (fun h => ⟨e, e2, h⟩), fun h => h.imp id (fun h => h.2.2)⟩
    · next e2 => exact ⟨Or.inl, fun h => h.elim id (fun h => absurd h.2.1 e2)⟩
theorem addF_mem {d : Nat → Nat} {m : Nat} {E : EL} {x : Nat × Nat} : ∀ k, x ∈ addF d m E k ↔ tryT d (m + 1) (2 ^ m - 1) x ∨ ∃ j, j < k ∧ (tryT d (m + 1) (sdN E j) x ∨ tryT d (m + 1) (sdN E j ||| 2 ^ m) x)
  | 0 => by
    show x ∈ tryF _ _ _ _ ↔ _
    rw [tryF_mem]
    constructor
    · rintro (h | h)
      · cases h
      · exact Or.inl h
    · rintro (h | ⟨j, hj, -⟩)
      · exact Or.inr h
      · exact absurd hj (Nat.not_lt_zero _)
  | k + 1 => by
    show x ∈ tryF _ _ _ (tryF _ _ _ _) ↔ _
    rw [tryF_mem, tryF_mem, addF_mem k]
    constructor
    · rintro (((h | ⟨j, hj, h⟩) | h) | h)
      · exact Or.inl h
      · exact Or.inr ⟨j, by omega, h⟩
      · exact Or.inr ⟨k, by omega, Or.inl h⟩
      · exact Or.inr ⟨k, by omega, Or.inr h⟩
    · rintro (h | ⟨j, hj, h⟩)
      · exact Or.inl (Or.inl (Or.inl h))
      · rcases Nat.lt_or_ge j k with h4 | h4
        · exact Or.inl (Or.inl (Or.inr ⟨j, h4, h⟩))
        · obtain rfl : j = k := by omega
          rcases h with h | h
          · exact Or.inl (Or.inr h)
          · exact Or.inr h
theorem tryF_dist {d : Nat → Nat} {S n : Nat} {F : EL} (h : F.Pairwise (fun p q => p.1 ≠ q.1)) (hS : ∀ x ∈ F, x.1 ≠ S) : (tryF d S n F).Pairwise (fun p q => p.1 ≠ q.1) := by
  unfold tryF
  split
  · exact h
  · split
    · rw [List.pairwise_append]
      refine ⟨h, List.pairwise_singleton _ _, fun x hx y hy => ?_⟩
      rw [List.mem_singleton.mp hy]
      exact hS x hx
    · exact h
theorem or_add {q T : Nat} (hT : T < 2 ^ q) : T ||| 2 ^ q = T + 2 ^ q := by
  have := Nat.two_pow_add_eq_or_of_lt hT 1
  rw [Nat.mul_one] at this
  rw [Nat.or_comm, ← this, Nat.add_comm]
theorem addF_dist {d : Nat → Nat} {q : Nat} {E : EL} (hE : Srt E) (hb : ∀ j, j < E.length → sdN E j < 2 ^ q - 1) : ∀ k, k ≤ E.length → (addF d q E k).Pairwise (fun p r => p.1 ≠ r.1)
  | 0, _ => by
    show (tryF _ _ _ []).Pairwise _
    exact tryF_dist List.Pairwise.nil (fun x h => by cases h)
  | k + 1, hk => by
    have ih := addF_dist (d := d) hE hb k (by omega)
    have hk1 := hb k (by omega)
    have hlt : ∀ j, j < k → sdN E j < sdN E k := fun j hj => hE.lt hj (sdN_get (by omega)) (sdN_get (by omega))
    have old : ∀ x ∈ addF d q E k, x.1 ≠ sdN E k ∧ x.1 ≠ sdN E k + 2 ^ q := by
      intro x hx
      rcases (addF_mem k).mp hx with h1 | ⟨j, hj, h1 | h1⟩
      · rw [h1.2.2]
        show 2 ^ q - 1 ≠ _ ∧ 2 ^ q - 1 ≠ _
        omega
      · rw [h1.2.2]
        show sdN E j ≠ _ ∧ sdN E j ≠ _
        have h2 := hlt j hj
        omega
      · rw [h1.2.2]
        have h3 := hb j (by omega)
        show (sdN E j ||| 2 ^ q) ≠ _ ∧ (sdN E j ||| 2 ^ q) ≠ _
        rw [or_add (by omega)]
        have h2 := hlt j hj
        omega
    show (tryF _ _ _ (tryF _ _ _ _)).Pairwise _
    refine tryF_dist (tryF_dist ih (fun x hx => (old x hx).1)) (fun x hx => ?_)
    rw [or_add (by omega)]
    rcases tryF_mem.mp hx with h1 | h1
    · exact (old x h1).2
    · rw [h1.2.2]
      show sdN E k ≠ _
      omega
theorem addF_Es {d : Nat → Nat} (h : Inv d) {q : Nat} (h1 : 1 ≤ q) (h7 : q < 7) (x : Nat × Nat) : x ∈ addF d q (Es d q) (Es d q).length ↔ x ∈ Es d (q + 1) := by
  rw [addF_mem, Es_mem]
  have hp : 2 ^ (q + 1) = 2 ^ q * 2 := Nat.pow_succ 2 q
  have hq2 : 2 ^ q % 2 = 0 := by
    obtain ⟨r, rfl⟩ : ∃ r, q = r + 1 := ⟨q - 1, by omega⟩
    rw [Nat.pow_succ]
    omega
  have hpos : 1 ≤ 2 ^ q := Nat.one_le_two_pow
  have hEs : ∀ j, j < (Es d q).length → sdN (Es d q) j % 2 = 1 ∧ sdN (Es d q) j < 2 ^ q - 1 := by
    intro j hj
    obtain ⟨e1, e2, -, -⟩ := Es_mem.mp (List.mem_of_getElem? (sdN_get hj))
    exact ⟨e1, e2⟩
  constructor
  · rintro (⟨g1, g2, g3⟩ | ⟨j, hj, ⟨g1, g2, g3⟩ | ⟨g1, g2, g3⟩⟩)
    · rw [g3]
      exact ⟨by show (2 ^ q - 1) % 2 = 1; omega, by show 2 ^ q - 1 < _; omega, g2, rfl⟩
    · rw [g3]
      obtain ⟨e1, e2⟩ := hEs j hj
      exact ⟨e1, by show sdN _ _ < _; omega, g2, rfl⟩
    · rw [g3]
      obtain ⟨e1, e2⟩ := hEs j hj
      refine ⟨?_, ?_, g2, rfl⟩
      · show (sdN (Es d q) j ||| 2 ^ q) % 2 = 1
        rw [or_add (by omega)]
        omega
      · show (sdN (Es d q) j ||| 2 ^ q) < _
        rw [or_add (by omega)]
        omega
  · rintro ⟨g1, g2, g3, g4⟩
    have hx : x = (x.1, (idx d x.1 (q + 1)).toNat) := by rw [← g4]
    have hdm := Nat.div_add_mod x.1 (2 ^ q)
    have hml := Nat.mod_lt x.1 hpos
    have hdiv : x.1 / 2 ^ q = 0 ∨ x.1 / 2 ^ q = 1 := by
      have : x.1 / 2 ^ q < 2 := Nat.div_lt_of_lt_mul (by omega)
      generalize x.1 / 2 ^ q = w at this ⊢
      omega
    have hval : x.1 = x.1 % 2 ^ q ∨ x.1 = x.1 % 2 ^ q + 2 ^ q := by
      rcases hdiv with e | e
      · rw [e, Nat.mul_zero] at hdm
        omega
      · rw [e, Nat.mul_one] at hdm
        omega
    by_cases hT : x.1 % 2 ^ q = 2 ^ q - 1
    · left
      have e : x.1 = 2 ^ q - 1 := by omega
      rw [← e]
      exact ⟨by omega, g3, hx⟩
    · right
      have hbits : ∀ i, i < q → Nat.testBit (x.1 % 2 ^ q) i = Nat.testBit x.1 i := by
        intro i hi
        rw [Nat.testBit_mod_two_pow, decide_eq_true hi, Bool.true_and]
      have hge : 0 < idx d (x.1 % 2 ^ q) q := by
        rw [idx_bits h (by omega) hbits]
        have := idx_mono h h7 x.1
        omega
      have hm : (x.1 % 2 ^ q, (idx d (x.1 % 2 ^ q) q).toNat) ∈ Es d q := Es_mem.mpr ⟨by show x.1 % 2 ^ q % 2 = 1; omega, by show x.1 % 2 ^ q < _; omega, hge, rfl⟩
      obtain ⟨j, hj⟩ := List.getElem?_of_mem hm
      have hsd := (sdN_at hj).1
      simp only at hsd
      refine ⟨j, (List.getElem?_eq_some_iff.mp hj).1, ?_⟩
      rcases hval with e | e
      · left
        rw [hsd, ← e]
        exact ⟨by omega, g3, hx⟩
      · right
        rw [hsd, or_add hml, ← e]
        exact ⟨by omega, g3, hx⟩
theorem f_find {d : Nat → Nat} (h : Inv d) : FindOK d := by
  intro q hq
  refine ⟨Es_few h hq, Es_good h hq, fun h1 h7 => ⟨?_, fun L hL hx => ?_⟩⟩
  · refine addF_dist (Es_srt d q) (fun j hj => ?_) _ (Nat.le_refl _)
    exact (Es_mem.mp (List.mem_of_getElem? (sdN_get hj))).2.1
  · exact srt_ext hL (Es_srt d (q + 1)) (fun x => by rw [hx x, addF_Es h h1 h7 x])
end
section
/-! treelike: the four-point condition holds just if distances are half the sums over edges (Buneman) -/
set_option maxRecDepth 100000
theorem alN_iff (f : Nat → Bool) : ∀ m, alN f m = true ↔ ∀ t, t < m → f t = true
  | 0 => ⟨fun _ t h => absurd h (Nat.not_lt_zero _), fun _ => rfl⟩
  | m + 1 => by
    rw [alN_s, Bool.and_eq_true, alN_iff f m]
    constructor
    · rintro ⟨h1, h2⟩ t ht
      rcases Nat.lt_or_ge t m with h | h
      · exact h1 t h
      · obtain rfl : t = m := by omega
        exact h2
    · intro h
      exact ⟨fun t ht => h t (by omega), h m (by omega)⟩
theorem lvl_iff {x y z : Nat} : lvl x y z = true ↔ (x = y ∧ z ≤ x) ∨ (x = z ∧ y ≤ x) ∨ (y = z ∧ x ≤ y) := by
  unfold lvl
  split
  · rw [decide_eq_true_iff]; omega
  · split
    · rw [decide_eq_true_iff]; omega
    · rw [decide_eq_true_iff]; omega
theorem tlM_iff (d : Nat → Nat) (n : Nat) : tlM d n = true ↔ ∀ i j k m, i < n → j < n → k < n → m < n → lvp d i j k m = true := by
  unfold tlM fitM
  rw [alN_iff]
  constructor
  · intro h i j k m hi hj hk hm
    exact (alN_iff _ _).mp ((alN_iff _ _).mp ((alN_iff _ _).mp (h i hi) j hj) k hk) m hm
  · intro h i hi
    exact (alN_iff _ _).mpr fun j hj => (alN_iff _ _).mpr fun k hk => (alN_iff _ _).mpr fun m hm => h i j k m hi hj hk hm
theorem tlf_iff (L : EL) (n : Nat) (d : Nat → Nat) : ∀ k, tlf L n d k = true ↔ ∀ j, j < k → pathL L (j / n) (j % n) = 2 * d (7 * (j / n) + j % n)
  | 0 => ⟨fun _ t h => absurd h (Nat.not_lt_zero _), fun _ => rfl⟩
  | k + 1 => by
    have e : tlf L n d (k + 1) = (tlf L n d k && decide (pathL L (k / n) (k % n) = 2 * d (7 * (k / n) + k % n))) := rfl
    rw [e, Bool.and_eq_true, tlf_iff L n d k, decide_eq_true_iff]
    constructor
    · rintro ⟨h1, h2⟩ t ht
      rcases Nat.lt_or_ge t k with h | h
      · exact h1 t h
      · obtain rfl : t = k := by omega
        exact h2
    · intro h
      exact ⟨fun t ht => h t (by omega), h k (by omega)⟩
theorem tlf_bet {d : Nat → Nat} {n : Nat} (h : Inv d) (hn : n ≤ 7) : tlf (Es d n) n d (n * n) = true ↔ ∀ a b, a < n → b < n → bet d n a b = 2 * d (7 * a + b) := by
  rw [tlf_iff]
  constructor
  · intro h1 a b ha hb
    have e := kij (n := n) (i := a) (j := b) hb
    have h2 := h1 (a * n + b) (kidx ha hb)
    rw [e.1, e.2, path_bet h hn] at h2
    exact h2
  · intro h1 j hj
    have ⟨_, j1, j2⟩ := kdiv hj
    rw [path_bet h hn]
    exact h1 _ _ j1 j2
theorem sT_add (f g : Nat → Nat) : ∀ m, sT f m + sT g m = sT (fun S => f S + g S) m
  | 0 => rfl
  | m + 1 => by
    rw [sT_s, sT_s, sT_s, ← sT_add f g m]
    omega
/-- a positive split that has a, b on one side and c, e on the other -/
theorem sep {d : Nat → Nat} {n : Nat} (h : Inv d) (hn : n ≤ 7) {S : Nat} (hS : 0 < idxM d S n) {a b c e : Nat} (ha : a < n) (hb : b < n) (hc : c < n) (he : e < n) (h1 : Nat.testBit S a = Nat.testBit S b) (h2 : Nat.testBit S c = Nat.testBit S e) (h3 : Nat.testBit S a ≠ Nat.testBit S c) :
    d (7 * a + b) + d (7 * c + e) < d (7 * a + c) + d (7 * b + e) := by
  have hi := (idxM_is d S n).1
  cases e1 : Nat.testBit S a
  · have e2 : Nat.testBit S c = true := by rw [e1] at h3; cases e3 : Nat.testBit S c; exact absurd e3.symm h3; rfl
    have h4 := hi c a e b ⟨⟨hc, he, ha, hb⟩, e2, by rw [← h2]; exact e2, e1, by rw [← h1]; exact e1⟩
    unfold qv at h4
    have s1 := h.2.1 c a (by omega) (by omega)
    have s2 := h.2.1 e b (by omega) (by omega)
    omega
  · have e2 : Nat.testBit S c = false := by rw [e1] at h3; cases e3 : Nat.testBit S c; rfl; exact absurd e3.symm h3
    have h4 := hi a c b e ⟨⟨ha, hb, hc, he⟩, e1, by rw [← h1]; exact e1, e2, by rw [← h2]; exact e2⟩
    unfold qv at h4
    omega
/-- where no positive split has i, k against j, m or i, m against j, k, both sums get the same from it -/
theorem bw_eq {d : Nat → Nat} {n : Nat} {S i j k m : Nat} (h2 : ¬ (0 < idxM d S n ∧ Nat.testBit S i = Nat.testBit S k ∧ Nat.testBit S j = Nat.testBit S m ∧ Nat.testBit S i ≠ Nat.testBit S j)) (h3 : ¬ (0 < idxM d S n ∧ Nat.testBit S i = Nat.testBit S m ∧ Nat.testBit S j = Nat.testBit S k ∧ Nat.testBit S i ≠ Nat.testBit S j)) :
    bw d n i k S + bw d n j m S = bw d n i m S + bw d n j k S := by
  unfold bw
  by_cases hp : 0 < idxM d S n
  · simp only [hp, true_and, and_true] at h2 h3 ⊢
    generalize (idxM d S n).toNat = w
    revert h2 h3
    generalize Nat.testBit S i = p
    generalize Nat.testBit S j = q
    generalize Nat.testBit S k = r
    generalize Nat.testBit S m = s
    cases p <;> cases q <;> cases r <;> cases s <;> simp
  · rw [if_neg (fun e => hp e.2), if_neg (fun e => hp e.2), if_neg (fun e => hp e.2), if_neg (fun e => hp e.2)]
theorem tree_four {d : Nat → Nat} {n : Nat} (h : Inv d) (hn : n ≤ 7) (hb : ∀ a b, a < n → b < n → bet d n a b = 2 * d (7 * a + b)) : ∀ i j k m, i < n → j < n → k < n → m < n → lvp d i j k m = true := by
  intro i j k m hi hj hk hm
  unfold lvp
  rw [lvl_iff]
  have x1 := hb i j hi hj
  have x2 := hb k m hk hm
  have y1 := hb i k hi hk
  have y2 := hb j m hj hm
  have z1 := hb i m hi hm
  have z2 := hb j k hj hk
  have s1 := h.2.1 k m (by omega) (by omega)
  have s2 := h.2.1 j m (by omega) (by omega)
  have s3 := h.2.1 j k (by omega) (by omega)
  have sy := sT_add (bw d n i k) (bw d n j m) (hT n)
  have sz := sT_add (bw d n i m) (bw d n j k) (hT n)
  have sx := sT_add (bw d n i j) (bw d n k m) (hT n)
  have sx' := sT_add (bw d n i j) (bw d n m k) (hT n)
  have bkm : bet d n k m = bet d n m k := bet_sym d n k m
  have bjk : bet d n j k = bet d n k j := bet_sym d n j k
  have bjm : bet d n j m = bet d n m j := bet_sym d n j m
  unfold bet at x1 x2 y1 y2 z1 z2 bkm bjk bjm
  by_cases t1 : ∃ S, 0 < idxM d S n ∧ Nat.testBit S i = Nat.testBit S j ∧ Nat.testBit S k = Nat.testBit S m ∧ Nat.testBit S i ≠ Nat.testBit S k
  · obtain ⟨S, p, b1, b2, b3⟩ := t1
    have g1 := sep h hn p hi hj hk hm b1 b2 b3
    have g2 := sep h hn p hi hj hm hk b1 b2.symm (by rw [← b2]; exact b3)
    have e : sT (fun S => bw d n i k S + bw d n j m S) (hT n) = sT (fun S => bw d n i m S + bw d n j k S) (hT n) := by
      refine sT_congr _ (fun t _ => bw_eq ?_ ?_)
      · rintro ⟨p2, c1, c2, c3⟩
        have g3 := sep h hn p2 hi hk hj hm c1 c2 c3
        omega
      · rintro ⟨p2, c1, c2, c3⟩
        have g3 := sep h hn p2 hi hm hj hk c1 c2 c3
        omega
    omega
  · by_cases t2 : ∃ S, 0 < idxM d S n ∧ Nat.testBit S i = Nat.testBit S k ∧ Nat.testBit S j = Nat.testBit S m ∧ Nat.testBit S i ≠ Nat.testBit S j
    · obtain ⟨S, p, b1, b2, b3⟩ := t2
      have g1 := sep h hn p hi hk hj hm b1 b2 b3
      have g2 := sep h hn p hi hk hm hj b1 b2.symm (by rw [← b2]; exact b3)
      have sw := sT_add (bw d n i m) (bw d n k j) (hT n)
      have e : sT (fun S => bw d n i j S + bw d n k m S) (hT n) = sT (fun S => bw d n i m S + bw d n k j S) (hT n) := by
        refine sT_congr _ (fun t _ => bw_eq ?_ ?_)
        · rintro ⟨p2, c1, c2, c3⟩
          have g3 := sep h hn p2 hi hj hk hm c1 c2 c3
          omega
        · rintro ⟨p2, c1, c2, c3⟩
          have g3 := sep h hn p2 hi hm hk hj c1 c2 c3
          omega
      omega
    · by_cases t3 : ∃ S, 0 < idxM d S n ∧ Nat.testBit S i = Nat.testBit S m ∧ Nat.testBit S j = Nat.testBit S k ∧ Nat.testBit S i ≠ Nat.testBit S j
      · obtain ⟨S, p, b1, b2, b3⟩ := t3
        have g1 := sep h hn p hi hm hj hk b1 b2 b3
        have g2 := sep h hn p hi hm hk hj b1 b2.symm (by rw [← b2]; exact b3)
        have sw := sT_add (bw d n i k) (bw d n m j) (hT n)
        have e : sT (fun S => bw d n i j S + bw d n m k S) (hT n) = sT (fun S => bw d n i k S + bw d n m j S) (hT n) := by
          refine sT_congr _ (fun t _ => bw_eq ?_ ?_)
          · rintro ⟨p2, c1, c2, c3⟩
            have g3 := sep h hn p2 hi hj hm hk c1 c2 c3
            omega
          · rintro ⟨p2, c1, c2, c3⟩
            have g3 := sep h hn p2 hi hk hm hj c1 c2 c3
            omega
        omega
      · have e1 : sT (fun S => bw d n i k S + bw d n j m S) (hT n) = sT (fun S => bw d n i m S + bw d n j k S) (hT n) :=
          sT_congr _ (fun t _ => bw_eq (fun e => t2 ⟨_, e⟩) (fun e => t3 ⟨_, e⟩))
        have sw := sT_add (bw d n i m) (bw d n k j) (hT n)
        have e2 : sT (fun S => bw d n i j S + bw d n k m S) (hT n) = sT (fun S => bw d n i m S + bw d n k j S) (hT n) :=
          sT_congr _ (fun t _ => bw_eq (fun e => t1 ⟨_, e⟩) (fun e => t3 ⟨_, e.1, e.2.1, e.2.2.1.symm, fun c => e.2.2.2 (by rw [c, e.2.2.1])⟩))
        omega
/-! the other way: thresholds on the way from i to j -/
def msk (P : Nat → Bool) : Nat → Nat
  | 0 => 0
  | k + 1 => msk P k ||| (if P k = true then 2 ^ k else 0)
theorem msk_bit (P : Nat → Bool) (i : Nat) : ∀ n, Nat.testBit (msk P n) i = (decide (i < n) && P i)
  | 0 => by simp [msk]
  | k + 1 => by
    show Nat.testBit (msk P k ||| (if P k = true then 2 ^ k else 0)) i = _
    rw [Nat.testBit_or, msk_bit P i k]
    by_cases e : i = k
    · subst e
      cases hp : P i <;> simp [Nat.testBit_two_pow]
    · have h1 : Nat.testBit (if P k = true then 2 ^ k else 0) i = false := by
        split
        · rw [Nat.testBit_two_pow]
          exact decide_eq_false (fun h => e h.symm)
        · simp
      rw [h1, Bool.or_false]
      congr 1
      apply decide_eq_decide.mpr
      omega
theorem msk_lt (P : Nat → Bool) : ∀ n, msk P n < 2 ^ n
  | 0 => Nat.one_pos
  | k + 1 => by
    have h1 := msk_lt P k
    have h2 : 2 ^ (k + 1) = 2 ^ k * 2 := Nat.pow_succ 2 k
    show msk P k ||| _ < _
    apply Nat.or_lt_two_pow
    · omega
    · have : 0 < 2 ^ k := Nat.two_pow_pos k
      split <;> omega
def cN (P : Nat → Bool) : Nat → Nat
  | 0 => 0
  | k + 1 => cN P k + (if P k = true then 1 else 0)
theorem cN_s (P : Nat → Bool) (k : Nat) : cN P (k + 1) = cN P k + (if P k = true then 1 else 0) := rfl
theorem cN_int {P : Nat → Bool} {lo hi : Nat} (hl : lo ≤ hi) : ∀ M, (∀ t, t < M → (P t = true ↔ lo ≤ t ∧ t < hi)) → cN P M = min M hi - min M lo
  | 0, _ => by simp [cN]
  | M + 1, h => by
    rw [cN_s, cN_int hl M (fun t ht => h t (by omega))]
    have h1 := h M (by omega)
    split
    · next e => have := h1.mp e; omega
    · next e =>
      have : ¬ (lo ≤ M ∧ M < hi) := fun e2 => e (h1.mpr e2)
      omega
theorem cN_none {P : Nat → Bool} : ∀ M, (∀ t, t < M → P t = false) → cN P M = 0
  | 0, _ => rfl
  | M + 1, h => by
    rw [cN_s, cN_none M (fun t ht => h t (by omega)), h M (by omega)]
    rfl
theorem sT_one (t : Nat) : ∀ m, sT (fun S => if decide (2 * t + 1 = S) = true then 1 else 0) m = if t < m then 1 else 0
  | 0 => rfl
  | m + 1 => by
    rw [sT_s, sT_one t m]
    by_cases e : t = m
    · subst e
      simp
    · have h1 : decide (2 * t + 1 = 2 * m + 1) = false := decide_eq_false (by omega)
      rw [h1, if_neg (show ¬ false = true by decide), Nat.add_zero]
      by_cases h2 : t < m
      · rw [if_pos h2, if_pos (by omega)]
      · rw [if_neg h2, if_neg (by omega)]
/-- each threshold belongs to just one split -/
theorem dbl (s : Nat → Nat) (m : Nat) : ∀ M, (∀ t, t < M → s t % 2 = 1 ∧ s t / 2 < m) → sT (fun S => cN (fun t => decide (s t = S)) M) m = M
  | 0, _ => sT_zero m
  | M + 1, h => by
    have h1 := dbl s m M (fun t ht => h t (by omega))
    have h2 := h M (by omega)
    have h3 := sT_add (fun S => cN (fun t => decide (s t = S)) M) (fun S => if decide (s M = S) = true then 1 else 0) m
    have h4 : sT (fun S => if decide (s M = S) = true then 1 else 0) m = 1 := by
      have := sT_one (s M / 2) m
      rw [show 2 * (s M / 2) + 1 = s M from by omega, if_pos h2.2] at this
      exact this
    have h5 : sT (fun S => cN (fun t => decide (s t = S)) (M + 1)) m = sT (fun S => cN (fun t => decide (s t = S)) M + (if decide (s M = S) = true then 1 else 0)) m := rfl
    rw [h5, ← h3, h1, h4]
/-- how far along the way from i to j the point k leaves it, twice -/
def tk (d : Nat → Nat) (i j k : Nat) : Int := ((d (7 * i + k) : Nat) : Int) + (d (7 * i + j) : Nat) - (d (7 * j + k) : Nat)
theorem four_sep {d : Nat → Nat} {n i j p q u v : Nat} (H : ∀ i j k m, i < n → j < n → k < n → m < n → lvp d i j k m = true) (hi : i < n) (hj : j < n) (hp : p < n) (hq : q < n) (hu : u < n) (hv : v < n) (h1 : tk d i j p < tk d i j u) (h2 : tk d i j q < tk d i j v) :
    let w : Int := ((d (7 * p + u) : Nat) : Int) + (d (7 * q + v) : Nat) - (d (7 * p + q) : Nat) - (d (7 * u + v) : Nat)
    tk d i j v - tk d i j p ≤ w ∨ tk d i j u - tk d i j p ≤ w ∨ tk d i j v - tk d i j q ≤ w ∨ tk d i j u - tk d i j q ≤ w := by
  have a1 := H i j p u hi hj hp hu
  have a2 := H i j q v hi hj hq hv
  have a3 := H i j p q hi hj hp hq
  have a4 := H i j u v hi hj hu hv
  unfold lvp at a1 a2 a3 a4
  rw [lvl_iff] at a1 a2 a3 a4
  unfold tk at *
  intro w
  have hw : w = ((d (7 * p + u) : Nat) : Int) + (d (7 * q + v) : Nat) - (d (7 * p + q) : Nat) - (d (7 * u + v) : Nat) := rfl
  clear_value w
  have b1 : d (7 * i + j) + d (7 * p + u) = d (7 * i + u) + d (7 * j + p) := by omega
  have b2 : d (7 * i + j) + d (7 * q + v) = d (7 * i + v) + d (7 * j + q) := by omega
  have b3 : d (7 * i + j) + d (7 * p + q) ≤ d (7 * i + p) + d (7 * j + q) ∨ d (7 * i + j) + d (7 * p + q) ≤ d (7 * i + q) + d (7 * j + p) := by omega
  have b4 : d (7 * i + j) + d (7 * u + v) ≤ d (7 * i + u) + d (7 * j + v) ∨ d (7 * i + j) + d (7 * u + v) ≤ d (7 * i + v) + d (7 * j + u) := by omega
  clear a1 a2 a3 a4
  omega
/-- the points that leave the way by the threshold t -/
def sdk (d : Nat → Nat) (i j t k : Nat) : Bool := decide (tk d i j k ≤ (t : Int))
/-- the split at the threshold t, by its side with point 0 -/
def spl (d : Nat → Nat) (n i j t : Nat) : Nat := msk (fun k => sdk d i j t k == sdk d i j t 0) n
theorem tk_i {d : Nat → Nat} (h : Inv d) {i j : Nat} (hi : i < 7) (hj : j < 7) : tk d i j i = 0 := by
  unfold tk
  have h1 := h.2.2 i hi
  have h2 := h.2.1 i j hi hj
  rw [show 7 * i + i = 8 * i from by omega, h1, h2]
  omega
theorem tk_j {d : Nat → Nat} (h : Inv d) {i j : Nat} (hj : j < 7) : tk d i j j = 2 * (d (7 * i + j) : Nat) := by
  unfold tk
  have h1 := h.2.2 j hj
  rw [show 7 * j + j = 8 * j from by omega, h1]
  omega
theorem spl_bit (d : Nat → Nat) {n i j t k : Nat} (hk : k < n) : Nat.testBit (spl d n i j t) k = (sdk d i j t k == sdk d i j t 0) := by
  unfold spl
  rw [msk_bit, decide_eq_true hk, Bool.true_and]
theorem spl_side {d : Nat → Nat} (h : Inv d) {n i j t : Nat} (hn : n ≤ 7) (hi : i < n) (hj : j < n) (ht : t < 2 * d (7 * i + j)) : sdk d i j t i = true ∧ sdk d i j t j = false := by
  unfold sdk
  rw [tk_i h (by omega) (by omega), tk_j h (by omega)]
  exact ⟨decide_eq_true (by omega), decide_eq_false (by omega)⟩
theorem spl_ok {d : Nat → Nat} (h : Inv d) {n i j t : Nat} (hn : n ≤ 7) (hi : i < n) (hj : j < n) (ht : t < 2 * d (7 * i + j)) : spl d n i j t % 2 = 1 ∧ spl d n i j t / 2 < hT n := by
  have h0 : spl d n i j t % 2 = 1 := by
    rw [← bit0, spl_bit d (by omega)]
    simp
  have hlt : spl d n i j t < 2 ^ n := msk_lt _ n
  have hne : spl d n i j t ≠ 2 ^ n - 1 := by
    intro e
    have b1 := spl_bit d (t := t) (i := i) (j := j) hi
    have b2 := spl_bit d (t := t) (i := i) (j := j) hj
    obtain ⟨s1, s2⟩ := spl_side h hn hi hj ht
    rw [e, Nat.testBit_two_pow_sub_one, decide_eq_true hi, s1] at b1
    rw [e, Nat.testBit_two_pow_sub_one, decide_eq_true hj, s2] at b2
    revert b1 b2
    cases sdk d i j t 0 <;> decide
  have hhT : hT n = (2 ^ n - 1) / 2 := rfl
  have hp := pw n
  exact ⟨h0, by omega⟩
/-- when the threshold's split is S -/
theorem spl_iff {d : Nat → Nat} (h : Inv d) {n i j t S : Nat} (hn : n ≤ 7) (hi : i < n) (hj : j < n) (ht : t < 2 * d (7 * i + j)) (hS : S % 2 = 1) (hS2 : S < 2 ^ n) : spl d n i j t = S ↔ ∀ k, k < n → sdk d i j t k = (Nat.testBit S k == Nat.testBit S i) := by
  obtain ⟨s1, s2⟩ := spl_side h hn hi hj ht
  constructor
  · intro e k hk
    have b1 := spl_bit d (t := t) (i := i) (j := j) hi
    have b2 := spl_bit d (t := t) (i := i) (j := j) hk
    rw [e] at b1 b2
    rw [b1, b2, s1]
    cases sdk d i j t k <;> cases sdk d i j t 0 <;> rfl
  · intro hk
    apply Nat.eq_of_testBit_eq
    intro k
    by_cases hkn : k < n
    · rw [spl_bit d hkn, hk k hkn, hk 0 (by omega), bit0.mpr hS]
      cases Nat.testBit S k <;> cases Nat.testBit S i <;> rfl
    · have hle : 2 ^ n ≤ 2 ^ k := Nat.pow_le_pow_right (by decide) (by omega)
      rw [Nat.testBit_lt_two_pow (Nat.lt_of_lt_of_le hS2 hle)]
      exact Nat.testBit_lt_two_pow (Nat.lt_of_lt_of_le (msk_lt _ n) hle)
/-- an upper bound by the way from i to j: no four-point condition is needed -/
theorem idx_way {d : Nat → Nat} (h : Inv d) {n i j a b S : Nat} (hn : n ≤ 7) (hi : i < n) (hj : j < n) (ha : a < n) (hb : b < n) (hij : Nat.testBit S i ≠ Nat.testBit S j) (ha2 : Nat.testBit S a = Nat.testBit S i) (hb2 : Nat.testBit S b = Nat.testBit S j) : idxM d S n ≤ tk d i j b - tk d i j a := by
  have hq := (idxM_is d S n).1
  have y1 := h.2.1 j a (by omega) (by omega)
  have y2 := h.2.1 j b (by omega) (by omega)
  have y3 := h.2.1 i a (by omega) (by omega)
  have y4 := h.2.1 i b (by omega) (by omega)
  cases e1 : Nat.testBit S i
  · have e2 : Nat.testBit S j = true := by rw [e1] at hij; cases e3 : Nat.testBit S j; exact absurd e3.symm hij; rfl
    have := hq j a b i ⟨⟨hj, hb, ha, hi⟩, e2, by rw [hb2]; exact e2, by rw [ha2]; exact e1, e1⟩
    unfold qv at this
    unfold tk
    omega
  · have e2 : Nat.testBit S j = false := by rw [e1] at hij; cases e3 : Nat.testBit S j; rfl; exact absurd e3.symm hij
    have := hq i b a j ⟨⟨hi, ha, hb, hj⟩, e1, by rw [ha2]; exact e1, by rw [hb2]; exact e2, e2⟩
    unfold qv at this
    unfold tk
    omega
/-- under the four-point condition, if the way tells the sides apart, the index is at least one of the gaps -/
theorem idx_low {d : Nat → Nat} (h : Inv d) {n i j S : Nat} (hn : n ≤ 7) (H : ∀ i j k m, i < n → j < n → k < n → m < n → lvp d i j k m = true) (hi : i < n) (hj : j < n) (hij : Nat.testBit S i ≠ Nat.testBit S j)
    (hs : ∀ a b, a < n → b < n → Nat.testBit S a = Nat.testBit S i → Nat.testBit S b = Nat.testBit S j → tk d i j a < tk d i j b) (h1 : idxM d S n ≠ 1000) : ∃ a b, a < n ∧ b < n ∧ Nat.testBit S a = Nat.testBit S i ∧ Nat.testBit S b = Nat.testBit S j ∧ tk d i j b - tk d i j a ≤ idxM d S n := by
  obtain ⟨-, -, h3⟩ := idxM_is d S n
  rcases h3 with e | ⟨a, x, b, y, hq, e⟩
  · exact absurd e h1
  · obtain ⟨⟨qa, qb, qx, qy⟩, b1, b2, b3, b4⟩ := hq
    rw [e]
    unfold qv
    have y1 := h.2.1 a x (by omega) (by omega)
    have y2 := h.2.1 b y (by omega) (by omega)
    cases e1 : Nat.testBit S i
    · have e2 : Nat.testBit S j = true := by rw [e1] at hij; cases e3 : Nat.testBit S j; exact absurd e3.symm hij; rfl
      rw [e1, e2] at hs
      have g := four_sep H hi hj qx qy qa qb (hs x a qx qa b3 b1) (hs y b qy qb b4 b2)
      rcases g with g | g | g | g
      · exact ⟨x, b, qx, qb, b3, by rw [e2]; exact b2, by omega⟩
      · exact ⟨x, a, qx, qa, b3, by rw [e2]; exact b1, by omega⟩
      · exact ⟨y, b, qy, qb, b4, by rw [e2]; exact b2, by omega⟩
      · exact ⟨y, a, qy, qa, b4, by rw [e2]; exact b1, by omega⟩
    · have e2 : Nat.testBit S j = false := by rw [e1] at hij; cases e3 : Nat.testBit S j; rfl; exact absurd e3.symm hij
      rw [e1, e2] at hs
      have g := four_sep H hi hj qa qb qx qy (hs a x qa qx b1 b3) (hs b y qb qy b2 b4)
      rcases g with g | g | g | g
      · exact ⟨a, y, qa, qy, b1, by rw [e2]; exact b4, by omega⟩
      · exact ⟨a, x, qa, qx, b1, by rw [e2]; exact b3, by omega⟩
      · exact ⟨b, y, qb, qy, b2, by rw [e2]; exact b4, by omega⟩
      · exact ⟨b, x, qb, qx, b2, by rw [e2]; exact b3, by omega⟩
theorem bool_ne {a b c : Bool} (h : a ≠ b) (h2 : c ≠ a) : c = b := by revert h h2; cases a <;> cases b <;> cases c <;> decide
/-- as many thresholds belong to S as its index says -/
theorem spl_count {d : Nat → Nat} (h : Inv d) {n i j S : Nat} (hn : n ≤ 7) (H : ∀ i j k m, i < n → j < n → k < n → m < n → lvp d i j k m = true) (hi : i < n) (hj : j < n) (hS : S % 2 = 1) (hS2 : S < 2 ^ n) : cN (fun t => decide (spl d n i j t = S)) (2 * d (7 * i + j)) = bw d n i j S := by
  have hi0 := tk_i h (i := i) (j := j) (by omega) (by omega)
  have hj0 := tk_j h (i := i) (j := j) (by omega)
  have hd60 := h.1 (7 * i + j)
  by_cases hij : Nat.testBit S i = Nat.testBit S j
  · unfold bw
    rw [if_neg (fun e => by rw [hij] at e; simp at e)]
    refine cN_none _ (fun t ht => decide_eq_false (fun e => ?_))
    have h1 := (spl_iff h hn hi hj ht hS hS2).mp e j hj
    obtain ⟨-, s2⟩ := spl_side h hn hi hj ht
    rw [s2, hij] at h1
    simp at h1
  · have hne : (Nat.testBit S i != Nat.testBit S j) = true := by simp [hij]
    have side : ∀ t, t < 2 * d (7 * i + j) → (spl d n i j t = S ↔ ∀ k, k < n → (Nat.testBit S k = Nat.testBit S i → tk d i j k ≤ (t : Int)) ∧ (Nat.testBit S k = Nat.testBit S j → (t : Int) < tk d i j k)) := by
      intro t ht
      rw [spl_iff h hn hi hj ht hS hS2]
      constructor
      · intro h1 k hk
        have h2 := h1 k hk
        unfold sdk at h2
        refine ⟨fun e => ?_, fun e => ?_⟩
        · rw [e] at h2
          simp at h2
          exact h2
        · rw [e, show (Nat.testBit S j == Nat.testBit S i) = false from by simp; exact fun c => hij c.symm] at h2
          have := of_decide_eq_false h2
          omega
      · intro h1 k hk
        obtain ⟨g1, g2⟩ := h1 k hk
        unfold sdk
        by_cases e : Nat.testBit S k = Nat.testBit S i
        · rw [e, decide_eq_true (g1 e)]
          simp
        · have e2 : Nat.testBit S k = Nat.testBit S j := bool_ne hij e
          rw [decide_eq_false (by have := g2 e2; omega), e2]
          simp
          exact fun c => hij c.symm
    have up := fun a b ha hb ha2 hb2 => idx_way h (n := n) (i := i) (j := j) (a := a) (b := b) (S := S) hn hi hj ha hb hij ha2 hb2
    have hM := up i j hi hj rfl rfl
    by_cases hp : 0 < idxM d S n
    · obtain ⟨a, b, ha, hb, ha2, hb2, hab⟩ := idx_low h hn H hi hj hij (fun a b ha hb ha2 hb2 => by have := up a b ha hb ha2 hb2; omega) (by omega)
      have hab2 := up a b ha hb ha2 hb2
      have hlo : ∀ k, k < n → Nat.testBit S k = Nat.testBit S i → tk d i j k ≤ tk d i j a := fun k hk e => by have := up k b hk hb e hb2; omega
      have hhi : ∀ k, k < n → Nat.testBit S k = Nat.testBit S j → tk d i j b ≤ tk d i j k := fun k hk e => by have := up a k ha hk ha2 e; omega
      have l1 := hlo i hi rfl
      have l2 := hhi j hj rfl
      have hc := cN_int (P := fun t => decide (spl d n i j t = S)) (lo := (tk d i j a).toNat) (hi := (tk d i j b).toNat) (by omega) (2 * d (7 * i + j)) (fun t ht => by
        rw [decide_eq_true_iff, side t ht]
        constructor
        · intro h1
          have g1 := (h1 a ha).1 ha2
          have g2 := (h1 b hb).2 hb2
          omega
        · rintro ⟨g1, g2⟩ k hk
          refine ⟨fun e => ?_, fun e => ?_⟩
          · have := hlo k hk e
            omega
          · have := hhi k hk e
            omega)
      rw [hc]
      unfold bw
      rw [if_pos ⟨hne, hp⟩]
      omega
    · unfold bw
      rw [if_neg (fun e => hp e.2)]
      refine cN_none _ (fun t ht => decide_eq_false (fun e => ?_))
      have h1 := (side t ht).mp e
      obtain ⟨a, b, ha, hb, ha2, hb2, hab⟩ := idx_low h hn H hi hj hij (fun a b ha hb ha2 hb2 => by have g1 := (h1 a ha).1 ha2; have g2 := (h1 b hb).2 hb2; omega) (by omega)
      have g1 := (h1 a ha).1 ha2
      have g2 := (h1 b hb).2 hb2
      omega
theorem four_tree {d : Nat → Nat} {n : Nat} (h : Inv d) (hn : n ≤ 7) (H : ∀ i j k m, i < n → j < n → k < n → m < n → lvp d i j k m = true) : ∀ i j, i < n → j < n → bet d n i j = 2 * d (7 * i + j) := by
  intro i j hi hj
  have h1 := dbl (spl d n i j) (hT n) (2 * d (7 * i + j)) (fun t ht => spl_ok h hn hi hj ht)
  rw [← h1]
  unfold bet
  have hhT : hT n = (2 ^ n - 1) / 2 := rfl
  exact sT_congr _ (fun t ht => (spl_count h hn H hi hj (by omega) (by omega)).symm)
theorem f_treelike {d : Nat → Nat} {n : Nat} (h : Inv d) (hn : n ≤ 7) : tlM d n = tlf (Es d n) n d (n * n) := by
  have key : tlM d n = true ↔ tlf (Es d n) n d (n * n) = true := by
    rw [tlM_iff, tlf_bet h hn]
    exact ⟨fun H => four_tree h hn H, fun hb => tree_four h hn hb⟩
  cases e1 : tlM d n <;> cases e2 : tlf (Es d n) n d (n * n)
  · rfl
  · exact absurd (key.mpr e2) (by rw [e1]; decide)
  · exact absurd (key.mp e1) (by rw [e2]; decide)
  · rfl
end
section
/-! unions of disjoint sets, tops of chains, and counting: for agreeing -/
set_option maxRecDepth 100000
theorem len_of_mem {l m : List Nat} (hl : l.Nodup) (hm : m.Nodup) (h : ∀ x, x ∈ l ↔ x ∈ m) : l.length = m.length := ((List.perm_ext_iff_of_nodup hl hm).mpr h).length_eq
theorem len_split (p : Nat → Bool) : ∀ l : List Nat, (l.filter p).length + (l.filter (fun x => !p x)).length = l.length
  | [] => rfl
  | a :: l => by
    have := len_split p l
    rw [List.filter_cons, List.filter_cons]
    cases h : p a <;> simp <;> omega
/-- leaving out a part -/
theorem len_without {l R : List Nat} (hl : l.Nodup) (hR : R.Nodup) (hs : ∀ x ∈ R, x ∈ l) : (l.filter (fun x => !decide (x ∈ R))).length + R.length = l.length := by
  have h1 := len_split (fun x => decide (x ∈ R)) l
  have h2 : (l.filter (fun x => decide (x ∈ R))).length = R.length := by
    refine len_of_mem (hl.filter _) hR (fun x => ?_)
    rw [List.mem_filter, decide_eq_true_iff]
    exact ⟨fun h => h.2, fun h => ⟨hs x h, h⟩⟩
  omega
def sumN (f : Nat → Nat) : Nat → Nat
  | 0 => 0
  | t + 1 => sumN f t + f t
theorem sumN_s (f : Nat → Nat) (t : Nat) : sumN f (t + 1) = sumN f t + f t := rfl
theorem sumN_zero : ∀ m, sumN (fun _ => 0) m = 0
  | 0 => rfl
  | m + 1 => by rw [sumN_s, sumN_zero m]
theorem sumN_congr {f g : Nat → Nat} : ∀ m, (∀ t, t < m → f t = g t) → sumN f m = sumN g m
  | 0, _ => rfl
  | m + 1, h => by rw [sumN_s, sumN_s, sumN_congr m (fun t ht => h t (by omega)), h m (by omega)]
theorem sumN_one (f : Nat → Nat) (a : Nat) : ∀ m, sumN (fun t => f t + (if a = t then 1 else 0)) m = sumN f m + (if a < m then 1 else 0)
  | 0 => rfl
  | m + 1 => by
    rw [sumN_s, sumN_s, sumN_one f a m]
    by_cases h1 : a < m
    · rw [if_pos h1, if_neg (by omega), if_pos (by omega)]
      omega
    · by_cases h2 : a = m
      · rw [if_neg h1, if_pos h2, if_pos (by omega)]
        omega
      · rw [if_neg h1, if_neg h2, if_neg (by omega)]
        omega
theorem part_len (f : Nat → Nat) (m : Nat) : ∀ l : List Nat, (∀ x ∈ l, f x < m) → l.length = sumN (fun t => (l.filter (fun x => decide (f x = t))).length) m
  | [], _ => (sumN_zero m).symm
  | a :: l, h => by
    have ih := part_len f m l (fun x hx => h x (List.mem_cons_of_mem _ hx))
    have h1 := sumN_one (fun t => (l.filter (fun x => decide (f x = t))).length) (f a) m
    rw [if_pos (h a List.mem_cons_self), ← ih] at h1
    rw [List.length_cons, ← h1]
    refine sumN_congr m (fun t _ => ?_)
    rw [List.filter_cons]
    by_cases e : f a = t
    · rw [if_pos e, if_pos (decide_eq_true e), List.length_cons]
    · rw [if_neg e, if_neg (by rw [decide_eq_false e]; decide), Nat.add_zero]
/-- all unions of some of the sets -/
def uns : List Nat → List Nat
  | [] => [0]
  | B :: Bs => uns Bs ++ (uns Bs).map (fun u => B ||| u)
theorem uns_len : ∀ Bs, (uns Bs).length = 2 ^ Bs.length
  | [] => rfl
  | B :: Bs => by
    show (uns Bs ++ (uns Bs).map _).length = _
    rw [List.length_append, List.length_map, uns_len Bs, List.length_cons, Nat.pow_succ]
    omega
def dis (a b : Nat) : Prop := ∀ i, Nat.testBit a i = true → Nat.testBit b i = false
theorem dis_symm {a b : Nat} (h : dis a b) : dis b a := fun i hi => by
  cases e : Nat.testBit a i
  · rfl
  · rw [h i e] at hi
    cases hi
def isU (Bs : List Nat) (x : Nat) : Prop := (∀ i, Nat.testBit x i = true → ∃ B ∈ Bs, Nat.testBit B i = true) ∧ ∀ B ∈ Bs, (∀ i, Nat.testBit B i = true → Nat.testBit x i = true) ∨ dis B x
theorem uns_mem : ∀ {Bs : List Nat}, Bs.Pairwise dis → ∀ x, x ∈ uns Bs ↔ isU Bs x
  | [], _, x => by
    show x ∈ [0] ↔ _
    rw [List.mem_singleton]
    constructor
    · rintro rfl
      exact ⟨fun i hi => by simp at hi, fun B hB => by cases hB⟩
    · intro h
      apply Nat.eq_of_testBit_eq
      intro i
      cases e : Nat.testBit x i
      · simp
      · obtain ⟨B, hB, -⟩ := h.1 i e
        cases hB
  | B :: Bs, hp, x => by
    obtain ⟨hB, hp2⟩ := List.pairwise_cons.mp hp
    have ih := uns_mem hp2
    show x ∈ uns Bs ++ (uns Bs).map _ ↔ _
    rw [List.mem_append, List.mem_map]
    constructor
    · rintro (h | ⟨u, h, rfl⟩)
      · obtain ⟨h1, h2⟩ := (ih x).mp h
        refine ⟨fun i hi => ?_, fun C hC => ?_⟩
        · obtain ⟨C, hC, e⟩ := h1 i hi
          exact ⟨C, List.mem_cons_of_mem _ hC, e⟩
        · rcases List.mem_cons.mp hC with rfl | hC
          · right
            intro i hi
            cases e : Nat.testBit x i
            · rfl
            · obtain ⟨D, hD, e2⟩ := h1 i e
              rw [hB D hD i hi] at e2
              cases e2
          · exact h2 C hC
      · obtain ⟨h1, h2⟩ := (ih u).mp h
        refine ⟨fun i hi => ?_, fun C hC => ?_⟩
        · rw [Nat.testBit_or, Bool.or_eq_true] at hi
          rcases hi with hi | hi
          · exact ⟨B, List.mem_cons_self, hi⟩
          · obtain ⟨C, hC, e⟩ := h1 i hi
            exact ⟨C, List.mem_cons_of_mem _ hC, e⟩
        · rcases List.mem_cons.mp hC with rfl | hC
          · left
            intro i hi
            rw [Nat.testBit_or, hi]
            rfl
          · rcases h2 C hC with h3 | h3
            · left
              intro i hi
              rw [Nat.testBit_or, h3 i hi, Bool.or_true]
            · right
              intro i hi
              rw [Nat.testBit_or, h3 i hi, dis_symm (hB C hC) i hi]
              rfl
    · rintro ⟨h1, h2⟩
      rcases h2 B List.mem_cons_self with h3 | h3
      · right
        refine ⟨x ^^^ B, (ih _).mpr ⟨fun i hi => ?_, fun C hC => ?_⟩, ?_⟩
        · rw [Nat.testBit_xor] at hi
          have hb : Nat.testBit B i = false := by
            cases e : Nat.testBit B i
            · rfl
            · rw [e, h3 i e] at hi
              cases hi
          rw [hb, Bool.xor_false] at hi
          obtain ⟨C, hC, e⟩ := h1 i hi
          rcases List.mem_cons.mp hC with rfl | hC
          · rw [hb] at e
            cases e
          · exact ⟨C, hC, e⟩
        · rcases h2 C (List.mem_cons_of_mem _ hC) with h4 | h4
          · left
            intro i hi
            rw [Nat.testBit_xor, h4 i hi, dis_symm (hB C hC) i hi]
            rfl
          · right
            intro i hi
            rw [Nat.testBit_xor, h4 i hi, dis_symm (hB C hC) i hi]
            rfl
        · apply Nat.eq_of_testBit_eq
          intro i
          rw [Nat.testBit_or, Nat.testBit_xor]
          cases e : Nat.testBit B i
          · simp
          · rw [h3 i e]
            rfl
      · left
        refine (ih x).mpr ⟨fun i hi => ?_, fun C hC => h2 C (List.mem_cons_of_mem _ hC)⟩
        obtain ⟨C, hC, e⟩ := h1 i hi
        rcases List.mem_cons.mp hC with rfl | hC
        · rw [h3 i e] at hi
          cases hi
        · exact ⟨C, hC, e⟩
theorem uns_nodup : ∀ {Bs : List Nat}, Bs.Pairwise dis → (∀ B ∈ Bs, ∃ i, Nat.testBit B i = true) → (uns Bs).Nodup
  | [], _, _ => by
    show [0].Nodup
    exact List.pairwise_singleton _ _
  | B :: Bs, hp, hz => by
    obtain ⟨hB, hp2⟩ := List.pairwise_cons.mp hp
    have ih := uns_nodup hp2 (fun C hC => hz C (List.mem_cons_of_mem _ hC))
    have hdis : ∀ u ∈ uns Bs, dis B u := by
      intro u hu i hi
      obtain ⟨h1, h2⟩ := (uns_mem hp2 u).mp hu
      cases e : Nat.testBit u i
      · rfl
      · obtain ⟨D, hD, e2⟩ := h1 i e
        rw [hB D hD i hi] at e2
        cases e2
    show (uns Bs ++ (uns Bs).map _).Pairwise _
    rw [List.pairwise_append]
    refine ⟨ih, ?_, fun a ha b hb => ?_⟩
    · rw [List.pairwise_map]
      refine List.Pairwise.imp_of_mem (fun {a b} ha hb hab => ?_) ih
      intro e
      apply hab
      apply Nat.eq_of_testBit_eq
      intro i
      have e2 : Nat.testBit (B ||| a) i = Nat.testBit (B ||| b) i := by rw [e]
      rw [Nat.testBit_or, Nat.testBit_or] at e2
      cases eb : Nat.testBit B i
      · rw [eb] at e2
        simpa using e2
      · rw [hdis a ha i eb, hdis b hb i eb]
    · obtain ⟨u, hu, rfl⟩ := List.mem_map.mp hb
      intro e
      obtain ⟨i, hi⟩ := hz B List.mem_cons_self
      have e2 := hdis a ha i hi
      rw [e, Nat.testBit_or, hi] at e2
      cases e2
/-- the last place with P, or -1 -/
def top (P : Nat → Bool) : Nat → Int
  | 0 => -1
  | q + 1 => if P q = true then (q : Int) else top P q
theorem top_s (P : Nat → Bool) (q : Nat) : top P (q + 1) = if P q = true then (q : Int) else top P q := rfl
theorem top_spec (P : Nat → Bool) : ∀ m, (top P m = -1 ∧ ∀ q, q < m → P q = false) ∨ ∃ q, q < m ∧ top P m = (q : Int) ∧ P q = true ∧ ∀ r, q < r → r < m → P r = false
  | 0 => Or.inl ⟨rfl, fun q h => absurd h (Nat.not_lt_zero _)⟩
  | m + 1 => by
    rw [top_s]
    by_cases hp : P m = true
    · rw [if_pos hp]
      exact Or.inr ⟨m, by omega, rfl, hp, fun r h1 h2 => absurd h1 (by omega)⟩
    · rw [if_neg hp]
      have hp : P m = false := Bool.eq_false_iff.mpr hp
      rcases top_spec P m with ⟨h1, h2⟩ | ⟨q, h1, h2, h3, h4⟩
      · refine Or.inl ⟨h1, fun q hq => ?_⟩
        rcases Nat.lt_or_ge q m with h5 | h5
        · exact h2 q h5
        · obtain rfl : q = m := by omega
          exact hp
      · refine Or.inr ⟨q, by omega, h2, h3, fun r h5 h6 => ?_⟩
        rcases Nat.lt_or_ge r m with h7 | h7
        · exact h4 r h5 h7
        · obtain rfl : r = m := by omega
          exact hp
theorem top_ge {P : Nat → Bool} {m q : Nat} (hq : q < m) (hp : P q = true) : (q : Int) ≤ top P m := by
  rcases top_spec P m with ⟨h1, h2⟩ | ⟨r, h1, h2, h3, h4⟩
  · rw [h2 q hq] at hp
    cases hp
  · rw [h2]
    rcases Nat.lt_or_ge r q with h5 | h5
    · rw [h4 q h5 hq] at hp
      cases hp
    · omega
theorem top_in {P : Nat → Bool} {m q : Nat} (h : top P m = (q : Int)) : q < m ∧ P q = true := by
  rcases top_spec P m with ⟨h1, h2⟩ | ⟨r, h1, h2, h3, h4⟩
  · omega
  · obtain rfl : q = r := by omega
    exact ⟨h1, h3⟩
theorem top_bd (P : Nat → Bool) (m : Nat) : -1 ≤ top P m ∧ top P m < m := by
  rcases top_spec P m with ⟨h1, h2⟩ | ⟨r, h1, h2, h3, h4⟩ <;> omega
theorem top_eq {P : Nat → Bool} {m : Nat} {v : Int} (h1 : v = -1 ∨ ∃ q, q < m ∧ v = (q : Int) ∧ P q = true) (h2 : ∀ r, r < m → v < (r : Int) → P r = false) : top P m = v := by
  rcases top_spec P m with ⟨h3, h4⟩ | ⟨r, h3, h4, h5, h6⟩
  · rcases h1 with e | ⟨q, hq, e, hp⟩
    · rw [h3, e]
    · rw [h4 q hq] at hp
      cases hp
  · rw [h4]
    rcases h1 with e | ⟨q, hq, e, hp⟩
    · rw [h2 r h3 (by omega)] at h5
      cases h5
    · rcases Nat.lt_trichotomy q r with h7 | h7 | h7
      · rw [h2 r h3 (by omega)] at h5
        cases h5
      · omega
      · rw [h6 q h7 hq] at hp
        cases hp
theorem filt_cnt (f : Nat → Int) (k : Int) : ∀ m, ((List.range m).filter (fun q => decide (f q = k))).length = cntI f k m
  | 0 => rfl
  | m + 1 => by
    rw [List.range_succ, List.filter_append, List.length_append, filt_cnt f k m, cntI_s]
    by_cases e : f m = k
    · simp [e]
    · simp [e]
theorem cntI_shift (f : Nat → Int) (k : Int) : ∀ m, cntI f k (m + 1) = (if f 0 = k then 1 else 0) + cntI (fun i => f (i + 1)) k m
  | 0 => by
    rw [cntI_s]
    show (if f 0 = k then 0 + 1 else 0) = _
    split <;> rfl
  | m + 1 => by
    rw [cntI_s, cntI_shift f k m, cntI_s]
    split <;> omega
end
section
/-! a family of sets, nested or apart: the sets that are nested with or apart from all of them, counted place by place -/
set_option maxRecDepth 100000
def sbs (a b : Nat) : Prop := ∀ i, Nat.testBit a i = true → Nat.testBit b i = true
def sbB (a b : Nat) : Bool := decide (a &&& b = a)
theorem sbs_and {a b : Nat} : sbs a b ↔ a &&& b = a := by
  constructor
  · intro h
    apply Nat.eq_of_testBit_eq
    intro i
    rw [Nat.testBit_and]
    cases e : Nat.testBit a i
    · rfl
    · rw [h i e]
      rfl
  · intro h i hi
    rw [← h, Nat.testBit_and, Bool.and_eq_true] at hi
    exact hi.2
theorem sbB_iff {a b : Nat} : sbB a b = true ↔ sbs a b := by
  unfold sbB
  rw [decide_eq_true_iff]
  exact sbs_and.symm
theorem sbs_le {a b : Nat} (h : sbs a b) : a ≤ b := by
  have h1 : a &&& b ≤ b := Nat.and_le_right
  rw [sbs_and.mp h] at h1
  exact h1
theorem sbs_refl (a : Nat) : sbs a a := fun _ h => h
theorem sbs_trans {a b c : Nat} (h1 : sbs a b) (h2 : sbs b c) : sbs a c := fun i h => h2 i (h1 i h)
theorem sbs_eq {a b : Nat} (h1 : sbs a b) (h2 : sbs b a) : a = b := Nat.le_antisymm (sbs_le h1) (sbs_le h2)
theorem leastP (P : Nat → Prop) : ∀ m, P m → ∃ q, q ≤ m ∧ P q ∧ ∀ r, r < q → ¬ P r := by
  intro m
  induction m using Nat.strongRecOn with
  | _ m ih =>
    intro h
    by_cases hc : ∃ r, r < m ∧ P r
    · obtain ⟨r, hr, hp⟩ := hc
      obtain ⟨q, h1, h2, h3⟩ := ih r hr hp
      exact ⟨q, by omega, h2, h3⟩
    · exact ⟨m, Nat.le_refl _, h, fun r hr hp => hc ⟨r, hr, hp⟩⟩
/-- sets C 0, .., C (e - 1) of numbers below W: not empty, falling, nested or apart -/
def fam (e W : Nat) (C : Nat → Nat) : Prop := (∀ q, q < e → ∃ i, Nat.testBit (C q) i = true) ∧ (∀ q, q < e → ∀ i, Nat.testBit (C q) i = true → i < W) ∧ (∀ q r, q < r → r < e → C r < C q) ∧ (∀ q r, q < e → r < e → sbs (C q) (C r) ∨ sbs (C r) (C q) ∨ dis (C q) (C r))
theorem fam_lt {e W : Nat} {C : Nat → Nat} (hf : fam e W C) {q r : Nat} (hq : q < e) (hs : sbs (C r) (C q)) (hne : r ≠ q) : q < r := by
  rcases Nat.lt_or_ge q r with h | h
  · exact h
  · have h1 := hf.2.2.1 r q (by omega) hq
    have h2 := sbs_le hs
    omega
theorem fam_nest {e W : Nat} {C : Nat → Nat} (hf : fam e W C) {q r i : Nat} (hr : r < e) (hqr : q ≤ r) (h1 : Nat.testBit (C q) i = true) (h2 : Nat.testBit (C r) i = true) : sbs (C r) (C q) := by
  rcases Nat.lt_or_ge q r with h | h
  · rcases hf.2.2.2 q r (by omega) hr with h3 | h3 | h3
    · have h4 := hf.2.2.1 q r h hr
      have h5 := sbs_le h3
      omega
    · exact h3
    · rw [h3 i h1] at h2
      cases h2
  · obtain rfl : q = r := by omega
    exact sbs_refl _
theorem fam_inj {e W : Nat} {C : Nat → Nat} (hf : fam e W C) {q r : Nat} (hq : q < e) (hr : r < e) (h : C q = C r) : q = r := by
  rcases Nat.lt_trichotomy q r with h1 | h1 | h1
  · have := hf.2.2.1 q r h1 hr
    omega
  · exact h1
  · have := hf.2.2.1 r q h1 hq
    omega
theorem fam_ne {e W : Nat} {C : Nat → Nat} (hf : fam e W C) {q : Nat} (hq : q < e) : C q ≠ 0 := by
  intro h
  obtain ⟨i, hi⟩ := hf.1 q hq
  rw [h] at hi
  simp at hi
/-- the next set around C k; around a number; around any set -/
def upv (e : Nat) (C : Nat → Nat) (k : Nat) : Int := top (fun q => decide (q ≠ k) && sbB (C k) (C q)) e
def hmv (e : Nat) (C : Nat → Nat) (i : Nat) : Int := top (fun q => Nat.testBit (C q) i) e
def vtv (e : Nat) (C : Nat → Nat) (x : Nat) : Int := top (fun q => sbB x (C q)) e
theorem up_pred {C : Nat → Nat} {q r : Nat} : (decide (r ≠ q) && sbB (C q) (C r)) = true ↔ r ≠ q ∧ sbs (C q) (C r) := by
  rw [Bool.and_eq_true, decide_eq_true_iff, sbB_iff]
theorem up_in {e W : Nat} {C : Nat → Nat} (hf : fam e W C) {q m : Nat} (h : upv e C q = (m : Int)) : m < e ∧ sbs (C q) (C m) ∧ m < q := by
  obtain ⟨h1, h2⟩ := top_in h
  obtain ⟨h3, h4⟩ := up_pred.mp h2
  exact ⟨h1, h4, fam_lt hf h1 h4 (fun e => h3 e.symm)⟩
theorem up_lt {e W : Nat} {C : Nat → Nat} (hf : fam e W C) (q : Nat) : upv e C q < (q : Int) := by
  have hb := top_bd (fun r => decide (r ≠ q) && sbB (C q) (C r)) e
  have hb2 : -1 ≤ upv e C q := hb.1
  rcases Int.lt_or_le (upv e C q) 0 with h | h
  · omega
  · have h1 := (up_in hf (q := q) (m := (upv e C q).toNat) (by omega)).2.2
    omega
theorem up_ge {e : Nat} {C : Nat → Nat} {q r : Nat} (hr : r < e) (hne : r ≠ q) (h : sbs (C q) (C r)) : (r : Int) ≤ upv e C q := top_ge (P := fun r => decide (r ≠ q) && sbB (C q) (C r)) hr (up_pred.mpr ⟨hne, h⟩)
theorem hm_in {e : Nat} {C : Nat → Nat} {i m : Nat} (h : hmv e C i = (m : Int)) : m < e ∧ Nat.testBit (C m) i = true := top_in h
theorem hm_ge {e : Nat} {C : Nat → Nat} {i r : Nat} (hr : r < e) (h : Nat.testBit (C r) i = true) : (r : Int) ≤ hmv e C i := top_ge (P := fun q => Nat.testBit (C q) i) hr h
theorem vt_in {e : Nat} {C : Nat → Nat} {x m : Nat} (h : vtv e C x = (m : Int)) : m < e ∧ sbs x (C m) := by
  obtain ⟨h1, h2⟩ := top_in h
  exact ⟨h1, sbB_iff.mp h2⟩
theorem vt_ge {e : Nat} {C : Nat → Nat} {x r : Nat} (hr : r < e) (h : sbs x (C r)) : (r : Int) ≤ vtv e C x := top_ge (P := fun q => sbB x (C q)) hr (sbB_iff.mpr h)
/-- the parts at the vertex k: sets right below it, and single numbers -/
def chd (e : Nat) (C : Nat → Nat) (k : Int) : List Nat := ((List.range e).filter (fun q => decide (upv e C q = k))).map C
def pts (e W : Nat) (C : Nat → Nat) (k : Int) : List Nat := ((List.range W).filter (fun i => decide (hmv e C i = k))).map (fun i => 2 ^ i)
def blk (e W : Nat) (C : Nat → Nat) (k : Int) : List Nat := chd e C k ++ pts e W C k
theorem chd_mem {e : Nat} {C : Nat → Nat} {k : Int} {B : Nat} : B ∈ chd e C k ↔ ∃ q, q < e ∧ upv e C q = k ∧ C q = B := by
  unfold chd
  rw [List.mem_map]
  constructor
  · rintro ⟨q, h1, h2⟩
    rw [List.mem_filter, List.mem_range, decide_eq_true_iff] at h1
    exact ⟨q, h1.1, h1.2, h2⟩
  · rintro ⟨q, h1, h2, h3⟩
    refine ⟨q, ?_, h3⟩
    rw [List.mem_filter, List.mem_range, decide_eq_true_iff]
    exact ⟨h1, h2⟩
theorem pts_mem {e W : Nat} {C : Nat → Nat} {k : Int} {B : Nat} : B ∈ pts e W C k ↔ ∃ i, i < W ∧ hmv e C i = k ∧ 2 ^ i = B := by
  unfold pts
  rw [List.mem_map]
  constructor
  · rintro ⟨q, h1, h2⟩
    rw [List.mem_filter, List.mem_range, decide_eq_true_iff] at h1
    exact ⟨q, h1.1, h1.2, h2⟩
  · rintro ⟨q, h1, h2, h3⟩
    refine ⟨q, ?_, h3⟩
    rw [List.mem_filter, List.mem_range, decide_eq_true_iff]
    exact ⟨h1, h2⟩
theorem blk_mem {e W : Nat} {C : Nat → Nat} {k : Int} {B : Nat} : B ∈ blk e W C k ↔ (∃ q, q < e ∧ upv e C q = k ∧ C q = B) ∨ ∃ i, i < W ∧ hmv e C i = k ∧ 2 ^ i = B := by
  unfold blk
  rw [List.mem_append, chd_mem, pts_mem]
theorem blk_len (e W : Nat) (C : Nat → Nat) (k : Int) : (blk e W C k).length = cntI (upv e C) k e + cntI (hmv e C) k W := by
  unfold blk chd pts
  rw [List.length_append, List.length_map, List.length_map, filt_cnt, filt_cnt]
theorem chd_len (e : Nat) (C : Nat → Nat) (k : Int) : (chd e C k).length = cntI (upv e C) k e := by
  unfold chd
  rw [List.length_map, filt_cnt]
theorem bit_pow {i j : Nat} (h : Nat.testBit (2 ^ i) j = true) : i = j := by
  rw [Nat.testBit_two_pow] at h
  exact of_decide_eq_true h
theorem chd_apart {e W : Nat} {C : Nat → Nat} (hf : fam e W C) {k : Int} {q r : Nat} (hq : q < e) (hr : r < e) (hqr : q ≠ r) (uq : upv e C q = k) (ur : upv e C r = k) : dis (C q) (C r) := by
  have l1 := up_lt hf q
  have l2 := up_lt hf r
  rcases hf.2.2.2 q r hq hr with h | h | h
  · have h1 := up_ge hr (fun e => hqr e.symm) h
    omega
  · have h1 := up_ge hq hqr h
    omega
  · exact h
theorem pts_apart {e W : Nat} {C : Nat → Nat} (hf : fam e W C) {k : Int} {q i : Nat} (hq : q < e) (uq : upv e C q = k) (ui : hmv e C i = k) : Nat.testBit (C q) i = false := by
  cases h : Nat.testBit (C q) i
  · rfl
  · have h1 := hm_ge hq h
    have h2 := up_lt hf q
    omega
theorem blk_dis {e W : Nat} {C : Nat → Nat} (hf : fam e W C) (k : Int) : (blk e W C k).Pairwise dis := by
  unfold blk
  rw [List.pairwise_append]
  refine ⟨?_, ?_, fun a ha b hb => ?_⟩
  · unfold chd
    rw [List.pairwise_map]
    refine List.Pairwise.imp_of_mem (fun {q r} hq hr hqr => ?_) (List.Pairwise.filter _ List.nodup_range)
    rw [List.mem_filter, List.mem_range, decide_eq_true_iff] at hq hr
    exact chd_apart hf hq.1 hr.1 hqr hq.2 hr.2
  · unfold pts
    rw [List.pairwise_map]
    refine List.Pairwise.imp_of_mem (fun {q r} hq hr hqr => ?_) (List.Pairwise.filter _ List.nodup_range)
    intro i hi
    rw [← bit_pow hi]
    exact Nat.testBit_two_pow_of_ne (fun e => hqr e.symm)
  · obtain ⟨q, h1, h2, rfl⟩ := chd_mem.mp ha
    obtain ⟨i, h3, h4, rfl⟩ := pts_mem.mp hb
    refine dis_symm (fun j hj => ?_)
    rw [← bit_pow hj]
    exact pts_apart hf h1 h2 h4
theorem blk_some {e W : Nat} {C : Nat → Nat} (hf : fam e W C) (k : Int) : ∀ B ∈ blk e W C k, ∃ i, Nat.testBit B i = true := by
  intro B hB
  rcases blk_mem.mp hB with ⟨q, h1, h2, rfl⟩ | ⟨i, h1, h2, rfl⟩
  · exact hf.1 q h1
  · exact ⟨i, Nat.testBit_two_pow_self⟩
theorem blk_low {e W : Nat} {C : Nat → Nat} (hf : fam e W C) {k : Int} {B j : Nat} (hB : B ∈ blk e W C k) (hj : Nat.testBit B j = true) : j < W := by
  rcases blk_mem.mp hB with ⟨q, h1, h2, rfl⟩ | ⟨i, h1, h2, rfl⟩
  · exact hf.2.1 q h1 j hj
  · rw [← bit_pow hj]
    exact h1
theorem blk_in {e W : Nat} {C : Nat → Nat} (hf : fam e W C) {k : Int} {m B : Nat} (hk : k = (m : Int)) (hB : B ∈ blk e W C k) : sbs B (C m) := by
  rcases blk_mem.mp hB with ⟨q, h1, h2, rfl⟩ | ⟨i, h1, h2, rfl⟩
  · exact (up_in hf (h2.trans hk)).2.1
  · intro j hj
    rw [← bit_pow hj]
    exact (hm_in (h2.trans hk)).2
/-- the parts at a vertex hold all that is below it -/
theorem blk_cover {e W : Nat} {C : Nat → Nat} (hf : fam e W C) {k : Int} {i : Nat} (hi : i < W) (hk : k = -1 ∨ ∃ m, m < e ∧ k = ((m : Nat) : Int) ∧ Nat.testBit (C m) i = true) : ∃ B ∈ blk e W C k, Nat.testBit B i = true := by
  by_cases hh : hmv e C i = k
  · exact ⟨2 ^ i, blk_mem.mpr (Or.inr ⟨i, hi, hh, rfl⟩), Nat.testBit_two_pow_self⟩
  · have hex : ∃ m, m < e ∧ k < ((m : Nat) : Int) ∧ Nat.testBit (C m) i = true := by
      rcases top_spec (fun q => Nat.testBit (C q) i) e with ⟨h1, h2⟩ | ⟨m, h1, h2, h3, h4⟩
      · rcases hk with hk | ⟨m, hm, hk, hb⟩
        · exact absurd (h1.trans hk.symm) hh
        · have h5 : Nat.testBit (C m) i = false := h2 m hm
          rw [hb] at h5
          cases h5
      · refine ⟨m, h1, ?_, h3⟩
        have h5 : hmv e C i = (m : Int) := h2
        rcases hk with hk | ⟨m', hm', hk, hb⟩
        · omega
        · have h6 := hm_ge hm' hb
          omega
    obtain ⟨m, hm⟩ := hex
    obtain ⟨q, -, ⟨q1, q2, q3⟩, q4⟩ := leastP (fun m => m < e ∧ k < ((m : Nat) : Int) ∧ Nat.testBit (C m) i = true) m hm
    refine ⟨C q, blk_mem.mpr (Or.inl ⟨q, q1, ?_, rfl⟩), q3⟩
    refine top_eq ?_ (fun r hr hkr => ?_)
    · rcases hk with hk | ⟨m', hm', hk, hb⟩
      · exact Or.inl hk
      · exact Or.inr ⟨m', hm', hk, up_pred.mpr ⟨by omega, fam_nest hf q1 (by omega) hb q3⟩⟩
    · cases hc : (decide (r ≠ q) && sbB (C q) (C r))
      · rfl
      · exfalso
        obtain ⟨c1, c2⟩ := up_pred.mp hc
        have h5 : ¬ r < q := fun hlt => q4 r hlt ⟨hr, hkr, c2 i q3⟩
        have h6 := fam_lt hf hr c2 (fun e => c1 e.symm)
        omega
/-- x is nested with or apart from all -/
def lamx (e : Nat) (C : Nat → Nat) (x : Nat) : Prop := ∀ q, q < e → sbs (C q) x ∨ sbs x (C q) ∨ dis x (C q)
theorem lam_C {e W : Nat} {C : Nat → Nat} (hf : fam e W C) {q : Nat} (hq : q < e) : lamx e C (C q) := by
  intro r hr
  rcases hf.2.2.2 q r hq hr with h | h | h
  · exact Or.inr (Or.inl h)
  · exact Or.inl h
  · exact Or.inr (Or.inr h)
theorem sbs_or_dis {B x : Nat} (hs : sbs B x ∨ dis B x) {i : Nat} (h1 : Nat.testBit B i = true) (h2 : Nat.testBit x i = true) : sbs B x := by
  rcases hs with h | h
  · exact h
  · rw [h i h1] at h2
    cases h2
/-- a union of parts at k is nested or apart, and belongs to k, unless it is one of the sets there -/
theorem un_fwd {e W : Nat} {C : Nat → Nat} (hf : fam e W C) {k : Int} (hk1 : -1 ≤ k) (hk2 : k < (e : Int)) {x : Nat} (hx : isU (blk e W C k) x) (x0 : x ≠ 0) (hc : ∀ q, q < e → upv e C q = k → x ≠ C q) (hm : ∀ m, m < e → k = ((m : Nat) : Int) → x ≠ C m) : x < 2 ^ W ∧ lamx e C x ∧ vtv e C x = k ∧ ∀ q, q < e → x ≠ C q := by
  obtain ⟨hx1, hx2⟩ := hx
  have hin : ∀ m : Nat, k = ((m : Nat) : Int) → sbs x (C m) := by
    intro m ek i hi
    obtain ⟨B, hB, hb⟩ := hx1 i hi
    exact blk_in hf ek hB i hb
  have hvt : vtv e C x = k := by
    refine top_eq ?_ (fun r hr hkr => ?_)
    · rcases Int.lt_or_le k 0 with h | h
      · exact Or.inl (by omega)
      · exact Or.inr ⟨k.toNat, by omega, by omega, sbB_iff.mpr (hin _ (by omega))⟩
    · cases hcs : sbB x (C r)
      · rfl
      · exfalso
        have hcs := sbB_iff.mp hcs
        obtain ⟨i, hi⟩ := Nat.exists_testBit_of_ne_zero x0
        obtain ⟨B, hB, hb⟩ := hx1 i hi
        have hBx := sbs_or_dis (hx2 B hB) hb hi
        rcases blk_mem.mp hB with ⟨q, h1, h2, rfl⟩ | ⟨j, h1, h2, rfl⟩
        · by_cases hrq : r = q
          · subst hrq
            exact hc r hr h2 (sbs_eq hcs hBx)
          · have := up_ge hr hrq (sbs_trans hBx hcs)
            omega
        · have hj := bit_pow hb
          subst hj
          have := hm_ge hr (hcs _ hi)
          omega
  refine ⟨?_, fun q hq => ?_, hvt, fun q hq hxq => ?_⟩
  · refine Nat.lt_pow_two_of_testBit x (fun i hi => ?_)
    cases hxi : Nat.testBit x i
    · rfl
    · obtain ⟨B, hB, hb⟩ := hx1 i hxi
      have := blk_low hf hB hb
      omega
  · by_cases hd : ∃ i, Nat.testBit x i = true ∧ Nat.testBit (C q) i = true
    · obtain ⟨i, hi, hqi⟩ := hd
      obtain ⟨B, hB, hb⟩ := hx1 i hi
      have hBx := sbs_or_dis (hx2 B hB) hb hi
      have down : (q : Int) ≤ k → sbs x (C q) := by
        intro hqk
        have hxk := hin k.toNat (by omega)
        exact sbs_trans hxk (fam_nest hf (by omega) (by omega) hqi (hxk i hi))
      rcases blk_mem.mp hB with ⟨r, h1, h2, rfl⟩ | ⟨j, h1, h2, rfl⟩
      · by_cases hrq : q = r
        · subst hrq
          exact Or.inl hBx
        · rcases hf.2.2.2 r q h1 hq with h3 | h3 | h3
          · have := up_ge hq hrq h3
            exact Or.inr (Or.inl (down (by omega)))
          · exact Or.inl (sbs_trans h3 hBx)
          · rw [h3 i hb] at hqi
            cases hqi
      · have hj := bit_pow hb
        subst hj
        have := hm_ge hq hqi
        exact Or.inr (Or.inl (down (by omega)))
    · refine Or.inr (Or.inr (fun i hi => ?_))
      cases hqi : Nat.testBit (C q) i
      · rfl
      · exact absurd ⟨i, hi, hqi⟩ hd
  · have h1 := vt_ge hq (show sbs x (C q) by rw [hxq]; exact sbs_refl _)
    have h2 := hin k.toNat (by omega)
    rw [hxq] at h2
    by_cases hqk : q = k.toNat
    · exact hm q hq (by omega) hxq
    · have h3 := hf.2.2.1 q k.toNat (by omega) (by omega)
      have h4 := sbs_le h2
      omega
/-- and the other way round -/
theorem un_bwd {e W : Nat} {C : Nat → Nat} (hf : fam e W C) {k : Int} {x : Nat} (hxW : x < 2 ^ W) (hl : lamx e C x) (hv : vtv e C x = k) : isU (blk e W C k) x := by
  have hk1 : -1 ≤ k := by
    have h1 := (top_bd (fun q => sbB x (C q)) e).1
    have h2 : vtv e C x = top (fun q => sbB x (C q)) e := rfl
    omega
  refine ⟨fun i hi => ?_, fun B hB => ?_⟩
  · refine blk_cover hf ?_ ?_
    · rcases Nat.lt_or_ge i W with h | h
      · exact h
      · rw [Nat.testBit_lt_two_pow (Nat.lt_of_lt_of_le hxW (Nat.pow_le_pow_right (by decide) h))] at hi
        cases hi
    · rcases Int.lt_or_le k 0 with h | h
      · exact Or.inl (by omega)
      · obtain ⟨h1, h2⟩ := vt_in (e := e) (C := C) (x := x) (m := k.toNat) (by omega)
        exact Or.inr ⟨k.toNat, h1, by omega, h2 i hi⟩
  · rcases blk_mem.mp hB with ⟨q, h1, h2, rfl⟩ | ⟨j, h1, h2, rfl⟩
    · rcases hl q h1 with h3 | h3 | h3
      · exact Or.inl h3
      · have h4 := vt_ge h1 h3
        have h5 := up_lt hf q
        omega
      · exact Or.inr (dis_symm h3)
    · cases hxj : Nat.testBit x j
      · refine Or.inr (fun i hi => ?_)
        rw [← bit_pow hi]
        exact hxj
      · refine Or.inl (fun i hi => ?_)
        rw [← bit_pow hi]
        exact hxj
/-- the sets at k, and none -/
def rmv (e : Nat) (C : Nat → Nat) (k : Int) : List Nat := 0 :: (chd e C k ++ (if k < 0 then [] else [C k.toNat]))
theorem rmv_mem {e : Nat} {C : Nat → Nat} {k : Int} {x : Nat} : x ∈ rmv e C k ↔ x = 0 ∨ (∃ q, q < e ∧ upv e C q = k ∧ C q = x) ∨ (0 ≤ k ∧ x = C k.toNat) := by
  unfold rmv
  rw [List.mem_cons, List.mem_append, chd_mem]
  by_cases h : k < 0
  · rw [if_pos h]
    constructor
    · rintro (h1 | h1 | h1)
      · exact Or.inl h1
      · exact Or.inr (Or.inl h1)
      · cases h1
    · rintro (h1 | h1 | h1)
      · exact Or.inl h1
      · exact Or.inr (Or.inl h1)
      · omega
  · rw [if_neg h, List.mem_singleton]
    constructor
    · rintro (h1 | h1 | h1)
      · exact Or.inl h1
      · exact Or.inr (Or.inl h1)
      · exact Or.inr (Or.inr ⟨by omega, h1⟩)
    · rintro (h1 | h1 | h1)
      · exact Or.inl h1
      · exact Or.inr (Or.inl h1)
      · exact Or.inr (Or.inr h1.2)
theorem rmv_len (e : Nat) (C : Nat → Nat) (k : Int) : (rmv e C k).length = 1 + cntI (upv e C) k e + (if k < 0 then 0 else 1) := by
  unfold rmv
  rw [List.length_cons, List.length_append, chd_len]
  split
  · simp
    omega
  · simp
    omega
theorem C_nodup {e W : Nat} {C : Nat → Nat} (hf : fam e W C) {l : List Nat} (hl : l.Nodup) (hb : ∀ q ∈ l, q < e) : (l.map C).Nodup := by
  unfold List.Nodup
  rw [List.pairwise_map]
  refine List.Pairwise.imp_of_mem (fun {q r} hq hr hqr => ?_) hl
  exact fun h => hqr (fam_inj hf (hb q hq) (hb r hr) h)
theorem rmv_nodup {e W : Nat} {C : Nat → Nat} (hf : fam e W C) {k : Int} (hk2 : k < (e : Int)) : (rmv e C k).Nodup := by
  unfold rmv
  rw [List.nodup_cons]
  refine ⟨fun h => ?_, ?_⟩
  · rcases List.mem_append.mp h with h1 | h1
    · obtain ⟨q, h2, h3, h4⟩ := chd_mem.mp h1
      exact fam_ne hf h2 h4
    · split at h1
      · cases h1
      · exact fam_ne hf (by omega) (List.mem_singleton.mp h1).symm
  · unfold List.Nodup
    rw [List.pairwise_append]
    refine ⟨?_, ?_, fun a ha b hb => ?_⟩
    · unfold chd
      exact C_nodup hf (List.Pairwise.filter _ List.nodup_range) (fun q hq => List.mem_range.mp (List.mem_filter.mp hq).1)
    · split
      · exact List.Pairwise.nil
      · exact List.pairwise_singleton _ _
    · obtain ⟨q, h2, h3, rfl⟩ := chd_mem.mp ha
      split at hb
      · cases hb
      · rw [List.mem_singleton.mp hb]
        intro h4
        have h5 := up_in hf (q := q) (m := k.toNat) (by omega)
        have h6 := fam_inj hf h2 h5.1 h4
        omega
theorem rmv_un {e W : Nat} {C : Nat → Nat} (hf : fam e W C) {k : Int} (hk2 : k < (e : Int)) : ∀ x ∈ rmv e C k, isU (blk e W C k) x := by
  intro x hx
  rcases rmv_mem.mp hx with rfl | ⟨q, h1, h2, rfl⟩ | ⟨h1, rfl⟩
  · refine ⟨fun i hi => ?_, fun B hB => Or.inr (fun i hi => ?_)⟩
    · simp at hi
    · simp
  · refine ⟨fun i hi => ⟨C q, blk_mem.mpr (Or.inl ⟨q, h1, h2, rfl⟩), hi⟩, fun B hB => ?_⟩
    rcases blk_mem.mp hB with ⟨r, h3, h4, rfl⟩ | ⟨j, h3, h4, rfl⟩
    · by_cases hqr : r = q
      · subst hqr
        exact Or.inl (sbs_refl _)
      · exact Or.inr (chd_apart hf h3 h1 hqr h4 h2)
    · refine Or.inr (fun i hi => ?_)
      rw [← bit_pow hi]
      exact pts_apart hf h1 h2 h4
  · refine ⟨fun i hi => ?_, fun B hB => Or.inl (blk_in hf (by omega) hB)⟩
    exact blk_cover hf (hf.2.1 k.toNat (by omega) i hi) (Or.inr ⟨k.toNat, by omega, by omega, hi⟩)
/-- as many unions as there are, less those that are sets, are left for the vertex k -/
theorem vtx_count {e W : Nat} {C : Nat → Nat} (hf : fam e W C) {N : List Nat} (hN : N.Nodup) (hNm : ∀ x, x ∈ N ↔ x ≠ 0 ∧ x < 2 ^ W ∧ lamx e C x ∧ ∀ q, q < e → x ≠ C q) {t : Nat} (ht : t < e + 1) {k : Int} (hk : k = (t : Int) - 1) :
    (N.filter (fun x => decide ((vtv e C x + 1).toNat = t))).length + (1 + cntI (upv e C) k e + (if k < 0 then 0 else 1)) = 2 ^ (cntI (upv e C) k e + cntI (hmv e C) k W) := by
  have hU := blk_dis hf k
  have h1 := len_without (uns_nodup hU (blk_some hf k)) (rmv_nodup hf (k := k) (by omega)) (fun x hx => (uns_mem hU x).mpr (rmv_un hf (by omega) x hx))
  rw [uns_len, blk_len, rmv_len] at h1
  rw [← h1]
  congr 1
  refine len_of_mem (List.Pairwise.filter _ hN) (List.Pairwise.filter _ (uns_nodup hU (blk_some hf k))) (fun x => ?_)
  have hvb : -1 ≤ vtv e C x := (top_bd (fun q => sbB x (C q)) e).1
  rw [List.mem_filter, List.mem_filter, hNm, uns_mem hU, decide_eq_true_iff, Bool.not_eq_true', decide_eq_false_iff_not, rmv_mem]
  constructor
  · rintro ⟨⟨g1, g2, g3, g4⟩, g5⟩
    refine ⟨un_bwd hf g2 g3 (by omega), ?_⟩
    rintro (h | ⟨q, h2, h3, h4⟩ | ⟨h2, h3⟩)
    · exact g1 h
    · exact g4 q h2 h4.symm
    · exact g4 k.toNat (by omega) h3
  · rintro ⟨g1, g2⟩
    have x0 : x ≠ 0 := fun h => g2 (Or.inl h)
    obtain ⟨u1, u2, u3, u4⟩ := un_fwd hf (by omega) (by omega) g1 x0 (fun q hq hu h => g2 (Or.inr (Or.inl ⟨q, hq, hu, h.symm⟩))) (fun m hm hkm h => g2 (Or.inr (Or.inr ⟨by omega, by rw [h]; congr 1; omega⟩)))
    exact ⟨⟨x0, u1, u2, u4⟩, by omega⟩
end
section
/-! agreeing: what the component counts vertex by vertex is the number of the splits that agree with all edges -/
set_option maxRecDepth 100000
theorem bit_hi {n S j : Nat} (hS : S < 2 ^ n) (h : Nat.testBit S j = true) : j < n := by
  rcases Nat.lt_or_ge j n with h1 | h1
  · exact h1
  · rw [Nat.testBit_lt_two_pow (Nat.lt_of_lt_of_le hS (Nat.pow_le_pow_right (by decide) h1))] at h
    cases h
theorem cmp_t {n S i : Nat} (hS : S < 2 ^ n) : Nat.testBit (cmp n S) i = true ↔ i + 1 < n ∧ Nat.testBit S (i + 1) = false := by
  rw [cmp_bit hS, Bool.and_eq_true, decide_eq_true_iff, Bool.not_eq_true']
theorem cmp_sbs {n S T : Nat} (hS : S < 2 ^ n) (hT : T < 2 ^ n) (hT0 : T % 2 = 1) : S &&& T = S ↔ sbs (cmp n T) (cmp n S) := by
  rw [← sbs_and]
  constructor
  · intro h i hi
    obtain ⟨h1, h2⟩ := (cmp_t hT).mp hi
    refine (cmp_t hS).mpr ⟨h1, ?_⟩
    cases h3 : Nat.testBit S (i + 1)
    · rfl
    · rw [h _ h3] at h2
      cases h2
  · intro h j hj
    cases j with
    | zero => exact bit0.mpr hT0
    | succ i =>
      cases h3 : Nat.testBit T (i + 1)
      · have h4 := ((cmp_t hS).mp (h i ((cmp_t hT).mpr ⟨bit_hi hS hj, h3⟩))).2
        rw [hj] at h4
        cases h4
      · rfl
theorem cmp_dis {n S T : Nat} (hS : S < 2 ^ n) (hT : T < 2 ^ n) (hS0 : S % 2 = 1) : S ||| T = 2 ^ n - 1 ↔ dis (cmp n S) (cmp n T) := by
  constructor
  · intro h i hi
    obtain ⟨h1, h2⟩ := (cmp_t hS).mp hi
    cases h3 : Nat.testBit (cmp n T) i
    · rfl
    · have h4 := ((cmp_t hT).mp h3).2
      have h5 : Nat.testBit (S ||| T) (i + 1) = true := by rw [h, Nat.testBit_two_pow_sub_one]; exact decide_eq_true h1
      rw [Nat.testBit_or, h2, h4] at h5
      cases h5
  · intro h
    apply Nat.eq_of_testBit_eq
    intro j
    rw [Nat.testBit_two_pow_sub_one, Nat.testBit_or]
    by_cases hj : j < n
    · rw [decide_eq_true hj]
      cases j with
      | zero => rw [bit0.mpr hS0]; rfl
      | succ i =>
        cases h1 : Nat.testBit S (i + 1)
        · cases h2 : Nat.testBit T (i + 1)
          · have h3 := h i ((cmp_t hS).mpr ⟨hj, h1⟩)
            rw [(cmp_t hT).mpr ⟨hj, h2⟩] at h3
            cases h3
          · rfl
        · rfl
    · rw [decide_eq_false hj]
      cases h1 : Nat.testBit S j
      · cases h2 : Nat.testBit T j
        · rfl
        · exact absurd (bit_hi hT h2) hj
      · exact absurd (bit_hi hS h1) hj
/-- the edges' sides without point 0 -/
def eC (d : Nat → Nat) (n q : Nat) : Nat := cmp n (sdN (Es d n) q)
theorem Es_at {d : Nat → Nat} {n q : Nat} (hq : q < (Es d n).length) : sdN (Es d n) q % 2 = 1 ∧ sdN (Es d n) q < 2 ^ n - 1 ∧ 0 < idx d (sdN (Es d n) q) n := by
  obtain ⟨e1, e2, e3, -⟩ := Es_mem.mp (List.mem_of_getElem? (sdN_get hq))
  exact ⟨e1, e2, e3⟩
theorem Es_at2 {d : Nat → Nat} {n q : Nat} (hq : q < (Es d n).length) : sdN (Es d n) q < 2 ^ n := by
  have := (Es_at hq).2.1
  omega
theorem eC_fam {d : Nat → Nat} {w : Nat} (h : Inv d) (hn : w + 1 ≤ 7) : fam (Es d (w + 1)).length w (eC d (w + 1)) := by
  have hp : 2 ^ (w + 1) = 2 ^ w * 2 := Nat.pow_succ 2 w
  refine ⟨fun q hq => ?_, fun q hq i hi => ?_, fun q r hqr hr => ?_, fun q r hq hr => ?_⟩
  · obtain ⟨e1, e2, -⟩ := Es_at hq
    apply Nat.exists_testBit_of_ne_zero
    unfold eC cmp
    omega
  · have := ((cmp_t (Es_at2 hq)).mp hi).1
    omega
  · obtain ⟨a1, a2, -⟩ := Es_at (Nat.lt_trans hqr hr)
    obtain ⟨b1, b2, -⟩ := Es_at hr
    have h1 : sdN (Es d (w + 1)) q < sdN (Es d (w + 1)) r := (Es_srt d (w + 1)).lt hqr (sdN_get (Nat.lt_trans hqr hr)) (sdN_get hr)
    unfold eC cmp
    omega
  · obtain ⟨a1, a2, a3⟩ := Es_at hq
    obtain ⟨b1, b2, b3⟩ := Es_at hr
    have A2 := Es_at2 hq
    have B2 := Es_at2 hr
    by_cases g1 : eC d (w + 1) q &&& eC d (w + 1) r = eC d (w + 1) q
    · exact Or.inl (sbs_and.mpr g1)
    · by_cases g2 : eC d (w + 1) r &&& eC d (w + 1) q = eC d (w + 1) r
      · exact Or.inr (Or.inl (sbs_and.mpr g2))
      · refine Or.inr (Or.inr (fun s hs => ?_))
        cases hs2 : Nat.testBit (eC d (w + 1) r) s
        · rfl
        · exfalso
          obtain ⟨x, x1, x2⟩ := bit_of_ne g1
          obtain ⟨y, y1, y2⟩ := bit_of_ne g2
          unfold eC at hs hs2 x1 x2 y1 y2
          obtain ⟨s1, s3⟩ := (cmp_t A2).mp hs
          obtain ⟨s2, s4⟩ := (cmp_t B2).mp hs2
          obtain ⟨x3, x4⟩ := (cmp_t A2).mp x1
          obtain ⟨y3, y4⟩ := (cmp_t B2).mp y1
          have x5 : Nat.testBit (sdN (Es d (w + 1)) r) (x + 1) = true := by
            cases c : Nat.testBit (sdN (Es d (w + 1)) r) (x + 1)
            · rw [(cmp_t B2).mpr ⟨x3, c⟩] at x2
              cases x2
            · rfl
          have y5 : Nat.testBit (sdN (Es d (w + 1)) q) (y + 1) = true := by
            cases c : Nat.testBit (sdN (Es d (w + 1)) q) (y + 1)
            · rw [(cmp_t A2).mpr ⟨y3, c⟩] at y2
              cases y2
            · rfl
          exact buneman h hn a3 b3 (p := 0) (q := y + 1) (r := x + 1) (s := s + 1) (by omega) y3 x3 s1 (bit0.mpr a1) (bit0.mpr b1) y5 y4 x4 x5 s3 s4
theorem abv_top {L : EL} {k e : Nat} {P : Nat → Bool} (hP : ∀ q, q < e → (P q = true ↔ q ≠ k ∧ sdN L q &&& sdN L k = sdN L q)) (hc : ∀ q r, q < r → r < e → P q = true → P r = true → sdN L q &&& sdN L r = sdN L q) : ∀ m, m ≤ e → abv L k m = top P m
  | 0, _ => rfl
  | m + 1, hm => by
    have ih := abv_top hP hc m (by omega)
    rw [abv_s, top_s, ih]
    by_cases hp : P m = true
    · rw [if_pos hp, if_pos]
      refine ⟨(hP m (by omega)).mp hp, ?_⟩
      rcases top_spec P m with ⟨h1, -⟩ | ⟨q, h1, h2, h3, -⟩
      · exact Or.inl (by omega)
      · right
        rw [h2, Int.toNat_natCast]
        exact hc q m h1 (by omega) h3 hp
    · rw [if_neg hp, if_neg (fun c => hp ((hP m (by omega)).mpr c.1))]
theorem hom_top {L : EL} {i e : Nat} {P : Nat → Bool} (hP : ∀ q, q < e → (P q = true ↔ Nat.testBit (sdN L q) i = false)) (hc : ∀ q r, q < r → r < e → P q = true → P r = true → sdN L q &&& sdN L r = sdN L q) : ∀ m, m ≤ e → hom L i m = top P m
  | 0, _ => rfl
  | m + 1, hm => by
    have ih := hom_top hP hc m (by omega)
    rw [hom_s, top_s, ih]
    by_cases hp : P m = true
    · rw [if_pos hp, if_pos]
      refine ⟨(hP m (by omega)).mp hp, ?_⟩
      rcases top_spec P m with ⟨h1, -⟩ | ⟨q, h1, h2, h3, -⟩
      · exact Or.inl (by omega)
      · right
        rw [h2, Int.toNat_natCast]
        exact hc q m h1 (by omega) h3 hp
    · rw [if_neg hp, if_neg (fun c => hp ((hP m (by omega)).mpr c.1))]
theorem abv_upv {d : Nat → Nat} {w : Nat} (h : Inv d) (hn : w + 1 ≤ 7) {k : Nat} (hk : k < (Es d (w + 1)).length) : abv (Es d (w + 1)) k (Es d (w + 1)).length = upv (Es d (w + 1)).length (eC d (w + 1)) k := by
  have hf := eC_fam h hn
  refine abv_top (fun q hq => ?_) (fun q r hqr hr h1 h2 => ?_) _ (Nat.le_refl _)
  · rw [up_pred, cmp_sbs (Es_at2 hq) (Es_at2 hk) (Es_at hk).1]
    exact Iff.rfl
  · obtain ⟨i, hi⟩ := hf.1 k hk
    rw [cmp_sbs (Es_at2 (Nat.lt_trans hqr hr)) (Es_at2 hr) (Es_at hr).1]
    exact fam_nest hf hr (Nat.le_of_lt hqr) ((up_pred.mp h1).2 i hi) ((up_pred.mp h2).2 i hi)
theorem hom_hmv {d : Nat → Nat} {w : Nat} (h : Inv d) (hn : w + 1 ≤ 7) {i : Nat} (hi : i < w) : hom (Es d (w + 1)) (i + 1) (Es d (w + 1)).length = hmv (Es d (w + 1)).length (eC d (w + 1)) i := by
  have hf := eC_fam h hn
  refine hom_top (fun q hq => ?_) (fun q r hqr hr h1 h2 => ?_) _ (Nat.le_refl _)
  · unfold eC
    rw [cmp_t (Es_at2 hq)]
    exact ⟨fun c => c.2, fun c => ⟨by omega, c⟩⟩
  · rw [cmp_sbs (Es_at2 (Nat.lt_trans hqr hr)) (Es_at2 hr) (Es_at hr).1]
    exact fam_nest hf hr (Nat.le_of_lt hqr) h1 h2
theorem top_none : ∀ m, top (fun _ => false) m = -1
  | 0 => rfl
  | m + 1 => by
    rw [top_s, if_neg (by decide)]
    exact top_none m
theorem hom_0 (d : Nat → Nat) (n : Nat) : hom (Es d n) 0 (Es d n).length = -1 := by
  rw [hom_top (P := fun _ => false) (e := (Es d n).length) (fun q hq => ?_) (fun q r _ _ h1 _ => by cases h1) _ (Nat.le_refl _)]
  · exact top_none _
  · rw [bit0.mpr (Es_at hq).1]
    constructor <;> intro c <;> cases c
theorem cntI_congr {f g : Nat → Int} (k : Int) : ∀ m, (∀ q, q < m → f q = g q) → cntI f k m = cntI g k m
  | 0, _ => rfl
  | m + 1, h => by rw [cntI_s, cntI_s, cntI_congr k m (fun q hq => h q (by omega)), h m (by omega)]
theorem oL_nodup {α : Type} (p : Nat → Bool) (h : Nat → α) : ∀ m, (∀ s t, s < t → t < m → h (2 * s + 1) ≠ h (2 * t + 1)) → (oL p h m).Nodup
  | 0, _ => List.Pairwise.nil
  | m + 1, hi => by
    rw [oL_s]
    unfold List.Nodup
    rw [List.pairwise_append]
    refine ⟨oL_nodup p h m (fun s t hs ht => hi s t hs (by omega)), ?_, fun x hx y hy => ?_⟩
    · split
      · exact List.pairwise_singleton _ _
      · exact List.Pairwise.nil
    · obtain ⟨t, h1, h2, h3⟩ := (oL_mem _ _ x m).mp hx
      split at hy
      · rw [List.mem_singleton.mp hy, h3]
        exact hi t m h1 (by omega)
      · cases hy
theorem agM_lam {d : Nat → Nat} {w : Nat} (h : Inv d) (hn : w + 1 ≤ 7) {S : Nat} (hS : S % 2 = 1) (hS2 : S < 2 ^ (w + 1)) : agM d (w + 1) S = true ↔ lamx (Es d (w + 1)).length (eC d (w + 1)) (cmp (w + 1) S) := by
  rw [agM_agf h hn hS hS2, agf_iff]
  have key : ∀ q, q < (Es d (w + 1)).length → (agr (w + 1) S (sdN (Es d (w + 1)) q) = true ↔ sbs (eC d (w + 1) q) (cmp (w + 1) S) ∨ sbs (cmp (w + 1) S) (eC d (w + 1) q) ∨ dis (cmp (w + 1) S) (eC d (w + 1) q)) := by
    intro q hq
    unfold agr
    rw [decide_eq_true_iff, cmp_sbs hS2 (Es_at2 hq) (Es_at hq).1, cmp_sbs (Es_at2 hq) hS2 hS, cmp_dis hS2 (Es_at2 hq) hS]
    exact Iff.rfl
  exact ⟨fun g q hq => (key q hq).mp (g q hq), fun g q hq => (key q hq).mpr (g q hq)⟩
/-- the other sides of the splits that agree -/
def agL (d : Nat → Nat) (n : Nat) : List Nat := oL (agM d n) (fun S => cmp n S) (hT n)
theorem agL_nodup (d : Nat → Nat) (w : Nat) : (agL d (w + 1)).Nodup := by
  refine oL_nodup _ _ _ (fun s t hst ht => ?_)
  have hp : 2 ^ (w + 1) = 2 ^ w * 2 := Nat.pow_succ 2 w
  have hhT : hT (w + 1) = (2 ^ (w + 1) - 1) / 2 := rfl
  unfold cmp
  omega
theorem agL_mem {d : Nat → Nat} {w : Nat} (h : Inv d) (hn : w + 1 ≤ 7) (x : Nat) : x ∈ agL d (w + 1) ↔ x ≠ 0 ∧ x < 2 ^ w ∧ lamx (Es d (w + 1)).length (eC d (w + 1)) x := by
  have hp : 2 ^ (w + 1) = 2 ^ w * 2 := Nat.pow_succ 2 w
  have hhT : hT (w + 1) = (2 ^ (w + 1) - 1) / 2 := rfl
  unfold agL
  rw [oL_mem]
  constructor
  · rintro ⟨t, h1, h2, rfl⟩
    have h3 := (agM_lam h hn (S := 2 * t + 1) (by omega) (by omega)).mp h2
    refine ⟨?_, ?_, h3⟩
    · show cmp _ _ ≠ 0
      unfold cmp
      omega
    · show cmp _ _ < _
      unfold cmp
      omega
  · rintro ⟨h1, h2, h3⟩
    have e : cmp (w + 1) (2 * (2 ^ w - 1 - x) + 1) = x := by
      unfold cmp
      omega
    refine ⟨2 ^ w - 1 - x, by omega, (agM_lam h hn (by omega) (by omega)).mpr ?_, e.symm⟩
    rw [e]
    exact h3
theorem prA_eq {d : Nat → Nat} {w : Nat} (h : Inv d) (hn : w + 1 ≤ 7) {k : Int} (hk : -1 ≤ k) : cA (Es d (w + 1)) k (Es d (w + 1)).length = cntI (upv (Es d (w + 1)).length (eC d (w + 1))) k (Es d (w + 1)).length ∧ cH (Es d (w + 1)) k (w + 1) = (if k < 0 then 1 else 0) + cntI (hmv (Es d (w + 1)).length (eC d (w + 1))) k w := by
  refine ⟨cntI_congr k _ (fun q hq => abv_upv h hn hq), ?_⟩
  unfold cH
  rw [cntI_shift, hom_0, cntI_congr k w (fun i hi => hom_hmv h hn hi)]
  congr 1
  by_cases e : k < 0
  · rw [if_pos e, if_pos (by omega)]
  · rw [if_neg e, if_neg (by omega)]
theorem agree_count {d : Nat → Nat} {w : Nat} (h : Inv d) (hn : w + 1 ≤ 7) : ((agL d (w + 1)).length : Int) = agS (Es d (w + 1)) (w + 1) ((Es d (w + 1)).length + 1) := by
  have hf := eC_fam h hn
  have hA := agL_nodup d w
  have hE : ((List.range (Es d (w + 1)).length).map (eC d (w + 1))).Nodup := C_nodup hf List.nodup_range (fun q hq => List.mem_range.mp hq)
  have hEm : ∀ x, x ∈ (List.range (Es d (w + 1)).length).map (eC d (w + 1)) ↔ ∃ q, q < (Es d (w + 1)).length ∧ eC d (w + 1) q = x := by
    intro x
    rw [List.mem_map]
    constructor
    · rintro ⟨q, h1, h2⟩
      exact ⟨q, List.mem_range.mp h1, h2⟩
    · rintro ⟨q, h1, h2⟩
      exact ⟨q, List.mem_range.mpr h1, h2⟩
  have h1 := len_without hA hE (fun x hx => by
    obtain ⟨q, hq, rfl⟩ := (hEm x).mp hx
    refine (agL_mem h hn _).mpr ⟨fam_ne hf hq, Nat.lt_pow_two_of_testBit _ (fun i hi => ?_), lam_C hf hq⟩
    cases hb : Nat.testBit (eC d (w + 1) q) i
    · rfl
    · have := hf.2.1 q hq i hb
      omega)
  rw [List.length_map, List.length_range] at h1
  generalize hN : (agL d (w + 1)).filter (fun x => !decide (x ∈ (List.range (Es d (w + 1)).length).map (eC d (w + 1)))) = N at h1
  have hNd : N.Nodup := by
    rw [← hN]
    exact List.Pairwise.filter _ hA
  have hNm : ∀ x, x ∈ N ↔ x ≠ 0 ∧ x < 2 ^ w ∧ lamx (Es d (w + 1)).length (eC d (w + 1)) x ∧ ∀ q, q < (Es d (w + 1)).length → x ≠ eC d (w + 1) q := by
    intro x
    rw [← hN, List.mem_filter, agL_mem h hn, Bool.not_eq_true', decide_eq_false_iff_not, hEm]
    constructor
    · rintro ⟨⟨g1, g2, g3⟩, g4⟩
      exact ⟨g1, g2, g3, fun q hq e => g4 ⟨q, hq, e.symm⟩⟩
    · rintro ⟨g1, g2, g3, g4⟩
      exact ⟨⟨g1, g2, g3⟩, fun ⟨q, hq, e⟩ => g4 q hq e.symm⟩
  have h2 := part_len (fun x => (vtv (Es d (w + 1)).length (eC d (w + 1)) x + 1).toNat) ((Es d (w + 1)).length + 1) N (fun x _ => by
    have := top_bd (fun q => sbB x (eC d (w + 1) q)) (Es d (w + 1)).length
    show (top (fun q => sbB x (eC d (w + 1) q)) (Es d (w + 1)).length + 1).toNat < _
    omega)
  have key : ∀ t, t ≤ (Es d (w + 1)).length + 1 → agS (Es d (w + 1)) (w + 1) t = ((Es d (w + 1)).length : Int) + (sumN (fun t => (N.filter (fun x => decide ((vtv (Es d (w + 1)).length (eC d (w + 1)) x + 1).toNat = t))).length) t : Nat) := by
    intro t
    induction t with
    | zero =>
      intro _
      show ((Es d (w + 1)).length : Int) = _ + ((0 : Nat) : Int)
      omega
    | succ t ih =>
      intro ht
      have hc := vtx_count hf hNd hNm (t := t) (by omega) (k := (t : Int) - 1) rfl
      obtain ⟨p1, p2⟩ := prA_eq h hn (k := (t : Int) - 1) (by omega)
      have hpr : prA (Es d (w + 1)) (w + 1) ((t : Int) - 1) = cntI (upv (Es d (w + 1)).length (eC d (w + 1))) ((t : Int) - 1) (Es d (w + 1)).length + cntI (hmv (Es d (w + 1)).length (eC d (w + 1))) ((t : Int) - 1) w + 1 := by
        unfold prA
        rw [p1, p2]
        split <;> omega
      rw [agS_s, sumN_s, ih (by omega)]
      unfold aloA
      rw [hpr, p2]
      generalize cntI (upv (Es d (w + 1)).length (eC d (w + 1))) ((t : Int) - 1) (Es d (w + 1)).length = a at *
      generalize cntI (hmv (Es d (w + 1)).length (eC d (w + 1))) ((t : Int) - 1) w = b at *
      generalize (N.filter (fun x => decide ((vtv (Es d (w + 1)).length (eC d (w + 1)) x + 1).toNat = t))).length = g at *
      have hone : a + b = 1 → 2 ^ (a + b) = 2 := fun e => by rw [e]
      have hzero : a + b = 0 → 2 ^ (a + b) = 1 := fun e => by rw [e]
      rw [show a + b + 1 - 1 = a + b from by omega]
      generalize 2 ^ (a + b) = pw2 at *
      by_cases hk : (t : Int) - 1 < 0
      · rw [if_pos hk] at *
        split
        · split <;> omega
        · omega
      · rw [if_neg hk] at *
        split
        · split <;> omega
        · omega
  rw [key _ (Nat.le_refl _), ← h2]
  omega
theorem f_agreeing {d : Nat → Nat} {n : Nat} (h : Inv d) (hn : n ≤ 7) : nI (cT (agM d n) (hT n)) = iI (agS (Es d n) n ((Es d n).length + 1)) := by
  cases n with
  | zero => rfl
  | succ w =>
    rw [← agree_count h hn, iI_n]
    unfold agL
    rw [oL_len]
end
section
set_option maxRecDepth 100000
set_option maxHeartbeats 4000000 in
theorem cX_get (l : Launch) (D : va_G) (h : Nat → Nat) (ca : Nat → ClassId) (cnt kn fnd fr : Int32) (d : Nat → Nat) (sd ix fs fi kp : Nat → Int32) (i j : Nat) (hi : i < 7) (hj : j < 7) : sx_Cr l yX0_get cX0_get 3 .int rmX_get D (tyX ca) [.ref (h 0), .int (nI i), .int (nI j)] (pX h ca cnt kn fnd fr (nF d) sd ix fs fi kp) (nI (d (7 * i + j))) := by
  refine sx_enter_i (own := RX0) (by decide) rfl (Nat.le_of_ble_eq_true rfl) (lv := [(0, .ref (h 0)), (1, .int (nI i)), (2, .int (nI j))]) rfl ?_
  intro G E ret
  refine sx_aload_n E dX0_get_0 rfl 0 rfl ?_
  refine sx_gX E rfl 1 (by decide) q40 rfl dX0_get_1 ?_
  refine sx_bipush (v := (nI 7)) E dX0_get_4 (by decide) ?_
  refine sx_iload_n E dX0_get_6 rfl 1 rfl ?_
  refine sx_imulNN E dX0_get_7 ?_
  refine sx_iload_n E dX0_get_8 rfl 2 rfl ?_
  refine sx_iaddNN E dX0_get_9 ?_
  refine sx_bald E 1 0 rfl rfl (by omega) (by decide) (v := (nI (d ((7 * i) + j)))) (rfl) dX0_get_10 ?_
  exact ret _ _ _ () dX0_get_11 (rfl) (rfl)

set_option maxHeartbeats 4000000 in
theorem cX_missing (l : Launch) (D : va_G) (h : Nat → Nat) (ca : Nat → ClassId) (n : Nat) (kn fnd fr : Int32) (d : Nat → Nat) (sd ix fs fi kp : Nat → Int32) (hn : n ≤ 7) (z : Int) (hz : -2147483648 ≤ z ∧ z < 2147483648) : sx_Cr l yX0_missing cX0_missing 2 .boolean rmX_missing D (tyX ca) [.ref (h 0), .int (iI z)] (pX h ca (nI n) kn fnd fr (nF d) sd ix fs fi kp) (bI (miss n z)) := by
  refine sx_enter_i (own := RX0) (by decide) rfl (Nat.le_of_ble_eq_true rfl) (lv := [(0, .ref (h 0)), (1, .int (iI z))]) rfl ?_
  intro G E ret
  refine sx_iload_n E dX0_missing_0 rfl 1 rfl ?_
  refine sx_if_ltI E 12 dX0_missing_1 (by decide) (by omega) (fun c1 => ?_) (fun c1 => ?_)
  · refine sx_iconst (v := (nI 1)) E dX0_missing_12 (by decide) ?_
    refine sx_goto E 17 dX0_missing_13 (by decide) ?_
    exact ret _ _ _ () dX0_missing_17 (rfl) (miss_1 (by omega))
  · refine sx_iload_n E dX0_missing_4 rfl 1 rfl ?_
    refine sx_aload_n E dX0_missing_5 rfl 0 rfl ?_
    refine sx_gX E rfl 0 (by decide) q39 rfl dX0_missing_6 ?_
    refine sx_top (iI_n _) ?_
    refine sx_icmp_ltI E 16 dX0_missing_9 (by decide) (by omega) (by omega) (fun c9 => ?_) (fun c9 => ?_)
    · refine sx_iconst (v := (nI 0)) E dX0_missing_16 (by decide) ?_
      exact ret _ _ _ () dX0_missing_17 (rfl) (miss_0 (by omega))
    · refine sx_iconst (v := (nI 1)) E dX0_missing_12 (by decide) ?_
      refine sx_goto E 17 dX0_missing_13 (by decide) ?_
      exact ret _ _ _ () dX0_missing_17 (rfl) (miss_1 (by omega))

set_option maxHeartbeats 4000000 in
theorem cX_put (l : Launch) (D : va_G) (h : Nat → Nat) (ca : Nat → ClassId) (cnt kn fnd fr : Int32) (d : Nat → Nat) (sd ix fs fi kp : Nat → Int32) (i j v : Nat) (hi : i < 7) (hj : j < 7) (hv : v < 128) : sx_Cv l yX0_put cX0_put 4 rmX_put D (tyX ca) [.ref (h 0), .int (nI i), .int (nI j), .int (nI v)] (pX h ca cnt kn fnd fr (nF d) sd ix fs fi kp) (S := Unit) (fun _ => (pX h ca cnt (nI 0) fnd fr (nF (putD d i j v)) sd ix fs fi kp)) (fun _ => True) := by
  refine sx_enter_v (own := RX0) (by decide) rfl (Nat.le_of_ble_eq_true rfl) (lv := [(0, .ref (h 0)), (1, .int (nI i)), (2, .int (nI j)), (3, .int (nI v))]) rfl ?_
  intro G E ret
  refine sx_aload_n E dX0_put_0 rfl 0 rfl ?_
  refine sx_gX E rfl 1 (by decide) q40 rfl dX0_put_1 ?_
  refine sx_bipush (v := (nI 7)) E dX0_put_4 (by decide) ?_
  refine sx_iload_n E dX0_put_6 rfl 1 rfl ?_
  refine sx_imulNN E dX0_put_7 ?_
  refine sx_iload_n E dX0_put_8 rfl 2 rfl ?_
  refine sx_iaddNN E dX0_put_9 ?_
  refine sx_iload_n E dX0_put_10 rfl 3 rfl ?_
  refine sx_i2bN E dX0_put_11 (by omega) ?_
  refine sx_bast E 1 0 rfl rfl (by omega) (by decide) (f' := nF (up_d d ((7 * i) + j) v)) (upd_nFb _ _ (by omega)) dX0_put_12 (ws' := (pX h ca cnt kn fnd fr (nF (up_d d ((7 * i) + j) v)) sd ix fs fi kp)) rfl ?_
  refine sx_aload_n E dX0_put_13 rfl 0 rfl ?_
  refine sx_gX E rfl 1 (by decide) q40 rfl dX0_put_14 ?_
  refine sx_bipush (v := (nI 7)) E dX0_put_17 (by decide) ?_
  refine sx_iload_n E dX0_put_19 rfl 2 rfl ?_
  refine sx_imulNN E dX0_put_20 ?_
  refine sx_iload_n E dX0_put_21 rfl 1 rfl ?_
  refine sx_iaddNN E dX0_put_22 ?_
  refine sx_iload_n E dX0_put_23 rfl 3 rfl ?_
  refine sx_i2bN E dX0_put_24 (by omega) ?_
  refine sx_bast E 1 0 rfl rfl (by omega) (by decide) (f' := nF (up_d ((up_d d ((7 * i) + j) v)) ((7 * j) + i) v)) (upd_nFb _ _ (by omega)) dX0_put_25 (ws' := (pX h ca cnt kn fnd fr (nF (up_d ((up_d d ((7 * i) + j) v)) ((7 * j) + i) v)) sd ix fs fi kp)) rfl ?_
  refine sx_aload_n E dX0_put_26 rfl 0 rfl ?_
  refine sx_iconst (v := (nI 0)) E dX0_put_27 (by decide) ?_
  refine sx_pX E rfl 2 (by decide) q41 rfl (by decide) (by decide) (Nat.le_of_ble_eq_true rfl) dX0_put_28 (ws' := (pX h ca cnt (nI 0) fnd fr (nF (up_d ((up_d d ((7 * i) + j) v)) ((7 * j) + i) v)) sd ix fs fi kp)) rfl ?_
  exact ret _ _ () dX0_put_31 (trivial)

set_option maxHeartbeats 4000000 in
theorem cX_point (l : Launch) (D : va_G) (h : Nat → Nat) (ca : Nat → ClassId) (n : Nat) (kn fnd fr : Int32) (d : Nat → Nat) (sd ix fs fi kp : Nat → Int32) (hn : n ≤ 7) (z : Int) (hz : -2147483648 ≤ z ∧ z < 2147483648) : sx_Ci l yX0_point cX0_point 3 .int rmX_point D (tyX ca) [.ref (h 0), .int (iI z)] (pX h ca (nI n) kn fnd fr (nF d) sd ix fs fi kp) (S := Int32 × Nat × (Nat → Nat)) (fun u => pX h ca (nI u.2.1) u.1 fnd fr (nF u.2.2) sd ix fs fi kp) (fun r u => r = (spPoint n d z).1 ∧ u.2 = (spPoint n d z).2 ∧ (u.1 = nI 0 ∨ u = (kn, n, d))) := by
  refine sx_enter_i (own := RX0) (by decide) rfl (Nat.le_of_ble_eq_true rfl) (lv := [(0, .ref (h 0)), (1, .int (iI z))]) rfl ?_
  intro G E ret
  refine sx_iload_n E dX0_point_0 rfl 1 rfl ?_
  refine sx_if_ltI E 10 dX0_point_1 (by decide) (by omega) (fun c1 => ?_) (fun c1 => ?_)
  · refine sx_sipush (v := (iI ((-1000)))) E dX0_point_10 (by decide) ?_
    exact ret _ _ _ (kn, n, d) dX0_point_13 (rfl) (⟨by unfold spPoint; rw [if_pos (by omega)], by unfold spPoint; rw [if_pos (by omega)], Or.inr rfl⟩)
  · refine sx_iload_n E dX0_point_4 rfl 1 rfl ?_
    refine sx_bipush (v := (iI 60)) E dX0_point_5 (by decide) ?_
    refine sx_icmp_leI E 14 dX0_point_7 (by decide) (by omega) (by omega) (fun c7 => ?_) (fun c7 => ?_)
    · obtain ⟨v, rfl⟩ : ∃ v : Nat, z = (v : Int) := ⟨z.toNat, by omega⟩
      refine sx_lve (lv' := [(0, .ref (h 0)), (1, .int (nI v))]) (by rw [iI_n v]) ?_
      refine sx_aload_n E dX0_point_14 rfl 0 rfl ?_
      refine sx_gX E rfl 0 (by decide) q39 rfl dX0_point_15 ?_
      refine sx_bipush (v := (nI 7)) E dX0_point_18 (by decide) ?_
      refine sx_icmp_neN E 27 dX0_point_20 (by decide) (by omega) (by omega) (fun c20 => ?_) (fun c20 => ?_)
      · refine sx_aload_n E dX0_point_27 rfl 0 rfl ?_
        refine sx_gX E rfl 1 (by decide) q40 rfl dX0_point_28 ?_
        refine sx_bipush (v := (nI 8)) E dX0_point_31 (by decide) ?_
        refine sx_aload_n E dX0_point_33 rfl 0 rfl ?_
        refine sx_gX E rfl 0 (by decide) q39 rfl dX0_point_34 ?_
        refine sx_imulNN E dX0_point_37 ?_
        refine sx_iconst (v := (nI 0)) E dX0_point_38 (by decide) ?_
        refine sx_bast E 1 0 rfl rfl (by omega) (by decide) (f' := nF (up_d d (8 * n) 0)) (upd_nFb _ _ (by omega)) dX0_point_39 (ws' := (pX h ca (nI n) kn fnd fr (nF (up_d d (8 * n) 0)) sd ix fs fi kp)) rfl ?_
        refine sx_iconst (v := (nI 0)) E dX0_point_40 (by decide) ?_
        refine sx_istore_n E dX0_point_41 rfl (by decide) (lv' := [(0, .ref (h 0)), (1, .int (nI v)), (2, .int (nI 0))]) [1, 2, 0] rfl ?_
        have L42 : ∀ (f_ : Nat) (i : Nat) (kq : Int32), (i ≤ n) → n - i < f_ → sx_S G (pX h ca (nI n) kq fnd fr (nF (ptD d n v i)) sd ix fs fi kp) 42 [(0, .ref (h 0)), (1, .int (nI v)), (2, .int (nI i))] [] := by
          intro f_
          induction f_ with
          | zero => intro i kq hi hm_; exact absurd hm_ (Nat.not_lt_zero _)
          | succ f_ ih42 =>
            intro i kq hi hm_
            refine sx_iload_n E dX0_point_42 rfl 2 rfl ?_
            refine sx_aload_n E dX0_point_43 rfl 0 rfl ?_
            refine sx_gX E rfl 0 (by decide) q39 rfl dX0_point_44 ?_
            refine sx_icmp_geN E 66 dX0_point_47 (by decide) (by omega) (by omega) (fun c47 => ?_) (fun c47 => ?_)
            · obtain rfl : n = i := by omega
              refine sx_aload_n E dX0_point_66 rfl 0 rfl ?_
              refine sx_dup E dX0_point_67 rfl ?_
              refine sx_gX E rfl 0 (by decide) q39 rfl dX0_point_68 ?_
              refine sx_iconst (v := (nI 1)) E dX0_point_71 (by decide) ?_
              refine sx_iaddNN E dX0_point_72 ?_
              refine sx_pX E rfl 0 (by decide) q39 rfl rfl rfl (Nat.le_of_ble_eq_true rfl) dX0_point_73 (ws' := (pX h ca (nI (n + 1)) kq fnd fr (nF (ptD d n v n)) sd ix fs fi kp)) rfl ?_
              refine sx_aload_n E dX0_point_76 rfl 0 rfl ?_
              refine sx_iconst (v := (nI 0)) E dX0_point_77 (by decide) ?_
              refine sx_pX E rfl 2 (by decide) q41 rfl (by decide) (by decide) (Nat.le_of_ble_eq_true rfl) dX0_point_78 (ws' := (pX h ca (nI (n + 1)) (nI 0) fnd fr (nF (ptD d n v n)) sd ix fs fi kp)) rfl ?_
              refine sx_aload_n E dX0_point_81 rfl 0 rfl ?_
              refine sx_gX E rfl 0 (by decide) q39 rfl dX0_point_82 ?_
              refine sx_iconst (v := (nI 1)) E dX0_point_85 (by decide) ?_
              refine sx_isubNM E dX0_point_86 (by omega) ?_
              exact ret _ _ _ (nI 0, n + 1, ptD d n v n) dX0_point_87 (rfl) (⟨by unfold spPoint; rw [if_neg (by omega), if_neg c20]; rfl, by unfold spPoint; rw [if_neg (by omega), if_neg c20]; rfl, Or.inl rfl⟩)
            · refine sx_aload_n E dX0_point_50 rfl 0 rfl ?_
              refine sx_iload_n E dX0_point_51 rfl 2 rfl ?_
              refine sx_aload_n E dX0_point_52 rfl 0 rfl ?_
              refine sx_gX E rfl 0 (by decide) q39 rfl dX0_point_53 ?_
              refine sx_iload_n E dX0_point_56 rfl 1 rfl ?_
              refine sx_callv (rest := []) E (cX_put l D h ca _ _ _ _ ((ptD d n v i)) _ _ _ _ _ i n v (by omega) (by omega) (by omega)) wX_put kX_put ⟨⟨rfl, rfl⟩, by decide, by decide⟩ rfl rfl rfl (Nat.le_of_ble_eq_true rfl) dX0_point_57 (fun u57 hp57 => ?_)
              refine sx_iinc E dX0_point_60 2 rfl (v := (nI (i + 1))) (inc1 _) (by decide) (lv' := [(0, .ref (h 0)), (1, .int (nI v)), (2, .int (nI (i + 1)))]) [1, 2, 0] rfl ?_
              refine sx_goto E 42 dX0_point_63 (by decide) ?_
              exact ih42 (i + 1) (nI 0) (by omega) (by omega)
        exact L42 _ 0 kn (Nat.zero_le _) (Nat.lt_succ_self _)
      · refine sx_sipush (v := (iI ((-1001)))) E dX0_point_23 (by decide) ?_
        exact ret _ _ _ (kn, n, d) dX0_point_26 (rfl) (⟨by unfold spPoint; rw [if_neg (by omega), if_pos c20], by unfold spPoint; rw [if_neg (by omega), if_pos c20], Or.inr rfl⟩)
    · refine sx_sipush (v := (iI ((-1000)))) E dX0_point_10 (by decide) ?_
      exact ret _ _ _ (kn, n, d) dX0_point_13 (rfl) (⟨by unfold spPoint; rw [if_pos (by omega)], by unfold spPoint; rw [if_pos (by omega)], Or.inr rfl⟩)

set_option maxHeartbeats 4000000 in
theorem cX_drop (l : Launch) (D : va_G) (h : Nat → Nat) (ca : Nat → ClassId) (n : Nat) (kn fnd fr : Int32) (d : Nat → Nat) (sd ix fs fi kp : Nat → Int32) (hn : n ≤ 7) : sx_Ci l yX0_drop cX0_drop 1 .int rmX_drop D (tyX ca) [.ref (h 0)] (pX h ca (nI n) kn fnd fr (nF d) sd ix fs fi kp) (S := Int32 × Nat × (Nat → Nat)) (fun u => pX h ca (nI u.2.1) u.1 fnd fr (nF u.2.2) sd ix fs fi kp) (fun r u => r = (spDrop n d).1 ∧ u.2 = (spDrop n d).2 ∧ (u.1 = nI 0 ∨ u = (kn, n, d))) := by
  refine sx_enter_i (own := RX0) (by decide) rfl (Nat.le_of_ble_eq_true rfl) (lv := [(0, .ref (h 0))]) rfl ?_
  intro G E ret
  refine sx_aload_n E dX0_drop_0 rfl 0 rfl ?_
  refine sx_gX E rfl 0 (by decide) q39 rfl dX0_drop_1 ?_
  refine sx_top (iI_n _) ?_
  refine sx_if_neI E 11 dX0_drop_4 (by decide) (by omega) (fun c4 => ?_) (fun c4 => ?_)
  · refine sx_aload_n E dX0_drop_11 rfl 0 rfl ?_
    refine sx_dup E dX0_drop_12 rfl ?_
    refine sx_gX E rfl 0 (by decide) q39 rfl dX0_drop_13 ?_
    refine sx_iconst (v := (nI 1)) E dX0_drop_16 (by decide) ?_
    refine sx_isubNM E dX0_drop_17 (by omega) ?_
    refine sx_pX E rfl 0 (by decide) q39 rfl rfl rfl (Nat.le_of_ble_eq_true rfl) dX0_drop_18 (ws' := (pX h ca (nI (n - 1)) kn fnd fr (nF d) sd ix fs fi kp)) rfl ?_
    refine sx_aload_n E dX0_drop_21 rfl 0 rfl ?_
    refine sx_iconst (v := (nI 0)) E dX0_drop_22 (by decide) ?_
    refine sx_pX E rfl 2 (by decide) q41 rfl (by decide) (by decide) (Nat.le_of_ble_eq_true rfl) dX0_drop_23 (ws' := (pX h ca (nI (n - 1)) (nI 0) fnd fr (nF d) sd ix fs fi kp)) rfl ?_
    refine sx_aload_n E dX0_drop_26 rfl 0 rfl ?_
    refine sx_gX E rfl 0 (by decide) q39 rfl dX0_drop_27 ?_
    exact ret _ _ _ (nI 0, n - 1, d) dX0_drop_30 (rfl) (⟨by unfold spDrop; rw [if_neg (by omega)], by unfold spDrop; rw [if_neg (by omega)], Or.inl rfl⟩)
  · refine sx_sipush (v := (iI ((-1002)))) E dX0_drop_7 (by decide) ?_
    exact ret _ _ _ (kn, n, d) dX0_drop_10 (rfl) (⟨by unfold spDrop; rw [if_pos (by omega)], by unfold spDrop; rw [if_pos (by omega)], Or.inr rfl⟩)

set_option maxHeartbeats 4000000 in
theorem cX_set (l : Launch) (D : va_G) (h : Nat → Nat) (ca : Nat → ClassId) (n : Nat) (kn fnd fr : Int32) (d : Nat → Nat) (sd ix fs fi kp : Nat → Int32) (hn : n ≤ 7) (x y z : Int) (hx : -2147483648 ≤ x ∧ x < 2147483648) (hy : -2147483648 ≤ y ∧ y < 2147483648) (hz : -2147483648 ≤ z ∧ z < 2147483648) : sx_Ci l yX0_set cX0_set 5 .int rmX_set D (tyX ca) [.ref (h 0), .int (iI x), .int (iI y), .int (iI z)] (pX h ca (nI n) kn fnd fr (nF d) sd ix fs fi kp) (S := Int32 × Nat × (Nat → Nat)) (fun u => pX h ca (nI u.2.1) u.1 fnd fr (nF u.2.2) sd ix fs fi kp) (fun r u => r = (spSet n d x y z).1 ∧ u.2 = (spSet n d x y z).2 ∧ (u.1 = nI 0 ∨ u = (kn, n, d))) := by
  refine sx_enter_i (own := RX0) (by decide) rfl (Nat.le_of_ble_eq_true rfl) (lv := [(0, .ref (h 0)), (1, .int (iI x)), (2, .int (iI y)), (3, .int (iI z))]) rfl ?_
  intro G E ret
  refine sx_aload_n E dX0_set_0 rfl 0 rfl ?_
  refine sx_iload_n E dX0_set_1 rfl 1 rfl ?_
  refine sx_callr (rest := []) E (cX_missing l D h ca _ _ _ _ d _ _ _ _ _ hn x (by omega)) wX_missing kX_missing ⟨⟨rfl, rfl⟩, by decide, by decide⟩ rfl rfl rfl (Nat.le_of_ble_eq_true rfl) dX0_set_2 ?_
  refine sx_if_neB E 31 dX0_set_5 (by decide) (fun c5 => ?_) (fun c5 => ?_)
  · have c5 := miss_t c5
    refine sx_sipush (v := (iI ((-1000)))) E dX0_set_31 (by decide) ?_
    exact ret _ _ _ (kn, n, d) dX0_set_34 (rfl) (⟨by unfold spSet; rw [if_pos (by omega)], by unfold spSet; rw [if_pos (by omega)], Or.inr rfl⟩)
  · have c5 := miss_f c5
    refine sx_aload_n E dX0_set_8 rfl 0 rfl ?_
    refine sx_iload_n E dX0_set_9 rfl 2 rfl ?_
    refine sx_callr (rest := []) E (cX_missing l D h ca _ _ _ _ d _ _ _ _ _ hn y (by omega)) wX_missing kX_missing ⟨⟨rfl, rfl⟩, by decide, by decide⟩ rfl rfl rfl (Nat.le_of_ble_eq_true rfl) dX0_set_10 ?_
    refine sx_if_neB E 31 dX0_set_13 (by decide) (fun c13 => ?_) (fun c13 => ?_)
    · have c13 := miss_t c13
      refine sx_sipush (v := (iI ((-1000)))) E dX0_set_31 (by decide) ?_
      exact ret _ _ _ (kn, n, d) dX0_set_34 (rfl) (⟨by unfold spSet; rw [if_pos (by omega)], by unfold spSet; rw [if_pos (by omega)], Or.inr rfl⟩)
    · have c13 := miss_f c13
      refine sx_iload_n E dX0_set_16 rfl 1 rfl ?_
      refine sx_iload_n E dX0_set_17 rfl 2 rfl ?_
      refine sx_icmp_eqI E 31 dX0_set_18 (by decide) (by omega) (by omega) (fun c18 => ?_) (fun c18 => ?_)
      · refine sx_sipush (v := (iI ((-1000)))) E dX0_set_31 (by decide) ?_
        exact ret _ _ _ (kn, n, d) dX0_set_34 (rfl) (⟨by unfold spSet; rw [if_pos (by omega)], by unfold spSet; rw [if_pos (by omega)], Or.inr rfl⟩)
      · refine sx_iload_n E dX0_set_21 rfl 3 rfl ?_
        refine sx_if_ltI E 31 dX0_set_22 (by decide) (by omega) (fun c22 => ?_) (fun c22 => ?_)
        · refine sx_sipush (v := (iI ((-1000)))) E dX0_set_31 (by decide) ?_
          exact ret _ _ _ (kn, n, d) dX0_set_34 (rfl) (⟨by unfold spSet; rw [if_pos (by omega)], by unfold spSet; rw [if_pos (by omega)], Or.inr rfl⟩)
        · refine sx_iload_n E dX0_set_25 rfl 3 rfl ?_
          refine sx_bipush (v := (iI 60)) E dX0_set_26 (by decide) ?_
          refine sx_icmp_leI E 35 dX0_set_28 (by decide) (by omega) (by omega) (fun c28 => ?_) (fun c28 => ?_)
          · obtain ⟨i, rfl⟩ : ∃ i : Nat, x = (i : Int) := ⟨x.toNat, by omega⟩
            obtain ⟨j, rfl⟩ : ∃ j : Nat, y = (j : Int) := ⟨y.toNat, by omega⟩
            obtain ⟨v, rfl⟩ : ∃ v : Nat, z = (v : Int) := ⟨z.toNat, by omega⟩
            refine sx_lve (lv' := [(0, .ref (h 0)), (1, .int (nI i)), (2, .int (nI j)), (3, .int (nI v))]) (by rw [iI_n i, iI_n j, iI_n v]) ?_
            refine sx_aload_n E dX0_set_35 rfl 0 rfl ?_
            refine sx_iload_n E dX0_set_36 rfl 1 rfl ?_
            refine sx_iload_n E dX0_set_37 rfl 2 rfl ?_
            refine sx_callr (rest := []) E (cX_get l D h ca _ _ _ _ d _ _ _ _ _ i j (by omega) (by omega)) wX_get kX_get ⟨⟨rfl, rfl⟩, by decide, by decide⟩ rfl rfl rfl (Nat.le_of_ble_eq_true rfl) dX0_set_38 ?_
            refine sx_istore E dX0_set_41 (by decide) (lv' := [(0, .ref (h 0)), (1, .int (nI i)), (2, .int (nI j)), (3, .int (nI v)), (4, .int (nI (d (7 * i + j))))]) [1, 2, 3, 4, 0] rfl ?_
            refine sx_aload_n E dX0_set_43 rfl 0 rfl ?_
            refine sx_iload_n E dX0_set_44 rfl 1 rfl ?_
            refine sx_iload_n E dX0_set_45 rfl 2 rfl ?_
            refine sx_iload_n E dX0_set_46 rfl 3 rfl ?_
            refine sx_callv (rest := []) E (cX_put l D h ca _ _ _ _ d _ _ _ _ _ i j v (by omega) (by omega) (by omega)) wX_put kX_put ⟨⟨rfl, rfl⟩, by decide, by decide⟩ rfl rfl rfl (Nat.le_of_ble_eq_true rfl) dX0_set_47 (fun u47 hp47 => ?_)
            refine sx_iload E dX0_set_50 4 rfl ?_
            exact ret _ _ _ (nI 0, n, putD d i j v) dX0_set_52 (rfl) (⟨by unfold spSet; rw [if_neg (by omega)]; simp, by unfold spSet; rw [if_neg (by omega)]; simp, Or.inl rfl⟩)
          · refine sx_sipush (v := (iI ((-1000)))) E dX0_set_31 (by decide) ?_
            exact ret _ _ _ (kn, n, d) dX0_set_34 (rfl) (⟨by unfold spSet; rw [if_pos (by omega)], by unfold spSet; rw [if_pos (by omega)], Or.inr rfl⟩)

set_option maxHeartbeats 4000000 in
theorem cX_points (l : Launch) (D : va_G) (h : Nat → Nat) (ca : Nat → ClassId) (n : Nat) (kn fnd fr : Int32) (d : Nat → Nat) (sd ix fs fi kp : Nat → Int32) : sx_Cr l yX0_points cX0_points 1 .int rmX_points D (tyX ca) [.ref (h 0)] (pX h ca (nI n) kn fnd fr (nF d) sd ix fs fi kp) (nI n) := by
  refine sx_enter_i (own := RX0) (by decide) rfl (Nat.le_of_ble_eq_true rfl) (lv := [(0, .ref (h 0))]) rfl ?_
  intro G E ret
  refine sx_aload_n E dX0_points_0 rfl 0 rfl ?_
  refine sx_gX E rfl 0 (by decide) q39 rfl dX0_points_1 ?_
  exact ret _ _ _ () dX0_points_4 (rfl) (rfl)

set_option maxHeartbeats 4000000 in
theorem cX_distance (l : Launch) (D : va_G) (h : Nat → Nat) (ca : Nat → ClassId) (n : Nat) (kn fnd fr : Int32) (d : Nat → Nat) (sd ix fs fi kp : Nat → Int32) (hn : n ≤ 7) (x y : Int) (hx : -2147483648 ≤ x ∧ x < 2147483648) (hy : -2147483648 ≤ y ∧ y < 2147483648) : sx_Cr l yX0_distance cX0_distance 3 .int rmX_distance D (tyX ca) [.ref (h 0), .int (iI x), .int (iI y)] (pX h ca (nI n) kn fnd fr (nF d) sd ix fs fi kp) (spDist n d x y) := by
  refine sx_enter_i (own := RX0) (by decide) rfl (Nat.le_of_ble_eq_true rfl) (lv := [(0, .ref (h 0)), (1, .int (iI x)), (2, .int (iI y))]) rfl ?_
  intro G E ret
  refine sx_aload_n E dX0_distance_0 rfl 0 rfl ?_
  refine sx_iload_n E dX0_distance_1 rfl 1 rfl ?_
  refine sx_callr (rest := []) E (cX_missing l D h ca _ _ _ _ d _ _ _ _ _ hn x (by omega)) wX_missing kX_missing ⟨⟨rfl, rfl⟩, by decide, by decide⟩ rfl rfl rfl (Nat.le_of_ble_eq_true rfl) dX0_distance_2 ?_
  refine sx_if_neB E 16 dX0_distance_5 (by decide) (fun c5 => ?_) (fun c5 => ?_)
  · have c5 := miss_t c5
    refine sx_sipush (v := (iI ((-1000)))) E dX0_distance_16 (by decide) ?_
    refine sx_goto E 28 dX0_distance_19 (by decide) ?_
    exact ret _ _ _ () dX0_distance_28 (rfl) (by unfold spDist; rw [if_pos (by omega)])
  · have c5 := miss_f c5
    refine sx_aload_n E dX0_distance_8 rfl 0 rfl ?_
    refine sx_iload_n E dX0_distance_9 rfl 2 rfl ?_
    refine sx_callr (rest := []) E (cX_missing l D h ca _ _ _ _ d _ _ _ _ _ hn y (by omega)) wX_missing kX_missing ⟨⟨rfl, rfl⟩, by decide, by decide⟩ rfl rfl rfl (Nat.le_of_ble_eq_true rfl) dX0_distance_10 ?_
    refine sx_if_eqB E 22 dX0_distance_13 (by decide) (fun c13 => ?_) (fun c13 => ?_)
    · have c13 := miss_f c13
      obtain ⟨i, rfl⟩ : ∃ i : Nat, x = (i : Int) := ⟨x.toNat, by omega⟩
      obtain ⟨j, rfl⟩ : ∃ j : Nat, y = (j : Int) := ⟨y.toNat, by omega⟩
      refine sx_lve (lv' := [(0, .ref (h 0)), (1, .int (nI i)), (2, .int (nI j))]) (by rw [iI_n i, iI_n j]) ?_
      refine sx_aload_n E dX0_distance_22 rfl 0 rfl ?_
      refine sx_iload_n E dX0_distance_23 rfl 1 rfl ?_
      refine sx_iload_n E dX0_distance_24 rfl 2 rfl ?_
      refine sx_callr (rest := []) E (cX_get l D h ca _ _ _ _ d _ _ _ _ _ i j (by omega) (by omega)) wX_get kX_get ⟨⟨rfl, rfl⟩, by decide, by decide⟩ rfl rfl rfl (Nat.le_of_ble_eq_true rfl) dX0_distance_25 ?_
      exact ret _ _ _ () dX0_distance_28 (rfl) (by unfold spDist; rw [if_neg (by omega)]; simp)
    · have c13 := miss_t c13
      refine sx_sipush (v := (iI ((-1000)))) E dX0_distance_16 (by decide) ?_
      refine sx_goto E 28 dX0_distance_19 (by decide) ?_
      exact ret _ _ _ () dX0_distance_28 (rfl) (by unfold spDist; rw [if_pos (by omega)])

set_option maxHeartbeats 4000000 in
theorem cX_move (l : Launch) (D : va_G) (h : Nat → Nat) (ca : Nat → ClassId) (n : Nat) (kn fnd fr : Int32) (d : Nat → Nat) (sd ix fs fi kp : Nat → Int32) (hn : n ≤ 7) (hd : ∀ k, d k ≤ 60) (x : Int32) (z : Int) (hz : -2147483648 ≤ z ∧ z < 2147483648) : sx_Ci l yX0_move cX0_move 8 .int rmX_move D (tyX ca) [.ref (h 0), .int x, .int (iI z)] (pX h ca (nI n) kn fnd fr (nF d) sd ix fs fi kp) (S := Int32 × Nat × (Nat → Nat)) (fun u => pX h ca (nI u.2.1) u.1 fnd fr (nF u.2.2) sd ix fs fi kp) (fun r u => r = (spMove n d x z).1 ∧ u.2 = (spMove n d x z).2 ∧ (u.1 = nI 0 ∨ u = (kn, n, d))) := by
  refine sx_enter_i (own := RX0) (by decide) rfl (Nat.le_of_ble_eq_true rfl) (lv := [(0, .ref (h 0)), (1, .int x), (2, .int (iI z))]) rfl ?_
  intro G E ret
  have hnn : n * n ≤ 49 := Nat.mul_le_mul hn hn
  refine sx_iload_n E dX0_move_0 rfl 2 rfl ?_
  refine sx_bipush (v := (iI ((-60)))) E dX0_move_1 (by decide) ?_
  refine sx_icmp_ltI E 12 dX0_move_3 (by decide) (by omega) (by omega) (fun c3 => ?_) (fun c3 => ?_)
  · refine sx_sipush (v := (iI ((-1000)))) E dX0_move_12 (by decide) ?_
    exact ret _ _ _ (kn, n, d) dX0_move_15 (rfl) (⟨by unfold spMove; rw [if_pos (by omega)], by unfold spMove; rw [if_pos (by omega)], Or.inr rfl⟩)
  · refine sx_iload_n E dX0_move_6 rfl 2 rfl ?_
    refine sx_bipush (v := (iI 60)) E dX0_move_7 (by decide) ?_
    refine sx_icmp_leI E 16 dX0_move_9 (by decide) (by omega) (by omega) (fun c9 => ?_) (fun c9 => ?_)
    · have hz2 : -60 ≤ z ∧ z ≤ 60 := by omega
      refine sx_iconst (v := (nI 0)) E dX0_move_16 (by decide) ?_
      refine sx_istore_n E dX0_move_17 rfl (by decide) (lv' := [(0, .ref (h 0)), (1, .int x), (2, .int (iI z)), (3, .int (nI 0))]) [1, 2, 3, 0] rfl ?_
      refine sx_iconst (v := (nI 0)) E dX0_move_18 (by decide) ?_
      refine sx_istore E dX0_move_19 (by decide) (lv' := [(0, .ref (h 0)), (1, .int x), (2, .int (iI z)), (3, .int (nI 0)), (4, .int (nI 0))]) [1, 2, 3, 4, 0] rfl ?_
      have L21 : ∀ (f_ : Nat) (k : Nat) (kq : Int32) (c : Nat) (e : Nat → Nat), (k ≤ n * n) → (c = (mv x z n d k).2) → (e = (mv x z n d k).1) → (kq = nI 0 ∨ (kq = kn ∧ e = d)) → n * n - k < f_ → sx_S G (pX h ca (nI n) kq fnd fr (nF e) sd ix fs fi kp) 21 [(0, .ref (h 0)), (1, .int x), (2, .int (iI z)), (3, .int (nI c)), (4, .int (nI k))] [] := by
        intro f_
        induction f_ with
        | zero => intro k kq c e hk hc he hq hm_; exact absurd hm_ (Nat.not_lt_zero _)
        | succ f_ ih21 =>
          intro k kq c e hk hc he hq hm_
          have hmd : ∀ j, e j ≤ 60 := by rw [he]; exact mv_le hd k
          refine sx_iload E dX0_move_21 4 rfl ?_
          refine sx_aload_n E dX0_move_23 rfl 0 rfl ?_
          refine sx_gX E rfl 0 (by decide) q39 rfl dX0_move_24 ?_
          refine sx_aload_n E dX0_move_27 rfl 0 rfl ?_
          refine sx_gX E rfl 0 (by decide) q39 rfl dX0_move_28 ?_
          refine sx_imulNN E dX0_move_31 ?_
          refine sx_icmp_geN E 124 dX0_move_32 (by decide) (by omega) (by omega) (fun c32 => ?_) (fun c32 => ?_)
          · obtain rfl : k = n * n := by omega
            refine sx_iload_n E dX0_move_124 rfl 3 rfl ?_
            exact ret _ _ _ (kq, n, e) dX0_move_125 (rfl) (⟨by unfold spMove; rw [if_neg (by omega), hc], by unfold spMove; rw [if_neg (by omega), he], by rcases hq with e1 | ⟨e1, e2⟩; exact Or.inl e1; exact Or.inr (by rw [e1, e2])⟩)
          · have ⟨hn0, hx_, hy_⟩ := kdiv c32
            refine sx_iload E dX0_move_35 4 rfl ?_
            refine sx_aload_n E dX0_move_37 rfl 0 rfl ?_
            refine sx_gX E rfl 0 (by decide) q39 rfl dX0_move_38 ?_
            refine sx_idivNN E dX0_move_41 (by omega) (by omega) (by omega) ?_
            refine sx_istore E dX0_move_42 (by decide) (lv' := [(0, .ref (h 0)), (1, .int x), (2, .int (iI z)), (3, .int (nI c)), (4, .int (nI k)), (5, .int (nI (k / n)))]) [1, 2, 3, 4, 5, 0] rfl ?_
            refine sx_iload E dX0_move_44 4 rfl ?_
            refine sx_aload_n E dX0_move_46 rfl 0 rfl ?_
            refine sx_gX E rfl 0 (by decide) q39 rfl dX0_move_47 ?_
            refine sx_iremNN E dX0_move_50 (by omega) (by omega) (by omega) ?_
            refine sx_istore E dX0_move_51 (by decide) (lv' := [(0, .ref (h 0)), (1, .int x), (2, .int (iI z)), (3, .int (nI c)), (4, .int (nI k)), (5, .int (nI (k / n))), (6, .int (nI (k % n)))]) [1, 2, 3, 4, 5, 6, 0] rfl ?_
            refine sx_aload_n E dX0_move_53 rfl 0 rfl ?_
            refine sx_iload E dX0_move_54 5 rfl ?_
            refine sx_iload E dX0_move_56 6 rfl ?_
            refine sx_callr (rest := []) E (cX_get l D h ca _ _ _ _ e _ _ _ _ _ (k / n) (k % n) (by omega) (by omega)) wX_get kX_get ⟨⟨rfl, rfl⟩, by decide, by decide⟩ rfl rfl rfl (Nat.le_of_ble_eq_true rfl) dX0_move_58 ?_
            refine sx_iload_n E dX0_move_61 rfl 2 rfl ?_
            refine sx_iaddNI E dX0_move_62 ?_
            refine sx_istore E dX0_move_63 (by decide) (lv' := [(0, .ref (h 0)), (1, .int x), (2, .int (iI z)), (3, .int (nI c)), (4, .int (nI k)), (5, .int (nI (k / n))), (6, .int (nI (k % n))), (7, .int (iI ((e (7 * (k / n) + (k % n)) : Nat) + z)))]) [1, 2, 3, 4, 5, 6, 7, 0] rfl ?_
            have hdq := hmd (7 * (k / n) + k % n)
            refine sx_iload_n E dX0_move_65 rfl 1 rfl ?_
            refine sx_iload E dX0_move_66 5 rfl ?_
            refine sx_ishr E dX0_move_68 ?_
            refine sx_iconst (v := (nI 1)) E dX0_move_69 (by decide) ?_
            refine sx_bit E dX0_move_70 (by omega) ?_
            refine sx_iconst (v := (nI 1)) E dX0_move_71 (by decide) ?_
            refine sx_icmp_neB1 E 118 dX0_move_72 (by decide) (fun c72 => ?_) (fun c72 => ?_)
            · refine sx_iinc E dX0_move_118 4 rfl (v := (nI (k + 1))) (inc1 _) (by decide) (lv' := [(0, .ref (h 0)), (1, .int x), (2, .int (iI z)), (3, .int (nI c)), (4, .int (nI (k + 1))), (5, .int (nI (k / n))), (6, .int (nI (k % n))), (7, .int (iI ((e (7 * (k / n) + (k % n)) : Nat) + z)))]) [1, 2, 3, 4, 0, 5, 6, 7] rfl ?_
              refine sx_goto E 21 dX0_move_121 (by decide) ?_
              refine sx_lv (lv' := [(0, .ref (h 0)), (1, .int x), (2, .int (iI z)), (3, .int (nI c)), (4, .int (nI (k + 1)))]) [0, 1, 2, 3, 4] rfl ?_
              exact ih21 (k + 1) kq c e (by omega) (by rw [hc]; simp [mv, c72]) (by rw [he]; simp [mv, c72]) (hq) (by omega)
            · refine sx_iload_n E dX0_move_75 rfl 1 rfl ?_
              refine sx_iload E dX0_move_76 6 rfl ?_
              refine sx_ishr E dX0_move_78 ?_
              refine sx_iconst (v := (nI 1)) E dX0_move_79 (by decide) ?_
              refine sx_bit E dX0_move_80 (by omega) ?_
              refine sx_if_neB E 118 dX0_move_81 (by decide) (fun c81 => ?_) (fun c81 => ?_)
              · refine sx_iinc E dX0_move_118 4 rfl (v := (nI (k + 1))) (inc1 _) (by decide) (lv' := [(0, .ref (h 0)), (1, .int x), (2, .int (iI z)), (3, .int (nI c)), (4, .int (nI (k + 1))), (5, .int (nI (k / n))), (6, .int (nI (k % n))), (7, .int (iI ((e (7 * (k / n) + (k % n)) : Nat) + z)))]) [1, 2, 3, 4, 0, 5, 6, 7] rfl ?_
                refine sx_goto E 21 dX0_move_121 (by decide) ?_
                refine sx_lv (lv' := [(0, .ref (h 0)), (1, .int x), (2, .int (iI z)), (3, .int (nI c)), (4, .int (nI (k + 1)))]) [0, 1, 2, 3, 4] rfl ?_
                exact ih21 (k + 1) kq c e (by omega) (by rw [hc]; simp [mv, c72, c81]) (by rw [he]; simp [mv, c72, c81]) (hq) (by omega)
              · refine sx_iload E dX0_move_84 7 rfl ?_
                refine sx_if_ltI E 118 dX0_move_86 (by decide) (by omega) (fun c86 => ?_) (fun c86 => ?_)
                · refine sx_iinc E dX0_move_118 4 rfl (v := (nI (k + 1))) (inc1 _) (by decide) (lv' := [(0, .ref (h 0)), (1, .int x), (2, .int (iI z)), (3, .int (nI c)), (4, .int (nI (k + 1))), (5, .int (nI (k / n))), (6, .int (nI (k % n))), (7, .int (iI ((e (7 * (k / n) + (k % n)) : Nat) + z)))]) [1, 2, 3, 4, 0, 5, 6, 7] rfl ?_
                  refine sx_goto E 21 dX0_move_121 (by decide) ?_
                  refine sx_lv (lv' := [(0, .ref (h 0)), (1, .int x), (2, .int (iI z)), (3, .int (nI c)), (4, .int (nI (k + 1)))]) [0, 1, 2, 3, 4] rfl ?_
                  exact ih21 (k + 1) kq c e (by omega) (by rw [hc]; rw [mv_s, if_neg (by rw [← he]; omega)]) (by rw [he]; rw [mv_s, if_neg (by rw [← he]; omega)]) (hq) (by omega)
                · refine sx_iload E dX0_move_89 7 rfl ?_
                  refine sx_bipush (v := (iI 60)) E dX0_move_91 (by decide) ?_
                  refine sx_icmp_gtI E 118 dX0_move_93 (by decide) (by omega) (by omega) (fun c93 => ?_) (fun c93 => ?_)
                  · refine sx_iinc E dX0_move_118 4 rfl (v := (nI (k + 1))) (inc1 _) (by decide) (lv' := [(0, .ref (h 0)), (1, .int x), (2, .int (iI z)), (3, .int (nI c)), (4, .int (nI (k + 1))), (5, .int (nI (k / n))), (6, .int (nI (k % n))), (7, .int (iI ((e (7 * (k / n) + (k % n)) : Nat) + z)))]) [1, 2, 3, 4, 0, 5, 6, 7] rfl ?_
                    refine sx_goto E 21 dX0_move_121 (by decide) ?_
                    refine sx_lv (lv' := [(0, .ref (h 0)), (1, .int x), (2, .int (iI z)), (3, .int (nI c)), (4, .int (nI (k + 1)))]) [0, 1, 2, 3, 4] rfl ?_
                    exact ih21 (k + 1) kq c e (by omega) (by rw [hc]; rw [mv_s, if_neg (by rw [← he]; omega)]) (by rw [he]; rw [mv_s, if_neg (by rw [← he]; omega)]) (hq) (by omega)
                  · refine sx_aload_n E dX0_move_96 rfl 0 rfl ?_
                    refine sx_iload E dX0_move_97 5 rfl ?_
                    refine sx_iload E dX0_move_99 6 rfl ?_
                    refine sx_iload E dX0_move_101 7 rfl ?_
                    refine sx_top (y := (nI (((e (7 * (k / n) + (k % n)) : Nat) + z).toNat))) (iI_toNat (by omega)) ?_
                    refine sx_callv (rest := []) E (cX_put l D h ca _ _ _ _ e _ _ _ _ _ (k / n) (k % n) (((e (7 * (k / n) + (k % n)) : Nat) + z).toNat) (by omega) (by omega) (by omega)) wX_put kX_put ⟨⟨rfl, rfl⟩, by decide, by decide⟩ rfl rfl rfl (Nat.le_of_ble_eq_true rfl) dX0_move_103 (fun u103 hp103 => ?_)
                    refine sx_iload_n E dX0_move_106 rfl 2 rfl ?_
                    refine sx_if_eqI E 116 dX0_move_107 (by decide) (by omega) (fun c107 => ?_) (fun c107 => ?_)
                    · refine sx_iload_n E dX0_move_116 rfl 3 rfl ?_
                      refine sx_istore_n E dX0_move_117 rfl (by decide) (lv' := [(0, .ref (h 0)), (1, .int x), (2, .int (iI z)), (3, .int (nI c)), (4, .int (nI k)), (5, .int (nI (k / n))), (6, .int (nI (k % n))), (7, .int (iI ((e (7 * (k / n) + (k % n)) : Nat) + z)))]) [1, 2, 3, 0, 4, 5, 6, 7] rfl ?_
                      refine sx_iinc E dX0_move_118 4 rfl (v := (nI (k + 1))) (inc1 _) (by decide) (lv' := [(0, .ref (h 0)), (1, .int x), (2, .int (iI z)), (3, .int (nI c)), (4, .int (nI (k + 1))), (5, .int (nI (k / n))), (6, .int (nI (k % n))), (7, .int (iI ((e (7 * (k / n) + (k % n)) : Nat) + z)))]) [1, 2, 3, 4, 0, 5, 6, 7] rfl ?_
                      refine sx_goto E 21 dX0_move_121 (by decide) ?_
                      refine sx_lv (lv' := [(0, .ref (h 0)), (1, .int x), (2, .int (iI z)), (3, .int (nI c)), (4, .int (nI (k + 1)))]) [0, 1, 2, 3, 4] rfl ?_
                      exact ih21 (k + 1) (nI 0) c ((putD e (k / n) (k % n) (((e (7 * (k / n) + (k % n)) : Nat) + z).toNat))) (by omega) (by rw [mv_in c72 c81 (by rw [← he]; omega) (by rw [← he]; omega)]; simp [c107, hc]) (by rw [mv_in c72 c81 (by rw [← he]; omega) (by rw [← he]; omega), ← he]) (Or.inl rfl) (by omega)
                    · refine sx_iload_n E dX0_move_110 rfl 3 rfl ?_
                      refine sx_iconst (v := (nI 1)) E dX0_move_111 (by decide) ?_
                      refine sx_iaddNN E dX0_move_112 ?_
                      refine sx_goto E 117 dX0_move_113 (by decide) ?_
                      refine sx_istore_n E dX0_move_117 rfl (by decide) (lv' := [(0, .ref (h 0)), (1, .int x), (2, .int (iI z)), (3, .int (nI (c + 1))), (4, .int (nI k)), (5, .int (nI (k / n))), (6, .int (nI (k % n))), (7, .int (iI ((e (7 * (k / n) + (k % n)) : Nat) + z)))]) [1, 2, 3, 0, 4, 5, 6, 7] rfl ?_
                      refine sx_iinc E dX0_move_118 4 rfl (v := (nI (k + 1))) (inc1 _) (by decide) (lv' := [(0, .ref (h 0)), (1, .int x), (2, .int (iI z)), (3, .int (nI (c + 1))), (4, .int (nI (k + 1))), (5, .int (nI (k / n))), (6, .int (nI (k % n))), (7, .int (iI ((e (7 * (k / n) + (k % n)) : Nat) + z)))]) [1, 2, 3, 4, 0, 5, 6, 7] rfl ?_
                      refine sx_goto E 21 dX0_move_121 (by decide) ?_
                      refine sx_lv (lv' := [(0, .ref (h 0)), (1, .int x), (2, .int (iI z)), (3, .int (nI (c + 1))), (4, .int (nI (k + 1)))]) [0, 1, 2, 3, 4] rfl ?_
                      exact ih21 (k + 1) (nI 0) (c + 1) ((putD e (k / n) (k % n) (((e (7 * (k / n) + (k % n)) : Nat) + z).toNat))) (by omega) (by rw [mv_in c72 c81 (by rw [← he]; omega) (by rw [← he]; omega)]; simp [c107, hc]) (by rw [mv_in c72 c81 (by rw [← he]; omega) (by rw [← he]; omega), ← he]) (Or.inl rfl) (by omega)
      exact L21 _ 0 kn 0 d (Nat.zero_le _) (rfl) (rfl) (Or.inr ⟨rfl, rfl⟩) (Nat.lt_succ_self _)
    · refine sx_sipush (v := (iI ((-1000)))) E dX0_move_12 (by decide) ?_
      exact ret _ _ _ (kn, n, d) dX0_move_15 (rfl) (⟨by unfold spMove; rw [if_pos (by omega)], by unfold spMove; rw [if_pos (by omega)], Or.inr rfl⟩)

set_option maxHeartbeats 4000000 in
theorem cX_leastFor (l : Launch) (D : va_G) (h : Nat → Nat) (ca : Nat → ClassId) (cnt kn fnd fr : Int32) (d : Nat → Nat) (sd ix fs fi kp : Nat → Int32) (S n a b : Nat) (hn : n ≤ 7) (ha : a < n) (hb : b < n) (hd : ∀ k, d k ≤ 60) : sx_Cr l yX0_leastFor cX0_leastFor 10 .int rmX_leastFor D (tyX ca) [.ref (h 0), .int (nI S), .int (nI n), .int (nI a), .int (nI b)] (pX h ca cnt kn fnd fr (nF d) sd ix fs fi kp) (iI (lf d S n a b (n * n))) := by
  refine sx_enter_i (own := RX0) (by decide) rfl (Nat.le_of_ble_eq_true rfl) (lv := [(0, .ref (h 0)), (1, .int (nI S)), (2, .int (nI n)), (3, .int (nI a)), (4, .int (nI b))]) rfl ?_
  intro G E ret
  have hnn : n * n ≤ 49 := Nat.mul_le_mul hn hn
  refine sx_sipush (v := (iI 1000)) E dX0_leastFor_0 (by decide) ?_
  refine sx_istore E dX0_leastFor_3 (by decide) (lv' := [(0, .ref (h 0)), (1, .int (nI S)), (2, .int (nI n)), (3, .int (nI a)), (4, .int (nI b)), (5, .int (iI 1000))]) [1, 2, 3, 4, 5, 0] rfl ?_
  refine sx_iconst (v := (nI 0)) E dX0_leastFor_5 (by decide) ?_
  refine sx_istore E dX0_leastFor_6 (by decide) (lv' := [(0, .ref (h 0)), (1, .int (nI S)), (2, .int (nI n)), (3, .int (nI a)), (4, .int (nI b)), (5, .int (iI 1000)), (6, .int (nI 0))]) [1, 2, 3, 4, 5, 6, 0] rfl ?_
  have L8 : ∀ (f_ : Nat) (k : Nat) (m : Int), (k ≤ n * n) → (m = lf d S n a b k) → n * n - k < f_ → sx_S G (pX h ca cnt kn fnd fr (nF d) sd ix fs fi kp) 8 [(0, .ref (h 0)), (1, .int (nI S)), (2, .int (nI n)), (3, .int (nI a)), (4, .int (nI b)), (5, .int (iI m)), (6, .int (nI k))] [] := by
    intro f_
    induction f_ with
    | zero => intro k m hk hm hm_; exact absurd hm_ (Nat.not_lt_zero _)
    | succ f_ ih8 =>
      intro k m hk hm hm_
      have hb_ := lf_bd hd S n a b k
      rw [← hm] at hb_
      refine sx_iload E dX0_leastFor_8 6 rfl ?_
      refine sx_iload_n E dX0_leastFor_10 rfl 2 rfl ?_
      refine sx_iload_n E dX0_leastFor_11 rfl 2 rfl ?_
      refine sx_imulNN E dX0_leastFor_12 ?_
      refine sx_icmp_geN E 103 dX0_leastFor_13 (by decide) (by omega) (by omega) (fun c13 => ?_) (fun c13 => ?_)
      · obtain rfl : k = n * n := by omega
        refine sx_iload E dX0_leastFor_103 5 rfl ?_
        exact ret _ _ _ () dX0_leastFor_105 (rfl) (by rw [hm])
      · have ⟨hn0, hx_, hy_⟩ := kdiv c13
        refine sx_iload E dX0_leastFor_16 6 rfl ?_
        refine sx_iload_n E dX0_leastFor_18 rfl 2 rfl ?_
        refine sx_idivNN E dX0_leastFor_19 (by omega) (by omega) (by omega) ?_
        refine sx_istore E dX0_leastFor_20 (by decide) (lv' := [(0, .ref (h 0)), (1, .int (nI S)), (2, .int (nI n)), (3, .int (nI a)), (4, .int (nI b)), (5, .int (iI m)), (6, .int (nI k)), (7, .int (nI (k / n)))]) [1, 2, 3, 4, 5, 6, 7, 0] rfl ?_
        refine sx_iload E dX0_leastFor_22 6 rfl ?_
        refine sx_iload_n E dX0_leastFor_24 rfl 2 rfl ?_
        refine sx_iremNN E dX0_leastFor_25 (by omega) (by omega) (by omega) ?_
        refine sx_istore E dX0_leastFor_26 (by decide) (lv' := [(0, .ref (h 0)), (1, .int (nI S)), (2, .int (nI n)), (3, .int (nI a)), (4, .int (nI b)), (5, .int (iI m)), (6, .int (nI k)), (7, .int (nI (k / n))), (8, .int (nI (k % n)))]) [1, 2, 3, 4, 5, 6, 7, 8, 0] rfl ?_
        refine sx_iload_n E dX0_leastFor_28 rfl 1 rfl ?_
        refine sx_iload E dX0_leastFor_29 7 rfl ?_
        refine sx_ishr E dX0_leastFor_31 ?_
        refine sx_iconst (v := (nI 1)) E dX0_leastFor_32 (by decide) ?_
        refine sx_bitN E dX0_leastFor_33 (by omega) ?_
        refine sx_if_neB E 97 dX0_leastFor_34 (by decide) (fun c34 => ?_) (fun c34 => ?_)
        · refine sx_iinc E dX0_leastFor_97 6 rfl (v := (nI (k + 1))) (inc1 _) (by decide) (lv' := [(0, .ref (h 0)), (1, .int (nI S)), (2, .int (nI n)), (3, .int (nI a)), (4, .int (nI b)), (5, .int (iI m)), (6, .int (nI (k + 1))), (7, .int (nI (k / n))), (8, .int (nI (k % n)))]) [1, 2, 3, 4, 5, 6, 0, 7, 8] rfl ?_
          refine sx_goto E 8 dX0_leastFor_100 (by decide) ?_
          refine sx_lv (lv' := [(0, .ref (h 0)), (1, .int (nI S)), (2, .int (nI n)), (3, .int (nI a)), (4, .int (nI b)), (5, .int (iI m)), (6, .int (nI (k + 1)))]) [0, 1, 2, 3, 4, 5, 6] rfl ?_
          exact ih8 (k + 1) m (by omega) (by rw [hm]; simp [lf, c34]) (by omega)
        · refine sx_iload_n E dX0_leastFor_37 rfl 1 rfl ?_
          refine sx_iload E dX0_leastFor_38 8 rfl ?_
          refine sx_ishr E dX0_leastFor_40 ?_
          refine sx_iconst (v := (nI 1)) E dX0_leastFor_41 (by decide) ?_
          refine sx_bitN E dX0_leastFor_42 (by omega) ?_
          refine sx_if_neB E 97 dX0_leastFor_43 (by decide) (fun c43 => ?_) (fun c43 => ?_)
          · refine sx_iinc E dX0_leastFor_97 6 rfl (v := (nI (k + 1))) (inc1 _) (by decide) (lv' := [(0, .ref (h 0)), (1, .int (nI S)), (2, .int (nI n)), (3, .int (nI a)), (4, .int (nI b)), (5, .int (iI m)), (6, .int (nI (k + 1))), (7, .int (nI (k / n))), (8, .int (nI (k % n)))]) [1, 2, 3, 4, 5, 6, 0, 7, 8] rfl ?_
            refine sx_goto E 8 dX0_leastFor_100 (by decide) ?_
            refine sx_lv (lv' := [(0, .ref (h 0)), (1, .int (nI S)), (2, .int (nI n)), (3, .int (nI a)), (4, .int (nI b)), (5, .int (iI m)), (6, .int (nI (k + 1)))]) [0, 1, 2, 3, 4, 5, 6] rfl ?_
            exact ih8 (k + 1) m (by omega) (by rw [hm]; simp [lf, c34, c43]) (by omega)
          · refine sx_aload_n E dX0_leastFor_46 rfl 0 rfl ?_
            refine sx_iload_n E dX0_leastFor_47 rfl 3 rfl ?_
            refine sx_iload E dX0_leastFor_48 7 rfl ?_
            refine sx_callr (rest := []) E (cX_get l D h ca _ _ _ _ d _ _ _ _ _ a (k / n) (by omega) (by omega)) wX_get kX_get ⟨⟨rfl, rfl⟩, by decide, by decide⟩ rfl rfl rfl (Nat.le_of_ble_eq_true rfl) dX0_leastFor_50 ?_
            refine sx_aload_n E dX0_leastFor_53 rfl 0 rfl ?_
            refine sx_iload E dX0_leastFor_54 4 rfl ?_
            refine sx_iload E dX0_leastFor_56 8 rfl ?_
            refine sx_callr (rest := [.int (nI (d (7 * a + (k / n))))]) E (cX_get l D h ca _ _ _ _ d _ _ _ _ _ b (k % n) (by omega) (by omega)) wX_get kX_get ⟨⟨rfl, rfl⟩, by decide, by decide⟩ rfl rfl rfl (Nat.le_of_ble_eq_true rfl) dX0_leastFor_58 ?_
            refine sx_iaddNN E dX0_leastFor_61 ?_
            refine sx_aload_n E dX0_leastFor_62 rfl 0 rfl ?_
            refine sx_iload_n E dX0_leastFor_63 rfl 3 rfl ?_
            refine sx_iload E dX0_leastFor_64 4 rfl ?_
            refine sx_callr (rest := [.int (nI ((d (7 * a + (k / n))) + (d (7 * b + (k % n)))))]) E (cX_get l D h ca _ _ _ _ d _ _ _ _ _ a b (by omega) (by omega)) wX_get kX_get ⟨⟨rfl, rfl⟩, by decide, by decide⟩ rfl rfl rfl (Nat.le_of_ble_eq_true rfl) dX0_leastFor_66 ?_
            refine sx_isubNN E dX0_leastFor_69 ?_
            refine sx_aload_n E dX0_leastFor_70 rfl 0 rfl ?_
            refine sx_iload E dX0_leastFor_71 7 rfl ?_
            refine sx_iload E dX0_leastFor_73 8 rfl ?_
            refine sx_callr (rest := [.int (iI ((((d (7 * a + (k / n))) + (d (7 * b + (k % n))) : Nat) : Int) - ((d (7 * a + b) : Nat) : Int)))]) E (cX_get l D h ca _ _ _ _ d _ _ _ _ _ (k / n) (k % n) (by omega) (by omega)) wX_get kX_get ⟨⟨rfl, rfl⟩, by decide, by decide⟩ rfl rfl rfl (Nat.le_of_ble_eq_true rfl) dX0_leastFor_75 ?_
            refine sx_isubIN E dX0_leastFor_78 ?_
            have hq_ := qv_bd hd a (k / n) b (k % n)
            refine sx_top (y := (iI (qv d a (k / n) b (k % n)))) (rfl) ?_
            refine sx_istore E dX0_leastFor_79 (by decide) (lv' := [(0, .ref (h 0)), (1, .int (nI S)), (2, .int (nI n)), (3, .int (nI a)), (4, .int (nI b)), (5, .int (iI m)), (6, .int (nI k)), (7, .int (nI (k / n))), (8, .int (nI (k % n))), (9, .int (iI (qv d a (k / n) b (k % n))))]) [1, 2, 3, 4, 5, 6, 7, 8, 9, 0] rfl ?_
            refine sx_iload E dX0_leastFor_81 9 rfl ?_
            refine sx_iload E dX0_leastFor_83 5 rfl ?_
            refine sx_icmp_geI E 93 dX0_leastFor_85 (by decide) (by omega) (by omega) (fun c85 => ?_) (fun c85 => ?_)
            · refine sx_iload E dX0_leastFor_93 5 rfl ?_
              refine sx_istore E dX0_leastFor_95 (by decide) (lv' := [(0, .ref (h 0)), (1, .int (nI S)), (2, .int (nI n)), (3, .int (nI a)), (4, .int (nI b)), (5, .int (iI m)), (6, .int (nI k)), (7, .int (nI (k / n))), (8, .int (nI (k % n))), (9, .int (iI (qv d a (k / n) b (k % n))))]) [1, 2, 3, 4, 5, 0, 6, 7, 8, 9] rfl ?_
              refine sx_iinc E dX0_leastFor_97 6 rfl (v := (nI (k + 1))) (inc1 _) (by decide) (lv' := [(0, .ref (h 0)), (1, .int (nI S)), (2, .int (nI n)), (3, .int (nI a)), (4, .int (nI b)), (5, .int (iI m)), (6, .int (nI (k + 1))), (7, .int (nI (k / n))), (8, .int (nI (k % n))), (9, .int (iI (qv d a (k / n) b (k % n))))]) [1, 2, 3, 4, 5, 6, 0, 7, 8, 9] rfl ?_
              refine sx_goto E 8 dX0_leastFor_100 (by decide) ?_
              refine sx_lv (lv' := [(0, .ref (h 0)), (1, .int (nI S)), (2, .int (nI n)), (3, .int (nI a)), (4, .int (nI b)), (5, .int (iI m)), (6, .int (nI (k + 1)))]) [0, 1, 2, 3, 4, 5, 6] rfl ?_
              exact ih8 (k + 1) m (by omega) (by rw [hm] at c85 ⊢; rw [lf_s, if_neg (by omega)]) (by omega)
            · refine sx_iload E dX0_leastFor_88 9 rfl ?_
              refine sx_goto E 95 dX0_leastFor_90 (by decide) ?_
              refine sx_istore E dX0_leastFor_95 (by decide) (lv' := [(0, .ref (h 0)), (1, .int (nI S)), (2, .int (nI n)), (3, .int (nI a)), (4, .int (nI b)), (5, .int (iI (qv d a (k / n) b (k % n)))), (6, .int (nI k)), (7, .int (nI (k / n))), (8, .int (nI (k % n))), (9, .int (iI (qv d a (k / n) b (k % n))))]) [1, 2, 3, 4, 5, 0, 6, 7, 8, 9] rfl ?_
              refine sx_iinc E dX0_leastFor_97 6 rfl (v := (nI (k + 1))) (inc1 _) (by decide) (lv' := [(0, .ref (h 0)), (1, .int (nI S)), (2, .int (nI n)), (3, .int (nI a)), (4, .int (nI b)), (5, .int (iI (qv d a (k / n) b (k % n)))), (6, .int (nI (k + 1))), (7, .int (nI (k / n))), (8, .int (nI (k % n))), (9, .int (iI (qv d a (k / n) b (k % n))))]) [1, 2, 3, 4, 5, 6, 0, 7, 8, 9] rfl ?_
              refine sx_goto E 8 dX0_leastFor_100 (by decide) ?_
              refine sx_lv (lv' := [(0, .ref (h 0)), (1, .int (nI S)), (2, .int (nI n)), (3, .int (nI a)), (4, .int (nI b)), (5, .int (iI (qv d a (k / n) b (k % n)))), (6, .int (nI (k + 1)))]) [0, 1, 2, 3, 4, 5, 6] rfl ?_
              exact ih8 (k + 1) (qv d a (k / n) b (k % n)) (by omega) (by rw [hm] at c85; rw [lf_s, if_pos ⟨c34, c43, c85⟩]) (by omega)
  exact L8 _ 0 1000 (Nat.zero_le _) (rfl) (Nat.lt_succ_self _)

set_option maxHeartbeats 4000000 in
theorem cX_indexOf (l : Launch) (D : va_G) (h : Nat → Nat) (ca : Nat → ClassId) (cnt kn fnd fr : Int32) (d : Nat → Nat) (sd ix fs fi kp : Nat → Int32) (S n : Nat) (hn : n ≤ 7) (hd : ∀ k, d k ≤ 60) : sx_Cr l yX0_indexOf cX0_indexOf 8 .int rmX_indexOf D (tyX ca) [.ref (h 0), .int (nI S), .int (nI n)] (pX h ca cnt kn fnd fr (nF d) sd ix fs fi kp) (iI (idx d S n)) := by
  refine sx_enter_i (own := RX0) (by decide) rfl (Nat.le_of_ble_eq_true rfl) (lv := [(0, .ref (h 0)), (1, .int (nI S)), (2, .int (nI n))]) rfl ?_
  intro G E ret
  have hnn : n * n ≤ 49 := Nat.mul_le_mul hn hn
  refine sx_sipush (v := (iI 1000)) E dX0_indexOf_0 (by decide) ?_
  refine sx_istore_n E dX0_indexOf_3 rfl (by decide) (lv' := [(0, .ref (h 0)), (1, .int (nI S)), (2, .int (nI n)), (3, .int (iI 1000))]) [1, 2, 3, 0] rfl ?_
  refine sx_iconst (v := (nI 0)) E dX0_indexOf_4 (by decide) ?_
  refine sx_istore E dX0_indexOf_5 (by decide) (lv' := [(0, .ref (h 0)), (1, .int (nI S)), (2, .int (nI n)), (3, .int (iI 1000)), (4, .int (nI 0))]) [1, 2, 3, 4, 0] rfl ?_
  have L7 : ∀ (f_ : Nat) (k : Nat) (m : Int), (k ≤ n * n) → (m = ixf d S n k) → n * n - k < f_ → sx_S G (pX h ca cnt kn fnd fr (nF d) sd ix fs fi kp) 7 [(0, .ref (h 0)), (1, .int (nI S)), (2, .int (nI n)), (3, .int (iI m)), (4, .int (nI k))] [] := by
    intro f_
    induction f_ with
    | zero => intro k m hk hm hm_; exact absurd hm_ (Nat.not_lt_zero _)
    | succ f_ ih7 =>
      intro k m hk hm hm_
      have hb_ := ixf_bd hd S n k
      rw [← hm] at hb_
      refine sx_iload E dX0_indexOf_7 4 rfl ?_
      refine sx_iload_n E dX0_indexOf_9 rfl 2 rfl ?_
      refine sx_iload_n E dX0_indexOf_10 rfl 2 rfl ?_
      refine sx_imulNN E dX0_indexOf_11 ?_
      refine sx_icmp_geN E 85 dX0_indexOf_12 (by decide) (by omega) (by omega) (fun c12 => ?_) (fun c12 => ?_)
      · obtain rfl : k = n * n := by omega
        refine sx_iload_n E dX0_indexOf_85 rfl 3 rfl ?_
        exact ret _ _ _ () dX0_indexOf_86 (rfl) (by rw [hm]; rfl)
      · have ⟨hn0, hx_, hy_⟩ := kdiv c12
        refine sx_iload E dX0_indexOf_15 4 rfl ?_
        refine sx_iload_n E dX0_indexOf_17 rfl 2 rfl ?_
        refine sx_idivNN E dX0_indexOf_18 (by omega) (by omega) (by omega) ?_
        refine sx_istore E dX0_indexOf_19 (by decide) (lv' := [(0, .ref (h 0)), (1, .int (nI S)), (2, .int (nI n)), (3, .int (iI m)), (4, .int (nI k)), (5, .int (nI (k / n)))]) [1, 2, 3, 4, 5, 0] rfl ?_
        refine sx_iload E dX0_indexOf_21 4 rfl ?_
        refine sx_iload_n E dX0_indexOf_23 rfl 2 rfl ?_
        refine sx_iremNN E dX0_indexOf_24 (by omega) (by omega) (by omega) ?_
        refine sx_istore E dX0_indexOf_25 (by decide) (lv' := [(0, .ref (h 0)), (1, .int (nI S)), (2, .int (nI n)), (3, .int (iI m)), (4, .int (nI k)), (5, .int (nI (k / n))), (6, .int (nI (k % n)))]) [1, 2, 3, 4, 5, 6, 0] rfl ?_
        refine sx_iload E dX0_indexOf_27 5 rfl ?_
        refine sx_iload E dX0_indexOf_29 6 rfl ?_
        refine sx_icmp_gtN E 79 dX0_indexOf_31 (by decide) (by omega) (by omega) (fun c31 => ?_) (fun c31 => ?_)
        · refine sx_iinc E dX0_indexOf_79 4 rfl (v := (nI (k + 1))) (inc1 _) (by decide) (lv' := [(0, .ref (h 0)), (1, .int (nI S)), (2, .int (nI n)), (3, .int (iI m)), (4, .int (nI (k + 1))), (5, .int (nI (k / n))), (6, .int (nI (k % n)))]) [1, 2, 3, 4, 0, 5, 6] rfl ?_
          refine sx_goto E 7 dX0_indexOf_82 (by decide) ?_
          refine sx_lv (lv' := [(0, .ref (h 0)), (1, .int (nI S)), (2, .int (nI n)), (3, .int (iI m)), (4, .int (nI (k + 1)))]) [0, 1, 2, 3, 4] rfl ?_
          exact ih7 (k + 1) m (by omega) (by rw [hm]; rw [ixf_s, if_neg (by omega)]) (by omega)
        · refine sx_iload_n E dX0_indexOf_34 rfl 1 rfl ?_
          refine sx_iload E dX0_indexOf_35 5 rfl ?_
          refine sx_ishr E dX0_indexOf_37 ?_
          refine sx_iconst (v := (nI 1)) E dX0_indexOf_38 (by decide) ?_
          refine sx_bitN E dX0_indexOf_39 (by omega) ?_
          refine sx_iconst (v := (nI 1)) E dX0_indexOf_40 (by decide) ?_
          refine sx_icmp_neB1 E 79 dX0_indexOf_41 (by decide) (fun c41 => ?_) (fun c41 => ?_)
          · refine sx_iinc E dX0_indexOf_79 4 rfl (v := (nI (k + 1))) (inc1 _) (by decide) (lv' := [(0, .ref (h 0)), (1, .int (nI S)), (2, .int (nI n)), (3, .int (iI m)), (4, .int (nI (k + 1))), (5, .int (nI (k / n))), (6, .int (nI (k % n)))]) [1, 2, 3, 4, 0, 5, 6] rfl ?_
            refine sx_goto E 7 dX0_indexOf_82 (by decide) ?_
            refine sx_lv (lv' := [(0, .ref (h 0)), (1, .int (nI S)), (2, .int (nI n)), (3, .int (iI m)), (4, .int (nI (k + 1)))]) [0, 1, 2, 3, 4] rfl ?_
            exact ih7 (k + 1) m (by omega) (by rw [hm]; simp [ixf, c41]) (by omega)
          · refine sx_iload_n E dX0_indexOf_44 rfl 1 rfl ?_
            refine sx_iload E dX0_indexOf_45 6 rfl ?_
            refine sx_ishr E dX0_indexOf_47 ?_
            refine sx_iconst (v := (nI 1)) E dX0_indexOf_48 (by decide) ?_
            refine sx_bitN E dX0_indexOf_49 (by omega) ?_
            refine sx_iconst (v := (nI 1)) E dX0_indexOf_50 (by decide) ?_
            refine sx_icmp_neB1 E 79 dX0_indexOf_51 (by decide) (fun c51 => ?_) (fun c51 => ?_)
            · refine sx_iinc E dX0_indexOf_79 4 rfl (v := (nI (k + 1))) (inc1 _) (by decide) (lv' := [(0, .ref (h 0)), (1, .int (nI S)), (2, .int (nI n)), (3, .int (iI m)), (4, .int (nI (k + 1))), (5, .int (nI (k / n))), (6, .int (nI (k % n)))]) [1, 2, 3, 4, 0, 5, 6] rfl ?_
              refine sx_goto E 7 dX0_indexOf_82 (by decide) ?_
              refine sx_lv (lv' := [(0, .ref (h 0)), (1, .int (nI S)), (2, .int (nI n)), (3, .int (iI m)), (4, .int (nI (k + 1)))]) [0, 1, 2, 3, 4] rfl ?_
              exact ih7 (k + 1) m (by omega) (by rw [hm]; simp [ixf, c51]) (by omega)
            · refine sx_aload_n E dX0_indexOf_54 rfl 0 rfl ?_
              refine sx_iload_n E dX0_indexOf_55 rfl 1 rfl ?_
              refine sx_iload_n E dX0_indexOf_56 rfl 2 rfl ?_
              refine sx_iload E dX0_indexOf_57 5 rfl ?_
              refine sx_iload E dX0_indexOf_59 6 rfl ?_
              refine sx_callr (rest := []) E (cX_leastFor l D h ca _ _ _ _ d _ _ _ _ _ S n (k / n) (k % n) hn (by omega) (by omega) hd) wX_leastFor kX_leastFor ⟨⟨rfl, rfl⟩, by decide, by decide⟩ rfl rfl rfl (Nat.le_of_ble_eq_true rfl) dX0_indexOf_61 ?_
              have hq_ := lf_bd hd S n (k / n) (k % n) (n * n)
              refine sx_istore E dX0_indexOf_64 (by decide) (lv' := [(0, .ref (h 0)), (1, .int (nI S)), (2, .int (nI n)), (3, .int (iI m)), (4, .int (nI k)), (5, .int (nI (k / n))), (6, .int (nI (k % n))), (7, .int (iI (lf d S n (k / n) (k % n) (n * n))))]) [1, 2, 3, 4, 5, 6, 7, 0] rfl ?_
              refine sx_iload E dX0_indexOf_66 7 rfl ?_
              refine sx_iload_n E dX0_indexOf_68 rfl 3 rfl ?_
              refine sx_icmp_geI E 77 dX0_indexOf_69 (by decide) (by omega) (by omega) (fun c69 => ?_) (fun c69 => ?_)
              · refine sx_iload_n E dX0_indexOf_77 rfl 3 rfl ?_
                refine sx_istore_n E dX0_indexOf_78 rfl (by decide) (lv' := [(0, .ref (h 0)), (1, .int (nI S)), (2, .int (nI n)), (3, .int (iI m)), (4, .int (nI k)), (5, .int (nI (k / n))), (6, .int (nI (k % n))), (7, .int (iI (lf d S n (k / n) (k % n) (n * n))))]) [1, 2, 3, 0, 4, 5, 6, 7] rfl ?_
                refine sx_iinc E dX0_indexOf_79 4 rfl (v := (nI (k + 1))) (inc1 _) (by decide) (lv' := [(0, .ref (h 0)), (1, .int (nI S)), (2, .int (nI n)), (3, .int (iI m)), (4, .int (nI (k + 1))), (5, .int (nI (k / n))), (6, .int (nI (k % n))), (7, .int (iI (lf d S n (k / n) (k % n) (n * n))))]) [1, 2, 3, 4, 0, 5, 6, 7] rfl ?_
                refine sx_goto E 7 dX0_indexOf_82 (by decide) ?_
                refine sx_lv (lv' := [(0, .ref (h 0)), (1, .int (nI S)), (2, .int (nI n)), (3, .int (iI m)), (4, .int (nI (k + 1)))]) [0, 1, 2, 3, 4] rfl ?_
                exact ih7 (k + 1) m (by omega) (by rw [hm] at c69 ⊢; rw [ixf_s, if_neg (by omega)]) (by omega)
              · refine sx_iload E dX0_indexOf_72 7 rfl ?_
                refine sx_goto E 78 dX0_indexOf_74 (by decide) ?_
                refine sx_istore_n E dX0_indexOf_78 rfl (by decide) (lv' := [(0, .ref (h 0)), (1, .int (nI S)), (2, .int (nI n)), (3, .int (iI (lf d S n (k / n) (k % n) (n * n)))), (4, .int (nI k)), (5, .int (nI (k / n))), (6, .int (nI (k % n))), (7, .int (iI (lf d S n (k / n) (k % n) (n * n))))]) [1, 2, 3, 0, 4, 5, 6, 7] rfl ?_
                refine sx_iinc E dX0_indexOf_79 4 rfl (v := (nI (k + 1))) (inc1 _) (by decide) (lv' := [(0, .ref (h 0)), (1, .int (nI S)), (2, .int (nI n)), (3, .int (iI (lf d S n (k / n) (k % n) (n * n)))), (4, .int (nI (k + 1))), (5, .int (nI (k / n))), (6, .int (nI (k % n))), (7, .int (iI (lf d S n (k / n) (k % n) (n * n))))]) [1, 2, 3, 4, 0, 5, 6, 7] rfl ?_
                refine sx_goto E 7 dX0_indexOf_82 (by decide) ?_
                refine sx_lv (lv' := [(0, .ref (h 0)), (1, .int (nI S)), (2, .int (nI n)), (3, .int (iI (lf d S n (k / n) (k % n) (n * n)))), (4, .int (nI (k + 1)))]) [0, 1, 2, 3, 4] rfl ?_
                exact ih7 (k + 1) (lf d S n (k / n) (k % n) (n * n)) (by omega) (by rw [hm] at c69; rw [ixf_s, if_pos ⟨c31, c41, c51, c69⟩]) (by omega)
  exact L7 _ 0 1000 (Nat.zero_le _) (rfl) (Nat.lt_succ_self _)
end
section
set_option maxRecDepth 100000
set_option maxHeartbeats 4000000 in
theorem cX_tryEdge (l : Launch) (D : va_G) (h : Nat → Nat) (ca : Nat → ClassId) (cnt kn fnd : Int32) (d : Nat → Nat) (sd ix fs fi kp : Nat → Int32) (F : EL) (S n : Nat) (hn : n ≤ 7) (hS : S < 128) (hd : ∀ k, d k ≤ 60) (hF : hold fs fi F) (hl : F.length < 32) : sx_Cv l yX0_tryEdge cX0_tryEdge 4 rmX_tryEdge D (tyX ca) [.ref (h 0), .int (nI S), .int (nI n)] (pX h ca cnt kn fnd (nI F.length) (nF d) sd ix fs fi kp) (S := EL × (Nat → Int32) × (Nat → Int32)) (fun u => pX h ca cnt kn fnd (nI u.1.length) (nF d) sd ix u.2.1 u.2.2 kp) (fun u => u.1 = tryF d S n F ∧ hold u.2.1 u.2.2 u.1) := by
  refine sx_enter_v (own := RX0) (by decide) rfl (Nat.le_of_ble_eq_true rfl) (lv := [(0, .ref (h 0)), (1, .int (nI S)), (2, .int (nI n))]) rfl ?_
  intro G E ret
  have h2n : 2 ^ n ≤ 128 := pow7 hn
  have h2p : 1 ≤ 2 ^ n := Nat.one_le_two_pow
  have hib := idx_bd hd S n
  refine sx_iload_n E dX0_tryEdge_0 rfl 1 rfl ?_
  refine sx_iconst (v := (nI 1)) E dX0_tryEdge_1 (by decide) ?_
  refine sx_iload_n E dX0_tryEdge_2 rfl 2 rfl ?_
  refine sx_shl1 E dX0_tryEdge_3 (by omega) ?_
  refine sx_iconst (v := (nI 1)) E dX0_tryEdge_4 (by decide) ?_
  refine sx_isubNM E dX0_tryEdge_5 (h2p) ?_
  refine sx_icmp_neN E 10 dX0_tryEdge_6 (by decide) (by omega) (by omega) (fun c6 => ?_) (fun c6 => ?_)
  · refine sx_aload_n E dX0_tryEdge_10 rfl 0 rfl ?_
    refine sx_iload_n E dX0_tryEdge_11 rfl 1 rfl ?_
    refine sx_iload_n E dX0_tryEdge_12 rfl 2 rfl ?_
    refine sx_callr (rest := []) E (cX_indexOf l D h ca _ _ _ _ d _ _ _ _ _ S n (by omega) hd) wX_indexOf kX_indexOf ⟨⟨rfl, rfl⟩, by decide, by decide⟩ rfl rfl rfl (Nat.le_of_ble_eq_true rfl) dX0_tryEdge_13 ?_
    refine sx_istore_n E dX0_tryEdge_16 rfl (by decide) (lv' := [(0, .ref (h 0)), (1, .int (nI S)), (2, .int (nI n)), (3, .int (iI (idx d S n)))]) [1, 2, 3, 0] rfl ?_
    refine sx_iload_n E dX0_tryEdge_17 rfl 3 rfl ?_
    refine sx_if_leI E 61 dX0_tryEdge_18 (by decide) (by omega) (fun c18 => ?_) (fun c18 => ?_)
    · exact ret _ _ (F, fs, fi) dX0_tryEdge_61 (⟨by unfold tryF; rw [if_neg c6, if_neg (by omega)], hF⟩)
    · refine sx_aload_n E dX0_tryEdge_21 rfl 0 rfl ?_
      refine sx_gX E rfl 6 (by decide) q45 rfl dX0_tryEdge_22 ?_
      refine sx_bipush (v := (nI 32)) E dX0_tryEdge_25 (by decide) ?_
      refine sx_icmp_geN E 61 dX0_tryEdge_27 (by decide) (by omega) (by omega) (fun c27 => ?_) (fun c27 => ?_)
      · exact absurd c27 (by omega)
      · refine sx_aload_n E dX0_tryEdge_30 rfl 0 rfl ?_
        refine sx_gX E rfl 7 (by decide) q46 rfl dX0_tryEdge_31 ?_
        refine sx_aload_n E dX0_tryEdge_34 rfl 0 rfl ?_
        refine sx_gX E rfl 6 (by decide) q45 rfl dX0_tryEdge_35 ?_
        refine sx_iload_n E dX0_tryEdge_38 rfl 1 rfl ?_
        refine sx_i2bN E dX0_tryEdge_39 (by omega) ?_
        refine sx_bast E 4 3 rfl rfl (by omega) (by decide) (f' := upd fs F.length (nI S)) (by rw [narN (by omega)]) dX0_tryEdge_40 (ws' := (pX h ca cnt kn fnd (nI F.length) (nF d) sd ix (upd fs F.length (nI S)) fi kp)) rfl ?_
        refine sx_aload_n E dX0_tryEdge_41 rfl 0 rfl ?_
        refine sx_gX E rfl 8 (by decide) q47 rfl dX0_tryEdge_42 ?_
        refine sx_aload_n E dX0_tryEdge_45 rfl 0 rfl ?_
        refine sx_gX E rfl 6 (by decide) q45 rfl dX0_tryEdge_46 ?_
        refine sx_iload_n E dX0_tryEdge_49 rfl 3 rfl ?_
        refine sx_top (y := (nI ((idx d S n).toNat))) (iI_toNat (by omega)) ?_
        refine sx_iast E 5 4 rfl rfl (by omega) (by decide) (f' := upd fi F.length (nI ((idx d S n).toNat))) (rfl) dX0_tryEdge_50 (ws' := (pX h ca cnt kn fnd (nI F.length) (nF d) sd ix (upd fs F.length (nI S)) (upd fi F.length (nI ((idx d S n).toNat))) kp)) rfl ?_
        refine sx_aload_n E dX0_tryEdge_51 rfl 0 rfl ?_
        refine sx_dup E dX0_tryEdge_52 rfl ?_
        refine sx_gX E rfl 6 (by decide) q45 rfl dX0_tryEdge_53 ?_
        refine sx_iconst (v := (nI 1)) E dX0_tryEdge_56 (by decide) ?_
        refine sx_iaddNN E dX0_tryEdge_57 ?_
        refine sx_top (y := (nI ((F ++ [(S, (idx d S n).toNat)]).length))) (by simp) ?_
        refine sx_pX E rfl 6 (by decide) q45 rfl rfl rfl (Nat.le_of_ble_eq_true rfl) dX0_tryEdge_58 (ws' := (pX h ca cnt kn fnd (nI ((F ++ [(S, (idx d S n).toNat)]).length)) (nF d) sd ix (upd fs F.length (nI S)) (upd fi F.length (nI ((idx d S n).toNat))) kp)) rfl ?_
        exact ret _ _ ((F ++ [(S, (idx d S n).toNat)]), upd fs F.length (nI S), upd fi F.length (nI ((idx d S n).toNat))) dX0_tryEdge_61 (⟨by unfold tryF; rw [if_neg c6, if_pos (by omega)], hold_push hF (S, (idx d S n).toNat)⟩)
  · exact ret _ _ (F, fs, fi) dX0_tryEdge_9 (⟨by unfold tryF; rw [if_pos c6], hF⟩)

theorem good_ins {F L : EL} {a k : Nat} (hg : good F) (h2 : good L) (hk : k < F.length) : good (insL L a (sdN F k, ixN F k)) := by
  intro q hq
  rcases insL_mem.mp hq with h | h
  · rw [h]; exact ⟨hg.sd k, hg.ix k⟩
  · exact h2 q h
theorem mem_take_ins {F L : EL} {a k : Nat} (hk : k < F.length) (hme : ∀ q, q ∈ L ↔ q ∈ F.take k) : ∀ q, q ∈ insL L a (sdN F k, ixN F k) ↔ q ∈ F.take (k + 1) := by
  intro q
  rw [insL_mem, hme q, List.take_succ, sdN_get hk, List.mem_append]
  simp
  constructor
  · rintro (h | h)
    · exact Or.inr h
    · exact Or.inl h
  · rintro (h | h)
    · exact Or.inr h
    · exact Or.inl h
theorem sd_ne {F L : EL} {k b : Nat} (hdis : F.Pairwise (fun p q => p.1 ≠ q.1)) (hme : ∀ q, q ∈ L ↔ q ∈ F.take k) (hk : k ≤ F.length) (hk2 : k < F.length) (hb : b < L.length) (h : sdN L b ≤ sdN F k) : sdN L b < sdN F k := by
  rcases Nat.lt_or_ge (sdN L b) (sdN F k) with h1 | h1
  · exact h1
  · exfalso
    have e : sdN L b = sdN F k := Nat.le_antisymm h h1
    have hm := (hme _).mp (List.mem_of_getElem? (sdN_get hb))
    obtain ⟨i, hi⟩ := List.getElem?_of_mem hm
    have hik : i < k := by
      have := (List.getElem?_eq_some_iff.mp hi).1
      rw [List.length_take] at this
      omega
    rw [List.getElem?_take_of_lt hik] at hi
    obtain ⟨l1, e1⟩ := List.getElem?_eq_some_iff.mp hi
    have := List.pairwise_iff_getElem.mp hdis i k l1 hk2 hik
    rw [e1] at this
    have e2 := sdN_get hk2
    rw [List.getElem?_eq_getElem hk2] at e2
    rw [Option.some.inj e2] at this
    exact this e
set_option maxHeartbeats 4000000 in
theorem cX_sortFresh (l : Launch) (D : va_G) (h : Nat → Nat) (ca : Nat → ClassId) (cnt kn fnd : Int32) (d : Nat → Nat) (sd ix fs fi kp : Nat → Int32) (F : EL) (hF : hold fs fi F) (hl : F.length ≤ 32) (hg : good F) (hdis : F.Pairwise (fun p q => p.1 ≠ q.1)) : sx_Cv l yX0_sortFresh cX0_sortFresh 3 rmX_sortFresh D (tyX ca) [.ref (h 0)] (pX h ca cnt kn fnd (nI F.length) (nF d) sd ix fs fi kp) (S := EL × (Nat → Int32) × (Nat → Int32)) (fun u => pX h ca cnt kn (nI u.1.length) (nI F.length) (nF d) u.2.1 u.2.2 fs fi kp) (fun u => hold u.2.1 u.2.2 u.1 ∧ Srt u.1 ∧ ∀ q, q ∈ u.1 ↔ q ∈ F) := by
  refine sx_enter_v (own := RX0) (by decide) rfl (Nat.le_of_ble_eq_true rfl) (lv := [(0, .ref (h 0))]) rfl ?_
  intro G E ret
  refine sx_aload_n E dX0_sortFresh_0 rfl 0 rfl ?_
  refine sx_iconst (v := (nI 0)) E dX0_sortFresh_1 (by decide) ?_
  refine sx_pX E rfl 3 (by decide) q42 rfl rfl rfl (Nat.le_of_ble_eq_true rfl) dX0_sortFresh_2 (ws' := (pX h ca cnt kn (nI 0) (nI F.length) (nF d) sd ix fs fi kp)) rfl ?_
  refine sx_iconst (v := (nI 0)) E dX0_sortFresh_5 (by decide) ?_
  refine sx_istore_n E dX0_sortFresh_6 rfl (by decide) (lv' := [(0, .ref (h 0)), (1, .int (nI 0))]) [1, 0] rfl ?_
  have L7 : ∀ (f_ : Nat) (k : Nat) (L : EL) (sq : Nat → Int32) (iq : Nat → Int32), (k ≤ F.length) → (L.length = k) → (hold sq iq L) → (Srt L) → (∀ q, q ∈ L ↔ q ∈ F.take k) → (good L) → F.length - k < f_ → sx_S G (pX h ca cnt kn (nI L.length) (nI F.length) (nF d) sq iq fs fi kp) 7 [(0, .ref (h 0)), (1, .int (nI k))] [] := by
    intro f_
    induction f_ with
    | zero => intro k L sq iq hk hL hh hs hme hg2 hm_; exact absurd hm_ (Nat.not_lt_zero _)
    | succ f_ ih7 =>
      intro k L sq iq hk hL hh hs hme hg2 hm_
      refine sx_iload_n E dX0_sortFresh_7 rfl 1 rfl ?_
      refine sx_aload_n E dX0_sortFresh_8 rfl 0 rfl ?_
      refine sx_gX E rfl 6 (by decide) q45 rfl dX0_sortFresh_9 ?_
      refine sx_icmp_geN E 115 dX0_sortFresh_12 (by decide) (by omega) (by omega) (fun c12 => ?_) (fun c12 => ?_)
      · obtain rfl : k = F.length := by omega
        exact ret _ _ (L, sq, iq) dX0_sortFresh_115 (⟨hh, hs, fun q => by rw [hme q, List.take_length]⟩)
      · refine sx_aload_n E dX0_sortFresh_15 rfl 0 rfl ?_
        refine sx_gX E rfl 3 (by decide) q42 rfl dX0_sortFresh_16 ?_
        refine sx_istore_n E dX0_sortFresh_19 rfl (by decide) (lv' := [(0, .ref (h 0)), (1, .int (nI k)), (2, .int (nI L.length))]) [1, 2, 0] rfl ?_
        have L20 : ∀ (f_ : Nat) (a : Nat) (sq2 : Nat → Int32) (iq2 : Nat → Int32), (insI sq2 iq2 L a (sdN F k)) → a < f_ → sx_S G (pX h ca cnt kn (nI L.length) (nI F.length) (nF d) sq2 iq2 fs fi kp) 20 [(0, .ref (h 0)), (1, .int (nI k)), (2, .int (nI a))] [] := by
          intro f_
          induction f_ with
          | zero => intro a sq2 iq2 hI hm_; exact absurd hm_ (Nat.not_lt_zero _)
          | succ f_ ih20 =>
            intro a sq2 iq2 hI hm_
            have ha := hI.1
            refine sx_iload_n E dX0_sortFresh_20 rfl 2 rfl ?_
            refine sx_top (iI_n _) ?_
            refine sx_if_leI E 75 dX0_sortFresh_21 (by decide) (by omega) (fun c21 => ?_) (fun c21 => ?_)
            · have hz : a = 0 := by omega
              have hsF := hg.sd k
              refine sx_aload_n E dX0_sortFresh_75 rfl 0 rfl ?_
              refine sx_gX E rfl 4 (by decide) q43 rfl dX0_sortFresh_76 ?_
              refine sx_iload_n E dX0_sortFresh_79 rfl 2 rfl ?_
              refine sx_aload_n E dX0_sortFresh_80 rfl 0 rfl ?_
              refine sx_gX E rfl 7 (by decide) q46 rfl dX0_sortFresh_81 ?_
              refine sx_iload_n E dX0_sortFresh_84 rfl 1 rfl ?_
              refine sx_bald E 4 3 rfl rfl (by omega) (by decide) (v := (nI (sdN F k))) (hF.sd (by omega)) dX0_sortFresh_85 ?_
              refine sx_bast E 2 1 rfl rfl (by omega) (by decide) (f' := upd sq2 a (nI (sdN F k))) (by rw [narN (by omega)]) dX0_sortFresh_86 (ws' := (pX h ca cnt kn (nI L.length) (nI F.length) (nF d) (upd sq2 a (nI (sdN F k))) iq2 fs fi kp)) rfl ?_
              refine sx_aload_n E dX0_sortFresh_87 rfl 0 rfl ?_
              refine sx_gX E rfl 5 (by decide) q44 rfl dX0_sortFresh_88 ?_
              refine sx_iload_n E dX0_sortFresh_91 rfl 2 rfl ?_
              refine sx_aload_n E dX0_sortFresh_92 rfl 0 rfl ?_
              refine sx_gX E rfl 8 (by decide) q47 rfl dX0_sortFresh_93 ?_
              refine sx_iload_n E dX0_sortFresh_96 rfl 1 rfl ?_
              refine sx_iald E 5 4 rfl rfl (by omega) (by decide) (v := (nI (ixN F k))) (hF.ix (by omega)) dX0_sortFresh_97 ?_
              refine sx_iast E 3 2 rfl rfl (by omega) (by decide) (f' := upd iq2 a (nI (ixN F k))) (rfl) dX0_sortFresh_98 (ws' := (pX h ca cnt kn (nI L.length) (nI F.length) (nF d) (upd sq2 a (nI (sdN F k))) (upd iq2 a (nI (ixN F k))) fs fi kp)) rfl ?_
              refine sx_aload_n E dX0_sortFresh_99 rfl 0 rfl ?_
              refine sx_dup E dX0_sortFresh_100 rfl ?_
              refine sx_gX E rfl 3 (by decide) q42 rfl dX0_sortFresh_101 ?_
              refine sx_iconst (v := (nI 1)) E dX0_sortFresh_104 (by decide) ?_
              refine sx_iaddNN E dX0_sortFresh_105 ?_
              refine sx_top (y := (nI ((insL L a (sdN F k, ixN F k)).length))) (by rw [insL_len]) ?_
              refine sx_pX E rfl 3 (by decide) q42 rfl rfl rfl (Nat.le_of_ble_eq_true rfl) dX0_sortFresh_106 (ws' := (pX h ca cnt kn (nI ((insL L a (sdN F k, ixN F k)).length)) (nI F.length) (nF d) (upd sq2 a (nI (sdN F k))) (upd iq2 a (nI (ixN F k))) fs fi kp)) rfl ?_
              refine sx_iinc E dX0_sortFresh_109 1 rfl (v := (nI (k + 1))) (inc1 _) (by decide) (lv' := [(0, .ref (h 0)), (1, .int (nI (k + 1))), (2, .int (nI a))]) [1, 0, 2] rfl ?_
              refine sx_goto E 7 dX0_sortFresh_112 (by decide) ?_
              refine sx_lv (lv' := [(0, .ref (h 0)), (1, .int (nI (k + 1)))]) [0, 1] rfl ?_
              exact ih7 (k + 1) (insL L a (sdN F k, ixN F k)) (upd sq2 a (nI (sdN F k))) (upd iq2 a (nI (ixN F k))) (by omega) (by rw [insL_len]; omega) (insI_end hI) (insI_srt hI hs (fun b e => absurd e (by omega))) (mem_take_ins (by omega) hme) (good_ins hg hg2 (by omega)) (by omega)
            · obtain ⟨b, rfl⟩ : ∃ b, a = b + 1 := ⟨a - 1, by omega⟩
              have hsb := hg2.sd b
              have hsF := hg.sd k
              refine sx_aload_n E dX0_sortFresh_24 rfl 0 rfl ?_
              refine sx_gX E rfl 4 (by decide) q43 rfl dX0_sortFresh_25 ?_
              refine sx_iload_n E dX0_sortFresh_28 rfl 2 rfl ?_
              refine sx_iconst (v := (nI 1)) E dX0_sortFresh_29 (by decide) ?_
              refine sx_isubNM E dX0_sortFresh_30 (by omega) ?_
              refine sx_top (y := (nI b)) (rfl) ?_
              refine sx_bald E 2 1 rfl rfl (by omega) (by decide) (v := (nI (sdN L b))) (hI.sd (by omega)) dX0_sortFresh_31 ?_
              refine sx_aload_n E dX0_sortFresh_32 rfl 0 rfl ?_
              refine sx_gX E rfl 7 (by decide) q46 rfl dX0_sortFresh_33 ?_
              refine sx_iload_n E dX0_sortFresh_36 rfl 1 rfl ?_
              refine sx_bald E 4 3 rfl rfl (by omega) (by decide) (v := (nI (sdN F k))) (hF.sd (by omega)) dX0_sortFresh_37 ?_
              refine sx_icmp_leN E 75 dX0_sortFresh_38 (by decide) (by omega) (by omega) (fun c38 => ?_) (fun c38 => ?_)
              · have hsF := hg.sd k
                refine sx_aload_n E dX0_sortFresh_75 rfl 0 rfl ?_
                refine sx_gX E rfl 4 (by decide) q43 rfl dX0_sortFresh_76 ?_
                refine sx_iload_n E dX0_sortFresh_79 rfl 2 rfl ?_
                refine sx_aload_n E dX0_sortFresh_80 rfl 0 rfl ?_
                refine sx_gX E rfl 7 (by decide) q46 rfl dX0_sortFresh_81 ?_
                refine sx_iload_n E dX0_sortFresh_84 rfl 1 rfl ?_
                refine sx_bald E 4 3 rfl rfl (by omega) (by decide) (v := (nI (sdN F k))) (hF.sd (by omega)) dX0_sortFresh_85 ?_
                refine sx_bast E 2 1 rfl rfl (by omega) (by decide) (f' := upd sq2 (b + 1) (nI (sdN F k))) (by rw [narN (by omega)]) dX0_sortFresh_86 (ws' := (pX h ca cnt kn (nI L.length) (nI F.length) (nF d) (upd sq2 (b + 1) (nI (sdN F k))) iq2 fs fi kp)) rfl ?_
                refine sx_aload_n E dX0_sortFresh_87 rfl 0 rfl ?_
                refine sx_gX E rfl 5 (by decide) q44 rfl dX0_sortFresh_88 ?_
                refine sx_iload_n E dX0_sortFresh_91 rfl 2 rfl ?_
                refine sx_aload_n E dX0_sortFresh_92 rfl 0 rfl ?_
                refine sx_gX E rfl 8 (by decide) q47 rfl dX0_sortFresh_93 ?_
                refine sx_iload_n E dX0_sortFresh_96 rfl 1 rfl ?_
                refine sx_iald E 5 4 rfl rfl (by omega) (by decide) (v := (nI (ixN F k))) (hF.ix (by omega)) dX0_sortFresh_97 ?_
                refine sx_iast E 3 2 rfl rfl (by omega) (by decide) (f' := upd iq2 (b + 1) (nI (ixN F k))) (rfl) dX0_sortFresh_98 (ws' := (pX h ca cnt kn (nI L.length) (nI F.length) (nF d) (upd sq2 (b + 1) (nI (sdN F k))) (upd iq2 (b + 1) (nI (ixN F k))) fs fi kp)) rfl ?_
                refine sx_aload_n E dX0_sortFresh_99 rfl 0 rfl ?_
                refine sx_dup E dX0_sortFresh_100 rfl ?_
                refine sx_gX E rfl 3 (by decide) q42 rfl dX0_sortFresh_101 ?_
                refine sx_iconst (v := (nI 1)) E dX0_sortFresh_104 (by decide) ?_
                refine sx_iaddNN E dX0_sortFresh_105 ?_
                refine sx_top (y := (nI ((insL L (b + 1) (sdN F k, ixN F k)).length))) (by rw [insL_len]) ?_
                refine sx_pX E rfl 3 (by decide) q42 rfl rfl rfl (Nat.le_of_ble_eq_true rfl) dX0_sortFresh_106 (ws' := (pX h ca cnt kn (nI ((insL L (b + 1) (sdN F k, ixN F k)).length)) (nI F.length) (nF d) (upd sq2 (b + 1) (nI (sdN F k))) (upd iq2 (b + 1) (nI (ixN F k))) fs fi kp)) rfl ?_
                refine sx_iinc E dX0_sortFresh_109 1 rfl (v := (nI (k + 1))) (inc1 _) (by decide) (lv' := [(0, .ref (h 0)), (1, .int (nI (k + 1))), (2, .int (nI (b + 1)))]) [1, 0, 2] rfl ?_
                refine sx_goto E 7 dX0_sortFresh_112 (by decide) ?_
                refine sx_lv (lv' := [(0, .ref (h 0)), (1, .int (nI (k + 1)))]) [0, 1] rfl ?_
                exact ih7 (k + 1) (insL L (b + 1) (sdN F k, ixN F k)) (upd sq2 (b + 1) (nI (sdN F k))) (upd iq2 (b + 1) (nI (ixN F k))) (by omega) (by rw [insL_len]; omega) (insI_end hI) (insI_srt hI hs (fun b2 e => by have e2 : b = b2 := (by omega); rw [← e2]; exact sd_ne hdis hme hk (by omega) (by omega) c38)) (mem_take_ins (by omega) hme) (good_ins hg hg2 (by omega)) (by omega)
              · refine sx_aload_n E dX0_sortFresh_41 rfl 0 rfl ?_
                refine sx_gX E rfl 4 (by decide) q43 rfl dX0_sortFresh_42 ?_
                refine sx_iload_n E dX0_sortFresh_45 rfl 2 rfl ?_
                refine sx_aload_n E dX0_sortFresh_46 rfl 0 rfl ?_
                refine sx_gX E rfl 4 (by decide) q43 rfl dX0_sortFresh_47 ?_
                refine sx_iload_n E dX0_sortFresh_50 rfl 2 rfl ?_
                refine sx_iconst (v := (nI 1)) E dX0_sortFresh_51 (by decide) ?_
                refine sx_isubNM E dX0_sortFresh_52 (by omega) ?_
                refine sx_top (y := (nI b)) (rfl) ?_
                refine sx_bald E 2 1 rfl rfl (by omega) (by decide) (v := (nI (sdN L b))) (hI.sd (by omega)) dX0_sortFresh_53 ?_
                refine sx_bast E 2 1 rfl rfl (by omega) (by decide) (f' := upd sq2 (b + 1) (nI (sdN L b))) (by rw [narN (by omega)]) dX0_sortFresh_54 (ws' := (pX h ca cnt kn (nI L.length) (nI F.length) (nF d) (upd sq2 (b + 1) (nI (sdN L b))) iq2 fs fi kp)) rfl ?_
                refine sx_aload_n E dX0_sortFresh_55 rfl 0 rfl ?_
                refine sx_gX E rfl 5 (by decide) q44 rfl dX0_sortFresh_56 ?_
                refine sx_iload_n E dX0_sortFresh_59 rfl 2 rfl ?_
                refine sx_aload_n E dX0_sortFresh_60 rfl 0 rfl ?_
                refine sx_gX E rfl 5 (by decide) q44 rfl dX0_sortFresh_61 ?_
                refine sx_iload_n E dX0_sortFresh_64 rfl 2 rfl ?_
                refine sx_iconst (v := (nI 1)) E dX0_sortFresh_65 (by decide) ?_
                refine sx_isubNM E dX0_sortFresh_66 (by omega) ?_
                refine sx_top (y := (nI b)) (rfl) ?_
                refine sx_iald E 3 2 rfl rfl (by omega) (by decide) (v := (nI (ixN L b))) (hI.ix (by omega)) dX0_sortFresh_67 ?_
                refine sx_iast E 3 2 rfl rfl (by omega) (by decide) (f' := upd iq2 (b + 1) (nI (ixN L b))) (rfl) dX0_sortFresh_68 (ws' := (pX h ca cnt kn (nI L.length) (nI F.length) (nF d) (upd sq2 (b + 1) (nI (sdN L b))) (upd iq2 (b + 1) (nI (ixN L b))) fs fi kp)) rfl ?_
                refine sx_iinc E dX0_sortFresh_69 2 rfl (v := (nI b)) (dec1 _) (by decide) (lv' := [(0, .ref (h 0)), (1, .int (nI k)), (2, .int (nI b))]) [1, 2, 0] rfl ?_
                refine sx_goto E 20 dX0_sortFresh_72 (by decide) ?_
                exact ih20 b (upd sq2 (b + 1) (nI (sdN L b))) (upd iq2 (b + 1) (nI (ixN L b))) (insI_step hI c38) (by omega)
        exact L20 _ L.length sq iq (insI_0 hh _) (Nat.lt_succ_self _)
  exact L7 _ 0 [] sd ix (Nat.zero_le _) (rfl) (fun k q h => by simp at h) (List.Pairwise.nil) (fun q => by simp) (fun q h => by cases h) (Nat.lt_succ_self _)
end
section
set_option maxRecDepth 100000
set_option maxHeartbeats 4000000 in
theorem cX_addPoint (l : Launch) (D : va_G) (h : Nat → Nat) (ca : Nat → ClassId) (cnt kn fr : Int32) (d : Nat → Nat) (sd ix fs fi kp : Nat → Int32) (E0 : EL) (m : Nat) (hm : 1 ≤ m) (hm7 : m < 7) (hd : ∀ k, d k ≤ 60) (hh : hold sd ix E0) (hl : E0.length ≤ 15) (hg : good E0) (hds : (addF d m E0 E0.length).Pairwise (fun p q => p.1 ≠ q.1)) : sx_Cv l yX0_addPoint cX0_addPoint 3 rmX_addPoint D (tyX ca) [.ref (h 0), .int (nI m)] (pX h ca cnt kn (nI E0.length) fr (nF d) sd ix fs fi kp) (S := EL × (Nat → Int32) × (Nat → Int32) × EL × (Nat → Int32) × (Nat → Int32)) (fun u => pX h ca cnt kn (nI u.1.length) (nI u.2.2.2.1.length) (nF d) u.2.1 u.2.2.1 u.2.2.2.2.1 u.2.2.2.2.2 kp) (fun u => hold u.2.1 u.2.2.1 u.1 ∧ Srt u.1 ∧ ∀ q, q ∈ u.1 ↔ q ∈ addF d m E0 E0.length) := by
  refine sx_enter_v (own := RX0) (by decide) rfl (Nat.le_of_ble_eq_true rfl) (lv := [(0, .ref (h 0)), (1, .int (nI m))]) rfl ?_
  intro G E ret
  have h2m : 2 ^ m ≤ 2 ^ 6 := Nat.pow_le_pow_right (by decide) (by omega)
  have h2p : 1 ≤ 2 ^ m := Nat.one_le_two_pow
  refine sx_aload_n E dX0_addPoint_0 rfl 0 rfl ?_
  refine sx_iconst (v := (nI 0)) E dX0_addPoint_1 (by decide) ?_
  refine sx_top (y := (nI (([] : EL).length))) (rfl) ?_
  refine sx_pX E rfl 6 (by decide) q45 rfl rfl rfl (Nat.le_of_ble_eq_true rfl) dX0_addPoint_2 (ws' := (pX h ca cnt kn (nI E0.length) (nI (([] : EL).length)) (nF d) sd ix fs fi kp)) rfl ?_
  refine sx_aload_n E dX0_addPoint_5 rfl 0 rfl ?_
  refine sx_iconst (v := (nI 1)) E dX0_addPoint_6 (by decide) ?_
  refine sx_iload_n E dX0_addPoint_7 rfl 1 rfl ?_
  refine sx_shl1 E dX0_addPoint_8 (by omega) ?_
  refine sx_iconst (v := (nI 1)) E dX0_addPoint_9 (by decide) ?_
  refine sx_isubNM E dX0_addPoint_10 (h2p) ?_
  refine sx_iload_n E dX0_addPoint_11 rfl 1 rfl ?_
  refine sx_iconst (v := (nI 1)) E dX0_addPoint_12 (by decide) ?_
  refine sx_iaddNN E dX0_addPoint_13 ?_
  refine sx_callv (rest := []) E (cX_tryEdge l D h ca _ _ _ d _ _ _ _ _ ([]) ((2 ^ m) - 1) (m + 1) (by omega) (by omega) hd (hold_nil _ _) (by decide)) wX_tryEdge kX_tryEdge ⟨⟨rfl, rfl⟩, by decide, by decide⟩ rfl rfl rfl (Nat.le_of_ble_eq_true rfl) dX0_addPoint_14 (fun u14 hp14 => ?_)
  refine sx_iconst (v := (nI 0)) E dX0_addPoint_17 (by decide) ?_
  refine sx_istore_n E dX0_addPoint_18 rfl (by decide) (lv' := [(0, .ref (h 0)), (1, .int (nI m)), (2, .int (nI 0))]) [1, 2, 0] rfl ?_
  have L19 : ∀ (f_ : Nat) (k : Nat) (F : EL) (fq : Nat → Int32) (gq : Nat → Int32), (k ≤ E0.length) → (F = addF d m E0 k) → (hold fq gq F) → E0.length - k < f_ → sx_S G (pX h ca cnt kn (nI E0.length) (nI F.length) (nF d) sd ix fq gq kp) 19 [(0, .ref (h 0)), (1, .int (nI m)), (2, .int (nI k))] [] := by
    intro f_
    induction f_ with
    | zero => intro k F fq gq hk hF hhF hm_; exact absurd hm_ (Nat.not_lt_zero _)
    | succ f_ ih19 =>
      intro k F fq gq hk hF hhF hm_
      have hlF := addF_len d m E0 k
      rw [← hF] at hlF
      refine sx_iload_n E dX0_addPoint_19 rfl 2 rfl ?_
      refine sx_aload_n E dX0_addPoint_20 rfl 0 rfl ?_
      refine sx_gX E rfl 3 (by decide) q42 rfl dX0_addPoint_21 ?_
      refine sx_icmp_geN E 63 dX0_addPoint_24 (by decide) (by omega) (by omega) (fun c24 => ?_) (fun c24 => ?_)
      · obtain rfl : k = E0.length := by omega
        refine sx_aload_n E dX0_addPoint_63 rfl 0 rfl ?_
        refine sx_callv (rest := []) E (cX_sortFresh l D h ca _ _ _ d _ _ _ _ _ F hhF (by omega) (by rw [hF]; exact addF_good hd (by omega) hg _) (by rw [hF]; exact hds)) wX_sortFresh kX_sortFresh ⟨⟨rfl, rfl⟩, by decide, by decide⟩ rfl rfl rfl (Nat.le_of_ble_eq_true rfl) dX0_addPoint_64 (fun u64 hp64 => ?_)
        exact ret _ _ (u64.1, u64.2.1, u64.2.2, F, fq, gq) dX0_addPoint_67 (⟨hp64.1, hp64.2.1, fun q => by rw [hp64.2.2 q, hF]⟩)
      · refine sx_aload_n E dX0_addPoint_27 rfl 0 rfl ?_
        refine sx_aload_n E dX0_addPoint_28 rfl 0 rfl ?_
        refine sx_gX E rfl 4 (by decide) q43 rfl dX0_addPoint_29 ?_
        refine sx_iload_n E dX0_addPoint_32 rfl 2 rfl ?_
        refine sx_bald E 2 1 rfl rfl (by omega) (by decide) (v := (nI (sdN E0 k))) (hh.sd (by omega)) dX0_addPoint_33 ?_
        refine sx_iload_n E dX0_addPoint_34 rfl 1 rfl ?_
        refine sx_iconst (v := (nI 1)) E dX0_addPoint_35 (by decide) ?_
        refine sx_iaddNN E dX0_addPoint_36 ?_
        have hse := hg.sd k
        have hor := or_lt7 hse (show 2 ^ m < 128 by omega)
        refine sx_callv (rest := []) E (cX_tryEdge l D h ca _ _ _ d _ _ _ _ _ F (sdN E0 k) (m + 1) (by omega) (by omega) hd hhF (by omega)) wX_tryEdge kX_tryEdge ⟨⟨rfl, rfl⟩, by decide, by decide⟩ rfl rfl rfl (Nat.le_of_ble_eq_true rfl) dX0_addPoint_37 (fun u37 hp37 => ?_)
        refine sx_aload_n E dX0_addPoint_40 rfl 0 rfl ?_
        refine sx_aload_n E dX0_addPoint_41 rfl 0 rfl ?_
        refine sx_gX E rfl 4 (by decide) q43 rfl dX0_addPoint_42 ?_
        refine sx_iload_n E dX0_addPoint_45 rfl 2 rfl ?_
        refine sx_bald E 2 1 rfl rfl (by omega) (by decide) (v := (nI (sdN E0 k))) (hh.sd (by omega)) dX0_addPoint_46 ?_
        refine sx_iconst (v := (nI 1)) E dX0_addPoint_47 (by decide) ?_
        refine sx_iload_n E dX0_addPoint_48 rfl 1 rfl ?_
        refine sx_shl1 E dX0_addPoint_49 (by omega) ?_
        refine sx_iorNN E dX0_addPoint_50 ?_
        refine sx_iload_n E dX0_addPoint_51 rfl 1 rfl ?_
        refine sx_iconst (v := (nI 1)) E dX0_addPoint_52 (by decide) ?_
        refine sx_iaddNN E dX0_addPoint_53 ?_
        have hlt := tryF_len d (sdN E0 k) (m + 1) F
        refine sx_callv (rest := []) E (cX_tryEdge l D h ca _ _ _ d _ _ _ _ _ u37.1 ((sdN E0 k) ||| (2 ^ m)) (m + 1) (by omega) (by omega) hd hp37.2 (by rw [hp37.1]; omega)) wX_tryEdge kX_tryEdge ⟨⟨rfl, rfl⟩, by decide, by decide⟩ rfl rfl rfl (Nat.le_of_ble_eq_true rfl) dX0_addPoint_54 (fun u54 hp54 => ?_)
        refine sx_iinc E dX0_addPoint_57 2 rfl (v := (nI (k + 1))) (inc1 _) (by decide) (lv' := [(0, .ref (h 0)), (1, .int (nI m)), (2, .int (nI (k + 1)))]) [1, 2, 0] rfl ?_
        refine sx_goto E 19 dX0_addPoint_60 (by decide) ?_
        exact ih19 (k + 1) u54.1 u54.2.1 u54.2.2 (by omega) (by rw [hp54.1, hp37.1, hF]; rfl) (hp54.2) (by omega)
  exact L19 _ 0 u14.1 u14.2.1 u14.2.2 (Nat.zero_le _) (hp14.1) (hp14.2) (Nat.lt_succ_self _)

set_option maxHeartbeats 4000000 in
theorem cX_find (l : Launch) (D : va_G) (h : Nat → Nat) (ca : Nat → ClassId) (n : Nat) (b : Bool) (fnd fr : Int32) (d : Nat → Nat) (sd ix fs fi kp : Nat → Int32) (hn : n ≤ 7) (hd : ∀ k, d k ≤ 60) (hfo : FindOK d) (hk : b = true → fnd = nI (Es d n).length ∧ hold sd ix (Es d n)) : sx_Cv l yX0_find cX0_find 2 rmX_find D (tyX ca) [.ref (h 0)] (pX h ca (nI n) (bI b) fnd fr (nF d) sd ix fs fi kp) (S := Int32 × (Nat → Int32) × (Nat → Int32) × (Nat → Int32) × (Nat → Int32)) (fun u => pX h ca (nI n) (nI 1) (nI (Es d n).length) u.1 (nF d) u.2.1 u.2.2.1 u.2.2.2.1 u.2.2.2.2 kp) (fun u => hold u.2.1 u.2.2.1 (Es d n)) := by
  refine sx_enter_v (own := RX0) (by decide) rfl (Nat.le_of_ble_eq_true rfl) (lv := [(0, .ref (h 0))]) rfl ?_
  intro G E ret
  refine sx_aload_n E dX0_find_0 rfl 0 rfl ?_
  refine sx_gX E rfl 2 (by decide) q41 rfl dX0_find_1 ?_
  refine sx_if_eqB E 8 dX0_find_4 (by decide) (fun c4 => ?_) (fun c4 => ?_)
  · refine sx_aload_n E dX0_find_8 rfl 0 rfl ?_
    refine sx_iconst (v := (nI 1)) E dX0_find_9 (by decide) ?_
    refine sx_pX E rfl 2 (by decide) q41 rfl (by decide) (by decide) (Nat.le_of_ble_eq_true rfl) dX0_find_10 (ws' := (pX h ca (nI n) (nI 1) fnd fr (nF d) sd ix fs fi kp)) rfl ?_
    refine sx_aload_n E dX0_find_13 rfl 0 rfl ?_
    refine sx_iconst (v := (nI 0)) E dX0_find_14 (by decide) ?_
    refine sx_top (y := (nI ((Es d 1).length))) (rfl) ?_
    refine sx_pX E rfl 3 (by decide) q42 rfl rfl rfl (Nat.le_of_ble_eq_true rfl) dX0_find_15 (ws' := (pX h ca (nI n) (nI 1) (nI ((Es d 1).length)) fr (nF d) sd ix fs fi kp)) rfl ?_
    refine sx_iconst (v := (nI 1)) E dX0_find_18 (by decide) ?_
    refine sx_istore_n E dX0_find_19 rfl (by decide) (lv' := [(0, .ref (h 0)), (1, .int (nI 1))]) [1, 0] rfl ?_
    have L20 : ∀ (f_ : Nat) (q : Nat) (frq : Int32) (sq : Nat → Int32) (iq : Nat → Int32) (fq : Nat → Int32) (gq : Nat → Int32), (1 ≤ q) → (q ≤ n ∨ q = 1) → (hold sq iq (Es d q)) → n - q < f_ → sx_S G (pX h ca (nI n) (nI 1) (nI ((Es d q).length)) frq (nF d) sq iq fq gq kp) 20 [(0, .ref (h 0)), (1, .int (nI q))] [] := by
      intro f_
      induction f_ with
      | zero => intro q frq sq iq fq gq hq0 hq hhq hm_; exact absurd hm_ (Nat.not_lt_zero _)
      | succ f_ ih20 =>
        intro q frq sq iq fq gq hq0 hq hhq hm_
        have hq1 := hfo q (by omega)
        refine sx_iload_n E dX0_find_20 rfl 1 rfl ?_
        refine sx_aload_n E dX0_find_21 rfl 0 rfl ?_
        refine sx_gX E rfl 0 (by decide) q39 rfl dX0_find_22 ?_
        refine sx_icmp_geN E 39 dX0_find_25 (by decide) (by omega) (by omega) (fun c25 => ?_) (fun c25 => ?_)
        · have hen : Es d q = Es d n := by
            rcases hq with h9 | h9
            · rw [show q = n by omega]
            · subst h9
              rcases Nat.lt_or_ge 0 n with h8 | h8
              · rw [show n = 1 by omega]
              · rw [show n = 0 by omega, Es_1, Es_0]
          refine sx_w (ws' := (pX h ca (nI n) (nI 1) (nI ((Es d n).length)) frq (nF d) sq iq fq gq kp)) (by rw [hen]) ?_
          exact ret _ _ (frq, sq, iq, fq, gq) dX0_find_39 (by rw [← hen]; exact hhq)
        · refine sx_aload_n E dX0_find_28 rfl 0 rfl ?_
          refine sx_iload_n E dX0_find_29 rfl 1 rfl ?_
          refine sx_callv (rest := []) E (cX_addPoint l D h ca _ _ _ d _ _ _ _ _ (Es d q) q (by omega) (by omega) hd hhq hq1.1 hq1.2.1 (hq1.2.2 (by omega) (by omega)).1) wX_addPoint kX_addPoint ⟨⟨rfl, rfl⟩, by decide, by decide⟩ rfl rfl rfl (Nat.le_of_ble_eq_true rfl) dX0_find_30 (fun u30 hp30 => ?_)
          have hE2 : u30.1 = Es d (q + 1) := (hq1.2.2 (by omega) (by omega)).2 _ hp30.2.1 hp30.2.2
          refine sx_w (ws' := (pX h ca (nI n) (nI 1) (nI ((Es d (q + 1)).length)) (nI u30.2.2.2.1.length) (nF d) u30.2.1 u30.2.2.1 u30.2.2.2.2.1 u30.2.2.2.2.2 kp)) (by rw [hE2]) ?_
          have hho : hold u30.2.1 u30.2.2.1 (Es d (q + 1)) := by rw [← hE2]; exact hp30.1
          refine sx_iinc E dX0_find_33 1 rfl (v := (nI (q + 1))) (inc1 _) (by decide) (lv' := [(0, .ref (h 0)), (1, .int (nI (q + 1)))]) [1, 0] rfl ?_
          refine sx_goto E 20 dX0_find_36 (by decide) ?_
          exact ih20 (q + 1) (nI u30.2.2.2.1.length) u30.2.1 u30.2.2.1 u30.2.2.2.2.1 u30.2.2.2.2.2 (by omega) (by omega) (hho) (by omega)
    exact L20 _ 1 fr sd ix fs fi (Nat.le_refl _) (Or.inr rfl) (hold_nil _ _) (Nat.lt_succ_self _)
  · subst c4
    obtain ⟨rfl, hh⟩ := hk rfl
    exact ret _ _ (fr, sd, ix, fs, fi) dX0_find_7 (hh)

set_option maxHeartbeats 4000000 in
theorem cX_parts (l : Launch) (D : va_G) (h : Nat → Nat) (ca : Nat → ClassId) (n : Nat) (kn fr : Int32) (d : Nat → Nat) (sd ix fs fi kp : Nat → Int32) (L : EL) (hh : hold sd ix L) (hl : L.length ≤ 32) (hg : good L) (k i j : Nat) (hk : k < L.length) (hi : i < 7) (hj : j < 7) : sx_Cr l yX0_parts cX0_parts 4 .boolean rmX_parts D (tyX ca) [.ref (h 0), .int (nI k), .int (nI i), .int (nI j)] (pX h ca (nI n) kn (nI L.length) fr (nF d) sd ix fs fi kp) (bI (Nat.testBit (sdN L k) i != Nat.testBit (sdN L k) j)) := by
  refine sx_enter_i (own := RX0) (by decide) rfl (Nat.le_of_ble_eq_true rfl) (lv := [(0, .ref (h 0)), (1, .int (nI k)), (2, .int (nI i)), (3, .int (nI j))]) rfl ?_
  intro G E ret
  refine sx_aload_n E dX0_parts_0 rfl 0 rfl ?_
  refine sx_gX E rfl 4 (by decide) q43 rfl dX0_parts_1 ?_
  refine sx_iload_n E dX0_parts_4 rfl 1 rfl ?_
  refine sx_bald E 2 1 rfl rfl (by omega) (by decide) (v := (nI (sdN L k))) (hh.sd (by omega)) dX0_parts_5 ?_
  refine sx_iload_n E dX0_parts_6 rfl 2 rfl ?_
  refine sx_ishr E dX0_parts_7 ?_
  refine sx_iconst (v := (nI 1)) E dX0_parts_8 (by decide) ?_
  refine sx_bitN E dX0_parts_9 (by omega) ?_
  refine sx_aload_n E dX0_parts_10 rfl 0 rfl ?_
  refine sx_gX E rfl 4 (by decide) q43 rfl dX0_parts_11 ?_
  refine sx_iload_n E dX0_parts_14 rfl 1 rfl ?_
  refine sx_bald E 2 1 rfl rfl (by omega) (by decide) (v := (nI (sdN L k))) (hh.sd (by omega)) dX0_parts_15 ?_
  refine sx_iload_n E dX0_parts_16 rfl 3 rfl ?_
  refine sx_ishr E dX0_parts_17 ?_
  refine sx_iconst (v := (nI 1)) E dX0_parts_18 (by decide) ?_
  refine sx_bitN E dX0_parts_19 (by omega) ?_
  refine sx_icmp_eqB E 27 dX0_parts_20 (by decide) (fun c20 => ?_) (fun c20 => ?_)
  · refine sx_iconst (v := (nI 0)) E dX0_parts_27 (by decide) ?_
    exact ret _ _ _ () dX0_parts_28 (rfl) (by rw [c20]; simp; rfl)
  · refine sx_iconst (v := (nI 1)) E dX0_parts_23 (by decide) ?_
    refine sx_goto E 28 dX0_parts_24 (by decide) ?_
    exact ret _ _ _ () dX0_parts_28 (rfl) (by rw [show (Nat.testBit (sdN L k) i != Nat.testBit (sdN L k) j) = true from by simp [c20]]; rfl)

set_option maxHeartbeats 4000000 in
theorem cX_pathOf (l : Launch) (D : va_G) (h : Nat → Nat) (ca : Nat → ClassId) (n : Nat) (kn fr : Int32) (d : Nat → Nat) (sd ix fs fi kp : Nat → Int32) (L : EL) (hh : hold sd ix L) (hl : L.length ≤ 32) (hg : good L) (i j : Nat) (hi : i < 7) (hj : j < 7) : sx_Cr l yX0_pathOf cX0_pathOf 5 .int rmX_pathOf D (tyX ca) [.ref (h 0), .int (nI i), .int (nI j)] (pX h ca (nI n) kn (nI L.length) fr (nF d) sd ix fs fi kp) (nI (pathL L i j)) := by
  refine sx_enter_i (own := RX0) (by decide) rfl (Nat.le_of_ble_eq_true rfl) (lv := [(0, .ref (h 0)), (1, .int (nI i)), (2, .int (nI j))]) rfl ?_
  intro G E ret
  refine sx_iconst (v := (nI 0)) E dX0_pathOf_0 (by decide) ?_
  refine sx_istore_n E dX0_pathOf_1 rfl (by decide) (lv' := [(0, .ref (h 0)), (1, .int (nI i)), (2, .int (nI j)), (3, .int (nI 0))]) [1, 2, 3, 0] rfl ?_
  refine sx_iconst (v := (nI 0)) E dX0_pathOf_2 (by decide) ?_
  refine sx_istore E dX0_pathOf_3 (by decide) (lv' := [(0, .ref (h 0)), (1, .int (nI i)), (2, .int (nI j)), (3, .int (nI 0)), (4, .int (nI 0))]) [1, 2, 3, 4, 0] rfl ?_
  have L5 : ∀ (f_ : Nat) (k : Nat) (s : Nat), (k ≤ L.length) → (s = pthf L i j k) → L.length - k < f_ → sx_S G (pX h ca (nI n) kn (nI L.length) fr (nF d) sd ix fs fi kp) 5 [(0, .ref (h 0)), (1, .int (nI i)), (2, .int (nI j)), (3, .int (nI s)), (4, .int (nI k))] [] := by
    intro f_
    induction f_ with
    | zero => intro k s hk hs hm_; exact absurd hm_ (Nat.not_lt_zero _)
    | succ f_ ih5 =>
      intro k s hk hs hm_
      refine sx_iload E dX0_pathOf_5 4 rfl ?_
      refine sx_aload_n E dX0_pathOf_7 rfl 0 rfl ?_
      refine sx_gX E rfl 3 (by decide) q42 rfl dX0_pathOf_8 ?_
      refine sx_icmp_geN E 45 dX0_pathOf_11 (by decide) (by omega) (by omega) (fun c11 => ?_) (fun c11 => ?_)
      · obtain rfl : k = L.length := by omega
        refine sx_iload_n E dX0_pathOf_45 rfl 3 rfl ?_
        exact ret _ _ _ () dX0_pathOf_46 (rfl) (by rw [hs]; rfl)
      · refine sx_aload_n E dX0_pathOf_14 rfl 0 rfl ?_
        refine sx_iload E dX0_pathOf_15 4 rfl ?_
        refine sx_iload_n E dX0_pathOf_17 rfl 1 rfl ?_
        refine sx_iload_n E dX0_pathOf_18 rfl 2 rfl ?_
        refine sx_callr (rest := []) E (cX_parts l D h ca _ _ _ _ _ _ _ _ _ L hh (by omega) hg k i j (by omega) (by omega) (by omega)) wX_parts kX_parts ⟨⟨rfl, rfl⟩, by decide, by decide⟩ rfl rfl rfl (Nat.le_of_ble_eq_true rfl) dX0_pathOf_19 ?_
        refine sx_if_eqB E 37 dX0_pathOf_22 (by decide) (fun c22 => ?_) (fun c22 => ?_)
        · refine sx_iload_n E dX0_pathOf_37 rfl 3 rfl ?_
          refine sx_istore_n E dX0_pathOf_38 rfl (by decide) (lv' := [(0, .ref (h 0)), (1, .int (nI i)), (2, .int (nI j)), (3, .int (nI s)), (4, .int (nI k))]) [1, 2, 3, 0, 4] rfl ?_
          refine sx_iinc E dX0_pathOf_39 4 rfl (v := (nI (k + 1))) (inc1 _) (by decide) (lv' := [(0, .ref (h 0)), (1, .int (nI i)), (2, .int (nI j)), (3, .int (nI s)), (4, .int (nI (k + 1)))]) [1, 2, 3, 4, 0] rfl ?_
          refine sx_goto E 5 dX0_pathOf_42 (by decide) ?_
          exact ih5 (k + 1) s (by omega) (by rw [hs, pthf_s, if_neg (by rw [c22]; decide)]) (by omega)
        · refine sx_iload_n E dX0_pathOf_25 rfl 3 rfl ?_
          refine sx_aload_n E dX0_pathOf_26 rfl 0 rfl ?_
          refine sx_gX E rfl 5 (by decide) q44 rfl dX0_pathOf_27 ?_
          refine sx_iload E dX0_pathOf_30 4 rfl ?_
          refine sx_iald E 3 2 rfl rfl (by omega) (by decide) (v := (nI (ixN L k))) (hh.ix (by omega)) dX0_pathOf_32 ?_
          refine sx_iaddNN E dX0_pathOf_33 ?_
          refine sx_goto E 38 dX0_pathOf_34 (by decide) ?_
          refine sx_istore_n E dX0_pathOf_38 rfl (by decide) (lv' := [(0, .ref (h 0)), (1, .int (nI i)), (2, .int (nI j)), (3, .int (nI (s + (ixN L k)))), (4, .int (nI k))]) [1, 2, 3, 0, 4] rfl ?_
          refine sx_iinc E dX0_pathOf_39 4 rfl (v := (nI (k + 1))) (inc1 _) (by decide) (lv' := [(0, .ref (h 0)), (1, .int (nI i)), (2, .int (nI j)), (3, .int (nI (s + (ixN L k)))), (4, .int (nI (k + 1)))]) [1, 2, 3, 4, 0] rfl ?_
          refine sx_goto E 5 dX0_pathOf_42 (by decide) ?_
          exact ih5 (k + 1) (s + (ixN L k)) (by omega) (by rw [hs, pthf_s, if_pos c22]) (by omega)
  exact L5 _ 0 0 (Nat.zero_le _) (rfl) (Nat.lt_succ_self _)

set_option maxHeartbeats 4000000 in
theorem cX_badSplit (l : Launch) (D : va_G) (h : Nat → Nat) (ca : Nat → ClassId) (n : Nat) (kn fnd fr : Int32) (d : Nat → Nat) (sd ix fs fi kp : Nat → Int32) (hn : n ≤ 7) (z : Int) (hz : -2147483648 ≤ z ∧ z < 2147483648) : sx_Cr l yX0_badSplit cX0_badSplit 2 .boolean rmX_badSplit D (tyX ca) [.ref (h 0), .int (iI z)] (pX h ca (nI n) kn fnd fr (nF d) sd ix fs fi kp) (bI (bads n z)) := by
  refine sx_enter_i (own := RX0) (by decide) rfl (Nat.le_of_ble_eq_true rfl) (lv := [(0, .ref (h 0)), (1, .int (iI z))]) rfl ?_
  intro G E ret
  have h2n : 2 ^ n ≤ 128 := pow7 hn
  have h2p : 1 ≤ 2 ^ n := Nat.one_le_two_pow
  refine sx_aload_n E dX0_badSplit_0 rfl 0 rfl ?_
  refine sx_gX E rfl 0 (by decide) q39 rfl dX0_badSplit_1 ?_
  refine sx_iconst (v := (nI 2)) E dX0_badSplit_4 (by decide) ?_
  refine sx_icmp_ltN E 31 dX0_badSplit_5 (by decide) (by omega) (by omega) (fun c5 => ?_) (fun c5 => ?_)
  · refine sx_iconst (v := (nI 1)) E dX0_badSplit_31 (by decide) ?_
    refine sx_goto E 36 dX0_badSplit_32 (by decide) ?_
    exact ret _ _ _ () dX0_badSplit_36 (rfl) (bads_1 (by omega))
  · refine sx_iload_n E dX0_badSplit_8 rfl 1 rfl ?_
    refine sx_iconst (v := (nI 1)) E dX0_badSplit_9 (by decide) ?_
    refine sx_top (iI_n _) ?_
    refine sx_icmp_ltI E 31 dX0_badSplit_10 (by decide) (by omega) (by omega) (fun c10 => ?_) (fun c10 => ?_)
    · refine sx_iconst (v := (nI 1)) E dX0_badSplit_31 (by decide) ?_
      refine sx_goto E 36 dX0_badSplit_32 (by decide) ?_
      exact ret _ _ _ () dX0_badSplit_36 (rfl) (bads_1 (by omega))
    · obtain ⟨S, rfl⟩ : ∃ S : Nat, z = (S : Int) := ⟨z.toNat, by omega⟩
      refine sx_lve (lv' := [(0, .ref (h 0)), (1, .int (nI S))]) (by rw [iI_n S]) ?_
      refine sx_iload_n E dX0_badSplit_13 rfl 1 rfl ?_
      refine sx_iconst (v := (nI 1)) E dX0_badSplit_14 (by decide) ?_
      refine sx_aload_n E dX0_badSplit_15 rfl 0 rfl ?_
      refine sx_gX E rfl 0 (by decide) q39 rfl dX0_badSplit_16 ?_
      refine sx_shl1 E dX0_badSplit_19 (by omega) ?_
      refine sx_iconst (v := (nI 1)) E dX0_badSplit_20 (by decide) ?_
      refine sx_isubNM E dX0_badSplit_21 (h2p) ?_
      refine sx_icmp_geN E 31 dX0_badSplit_22 (by decide) (by omega) (by omega) (fun c22 => ?_) (fun c22 => ?_)
      · refine sx_iconst (v := (nI 1)) E dX0_badSplit_31 (by decide) ?_
        refine sx_goto E 36 dX0_badSplit_32 (by decide) ?_
        exact ret _ _ _ () dX0_badSplit_36 (rfl) (bads_1 (by omega))
      · refine sx_iload_n E dX0_badSplit_25 rfl 1 rfl ?_
        refine sx_iconst (v := (nI 1)) E dX0_badSplit_26 (by decide) ?_
        refine sx_iandNN E dX0_badSplit_27 ?_
        refine sx_top (y := (nI (S % 2))) (by rw [Nat.and_one_is_mod]) ?_
        refine sx_top (iI_n _) ?_
        refine sx_if_neI E 35 dX0_badSplit_28 (by decide) (by omega) (fun c28 => ?_) (fun c28 => ?_)
        · refine sx_iconst (v := (nI 0)) E dX0_badSplit_35 (by decide) ?_
          exact ret _ _ _ () dX0_badSplit_36 (rfl) (bads_0 (by omega))
        · refine sx_iconst (v := (nI 1)) E dX0_badSplit_31 (by decide) ?_
          refine sx_goto E 36 dX0_badSplit_32 (by decide) ?_
          exact ret _ _ _ () dX0_badSplit_36 (rfl) (bads_1 (by omega))

set_option maxHeartbeats 4000000 in
theorem cX_index (l : Launch) (D : va_G) (h : Nat → Nat) (ca : Nat → ClassId) (n : Nat) (kn fnd fr : Int32) (d : Nat → Nat) (sd ix fs fi kp : Nat → Int32) (hn : n ≤ 7) (hd : ∀ k, d k ≤ 60) (z : Int) (hz : -2147483648 ≤ z ∧ z < 2147483648) : sx_Cr l yX0_index cX0_index 2 .int rmX_index D (tyX ca) [.ref (h 0), .int (iI z)] (pX h ca (nI n) kn fnd fr (nF d) sd ix fs fi kp) (spIndex n d z) := by
  refine sx_enter_i (own := RX0) (by decide) rfl (Nat.le_of_ble_eq_true rfl) (lv := [(0, .ref (h 0)), (1, .int (iI z))]) rfl ?_
  intro G E ret
  refine sx_aload_n E dX0_index_0 rfl 0 rfl ?_
  refine sx_iload_n E dX0_index_1 rfl 1 rfl ?_
  refine sx_callr (rest := []) E (cX_badSplit l D h ca n _ _ _ d _ _ _ _ _ hn z (by omega)) wX_badSplit kX_badSplit ⟨⟨rfl, rfl⟩, by decide, by decide⟩ rfl rfl rfl (Nat.le_of_ble_eq_true rfl) dX0_index_2 ?_
  refine sx_if_eqB E 14 dX0_index_5 (by decide) (fun c5 => ?_) (fun c5 => ?_)
  · have c5b := bads_f c5
    have h2n : 2 ^ n ≤ 128 := pow7 hn
    obtain ⟨S, rfl⟩ : ∃ S : Nat, z = (S : Int) := ⟨z.toNat, by omega⟩
    refine sx_lve (lv' := [(0, .ref (h 0)), (1, .int (nI S))]) (by rw [iI_n S]) ?_
    refine sx_aload_n E dX0_index_14 rfl 0 rfl ?_
    refine sx_iload_n E dX0_index_15 rfl 1 rfl ?_
    refine sx_aload_n E dX0_index_16 rfl 0 rfl ?_
    refine sx_gX E rfl 0 (by decide) q39 rfl dX0_index_17 ?_
    refine sx_callr (rest := []) E (cX_indexOf l D h ca _ _ _ _ d _ _ _ _ _ S n (by omega) hd) wX_indexOf kX_indexOf ⟨⟨rfl, rfl⟩, by decide, by decide⟩ rfl rfl rfl (Nat.le_of_ble_eq_true rfl) dX0_index_20 ?_
    exact ret _ _ _ () dX0_index_23 (rfl) (by unfold spIndex; rw [if_neg (by rw [c5]; decide)]; rfl)
  · refine sx_sipush (v := (iI ((-1000)))) E dX0_index_8 (by decide) ?_
    refine sx_goto E 23 dX0_index_11 (by decide) ?_
    exact ret _ _ _ () dX0_index_23 (rfl) (by unfold spIndex; rw [if_pos c5])

set_option maxHeartbeats 4000000 in
theorem cX_agree (l : Launch) (D : va_G) (h : Nat → Nat) (ca : Nat → ClassId) (n : Nat) (kn fnd fr : Int32) (d : Nat → Nat) (sd ix fs fi kp : Nat → Int32) (hn : n ≤ 7) (S T : Nat) (hS : S < 128) (hT : T < 128) : sx_Cr l yX0_agree cX0_agree 4 .boolean rmX_agree D (tyX ca) [.ref (h 0), .int (nI S), .int (nI T)] (pX h ca (nI n) kn fnd fr (nF d) sd ix fs fi kp) (bI (agr n S T)) := by
  refine sx_enter_i (own := RX0) (by decide) rfl (Nat.le_of_ble_eq_true rfl) (lv := [(0, .ref (h 0)), (1, .int (nI S)), (2, .int (nI T))]) rfl ?_
  intro G E ret
  have h2n : 2 ^ n ≤ 128 := pow7 hn
  have h2p : 1 ≤ 2 ^ n := Nat.one_le_two_pow
  have hor := or_lt7 hS hT
  refine sx_iconst (v := (nI 1)) E dX0_agree_0 (by decide) ?_
  refine sx_aload_n E dX0_agree_1 rfl 0 rfl ?_
  refine sx_gX E rfl 0 (by decide) q39 rfl dX0_agree_2 ?_
  refine sx_shl1 E dX0_agree_5 (by omega) ?_
  refine sx_iconst (v := (nI 1)) E dX0_agree_6 (by decide) ?_
  refine sx_isubNM E dX0_agree_7 (h2p) ?_
  refine sx_istore_n E dX0_agree_8 rfl (by decide) (lv' := [(0, .ref (h 0)), (1, .int (nI S)), (2, .int (nI T)), (3, .int (nI ((2 ^ n) - 1)))]) [1, 2, 3, 0] rfl ?_
  refine sx_iload_n E dX0_agree_9 rfl 1 rfl ?_
  refine sx_iload_n E dX0_agree_10 rfl 2 rfl ?_
  refine sx_iconst (v := (iI ((-1)))) E dX0_agree_11 (by decide) ?_
  refine sx_ixor E dX0_agree_12 ?_
  refine sx_iand E dX0_agree_13 ?_
  refine sx_if_eq E 32 dX0_agree_14 (by decide) (fun c14 => ?_) (fun c14 => ?_)
  · have c14 := (andn hS hT).mp c14
    refine sx_iconst (v := (nI 1)) E dX0_agree_32 (by decide) ?_
    refine sx_goto E 37 dX0_agree_33 (by decide) ?_
    exact ret _ _ _ () dX0_agree_37 (rfl) (agr_1 (Or.inl c14))
  · have c14 : ¬ S &&& T = S := fun e => c14 ((andn hS hT).mpr e)
    refine sx_iload_n E dX0_agree_17 rfl 2 rfl ?_
    refine sx_iload_n E dX0_agree_18 rfl 1 rfl ?_
    refine sx_iconst (v := (iI ((-1)))) E dX0_agree_19 (by decide) ?_
    refine sx_ixor E dX0_agree_20 ?_
    refine sx_iand E dX0_agree_21 ?_
    refine sx_if_eq E 32 dX0_agree_22 (by decide) (fun c22 => ?_) (fun c22 => ?_)
    · have c22 := (andn hT hS).mp c22
      refine sx_iconst (v := (nI 1)) E dX0_agree_32 (by decide) ?_
      refine sx_goto E 37 dX0_agree_33 (by decide) ?_
      exact ret _ _ _ () dX0_agree_37 (rfl) (agr_1 (Or.inr (Or.inl c22)))
    · have c22 : ¬ T &&& S = T := fun e => c22 ((andn hT hS).mpr e)
      refine sx_iload_n E dX0_agree_25 rfl 1 rfl ?_
      refine sx_iload_n E dX0_agree_26 rfl 2 rfl ?_
      refine sx_iorNN E dX0_agree_27 ?_
      refine sx_iload_n E dX0_agree_28 rfl 3 rfl ?_
      refine sx_icmp_neN E 36 dX0_agree_29 (by decide) (by omega) (by omega) (fun c29 => ?_) (fun c29 => ?_)
      · refine sx_iconst (v := (nI 0)) E dX0_agree_36 (by decide) ?_
        exact ret _ _ _ () dX0_agree_37 (rfl) (agr_0 (by intro e; rcases e with e | e | e; exact c14 e; exact c22 e; exact c29 e))
      · refine sx_iconst (v := (nI 1)) E dX0_agree_32 (by decide) ?_
        refine sx_goto E 37 dX0_agree_33 (by decide) ?_
        exact ret _ _ _ () dX0_agree_37 (rfl) (agr_1 (Or.inr (Or.inr c29)))

set_option maxHeartbeats 4000000 in
theorem cX_agreesWithAll (l : Launch) (D : va_G) (h : Nat → Nat) (ca : Nat → ClassId) (n : Nat) (kn fr : Int32) (d : Nat → Nat) (sd ix fs fi kp : Nat → Int32) (L : EL) (hh : hold sd ix L) (hl : L.length ≤ 32) (hg : good L) (hn : n ≤ 7) (S : Nat) (hS : S < 128) : sx_Cr l yX0_agreesWithAll cX0_agreesWithAll 4 .boolean rmX_agreesWithAll D (tyX ca) [.ref (h 0), .int (nI S)] (pX h ca (nI n) kn (nI L.length) fr (nF d) sd ix fs fi kp) (bI (agf L n S L.length)) := by
  refine sx_enter_i (own := RX0) (by decide) rfl (Nat.le_of_ble_eq_true rfl) (lv := [(0, .ref (h 0)), (1, .int (nI S))]) rfl ?_
  intro G E ret
  refine sx_iconst (v := (bI true)) E dX0_agreesWithAll_0 (by decide) ?_
  refine sx_istore_n E dX0_agreesWithAll_1 rfl (by decide) (lv' := [(0, .ref (h 0)), (1, .int (nI S)), (2, .int (bI true))]) [1, 2, 0] rfl ?_
  refine sx_iconst (v := (nI 0)) E dX0_agreesWithAll_2 (by decide) ?_
  refine sx_istore_n E dX0_agreesWithAll_3 rfl (by decide) (lv' := [(0, .ref (h 0)), (1, .int (nI S)), (2, .int (bI true)), (3, .int (nI 0))]) [1, 2, 3, 0] rfl ?_
  have L4 : ∀ (f_ : Nat) (k : Nat) (al : Bool), (k ≤ L.length) → (al = agf L n S k) → L.length - k < f_ → sx_S G (pX h ca (nI n) kn (nI L.length) fr (nF d) sd ix fs fi kp) 4 [(0, .ref (h 0)), (1, .int (nI S)), (2, .int (bI al)), (3, .int (nI k))] [] := by
    intro f_
    induction f_ with
    | zero => intro k al hk ha hm_; exact absurd hm_ (Nat.not_lt_zero _)
    | succ f_ ih4 =>
      intro k al hk ha hm_
      refine sx_iload_n E dX0_agreesWithAll_4 rfl 3 rfl ?_
      refine sx_aload_n E dX0_agreesWithAll_5 rfl 0 rfl ?_
      refine sx_gX E rfl 3 (by decide) q42 rfl dX0_agreesWithAll_6 ?_
      refine sx_icmp_geN E 34 dX0_agreesWithAll_9 (by decide) (by omega) (by omega) (fun c9 => ?_) (fun c9 => ?_)
      · obtain rfl : k = L.length := by omega
        refine sx_iload_n E dX0_agreesWithAll_34 rfl 2 rfl ?_
        exact ret _ _ _ () dX0_agreesWithAll_35 (narB _) (by rw [ha])
      · refine sx_iload_n E dX0_agreesWithAll_12 rfl 2 rfl ?_
        refine sx_if_eqB E 34 dX0_agreesWithAll_13 (by decide) (fun c13 => ?_) (fun c13 => ?_)
        · refine sx_iload_n E dX0_agreesWithAll_34 rfl 2 rfl ?_
          exact ret _ _ _ () dX0_agreesWithAll_35 (narB _) (by rw [c13] at ha ⊢; rw [agf_stop' ha.symm hk])
        · refine sx_aload_n E dX0_agreesWithAll_16 rfl 0 rfl ?_
          refine sx_iload_n E dX0_agreesWithAll_17 rfl 1 rfl ?_
          refine sx_aload_n E dX0_agreesWithAll_18 rfl 0 rfl ?_
          refine sx_gX E rfl 4 (by decide) q43 rfl dX0_agreesWithAll_19 ?_
          refine sx_iload_n E dX0_agreesWithAll_22 rfl 3 rfl ?_
          refine sx_bald E 2 1 rfl rfl (by omega) (by decide) (v := (nI (sdN L k))) (hh.sd (by omega)) dX0_agreesWithAll_23 ?_
          refine sx_callr (rest := []) E (cX_agree l D h ca n _ _ _ d _ _ _ _ _ hn S (sdN L k) (by omega) (hg.sd _)) wX_agree kX_agree ⟨⟨rfl, rfl⟩, by decide, by decide⟩ rfl rfl rfl (Nat.le_of_ble_eq_true rfl) dX0_agreesWithAll_24 ?_
          refine sx_istore_n E dX0_agreesWithAll_27 rfl (by decide) (lv' := [(0, .ref (h 0)), (1, .int (nI S)), (2, .int (bI (agr n S (sdN L k)))), (3, .int (nI k))]) [1, 2, 0, 3] rfl ?_
          refine sx_iinc E dX0_agreesWithAll_28 3 rfl (v := (nI (k + 1))) (inc1 _) (by decide) (lv' := [(0, .ref (h 0)), (1, .int (nI S)), (2, .int (bI (agr n S (sdN L k)))), (3, .int (nI (k + 1)))]) [1, 2, 3, 0] rfl ?_
          refine sx_goto E 4 dX0_agreesWithAll_31 (by decide) ?_
          exact ih4 (k + 1) (agr n S (sdN L k)) (by omega) (by unfold agf; rw [← ha, c13, Bool.true_and]) (by omega)
  exact L4 _ 0 true (Nat.zero_le _) (rfl) (Nat.lt_succ_self _)

set_option maxHeartbeats 4000000 in
theorem cX_above (l : Launch) (D : va_G) (h : Nat → Nat) (ca : Nat → ClassId) (n : Nat) (kn fr : Int32) (d : Nat → Nat) (sd ix fs fi kp : Nat → Int32) (L : EL) (hh : hold sd ix L) (hl : L.length ≤ 32) (hg : good L) (k : Nat) (hk : k < L.length) : sx_Cr l yX0_above cX0_above 5 .int rmX_above D (tyX ca) [.ref (h 0), .int (nI k)] (pX h ca (nI n) kn (nI L.length) fr (nF d) sd ix fs fi kp) (iI (abv L k L.length)) := by
  refine sx_enter_i (own := RX0) (by decide) rfl (Nat.le_of_ble_eq_true rfl) (lv := [(0, .ref (h 0)), (1, .int (nI k))]) rfl ?_
  intro G E ret
  refine sx_iconst (v := (iI ((-1)))) E dX0_above_0 (by decide) ?_
  refine sx_istore_n E dX0_above_1 rfl (by decide) (lv' := [(0, .ref (h 0)), (1, .int (nI k)), (2, .int (iI ((-1))))]) [1, 2, 0] rfl ?_
  refine sx_iconst (v := (nI 0)) E dX0_above_2 (by decide) ?_
  refine sx_istore_n E dX0_above_3 rfl (by decide) (lv' := [(0, .ref (h 0)), (1, .int (nI k)), (2, .int (iI ((-1)))), (3, .int (nI 0))]) [1, 2, 3, 0] rfl ?_
  have L4 : ∀ (f_ : Nat) (q : Nat) (m : Int), (q ≤ L.length) → (m = abv L k q) → L.length - q < f_ → sx_S G (pX h ca (nI n) kn (nI L.length) fr (nF d) sd ix fs fi kp) 4 [(0, .ref (h 0)), (1, .int (nI k)), (2, .int (iI m)), (3, .int (nI q))] [] := by
    intro f_
    induction f_ with
    | zero => intro q m hq hm hm_; exact absurd hm_ (Nat.not_lt_zero _)
    | succ f_ ih4 =>
      intro q m hq hm hm_
      have hb_ := abv_bd L k q
      rw [← hm] at hb_
      refine sx_iload_n E dX0_above_4 rfl 3 rfl ?_
      refine sx_aload_n E dX0_above_5 rfl 0 rfl ?_
      refine sx_gX E rfl 3 (by decide) q42 rfl dX0_above_6 ?_
      refine sx_icmp_geN E 81 dX0_above_9 (by decide) (by omega) (by omega) (fun c9 => ?_) (fun c9 => ?_)
      · obtain rfl : q = L.length := by omega
        refine sx_iload_n E dX0_above_81 rfl 2 rfl ?_
        exact ret _ _ _ () dX0_above_82 (rfl) (by rw [hm])
      · refine sx_iload_n E dX0_above_12 rfl 3 rfl ?_
        refine sx_iload_n E dX0_above_13 rfl 1 rfl ?_
        refine sx_icmp_eqN E 39 dX0_above_14 (by decide) (by omega) (by omega) (fun c14 => ?_) (fun c14 => ?_)
        · refine sx_iconst (v := (bI false)) E dX0_above_39 (by decide) ?_
          refine sx_istore E dX0_above_40 (by decide) (lv' := [(0, .ref (h 0)), (1, .int (nI k)), (2, .int (iI m)), (3, .int (nI q)), (4, .int (bI false))]) [1, 2, 3, 4, 0] rfl ?_
          refine sx_iload E dX0_above_42 4 rfl ?_
          refine sx_if_eqB E 73 dX0_above_44 (by decide) (fun c44 => ?_) (fun c44 => ?_)
          · refine sx_iload_n E dX0_above_73 rfl 2 rfl ?_
            refine sx_istore_n E dX0_above_74 rfl (by decide) (lv' := [(0, .ref (h 0)), (1, .int (nI k)), (2, .int (iI m)), (3, .int (nI q)), (4, .int (bI false))]) [1, 2, 0, 3, 4] rfl ?_
            refine sx_iinc E dX0_above_75 3 rfl (v := (nI (q + 1))) (inc1 _) (by decide) (lv' := [(0, .ref (h 0)), (1, .int (nI k)), (2, .int (iI m)), (3, .int (nI (q + 1))), (4, .int (bI false))]) [1, 2, 3, 0, 4] rfl ?_
            refine sx_goto E 4 dX0_above_78 (by decide) ?_
            refine sx_lv (lv' := [(0, .ref (h 0)), (1, .int (nI k)), (2, .int (iI m)), (3, .int (nI (q + 1)))]) [0, 1, 2, 3] rfl ?_
            exact ih4 (q + 1) m (by omega) (by rw [hm] at *; rw [abv_s, if_neg (fun e => e.1.1 c14)]) (by omega)
          · exact absurd c44 (by decide)
        · refine sx_aload_n E dX0_above_17 rfl 0 rfl ?_
          refine sx_gX E rfl 4 (by decide) q43 rfl dX0_above_18 ?_
          refine sx_iload_n E dX0_above_21 rfl 3 rfl ?_
          refine sx_bald E 2 1 rfl rfl (by omega) (by decide) (v := (nI (sdN L q))) (hh.sd (by omega)) dX0_above_22 ?_
          refine sx_aload_n E dX0_above_23 rfl 0 rfl ?_
          refine sx_gX E rfl 4 (by decide) q43 rfl dX0_above_24 ?_
          refine sx_iload_n E dX0_above_27 rfl 1 rfl ?_
          refine sx_bald E 2 1 rfl rfl (by omega) (by decide) (v := (nI (sdN L k))) (hh.sd (by omega)) dX0_above_28 ?_
          refine sx_iconst (v := (iI ((-1)))) E dX0_above_29 (by decide) ?_
          refine sx_ixor E dX0_above_30 ?_
          refine sx_iand E dX0_above_31 ?_
          refine sx_if_ne E 39 dX0_above_32 (by decide) (fun c32 => ?_) (fun c32 => ?_)
          · have c32 := fun e => c32 ((andn (hg.sd _) (hg.sd _)).mpr e)
            refine sx_iconst (v := (bI false)) E dX0_above_39 (by decide) ?_
            refine sx_istore E dX0_above_40 (by decide) (lv' := [(0, .ref (h 0)), (1, .int (nI k)), (2, .int (iI m)), (3, .int (nI q)), (4, .int (bI false))]) [1, 2, 3, 4, 0] rfl ?_
            refine sx_iload E dX0_above_42 4 rfl ?_
            refine sx_if_eqB E 73 dX0_above_44 (by decide) (fun c44 => ?_) (fun c44 => ?_)
            · refine sx_iload_n E dX0_above_73 rfl 2 rfl ?_
              refine sx_istore_n E dX0_above_74 rfl (by decide) (lv' := [(0, .ref (h 0)), (1, .int (nI k)), (2, .int (iI m)), (3, .int (nI q)), (4, .int (bI false))]) [1, 2, 0, 3, 4] rfl ?_
              refine sx_iinc E dX0_above_75 3 rfl (v := (nI (q + 1))) (inc1 _) (by decide) (lv' := [(0, .ref (h 0)), (1, .int (nI k)), (2, .int (iI m)), (3, .int (nI (q + 1))), (4, .int (bI false))]) [1, 2, 3, 0, 4] rfl ?_
              refine sx_goto E 4 dX0_above_78 (by decide) ?_
              refine sx_lv (lv' := [(0, .ref (h 0)), (1, .int (nI k)), (2, .int (iI m)), (3, .int (nI (q + 1)))]) [0, 1, 2, 3] rfl ?_
              exact ih4 (q + 1) m (by omega) (by rw [hm] at *; rw [abv_s, if_neg (fun e => c32 e.1.2)]) (by omega)
            · exact absurd c44 (by decide)
          · have c32 := (andn (hg.sd _) (hg.sd _)).mp c32
            refine sx_iconst (v := (bI true)) E dX0_above_35 (by decide) ?_
            refine sx_goto E 40 dX0_above_36 (by decide) ?_
            refine sx_istore E dX0_above_40 (by decide) (lv' := [(0, .ref (h 0)), (1, .int (nI k)), (2, .int (iI m)), (3, .int (nI q)), (4, .int (bI true))]) [1, 2, 3, 4, 0] rfl ?_
            refine sx_iload E dX0_above_42 4 rfl ?_
            refine sx_if_eqB E 73 dX0_above_44 (by decide) (fun c44 => ?_) (fun c44 => ?_)
            · exact absurd c44 (by decide)
            · refine sx_iload_n E dX0_above_47 rfl 2 rfl ?_
              refine sx_if_ltI E 69 dX0_above_48 (by decide) (by omega) (fun c48 => ?_) (fun c48 => ?_)
              · refine sx_iload_n E dX0_above_69 rfl 3 rfl ?_
                refine sx_goto E 74 dX0_above_70 (by decide) ?_
                refine sx_top (y := (iI (((q : Nat) : Int)))) (iI_n _) ?_
                refine sx_istore_n E dX0_above_74 rfl (by decide) (lv' := [(0, .ref (h 0)), (1, .int (nI k)), (2, .int (iI (((q : Nat) : Int)))), (3, .int (nI q)), (4, .int (bI true))]) [1, 2, 0, 3, 4] rfl ?_
                refine sx_iinc E dX0_above_75 3 rfl (v := (nI (q + 1))) (inc1 _) (by decide) (lv' := [(0, .ref (h 0)), (1, .int (nI k)), (2, .int (iI (((q : Nat) : Int)))), (3, .int (nI (q + 1))), (4, .int (bI true))]) [1, 2, 3, 0, 4] rfl ?_
                refine sx_goto E 4 dX0_above_78 (by decide) ?_
                refine sx_lv (lv' := [(0, .ref (h 0)), (1, .int (nI k)), (2, .int (iI (((q : Nat) : Int)))), (3, .int (nI (q + 1)))]) [0, 1, 2, 3] rfl ?_
                exact ih4 (q + 1) (((q : Nat) : Int)) (by omega) (by rw [hm] at c48; rw [abv_s, if_pos ⟨⟨c14, c32⟩, Or.inl c48⟩]) (by omega)
              · refine sx_aload_n E dX0_above_51 rfl 0 rfl ?_
                refine sx_gX E rfl 4 (by decide) q43 rfl dX0_above_52 ?_
                refine sx_iload_n E dX0_above_55 rfl 2 rfl ?_
                refine sx_top (y := (nI m.toNat)) (iI_toNat c48) ?_
                refine sx_bald E 2 1 rfl rfl (by omega) (by decide) (v := (nI (sdN L m.toNat))) (hh.sd (by omega)) dX0_above_56 ?_
                refine sx_aload_n E dX0_above_57 rfl 0 rfl ?_
                refine sx_gX E rfl 4 (by decide) q43 rfl dX0_above_58 ?_
                refine sx_iload_n E dX0_above_61 rfl 3 rfl ?_
                refine sx_bald E 2 1 rfl rfl (by omega) (by decide) (v := (nI (sdN L q))) (hh.sd (by omega)) dX0_above_62 ?_
                refine sx_iconst (v := (iI ((-1)))) E dX0_above_63 (by decide) ?_
                refine sx_ixor E dX0_above_64 ?_
                refine sx_iand E dX0_above_65 ?_
                refine sx_if_ne E 73 dX0_above_66 (by decide) (fun c66 => ?_) (fun c66 => ?_)
                · have c66 := fun e => c66 ((andn (hg.sd _) (hg.sd _)).mpr e)
                  refine sx_iload_n E dX0_above_73 rfl 2 rfl ?_
                  refine sx_istore_n E dX0_above_74 rfl (by decide) (lv' := [(0, .ref (h 0)), (1, .int (nI k)), (2, .int (iI m)), (3, .int (nI q)), (4, .int (bI true))]) [1, 2, 0, 3, 4] rfl ?_
                  refine sx_iinc E dX0_above_75 3 rfl (v := (nI (q + 1))) (inc1 _) (by decide) (lv' := [(0, .ref (h 0)), (1, .int (nI k)), (2, .int (iI m)), (3, .int (nI (q + 1))), (4, .int (bI true))]) [1, 2, 3, 0, 4] rfl ?_
                  refine sx_goto E 4 dX0_above_78 (by decide) ?_
                  refine sx_lv (lv' := [(0, .ref (h 0)), (1, .int (nI k)), (2, .int (iI m)), (3, .int (nI (q + 1)))]) [0, 1, 2, 3] rfl ?_
                  exact ih4 (q + 1) m (by omega) (by rw [hm] at *; rw [abv_s, if_neg (fun e => by rcases e.2 with e3 | e3; omega; exact c66 e3)]) (by omega)
                · have c66 := (andn (hg.sd _) (hg.sd _)).mp c66
                  refine sx_iload_n E dX0_above_69 rfl 3 rfl ?_
                  refine sx_goto E 74 dX0_above_70 (by decide) ?_
                  refine sx_top (y := (iI (((q : Nat) : Int)))) (iI_n _) ?_
                  refine sx_istore_n E dX0_above_74 rfl (by decide) (lv' := [(0, .ref (h 0)), (1, .int (nI k)), (2, .int (iI (((q : Nat) : Int)))), (3, .int (nI q)), (4, .int (bI true))]) [1, 2, 0, 3, 4] rfl ?_
                  refine sx_iinc E dX0_above_75 3 rfl (v := (nI (q + 1))) (inc1 _) (by decide) (lv' := [(0, .ref (h 0)), (1, .int (nI k)), (2, .int (iI (((q : Nat) : Int)))), (3, .int (nI (q + 1))), (4, .int (bI true))]) [1, 2, 3, 0, 4] rfl ?_
                  refine sx_goto E 4 dX0_above_78 (by decide) ?_
                  refine sx_lv (lv' := [(0, .ref (h 0)), (1, .int (nI k)), (2, .int (iI (((q : Nat) : Int)))), (3, .int (nI (q + 1)))]) [0, 1, 2, 3] rfl ?_
                  exact ih4 (q + 1) (((q : Nat) : Int)) (by omega) (by rw [hm] at c66; rw [abv_s, if_pos ⟨⟨c14, c32⟩, Or.inr c66⟩]) (by omega)
  exact L4 _ 0 ((-1)) (Nat.zero_le _) (rfl) (Nat.lt_succ_self _)

set_option maxHeartbeats 4000000 in
theorem cX_homeOf (l : Launch) (D : va_G) (h : Nat → Nat) (ca : Nat → ClassId) (n : Nat) (kn fr : Int32) (d : Nat → Nat) (sd ix fs fi kp : Nat → Int32) (L : EL) (hh : hold sd ix L) (hl : L.length ≤ 32) (hg : good L) (i : Nat) (hi : i < 7) : sx_Cr l yX0_homeOf cX0_homeOf 5 .int rmX_homeOf D (tyX ca) [.ref (h 0), .int (nI i)] (pX h ca (nI n) kn (nI L.length) fr (nF d) sd ix fs fi kp) (iI (hom L i L.length)) := by
  refine sx_enter_i (own := RX0) (by decide) rfl (Nat.le_of_ble_eq_true rfl) (lv := [(0, .ref (h 0)), (1, .int (nI i))]) rfl ?_
  intro G E ret
  refine sx_iconst (v := (iI ((-1)))) E dX0_homeOf_0 (by decide) ?_
  refine sx_istore_n E dX0_homeOf_1 rfl (by decide) (lv' := [(0, .ref (h 0)), (1, .int (nI i)), (2, .int (iI ((-1))))]) [1, 2, 0] rfl ?_
  refine sx_iconst (v := (nI 0)) E dX0_homeOf_2 (by decide) ?_
  refine sx_istore_n E dX0_homeOf_3 rfl (by decide) (lv' := [(0, .ref (h 0)), (1, .int (nI i)), (2, .int (iI ((-1)))), (3, .int (nI 0))]) [1, 2, 3, 0] rfl ?_
  have L4 : ∀ (f_ : Nat) (q : Nat) (m : Int), (q ≤ L.length) → (m = hom L i q) → L.length - q < f_ → sx_S G (pX h ca (nI n) kn (nI L.length) fr (nF d) sd ix fs fi kp) 4 [(0, .ref (h 0)), (1, .int (nI i)), (2, .int (iI m)), (3, .int (nI q))] [] := by
    intro f_
    induction f_ with
    | zero => intro q m hq hm hm_; exact absurd hm_ (Nat.not_lt_zero _)
    | succ f_ ih4 =>
      intro q m hq hm hm_
      have hb_ := hom_bd L i q
      rw [← hm] at hb_
      refine sx_iload_n E dX0_homeOf_4 rfl 3 rfl ?_
      refine sx_aload_n E dX0_homeOf_5 rfl 0 rfl ?_
      refine sx_gX E rfl 3 (by decide) q42 rfl dX0_homeOf_6 ?_
      refine sx_icmp_geN E 71 dX0_homeOf_9 (by decide) (by omega) (by omega) (fun c9 => ?_) (fun c9 => ?_)
      · obtain rfl : q = L.length := by omega
        refine sx_iload_n E dX0_homeOf_71 rfl 2 rfl ?_
        exact ret _ _ _ () dX0_homeOf_72 (rfl) (by rw [hm])
      · refine sx_aload_n E dX0_homeOf_12 rfl 0 rfl ?_
        refine sx_gX E rfl 4 (by decide) q43 rfl dX0_homeOf_13 ?_
        refine sx_iload_n E dX0_homeOf_16 rfl 3 rfl ?_
        refine sx_bald E 2 1 rfl rfl (by omega) (by decide) (v := (nI (sdN L q))) (hh.sd (by omega)) dX0_homeOf_17 ?_
        refine sx_iload_n E dX0_homeOf_18 rfl 1 rfl ?_
        refine sx_ishr E dX0_homeOf_19 ?_
        refine sx_iconst (v := (nI 1)) E dX0_homeOf_20 (by decide) ?_
        refine sx_bitN E dX0_homeOf_21 (by omega) ?_
        refine sx_if_neB E 29 dX0_homeOf_22 (by decide) (fun c22 => ?_) (fun c22 => ?_)
        · refine sx_iconst (v := (bI false)) E dX0_homeOf_29 (by decide) ?_
          refine sx_istore E dX0_homeOf_30 (by decide) (lv' := [(0, .ref (h 0)), (1, .int (nI i)), (2, .int (iI m)), (3, .int (nI q)), (4, .int (bI false))]) [1, 2, 3, 4, 0] rfl ?_
          refine sx_iload E dX0_homeOf_32 4 rfl ?_
          refine sx_if_eqB E 63 dX0_homeOf_34 (by decide) (fun c34 => ?_) (fun c34 => ?_)
          · refine sx_iload_n E dX0_homeOf_63 rfl 2 rfl ?_
            refine sx_istore_n E dX0_homeOf_64 rfl (by decide) (lv' := [(0, .ref (h 0)), (1, .int (nI i)), (2, .int (iI m)), (3, .int (nI q)), (4, .int (bI false))]) [1, 2, 0, 3, 4] rfl ?_
            refine sx_iinc E dX0_homeOf_65 3 rfl (v := (nI (q + 1))) (inc1 _) (by decide) (lv' := [(0, .ref (h 0)), (1, .int (nI i)), (2, .int (iI m)), (3, .int (nI (q + 1))), (4, .int (bI false))]) [1, 2, 3, 0, 4] rfl ?_
            refine sx_goto E 4 dX0_homeOf_68 (by decide) ?_
            refine sx_lv (lv' := [(0, .ref (h 0)), (1, .int (nI i)), (2, .int (iI m)), (3, .int (nI (q + 1)))]) [0, 1, 2, 3] rfl ?_
            exact ih4 (q + 1) m (by omega) (by rw [hm] at *; rw [hom_s, if_neg (fun e => by rw [c22] at e; exact absurd e.1 (by decide))]) (by omega)
          · exact absurd c34 (by decide)
        · refine sx_iconst (v := (bI true)) E dX0_homeOf_25 (by decide) ?_
          refine sx_goto E 30 dX0_homeOf_26 (by decide) ?_
          refine sx_istore E dX0_homeOf_30 (by decide) (lv' := [(0, .ref (h 0)), (1, .int (nI i)), (2, .int (iI m)), (3, .int (nI q)), (4, .int (bI true))]) [1, 2, 3, 4, 0] rfl ?_
          refine sx_iload E dX0_homeOf_32 4 rfl ?_
          refine sx_if_eqB E 63 dX0_homeOf_34 (by decide) (fun c34 => ?_) (fun c34 => ?_)
          · exact absurd c34 (by decide)
          · refine sx_iload_n E dX0_homeOf_37 rfl 2 rfl ?_
            refine sx_if_ltI E 59 dX0_homeOf_38 (by decide) (by omega) (fun c38 => ?_) (fun c38 => ?_)
            · refine sx_iload_n E dX0_homeOf_59 rfl 3 rfl ?_
              refine sx_goto E 64 dX0_homeOf_60 (by decide) ?_
              refine sx_top (y := (iI (((q : Nat) : Int)))) (iI_n _) ?_
              refine sx_istore_n E dX0_homeOf_64 rfl (by decide) (lv' := [(0, .ref (h 0)), (1, .int (nI i)), (2, .int (iI (((q : Nat) : Int)))), (3, .int (nI q)), (4, .int (bI true))]) [1, 2, 0, 3, 4] rfl ?_
              refine sx_iinc E dX0_homeOf_65 3 rfl (v := (nI (q + 1))) (inc1 _) (by decide) (lv' := [(0, .ref (h 0)), (1, .int (nI i)), (2, .int (iI (((q : Nat) : Int)))), (3, .int (nI (q + 1))), (4, .int (bI true))]) [1, 2, 3, 0, 4] rfl ?_
              refine sx_goto E 4 dX0_homeOf_68 (by decide) ?_
              refine sx_lv (lv' := [(0, .ref (h 0)), (1, .int (nI i)), (2, .int (iI (((q : Nat) : Int)))), (3, .int (nI (q + 1)))]) [0, 1, 2, 3] rfl ?_
              exact ih4 (q + 1) (((q : Nat) : Int)) (by omega) (by rw [hm] at c38; rw [hom_s, if_pos ⟨c22, Or.inl c38⟩]) (by omega)
            · refine sx_aload_n E dX0_homeOf_41 rfl 0 rfl ?_
              refine sx_gX E rfl 4 (by decide) q43 rfl dX0_homeOf_42 ?_
              refine sx_iload_n E dX0_homeOf_45 rfl 2 rfl ?_
              refine sx_top (y := (nI m.toNat)) (iI_toNat c38) ?_
              refine sx_bald E 2 1 rfl rfl (by omega) (by decide) (v := (nI (sdN L m.toNat))) (hh.sd (by omega)) dX0_homeOf_46 ?_
              refine sx_aload_n E dX0_homeOf_47 rfl 0 rfl ?_
              refine sx_gX E rfl 4 (by decide) q43 rfl dX0_homeOf_48 ?_
              refine sx_iload_n E dX0_homeOf_51 rfl 3 rfl ?_
              refine sx_bald E 2 1 rfl rfl (by omega) (by decide) (v := (nI (sdN L q))) (hh.sd (by omega)) dX0_homeOf_52 ?_
              refine sx_iconst (v := (iI ((-1)))) E dX0_homeOf_53 (by decide) ?_
              refine sx_ixor E dX0_homeOf_54 ?_
              refine sx_iand E dX0_homeOf_55 ?_
              refine sx_if_ne E 63 dX0_homeOf_56 (by decide) (fun c56 => ?_) (fun c56 => ?_)
              · have c56 := fun e => c56 ((andn (hg.sd _) (hg.sd _)).mpr e)
                refine sx_iload_n E dX0_homeOf_63 rfl 2 rfl ?_
                refine sx_istore_n E dX0_homeOf_64 rfl (by decide) (lv' := [(0, .ref (h 0)), (1, .int (nI i)), (2, .int (iI m)), (3, .int (nI q)), (4, .int (bI true))]) [1, 2, 0, 3, 4] rfl ?_
                refine sx_iinc E dX0_homeOf_65 3 rfl (v := (nI (q + 1))) (inc1 _) (by decide) (lv' := [(0, .ref (h 0)), (1, .int (nI i)), (2, .int (iI m)), (3, .int (nI (q + 1))), (4, .int (bI true))]) [1, 2, 3, 0, 4] rfl ?_
                refine sx_goto E 4 dX0_homeOf_68 (by decide) ?_
                refine sx_lv (lv' := [(0, .ref (h 0)), (1, .int (nI i)), (2, .int (iI m)), (3, .int (nI (q + 1)))]) [0, 1, 2, 3] rfl ?_
                exact ih4 (q + 1) m (by omega) (by rw [hm] at *; rw [hom_s, if_neg (fun e => by rcases e.2 with e3 | e3; omega; exact c56 e3)]) (by omega)
              · have c56 := (andn (hg.sd _) (hg.sd _)).mp c56
                refine sx_iload_n E dX0_homeOf_59 rfl 3 rfl ?_
                refine sx_goto E 64 dX0_homeOf_60 (by decide) ?_
                refine sx_top (y := (iI (((q : Nat) : Int)))) (iI_n _) ?_
                refine sx_istore_n E dX0_homeOf_64 rfl (by decide) (lv' := [(0, .ref (h 0)), (1, .int (nI i)), (2, .int (iI (((q : Nat) : Int)))), (3, .int (nI q)), (4, .int (bI true))]) [1, 2, 0, 3, 4] rfl ?_
                refine sx_iinc E dX0_homeOf_65 3 rfl (v := (nI (q + 1))) (inc1 _) (by decide) (lv' := [(0, .ref (h 0)), (1, .int (nI i)), (2, .int (iI (((q : Nat) : Int)))), (3, .int (nI (q + 1))), (4, .int (bI true))]) [1, 2, 3, 0, 4] rfl ?_
                refine sx_goto E 4 dX0_homeOf_68 (by decide) ?_
                refine sx_lv (lv' := [(0, .ref (h 0)), (1, .int (nI i)), (2, .int (iI (((q : Nat) : Int)))), (3, .int (nI (q + 1)))]) [0, 1, 2, 3] rfl ?_
                exact ih4 (q + 1) (((q : Nat) : Int)) (by omega) (by rw [hm] at c56; rw [hom_s, if_pos ⟨c22, Or.inr c56⟩]) (by omega)
  exact L4 _ 0 ((-1)) (Nat.zero_le _) (rfl) (Nat.lt_succ_self _)

set_option maxHeartbeats 4000000 in
theorem cX_partsAt (l : Launch) (D : va_G) (h : Nat → Nat) (ca : Nat → ClassId) (n : Nat) (kn fr : Int32) (d : Nat → Nat) (sd ix fs fi kp : Nat → Int32) (L : EL) (hh : hold sd ix L) (hl : L.length ≤ 32) (hg : good L) (hn : n ≤ 7) (k : Int) (hk1 : -1 ≤ k) (hk2 : k < L.length) : sx_Cr l yX0_partsAt cX0_partsAt 5 .int rmX_partsAt D (tyX ca) [.ref (h 0), .int (iI k)] (pX h ca (nI n) kn (nI L.length) fr (nF d) sd ix fs fi kp) (nI (prA L n k)) := by
  refine sx_enter_i (own := RX0) (by decide) rfl (Nat.le_of_ble_eq_true rfl) (lv := [(0, .ref (h 0)), (1, .int (iI k))]) rfl ?_
  intro G E ret
  refine sx_iload_n E dX0_partsAt_0 rfl 1 rfl ?_
  refine sx_if_geI E 8 dX0_partsAt_1 (by decide) (by omega) (fun c1 => ?_) (fun c1 => ?_)
  · refine sx_iconst (v := (nI 1)) E dX0_partsAt_8 (by decide) ?_
    obtain ⟨c0, hc0⟩ : ∃ c0 : Nat, c0 = 1 := ⟨_, rfl⟩
    refine sx_top (y := nI c0) (by rw [hc0]) ?_
    have hc1 : c0 = if k < 0 then 0 else 1 := by rw [hc0]; rw [if_neg (by omega)]
    refine sx_istore_n E dX0_partsAt_9 rfl (by decide) (lv' := [(0, .ref (h 0)), (1, .int (iI k)), (2, .int (nI c0))]) [1, 2, 0] rfl ?_
    refine sx_iconst (v := (nI 0)) E dX0_partsAt_10 (by decide) ?_
    refine sx_istore_n E dX0_partsAt_11 rfl (by decide) (lv' := [(0, .ref (h 0)), (1, .int (iI k)), (2, .int (nI c0)), (3, .int (nI 0))]) [1, 2, 3, 0] rfl ?_
    have L12 : ∀ (f_ : Nat) (q : Nat) (c : Nat), (q ≤ L.length) → (c = c0 + cA L k q) → L.length - q < f_ → sx_S G (pX h ca (nI n) kn (nI L.length) fr (nF d) sd ix fs fi kp) 12 [(0, .ref (h 0)), (1, .int (iI k)), (2, .int (nI c)), (3, .int (nI q))] [] := by
      intro f_
      induction f_ with
      | zero => intro q c hq hc hm_; exact absurd hm_ (Nat.not_lt_zero _)
      | succ f_ ih12 =>
        intro q c hq hc hm_
        refine sx_iload_n E dX0_partsAt_12 rfl 3 rfl ?_
        refine sx_aload_n E dX0_partsAt_13 rfl 0 rfl ?_
        refine sx_gX E rfl 3 (by decide) q42 rfl dX0_partsAt_14 ?_
        refine sx_icmp_geN E 47 dX0_partsAt_17 (by decide) (by omega) (by omega) (fun c17 => ?_) (fun c17 => ?_)
        · obtain rfl : q = L.length := by omega
          refine sx_iconst (v := (nI 0)) E dX0_partsAt_47 (by decide) ?_
          refine sx_istore_n E dX0_partsAt_48 rfl (by decide) (lv' := [(0, .ref (h 0)), (1, .int (iI k)), (2, .int (nI c)), (3, .int (nI 0))]) [1, 2, 3, 0] rfl ?_
          have L49 : ∀ (f_ : Nat) (i : Nat) (c2 : Nat), (i ≤ n) → (c2 = c0 + cA L k L.length + cH L k i) → n - i < f_ → sx_S G (pX h ca (nI n) kn (nI L.length) fr (nF d) sd ix fs fi kp) 49 [(0, .ref (h 0)), (1, .int (iI k)), (2, .int (nI c2)), (3, .int (nI i))] [] := by
            intro f_
            induction f_ with
            | zero => intro i c2 hi hc2 hm_; exact absurd hm_ (Nat.not_lt_zero _)
            | succ f_ ih49 =>
              intro i c2 hi hc2 hm_
              refine sx_iload_n E dX0_partsAt_49 rfl 3 rfl ?_
              refine sx_aload_n E dX0_partsAt_50 rfl 0 rfl ?_
              refine sx_gX E rfl 0 (by decide) q39 rfl dX0_partsAt_51 ?_
              refine sx_icmp_geN E 84 dX0_partsAt_54 (by decide) (by omega) (by omega) (fun c54 => ?_) (fun c54 => ?_)
              · obtain rfl : n = i := by omega
                refine sx_iload_n E dX0_partsAt_84 rfl 2 rfl ?_
                exact ret _ _ _ () dX0_partsAt_85 (rfl) (by rw [hc2, hc1]; rfl)
              · refine sx_aload_n E dX0_partsAt_57 rfl 0 rfl ?_
                refine sx_iload_n E dX0_partsAt_58 rfl 3 rfl ?_
                refine sx_callr (rest := []) E (cX_homeOf l D h ca _ _ _ _ _ _ _ _ _ L hh (by omega) hg i (by omega)) wX_homeOf kX_homeOf ⟨⟨rfl, rfl⟩, by decide, by decide⟩ rfl rfl rfl (Nat.le_of_ble_eq_true rfl) dX0_partsAt_59 ?_
                have hab := hom_bd L i L.length
                refine sx_istore E dX0_partsAt_62 (by decide) (lv' := [(0, .ref (h 0)), (1, .int (iI k)), (2, .int (nI c2)), (3, .int (nI i)), (4, .int (iI (hom L i L.length)))]) [1, 2, 3, 4, 0] rfl ?_
                refine sx_iload E dX0_partsAt_64 4 rfl ?_
                refine sx_iload_n E dX0_partsAt_66 rfl 1 rfl ?_
                refine sx_icmp_neI E 76 dX0_partsAt_67 (by decide) (by omega) (by omega) (fun c67 => ?_) (fun c67 => ?_)
                · refine sx_iload_n E dX0_partsAt_76 rfl 2 rfl ?_
                  refine sx_istore_n E dX0_partsAt_77 rfl (by decide) (lv' := [(0, .ref (h 0)), (1, .int (iI k)), (2, .int (nI c2)), (3, .int (nI i)), (4, .int (iI (hom L i L.length)))]) [1, 2, 0, 3, 4] rfl ?_
                  refine sx_iinc E dX0_partsAt_78 3 rfl (v := (nI (i + 1))) (inc1 _) (by decide) (lv' := [(0, .ref (h 0)), (1, .int (iI k)), (2, .int (nI c2)), (3, .int (nI (i + 1))), (4, .int (iI (hom L i L.length)))]) [1, 2, 3, 0, 4] rfl ?_
                  refine sx_goto E 49 dX0_partsAt_81 (by decide) ?_
                  refine sx_lv (lv' := [(0, .ref (h 0)), (1, .int (iI k)), (2, .int (nI c2)), (3, .int (nI (i + 1)))]) [0, 1, 2, 3] rfl ?_
                  exact ih49 (i + 1) c2 (by omega) (by unfold cH at *; rw [hc2, cntI_s, if_neg c67]) (by omega)
                · refine sx_iload_n E dX0_partsAt_70 rfl 2 rfl ?_
                  refine sx_iconst (v := (nI 1)) E dX0_partsAt_71 (by decide) ?_
                  refine sx_iaddNN E dX0_partsAt_72 ?_
                  refine sx_goto E 77 dX0_partsAt_73 (by decide) ?_
                  refine sx_istore_n E dX0_partsAt_77 rfl (by decide) (lv' := [(0, .ref (h 0)), (1, .int (iI k)), (2, .int (nI (c2 + 1))), (3, .int (nI i)), (4, .int (iI (hom L i L.length)))]) [1, 2, 0, 3, 4] rfl ?_
                  refine sx_iinc E dX0_partsAt_78 3 rfl (v := (nI (i + 1))) (inc1 _) (by decide) (lv' := [(0, .ref (h 0)), (1, .int (iI k)), (2, .int (nI (c2 + 1))), (3, .int (nI (i + 1))), (4, .int (iI (hom L i L.length)))]) [1, 2, 3, 0, 4] rfl ?_
                  refine sx_goto E 49 dX0_partsAt_81 (by decide) ?_
                  refine sx_lv (lv' := [(0, .ref (h 0)), (1, .int (iI k)), (2, .int (nI (c2 + 1))), (3, .int (nI (i + 1)))]) [0, 1, 2, 3] rfl ?_
                  exact ih49 (i + 1) (c2 + 1) (by omega) (by unfold cH at *; rw [hc2, cntI_s, if_pos c67]; rfl) (by omega)
          exact L49 _ 0 c (Nat.zero_le _) (hc) (Nat.lt_succ_self _)
        · refine sx_aload_n E dX0_partsAt_20 rfl 0 rfl ?_
          refine sx_iload_n E dX0_partsAt_21 rfl 3 rfl ?_
          refine sx_callr (rest := []) E (cX_above l D h ca _ _ _ _ _ _ _ _ _ L hh (by omega) hg q (by omega)) wX_above kX_above ⟨⟨rfl, rfl⟩, by decide, by decide⟩ rfl rfl rfl (Nat.le_of_ble_eq_true rfl) dX0_partsAt_22 ?_
          have hab := abv_bd L q L.length
          refine sx_istore E dX0_partsAt_25 (by decide) (lv' := [(0, .ref (h 0)), (1, .int (iI k)), (2, .int (nI c)), (3, .int (nI q)), (4, .int (iI (abv L q L.length)))]) [1, 2, 3, 4, 0] rfl ?_
          refine sx_iload E dX0_partsAt_27 4 rfl ?_
          refine sx_iload_n E dX0_partsAt_29 rfl 1 rfl ?_
          refine sx_icmp_neI E 39 dX0_partsAt_30 (by decide) (by omega) (by omega) (fun c30 => ?_) (fun c30 => ?_)
          · refine sx_iload_n E dX0_partsAt_39 rfl 2 rfl ?_
            refine sx_istore_n E dX0_partsAt_40 rfl (by decide) (lv' := [(0, .ref (h 0)), (1, .int (iI k)), (2, .int (nI c)), (3, .int (nI q)), (4, .int (iI (abv L q L.length)))]) [1, 2, 0, 3, 4] rfl ?_
            refine sx_iinc E dX0_partsAt_41 3 rfl (v := (nI (q + 1))) (inc1 _) (by decide) (lv' := [(0, .ref (h 0)), (1, .int (iI k)), (2, .int (nI c)), (3, .int (nI (q + 1))), (4, .int (iI (abv L q L.length)))]) [1, 2, 3, 0, 4] rfl ?_
            refine sx_goto E 12 dX0_partsAt_44 (by decide) ?_
            refine sx_lv (lv' := [(0, .ref (h 0)), (1, .int (iI k)), (2, .int (nI c)), (3, .int (nI (q + 1)))]) [0, 1, 2, 3] rfl ?_
            exact ih12 (q + 1) c (by omega) (by unfold cA at *; rw [hc, cntI_s, if_neg c30]) (by omega)
          · refine sx_iload_n E dX0_partsAt_33 rfl 2 rfl ?_
            refine sx_iconst (v := (nI 1)) E dX0_partsAt_34 (by decide) ?_
            refine sx_iaddNN E dX0_partsAt_35 ?_
            refine sx_goto E 40 dX0_partsAt_36 (by decide) ?_
            refine sx_istore_n E dX0_partsAt_40 rfl (by decide) (lv' := [(0, .ref (h 0)), (1, .int (iI k)), (2, .int (nI (c + 1))), (3, .int (nI q)), (4, .int (iI (abv L q L.length)))]) [1, 2, 0, 3, 4] rfl ?_
            refine sx_iinc E dX0_partsAt_41 3 rfl (v := (nI (q + 1))) (inc1 _) (by decide) (lv' := [(0, .ref (h 0)), (1, .int (iI k)), (2, .int (nI (c + 1))), (3, .int (nI (q + 1))), (4, .int (iI (abv L q L.length)))]) [1, 2, 3, 0, 4] rfl ?_
            refine sx_goto E 12 dX0_partsAt_44 (by decide) ?_
            refine sx_lv (lv' := [(0, .ref (h 0)), (1, .int (iI k)), (2, .int (nI (c + 1))), (3, .int (nI (q + 1)))]) [0, 1, 2, 3] rfl ?_
            exact ih12 (q + 1) (c + 1) (by omega) (by unfold cA at *; rw [hc, cntI_s, if_pos c30]; rfl) (by omega)
    exact L12 _ 0 c0 (Nat.zero_le _) (rfl) (Nat.lt_succ_self _)
  · refine sx_iconst (v := (nI 0)) E dX0_partsAt_4 (by decide) ?_
    refine sx_goto E 9 dX0_partsAt_5 (by decide) ?_
    obtain ⟨c0, hc0⟩ : ∃ c0 : Nat, c0 = 0 := ⟨_, rfl⟩
    refine sx_top (y := nI c0) (by rw [hc0]) ?_
    have hc1 : c0 = if k < 0 then 0 else 1 := by rw [hc0]; rw [if_pos c1]
    refine sx_istore_n E dX0_partsAt_9 rfl (by decide) (lv' := [(0, .ref (h 0)), (1, .int (iI k)), (2, .int (nI c0))]) [1, 2, 0] rfl ?_
    refine sx_iconst (v := (nI 0)) E dX0_partsAt_10 (by decide) ?_
    refine sx_istore_n E dX0_partsAt_11 rfl (by decide) (lv' := [(0, .ref (h 0)), (1, .int (iI k)), (2, .int (nI c0)), (3, .int (nI 0))]) [1, 2, 3, 0] rfl ?_
    have L12 : ∀ (f_ : Nat) (q : Nat) (c : Nat), (q ≤ L.length) → (c = c0 + cA L k q) → L.length - q < f_ → sx_S G (pX h ca (nI n) kn (nI L.length) fr (nF d) sd ix fs fi kp) 12 [(0, .ref (h 0)), (1, .int (iI k)), (2, .int (nI c)), (3, .int (nI q))] [] := by
      intro f_
      induction f_ with
      | zero => intro q c hq hc hm_; exact absurd hm_ (Nat.not_lt_zero _)
      | succ f_ ih12 =>
        intro q c hq hc hm_
        refine sx_iload_n E dX0_partsAt_12 rfl 3 rfl ?_
        refine sx_aload_n E dX0_partsAt_13 rfl 0 rfl ?_
        refine sx_gX E rfl 3 (by decide) q42 rfl dX0_partsAt_14 ?_
        refine sx_icmp_geN E 47 dX0_partsAt_17 (by decide) (by omega) (by omega) (fun c17 => ?_) (fun c17 => ?_)
        · obtain rfl : q = L.length := by omega
          refine sx_iconst (v := (nI 0)) E dX0_partsAt_47 (by decide) ?_
          refine sx_istore_n E dX0_partsAt_48 rfl (by decide) (lv' := [(0, .ref (h 0)), (1, .int (iI k)), (2, .int (nI c)), (3, .int (nI 0))]) [1, 2, 3, 0] rfl ?_
          have L49 : ∀ (f_ : Nat) (i : Nat) (c2 : Nat), (i ≤ n) → (c2 = c0 + cA L k L.length + cH L k i) → n - i < f_ → sx_S G (pX h ca (nI n) kn (nI L.length) fr (nF d) sd ix fs fi kp) 49 [(0, .ref (h 0)), (1, .int (iI k)), (2, .int (nI c2)), (3, .int (nI i))] [] := by
            intro f_
            induction f_ with
            | zero => intro i c2 hi hc2 hm_; exact absurd hm_ (Nat.not_lt_zero _)
            | succ f_ ih49 =>
              intro i c2 hi hc2 hm_
              refine sx_iload_n E dX0_partsAt_49 rfl 3 rfl ?_
              refine sx_aload_n E dX0_partsAt_50 rfl 0 rfl ?_
              refine sx_gX E rfl 0 (by decide) q39 rfl dX0_partsAt_51 ?_
              refine sx_icmp_geN E 84 dX0_partsAt_54 (by decide) (by omega) (by omega) (fun c54 => ?_) (fun c54 => ?_)
              · obtain rfl : n = i := by omega
                refine sx_iload_n E dX0_partsAt_84 rfl 2 rfl ?_
                exact ret _ _ _ () dX0_partsAt_85 (rfl) (by rw [hc2, hc1]; rfl)
              · refine sx_aload_n E dX0_partsAt_57 rfl 0 rfl ?_
                refine sx_iload_n E dX0_partsAt_58 rfl 3 rfl ?_
                refine sx_callr (rest := []) E (cX_homeOf l D h ca _ _ _ _ _ _ _ _ _ L hh (by omega) hg i (by omega)) wX_homeOf kX_homeOf ⟨⟨rfl, rfl⟩, by decide, by decide⟩ rfl rfl rfl (Nat.le_of_ble_eq_true rfl) dX0_partsAt_59 ?_
                have hab := hom_bd L i L.length
                refine sx_istore E dX0_partsAt_62 (by decide) (lv' := [(0, .ref (h 0)), (1, .int (iI k)), (2, .int (nI c2)), (3, .int (nI i)), (4, .int (iI (hom L i L.length)))]) [1, 2, 3, 4, 0] rfl ?_
                refine sx_iload E dX0_partsAt_64 4 rfl ?_
                refine sx_iload_n E dX0_partsAt_66 rfl 1 rfl ?_
                refine sx_icmp_neI E 76 dX0_partsAt_67 (by decide) (by omega) (by omega) (fun c67 => ?_) (fun c67 => ?_)
                · refine sx_iload_n E dX0_partsAt_76 rfl 2 rfl ?_
                  refine sx_istore_n E dX0_partsAt_77 rfl (by decide) (lv' := [(0, .ref (h 0)), (1, .int (iI k)), (2, .int (nI c2)), (3, .int (nI i)), (4, .int (iI (hom L i L.length)))]) [1, 2, 0, 3, 4] rfl ?_
                  refine sx_iinc E dX0_partsAt_78 3 rfl (v := (nI (i + 1))) (inc1 _) (by decide) (lv' := [(0, .ref (h 0)), (1, .int (iI k)), (2, .int (nI c2)), (3, .int (nI (i + 1))), (4, .int (iI (hom L i L.length)))]) [1, 2, 3, 0, 4] rfl ?_
                  refine sx_goto E 49 dX0_partsAt_81 (by decide) ?_
                  refine sx_lv (lv' := [(0, .ref (h 0)), (1, .int (iI k)), (2, .int (nI c2)), (3, .int (nI (i + 1)))]) [0, 1, 2, 3] rfl ?_
                  exact ih49 (i + 1) c2 (by omega) (by unfold cH at *; rw [hc2, cntI_s, if_neg c67]) (by omega)
                · refine sx_iload_n E dX0_partsAt_70 rfl 2 rfl ?_
                  refine sx_iconst (v := (nI 1)) E dX0_partsAt_71 (by decide) ?_
                  refine sx_iaddNN E dX0_partsAt_72 ?_
                  refine sx_goto E 77 dX0_partsAt_73 (by decide) ?_
                  refine sx_istore_n E dX0_partsAt_77 rfl (by decide) (lv' := [(0, .ref (h 0)), (1, .int (iI k)), (2, .int (nI (c2 + 1))), (3, .int (nI i)), (4, .int (iI (hom L i L.length)))]) [1, 2, 0, 3, 4] rfl ?_
                  refine sx_iinc E dX0_partsAt_78 3 rfl (v := (nI (i + 1))) (inc1 _) (by decide) (lv' := [(0, .ref (h 0)), (1, .int (iI k)), (2, .int (nI (c2 + 1))), (3, .int (nI (i + 1))), (4, .int (iI (hom L i L.length)))]) [1, 2, 3, 0, 4] rfl ?_
                  refine sx_goto E 49 dX0_partsAt_81 (by decide) ?_
                  refine sx_lv (lv' := [(0, .ref (h 0)), (1, .int (iI k)), (2, .int (nI (c2 + 1))), (3, .int (nI (i + 1)))]) [0, 1, 2, 3] rfl ?_
                  exact ih49 (i + 1) (c2 + 1) (by omega) (by unfold cH at *; rw [hc2, cntI_s, if_pos c67]; rfl) (by omega)
          exact L49 _ 0 c (Nat.zero_le _) (hc) (Nat.lt_succ_self _)
        · refine sx_aload_n E dX0_partsAt_20 rfl 0 rfl ?_
          refine sx_iload_n E dX0_partsAt_21 rfl 3 rfl ?_
          refine sx_callr (rest := []) E (cX_above l D h ca _ _ _ _ _ _ _ _ _ L hh (by omega) hg q (by omega)) wX_above kX_above ⟨⟨rfl, rfl⟩, by decide, by decide⟩ rfl rfl rfl (Nat.le_of_ble_eq_true rfl) dX0_partsAt_22 ?_
          have hab := abv_bd L q L.length
          refine sx_istore E dX0_partsAt_25 (by decide) (lv' := [(0, .ref (h 0)), (1, .int (iI k)), (2, .int (nI c)), (3, .int (nI q)), (4, .int (iI (abv L q L.length)))]) [1, 2, 3, 4, 0] rfl ?_
          refine sx_iload E dX0_partsAt_27 4 rfl ?_
          refine sx_iload_n E dX0_partsAt_29 rfl 1 rfl ?_
          refine sx_icmp_neI E 39 dX0_partsAt_30 (by decide) (by omega) (by omega) (fun c30 => ?_) (fun c30 => ?_)
          · refine sx_iload_n E dX0_partsAt_39 rfl 2 rfl ?_
            refine sx_istore_n E dX0_partsAt_40 rfl (by decide) (lv' := [(0, .ref (h 0)), (1, .int (iI k)), (2, .int (nI c)), (3, .int (nI q)), (4, .int (iI (abv L q L.length)))]) [1, 2, 0, 3, 4] rfl ?_
            refine sx_iinc E dX0_partsAt_41 3 rfl (v := (nI (q + 1))) (inc1 _) (by decide) (lv' := [(0, .ref (h 0)), (1, .int (iI k)), (2, .int (nI c)), (3, .int (nI (q + 1))), (4, .int (iI (abv L q L.length)))]) [1, 2, 3, 0, 4] rfl ?_
            refine sx_goto E 12 dX0_partsAt_44 (by decide) ?_
            refine sx_lv (lv' := [(0, .ref (h 0)), (1, .int (iI k)), (2, .int (nI c)), (3, .int (nI (q + 1)))]) [0, 1, 2, 3] rfl ?_
            exact ih12 (q + 1) c (by omega) (by unfold cA at *; rw [hc, cntI_s, if_neg c30]) (by omega)
          · refine sx_iload_n E dX0_partsAt_33 rfl 2 rfl ?_
            refine sx_iconst (v := (nI 1)) E dX0_partsAt_34 (by decide) ?_
            refine sx_iaddNN E dX0_partsAt_35 ?_
            refine sx_goto E 40 dX0_partsAt_36 (by decide) ?_
            refine sx_istore_n E dX0_partsAt_40 rfl (by decide) (lv' := [(0, .ref (h 0)), (1, .int (iI k)), (2, .int (nI (c + 1))), (3, .int (nI q)), (4, .int (iI (abv L q L.length)))]) [1, 2, 0, 3, 4] rfl ?_
            refine sx_iinc E dX0_partsAt_41 3 rfl (v := (nI (q + 1))) (inc1 _) (by decide) (lv' := [(0, .ref (h 0)), (1, .int (iI k)), (2, .int (nI (c + 1))), (3, .int (nI (q + 1))), (4, .int (iI (abv L q L.length)))]) [1, 2, 3, 0, 4] rfl ?_
            refine sx_goto E 12 dX0_partsAt_44 (by decide) ?_
            refine sx_lv (lv' := [(0, .ref (h 0)), (1, .int (iI k)), (2, .int (nI (c + 1))), (3, .int (nI (q + 1)))]) [0, 1, 2, 3] rfl ?_
            exact ih12 (q + 1) (c + 1) (by omega) (by unfold cA at *; rw [hc, cntI_s, if_pos c30]; rfl) (by omega)
    exact L12 _ 0 c0 (Nat.zero_le _) (rfl) (Nat.lt_succ_self _)

set_option maxHeartbeats 4000000 in
theorem cX_pointsAt (l : Launch) (D : va_G) (h : Nat → Nat) (ca : Nat → ClassId) (n : Nat) (kn fr : Int32) (d : Nat → Nat) (sd ix fs fi kp : Nat → Int32) (L : EL) (hh : hold sd ix L) (hl : L.length ≤ 32) (hg : good L) (hn : n ≤ 7) (k : Int) (hk1 : -1 ≤ k) (hk2 : k < L.length) : sx_Cr l yX0_pointsAt cX0_pointsAt 5 .int rmX_pointsAt D (tyX ca) [.ref (h 0), .int (iI k)] (pX h ca (nI n) kn (nI L.length) fr (nF d) sd ix fs fi kp) (nI (cH L k n)) := by
  refine sx_enter_i (own := RX0) (by decide) rfl (Nat.le_of_ble_eq_true rfl) (lv := [(0, .ref (h 0)), (1, .int (iI k))]) rfl ?_
  intro G E ret
  refine sx_iconst (v := (nI 0)) E dX0_pointsAt_0 (by decide) ?_
  refine sx_istore_n E dX0_pointsAt_1 rfl (by decide) (lv' := [(0, .ref (h 0)), (1, .int (iI k)), (2, .int (nI 0))]) [1, 2, 0] rfl ?_
  refine sx_iconst (v := (nI 0)) E dX0_pointsAt_2 (by decide) ?_
  refine sx_istore_n E dX0_pointsAt_3 rfl (by decide) (lv' := [(0, .ref (h 0)), (1, .int (iI k)), (2, .int (nI 0)), (3, .int (nI 0))]) [1, 2, 3, 0] rfl ?_
  have L4 : ∀ (f_ : Nat) (i : Nat) (c : Nat), (i ≤ n) → (c = cH L k i) → n - i < f_ → sx_S G (pX h ca (nI n) kn (nI L.length) fr (nF d) sd ix fs fi kp) 4 [(0, .ref (h 0)), (1, .int (iI k)), (2, .int (nI c)), (3, .int (nI i))] [] := by
    intro f_
    induction f_ with
    | zero => intro i c hi hc hm_; exact absurd hm_ (Nat.not_lt_zero _)
    | succ f_ ih4 =>
      intro i c hi hc hm_
      refine sx_iload_n E dX0_pointsAt_4 rfl 3 rfl ?_
      refine sx_aload_n E dX0_pointsAt_5 rfl 0 rfl ?_
      refine sx_gX E rfl 0 (by decide) q39 rfl dX0_pointsAt_6 ?_
      refine sx_icmp_geN E 39 dX0_pointsAt_9 (by decide) (by omega) (by omega) (fun c9 => ?_) (fun c9 => ?_)
      · obtain rfl : n = i := by omega
        refine sx_iload_n E dX0_pointsAt_39 rfl 2 rfl ?_
        exact ret _ _ _ () dX0_pointsAt_40 (rfl) (by rw [hc])
      · refine sx_aload_n E dX0_pointsAt_12 rfl 0 rfl ?_
        refine sx_iload_n E dX0_pointsAt_13 rfl 3 rfl ?_
        refine sx_callr (rest := []) E (cX_homeOf l D h ca _ _ _ _ _ _ _ _ _ L hh (by omega) hg i (by omega)) wX_homeOf kX_homeOf ⟨⟨rfl, rfl⟩, by decide, by decide⟩ rfl rfl rfl (Nat.le_of_ble_eq_true rfl) dX0_pointsAt_14 ?_
        have hab := hom_bd L i L.length
        refine sx_istore E dX0_pointsAt_17 (by decide) (lv' := [(0, .ref (h 0)), (1, .int (iI k)), (2, .int (nI c)), (3, .int (nI i)), (4, .int (iI (hom L i L.length)))]) [1, 2, 3, 4, 0] rfl ?_
        refine sx_iload E dX0_pointsAt_19 4 rfl ?_
        refine sx_iload_n E dX0_pointsAt_21 rfl 1 rfl ?_
        refine sx_icmp_neI E 31 dX0_pointsAt_22 (by decide) (by omega) (by omega) (fun c22 => ?_) (fun c22 => ?_)
        · refine sx_iload_n E dX0_pointsAt_31 rfl 2 rfl ?_
          refine sx_istore_n E dX0_pointsAt_32 rfl (by decide) (lv' := [(0, .ref (h 0)), (1, .int (iI k)), (2, .int (nI c)), (3, .int (nI i)), (4, .int (iI (hom L i L.length)))]) [1, 2, 0, 3, 4] rfl ?_
          refine sx_iinc E dX0_pointsAt_33 3 rfl (v := (nI (i + 1))) (inc1 _) (by decide) (lv' := [(0, .ref (h 0)), (1, .int (iI k)), (2, .int (nI c)), (3, .int (nI (i + 1))), (4, .int (iI (hom L i L.length)))]) [1, 2, 3, 0, 4] rfl ?_
          refine sx_goto E 4 dX0_pointsAt_36 (by decide) ?_
          refine sx_lv (lv' := [(0, .ref (h 0)), (1, .int (iI k)), (2, .int (nI c)), (3, .int (nI (i + 1)))]) [0, 1, 2, 3] rfl ?_
          exact ih4 (i + 1) c (by omega) (by unfold cH at *; rw [hc, cntI_s, if_neg c22]) (by omega)
        · refine sx_iload_n E dX0_pointsAt_25 rfl 2 rfl ?_
          refine sx_iconst (v := (nI 1)) E dX0_pointsAt_26 (by decide) ?_
          refine sx_iaddNN E dX0_pointsAt_27 ?_
          refine sx_goto E 32 dX0_pointsAt_28 (by decide) ?_
          refine sx_istore_n E dX0_pointsAt_32 rfl (by decide) (lv' := [(0, .ref (h 0)), (1, .int (iI k)), (2, .int (nI (c + 1))), (3, .int (nI i)), (4, .int (iI (hom L i L.length)))]) [1, 2, 0, 3, 4] rfl ?_
          refine sx_iinc E dX0_pointsAt_33 3 rfl (v := (nI (i + 1))) (inc1 _) (by decide) (lv' := [(0, .ref (h 0)), (1, .int (iI k)), (2, .int (nI (c + 1))), (3, .int (nI (i + 1))), (4, .int (iI (hom L i L.length)))]) [1, 2, 3, 0, 4] rfl ?_
          refine sx_goto E 4 dX0_pointsAt_36 (by decide) ?_
          refine sx_lv (lv' := [(0, .ref (h 0)), (1, .int (iI k)), (2, .int (nI (c + 1))), (3, .int (nI (i + 1)))]) [0, 1, 2, 3] rfl ?_
          exact ih4 (i + 1) (c + 1) (by omega) (by unfold cH at *; rw [hc, cntI_s, if_pos c22]) (by omega)
  exact L4 _ 0 0 (Nat.zero_le _) (rfl) (Nat.lt_succ_self _)
end
section
set_option maxRecDepth 100000
set_option maxHeartbeats 4000000 in
theorem cX_edges (l : Launch) (D : va_G) (h : Nat → Nat) (ca : Nat → ClassId) (n : Nat) (kn fnd fr : Int32) (d : Nat → Nat) (sd ix fs fi kp : Nat → Int32) (hn : n ≤ 7) (hd : ∀ k, d k ≤ 60) (hfo : FindOK d) (hK : KN n d kn fnd sd ix)  : sx_Ci l yX0_edges cX0_edges 1 .int rmX_edges D (tyX ca) [.ref (h 0)] (pX h ca (nI n) kn fnd fr (nF d) sd ix fs fi kp) (S := Int32 × Int32 × Int32 × (Nat → Int32) × (Nat → Int32) × (Nat → Int32) × (Nat → Int32)) (fun u => pX h ca (nI n) u.1 u.2.1 u.2.2.1 (nF d) u.2.2.2.1 u.2.2.2.2.1 u.2.2.2.2.2.1 u.2.2.2.2.2.2 kp) (fun r u => r = nI (Es d n).length ∧ KN n d u.1 u.2.1 u.2.2.2.1 u.2.2.2.2.1) := by
  obtain ⟨b, rfl, hk⟩ := hK
  refine sx_enter_i (own := RX0) (by decide) rfl (Nat.le_of_ble_eq_true rfl) (lv := [(0, .ref (h 0))]) rfl ?_
  intro G E ret
  refine sx_aload_n E dX0_edges_0 rfl 0 rfl ?_
  refine sx_callv (rest := []) E (cX_find l D h ca n b _ _ d _ _ _ _ _ hn hd hfo hk) wX_find kX_find ⟨⟨rfl, rfl⟩, by decide, by decide⟩ rfl rfl rfl (Nat.le_of_ble_eq_true rfl) dX0_edges_1 (fun u1 hp1 => ?_)
  have hh : hold u1.2.1 u1.2.2.1 (Es d n) := hp1
  generalize hLe : Es d n = L at hh ⊢
  obtain ⟨hl15, hg, -⟩ : L.length ≤ 15 ∧ good L ∧ True := by rw [← hLe]; exact ⟨(hfo n hn).1, (hfo n hn).2.1, trivial⟩
  refine sx_aload_n E dX0_edges_4 rfl 0 rfl ?_
  refine sx_gX E rfl 3 (by decide) q42 rfl dX0_edges_5 ?_
  exact ret _ _ _ ((nI 1), (nI L.length), u1.1, u1.2.1, u1.2.2.1, u1.2.2.2.1, u1.2.2.2.2) dX0_edges_8 (rfl) (⟨by rw [hLe], ⟨true, rfl, fun _ => ⟨by rw [hLe], by rw [hLe]; exact hh⟩⟩⟩)

set_option maxHeartbeats 4000000 in
theorem cX_edge (l : Launch) (D : va_G) (h : Nat → Nat) (ca : Nat → ClassId) (n : Nat) (kn fnd fr : Int32) (d : Nat → Nat) (sd ix fs fi kp : Nat → Int32) (hn : n ≤ 7) (hd : ∀ k, d k ≤ 60) (hfo : FindOK d) (hK : KN n d kn fnd sd ix) (z : Int) (hz : -2147483648 ≤ z ∧ z < 2147483648) : sx_Ci l yX0_edge cX0_edge 2 .int rmX_edge D (tyX ca) [.ref (h 0), .int (iI z)] (pX h ca (nI n) kn fnd fr (nF d) sd ix fs fi kp) (S := Int32 × Int32 × Int32 × (Nat → Int32) × (Nat → Int32) × (Nat → Int32) × (Nat → Int32)) (fun u => pX h ca (nI n) u.1 u.2.1 u.2.2.1 (nF d) u.2.2.2.1 u.2.2.2.2.1 u.2.2.2.2.2.1 u.2.2.2.2.2.2 kp) (fun r u => r = spEdge n d z ∧ KN n d u.1 u.2.1 u.2.2.2.1 u.2.2.2.2.1) := by
  obtain ⟨b, rfl, hk⟩ := hK
  refine sx_enter_i (own := RX0) (by decide) rfl (Nat.le_of_ble_eq_true rfl) (lv := [(0, .ref (h 0)), (1, .int (iI z))]) rfl ?_
  intro G E ret
  refine sx_aload_n E dX0_edge_0 rfl 0 rfl ?_
  refine sx_callv (rest := []) E (cX_find l D h ca n b _ _ d _ _ _ _ _ hn hd hfo hk) wX_find kX_find ⟨⟨rfl, rfl⟩, by decide, by decide⟩ rfl rfl rfl (Nat.le_of_ble_eq_true rfl) dX0_edge_1 (fun u1 hp1 => ?_)
  have hh : hold u1.2.1 u1.2.2.1 (Es d n) := hp1
  generalize hLe : Es d n = L at hh ⊢
  obtain ⟨hl15, hg, -⟩ : L.length ≤ 15 ∧ good L ∧ True := by rw [← hLe]; exact ⟨(hfo n hn).1, (hfo n hn).2.1, trivial⟩
  refine sx_iload_n E dX0_edge_4 rfl 1 rfl ?_
  refine sx_if_ltI E 16 dX0_edge_5 (by decide) (by omega) (fun c5 => ?_) (fun c5 => ?_)
  · refine sx_sipush (v := (iI ((-1002)))) E dX0_edge_16 (by decide) ?_
    refine sx_goto E 28 dX0_edge_19 (by decide) ?_
    exact ret _ _ _ ((nI 1), (nI L.length), u1.1, u1.2.1, u1.2.2.1, u1.2.2.2.1, u1.2.2.2.2) dX0_edge_28 (rfl) (⟨by unfold spEdge; rw [hLe, if_pos (by omega)], ⟨true, rfl, fun _ => ⟨by rw [hLe], by rw [hLe]; exact hh⟩⟩⟩)
  · refine sx_iload_n E dX0_edge_8 rfl 1 rfl ?_
    refine sx_aload_n E dX0_edge_9 rfl 0 rfl ?_
    refine sx_gX E rfl 3 (by decide) q42 rfl dX0_edge_10 ?_
    refine sx_top (iI_n _) ?_
    refine sx_icmp_ltI E 22 dX0_edge_13 (by decide) (by omega) (by omega) (fun c13 => ?_) (fun c13 => ?_)
    · obtain ⟨i, rfl⟩ : ∃ i : Nat, z = (i : Int) := ⟨z.toNat, by omega⟩
      refine sx_lve (lv' := [(0, .ref (h 0)), (1, .int (nI i))]) (by rw [iI_n i]) ?_
      refine sx_aload_n E dX0_edge_22 rfl 0 rfl ?_
      refine sx_gX E rfl 4 (by decide) q43 rfl dX0_edge_23 ?_
      refine sx_iload_n E dX0_edge_26 rfl 1 rfl ?_
      refine sx_bald E 2 1 rfl rfl (by omega) (by decide) (v := (nI (sdN L i))) (hh.sd (by omega)) dX0_edge_27 ?_
      exact ret _ _ _ ((nI 1), (nI L.length), u1.1, u1.2.1, u1.2.2.1, u1.2.2.2.1, u1.2.2.2.2) dX0_edge_28 (rfl) (⟨by unfold spEdge; rw [hLe, if_neg (by omega)]; rfl, ⟨true, rfl, fun _ => ⟨by rw [hLe], by rw [hLe]; exact hh⟩⟩⟩)
    · refine sx_sipush (v := (iI ((-1002)))) E dX0_edge_16 (by decide) ?_
      refine sx_goto E 28 dX0_edge_19 (by decide) ?_
      exact ret _ _ _ ((nI 1), (nI L.length), u1.1, u1.2.1, u1.2.2.1, u1.2.2.2.1, u1.2.2.2.2) dX0_edge_28 (rfl) (⟨by unfold spEdge; rw [hLe, if_pos (by omega)], ⟨true, rfl, fun _ => ⟨by rw [hLe], by rw [hLe]; exact hh⟩⟩⟩)

set_option maxHeartbeats 4000000 in
theorem cX_treeDistance (l : Launch) (D : va_G) (h : Nat → Nat) (ca : Nat → ClassId) (n : Nat) (kn fnd fr : Int32) (d : Nat → Nat) (sd ix fs fi kp : Nat → Int32) (hn : n ≤ 7) (hd : ∀ k, d k ≤ 60) (hfo : FindOK d) (hK : KN n d kn fnd sd ix) (x y : Int) (hx : -2147483648 ≤ x ∧ x < 2147483648) (hy : -2147483648 ≤ y ∧ y < 2147483648) : sx_Ci l yX0_treeDistance cX0_treeDistance 3 .int rmX_treeDistance D (tyX ca) [.ref (h 0), .int (iI x), .int (iI y)] (pX h ca (nI n) kn fnd fr (nF d) sd ix fs fi kp) (S := Int32 × Int32 × Int32 × (Nat → Int32) × (Nat → Int32) × (Nat → Int32) × (Nat → Int32)) (fun u => pX h ca (nI n) u.1 u.2.1 u.2.2.1 (nF d) u.2.2.2.1 u.2.2.2.2.1 u.2.2.2.2.2.1 u.2.2.2.2.2.2 kp) (fun r u => r = spTD n d x y ∧ KN n d u.1 u.2.1 u.2.2.2.1 u.2.2.2.2.1) := by
  obtain ⟨b, rfl, hk⟩ := hK
  refine sx_enter_i (own := RX0) (by decide) rfl (Nat.le_of_ble_eq_true rfl) (lv := [(0, .ref (h 0)), (1, .int (iI x)), (2, .int (iI y))]) rfl ?_
  intro G E ret
  refine sx_aload_n E dX0_treeDistance_0 rfl 0 rfl ?_
  refine sx_iload_n E dX0_treeDistance_1 rfl 1 rfl ?_
  refine sx_callr (rest := []) E (cX_missing l D h ca _ _ _ _ d _ _ _ _ _ hn x (by omega)) wX_missing kX_missing ⟨⟨rfl, rfl⟩, by decide, by decide⟩ rfl rfl rfl (Nat.le_of_ble_eq_true rfl) dX0_treeDistance_2 ?_
  refine sx_if_neB E 16 dX0_treeDistance_5 (by decide) (fun c5 => ?_) (fun c5 => ?_)
  · have c5 := miss_t c5
    refine sx_sipush (v := (iI ((-1000)))) E dX0_treeDistance_16 (by decide) ?_
    exact ret _ _ _ ((bI b), fnd, fr, sd, ix, fs, fi) dX0_treeDistance_19 (rfl) (⟨by unfold spTD; rw [if_pos (by omega)], ⟨b, rfl, hk⟩⟩)
  · have c5 := miss_f c5
    refine sx_aload_n E dX0_treeDistance_8 rfl 0 rfl ?_
    refine sx_iload_n E dX0_treeDistance_9 rfl 2 rfl ?_
    refine sx_callr (rest := []) E (cX_missing l D h ca _ _ _ _ d _ _ _ _ _ hn y (by omega)) wX_missing kX_missing ⟨⟨rfl, rfl⟩, by decide, by decide⟩ rfl rfl rfl (Nat.le_of_ble_eq_true rfl) dX0_treeDistance_10 ?_
    refine sx_if_eqB E 20 dX0_treeDistance_13 (by decide) (fun c13 => ?_) (fun c13 => ?_)
    · have c13 := miss_f c13
      obtain ⟨i, rfl⟩ : ∃ i : Nat, x = (i : Int) := ⟨x.toNat, by omega⟩
      obtain ⟨j, rfl⟩ : ∃ j : Nat, y = (j : Int) := ⟨y.toNat, by omega⟩
      refine sx_lve (lv' := [(0, .ref (h 0)), (1, .int (nI i)), (2, .int (nI j))]) (by rw [iI_n i, iI_n j]) ?_
      refine sx_aload_n E dX0_treeDistance_20 rfl 0 rfl ?_
      refine sx_callv (rest := []) E (cX_find l D h ca n b _ _ d _ _ _ _ _ hn hd hfo hk) wX_find kX_find ⟨⟨rfl, rfl⟩, by decide, by decide⟩ rfl rfl rfl (Nat.le_of_ble_eq_true rfl) dX0_treeDistance_21 (fun u21 hp21 => ?_)
      have hh : hold u21.2.1 u21.2.2.1 (Es d n) := hp21
      generalize hLe : Es d n = L at hh ⊢
      obtain ⟨hl15, hg, -⟩ : L.length ≤ 15 ∧ good L ∧ True := by rw [← hLe]; exact ⟨(hfo n hn).1, (hfo n hn).2.1, trivial⟩
      refine sx_aload_n E dX0_treeDistance_24 rfl 0 rfl ?_
      refine sx_iload_n E dX0_treeDistance_25 rfl 1 rfl ?_
      refine sx_iload_n E dX0_treeDistance_26 rfl 2 rfl ?_
      refine sx_callr (rest := []) E (cX_pathOf l D h ca _ _ _ _ _ _ _ _ _ L hh (by omega) hg i j (by omega) (by omega)) wX_pathOf kX_pathOf ⟨⟨rfl, rfl⟩, by decide, by decide⟩ rfl rfl rfl (Nat.le_of_ble_eq_true rfl) dX0_treeDistance_27 ?_
      have hpl := path_le hg (by omega) i j
      exact ret _ _ _ ((nI 1), (nI L.length), u21.1, u21.2.1, u21.2.2.1, u21.2.2.2.1, u21.2.2.2.2) dX0_treeDistance_30 (rfl) (⟨by unfold spTD; rw [if_neg (by omega), hLe]; rfl, ⟨true, rfl, fun _ => ⟨by rw [hLe], by rw [hLe]; exact hh⟩⟩⟩)
    · have c13 := miss_t c13
      refine sx_sipush (v := (iI ((-1000)))) E dX0_treeDistance_16 (by decide) ?_
      exact ret _ _ _ ((bI b), fnd, fr, sd, ix, fs, fi) dX0_treeDistance_19 (rfl) (⟨by unfold spTD; rw [if_pos (by omega)], ⟨b, rfl, hk⟩⟩)

set_option maxHeartbeats 4000000 in
theorem cX_together (l : Launch) (D : va_G) (h : Nat → Nat) (ca : Nat → ClassId) (n : Nat) (kn fnd fr : Int32) (d : Nat → Nat) (sd ix fs fi kp : Nat → Int32) (hn : n ≤ 7) (hd : ∀ k, d k ≤ 60) (hfo : FindOK d) (hK : KN n d kn fnd sd ix) (x y : Int) (hx : -2147483648 ≤ x ∧ x < 2147483648) (hy : -2147483648 ≤ y ∧ y < 2147483648) : sx_Ci l yX0_together cX0_together 4 .int rmX_together D (tyX ca) [.ref (h 0), .int (iI x), .int (iI y)] (pX h ca (nI n) kn fnd fr (nF d) sd ix fs fi kp) (S := Int32 × Int32 × Int32 × (Nat → Int32) × (Nat → Int32) × (Nat → Int32) × (Nat → Int32)) (fun u => pX h ca (nI n) u.1 u.2.1 u.2.2.1 (nF d) u.2.2.2.1 u.2.2.2.2.1 u.2.2.2.2.2.1 u.2.2.2.2.2.2 kp) (fun r u => r = spTog n d x y ∧ KN n d u.1 u.2.1 u.2.2.2.1 u.2.2.2.2.1) := by
  obtain ⟨b, rfl, hk⟩ := hK
  refine sx_enter_i (own := RX0) (by decide) rfl (Nat.le_of_ble_eq_true rfl) (lv := [(0, .ref (h 0)), (1, .int (iI x)), (2, .int (iI y))]) rfl ?_
  intro G E ret
  refine sx_aload_n E dX0_together_0 rfl 0 rfl ?_
  refine sx_iload_n E dX0_together_1 rfl 1 rfl ?_
  refine sx_callr (rest := []) E (cX_missing l D h ca _ _ _ _ d _ _ _ _ _ hn x (by omega)) wX_missing kX_missing ⟨⟨rfl, rfl⟩, by decide, by decide⟩ rfl rfl rfl (Nat.le_of_ble_eq_true rfl) dX0_together_2 ?_
  refine sx_if_neB E 16 dX0_together_5 (by decide) (fun c5 => ?_) (fun c5 => ?_)
  · have c5 := miss_t c5
    refine sx_sipush (v := (iI ((-1000)))) E dX0_together_16 (by decide) ?_
    exact ret _ _ _ ((bI b), fnd, fr, sd, ix, fs, fi) dX0_together_19 (rfl) (⟨by unfold spTog; rw [if_pos (by omega)], ⟨b, rfl, hk⟩⟩)
  · have c5 := miss_f c5
    refine sx_aload_n E dX0_together_8 rfl 0 rfl ?_
    refine sx_iload_n E dX0_together_9 rfl 2 rfl ?_
    refine sx_callr (rest := []) E (cX_missing l D h ca _ _ _ _ d _ _ _ _ _ hn y (by omega)) wX_missing kX_missing ⟨⟨rfl, rfl⟩, by decide, by decide⟩ rfl rfl rfl (Nat.le_of_ble_eq_true rfl) dX0_together_10 ?_
    refine sx_if_eqB E 20 dX0_together_13 (by decide) (fun c13 => ?_) (fun c13 => ?_)
    · have c13 := miss_f c13
      obtain ⟨i, rfl⟩ : ∃ i : Nat, x = (i : Int) := ⟨x.toNat, by omega⟩
      obtain ⟨j, rfl⟩ : ∃ j : Nat, y = (j : Int) := ⟨y.toNat, by omega⟩
      refine sx_lve (lv' := [(0, .ref (h 0)), (1, .int (nI i)), (2, .int (nI j))]) (by rw [iI_n i, iI_n j]) ?_
      refine sx_aload_n E dX0_together_20 rfl 0 rfl ?_
      refine sx_callv (rest := []) E (cX_find l D h ca n b _ _ d _ _ _ _ _ hn hd hfo hk) wX_find kX_find ⟨⟨rfl, rfl⟩, by decide, by decide⟩ rfl rfl rfl (Nat.le_of_ble_eq_true rfl) dX0_together_21 (fun u21 hp21 => ?_)
      have hh : hold u21.2.1 u21.2.2.1 (Es d n) := hp21
      generalize hLe : Es d n = L at hh ⊢
      obtain ⟨hl15, hg, -⟩ : L.length ≤ 15 ∧ good L ∧ True := by rw [← hLe]; exact ⟨(hfo n hn).1, (hfo n hn).2.1, trivial⟩
      refine sx_aload_n E dX0_together_24 rfl 0 rfl ?_
      refine sx_iload_n E dX0_together_25 rfl 1 rfl ?_
      refine sx_iload_n E dX0_together_26 rfl 2 rfl ?_
      refine sx_callr (rest := []) E (cX_pathOf l D h ca _ _ _ _ _ _ _ _ _ L hh (by omega) hg i j (by omega) (by omega)) wX_pathOf kX_pathOf ⟨⟨rfl, rfl⟩, by decide, by decide⟩ rfl rfl rfl (Nat.le_of_ble_eq_true rfl) dX0_together_27 ?_
      have hpl := path_le hg (by omega) i j
      refine sx_istore_n E dX0_together_30 rfl (by decide) (lv' := [(0, .ref (h 0)), (1, .int (nI i)), (2, .int (nI j)), (3, .int (nI (pathL L i j)))]) [1, 2, 3, 0] rfl ?_
      refine sx_iload_n E dX0_together_31 rfl 3 rfl ?_
      refine sx_top (iI_n _) ?_
      refine sx_if_neI E 39 dX0_together_32 (by decide) (by omega) (fun c32 => ?_) (fun c32 => ?_)
      · refine sx_iconst (v := (nI 0)) E dX0_together_39 (by decide) ?_
        exact ret _ _ _ ((nI 1), (nI L.length), u21.1, u21.2.1, u21.2.2.1, u21.2.2.2.1, u21.2.2.2.2) dX0_together_40 (rfl) (⟨by unfold spTog; rw [if_neg (by omega), hLe]; exact (if_neg (show ¬ pathL L i j = 0 by omega)).symm, ⟨true, rfl, fun _ => ⟨by rw [hLe], by rw [hLe]; exact hh⟩⟩⟩)
      · refine sx_iconst (v := (nI 1)) E dX0_together_35 (by decide) ?_
        refine sx_goto E 40 dX0_together_36 (by decide) ?_
        exact ret _ _ _ ((nI 1), (nI L.length), u21.1, u21.2.1, u21.2.2.1, u21.2.2.2.1, u21.2.2.2.2) dX0_together_40 (rfl) (⟨by unfold spTog; rw [if_neg (by omega), hLe]; exact (if_pos (show pathL L i j = 0 by omega)).symm, ⟨true, rfl, fun _ => ⟨by rw [hLe], by rw [hLe]; exact hh⟩⟩⟩)
    · have c13 := miss_t c13
      refine sx_sipush (v := (iI ((-1000)))) E dX0_together_16 (by decide) ?_
      exact ret _ _ _ ((bI b), fnd, fr, sd, ix, fs, fi) dX0_together_19 (rfl) (⟨by unfold spTog; rw [if_pos (by omega)], ⟨b, rfl, hk⟩⟩)

set_option maxHeartbeats 4000000 in
theorem cX_agrees (l : Launch) (D : va_G) (h : Nat → Nat) (ca : Nat → ClassId) (n : Nat) (kn fnd fr : Int32) (d : Nat → Nat) (sd ix fs fi kp : Nat → Int32) (hn : n ≤ 7) (hd : ∀ k, d k ≤ 60) (hfo : FindOK d) (hK : KN n d kn fnd sd ix) (z : Int) (hz : -2147483648 ≤ z ∧ z < 2147483648) : sx_Ci l yX0_agrees cX0_agrees 3 .int rmX_agrees D (tyX ca) [.ref (h 0), .int (iI z)] (pX h ca (nI n) kn fnd fr (nF d) sd ix fs fi kp) (S := Int32 × Int32 × Int32 × (Nat → Int32) × (Nat → Int32) × (Nat → Int32) × (Nat → Int32)) (fun u => pX h ca (nI n) u.1 u.2.1 u.2.2.1 (nF d) u.2.2.2.1 u.2.2.2.2.1 u.2.2.2.2.2.1 u.2.2.2.2.2.2 kp) (fun r u => r = spAgrees n (Es d n) z ∧ KN n d u.1 u.2.1 u.2.2.2.1 u.2.2.2.2.1) := by
  obtain ⟨b, rfl, hk⟩ := hK
  refine sx_enter_i (own := RX0) (by decide) rfl (Nat.le_of_ble_eq_true rfl) (lv := [(0, .ref (h 0)), (1, .int (iI z))]) rfl ?_
  intro G E ret
  refine sx_aload_n E dX0_agrees_0 rfl 0 rfl ?_
  refine sx_iload_n E dX0_agrees_1 rfl 1 rfl ?_
  refine sx_callr (rest := []) E (cX_badSplit l D h ca n _ _ _ d _ _ _ _ _ hn z (by omega)) wX_badSplit kX_badSplit ⟨⟨rfl, rfl⟩, by decide, by decide⟩ rfl rfl rfl (Nat.le_of_ble_eq_true rfl) dX0_agrees_2 ?_
  refine sx_if_eqB E 12 dX0_agrees_5 (by decide) (fun c5 => ?_) (fun c5 => ?_)
  · have c5b := bads_f c5
    have h2n : 2 ^ n ≤ 128 := pow7 hn
    obtain ⟨S, rfl⟩ : ∃ S : Nat, z = (S : Int) := ⟨z.toNat, by omega⟩
    refine sx_lve (lv' := [(0, .ref (h 0)), (1, .int (nI S))]) (by rw [iI_n S]) ?_
    refine sx_aload_n E dX0_agrees_12 rfl 0 rfl ?_
    refine sx_callv (rest := []) E (cX_find l D h ca n b _ _ d _ _ _ _ _ hn hd hfo hk) wX_find kX_find ⟨⟨rfl, rfl⟩, by decide, by decide⟩ rfl rfl rfl (Nat.le_of_ble_eq_true rfl) dX0_agrees_13 (fun u13 hp13 => ?_)
    have hh : hold u13.2.1 u13.2.2.1 (Es d n) := hp13
    generalize hLe : Es d n = L at hh ⊢
    obtain ⟨hl15, hg, -⟩ : L.length ≤ 15 ∧ good L ∧ True := by rw [← hLe]; exact ⟨(hfo n hn).1, (hfo n hn).2.1, trivial⟩
    refine sx_aload_n E dX0_agrees_16 rfl 0 rfl ?_
    refine sx_iload_n E dX0_agrees_17 rfl 1 rfl ?_
    refine sx_callr (rest := []) E (cX_agreesWithAll l D h ca _ _ _ _ _ _ _ _ _ L hh (by omega) hg hn S (by omega)) wX_agreesWithAll kX_agreesWithAll ⟨⟨rfl, rfl⟩, by decide, by decide⟩ rfl rfl rfl (Nat.le_of_ble_eq_true rfl) dX0_agrees_18 ?_
    refine sx_istore_n E dX0_agrees_21 rfl (by decide) (lv' := [(0, .ref (h 0)), (1, .int (nI S)), (2, .int (bI (agf L n S L.length)))]) [1, 2, 0] rfl ?_
    refine sx_iload_n E dX0_agrees_22 rfl 2 rfl ?_
    refine sx_if_eqB E 30 dX0_agrees_23 (by decide) (fun c23 => ?_) (fun c23 => ?_)
    · refine sx_iconst (v := (nI 0)) E dX0_agrees_30 (by decide) ?_
      exact ret _ _ _ ((nI 1), (nI L.length), u13.1, u13.2.1, u13.2.2.1, u13.2.2.2.1, u13.2.2.2.2) dX0_agrees_31 (rfl) (⟨by unfold spAgrees; rw [if_neg (by rw [c5]; decide), hLe]; show _ = bI (agf L n S L.length); rw [c23]; rfl, ⟨true, rfl, fun _ => ⟨by rw [hLe], by rw [hLe]; exact hh⟩⟩⟩)
    · refine sx_iconst (v := (nI 1)) E dX0_agrees_26 (by decide) ?_
      refine sx_goto E 31 dX0_agrees_27 (by decide) ?_
      exact ret _ _ _ ((nI 1), (nI L.length), u13.1, u13.2.1, u13.2.2.1, u13.2.2.2.1, u13.2.2.2.2) dX0_agrees_31 (rfl) (⟨by unfold spAgrees; rw [if_neg (by rw [c5]; decide), hLe]; show _ = bI (agf L n S L.length); rw [c23]; rfl, ⟨true, rfl, fun _ => ⟨by rw [hLe], by rw [hLe]; exact hh⟩⟩⟩)
  · refine sx_sipush (v := (iI ((-1000)))) E dX0_agrees_8 (by decide) ?_
    exact ret _ _ _ ((bI b), fnd, fr, sd, ix, fs, fi) dX0_agrees_11 (rfl) (⟨by unfold spAgrees; rw [if_pos c5], ⟨b, rfl, hk⟩⟩)

set_option maxHeartbeats 4000000 in
theorem cX_agreeing (l : Launch) (D : va_G) (h : Nat → Nat) (ca : Nat → ClassId) (n : Nat) (kn fnd fr : Int32) (d : Nat → Nat) (sd ix fs fi kp : Nat → Int32) (hn : n ≤ 7) (hd : ∀ k, d k ≤ 60) (hfo : FindOK d) (hK : KN n d kn fnd sd ix)  : sx_Ci l yX0_agreeing cX0_agreeing 5 .int rmX_agreeing D (tyX ca) [.ref (h 0)] (pX h ca (nI n) kn fnd fr (nF d) sd ix fs fi kp) (S := Int32 × Int32 × Int32 × (Nat → Int32) × (Nat → Int32) × (Nat → Int32) × (Nat → Int32)) (fun u => pX h ca (nI n) u.1 u.2.1 u.2.2.1 (nF d) u.2.2.2.1 u.2.2.2.2.1 u.2.2.2.2.2.1 u.2.2.2.2.2.2 kp) (fun r u => r = iI (agS (Es d n) n ((Es d n).length + 1)) ∧ KN n d u.1 u.2.1 u.2.2.2.1 u.2.2.2.2.1) := by
  obtain ⟨b, rfl, hk⟩ := hK
  refine sx_enter_i (own := RX0) (by decide) rfl (Nat.le_of_ble_eq_true rfl) (lv := [(0, .ref (h 0))]) rfl ?_
  intro G E ret
  refine sx_aload_n E dX0_agreeing_0 rfl 0 rfl ?_
  refine sx_callv (rest := []) E (cX_find l D h ca n b _ _ d _ _ _ _ _ hn hd hfo hk) wX_find kX_find ⟨⟨rfl, rfl⟩, by decide, by decide⟩ rfl rfl rfl (Nat.le_of_ble_eq_true rfl) dX0_agreeing_1 (fun u1 hp1 => ?_)
  have hh : hold u1.2.1 u1.2.2.1 (Es d n) := hp1
  generalize hLe : Es d n = L at hh ⊢
  obtain ⟨hl15, hg, -⟩ : L.length ≤ 15 ∧ good L ∧ True := by rw [← hLe]; exact ⟨(hfo n hn).1, (hfo n hn).2.1, trivial⟩
  refine sx_aload_n E dX0_agreeing_4 rfl 0 rfl ?_
  refine sx_gX E rfl 3 (by decide) q42 rfl dX0_agreeing_5 ?_
  refine sx_top (y := (iI (((L.length : Nat) : Int)))) (iI_n _) ?_
  refine sx_istore_n E dX0_agreeing_8 rfl (by decide) (lv' := [(0, .ref (h 0)), (1, .int (iI (((L.length : Nat) : Int))))]) [1, 0] rfl ?_
  refine sx_iconst (v := (iI ((-1)))) E dX0_agreeing_9 (by decide) ?_
  refine sx_istore_n E dX0_agreeing_10 rfl (by decide) (lv' := [(0, .ref (h 0)), (1, .int (iI (((L.length : Nat) : Int)))), (2, .int (iI ((-1))))]) [1, 2, 0] rfl ?_
  have L11 : ∀ (f_ : Nat) (kk : Int) (s : Int) (t : Nat), (kk = (t : Int) - 1) → (t ≤ L.length + 1) → (s = agS L n t) → L.length + 1 - t < f_ → sx_S G (pX h ca (nI n) (nI 1) (nI L.length) u1.1 (nF d) u1.2.1 u1.2.2.1 u1.2.2.2.1 u1.2.2.2.2 kp) 11 [(0, .ref (h 0)), (1, .int (iI s)), (2, .int (iI kk))] [] := by
    intro f_
    induction f_ with
    | zero => intro kk s t hkk ht hs hm_; exact absurd hm_ (Nat.not_lt_zero _)
    | succ f_ ih11 =>
      intro kk s t hkk ht hs hm_
      refine sx_iload_n E dX0_agreeing_11 rfl 2 rfl ?_
      refine sx_aload_n E dX0_agreeing_12 rfl 0 rfl ?_
      refine sx_gX E rfl 3 (by decide) q42 rfl dX0_agreeing_13 ?_
      refine sx_top (iI_n _) ?_
      refine sx_icmp_geI E 81 dX0_agreeing_16 (by decide) (by omega) (by omega) (fun c16 => ?_) (fun c16 => ?_)
      · refine sx_iload_n E dX0_agreeing_81 rfl 1 rfl ?_
        exact ret _ _ _ ((nI 1), (nI L.length), u1.1, u1.2.1, u1.2.2.1, u1.2.2.2.1, u1.2.2.2.2) dX0_agreeing_82 (rfl) (⟨by rw [hs, hLe, show t = L.length + 1 by omega], ⟨true, rfl, fun _ => ⟨by rw [hLe], by rw [hLe]; exact hh⟩⟩⟩)
      · refine sx_aload_n E dX0_agreeing_19 rfl 0 rfl ?_
        refine sx_iload_n E dX0_agreeing_20 rfl 2 rfl ?_
        refine sx_callr (rest := []) E (cX_partsAt l D h ca _ _ _ _ _ _ _ _ _ L hh (by omega) hg hn kk (by omega) (by omega)) wX_partsAt kX_partsAt ⟨⟨rfl, rfl⟩, by decide, by decide⟩ rfl rfl rfl (Nat.le_of_ble_eq_true rfl) dX0_agreeing_21 ?_
        have hpa := prA_le L n kk
        refine sx_istore_n E dX0_agreeing_24 rfl (by decide) (lv' := [(0, .ref (h 0)), (1, .int (iI s)), (2, .int (iI kk)), (3, .int (nI (prA L n kk)))]) [1, 2, 3, 0] rfl ?_
        refine sx_iload_n E dX0_agreeing_25 rfl 3 rfl ?_
        refine sx_aload_n E dX0_agreeing_26 rfl 0 rfl ?_
        refine sx_iload_n E dX0_agreeing_27 rfl 2 rfl ?_
        refine sx_callr (rest := [.int (nI (prA L n kk))]) E (cX_pointsAt l D h ca _ _ _ _ _ _ _ _ _ L hh (by omega) hg hn kk (by omega) (by omega)) wX_pointsAt kX_pointsAt ⟨⟨rfl, rfl⟩, by decide, by decide⟩ rfl rfl rfl (Nat.le_of_ble_eq_true rfl) dX0_agreeing_28 ?_
        have hch : cH L kk n ≤ n := cntI_le _ _ _
        refine sx_isubNN E dX0_agreeing_31 ?_
        refine sx_istore E dX0_agreeing_32 (by decide) (lv' := [(0, .ref (h 0)), (1, .int (iI s)), (2, .int (iI kk)), (3, .int (nI (prA L n kk))), (4, .int (iI (((prA L n kk : Nat) : Int) - ((cH L kk n : Nat) : Int))))]) [1, 2, 3, 4, 0] rfl ?_
        refine sx_iload_n E dX0_agreeing_34 rfl 3 rfl ?_
        refine sx_iconst (v := (nI 2)) E dX0_agreeing_35 (by decide) ?_
        refine sx_icmp_neN E 49 dX0_agreeing_36 (by decide) (by omega) (by omega) (fun c36 => ?_) (fun c36 => ?_)
        · refine sx_iload E dX0_agreeing_49 4 rfl ?_
          refine sx_top (y := (iI (aloA L n kk))) (by unfold aloA; rw [if_neg (fun e => c36 e.1)]) ?_
          refine sx_istore E dX0_agreeing_51 (by decide) (lv' := [(0, .ref (h 0)), (1, .int (iI s)), (2, .int (iI kk)), (3, .int (nI (prA L n kk))), (4, .int (iI (aloA L n kk)))]) [1, 2, 3, 4, 0] rfl ?_
          refine sx_iload_n E dX0_agreeing_53 rfl 3 rfl ?_
          refine sx_iconst (v := (nI 1)) E dX0_agreeing_54 (by decide) ?_
          refine sx_icmp_leN E 73 dX0_agreeing_55 (by decide) (by omega) (by omega) (fun c55 => ?_) (fun c55 => ?_)
          · refine sx_iload_n E dX0_agreeing_73 rfl 1 rfl ?_
            refine sx_istore_n E dX0_agreeing_74 rfl (by decide) (lv' := [(0, .ref (h 0)), (1, .int (iI s)), (2, .int (iI kk)), (3, .int (nI (prA L n kk))), (4, .int (iI (aloA L n kk)))]) [1, 0, 2, 3, 4] rfl ?_
            refine sx_iinc E dX0_agreeing_75 2 rfl (v := (iI (kk + 1))) (incI _ _) (by decide) (lv' := [(0, .ref (h 0)), (1, .int (iI s)), (2, .int (iI (kk + 1))), (3, .int (nI (prA L n kk))), (4, .int (iI (aloA L n kk)))]) [1, 2, 0, 3, 4] rfl ?_
            refine sx_goto E 11 dX0_agreeing_78 (by decide) ?_
            refine sx_lv (lv' := [(0, .ref (h 0)), (1, .int (iI s)), (2, .int (iI (kk + 1)))]) [0, 1, 2] rfl ?_
            exact ih11 (kk + 1) s (t + 1) (by omega) (by omega) (by rw [agS_s, ← hkk, if_neg (by omega), hs]) (by omega)
          · refine sx_iload_n E dX0_agreeing_58 rfl 1 rfl ?_
            refine sx_iconst (v := (nI 1)) E dX0_agreeing_59 (by decide) ?_
            refine sx_iload_n E dX0_agreeing_60 rfl 3 rfl ?_
            refine sx_iconst (v := (nI 1)) E dX0_agreeing_61 (by decide) ?_
            refine sx_isubNM E dX0_agreeing_62 (by omega) ?_
            refine sx_shl1 E dX0_agreeing_63 (by omega) ?_
            refine sx_iaddIN E dX0_agreeing_64 ?_
            refine sx_iconst (v := (nI 1)) E dX0_agreeing_65 (by decide) ?_
            refine sx_isubIN E dX0_agreeing_66 ?_
            refine sx_iload E dX0_agreeing_67 4 rfl ?_
            refine sx_isubII E dX0_agreeing_69 ?_
            refine sx_goto E 74 dX0_agreeing_70 (by decide) ?_
            refine sx_istore_n E dX0_agreeing_74 rfl (by decide) (lv' := [(0, .ref (h 0)), (1, .int (iI (((s + (2 ^ ((prA L n kk) - 1) : Nat)) - ((1 : Nat) : Int)) - (aloA L n kk)))), (2, .int (iI kk)), (3, .int (nI (prA L n kk))), (4, .int (iI (aloA L n kk)))]) [1, 0, 2, 3, 4] rfl ?_
            refine sx_iinc E dX0_agreeing_75 2 rfl (v := (iI (kk + 1))) (incI _ _) (by decide) (lv' := [(0, .ref (h 0)), (1, .int (iI (((s + (2 ^ ((prA L n kk) - 1) : Nat)) - ((1 : Nat) : Int)) - (aloA L n kk)))), (2, .int (iI (kk + 1))), (3, .int (nI (prA L n kk))), (4, .int (iI (aloA L n kk)))]) [1, 2, 0, 3, 4] rfl ?_
            refine sx_goto E 11 dX0_agreeing_78 (by decide) ?_
            refine sx_lv (lv' := [(0, .ref (h 0)), (1, .int (iI (((s + (2 ^ ((prA L n kk) - 1) : Nat)) - ((1 : Nat) : Int)) - (aloA L n kk)))), (2, .int (iI (kk + 1)))]) [0, 1, 2] rfl ?_
            exact ih11 (kk + 1) (((s + (2 ^ ((prA L n kk) - 1) : Nat)) - ((1 : Nat) : Int)) - (aloA L n kk)) (t + 1) (by omega) (by omega) (by rw [agS_s, ← hkk, if_pos c55, ← hs]; omega) (by omega)
        · refine sx_iload E dX0_agreeing_39 4 rfl ?_
          refine sx_iconst (v := (nI 1)) E dX0_agreeing_41 (by decide) ?_
          refine sx_top (iI_n _) ?_
          refine sx_icmp_leI E 49 dX0_agreeing_42 (by decide) (by omega) (by omega) (fun c42 => ?_) (fun c42 => ?_)
          · refine sx_iload E dX0_agreeing_49 4 rfl ?_
            refine sx_top (y := (iI (aloA L n kk))) (by unfold aloA; rw [if_neg (fun e => by omega)]) ?_
            refine sx_istore E dX0_agreeing_51 (by decide) (lv' := [(0, .ref (h 0)), (1, .int (iI s)), (2, .int (iI kk)), (3, .int (nI (prA L n kk))), (4, .int (iI (aloA L n kk)))]) [1, 2, 3, 4, 0] rfl ?_
            refine sx_iload_n E dX0_agreeing_53 rfl 3 rfl ?_
            refine sx_iconst (v := (nI 1)) E dX0_agreeing_54 (by decide) ?_
            refine sx_icmp_leN E 73 dX0_agreeing_55 (by decide) (by omega) (by omega) (fun c55 => ?_) (fun c55 => ?_)
            · refine sx_iload_n E dX0_agreeing_73 rfl 1 rfl ?_
              refine sx_istore_n E dX0_agreeing_74 rfl (by decide) (lv' := [(0, .ref (h 0)), (1, .int (iI s)), (2, .int (iI kk)), (3, .int (nI (prA L n kk))), (4, .int (iI (aloA L n kk)))]) [1, 0, 2, 3, 4] rfl ?_
              refine sx_iinc E dX0_agreeing_75 2 rfl (v := (iI (kk + 1))) (incI _ _) (by decide) (lv' := [(0, .ref (h 0)), (1, .int (iI s)), (2, .int (iI (kk + 1))), (3, .int (nI (prA L n kk))), (4, .int (iI (aloA L n kk)))]) [1, 2, 0, 3, 4] rfl ?_
              refine sx_goto E 11 dX0_agreeing_78 (by decide) ?_
              refine sx_lv (lv' := [(0, .ref (h 0)), (1, .int (iI s)), (2, .int (iI (kk + 1)))]) [0, 1, 2] rfl ?_
              exact ih11 (kk + 1) s (t + 1) (by omega) (by omega) (by rw [agS_s, ← hkk, if_neg (by omega), hs]) (by omega)
            · refine sx_iload_n E dX0_agreeing_58 rfl 1 rfl ?_
              refine sx_iconst (v := (nI 1)) E dX0_agreeing_59 (by decide) ?_
              refine sx_iload_n E dX0_agreeing_60 rfl 3 rfl ?_
              refine sx_iconst (v := (nI 1)) E dX0_agreeing_61 (by decide) ?_
              refine sx_isubNM E dX0_agreeing_62 (by omega) ?_
              refine sx_shl1 E dX0_agreeing_63 (by omega) ?_
              refine sx_iaddIN E dX0_agreeing_64 ?_
              refine sx_iconst (v := (nI 1)) E dX0_agreeing_65 (by decide) ?_
              refine sx_isubIN E dX0_agreeing_66 ?_
              refine sx_iload E dX0_agreeing_67 4 rfl ?_
              refine sx_isubII E dX0_agreeing_69 ?_
              refine sx_goto E 74 dX0_agreeing_70 (by decide) ?_
              refine sx_istore_n E dX0_agreeing_74 rfl (by decide) (lv' := [(0, .ref (h 0)), (1, .int (iI (((s + (2 ^ ((prA L n kk) - 1) : Nat)) - ((1 : Nat) : Int)) - (aloA L n kk)))), (2, .int (iI kk)), (3, .int (nI (prA L n kk))), (4, .int (iI (aloA L n kk)))]) [1, 0, 2, 3, 4] rfl ?_
              refine sx_iinc E dX0_agreeing_75 2 rfl (v := (iI (kk + 1))) (incI _ _) (by decide) (lv' := [(0, .ref (h 0)), (1, .int (iI (((s + (2 ^ ((prA L n kk) - 1) : Nat)) - ((1 : Nat) : Int)) - (aloA L n kk)))), (2, .int (iI (kk + 1))), (3, .int (nI (prA L n kk))), (4, .int (iI (aloA L n kk)))]) [1, 2, 0, 3, 4] rfl ?_
              refine sx_goto E 11 dX0_agreeing_78 (by decide) ?_
              refine sx_lv (lv' := [(0, .ref (h 0)), (1, .int (iI (((s + (2 ^ ((prA L n kk) - 1) : Nat)) - ((1 : Nat) : Int)) - (aloA L n kk)))), (2, .int (iI (kk + 1)))]) [0, 1, 2] rfl ?_
              exact ih11 (kk + 1) (((s + (2 ^ ((prA L n kk) - 1) : Nat)) - ((1 : Nat) : Int)) - (aloA L n kk)) (t + 1) (by omega) (by omega) (by rw [agS_s, ← hkk, if_pos c55, ← hs]; omega) (by omega)
          · refine sx_iconst (v := (iI 1)) E dX0_agreeing_45 (by decide) ?_
            refine sx_goto E 51 dX0_agreeing_46 (by decide) ?_
            refine sx_top (y := (iI (aloA L n kk))) (by unfold aloA; rw [if_pos ⟨c36, c42⟩]) ?_
            refine sx_istore E dX0_agreeing_51 (by decide) (lv' := [(0, .ref (h 0)), (1, .int (iI s)), (2, .int (iI kk)), (3, .int (nI (prA L n kk))), (4, .int (iI (aloA L n kk)))]) [1, 2, 3, 4, 0] rfl ?_
            refine sx_iload_n E dX0_agreeing_53 rfl 3 rfl ?_
            refine sx_iconst (v := (nI 1)) E dX0_agreeing_54 (by decide) ?_
            refine sx_icmp_leN E 73 dX0_agreeing_55 (by decide) (by omega) (by omega) (fun c55 => ?_) (fun c55 => ?_)
            · refine sx_iload_n E dX0_agreeing_73 rfl 1 rfl ?_
              refine sx_istore_n E dX0_agreeing_74 rfl (by decide) (lv' := [(0, .ref (h 0)), (1, .int (iI s)), (2, .int (iI kk)), (3, .int (nI (prA L n kk))), (4, .int (iI (aloA L n kk)))]) [1, 0, 2, 3, 4] rfl ?_
              refine sx_iinc E dX0_agreeing_75 2 rfl (v := (iI (kk + 1))) (incI _ _) (by decide) (lv' := [(0, .ref (h 0)), (1, .int (iI s)), (2, .int (iI (kk + 1))), (3, .int (nI (prA L n kk))), (4, .int (iI (aloA L n kk)))]) [1, 2, 0, 3, 4] rfl ?_
              refine sx_goto E 11 dX0_agreeing_78 (by decide) ?_
              refine sx_lv (lv' := [(0, .ref (h 0)), (1, .int (iI s)), (2, .int (iI (kk + 1)))]) [0, 1, 2] rfl ?_
              exact ih11 (kk + 1) s (t + 1) (by omega) (by omega) (by rw [agS_s, ← hkk, if_neg (by omega), hs]) (by omega)
            · refine sx_iload_n E dX0_agreeing_58 rfl 1 rfl ?_
              refine sx_iconst (v := (nI 1)) E dX0_agreeing_59 (by decide) ?_
              refine sx_iload_n E dX0_agreeing_60 rfl 3 rfl ?_
              refine sx_iconst (v := (nI 1)) E dX0_agreeing_61 (by decide) ?_
              refine sx_isubNM E dX0_agreeing_62 (by omega) ?_
              refine sx_shl1 E dX0_agreeing_63 (by omega) ?_
              refine sx_iaddIN E dX0_agreeing_64 ?_
              refine sx_iconst (v := (nI 1)) E dX0_agreeing_65 (by decide) ?_
              refine sx_isubIN E dX0_agreeing_66 ?_
              refine sx_iload E dX0_agreeing_67 4 rfl ?_
              refine sx_isubII E dX0_agreeing_69 ?_
              refine sx_goto E 74 dX0_agreeing_70 (by decide) ?_
              refine sx_istore_n E dX0_agreeing_74 rfl (by decide) (lv' := [(0, .ref (h 0)), (1, .int (iI (((s + (2 ^ ((prA L n kk) - 1) : Nat)) - ((1 : Nat) : Int)) - (aloA L n kk)))), (2, .int (iI kk)), (3, .int (nI (prA L n kk))), (4, .int (iI (aloA L n kk)))]) [1, 0, 2, 3, 4] rfl ?_
              refine sx_iinc E dX0_agreeing_75 2 rfl (v := (iI (kk + 1))) (incI _ _) (by decide) (lv' := [(0, .ref (h 0)), (1, .int (iI (((s + (2 ^ ((prA L n kk) - 1) : Nat)) - ((1 : Nat) : Int)) - (aloA L n kk)))), (2, .int (iI (kk + 1))), (3, .int (nI (prA L n kk))), (4, .int (iI (aloA L n kk)))]) [1, 2, 0, 3, 4] rfl ?_
              refine sx_goto E 11 dX0_agreeing_78 (by decide) ?_
              refine sx_lv (lv' := [(0, .ref (h 0)), (1, .int (iI (((s + (2 ^ ((prA L n kk) - 1) : Nat)) - ((1 : Nat) : Int)) - (aloA L n kk)))), (2, .int (iI (kk + 1)))]) [0, 1, 2] rfl ?_
              exact ih11 (kk + 1) (((s + (2 ^ ((prA L n kk) - 1) : Nat)) - ((1 : Nat) : Int)) - (aloA L n kk)) (t + 1) (by omega) (by omega) (by rw [agS_s, ← hkk, if_pos c55, ← hs]; omega) (by omega)
  exact L11 _ ((-1)) (((L.length : Nat) : Int)) 0 (by omega) (Nat.zero_le _) (rfl) (Nat.lt_succ_self _)

set_option maxHeartbeats 4000000 in
theorem cX_treelike (l : Launch) (D : va_G) (h : Nat → Nat) (ca : Nat → ClassId) (n : Nat) (kn fnd fr : Int32) (d : Nat → Nat) (sd ix fs fi kp : Nat → Int32) (hn : n ≤ 7) (hd : ∀ k, d k ≤ 60) (hfo : FindOK d) (hK : KN n d kn fnd sd ix)  : sx_Ci l yX0_treelike cX0_treelike 4 .int rmX_treelike D (tyX ca) [.ref (h 0)] (pX h ca (nI n) kn fnd fr (nF d) sd ix fs fi kp) (S := Int32 × Int32 × Int32 × (Nat → Int32) × (Nat → Int32) × (Nat → Int32) × (Nat → Int32)) (fun u => pX h ca (nI n) u.1 u.2.1 u.2.2.1 (nF d) u.2.2.2.1 u.2.2.2.2.1 u.2.2.2.2.2.1 u.2.2.2.2.2.2 kp) (fun r u => r = bI (tlf (Es d n) n d (n * n)) ∧ KN n d u.1 u.2.1 u.2.2.2.1 u.2.2.2.2.1) := by
  obtain ⟨b, rfl, hk⟩ := hK
  refine sx_enter_i (own := RX0) (by decide) rfl (Nat.le_of_ble_eq_true rfl) (lv := [(0, .ref (h 0))]) rfl ?_
  intro G E ret
  have hnn : n * n ≤ 49 := Nat.mul_le_mul hn hn
  refine sx_aload_n E dX0_treelike_0 rfl 0 rfl ?_
  refine sx_callv (rest := []) E (cX_find l D h ca n b _ _ d _ _ _ _ _ hn hd hfo hk) wX_find kX_find ⟨⟨rfl, rfl⟩, by decide, by decide⟩ rfl rfl rfl (Nat.le_of_ble_eq_true rfl) dX0_treelike_1 (fun u1 hp1 => ?_)
  have hh : hold u1.2.1 u1.2.2.1 (Es d n) := hp1
  generalize hLe : Es d n = L at hh ⊢
  obtain ⟨hl15, hg, -⟩ : L.length ≤ 15 ∧ good L ∧ True := by rw [← hLe]; exact ⟨(hfo n hn).1, (hfo n hn).2.1, trivial⟩
  refine sx_iconst (v := (bI true)) E dX0_treelike_4 (by decide) ?_
  refine sx_istore_n E dX0_treelike_5 rfl (by decide) (lv' := [(0, .ref (h 0)), (1, .int (bI true))]) [1, 0] rfl ?_
  refine sx_iconst (v := (nI 0)) E dX0_treelike_6 (by decide) ?_
  refine sx_istore_n E dX0_treelike_7 rfl (by decide) (lv' := [(0, .ref (h 0)), (1, .int (bI true)), (2, .int (nI 0))]) [1, 2, 0] rfl ?_
  have L8 : ∀ (f_ : Nat) (k : Nat) (al : Bool), (k ≤ n * n) → (al = tlf L n d k) → n * n - k < f_ → sx_S G (pX h ca (nI n) (nI 1) (nI L.length) u1.1 (nF d) u1.2.1 u1.2.2.1 u1.2.2.2.1 u1.2.2.2.2 kp) 8 [(0, .ref (h 0)), (1, .int (bI al)), (2, .int (nI k))] [] := by
    intro f_
    induction f_ with
    | zero => intro k al hk_ ha hm_; exact absurd hm_ (Nat.not_lt_zero _)
    | succ f_ ih8 =>
      intro k al hk_ ha hm_
      refine sx_iload_n E dX0_treelike_8 rfl 2 rfl ?_
      refine sx_aload_n E dX0_treelike_9 rfl 0 rfl ?_
      refine sx_gX E rfl 0 (by decide) q39 rfl dX0_treelike_10 ?_
      refine sx_aload_n E dX0_treelike_13 rfl 0 rfl ?_
      refine sx_gX E rfl 0 (by decide) q39 rfl dX0_treelike_14 ?_
      refine sx_imulNN E dX0_treelike_17 ?_
      refine sx_icmp_geN E 76 dX0_treelike_18 (by decide) (by omega) (by omega) (fun c18 => ?_) (fun c18 => ?_)
      · obtain rfl : k = n * n := by omega
        refine sx_iload_n E dX0_treelike_76 rfl 1 rfl ?_
        refine sx_if_eqB E 84 dX0_treelike_77 (by decide) (fun c77 => ?_) (fun c77 => ?_)
        · refine sx_iconst (v := (nI 0)) E dX0_treelike_84 (by decide) ?_
          exact ret _ _ _ ((nI 1), (nI L.length), u1.1, u1.2.1, u1.2.2.1, u1.2.2.2.1, u1.2.2.2.2) dX0_treelike_85 (rfl) (⟨by rw [hLe, ← ha, c77]; rfl, ⟨true, rfl, fun _ => ⟨by rw [hLe], by rw [hLe]; exact hh⟩⟩⟩)
        · refine sx_iconst (v := (nI 1)) E dX0_treelike_80 (by decide) ?_
          refine sx_goto E 85 dX0_treelike_81 (by decide) ?_
          exact ret _ _ _ ((nI 1), (nI L.length), u1.1, u1.2.1, u1.2.2.1, u1.2.2.2.1, u1.2.2.2.2) dX0_treelike_85 (rfl) (⟨by rw [hLe, ← ha, c77]; rfl, ⟨true, rfl, fun _ => ⟨by rw [hLe], by rw [hLe]; exact hh⟩⟩⟩)
      · have ⟨hn0, hx_, hy_⟩ := kdiv c18
        refine sx_aload_n E dX0_treelike_21 rfl 0 rfl ?_
        refine sx_iload_n E dX0_treelike_22 rfl 2 rfl ?_
        refine sx_aload_n E dX0_treelike_23 rfl 0 rfl ?_
        refine sx_gX E rfl 0 (by decide) q39 rfl dX0_treelike_24 ?_
        refine sx_idivNN E dX0_treelike_27 (by omega) (by omega) (by omega) ?_
        refine sx_iload_n E dX0_treelike_28 rfl 2 rfl ?_
        refine sx_aload_n E dX0_treelike_29 rfl 0 rfl ?_
        refine sx_gX E rfl 0 (by decide) q39 rfl dX0_treelike_30 ?_
        refine sx_iremNN E dX0_treelike_33 (by omega) (by omega) (by omega) ?_
        refine sx_callr (rest := []) E (cX_pathOf l D h ca _ _ _ _ _ _ _ _ _ L hh (by omega) hg (k / n) (k % n) (by omega) (by omega)) wX_pathOf kX_pathOf ⟨⟨rfl, rfl⟩, by decide, by decide⟩ rfl rfl rfl (Nat.le_of_ble_eq_true rfl) dX0_treelike_34 ?_
        have hpl := path_le hg (by omega) (k / n) (k % n)
        refine sx_istore_n E dX0_treelike_37 rfl (by decide) (lv' := [(0, .ref (h 0)), (1, .int (bI al)), (2, .int (nI k)), (3, .int (nI (pathL L (k / n) (k % n))))]) [1, 2, 3, 0] rfl ?_
        refine sx_iload_n E dX0_treelike_38 rfl 1 rfl ?_
        refine sx_if_eqB E 68 dX0_treelike_39 (by decide) (fun c39 => ?_) (fun c39 => ?_)
        · refine sx_iconst (v := (bI false)) E dX0_treelike_68 (by decide) ?_
          refine sx_istore_n E dX0_treelike_69 rfl (by decide) (lv' := [(0, .ref (h 0)), (1, .int (bI false)), (2, .int (nI k)), (3, .int (nI (pathL L (k / n) (k % n))))]) [1, 0, 2, 3] rfl ?_
          refine sx_iinc E dX0_treelike_70 2 rfl (v := (nI (k + 1))) (inc1 _) (by decide) (lv' := [(0, .ref (h 0)), (1, .int (bI false)), (2, .int (nI (k + 1))), (3, .int (nI (pathL L (k / n) (k % n))))]) [1, 2, 0, 3] rfl ?_
          refine sx_goto E 8 dX0_treelike_73 (by decide) ?_
          refine sx_lv (lv' := [(0, .ref (h 0)), (1, .int (bI false)), (2, .int (nI (k + 1)))]) [0, 1, 2] rfl ?_
          exact ih8 (k + 1) false (by omega) (by unfold tlf; rw [← ha, c39]; rfl) (by omega)
        · refine sx_iload_n E dX0_treelike_42 rfl 3 rfl ?_
          refine sx_iconst (v := (nI 2)) E dX0_treelike_43 (by decide) ?_
          refine sx_aload_n E dX0_treelike_44 rfl 0 rfl ?_
          refine sx_iload_n E dX0_treelike_45 rfl 2 rfl ?_
          refine sx_aload_n E dX0_treelike_46 rfl 0 rfl ?_
          refine sx_gX E rfl 0 (by decide) q39 rfl dX0_treelike_47 ?_
          refine sx_idivNN E dX0_treelike_50 (by omega) (by omega) (by omega) ?_
          refine sx_iload_n E dX0_treelike_51 rfl 2 rfl ?_
          refine sx_aload_n E dX0_treelike_52 rfl 0 rfl ?_
          refine sx_gX E rfl 0 (by decide) q39 rfl dX0_treelike_53 ?_
          refine sx_iremNN E dX0_treelike_56 (by omega) (by omega) (by omega) ?_
          refine sx_callr (rest := [.int (nI 2), .int (nI (pathL L (k / n) (k % n)))]) E (cX_get l D h ca _ _ _ _ d _ _ _ _ _ (k / n) (k % n) (by omega) (by omega)) wX_get kX_get ⟨⟨rfl, rfl⟩, by decide, by decide⟩ rfl rfl rfl (Nat.le_of_ble_eq_true rfl) dX0_treelike_57 ?_
          refine sx_imulNN E dX0_treelike_60 ?_
          have hdk := hd (7 * (k / n) + k % n)
          refine sx_icmp_neN E 68 dX0_treelike_61 (by decide) (by omega) (by omega) (fun c61 => ?_) (fun c61 => ?_)
          · refine sx_iconst (v := (bI false)) E dX0_treelike_68 (by decide) ?_
            refine sx_istore_n E dX0_treelike_69 rfl (by decide) (lv' := [(0, .ref (h 0)), (1, .int (bI false)), (2, .int (nI k)), (3, .int (nI (pathL L (k / n) (k % n))))]) [1, 0, 2, 3] rfl ?_
            refine sx_iinc E dX0_treelike_70 2 rfl (v := (nI (k + 1))) (inc1 _) (by decide) (lv' := [(0, .ref (h 0)), (1, .int (bI false)), (2, .int (nI (k + 1))), (3, .int (nI (pathL L (k / n) (k % n))))]) [1, 2, 0, 3] rfl ?_
            refine sx_goto E 8 dX0_treelike_73 (by decide) ?_
            refine sx_lv (lv' := [(0, .ref (h 0)), (1, .int (bI false)), (2, .int (nI (k + 1)))]) [0, 1, 2] rfl ?_
            exact ih8 (k + 1) false (by omega) (by unfold tlf; rw [decide_eq_false c61, Bool.and_false]) (by omega)
          · refine sx_iconst (v := (bI true)) E dX0_treelike_64 (by decide) ?_
            refine sx_goto E 69 dX0_treelike_65 (by decide) ?_
            refine sx_istore_n E dX0_treelike_69 rfl (by decide) (lv' := [(0, .ref (h 0)), (1, .int (bI true)), (2, .int (nI k)), (3, .int (nI (pathL L (k / n) (k % n))))]) [1, 0, 2, 3] rfl ?_
            refine sx_iinc E dX0_treelike_70 2 rfl (v := (nI (k + 1))) (inc1 _) (by decide) (lv' := [(0, .ref (h 0)), (1, .int (bI true)), (2, .int (nI (k + 1))), (3, .int (nI (pathL L (k / n) (k % n))))]) [1, 2, 0, 3] rfl ?_
            refine sx_goto E 8 dX0_treelike_73 (by decide) ?_
            refine sx_lv (lv' := [(0, .ref (h 0)), (1, .int (bI true)), (2, .int (nI (k + 1)))]) [0, 1, 2] rfl ?_
            exact ih8 (k + 1) true (by omega) (by unfold tlf; rw [← ha, c39, decide_eq_true c61]; rfl) (by omega)
  exact L8 _ 0 true (Nat.zero_le _) (rfl) (Nat.lt_succ_self _)

set_option maxHeartbeats 4000000 in
theorem cX_span (l : Launch) (D : va_G) (h : Nat → Nat) (ca : Nat → ClassId) (n : Nat) (kn fnd fr : Int32) (d : Nat → Nat) (sd ix fs fi kp : Nat → Int32) (hn : n ≤ 7) (hd : ∀ k, d k ≤ 60) (hfo : FindOK d) (hK : KN n d kn fnd sd ix)  : sx_Ci l yX0_span cX0_span 4 .int rmX_span D (tyX ca) [.ref (h 0)] (pX h ca (nI n) kn fnd fr (nF d) sd ix fs fi kp) (S := Int32 × Int32 × Int32 × (Nat → Int32) × (Nat → Int32) × (Nat → Int32) × (Nat → Int32)) (fun u => pX h ca (nI n) u.1 u.2.1 u.2.2.1 (nF d) u.2.2.2.1 u.2.2.2.2.1 u.2.2.2.2.2.1 u.2.2.2.2.2.2 kp) (fun r u => r = nI (spf (Es d n) n (n * n)) ∧ KN n d u.1 u.2.1 u.2.2.2.1 u.2.2.2.2.1) := by
  obtain ⟨b, rfl, hk⟩ := hK
  refine sx_enter_i (own := RX0) (by decide) rfl (Nat.le_of_ble_eq_true rfl) (lv := [(0, .ref (h 0))]) rfl ?_
  intro G E ret
  have hnn : n * n ≤ 49 := Nat.mul_le_mul hn hn
  refine sx_aload_n E dX0_span_0 rfl 0 rfl ?_
  refine sx_callv (rest := []) E (cX_find l D h ca n b _ _ d _ _ _ _ _ hn hd hfo hk) wX_find kX_find ⟨⟨rfl, rfl⟩, by decide, by decide⟩ rfl rfl rfl (Nat.le_of_ble_eq_true rfl) dX0_span_1 (fun u1 hp1 => ?_)
  have hh : hold u1.2.1 u1.2.2.1 (Es d n) := hp1
  generalize hLe : Es d n = L at hh ⊢
  obtain ⟨hl15, hg, -⟩ : L.length ≤ 15 ∧ good L ∧ True := by rw [← hLe]; exact ⟨(hfo n hn).1, (hfo n hn).2.1, trivial⟩
  refine sx_iconst (v := (nI 0)) E dX0_span_4 (by decide) ?_
  refine sx_istore_n E dX0_span_5 rfl (by decide) (lv' := [(0, .ref (h 0)), (1, .int (nI 0))]) [1, 0] rfl ?_
  refine sx_iconst (v := (nI 0)) E dX0_span_6 (by decide) ?_
  refine sx_istore_n E dX0_span_7 rfl (by decide) (lv' := [(0, .ref (h 0)), (1, .int (nI 0)), (2, .int (nI 0))]) [1, 2, 0] rfl ?_
  have L8 : ∀ (f_ : Nat) (k : Nat) (m : Nat), (k ≤ n * n) → (m = spf L n k) → n * n - k < f_ → sx_S G (pX h ca (nI n) (nI 1) (nI L.length) u1.1 (nF d) u1.2.1 u1.2.2.1 u1.2.2.2.1 u1.2.2.2.2 kp) 8 [(0, .ref (h 0)), (1, .int (nI m)), (2, .int (nI k))] [] := by
    intro f_
    induction f_ with
    | zero => intro k m hk_ hm hm_; exact absurd hm_ (Nat.not_lt_zero _)
    | succ f_ ih8 =>
      intro k m hk_ hm hm_
      have hsl := spf_le hg (by omega) n k
      rw [← hm] at hsl
      refine sx_iload_n E dX0_span_8 rfl 2 rfl ?_
      refine sx_aload_n E dX0_span_9 rfl 0 rfl ?_
      refine sx_gX E rfl 0 (by decide) q39 rfl dX0_span_10 ?_
      refine sx_aload_n E dX0_span_13 rfl 0 rfl ?_
      refine sx_gX E rfl 0 (by decide) q39 rfl dX0_span_14 ?_
      refine sx_imulNN E dX0_span_17 ?_
      refine sx_icmp_geN E 55 dX0_span_18 (by decide) (by omega) (by omega) (fun c18 => ?_) (fun c18 => ?_)
      · obtain rfl : k = n * n := by omega
        refine sx_iload_n E dX0_span_55 rfl 1 rfl ?_
        exact ret _ _ _ ((nI 1), (nI L.length), u1.1, u1.2.1, u1.2.2.1, u1.2.2.2.1, u1.2.2.2.2) dX0_span_56 (rfl) (⟨by rw [hLe, hm], ⟨true, rfl, fun _ => ⟨by rw [hLe], by rw [hLe]; exact hh⟩⟩⟩)
      · have ⟨hn0, hx_, hy_⟩ := kdiv c18
        refine sx_aload_n E dX0_span_21 rfl 0 rfl ?_
        refine sx_iload_n E dX0_span_22 rfl 2 rfl ?_
        refine sx_aload_n E dX0_span_23 rfl 0 rfl ?_
        refine sx_gX E rfl 0 (by decide) q39 rfl dX0_span_24 ?_
        refine sx_idivNN E dX0_span_27 (by omega) (by omega) (by omega) ?_
        refine sx_iload_n E dX0_span_28 rfl 2 rfl ?_
        refine sx_aload_n E dX0_span_29 rfl 0 rfl ?_
        refine sx_gX E rfl 0 (by decide) q39 rfl dX0_span_30 ?_
        refine sx_iremNN E dX0_span_33 (by omega) (by omega) (by omega) ?_
        refine sx_callr (rest := []) E (cX_pathOf l D h ca _ _ _ _ _ _ _ _ _ L hh (by omega) hg (k / n) (k % n) (by omega) (by omega)) wX_pathOf kX_pathOf ⟨⟨rfl, rfl⟩, by decide, by decide⟩ rfl rfl rfl (Nat.le_of_ble_eq_true rfl) dX0_span_34 ?_
        have hpl := path_le hg (by omega) (k / n) (k % n)
        refine sx_istore_n E dX0_span_37 rfl (by decide) (lv' := [(0, .ref (h 0)), (1, .int (nI m)), (2, .int (nI k)), (3, .int (nI (pathL L (k / n) (k % n))))]) [1, 2, 3, 0] rfl ?_
        refine sx_iload_n E dX0_span_38 rfl 3 rfl ?_
        refine sx_iload_n E dX0_span_39 rfl 1 rfl ?_
        refine sx_icmp_leN E 47 dX0_span_40 (by decide) (by omega) (by omega) (fun c40 => ?_) (fun c40 => ?_)
        · refine sx_iload_n E dX0_span_47 rfl 1 rfl ?_
          refine sx_istore_n E dX0_span_48 rfl (by decide) (lv' := [(0, .ref (h 0)), (1, .int (nI m)), (2, .int (nI k)), (3, .int (nI (pathL L (k / n) (k % n))))]) [1, 0, 2, 3] rfl ?_
          refine sx_iinc E dX0_span_49 2 rfl (v := (nI (k + 1))) (inc1 _) (by decide) (lv' := [(0, .ref (h 0)), (1, .int (nI m)), (2, .int (nI (k + 1))), (3, .int (nI (pathL L (k / n) (k % n))))]) [1, 2, 0, 3] rfl ?_
          refine sx_goto E 8 dX0_span_52 (by decide) ?_
          refine sx_lv (lv' := [(0, .ref (h 0)), (1, .int (nI m)), (2, .int (nI (k + 1)))]) [0, 1, 2] rfl ?_
          exact ih8 (k + 1) m (by omega) (by rw [spf_s, ← hm, if_neg (by omega)]) (by omega)
        · refine sx_iload_n E dX0_span_43 rfl 3 rfl ?_
          refine sx_goto E 48 dX0_span_44 (by decide) ?_
          refine sx_istore_n E dX0_span_48 rfl (by decide) (lv' := [(0, .ref (h 0)), (1, .int (nI (pathL L (k / n) (k % n)))), (2, .int (nI k)), (3, .int (nI (pathL L (k / n) (k % n))))]) [1, 0, 2, 3] rfl ?_
          refine sx_iinc E dX0_span_49 2 rfl (v := (nI (k + 1))) (inc1 _) (by decide) (lv' := [(0, .ref (h 0)), (1, .int (nI (pathL L (k / n) (k % n)))), (2, .int (nI (k + 1))), (3, .int (nI (pathL L (k / n) (k % n))))]) [1, 2, 0, 3] rfl ?_
          refine sx_goto E 8 dX0_span_52 (by decide) ?_
          refine sx_lv (lv' := [(0, .ref (h 0)), (1, .int (nI (pathL L (k / n) (k % n)))), (2, .int (nI (k + 1)))]) [0, 1, 2] rfl ?_
          exact ih8 (k + 1) (pathL L (k / n) (k % n)) (by omega) (by rw [spf_s, ← hm, if_pos c40]) (by omega)
  exact L8 _ 0 0 (Nat.zero_le _) (rfl) (Nat.lt_succ_self _)

set_option maxHeartbeats 4000000 in
theorem cX_weight (l : Launch) (D : va_G) (h : Nat → Nat) (ca : Nat → ClassId) (n : Nat) (kn fnd fr : Int32) (d : Nat → Nat) (sd ix fs fi kp : Nat → Int32) (hn : n ≤ 7) (hd : ∀ k, d k ≤ 60) (hfo : FindOK d) (hK : KN n d kn fnd sd ix)  : sx_Ci l yX0_weight cX0_weight 3 .int rmX_weight D (tyX ca) [.ref (h 0)] (pX h ca (nI n) kn fnd fr (nF d) sd ix fs fi kp) (S := Int32 × Int32 × Int32 × (Nat → Int32) × (Nat → Int32) × (Nat → Int32) × (Nat → Int32)) (fun u => pX h ca (nI n) u.1 u.2.1 u.2.2.1 (nF d) u.2.2.2.1 u.2.2.2.2.1 u.2.2.2.2.2.1 u.2.2.2.2.2.2 kp) (fun r u => r = nI (wgf (Es d n) (Es d n).length) ∧ KN n d u.1 u.2.1 u.2.2.2.1 u.2.2.2.2.1) := by
  obtain ⟨b, rfl, hk⟩ := hK
  refine sx_enter_i (own := RX0) (by decide) rfl (Nat.le_of_ble_eq_true rfl) (lv := [(0, .ref (h 0))]) rfl ?_
  intro G E ret
  refine sx_aload_n E dX0_weight_0 rfl 0 rfl ?_
  refine sx_callv (rest := []) E (cX_find l D h ca n b _ _ d _ _ _ _ _ hn hd hfo hk) wX_find kX_find ⟨⟨rfl, rfl⟩, by decide, by decide⟩ rfl rfl rfl (Nat.le_of_ble_eq_true rfl) dX0_weight_1 (fun u1 hp1 => ?_)
  have hh : hold u1.2.1 u1.2.2.1 (Es d n) := hp1
  generalize hLe : Es d n = L at hh ⊢
  obtain ⟨hl15, hg, -⟩ : L.length ≤ 15 ∧ good L ∧ True := by rw [← hLe]; exact ⟨(hfo n hn).1, (hfo n hn).2.1, trivial⟩
  refine sx_iconst (v := (nI 0)) E dX0_weight_4 (by decide) ?_
  refine sx_istore_n E dX0_weight_5 rfl (by decide) (lv' := [(0, .ref (h 0)), (1, .int (nI 0))]) [1, 0] rfl ?_
  refine sx_iconst (v := (nI 0)) E dX0_weight_6 (by decide) ?_
  refine sx_istore_n E dX0_weight_7 rfl (by decide) (lv' := [(0, .ref (h 0)), (1, .int (nI 0)), (2, .int (nI 0))]) [1, 2, 0] rfl ?_
  have L8 : ∀ (f_ : Nat) (k : Nat) (m : Nat), (k ≤ L.length) → (m = wgf L k) → L.length - k < f_ → sx_S G (pX h ca (nI n) (nI 1) (nI L.length) u1.1 (nF d) u1.2.1 u1.2.2.1 u1.2.2.2.1 u1.2.2.2.2 kp) 8 [(0, .ref (h 0)), (1, .int (nI m)), (2, .int (nI k))] [] := by
    intro f_
    induction f_ with
    | zero => intro k m hk_ hm hm_; exact absurd hm_ (Nat.not_lt_zero _)
    | succ f_ ih8 =>
      intro k m hk_ hm hm_
      refine sx_iload_n E dX0_weight_8 rfl 2 rfl ?_
      refine sx_aload_n E dX0_weight_9 rfl 0 rfl ?_
      refine sx_gX E rfl 3 (by decide) q42 rfl dX0_weight_10 ?_
      refine sx_icmp_geN E 31 dX0_weight_13 (by decide) (by omega) (by omega) (fun c13 => ?_) (fun c13 => ?_)
      · obtain rfl : k = L.length := by omega
        refine sx_iload_n E dX0_weight_31 rfl 1 rfl ?_
        exact ret _ _ _ ((nI 1), (nI L.length), u1.1, u1.2.1, u1.2.2.1, u1.2.2.2.1, u1.2.2.2.2) dX0_weight_32 (rfl) (⟨by rw [hLe, hm], ⟨true, rfl, fun _ => ⟨by rw [hLe], by rw [hLe]; exact hh⟩⟩⟩)
      · refine sx_iload_n E dX0_weight_16 rfl 1 rfl ?_
        refine sx_aload_n E dX0_weight_17 rfl 0 rfl ?_
        refine sx_gX E rfl 5 (by decide) q44 rfl dX0_weight_18 ?_
        refine sx_iload_n E dX0_weight_21 rfl 2 rfl ?_
        refine sx_iald E 3 2 rfl rfl (by omega) (by decide) (v := (nI (ixN L k))) (hh.ix (by omega)) dX0_weight_22 ?_
        refine sx_iaddNN E dX0_weight_23 ?_
        refine sx_istore_n E dX0_weight_24 rfl (by decide) (lv' := [(0, .ref (h 0)), (1, .int (nI (m + (ixN L k)))), (2, .int (nI k))]) [1, 0, 2] rfl ?_
        refine sx_iinc E dX0_weight_25 2 rfl (v := (nI (k + 1))) (inc1 _) (by decide) (lv' := [(0, .ref (h 0)), (1, .int (nI (m + (ixN L k)))), (2, .int (nI (k + 1)))]) [1, 2, 0] rfl ?_
        refine sx_goto E 8 dX0_weight_28 (by decide) ?_
        exact ih8 (k + 1) (m + (ixN L k)) (by omega) (by rw [hm]; rfl) (by omega)
  exact L8 _ 0 0 (Nat.zero_le _) (rfl) (Nat.lt_succ_self _)

theorem kept_s {L : EL} {n k : Nat} {kq : Nat → Int32} (h : ∀ j, j < k → kq j = nI (smh L n j)) : ∀ j, j < k + 1 → upd kq k (nI (smh L n k)) j = nI (smh L n j) := by
  intro j hj
  by_cases e : j = k
  · subst e
    exact upd_at _ _ _
  · rw [upd_ne e]
    exact h j (by omega)
theorem smf_le {L : EL} {n : Nat} {d : Nat → Nat} (hd : ∀ k, d k ≤ 60) : ∀ k j, (smf L n d k).1 j ≤ 60
  | 0 => hd
  | k + 1 => by
    intro j
    rw [smf_s]
    split
    · exact putD_le (smf_le hd k) (smh_le L n k) j
    · exact smf_le hd k j
set_option maxHeartbeats 4000000 in
theorem cX_smooth (l : Launch) (D : va_G) (h : Nat → Nat) (ca : Nat → ClassId) (n : Nat) (kn fnd fr : Int32) (d : Nat → Nat) (sd ix fs fi kp : Nat → Int32) (hn : n ≤ 7) (hd : ∀ k, d k ≤ 60) (hfo : FindOK d) (hK : KN n d kn fnd sd ix) : sx_Ci l yX0_smooth cX0_smooth 5 .int rmX_smooth D (tyX ca) [.ref (h 0)] (pX h ca (nI n) kn fnd fr (nF d) sd ix fs fi kp) (S := (Nat → Nat) × Int32 × Int32 × Int32 × (Nat → Int32) × (Nat → Int32) × (Nat → Int32) × (Nat → Int32) × (Nat → Int32)) (fun u => pX h ca (nI n) u.2.1 u.2.2.1 u.2.2.2.1 (nF u.1) u.2.2.2.2.1 u.2.2.2.2.2.1 u.2.2.2.2.2.2.1 u.2.2.2.2.2.2.2.1 u.2.2.2.2.2.2.2.2) (fun r u => r = nI (smf (Es d n) n d (n * n)).2 ∧ u.1 = (smf (Es d n) n d (n * n)).1 ∧ (u.2.1 = nI 0 ∨ (u.2.1 = nI 1 ∧ u.1 = d)) ∧ u.2.2.1 = nI (Es d n).length ∧ hold u.2.2.2.2.1 u.2.2.2.2.2.1 (Es d n)) := by
  obtain ⟨b, rfl, hk⟩ := hK
  refine sx_enter_i (own := RX0) (by decide) rfl (Nat.le_of_ble_eq_true rfl) (lv := [(0, .ref (h 0))]) rfl ?_
  intro G E ret
  have hnn : n * n ≤ 49 := Nat.mul_le_mul hn hn
  refine sx_aload_n E dX0_smooth_0 rfl 0 rfl ?_
  refine sx_callv (rest := []) E (cX_find l D h ca n b _ _ d _ _ _ _ _ hn hd hfo hk) wX_find kX_find ⟨⟨rfl, rfl⟩, by decide, by decide⟩ rfl rfl rfl (Nat.le_of_ble_eq_true rfl) dX0_smooth_1 (fun u1 hp1 => ?_)
  have hh : hold u1.2.1 u1.2.2.1 (Es d n) := hp1
  generalize hLe : Es d n = L at hh ⊢
  obtain ⟨hl15, hg, -⟩ : L.length ≤ 15 ∧ good L ∧ True := by rw [← hLe]; exact ⟨(hfo n hn).1, (hfo n hn).2.1, trivial⟩
  refine sx_iconst (v := (nI 0)) E dX0_smooth_4 (by decide) ?_
  refine sx_istore_n E dX0_smooth_5 rfl (by decide) (lv' := [(0, .ref (h 0)), (1, .int (nI 0))]) [1, 0] rfl ?_
  have L6 : ∀ (f_ : Nat) (k : Nat) (kq : Nat → Int32), (k ≤ n * n) → (∀ j, j < k → kq j = nI (smh L n j)) → n * n - k < f_ → sx_S G (pX h ca (nI n) (nI 1) (nI L.length) u1.1 (nF d) u1.2.1 u1.2.2.1 u1.2.2.2.1 u1.2.2.2.2 kq) 6 [(0, .ref (h 0)), (1, .int (nI k))] [] := by
    intro f_
    induction f_ with
    | zero => intro k kq hk_ hkq hm_; exact absurd hm_ (Nat.not_lt_zero _)
    | succ f_ ih6 =>
      intro k kq hk_ hkq hm_
      refine sx_iload_n E dX0_smooth_6 rfl 1 rfl ?_
      refine sx_aload_n E dX0_smooth_7 rfl 0 rfl ?_
      refine sx_gX E rfl 0 (by decide) q39 rfl dX0_smooth_8 ?_
      refine sx_aload_n E dX0_smooth_11 rfl 0 rfl ?_
      refine sx_gX E rfl 0 (by decide) q39 rfl dX0_smooth_12 ?_
      refine sx_imulNN E dX0_smooth_15 ?_
      refine sx_icmp_geN E 63 dX0_smooth_16 (by decide) (by omega) (by omega) (fun c16 => ?_) (fun c16 => ?_)
      · obtain rfl : k = n * n := by omega
        refine sx_iconst (v := (nI 0)) E dX0_smooth_63 (by decide) ?_
        refine sx_istore_n E dX0_smooth_64 rfl (by decide) (lv' := [(0, .ref (h 0)), (1, .int (nI 0))]) [1, 0] rfl ?_
        refine sx_iconst (v := (nI 0)) E dX0_smooth_65 (by decide) ?_
        refine sx_istore_n E dX0_smooth_66 rfl (by decide) (lv' := [(0, .ref (h 0)), (1, .int (nI 0)), (2, .int (nI 0))]) [1, 2, 0] rfl ?_
        have L67 : ∀ (f_ : Nat) (k : Nat) (c : Nat) (e : Nat → Nat) (knq : Int32), (k ≤ n * n) → (c = (smf L n d k).2) → (e = (smf L n d k).1) → (knq = nI 0 ∨ (knq = nI 1 ∧ e = d)) → n * n - k < f_ → sx_S G (pX h ca (nI n) knq (nI L.length) u1.1 (nF e) u1.2.1 u1.2.2.1 u1.2.2.2.1 u1.2.2.2.2 kq) 67 [(0, .ref (h 0)), (1, .int (nI c)), (2, .int (nI k))] [] := by
          intro f_
          induction f_ with
          | zero => intro k c e knq hk_ hc he hkn hm_; exact absurd hm_ (Nat.not_lt_zero _)
          | succ f_ ih67 =>
            intro k c e knq hk_ hc he hkn hm_
            refine sx_iload_n E dX0_smooth_67 rfl 2 rfl ?_
            refine sx_aload_n E dX0_smooth_68 rfl 0 rfl ?_
            refine sx_gX E rfl 0 (by decide) q39 rfl dX0_smooth_69 ?_
            refine sx_aload_n E dX0_smooth_72 rfl 0 rfl ?_
            refine sx_gX E rfl 0 (by decide) q39 rfl dX0_smooth_73 ?_
            refine sx_imulNN E dX0_smooth_76 ?_
            have hem : ∀ j, e j ≤ 60 := by rw [he]; exact smf_le hd k
            refine sx_icmp_geN E 139 dX0_smooth_77 (by decide) (by omega) (by omega) (fun c77 => ?_) (fun c77 => ?_)
            · obtain rfl : k = n * n := by omega
              refine sx_iload_n E dX0_smooth_139 rfl 1 rfl ?_
              exact ret _ _ _ (e, knq, (nI L.length), u1.1, u1.2.1, u1.2.2.1, u1.2.2.2.1, u1.2.2.2.2, kq) dX0_smooth_140 (rfl) (⟨by rw [hLe, hc], by rw [hLe, he], hkn, by rw [hLe], by rw [hLe]; exact hh⟩)
            · have ⟨hn0, hx_, hy_⟩ := kdiv c77
              refine sx_iload_n E dX0_smooth_80 rfl 2 rfl ?_
              refine sx_aload_n E dX0_smooth_81 rfl 0 rfl ?_
              refine sx_gX E rfl 0 (by decide) q39 rfl dX0_smooth_82 ?_
              refine sx_idivNN E dX0_smooth_85 (by omega) (by omega) (by omega) ?_
              refine sx_istore_n E dX0_smooth_86 rfl (by decide) (lv' := [(0, .ref (h 0)), (1, .int (nI c)), (2, .int (nI k)), (3, .int (nI (k / n)))]) [1, 2, 3, 0] rfl ?_
              refine sx_iload_n E dX0_smooth_87 rfl 2 rfl ?_
              refine sx_aload_n E dX0_smooth_88 rfl 0 rfl ?_
              refine sx_gX E rfl 0 (by decide) q39 rfl dX0_smooth_89 ?_
              refine sx_iremNN E dX0_smooth_92 (by omega) (by omega) (by omega) ?_
              refine sx_istore E dX0_smooth_93 (by decide) (lv' := [(0, .ref (h 0)), (1, .int (nI c)), (2, .int (nI k)), (3, .int (nI (k / n))), (4, .int (nI (k % n)))]) [1, 2, 3, 4, 0] rfl ?_
              refine sx_iload_n E dX0_smooth_95 rfl 3 rfl ?_
              refine sx_iload E dX0_smooth_96 4 rfl ?_
              refine sx_icmp_geN E 133 dX0_smooth_98 (by decide) (by omega) (by omega) (fun c98 => ?_) (fun c98 => ?_)
              · refine sx_iinc E dX0_smooth_133 2 rfl (v := (nI (k + 1))) (inc1 _) (by decide) (lv' := [(0, .ref (h 0)), (1, .int (nI c)), (2, .int (nI (k + 1))), (3, .int (nI (k / n))), (4, .int (nI (k % n)))]) [1, 2, 0, 3, 4] rfl ?_
                refine sx_goto E 67 dX0_smooth_136 (by decide) ?_
                refine sx_lv (lv' := [(0, .ref (h 0)), (1, .int (nI c)), (2, .int (nI (k + 1)))]) [0, 1, 2] rfl ?_
                exact ih67 (k + 1) c e knq (by omega) (by rw [hc, smf_s, if_neg (by omega)]) (by rw [he, smf_s, if_neg (by omega)]) (hkn) (by omega)
              · refine sx_aload_n E dX0_smooth_101 rfl 0 rfl ?_
                refine sx_gX E rfl 9 (by decide) q48 rfl dX0_smooth_102 ?_
                refine sx_iload_n E dX0_smooth_105 rfl 2 rfl ?_
                refine sx_bald E 6 5 rfl rfl (by omega) (by decide) (v := (nI (smh L n k))) (hkq _ c77) dX0_smooth_106 ?_
                refine sx_aload_n E dX0_smooth_107 rfl 0 rfl ?_
                refine sx_iload_n E dX0_smooth_108 rfl 3 rfl ?_
                refine sx_iload E dX0_smooth_109 4 rfl ?_
                refine sx_callr (rest := [.int (nI (smh L n k))]) E (cX_get l D h ca _ _ _ _ e _ _ _ _ _ (k / n) (k % n) (by omega) (by omega)) wX_get kX_get ⟨⟨rfl, rfl⟩, by decide, by decide⟩ rfl rfl rfl (Nat.le_of_ble_eq_true rfl) dX0_smooth_111 ?_
                have hsm := smh_le L n k
                have hek := hem (7 * (k / n) + k % n)
                refine sx_icmp_eqN E 133 dX0_smooth_114 (by decide) (by omega) (by omega) (fun c114 => ?_) (fun c114 => ?_)
                · refine sx_iinc E dX0_smooth_133 2 rfl (v := (nI (k + 1))) (inc1 _) (by decide) (lv' := [(0, .ref (h 0)), (1, .int (nI c)), (2, .int (nI (k + 1))), (3, .int (nI (k / n))), (4, .int (nI (k % n)))]) [1, 2, 0, 3, 4] rfl ?_
                  refine sx_goto E 67 dX0_smooth_136 (by decide) ?_
                  refine sx_lv (lv' := [(0, .ref (h 0)), (1, .int (nI c)), (2, .int (nI (k + 1)))]) [0, 1, 2] rfl ?_
                  exact ih67 (k + 1) c e knq (by omega) (by rw [hc, smf_s, if_neg (by rw [← he]; omega)]) (by rw [he, smf_s, if_neg (by rw [← he]; omega)]) (hkn) (by omega)
                · refine sx_aload_n E dX0_smooth_117 rfl 0 rfl ?_
                  refine sx_iload_n E dX0_smooth_118 rfl 3 rfl ?_
                  refine sx_iload E dX0_smooth_119 4 rfl ?_
                  refine sx_aload_n E dX0_smooth_121 rfl 0 rfl ?_
                  refine sx_gX E rfl 9 (by decide) q48 rfl dX0_smooth_122 ?_
                  refine sx_iload_n E dX0_smooth_125 rfl 2 rfl ?_
                  refine sx_bald E 6 5 rfl rfl (by omega) (by decide) (v := (nI (smh L n k))) (hkq _ c77) dX0_smooth_126 ?_
                  refine sx_callv (rest := []) E (cX_put l D h ca _ _ _ _ e _ _ _ _ _ (k / n) (k % n) (smh L n k) (by omega) (by omega) (by omega)) wX_put kX_put ⟨⟨rfl, rfl⟩, by decide, by decide⟩ rfl rfl rfl (Nat.le_of_ble_eq_true rfl) dX0_smooth_127 (fun u127 hp127 => ?_)
                  refine sx_iinc E dX0_smooth_130 1 rfl (v := (nI (c + 1))) (inc1 _) (by decide) (lv' := [(0, .ref (h 0)), (1, .int (nI (c + 1))), (2, .int (nI k)), (3, .int (nI (k / n))), (4, .int (nI (k % n)))]) [1, 0, 2, 3, 4] rfl ?_
                  refine sx_iinc E dX0_smooth_133 2 rfl (v := (nI (k + 1))) (inc1 _) (by decide) (lv' := [(0, .ref (h 0)), (1, .int (nI (c + 1))), (2, .int (nI (k + 1))), (3, .int (nI (k / n))), (4, .int (nI (k % n)))]) [1, 2, 0, 3, 4] rfl ?_
                  refine sx_goto E 67 dX0_smooth_136 (by decide) ?_
                  refine sx_lv (lv' := [(0, .ref (h 0)), (1, .int (nI (c + 1))), (2, .int (nI (k + 1)))]) [0, 1, 2] rfl ?_
                  exact ih67 (k + 1) (c + 1) ((putD e (k / n) (k % n) (smh L n k))) (nI 0) (by omega) (by rw [hc, smf_s, if_pos (by rw [← he]; exact ⟨c98, c114⟩)]) (by rw [smf_s, if_pos (by rw [← he]; exact ⟨c98, c114⟩), ← he]) (Or.inl rfl) (by omega)
        exact L67 _ 0 0 d (nI 1) (Nat.zero_le _) (rfl) (rfl) (Or.inr ⟨rfl, rfl⟩) (Nat.lt_succ_self _)
      · have ⟨hn0, hx_, hy_⟩ := kdiv c16
        refine sx_aload_n E dX0_smooth_19 rfl 0 rfl ?_
        refine sx_iload_n E dX0_smooth_20 rfl 1 rfl ?_
        refine sx_aload_n E dX0_smooth_21 rfl 0 rfl ?_
        refine sx_gX E rfl 0 (by decide) q39 rfl dX0_smooth_22 ?_
        refine sx_idivNN E dX0_smooth_25 (by omega) (by omega) (by omega) ?_
        refine sx_iload_n E dX0_smooth_26 rfl 1 rfl ?_
        refine sx_aload_n E dX0_smooth_27 rfl 0 rfl ?_
        refine sx_gX E rfl 0 (by decide) q39 rfl dX0_smooth_28 ?_
        refine sx_iremNN E dX0_smooth_31 (by omega) (by omega) (by omega) ?_
        refine sx_callr (rest := []) E (cX_pathOf l D h ca _ _ _ _ _ _ _ _ _ L hh (by omega) hg (k / n) (k % n) (by omega) (by omega)) wX_pathOf kX_pathOf ⟨⟨rfl, rfl⟩, by decide, by decide⟩ rfl rfl rfl (Nat.le_of_ble_eq_true rfl) dX0_smooth_32 ?_
        have hpl := path_le hg (by omega) (k / n) (k % n)
        refine sx_iconst (v := (nI 1)) E dX0_smooth_35 (by decide) ?_
        refine sx_ishr E dX0_smooth_36 ?_
        refine sx_top (y := (nI (pathL L (k / n) (k % n) / 2))) (shr1 (by omega)) ?_
        refine sx_istore_n E dX0_smooth_37 rfl (by decide) (lv' := [(0, .ref (h 0)), (1, .int (nI k)), (2, .int (nI (pathL L (k / n) (k % n) / 2)))]) [1, 2, 0] rfl ?_
        refine sx_aload_n E dX0_smooth_38 rfl 0 rfl ?_
        refine sx_gX E rfl 9 (by decide) q48 rfl dX0_smooth_39 ?_
        refine sx_iload_n E dX0_smooth_42 rfl 1 rfl ?_
        refine sx_iload_n E dX0_smooth_43 rfl 2 rfl ?_
        refine sx_bipush (v := (nI 60)) E dX0_smooth_44 (by decide) ?_
        refine sx_icmp_leN E 54 dX0_smooth_46 (by decide) (by omega) (by omega) (fun c46 => ?_) (fun c46 => ?_)
        · refine sx_iload_n E dX0_smooth_54 rfl 2 rfl ?_
          have hsm := smh_le L n k
          refine sx_top (y := (nI (smh L n k))) (by unfold smh; rw [if_neg (by omega)]) ?_
          refine sx_i2bN E dX0_smooth_55 (by omega) ?_
          refine sx_bast E 6 5 rfl rfl (by omega) (by decide) (f' := upd kq k (nI (smh L n k))) (by rw [narN (by omega)]) dX0_smooth_56 (ws' := (pX h ca (nI n) (nI 1) (nI L.length) u1.1 (nF d) u1.2.1 u1.2.2.1 u1.2.2.2.1 u1.2.2.2.2 (upd kq k (nI (smh L n k))))) rfl ?_
          refine sx_iinc E dX0_smooth_57 1 rfl (v := (nI (k + 1))) (inc1 _) (by decide) (lv' := [(0, .ref (h 0)), (1, .int (nI (k + 1))), (2, .int (nI (pathL L (k / n) (k % n) / 2)))]) [1, 0, 2] rfl ?_
          refine sx_goto E 6 dX0_smooth_60 (by decide) ?_
          refine sx_lv (lv' := [(0, .ref (h 0)), (1, .int (nI (k + 1)))]) [0, 1] rfl ?_
          exact ih6 (k + 1) (upd kq k (nI (smh L n k))) (by omega) (kept_s hkq) (by omega)
        · refine sx_bipush (v := (nI 60)) E dX0_smooth_49 (by decide) ?_
          refine sx_goto E 55 dX0_smooth_51 (by decide) ?_
          have hsm := smh_le L n k
          refine sx_top (y := (nI (smh L n k))) (by unfold smh; rw [if_pos c46]) ?_
          refine sx_i2bN E dX0_smooth_55 (by omega) ?_
          refine sx_bast E 6 5 rfl rfl (by omega) (by decide) (f' := upd kq k (nI (smh L n k))) (by rw [narN (by omega)]) dX0_smooth_56 (ws' := (pX h ca (nI n) (nI 1) (nI L.length) u1.1 (nF d) u1.2.1 u1.2.2.1 u1.2.2.2.1 u1.2.2.2.2 (upd kq k (nI (smh L n k))))) rfl ?_
          refine sx_iinc E dX0_smooth_57 1 rfl (v := (nI (k + 1))) (inc1 _) (by decide) (lv' := [(0, .ref (h 0)), (1, .int (nI (k + 1))), (2, .int (nI (pathL L (k / n) (k % n) / 2)))]) [1, 0, 2] rfl ?_
          refine sx_goto E 6 dX0_smooth_60 (by decide) ?_
          refine sx_lv (lv' := [(0, .ref (h 0)), (1, .int (nI (k + 1)))]) [0, 1] rfl ?_
          exact ih6 (k + 1) (upd kq k (nI (smh L n k))) (by omega) (kept_s hkq) (by omega)
  exact L6 _ 0 kp (Nat.zero_le _) (fun j hj => absurd hj (Nat.not_lt_zero _)) (Nat.lt_succ_self _)
end
section
set_option maxRecDepth 100000
set_option maxHeartbeats 4000000 in
theorem cM_is (l : Launch) (D : va_G) (g : Nat → Nat) (cb : Nat → ClassId) (n : Nat) (d : Nat → Nat) (mk mi : Nat → Int32) (hn : n ≤ 7) (z : Int) (hz : -2147483648 ≤ z ∧ z < 2147483648) : sx_Cr l yX1_is cX1_is 2 .boolean rmM_is D (tyM cb) [.ref (g 0), .int (iI z)] (pM g cb (nI n) (nF d) mk mi) (bI (isb n z)) := by
  refine sx_enter_i (own := RX1) (by decide) rfl (Nat.le_of_ble_eq_true rfl) (lv := [(0, .ref (g 0)), (1, .int (iI z))]) rfl ?_
  intro G E ret
  refine sx_iload_n E dX1_is_0 rfl 1 rfl ?_
  refine sx_if_ltI E 16 dX1_is_1 (by decide) (by omega) (fun c1 => ?_) (fun c1 => ?_)
  · refine sx_iconst (v := (nI 0)) E dX1_is_16 (by decide) ?_
    exact ret _ _ _ () dX1_is_17 (rfl) (isb_0 (by omega))
  · refine sx_iload_n E dX1_is_4 rfl 1 rfl ?_
    refine sx_aload_n E dX1_is_5 rfl 0 rfl ?_
    refine sx_gM E rfl 0 (by decide) q218 rfl dX1_is_6 ?_
    refine sx_top (iI_n _) ?_
    refine sx_icmp_geI E 16 dX1_is_9 (by decide) (by omega) (by omega) (fun c9 => ?_) (fun c9 => ?_)
    · refine sx_iconst (v := (nI 0)) E dX1_is_16 (by decide) ?_
      exact ret _ _ _ () dX1_is_17 (rfl) (isb_0 (by omega))
    · refine sx_iconst (v := (nI 1)) E dX1_is_12 (by decide) ?_
      refine sx_goto E 17 dX1_is_13 (by decide) ?_
      exact ret _ _ _ () dX1_is_17 (rfl) (isb_1 (by omega))

set_option maxHeartbeats 4000000 in
theorem cM_put (l : Launch) (D : va_G) (g : Nat → Nat) (cb : Nat → ClassId) (n : Nat) (d : Nat → Nat) (mk mi : Nat → Int32) (i j v : Nat) (hi : i < 7) (hj : j < 7) : sx_Cv l yX1_put cX1_put 4 rmM_put D (tyM cb) [.ref (g 0), .int (nI i), .int (nI j), .int (nI v)] (pM g cb (nI n) (nF d) mk mi) (S := Unit) (fun _ => (pM g cb (nI n) (nF (putD d i j v)) mk mi)) (fun _ => True) := by
  refine sx_enter_v (own := RX1) (by decide) rfl (Nat.le_of_ble_eq_true rfl) (lv := [(0, .ref (g 0)), (1, .int (nI i)), (2, .int (nI j)), (3, .int (nI v))]) rfl ?_
  intro G E ret
  refine sx_aload_n E dX1_put_0 rfl 0 rfl ?_
  refine sx_gM E rfl 1 (by decide) q219 rfl dX1_put_1 ?_
  refine sx_bipush (v := (nI 7)) E dX1_put_4 (by decide) ?_
  refine sx_iload_n E dX1_put_6 rfl 1 rfl ?_
  refine sx_imulNN E dX1_put_7 ?_
  refine sx_iload_n E dX1_put_8 rfl 2 rfl ?_
  refine sx_iaddNN E dX1_put_9 ?_
  refine sx_iload_n E dX1_put_10 rfl 3 rfl ?_
  refine sx_iast E 1 0 rfl rfl (by omega) (by decide) (f' := nF (up_d d ((7 * i) + j) v)) (upd_nF _ _ _) dX1_put_11 (ws' := (pM g cb (nI n) (nF (up_d d ((7 * i) + j) v)) mk mi)) rfl ?_
  refine sx_aload_n E dX1_put_12 rfl 0 rfl ?_
  refine sx_gM E rfl 1 (by decide) q219 rfl dX1_put_13 ?_
  refine sx_bipush (v := (nI 7)) E dX1_put_16 (by decide) ?_
  refine sx_iload_n E dX1_put_18 rfl 2 rfl ?_
  refine sx_imulNN E dX1_put_19 ?_
  refine sx_iload_n E dX1_put_20 rfl 1 rfl ?_
  refine sx_iaddNN E dX1_put_21 ?_
  refine sx_iload_n E dX1_put_22 rfl 3 rfl ?_
  refine sx_iast E 1 0 rfl rfl (by omega) (by decide) (f' := nF (up_d ((up_d d ((7 * i) + j) v)) ((7 * j) + i) v)) (upd_nF _ _ _) dX1_put_23 (ws' := (pM g cb (nI n) (nF (up_d ((up_d d ((7 * i) + j) v)) ((7 * j) + i) v)) mk mi)) rfl ?_
  exact ret _ _ () dX1_put_24 (trivial)

set_option maxHeartbeats 4000000 in
theorem cM_point (l : Launch) (D : va_G) (g : Nat → Nat) (cb : Nat → ClassId) (n : Nat) (d : Nat → Nat) (mk mi : Nat → Int32) (hn : n ≤ 7) (z : Int) (hz : -2147483648 ≤ z ∧ z < 2147483648) : sx_Ci l yX1_point cX1_point 3 .int rmM_point D (tyM cb) [.ref (g 0), .int (iI z)] (pM g cb (nI n) (nF d) mk mi) (S := Nat × (Nat → Nat)) (fun u => pM g cb (nI u.1) (nF u.2) mk mi) (fun r u => r = (spPoint n d z).1 ∧ u = (spPoint n d z).2) := by
  refine sx_enter_i (own := RX1) (by decide) rfl (Nat.le_of_ble_eq_true rfl) (lv := [(0, .ref (g 0)), (1, .int (iI z))]) rfl ?_
  intro G E ret
  refine sx_iload_n E dX1_point_0 rfl 1 rfl ?_
  refine sx_if_ltI E 10 dX1_point_1 (by decide) (by omega) (fun c1 => ?_) (fun c1 => ?_)
  · refine sx_sipush (v := (iI ((-1000)))) E dX1_point_10 (by decide) ?_
    exact ret _ _ _ (n, d) dX1_point_13 (rfl) (⟨by unfold spPoint; rw [if_pos (by omega)], by unfold spPoint; rw [if_pos (by omega)]⟩)
  · refine sx_iload_n E dX1_point_4 rfl 1 rfl ?_
    refine sx_bipush (v := (iI 60)) E dX1_point_5 (by decide) ?_
    refine sx_icmp_leI E 14 dX1_point_7 (by decide) (by omega) (by omega) (fun c7 => ?_) (fun c7 => ?_)
    · obtain ⟨v, rfl⟩ : ∃ v : Nat, z = (v : Int) := ⟨z.toNat, by omega⟩
      refine sx_lve (lv' := [(0, .ref (g 0)), (1, .int (nI v))]) (by rw [iI_n v]) ?_
      refine sx_aload_n E dX1_point_14 rfl 0 rfl ?_
      refine sx_gM E rfl 0 (by decide) q218 rfl dX1_point_15 ?_
      refine sx_bipush (v := (nI 7)) E dX1_point_18 (by decide) ?_
      refine sx_icmp_neN E 27 dX1_point_20 (by decide) (by omega) (by omega) (fun c20 => ?_) (fun c20 => ?_)
      · refine sx_iconst (v := (nI 0)) E dX1_point_27 (by decide) ?_
        refine sx_istore_n E dX1_point_28 rfl (by decide) (lv' := [(0, .ref (g 0)), (1, .int (nI v)), (2, .int (nI 0))]) [1, 2, 0] rfl ?_
        have L29 : ∀ (f_ : Nat) (i : Nat), (i ≤ n) → n - i < f_ → sx_S G (pM g cb (nI n) (nF (ptM d n v i)) mk mi) 29 [(0, .ref (g 0)), (1, .int (nI v)), (2, .int (nI i))] [] := by
          intro f_
          induction f_ with
          | zero => intro i hi hm_; exact absurd hm_ (Nat.not_lt_zero _)
          | succ f_ ih29 =>
            intro i hi hm_
            refine sx_iload_n E dX1_point_29 rfl 2 rfl ?_
            refine sx_aload_n E dX1_point_30 rfl 0 rfl ?_
            refine sx_gM E rfl 0 (by decide) q218 rfl dX1_point_31 ?_
            refine sx_icmp_geN E 53 dX1_point_34 (by decide) (by omega) (by omega) (fun c34 => ?_) (fun c34 => ?_)
            · obtain rfl : n = i := by omega
              refine sx_aload_n E dX1_point_53 rfl 0 rfl ?_
              refine sx_gM E rfl 1 (by decide) q219 rfl dX1_point_54 ?_
              refine sx_bipush (v := (nI 8)) E dX1_point_57 (by decide) ?_
              refine sx_aload_n E dX1_point_59 rfl 0 rfl ?_
              refine sx_gM E rfl 0 (by decide) q218 rfl dX1_point_60 ?_
              refine sx_imulNN E dX1_point_63 ?_
              refine sx_iconst (v := (nI 0)) E dX1_point_64 (by decide) ?_
              refine sx_iast E 1 0 rfl rfl (by omega) (by decide) (f' := nF (up_d ((ptM d n v n)) (8 * n) 0)) (upd_nF _ _ _) dX1_point_65 (ws' := (pM g cb (nI n) (nF (up_d ((ptM d n v n)) (8 * n) 0)) mk mi)) rfl ?_
              refine sx_w (ws' := (pM g cb (nI n) (nF (ptD d n v n)) mk mi)) (by rw [ptM_eq d n v n (Nat.le_refl _)]) ?_
              refine sx_aload_n E dX1_point_66 rfl 0 rfl ?_
              refine sx_dup E dX1_point_67 rfl ?_
              refine sx_gM E rfl 0 (by decide) q218 rfl dX1_point_68 ?_
              refine sx_iconst (v := (nI 1)) E dX1_point_71 (by decide) ?_
              refine sx_iaddNN E dX1_point_72 ?_
              refine sx_pM E rfl 0 (by decide) q218 rfl rfl rfl (Nat.le_of_ble_eq_true rfl) dX1_point_73 (ws' := (pM g cb (nI (n + 1)) (nF (ptD d n v n)) mk mi)) rfl ?_
              refine sx_aload_n E dX1_point_76 rfl 0 rfl ?_
              refine sx_gM E rfl 0 (by decide) q218 rfl dX1_point_77 ?_
              refine sx_iconst (v := (nI 1)) E dX1_point_80 (by decide) ?_
              refine sx_isubNM E dX1_point_81 (by omega) ?_
              exact ret _ _ _ (n + 1, ptD d n v n) dX1_point_82 (rfl) (⟨by unfold spPoint; rw [if_neg (by omega), if_neg c20]; rfl, by unfold spPoint; rw [if_neg (by omega), if_neg c20]; rfl⟩)
            · refine sx_aload_n E dX1_point_37 rfl 0 rfl ?_
              refine sx_iload_n E dX1_point_38 rfl 2 rfl ?_
              refine sx_aload_n E dX1_point_39 rfl 0 rfl ?_
              refine sx_gM E rfl 0 (by decide) q218 rfl dX1_point_40 ?_
              refine sx_iload_n E dX1_point_43 rfl 1 rfl ?_
              refine sx_callv (rest := []) E (cM_put l D g cb _ ((ptM d n v i)) _ _ i n v (by omega) (by omega)) wM_put kM_put ⟨⟨rfl, rfl⟩, by decide, by decide⟩ rfl rfl rfl (Nat.le_of_ble_eq_true rfl) dX1_point_44 (fun u44 hp44 => ?_)
              refine sx_iinc E dX1_point_47 2 rfl (v := (nI (i + 1))) (inc1 _) (by decide) (lv' := [(0, .ref (g 0)), (1, .int (nI v)), (2, .int (nI (i + 1)))]) [1, 2, 0] rfl ?_
              refine sx_goto E 29 dX1_point_50 (by decide) ?_
              exact ih29 (i + 1) (by omega) (by omega)
        exact L29 _ 0 (Nat.zero_le _) (Nat.lt_succ_self _)
      · refine sx_sipush (v := (iI ((-1001)))) E dX1_point_23 (by decide) ?_
        exact ret _ _ _ (n, d) dX1_point_26 (rfl) (⟨by unfold spPoint; rw [if_neg (by omega), if_pos c20], by unfold spPoint; rw [if_neg (by omega), if_pos c20]⟩)
    · refine sx_sipush (v := (iI ((-1000)))) E dX1_point_10 (by decide) ?_
      exact ret _ _ _ (n, d) dX1_point_13 (rfl) (⟨by unfold spPoint; rw [if_pos (by omega)], by unfold spPoint; rw [if_pos (by omega)]⟩)

set_option maxHeartbeats 4000000 in
theorem cM_drop (l : Launch) (D : va_G) (g : Nat → Nat) (cb : Nat → ClassId) (n : Nat) (d : Nat → Nat) (mk mi : Nat → Int32) (hn : n ≤ 7) : sx_Ci l yX1_drop cX1_drop 1 .int rmM_drop D (tyM cb) [.ref (g 0)] (pM g cb (nI n) (nF d) mk mi) (S := Nat × (Nat → Nat)) (fun u => pM g cb (nI u.1) (nF u.2) mk mi) (fun r u => r = (spDrop n d).1 ∧ u = (spDrop n d).2) := by
  refine sx_enter_i (own := RX1) (by decide) rfl (Nat.le_of_ble_eq_true rfl) (lv := [(0, .ref (g 0))]) rfl ?_
  intro G E ret
  refine sx_aload_n E dX1_drop_0 rfl 0 rfl ?_
  refine sx_gM E rfl 0 (by decide) q218 rfl dX1_drop_1 ?_
  refine sx_top (iI_n _) ?_
  refine sx_if_neI E 11 dX1_drop_4 (by decide) (by omega) (fun c4 => ?_) (fun c4 => ?_)
  · refine sx_aload_n E dX1_drop_11 rfl 0 rfl ?_
    refine sx_dup E dX1_drop_12 rfl ?_
    refine sx_gM E rfl 0 (by decide) q218 rfl dX1_drop_13 ?_
    refine sx_iconst (v := (nI 1)) E dX1_drop_16 (by decide) ?_
    refine sx_isubNM E dX1_drop_17 (by omega) ?_
    refine sx_pM E rfl 0 (by decide) q218 rfl rfl rfl (Nat.le_of_ble_eq_true rfl) dX1_drop_18 (ws' := (pM g cb (nI (n - 1)) (nF d) mk mi)) rfl ?_
    refine sx_aload_n E dX1_drop_21 rfl 0 rfl ?_
    refine sx_gM E rfl 0 (by decide) q218 rfl dX1_drop_22 ?_
    exact ret _ _ _ (n - 1, d) dX1_drop_25 (rfl) (⟨by unfold spDrop; rw [if_neg (by omega)], by unfold spDrop; rw [if_neg (by omega)]⟩)
  · refine sx_sipush (v := (iI ((-1002)))) E dX1_drop_7 (by decide) ?_
    exact ret _ _ _ (n, d) dX1_drop_10 (rfl) (⟨by unfold spDrop; rw [if_pos (by omega)], by unfold spDrop; rw [if_pos (by omega)]⟩)

set_option maxHeartbeats 4000000 in
theorem cM_set (l : Launch) (D : va_G) (g : Nat → Nat) (cb : Nat → ClassId) (n : Nat) (d : Nat → Nat) (mk mi : Nat → Int32) (hn : n ≤ 7) (x y z : Int) (hx : -2147483648 ≤ x ∧ x < 2147483648) (hy : -2147483648 ≤ y ∧ y < 2147483648) (hz : -2147483648 ≤ z ∧ z < 2147483648) : sx_Ci l yX1_set cX1_set 5 .int rmM_set D (tyM cb) [.ref (g 0), .int (iI x), .int (iI y), .int (iI z)] (pM g cb (nI n) (nF d) mk mi) (S := Nat × (Nat → Nat)) (fun u => pM g cb (nI u.1) (nF u.2) mk mi) (fun r u => r = (spSet n d x y z).1 ∧ u = (spSet n d x y z).2) := by
  refine sx_enter_i (own := RX1) (by decide) rfl (Nat.le_of_ble_eq_true rfl) (lv := [(0, .ref (g 0)), (1, .int (iI x)), (2, .int (iI y)), (3, .int (iI z))]) rfl ?_
  intro G E ret
  refine sx_aload_n E dX1_set_0 rfl 0 rfl ?_
  refine sx_iload_n E dX1_set_1 rfl 1 rfl ?_
  refine sx_callr (rest := []) E (cM_is l D g cb n d _ _ hn x (by omega)) wM_is kM_is ⟨⟨rfl, rfl⟩, by decide, by decide⟩ rfl rfl rfl (Nat.le_of_ble_eq_true rfl) dX1_set_2 ?_
  refine sx_if_eqB E 31 dX1_set_5 (by decide) (fun c5 => ?_) (fun c5 => ?_)
  · have c5 := isb_f c5
    refine sx_sipush (v := (iI ((-1000)))) E dX1_set_31 (by decide) ?_
    exact ret _ _ _ (n, d) dX1_set_34 (rfl) (⟨by unfold spSet; rw [if_pos (by omega)], by unfold spSet; rw [if_pos (by omega)]⟩)
  · have c5 := isb_t c5
    refine sx_aload_n E dX1_set_8 rfl 0 rfl ?_
    refine sx_iload_n E dX1_set_9 rfl 2 rfl ?_
    refine sx_callr (rest := []) E (cM_is l D g cb n d _ _ hn y (by omega)) wM_is kM_is ⟨⟨rfl, rfl⟩, by decide, by decide⟩ rfl rfl rfl (Nat.le_of_ble_eq_true rfl) dX1_set_10 ?_
    refine sx_if_eqB E 31 dX1_set_13 (by decide) (fun c13 => ?_) (fun c13 => ?_)
    · have c13 := isb_f c13
      refine sx_sipush (v := (iI ((-1000)))) E dX1_set_31 (by decide) ?_
      exact ret _ _ _ (n, d) dX1_set_34 (rfl) (⟨by unfold spSet; rw [if_pos (by omega)], by unfold spSet; rw [if_pos (by omega)]⟩)
    · have c13 := isb_t c13
      refine sx_iload_n E dX1_set_16 rfl 1 rfl ?_
      refine sx_iload_n E dX1_set_17 rfl 2 rfl ?_
      refine sx_icmp_eqI E 31 dX1_set_18 (by decide) (by omega) (by omega) (fun c18 => ?_) (fun c18 => ?_)
      · refine sx_sipush (v := (iI ((-1000)))) E dX1_set_31 (by decide) ?_
        exact ret _ _ _ (n, d) dX1_set_34 (rfl) (⟨by unfold spSet; rw [if_pos (by omega)], by unfold spSet; rw [if_pos (by omega)]⟩)
      · refine sx_iload_n E dX1_set_21 rfl 3 rfl ?_
        refine sx_if_ltI E 31 dX1_set_22 (by decide) (by omega) (fun c22 => ?_) (fun c22 => ?_)
        · refine sx_sipush (v := (iI ((-1000)))) E dX1_set_31 (by decide) ?_
          exact ret _ _ _ (n, d) dX1_set_34 (rfl) (⟨by unfold spSet; rw [if_pos (by omega)], by unfold spSet; rw [if_pos (by omega)]⟩)
        · refine sx_iload_n E dX1_set_25 rfl 3 rfl ?_
          refine sx_bipush (v := (iI 60)) E dX1_set_26 (by decide) ?_
          refine sx_icmp_leI E 35 dX1_set_28 (by decide) (by omega) (by omega) (fun c28 => ?_) (fun c28 => ?_)
          · obtain ⟨i, rfl⟩ : ∃ i : Nat, x = (i : Int) := ⟨x.toNat, by omega⟩
            obtain ⟨j, rfl⟩ : ∃ j : Nat, y = (j : Int) := ⟨y.toNat, by omega⟩
            obtain ⟨v, rfl⟩ : ∃ v : Nat, z = (v : Int) := ⟨z.toNat, by omega⟩
            refine sx_lve (lv' := [(0, .ref (g 0)), (1, .int (nI i)), (2, .int (nI j)), (3, .int (nI v))]) (by rw [iI_n i, iI_n j, iI_n v]) ?_
            refine sx_aload_n E dX1_set_35 rfl 0 rfl ?_
            refine sx_gM E rfl 1 (by decide) q219 rfl dX1_set_36 ?_
            refine sx_bipush (v := (nI 7)) E dX1_set_39 (by decide) ?_
            refine sx_iload_n E dX1_set_41 rfl 1 rfl ?_
            refine sx_imulNN E dX1_set_42 ?_
            refine sx_iload_n E dX1_set_43 rfl 2 rfl ?_
            refine sx_iaddNN E dX1_set_44 ?_
            refine sx_iald E 1 0 rfl rfl (by omega) (by decide) (v := (nI (d ((7 * i) + j)))) (rfl) dX1_set_45 ?_
            refine sx_istore E dX1_set_46 (by decide) (lv' := [(0, .ref (g 0)), (1, .int (nI i)), (2, .int (nI j)), (3, .int (nI v)), (4, .int (nI (d ((7 * i) + j))))]) [1, 2, 3, 4, 0] rfl ?_
            refine sx_aload_n E dX1_set_48 rfl 0 rfl ?_
            refine sx_iload_n E dX1_set_49 rfl 1 rfl ?_
            refine sx_iload_n E dX1_set_50 rfl 2 rfl ?_
            refine sx_iload_n E dX1_set_51 rfl 3 rfl ?_
            refine sx_callv (rest := []) E (cM_put l D g cb _ d _ _ i j v (by omega) (by omega)) wM_put kM_put ⟨⟨rfl, rfl⟩, by decide, by decide⟩ rfl rfl rfl (Nat.le_of_ble_eq_true rfl) dX1_set_52 (fun u52 hp52 => ?_)
            refine sx_iload E dX1_set_55 4 rfl ?_
            exact ret _ _ _ (n, putD d i j v) dX1_set_57 (rfl) (⟨by unfold spSet; rw [if_neg (by omega)]; simp, by unfold spSet; rw [if_neg (by omega)]; simp⟩)
          · refine sx_sipush (v := (iI ((-1000)))) E dX1_set_31 (by decide) ?_
            exact ret _ _ _ (n, d) dX1_set_34 (rfl) (⟨by unfold spSet; rw [if_pos (by omega)], by unfold spSet; rw [if_pos (by omega)]⟩)

set_option maxHeartbeats 4000000 in
theorem cM_move (l : Launch) (D : va_G) (g : Nat → Nat) (cb : Nat → ClassId) (n : Nat) (d : Nat → Nat) (mk mi : Nat → Int32) (hn : n ≤ 7) (hd : ∀ k, d k ≤ 60) (x : Int32) (z : Int) (hz : -2147483648 ≤ z ∧ z < 2147483648) : sx_Ci l yX1_move cX1_move 7 .int rmM_move D (tyM cb) [.ref (g 0), .int x, .int (iI z)] (pM g cb (nI n) (nF d) mk mi) (S := Nat × (Nat → Nat)) (fun u => pM g cb (nI u.1) (nF u.2) mk mi) (fun r u => r = (spMoveM n d x z).1 ∧ u = (spMoveM n d x z).2) := by
  refine sx_enter_i (own := RX1) (by decide) rfl (Nat.le_of_ble_eq_true rfl) (lv := [(0, .ref (g 0)), (1, .int x), (2, .int (iI z))]) rfl ?_
  intro G E ret
  refine sx_iload_n E dX1_move_0 rfl 2 rfl ?_
  refine sx_bipush (v := (iI ((-60)))) E dX1_move_1 (by decide) ?_
  refine sx_icmp_ltI E 12 dX1_move_3 (by decide) (by omega) (by omega) (fun c3 => ?_) (fun c3 => ?_)
  · refine sx_sipush (v := (iI ((-1000)))) E dX1_move_12 (by decide) ?_
    exact ret _ _ _ (n, d) dX1_move_15 (rfl) (⟨by unfold spMoveM; rw [if_pos (by omega)], by unfold spMoveM; rw [if_pos (by omega)]⟩)
  · refine sx_iload_n E dX1_move_6 rfl 2 rfl ?_
    refine sx_bipush (v := (iI 60)) E dX1_move_7 (by decide) ?_
    refine sx_icmp_leI E 16 dX1_move_9 (by decide) (by omega) (by omega) (fun c9 => ?_) (fun c9 => ?_)
    · refine sx_iconst (v := (nI 0)) E dX1_move_16 (by decide) ?_
      refine sx_istore_n E dX1_move_17 rfl (by decide) (lv' := [(0, .ref (g 0)), (1, .int x), (2, .int (iI z)), (3, .int (nI 0))]) [1, 2, 3, 0] rfl ?_
      refine sx_iconst (v := (nI 0)) E dX1_move_18 (by decide) ?_
      refine sx_istore E dX1_move_19 (by decide) (lv' := [(0, .ref (g 0)), (1, .int x), (2, .int (iI z)), (3, .int (nI 0)), (4, .int (nI 0))]) [1, 2, 3, 4, 0] rfl ?_
      have L21 : ∀ (f_ : Nat) (i : Nat) (c : Nat) (e : Nat → Nat), (i ≤ n) → (c = (mvM x z n d (i * n)).2) → (e = (mvM x z n d (i * n)).1) → n - i < f_ → sx_S G (pM g cb (nI n) (nF e) mk mi) 21 [(0, .ref (g 0)), (1, .int x), (2, .int (iI z)), (3, .int (nI c)), (4, .int (nI i))] [] := by
        intro f_
        induction f_ with
        | zero => intro i c e hi hc he hm_; exact absurd hm_ (Nat.not_lt_zero _)
        | succ f_ ih21 =>
          intro i c e hi hc he hm_
          refine sx_iload E dX1_move_21 4 rfl ?_
          refine sx_aload_n E dX1_move_23 rfl 0 rfl ?_
          refine sx_gM E rfl 0 (by decide) q218 rfl dX1_move_24 ?_
          refine sx_icmp_geN E 119 dX1_move_27 (by decide) (by omega) (by omega) (fun c27 => ?_) (fun c27 => ?_)
          · refine sx_iload_n E dX1_move_119 rfl 3 rfl ?_
            exact ret _ _ _ (n, e) dX1_move_120 (rfl) (⟨by unfold spMoveM; rw [if_neg (by omega), hc, show i * n = n * n by rw [show i = n by omega]], by unfold spMoveM; rw [if_neg (by omega), he, show i * n = n * n by rw [show i = n by omega]]⟩)
          · refine sx_iconst (v := (nI 0)) E dX1_move_30 (by decide) ?_
            refine sx_istore E dX1_move_31 (by decide) (lv' := [(0, .ref (g 0)), (1, .int x), (2, .int (iI z)), (3, .int (nI c)), (4, .int (nI i)), (5, .int (nI 0))]) [1, 2, 3, 4, 5, 0] rfl ?_
            have L33 : ∀ (f_ : Nat) (j : Nat) (c : Nat) (e : Nat → Nat), (j ≤ n) → (c = (mvM x z n d (i * n + j)).2) → (e = (mvM x z n d (i * n + j)).1) → n - j < f_ → sx_S G (pM g cb (nI n) (nF e) mk mi) 33 [(0, .ref (g 0)), (1, .int x), (2, .int (iI z)), (3, .int (nI c)), (4, .int (nI i)), (5, .int (nI j))] [] := by
              intro f_
              induction f_ with
              | zero => intro j c e hj hc he hm_; exact absurd hm_ (Nat.not_lt_zero _)
              | succ f_ ih33 =>
                intro j c e hj hc he hm_
                have hmd : ∀ j, e j ≤ 60 := by rw [he]; exact mvM_le hd _
                refine sx_iload E dX1_move_33 5 rfl ?_
                refine sx_aload_n E dX1_move_35 rfl 0 rfl ?_
                refine sx_gM E rfl 0 (by decide) q218 rfl dX1_move_36 ?_
                refine sx_icmp_geN E 113 dX1_move_39 (by decide) (by omega) (by omega) (fun c39 => ?_) (fun c39 => ?_)
                · refine sx_iinc E dX1_move_113 4 rfl (v := (nI (i + 1))) (inc1 _) (by decide) (lv' := [(0, .ref (g 0)), (1, .int x), (2, .int (iI z)), (3, .int (nI c)), (4, .int (nI (i + 1))), (5, .int (nI j))]) [1, 2, 3, 4, 0, 5] rfl ?_
                  refine sx_goto E 21 dX1_move_116 (by decide) ?_
                  refine sx_lv (lv' := [(0, .ref (g 0)), (1, .int x), (2, .int (iI z)), (3, .int (nI c)), (4, .int (nI (i + 1)))]) [0, 1, 2, 3, 4] rfl ?_
                  exact ih21 (i + 1) c e (by omega) (by rw [Nat.succ_mul]; rw [show j = n by omega] at hc; exact hc) (by rw [Nat.succ_mul]; rw [show j = n by omega] at he; exact he) (by omega)
                · refine sx_aload_n E dX1_move_42 rfl 0 rfl ?_
                  refine sx_gM E rfl 1 (by decide) q219 rfl dX1_move_43 ?_
                  refine sx_bipush (v := (nI 7)) E dX1_move_46 (by decide) ?_
                  refine sx_iload E dX1_move_48 4 rfl ?_
                  refine sx_imulNN E dX1_move_50 ?_
                  refine sx_iload E dX1_move_51 5 rfl ?_
                  refine sx_iaddNN E dX1_move_53 ?_
                  refine sx_iald E 1 0 rfl rfl (by omega) (by decide) (v := (nI (e ((7 * i) + j)))) (rfl) dX1_move_54 ?_
                  refine sx_iload_n E dX1_move_55 rfl 2 rfl ?_
                  refine sx_iaddNI E dX1_move_56 ?_
                  have hdq := hmd (7 * i + j)
                  refine sx_istore E dX1_move_57 (by decide) (lv' := [(0, .ref (g 0)), (1, .int x), (2, .int (iI z)), (3, .int (nI c)), (4, .int (nI i)), (5, .int (nI j)), (6, .int (iI ((e ((7 * i) + j) : Nat) + z)))]) [1, 2, 3, 4, 5, 6, 0] rfl ?_
                  refine sx_iload_n E dX1_move_59 rfl 1 rfl ?_
                  refine sx_iload E dX1_move_60 4 rfl ?_
                  refine sx_ishr E dX1_move_62 ?_
                  refine sx_iconst (v := (nI 1)) E dX1_move_63 (by decide) ?_
                  refine sx_bit E dX1_move_64 (by omega) ?_
                  refine sx_iconst (v := (nI 1)) E dX1_move_65 (by decide) ?_
                  refine sx_icmp_neB1 E 107 dX1_move_66 (by decide) (fun c66 => ?_) (fun c66 => ?_)
                  · refine sx_iinc E dX1_move_107 5 rfl (v := (nI (j + 1))) (inc1 _) (by decide) (lv' := [(0, .ref (g 0)), (1, .int x), (2, .int (iI z)), (3, .int (nI c)), (4, .int (nI i)), (5, .int (nI (j + 1))), (6, .int (iI ((e ((7 * i) + j) : Nat) + z)))]) [1, 2, 3, 4, 5, 0, 6] rfl ?_
                    refine sx_goto E 33 dX1_move_110 (by decide) ?_
                    refine sx_lv (lv' := [(0, .ref (g 0)), (1, .int x), (2, .int (iI z)), (3, .int (nI c)), (4, .int (nI i)), (5, .int (nI (j + 1)))]) [0, 1, 2, 3, 4, 5] rfl ?_
                    exact ih33 (j + 1) c e (by omega) (by rw [mvM_ij c39]; unfold stM; rw [if_neg (fun e2 => by rw [c66] at e2; exact absurd e2.1 (by decide))]; exact hc) (by rw [mvM_ij c39]; unfold stM; rw [if_neg (fun e2 => by rw [c66] at e2; exact absurd e2.1 (by decide))]; exact he) (by omega)
                  · refine sx_iload_n E dX1_move_69 rfl 1 rfl ?_
                    refine sx_iload E dX1_move_70 5 rfl ?_
                    refine sx_ishr E dX1_move_72 ?_
                    refine sx_iconst (v := (nI 1)) E dX1_move_73 (by decide) ?_
                    refine sx_bit E dX1_move_74 (by omega) ?_
                    refine sx_if_neB E 107 dX1_move_75 (by decide) (fun c75 => ?_) (fun c75 => ?_)
                    · refine sx_iinc E dX1_move_107 5 rfl (v := (nI (j + 1))) (inc1 _) (by decide) (lv' := [(0, .ref (g 0)), (1, .int x), (2, .int (iI z)), (3, .int (nI c)), (4, .int (nI i)), (5, .int (nI (j + 1))), (6, .int (iI ((e ((7 * i) + j) : Nat) + z)))]) [1, 2, 3, 4, 5, 0, 6] rfl ?_
                      refine sx_goto E 33 dX1_move_110 (by decide) ?_
                      refine sx_lv (lv' := [(0, .ref (g 0)), (1, .int x), (2, .int (iI z)), (3, .int (nI c)), (4, .int (nI i)), (5, .int (nI (j + 1)))]) [0, 1, 2, 3, 4, 5] rfl ?_
                      exact ih33 (j + 1) c e (by omega) (by rw [mvM_ij c39]; unfold stM; rw [if_neg (fun e2 => by rw [c75] at e2; exact absurd e2.2.1 (by decide))]; exact hc) (by rw [mvM_ij c39]; unfold stM; rw [if_neg (fun e2 => by rw [c75] at e2; exact absurd e2.2.1 (by decide))]; exact he) (by omega)
                    · refine sx_iload E dX1_move_78 6 rfl ?_
                      refine sx_if_ltI E 107 dX1_move_80 (by decide) (by omega) (fun c80 => ?_) (fun c80 => ?_)
                      · refine sx_iinc E dX1_move_107 5 rfl (v := (nI (j + 1))) (inc1 _) (by decide) (lv' := [(0, .ref (g 0)), (1, .int x), (2, .int (iI z)), (3, .int (nI c)), (4, .int (nI i)), (5, .int (nI (j + 1))), (6, .int (iI ((e ((7 * i) + j) : Nat) + z)))]) [1, 2, 3, 4, 5, 0, 6] rfl ?_
                        refine sx_goto E 33 dX1_move_110 (by decide) ?_
                        refine sx_lv (lv' := [(0, .ref (g 0)), (1, .int x), (2, .int (iI z)), (3, .int (nI c)), (4, .int (nI i)), (5, .int (nI (j + 1)))]) [0, 1, 2, 3, 4, 5] rfl ?_
                        exact ih33 (j + 1) c e (by omega) (by rw [mvM_ij c39]; unfold stM; rw [if_neg (fun e2 => absurd e2.2.2.1 (by rw [← he]; omega))]; exact hc) (by rw [mvM_ij c39]; unfold stM; rw [if_neg (fun e2 => absurd e2.2.2.1 (by rw [← he]; omega))]; exact he) (by omega)
                      · refine sx_iload E dX1_move_83 6 rfl ?_
                        refine sx_bipush (v := (iI 60)) E dX1_move_85 (by decide) ?_
                        refine sx_icmp_gtI E 107 dX1_move_87 (by decide) (by omega) (by omega) (fun c87 => ?_) (fun c87 => ?_)
                        · refine sx_iinc E dX1_move_107 5 rfl (v := (nI (j + 1))) (inc1 _) (by decide) (lv' := [(0, .ref (g 0)), (1, .int x), (2, .int (iI z)), (3, .int (nI c)), (4, .int (nI i)), (5, .int (nI (j + 1))), (6, .int (iI ((e ((7 * i) + j) : Nat) + z)))]) [1, 2, 3, 4, 5, 0, 6] rfl ?_
                          refine sx_goto E 33 dX1_move_110 (by decide) ?_
                          refine sx_lv (lv' := [(0, .ref (g 0)), (1, .int x), (2, .int (iI z)), (3, .int (nI c)), (4, .int (nI i)), (5, .int (nI (j + 1)))]) [0, 1, 2, 3, 4, 5] rfl ?_
                          exact ih33 (j + 1) c e (by omega) (by rw [mvM_ij c39]; unfold stM; rw [if_neg (fun e2 => absurd e2.2.2.2.1 (by rw [← he]; omega))]; exact hc) (by rw [mvM_ij c39]; unfold stM; rw [if_neg (fun e2 => absurd e2.2.2.2.1 (by rw [← he]; omega))]; exact he) (by omega)
                        · refine sx_iload_n E dX1_move_90 rfl 2 rfl ?_
                          refine sx_if_eqI E 107 dX1_move_91 (by decide) (by omega) (fun c91 => ?_) (fun c91 => ?_)
                          · refine sx_iinc E dX1_move_107 5 rfl (v := (nI (j + 1))) (inc1 _) (by decide) (lv' := [(0, .ref (g 0)), (1, .int x), (2, .int (iI z)), (3, .int (nI c)), (4, .int (nI i)), (5, .int (nI (j + 1))), (6, .int (iI ((e ((7 * i) + j) : Nat) + z)))]) [1, 2, 3, 4, 5, 0, 6] rfl ?_
                            refine sx_goto E 33 dX1_move_110 (by decide) ?_
                            refine sx_lv (lv' := [(0, .ref (g 0)), (1, .int x), (2, .int (iI z)), (3, .int (nI c)), (4, .int (nI i)), (5, .int (nI (j + 1)))]) [0, 1, 2, 3, 4, 5] rfl ?_
                            exact ih33 (j + 1) c e (by omega) (by rw [mvM_ij c39]; unfold stM; rw [if_neg (fun e2 => e2.2.2.2.2 c91)]; exact hc) (by rw [mvM_ij c39]; unfold stM; rw [if_neg (fun e2 => e2.2.2.2.2 c91)]; exact he) (by omega)
                          · refine sx_aload_n E dX1_move_94 rfl 0 rfl ?_
                            refine sx_iload E dX1_move_95 4 rfl ?_
                            refine sx_iload E dX1_move_97 5 rfl ?_
                            refine sx_iload E dX1_move_99 6 rfl ?_
                            refine sx_top (y := (nI (((e ((7 * i) + j) : Nat) + z).toNat))) (iI_toNat (by omega)) ?_
                            refine sx_callv (rest := []) E (cM_put l D g cb _ e _ _ i j (((e ((7 * i) + j) : Nat) + z).toNat) (by omega) (by omega)) wM_put kM_put ⟨⟨rfl, rfl⟩, by decide, by decide⟩ rfl rfl rfl (Nat.le_of_ble_eq_true rfl) dX1_move_101 (fun u101 hp101 => ?_)
                            refine sx_iinc E dX1_move_104 3 rfl (v := (nI (c + 1))) (inc1 _) (by decide) (lv' := [(0, .ref (g 0)), (1, .int x), (2, .int (iI z)), (3, .int (nI (c + 1))), (4, .int (nI i)), (5, .int (nI j)), (6, .int (iI ((e ((7 * i) + j) : Nat) + z)))]) [1, 2, 3, 0, 4, 5, 6] rfl ?_
                            refine sx_iinc E dX1_move_107 5 rfl (v := (nI (j + 1))) (inc1 _) (by decide) (lv' := [(0, .ref (g 0)), (1, .int x), (2, .int (iI z)), (3, .int (nI (c + 1))), (4, .int (nI i)), (5, .int (nI (j + 1))), (6, .int (iI ((e ((7 * i) + j) : Nat) + z)))]) [1, 2, 3, 4, 5, 0, 6] rfl ?_
                            refine sx_goto E 33 dX1_move_110 (by decide) ?_
                            refine sx_lv (lv' := [(0, .ref (g 0)), (1, .int x), (2, .int (iI z)), (3, .int (nI (c + 1))), (4, .int (nI i)), (5, .int (nI (j + 1)))]) [0, 1, 2, 3, 4, 5] rfl ?_
                            exact ih33 (j + 1) (c + 1) ((putD e i j (((e ((7 * i) + j) : Nat) + z).toNat))) (by omega) (by rw [mvM_ij c39]; unfold stM; rw [if_pos ⟨c66, c75, by rw [← he]; omega, by rw [← he]; omega, c91⟩, hc]) (by rw [mvM_ij c39]; unfold stM; rw [if_pos ⟨c66, c75, by rw [← he]; omega, by rw [← he]; omega, c91⟩, ← he]) (by omega)
            exact L33 _ 0 c e (Nat.zero_le _) (hc) (he) (Nat.lt_succ_self _)
      exact L21 _ 0 0 d (Nat.zero_le _) (by rw [Nat.zero_mul]; rfl) (by rw [Nat.zero_mul]; rfl) (Nat.lt_succ_self _)
    · refine sx_sipush (v := (iI ((-1000)))) E dX1_move_12 (by decide) ?_
      exact ret _ _ _ (n, d) dX1_move_15 (rfl) (⟨by unfold spMoveM; rw [if_pos (by omega)], by unfold spMoveM; rw [if_pos (by omega)]⟩)

set_option maxHeartbeats 4000000 in
theorem cM_points (l : Launch) (D : va_G) (g : Nat → Nat) (cb : Nat → ClassId) (n : Nat) (d : Nat → Nat) (mk mi : Nat → Int32)  : sx_Cr l yX1_points cX1_points 1 .int rmM_points D (tyM cb) [.ref (g 0)] (pM g cb (nI n) (nF d) mk mi) (nI n) := by
  refine sx_enter_i (own := RX1) (by decide) rfl (Nat.le_of_ble_eq_true rfl) (lv := [(0, .ref (g 0))]) rfl ?_
  intro G E ret
  refine sx_aload_n E dX1_points_0 rfl 0 rfl ?_
  refine sx_gM E rfl 0 (by decide) q218 rfl dX1_points_1 ?_
  exact ret _ _ _ () dX1_points_4 (rfl) (rfl)

set_option maxHeartbeats 4000000 in
theorem cM_distance (l : Launch) (D : va_G) (g : Nat → Nat) (cb : Nat → ClassId) (n : Nat) (d : Nat → Nat) (mk mi : Nat → Int32) (hn : n ≤ 7) (x y : Int) (hx : -2147483648 ≤ x ∧ x < 2147483648) (hy : -2147483648 ≤ y ∧ y < 2147483648) : sx_Cr l yX1_distance cX1_distance 3 .int rmM_distance D (tyM cb) [.ref (g 0), .int (iI x), .int (iI y)] (pM g cb (nI n) (nF d) mk mi) (spDist n d x y) := by
  refine sx_enter_i (own := RX1) (by decide) rfl (Nat.le_of_ble_eq_true rfl) (lv := [(0, .ref (g 0)), (1, .int (iI x)), (2, .int (iI y))]) rfl ?_
  intro G E ret
  refine sx_aload_n E dX1_distance_0 rfl 0 rfl ?_
  refine sx_iload_n E dX1_distance_1 rfl 1 rfl ?_
  refine sx_callr (rest := []) E (cM_is l D g cb n d _ _ hn x (by omega)) wM_is kM_is ⟨⟨rfl, rfl⟩, by decide, by decide⟩ rfl rfl rfl (Nat.le_of_ble_eq_true rfl) dX1_distance_2 ?_
  refine sx_if_eqB E 30 dX1_distance_5 (by decide) (fun c5 => ?_) (fun c5 => ?_)
  · have c5 := isb_f c5
    refine sx_sipush (v := (iI ((-1000)))) E dX1_distance_30 (by decide) ?_
    exact ret _ _ _ () dX1_distance_33 (rfl) (by unfold spDist; rw [if_pos (by omega)])
  · have c5 := isb_t c5
    refine sx_aload_n E dX1_distance_8 rfl 0 rfl ?_
    refine sx_iload_n E dX1_distance_9 rfl 2 rfl ?_
    refine sx_callr (rest := []) E (cM_is l D g cb n d _ _ hn y (by omega)) wM_is kM_is ⟨⟨rfl, rfl⟩, by decide, by decide⟩ rfl rfl rfl (Nat.le_of_ble_eq_true rfl) dX1_distance_10 ?_
    refine sx_if_eqB E 30 dX1_distance_13 (by decide) (fun c13 => ?_) (fun c13 => ?_)
    · have c13 := isb_f c13
      refine sx_sipush (v := (iI ((-1000)))) E dX1_distance_30 (by decide) ?_
      exact ret _ _ _ () dX1_distance_33 (rfl) (by unfold spDist; rw [if_pos (by omega)])
    · have c13 := isb_t c13
      obtain ⟨i, rfl⟩ : ∃ i : Nat, x = (i : Int) := ⟨x.toNat, by omega⟩
      obtain ⟨j, rfl⟩ : ∃ j : Nat, y = (j : Int) := ⟨y.toNat, by omega⟩
      refine sx_lve (lv' := [(0, .ref (g 0)), (1, .int (nI i)), (2, .int (nI j))]) (by rw [iI_n i, iI_n j]) ?_
      refine sx_aload_n E dX1_distance_16 rfl 0 rfl ?_
      refine sx_gM E rfl 1 (by decide) q219 rfl dX1_distance_17 ?_
      refine sx_bipush (v := (nI 7)) E dX1_distance_20 (by decide) ?_
      refine sx_iload_n E dX1_distance_22 rfl 1 rfl ?_
      refine sx_imulNN E dX1_distance_23 ?_
      refine sx_iload_n E dX1_distance_24 rfl 2 rfl ?_
      refine sx_iaddNN E dX1_distance_25 ?_
      refine sx_iald E 1 0 rfl rfl (by omega) (by decide) (v := (nI (d ((7 * i) + j)))) (rfl) dX1_distance_26 ?_
      refine sx_goto E 33 dX1_distance_27 (by decide) ?_
      exact ret _ _ _ () dX1_distance_33 (rfl) (by unfold spDist; rw [if_neg (by omega)]; simp)

set_option maxHeartbeats 4000000 in
theorem cM_indexOf (l : Launch) (D : va_G) (g : Nat → Nat) (cb : Nat → ClassId) (n : Nat) (d : Nat → Nat) (mk mi : Nat → Int32) (hn : n ≤ 7) (hd : ∀ k, d k ≤ 60) (S : Nat) : sx_Cr l yX1_indexOf cX1_indexOf 9 .int rmM_indexOf D (tyM cb) [.ref (g 0), .int (nI S)] (pM g cb (nI n) (nF d) mk mi) (iI (idxM d S n)) := by
  refine sx_enter_i (own := RX1) (by decide) rfl (Nat.le_of_ble_eq_true rfl) (lv := [(0, .ref (g 0)), (1, .int (nI S))]) rfl ?_
  intro G E ret
  refine sx_sipush (v := (iI 1000)) E dX1_indexOf_0 (by decide) ?_
  refine sx_istore_n E dX1_indexOf_3 rfl (by decide) (lv' := [(0, .ref (g 0)), (1, .int (nI S)), (2, .int (iI 1000))]) [1, 2, 0] rfl ?_
  refine sx_iconst (v := (nI 0)) E dX1_indexOf_4 (by decide) ?_
  refine sx_istore_n E dX1_indexOf_5 rfl (by decide) (lv' := [(0, .ref (g 0)), (1, .int (nI S)), (2, .int (iI 1000)), (3, .int (nI 0))]) [1, 2, 3, 0] rfl ?_
  have L6 : ∀ (f_ : Nat) (a : Nat) (m1 : Int), (a ≤ n) → (m1 = i1 d S n a) → n - a < f_ → sx_S G (pM g cb (nI n) (nF d) mk mi) 6 [(0, .ref (g 0)), (1, .int (nI S)), (2, .int (iI m1)), (3, .int (nI a))] [] := by
    intro f_
    induction f_ with
    | zero => intro a m1 ha hm1 hm_; exact absurd hm_ (Nat.not_lt_zero _)
    | succ f_ ih6 =>
      intro a m1 ha hm1 hm_
      have hb1 := i1_bd hd S n a
      rw [← hm1] at hb1
      refine sx_iload_n E dX1_indexOf_6 rfl 3 rfl ?_
      refine sx_aload_n E dX1_indexOf_7 rfl 0 rfl ?_
      refine sx_gM E rfl 0 (by decide) q218 rfl dX1_indexOf_8 ?_
      refine sx_icmp_geN E 187 dX1_indexOf_11 (by decide) (by omega) (by omega) (fun c11 => ?_) (fun c11 => ?_)
      · refine sx_iload_n E dX1_indexOf_187 rfl 2 rfl ?_
        exact ret _ _ _ () dX1_indexOf_188 (rfl) (by rw [hm1, show a = n by omega]; rfl)
      · refine sx_iconst (v := (nI 0)) E dX1_indexOf_14 (by decide) ?_
        refine sx_istore E dX1_indexOf_15 (by decide) (lv' := [(0, .ref (g 0)), (1, .int (nI S)), (2, .int (iI m1)), (3, .int (nI a)), (4, .int (nI 0))]) [1, 2, 3, 4, 0] rfl ?_
        have L17 : ∀ (f_ : Nat) (c : Nat) (m2 : Int), (c ≤ n) → (m2 = i2 d S n a m1 c) → n - c < f_ → sx_S G (pM g cb (nI n) (nF d) mk mi) 17 [(0, .ref (g 0)), (1, .int (nI S)), (2, .int (iI m2)), (3, .int (nI a)), (4, .int (nI c))] [] := by
          intro f_
          induction f_ with
          | zero => intro c m2 hc hm2 hm_; exact absurd hm_ (Nat.not_lt_zero _)
          | succ f_ ih17 =>
            intro c m2 hc hm2 hm_
            have hb2 := i2_bd hd S n a hb1 c
            rw [← hm2] at hb2
            refine sx_iload E dX1_indexOf_17 4 rfl ?_
            refine sx_aload_n E dX1_indexOf_19 rfl 0 rfl ?_
            refine sx_gM E rfl 0 (by decide) q218 rfl dX1_indexOf_20 ?_
            refine sx_icmp_geN E 181 dX1_indexOf_23 (by decide) (by omega) (by omega) (fun c23 => ?_) (fun c23 => ?_)
            · refine sx_iinc E dX1_indexOf_181 3 rfl (v := (nI (a + 1))) (inc1 _) (by decide) (lv' := [(0, .ref (g 0)), (1, .int (nI S)), (2, .int (iI m2)), (3, .int (nI (a + 1))), (4, .int (nI c))]) [1, 2, 3, 0, 4] rfl ?_
              refine sx_goto E 6 dX1_indexOf_184 (by decide) ?_
              refine sx_lv (lv' := [(0, .ref (g 0)), (1, .int (nI S)), (2, .int (iI m2)), (3, .int (nI (a + 1)))]) [0, 1, 2, 3] rfl ?_
              exact ih6 (a + 1) m2 (by omega) (by unfold i1; rw [← hm1, hm2, show c = n by omega]) (by omega)
            · have J50 : ∀ inn : Bool, inn = (Nat.testBit S a && Nat.testBit S c) → sx_S G (pM g cb (nI n) (nF d) mk mi) 50 [(0, .ref (g 0)), (1, .int (nI S)), (2, .int (iI m2)), (3, .int (nI a)), (4, .int (nI c))] [.int (bI inn)] := by
                intro inn hin
                refine sx_istore E dX1_indexOf_50 (by decide) (lv' := [(0, .ref (g 0)), (1, .int (nI S)), (2, .int (iI m2)), (3, .int (nI a)), (4, .int (nI c)), (5, .int (bI inn))]) [1, 2, 3, 4, 5, 0] rfl ?_
                refine sx_iconst (v := (nI 0)) E dX1_indexOf_52 (by decide) ?_
                refine sx_istore E dX1_indexOf_53 (by decide) (lv' := [(0, .ref (g 0)), (1, .int (nI S)), (2, .int (iI m2)), (3, .int (nI a)), (4, .int (nI c)), (5, .int (bI inn)), (6, .int (nI 0))]) [1, 2, 3, 4, 5, 6, 0] rfl ?_
                have L55 : ∀ (f_ : Nat) (b : Nat) (m3 : Int), (b ≤ n) → (m3 = i3 d S n a c m2 b) → (inn = true ∨ b = 0) → n - b < f_ → sx_S G (pM g cb (nI n) (nF d) mk mi) 55 [(0, .ref (g 0)), (1, .int (nI S)), (2, .int (iI m3)), (3, .int (nI a)), (4, .int (nI c)), (5, .int (bI inn)), (6, .int (nI b))] [] := by
                  intro f_
                  induction f_ with
                  | zero => intro b m3 hb hm3 hbi hm_; exact absurd hm_ (Nat.not_lt_zero _)
                  | succ f_ ih55 =>
                    intro b m3 hb hm3 hbi hm_
                    have hb3 := i3_bd hd S n a c hb2 b
                    rw [← hm3] at hb3
                    refine sx_iload E dX1_indexOf_55 6 rfl ?_
                    refine sx_aload_n E dX1_indexOf_57 rfl 0 rfl ?_
                    refine sx_gM E rfl 0 (by decide) q218 rfl dX1_indexOf_58 ?_
                    refine sx_icmp_geN E 175 dX1_indexOf_61 (by decide) (by omega) (by omega) (fun c61 => ?_) (fun c61 => ?_)
                    · refine sx_iinc E dX1_indexOf_175 4 rfl (v := (nI (c + 1))) (inc1 _) (by decide) (lv' := [(0, .ref (g 0)), (1, .int (nI S)), (2, .int (iI m3)), (3, .int (nI a)), (4, .int (nI (c + 1))), (5, .int (bI inn)), (6, .int (nI b))]) [1, 2, 3, 4, 0, 5, 6] rfl ?_
                      refine sx_goto E 17 dX1_indexOf_178 (by decide) ?_
                      refine sx_lv (lv' := [(0, .ref (g 0)), (1, .int (nI S)), (2, .int (iI m3)), (3, .int (nI a)), (4, .int (nI (c + 1)))]) [0, 1, 2, 3, 4] rfl ?_
                      exact ih17 (c + 1) m3 (by omega) (by
                          rw [i2_s, ← hin, ← hm2]
                          rcases hbi with e1 | e1
                          · rw [if_pos e1, hm3, show b = n by omega]
                          · subst e1
                            obtain rfl : n = 0 := by omega
                            omega) (by omega)
                    · refine sx_iload E dX1_indexOf_64 5 rfl ?_
                      refine sx_if_eqB E 175 dX1_indexOf_66 (by decide) (fun c66 => ?_) (fun c66 => ?_)
                      · refine sx_iinc E dX1_indexOf_175 4 rfl (v := (nI (c + 1))) (inc1 _) (by decide) (lv' := [(0, .ref (g 0)), (1, .int (nI S)), (2, .int (iI m3)), (3, .int (nI a)), (4, .int (nI (c + 1))), (5, .int (bI inn)), (6, .int (nI b))]) [1, 2, 3, 4, 0, 5, 6] rfl ?_
                        refine sx_goto E 17 dX1_indexOf_178 (by decide) ?_
                        refine sx_lv (lv' := [(0, .ref (g 0)), (1, .int (nI S)), (2, .int (iI m3)), (3, .int (nI a)), (4, .int (nI (c + 1)))]) [0, 1, 2, 3, 4] rfl ?_
                        exact ih17 (c + 1) m3 (by omega) (by
                            rw [i2_s, ← hin, ← hm2]
                            rw [c66] at hbi ⊢
                            rcases hbi with e1 | e1
                            · exact absurd e1 (by decide)
                            · subst e1
                              exact hm3) (by omega)
                      · refine sx_iconst (v := (nI 0)) E dX1_indexOf_69 (by decide) ?_
                        refine sx_istore E dX1_indexOf_70 (by decide) (lv' := [(0, .ref (g 0)), (1, .int (nI S)), (2, .int (iI m3)), (3, .int (nI a)), (4, .int (nI c)), (5, .int (bI inn)), (6, .int (nI b)), (7, .int (nI 0))]) [1, 2, 3, 4, 5, 6, 7, 0] rfl ?_
                        have L72 : ∀ (f_ : Nat) (e : Nat) (m4 : Int), (e ≤ n) → (m4 = i4 d S a c b m3 e) → n - e < f_ → sx_S G (pM g cb (nI n) (nF d) mk mi) 72 [(0, .ref (g 0)), (1, .int (nI S)), (2, .int (iI m4)), (3, .int (nI a)), (4, .int (nI c)), (5, .int (bI inn)), (6, .int (nI b)), (7, .int (nI e))] [] := by
                          intro f_
                          induction f_ with
                          | zero => intro e m4 he hm4 hm_; exact absurd hm_ (Nat.not_lt_zero _)
                          | succ f_ ih72 =>
                            intro e m4 he hm4 hm_
                            have hb4 := i4_bd hd S a c b hb3 e
                            rw [← hm4] at hb4
                            refine sx_iload E dX1_indexOf_72 7 rfl ?_
                            refine sx_aload_n E dX1_indexOf_74 rfl 0 rfl ?_
                            refine sx_gM E rfl 0 (by decide) q218 rfl dX1_indexOf_75 ?_
                            refine sx_icmp_geN E 169 dX1_indexOf_78 (by decide) (by omega) (by omega) (fun c78 => ?_) (fun c78 => ?_)
                            · refine sx_iinc E dX1_indexOf_169 6 rfl (v := (nI (b + 1))) (inc1 _) (by decide) (lv' := [(0, .ref (g 0)), (1, .int (nI S)), (2, .int (iI m4)), (3, .int (nI a)), (4, .int (nI c)), (5, .int (bI inn)), (6, .int (nI (b + 1))), (7, .int (nI e))]) [1, 2, 3, 4, 5, 6, 0, 7] rfl ?_
                              refine sx_goto E 55 dX1_indexOf_172 (by decide) ?_
                              refine sx_lv (lv' := [(0, .ref (g 0)), (1, .int (nI S)), (2, .int (iI m4)), (3, .int (nI a)), (4, .int (nI c)), (5, .int (bI inn)), (6, .int (nI (b + 1)))]) [0, 1, 2, 3, 4, 5, 6] rfl ?_
                              exact ih55 (b + 1) m4 (by omega) (by unfold i3; rw [← hm3, hm4, show e = n by omega]) (Or.inl c66) (by omega)
                            · refine sx_aload_n E dX1_indexOf_81 rfl 0 rfl ?_
                              refine sx_gM E rfl 1 (by decide) q219 rfl dX1_indexOf_82 ?_
                              refine sx_bipush (v := (nI 7)) E dX1_indexOf_85 (by decide) ?_
                              refine sx_iload_n E dX1_indexOf_87 rfl 3 rfl ?_
                              refine sx_imulNN E dX1_indexOf_88 ?_
                              refine sx_iload E dX1_indexOf_89 6 rfl ?_
                              refine sx_iaddNN E dX1_indexOf_91 ?_
                              refine sx_iald E 1 0 rfl rfl (by omega) (by decide) (v := (nI (d ((7 * a) + b)))) (rfl) dX1_indexOf_92 ?_
                              refine sx_aload_n E dX1_indexOf_93 rfl 0 rfl ?_
                              refine sx_gM E rfl 1 (by decide) q219 rfl dX1_indexOf_94 ?_
                              refine sx_bipush (v := (nI 7)) E dX1_indexOf_97 (by decide) ?_
                              refine sx_iload E dX1_indexOf_99 4 rfl ?_
                              refine sx_imulNN E dX1_indexOf_101 ?_
                              refine sx_iload E dX1_indexOf_102 7 rfl ?_
                              refine sx_iaddNN E dX1_indexOf_104 ?_
                              refine sx_iald E 1 0 rfl rfl (by omega) (by decide) (v := (nI (d ((7 * c) + e)))) (rfl) dX1_indexOf_105 ?_
                              refine sx_iaddNN E dX1_indexOf_106 ?_
                              refine sx_aload_n E dX1_indexOf_107 rfl 0 rfl ?_
                              refine sx_gM E rfl 1 (by decide) q219 rfl dX1_indexOf_108 ?_
                              refine sx_bipush (v := (nI 7)) E dX1_indexOf_111 (by decide) ?_
                              refine sx_iload_n E dX1_indexOf_113 rfl 3 rfl ?_
                              refine sx_imulNN E dX1_indexOf_114 ?_
                              refine sx_iload E dX1_indexOf_115 4 rfl ?_
                              refine sx_iaddNN E dX1_indexOf_117 ?_
                              refine sx_iald E 1 0 rfl rfl (by omega) (by decide) (v := (nI (d ((7 * a) + c)))) (rfl) dX1_indexOf_118 ?_
                              refine sx_isubNN E dX1_indexOf_119 ?_
                              refine sx_aload_n E dX1_indexOf_120 rfl 0 rfl ?_
                              refine sx_gM E rfl 1 (by decide) q219 rfl dX1_indexOf_121 ?_
                              refine sx_bipush (v := (nI 7)) E dX1_indexOf_124 (by decide) ?_
                              refine sx_iload E dX1_indexOf_126 6 rfl ?_
                              refine sx_imulNN E dX1_indexOf_128 ?_
                              refine sx_iload E dX1_indexOf_129 7 rfl ?_
                              refine sx_iaddNN E dX1_indexOf_131 ?_
                              refine sx_iald E 1 0 rfl rfl (by omega) (by decide) (v := (nI (d ((7 * b) + e)))) (rfl) dX1_indexOf_132 ?_
                              refine sx_isubIN E dX1_indexOf_133 ?_
                              have hq_ := qv_bd hd a b c e
                              refine sx_top (y := (iI (qv d a b c e))) (rfl) ?_
                              refine sx_istore E dX1_indexOf_134 (by decide) (lv' := [(0, .ref (g 0)), (1, .int (nI S)), (2, .int (iI m4)), (3, .int (nI a)), (4, .int (nI c)), (5, .int (bI inn)), (6, .int (nI b)), (7, .int (nI e)), (8, .int (iI (qv d a b c e)))]) [1, 2, 3, 4, 5, 6, 7, 8, 0] rfl ?_
                              refine sx_iload_n E dX1_indexOf_136 rfl 1 rfl ?_
                              refine sx_iload E dX1_indexOf_137 6 rfl ?_
                              refine sx_ishr E dX1_indexOf_139 ?_
                              refine sx_iconst (v := (nI 1)) E dX1_indexOf_140 (by decide) ?_
                              refine sx_bitN E dX1_indexOf_141 (by omega) ?_
                              refine sx_if_neB E 163 dX1_indexOf_142 (by decide) (fun c142 => ?_) (fun c142 => ?_)
                              · refine sx_iinc E dX1_indexOf_163 7 rfl (v := (nI (e + 1))) (inc1 _) (by decide) (lv' := [(0, .ref (g 0)), (1, .int (nI S)), (2, .int (iI m4)), (3, .int (nI a)), (4, .int (nI c)), (5, .int (bI inn)), (6, .int (nI b)), (7, .int (nI (e + 1))), (8, .int (iI (qv d a b c e)))]) [1, 2, 3, 4, 5, 6, 7, 0, 8] rfl ?_
                                refine sx_goto E 72 dX1_indexOf_166 (by decide) ?_
                                refine sx_lv (lv' := [(0, .ref (g 0)), (1, .int (nI S)), (2, .int (iI m4)), (3, .int (nI a)), (4, .int (nI c)), (5, .int (bI inn)), (6, .int (nI b)), (7, .int (nI (e + 1)))]) [0, 1, 2, 3, 4, 5, 6, 7] rfl ?_
                                exact ih72 (e + 1) m4 (by omega) (by rw [hm4]; simp [i4, c142]) (by omega)
                              · refine sx_iload_n E dX1_indexOf_145 rfl 1 rfl ?_
                                refine sx_iload E dX1_indexOf_146 7 rfl ?_
                                refine sx_ishr E dX1_indexOf_148 ?_
                                refine sx_iconst (v := (nI 1)) E dX1_indexOf_149 (by decide) ?_
                                refine sx_bitN E dX1_indexOf_150 (by omega) ?_
                                refine sx_if_neB E 163 dX1_indexOf_151 (by decide) (fun c151 => ?_) (fun c151 => ?_)
                                · refine sx_iinc E dX1_indexOf_163 7 rfl (v := (nI (e + 1))) (inc1 _) (by decide) (lv' := [(0, .ref (g 0)), (1, .int (nI S)), (2, .int (iI m4)), (3, .int (nI a)), (4, .int (nI c)), (5, .int (bI inn)), (6, .int (nI b)), (7, .int (nI (e + 1))), (8, .int (iI (qv d a b c e)))]) [1, 2, 3, 4, 5, 6, 7, 0, 8] rfl ?_
                                  refine sx_goto E 72 dX1_indexOf_166 (by decide) ?_
                                  refine sx_lv (lv' := [(0, .ref (g 0)), (1, .int (nI S)), (2, .int (iI m4)), (3, .int (nI a)), (4, .int (nI c)), (5, .int (bI inn)), (6, .int (nI b)), (7, .int (nI (e + 1)))]) [0, 1, 2, 3, 4, 5, 6, 7] rfl ?_
                                  exact ih72 (e + 1) m4 (by omega) (by rw [hm4]; simp [i4, c151]) (by omega)
                                · refine sx_iload E dX1_indexOf_154 8 rfl ?_
                                  refine sx_iload_n E dX1_indexOf_156 rfl 2 rfl ?_
                                  refine sx_icmp_geI E 163 dX1_indexOf_157 (by decide) (by omega) (by omega) (fun c157 => ?_) (fun c157 => ?_)
                                  · refine sx_iinc E dX1_indexOf_163 7 rfl (v := (nI (e + 1))) (inc1 _) (by decide) (lv' := [(0, .ref (g 0)), (1, .int (nI S)), (2, .int (iI m4)), (3, .int (nI a)), (4, .int (nI c)), (5, .int (bI inn)), (6, .int (nI b)), (7, .int (nI (e + 1))), (8, .int (iI (qv d a b c e)))]) [1, 2, 3, 4, 5, 6, 7, 0, 8] rfl ?_
                                    refine sx_goto E 72 dX1_indexOf_166 (by decide) ?_
                                    refine sx_lv (lv' := [(0, .ref (g 0)), (1, .int (nI S)), (2, .int (iI m4)), (3, .int (nI a)), (4, .int (nI c)), (5, .int (bI inn)), (6, .int (nI b)), (7, .int (nI (e + 1)))]) [0, 1, 2, 3, 4, 5, 6, 7] rfl ?_
                                    exact ih72 (e + 1) m4 (by omega) (by rw [i4_s, ← hm4, if_neg (by omega)]) (by omega)
                                  · refine sx_iload E dX1_indexOf_160 8 rfl ?_
                                    refine sx_istore_n E dX1_indexOf_162 rfl (by decide) (lv' := [(0, .ref (g 0)), (1, .int (nI S)), (2, .int (iI (qv d a b c e))), (3, .int (nI a)), (4, .int (nI c)), (5, .int (bI inn)), (6, .int (nI b)), (7, .int (nI e)), (8, .int (iI (qv d a b c e)))]) [1, 2, 0, 3, 4, 5, 6, 7, 8] rfl ?_
                                    refine sx_iinc E dX1_indexOf_163 7 rfl (v := (nI (e + 1))) (inc1 _) (by decide) (lv' := [(0, .ref (g 0)), (1, .int (nI S)), (2, .int (iI (qv d a b c e))), (3, .int (nI a)), (4, .int (nI c)), (5, .int (bI inn)), (6, .int (nI b)), (7, .int (nI (e + 1))), (8, .int (iI (qv d a b c e)))]) [1, 2, 3, 4, 5, 6, 7, 0, 8] rfl ?_
                                    refine sx_goto E 72 dX1_indexOf_166 (by decide) ?_
                                    refine sx_lv (lv' := [(0, .ref (g 0)), (1, .int (nI S)), (2, .int (iI (qv d a b c e))), (3, .int (nI a)), (4, .int (nI c)), (5, .int (bI inn)), (6, .int (nI b)), (7, .int (nI (e + 1)))]) [0, 1, 2, 3, 4, 5, 6, 7] rfl ?_
                                    exact ih72 (e + 1) (qv d a b c e) (by omega) (by rw [i4_s, ← hm4, if_pos ⟨c142, c151, c157⟩]) (by omega)
                        exact L72 _ 0 m3 (Nat.zero_le _) (rfl) (Nat.lt_succ_self _)
                exact L55 _ 0 m2 (Nat.zero_le _) (rfl) (Or.inr rfl) (Nat.lt_succ_self _)
              refine sx_iload_n E dX1_indexOf_26 rfl 1 rfl ?_
              refine sx_iload_n E dX1_indexOf_27 rfl 3 rfl ?_
              refine sx_ishr E dX1_indexOf_28 ?_
              refine sx_iconst (v := (nI 1)) E dX1_indexOf_29 (by decide) ?_
              refine sx_bitN E dX1_indexOf_30 (by omega) ?_
              refine sx_iconst (v := (nI 1)) E dX1_indexOf_31 (by decide) ?_
              refine sx_icmp_neB1 E 49 dX1_indexOf_32 (by decide) (fun c32 => ?_) (fun c32 => ?_)
              · refine sx_iconst (v := (bI false)) E dX1_indexOf_49 (by decide) ?_
                exact J50 false (by rw [c32]; rfl)
              · refine sx_iload_n E dX1_indexOf_35 rfl 1 rfl ?_
                refine sx_iload E dX1_indexOf_36 4 rfl ?_
                refine sx_ishr E dX1_indexOf_38 ?_
                refine sx_iconst (v := (nI 1)) E dX1_indexOf_39 (by decide) ?_
                refine sx_bitN E dX1_indexOf_40 (by omega) ?_
                refine sx_iconst (v := (nI 1)) E dX1_indexOf_41 (by decide) ?_
                refine sx_icmp_neB1 E 49 dX1_indexOf_42 (by decide) (fun c42 => ?_) (fun c42 => ?_)
                · refine sx_iconst (v := (bI false)) E dX1_indexOf_49 (by decide) ?_
                  exact J50 false (by rw [c32, c42]; rfl)
                · refine sx_iconst (v := (bI true)) E dX1_indexOf_45 (by decide) ?_
                  refine sx_goto E 50 dX1_indexOf_46 (by decide) ?_
                  exact J50 true (by rw [c32, c42]; rfl)
        exact L17 _ 0 m1 (Nat.zero_le _) (rfl) (Nat.lt_succ_self _)
  exact L6 _ 0 1000 (Nat.zero_le _) (rfl) (Nat.lt_succ_self _)

set_option maxHeartbeats 4000000 in
theorem cM_isSplit (l : Launch) (D : va_G) (g : Nat → Nat) (cb : Nat → ClassId) (n : Nat) (d : Nat → Nat) (mk mi : Nat → Int32) (hn : n ≤ 7) (z : Int) (hz : -2147483648 ≤ z ∧ z < 2147483648) : sx_Cr l yX1_isSplit cX1_isSplit 2 .boolean rmM_isSplit D (tyM cb) [.ref (g 0), .int (iI z)] (pM g cb (nI n) (nF d) mk mi) (bI (!bads n z)) := by
  refine sx_enter_i (own := RX1) (by decide) rfl (Nat.le_of_ble_eq_true rfl) (lv := [(0, .ref (g 0)), (1, .int (iI z))]) rfl ?_
  intro G E ret
  have h2n : 2 ^ n ≤ 128 := pow7 hn
  have h2p : 1 ≤ 2 ^ n := Nat.one_le_two_pow
  have hpw := pw n
  have hhT : hT n = (2 ^ n - 1) / 2 := rfl
  refine sx_iload_n E dX1_isSplit_0 rfl 1 rfl ?_
  refine sx_if_leI E 27 dX1_isSplit_1 (by decide) (by omega) (fun c1 => ?_) (fun c1 => ?_)
  · refine sx_iconst (v := (nI 0)) E dX1_isSplit_27 (by decide) ?_
    exact ret _ _ _ () dX1_isSplit_28 (rfl) (isp_0 (by omega))
  · obtain ⟨S, rfl⟩ : ∃ S : Nat, z = (S : Int) := ⟨z.toNat, by omega⟩
    refine sx_lve (lv' := [(0, .ref (g 0)), (1, .int (nI S))]) (by rw [iI_n S]) ?_
    refine sx_iload_n E dX1_isSplit_4 rfl 1 rfl ?_
    refine sx_iconst (v := (nI 1)) E dX1_isSplit_5 (by decide) ?_
    refine sx_aload_n E dX1_isSplit_6 rfl 0 rfl ?_
    refine sx_gM E rfl 0 (by decide) q218 rfl dX1_isSplit_7 ?_
    refine sx_shl1 E dX1_isSplit_10 (by omega) ?_
    refine sx_iconst (v := (nI 1)) E dX1_isSplit_11 (by decide) ?_
    refine sx_isubNM E dX1_isSplit_12 (h2p) ?_
    refine sx_icmp_geN E 27 dX1_isSplit_13 (by decide) (by omega) (by omega) (fun c13 => ?_) (fun c13 => ?_)
    · refine sx_iconst (v := (nI 0)) E dX1_isSplit_27 (by decide) ?_
      exact ret _ _ _ () dX1_isSplit_28 (rfl) (isp_0 (by omega))
    · refine sx_iload_n E dX1_isSplit_16 rfl 1 rfl ?_
      refine sx_iconst (v := (nI 2)) E dX1_isSplit_17 (by decide) ?_
      refine sx_iremNN E dX1_isSplit_18 (by omega) (by omega) (by omega) ?_
      refine sx_iconst (v := (nI 1)) E dX1_isSplit_19 (by decide) ?_
      refine sx_icmp_neN E 27 dX1_isSplit_20 (by decide) (by omega) (by omega) (fun c20 => ?_) (fun c20 => ?_)
      · refine sx_iconst (v := (nI 0)) E dX1_isSplit_27 (by decide) ?_
        exact ret _ _ _ () dX1_isSplit_28 (rfl) (isp_0 (by omega))
      · refine sx_iconst (v := (nI 1)) E dX1_isSplit_23 (by decide) ?_
        refine sx_goto E 28 dX1_isSplit_24 (by decide) ?_
        exact ret _ _ _ () dX1_isSplit_28 (rfl) (isp_1 (by omega))

theorem wk_s {d : Nat → Nat} {n s : Nat} {mq : Nat → Int32} (hs : s % 2 = 1) (h : ∀ T, T % 2 = 1 → T < s → mq T = iI (idxM d T n)) : ∀ T, T % 2 = 1 → T < s + 2 → upd mq s (iI (idxM d s n)) T = iI (idxM d T n) := by
  intro T h1 h2
  by_cases e : T = s
  · subst e
    exact upd_at _ _ _
  · rw [upd_ne e]
    exact h T h1 (by omega)
set_option maxHeartbeats 4000000 in
theorem cM_work (l : Launch) (D : va_G) (g : Nat → Nat) (cb : Nat → ClassId) (n : Nat) (d : Nat → Nat) (mk mi : Nat → Int32) (hn : n ≤ 7) (hd : ∀ k, d k ≤ 60) : sx_Cv l yX1_work cX1_work 2 rmM_work D (tyM cb) [.ref (g 0)] (pM g cb (nI n) (nF d) mk mi) (S := Nat → Int32) (fun u => pM g cb (nI n) (nF d) mk u) (fun u => wk n d u) := by
  refine sx_enter_v (own := RX1) (by decide) rfl (Nat.le_of_ble_eq_true rfl) (lv := [(0, .ref (g 0))]) rfl ?_
  intro G E ret
  have h2n : 2 ^ n ≤ 128 := pow7 hn
  have h2p : 1 ≤ 2 ^ n := Nat.one_le_two_pow
  have hpw := pw n
  have hhT : hT n = (2 ^ n - 1) / 2 := rfl
  refine sx_iconst (v := (nI 1)) E dX1_work_0 (by decide) ?_
  refine sx_istore_n E dX1_work_1 rfl (by decide) (lv' := [(0, .ref (g 0)), (1, .int (nI 1))]) [1, 0] rfl ?_
  have L2 : ∀ (f_ : Nat) (s : Nat) (mq : Nat → Int32), (s % 2 = 1) → (s ≤ 2 ^ n + 1) → (∀ T, T % 2 = 1 → T < s → mq T = iI (idxM d T n)) → 2 ^ n + 1 - s < f_ → sx_S G (pM g cb (nI n) (nF d) mk mq) 2 [(0, .ref (g 0)), (1, .int (nI s))] [] := by
    intro f_
    induction f_ with
    | zero => intro s mq hs1 hs2 hmq hm_; exact absurd hm_ (Nat.not_lt_zero _)
    | succ f_ ih2 =>
      intro s mq hs1 hs2 hmq hm_
      refine sx_iload_n E dX1_work_2 rfl 1 rfl ?_
      refine sx_iconst (v := (nI 1)) E dX1_work_3 (by decide) ?_
      refine sx_aload_n E dX1_work_4 rfl 0 rfl ?_
      refine sx_gM E rfl 0 (by decide) q218 rfl dX1_work_5 ?_
      refine sx_shl1 E dX1_work_8 (by omega) ?_
      refine sx_iconst (v := (nI 1)) E dX1_work_9 (by decide) ?_
      refine sx_isubNM E dX1_work_10 (h2p) ?_
      refine sx_icmp_geN E 31 dX1_work_11 (by decide) (by omega) (by omega) (fun c11 => ?_) (fun c11 => ?_)
      · exact ret _ _ mq dX1_work_31 (fun T h1 h2 => hmq T h1 (by omega))
      · refine sx_aload_n E dX1_work_14 rfl 0 rfl ?_
        refine sx_gM E rfl 3 (by decide) q221 rfl dX1_work_15 ?_
        refine sx_iload_n E dX1_work_18 rfl 1 rfl ?_
        refine sx_aload_n E dX1_work_19 rfl 0 rfl ?_
        refine sx_iload_n E dX1_work_20 rfl 1 rfl ?_
        refine sx_callr (rest := [.int (nI s), .ref (g 3)]) E (cM_indexOf l D g cb n d _ _ hn hd s) wM_indexOf kM_indexOf ⟨⟨rfl, rfl⟩, by decide, by decide⟩ rfl rfl rfl (Nat.le_of_ble_eq_true rfl) dX1_work_21 ?_
        have hib := idxM_bd hd s n
        refine sx_iast E 3 2 rfl rfl (by omega) (by decide) (f' := upd mq s (iI (idxM d s n))) (rfl) dX1_work_24 (ws' := (pM g cb (nI n) (nF d) mk (upd mq s (iI (idxM d s n))))) rfl ?_
        refine sx_iinc E dX1_work_25 1 rfl (v := (nI (s + 2))) (inc2 _) (by decide) (lv' := [(0, .ref (g 0)), (1, .int (nI (s + 2)))]) [1, 0] rfl ?_
        refine sx_goto E 2 dX1_work_28 (by decide) ?_
        exact ih2 (s + 2) (upd mq s (iI (idxM d s n))) (by omega) (by omega) (wk_s hs1 hmq) (by omega)
  exact L2 _ 1 mi (rfl) (by omega) (fun T h1 h2 => absurd h1 (by omega)) (Nat.lt_succ_self _)

set_option maxHeartbeats 4000000 in
theorem cM_between (l : Launch) (D : va_G) (g : Nat → Nat) (cb : Nat → ClassId) (n : Nat) (d : Nat → Nat) (mk mi : Nat → Int32) (hn : n ≤ 7) (hd : ∀ k, d k ≤ 60) (hw : wk n d mi) (i j : Nat) (hi : i < 7) (hj : j < 7) : sx_Cr l yX1_between cX1_between 5 .int rmM_between D (tyM cb) [.ref (g 0), .int (nI i), .int (nI j)] (pM g cb (nI n) (nF d) mk mi) (nI (bet d n i j)) := by
  refine sx_enter_i (own := RX1) (by decide) rfl (Nat.le_of_ble_eq_true rfl) (lv := [(0, .ref (g 0)), (1, .int (nI i)), (2, .int (nI j))]) rfl ?_
  intro G E ret
  have h2n : 2 ^ n ≤ 128 := pow7 hn
  have h2p : 1 ≤ 2 ^ n := Nat.one_le_two_pow
  have hpw := pw n
  have hhT : hT n = (2 ^ n - 1) / 2 := rfl
  refine sx_iconst (v := (nI 0)) E dX1_between_0 (by decide) ?_
  refine sx_istore_n E dX1_between_1 rfl (by decide) (lv' := [(0, .ref (g 0)), (1, .int (nI i)), (2, .int (nI j)), (3, .int (nI 0))]) [1, 2, 3, 0] rfl ?_
  refine sx_iconst (v := (nI 1)) E dX1_between_2 (by decide) ?_
  refine sx_istore E dX1_between_3 (by decide) (lv' := [(0, .ref (g 0)), (1, .int (nI i)), (2, .int (nI j)), (3, .int (nI 0)), (4, .int (nI 1))]) [1, 2, 3, 4, 0] rfl ?_
  have L5 : ∀ (f_ : Nat) (s : Nat) (t : Nat) (m : Nat), (s = 2 * t + 1) → (t ≤ hT n) → (m = sT (bw d n i j) t) → hT n - t < f_ → sx_S G (pM g cb (nI n) (nF d) mk mi) 5 [(0, .ref (g 0)), (1, .int (nI i)), (2, .int (nI j)), (3, .int (nI m)), (4, .int (nI s))] [] := by
    intro f_
    induction f_ with
    | zero => intro s t m hs ht hm hm_; exact absurd hm_ (Nat.not_lt_zero _)
    | succ f_ ih5 =>
      intro s t m hs ht hm hm_
      refine sx_iload E dX1_between_5 4 rfl ?_
      refine sx_iconst (v := (nI 1)) E dX1_between_7 (by decide) ?_
      refine sx_aload_n E dX1_between_8 rfl 0 rfl ?_
      refine sx_gM E rfl 0 (by decide) q218 rfl dX1_between_9 ?_
      refine sx_shl1 E dX1_between_12 (by omega) ?_
      refine sx_iconst (v := (nI 1)) E dX1_between_13 (by decide) ?_
      refine sx_isubNM E dX1_between_14 (h2p) ?_
      refine sx_icmp_geN E 59 dX1_between_15 (by decide) (by omega) (by omega) (fun c15 => ?_) (fun c15 => ?_)
      · obtain rfl : t = hT n := by omega
        refine sx_iload_n E dX1_between_59 rfl 3 rfl ?_
        exact ret _ _ _ () dX1_between_60 (rfl) (by rw [hm]; rfl)
      · have hib := idxM_bd hd s n
        refine sx_iload E dX1_between_18 4 rfl ?_
        refine sx_iload_n E dX1_between_20 rfl 1 rfl ?_
        refine sx_ishr E dX1_between_21 ?_
        refine sx_iconst (v := (nI 1)) E dX1_between_22 (by decide) ?_
        refine sx_bitN E dX1_between_23 (by omega) ?_
        refine sx_iload E dX1_between_24 4 rfl ?_
        refine sx_iload_n E dX1_between_26 rfl 2 rfl ?_
        refine sx_ishr E dX1_between_27 ?_
        refine sx_iconst (v := (nI 1)) E dX1_between_28 (by decide) ?_
        refine sx_bitN E dX1_between_29 (by omega) ?_
        refine sx_icmp_eqB E 53 dX1_between_30 (by decide) (fun c30 => ?_) (fun c30 => ?_)
        · refine sx_iinc E dX1_between_53 4 rfl (v := (nI (s + 2))) (inc2 _) (by decide) (lv' := [(0, .ref (g 0)), (1, .int (nI i)), (2, .int (nI j)), (3, .int (nI m)), (4, .int (nI (s + 2)))]) [1, 2, 3, 4, 0] rfl ?_
          refine sx_goto E 5 dX1_between_56 (by decide) ?_
          exact ih5 (s + 2) (t + 1) m (by omega) (by omega) (by rw [sT_s, ← hm, ← hs]; unfold bw; rw [if_neg (fun e2 => by rw [c30] at e2; simp at e2)]; rfl) (by omega)
        · refine sx_aload_n E dX1_between_33 rfl 0 rfl ?_
          refine sx_gM E rfl 3 (by decide) q221 rfl dX1_between_34 ?_
          refine sx_iload E dX1_between_37 4 rfl ?_
          refine sx_iald E 3 2 rfl rfl (by omega) (by decide) (v := (iI (idxM d s n))) (hw _ (by omega) (by omega)) dX1_between_39 ?_
          refine sx_if_leI E 53 dX1_between_40 (by decide) (by omega) (fun c40 => ?_) (fun c40 => ?_)
          · refine sx_iinc E dX1_between_53 4 rfl (v := (nI (s + 2))) (inc2 _) (by decide) (lv' := [(0, .ref (g 0)), (1, .int (nI i)), (2, .int (nI j)), (3, .int (nI m)), (4, .int (nI (s + 2)))]) [1, 2, 3, 4, 0] rfl ?_
            refine sx_goto E 5 dX1_between_56 (by decide) ?_
            exact ih5 (s + 2) (t + 1) m (by omega) (by omega) (by rw [sT_s, ← hm, ← hs]; unfold bw; rw [if_neg (by omega)]; rfl) (by omega)
          · refine sx_iload_n E dX1_between_43 rfl 3 rfl ?_
            refine sx_aload_n E dX1_between_44 rfl 0 rfl ?_
            refine sx_gM E rfl 3 (by decide) q221 rfl dX1_between_45 ?_
            refine sx_iload E dX1_between_48 4 rfl ?_
            refine sx_iald E 3 2 rfl rfl (by omega) (by decide) (v := (iI (idxM d s n))) (hw _ (by omega) (by omega)) dX1_between_50 ?_
            refine sx_top (y := (nI ((idxM d s n).toNat))) (iI_toNat (by omega)) ?_
            refine sx_iaddNN E dX1_between_51 ?_
            refine sx_istore_n E dX1_between_52 rfl (by decide) (lv' := [(0, .ref (g 0)), (1, .int (nI i)), (2, .int (nI j)), (3, .int (nI (m + ((idxM d s n).toNat)))), (4, .int (nI s))]) [1, 2, 3, 0, 4] rfl ?_
            refine sx_iinc E dX1_between_53 4 rfl (v := (nI (s + 2))) (inc2 _) (by decide) (lv' := [(0, .ref (g 0)), (1, .int (nI i)), (2, .int (nI j)), (3, .int (nI (m + ((idxM d s n).toNat)))), (4, .int (nI (s + 2)))]) [1, 2, 3, 4, 0] rfl ?_
            refine sx_goto E 5 dX1_between_56 (by decide) ?_
            exact ih5 (s + 2) (t + 1) (m + ((idxM d s n).toNat)) (by omega) (by omega) (by rw [sT_s, ← hm, ← hs]; unfold bw; rw [if_pos ⟨by simp [c30], c40⟩]) (by omega)
  exact L5 _ 1 0 0 (rfl) (Nat.zero_le _) (rfl) (Nat.lt_succ_self _)

set_option maxHeartbeats 4000000 in
theorem cM_index (l : Launch) (D : va_G) (g : Nat → Nat) (cb : Nat → ClassId) (n : Nat) (d : Nat → Nat) (mk mi : Nat → Int32) (hn : n ≤ 7) (hd : ∀ k, d k ≤ 60) (z : Int) (hz : -2147483648 ≤ z ∧ z < 2147483648) : sx_Cr l yX1_index cX1_index 2 .int rmM_index D (tyM cb) [.ref (g 0), .int (iI z)] (pM g cb (nI n) (nF d) mk mi) (spIndexM n d z) := by
  refine sx_enter_i (own := RX1) (by decide) rfl (Nat.le_of_ble_eq_true rfl) (lv := [(0, .ref (g 0)), (1, .int (iI z))]) rfl ?_
  intro G E ret
  refine sx_aload_n E dX1_index_0 rfl 0 rfl ?_
  refine sx_iload_n E dX1_index_1 rfl 1 rfl ?_
  refine sx_callr (rest := []) E (cM_isSplit l D g cb n d _ _ hn z (by omega)) wM_isSplit kM_isSplit ⟨⟨rfl, rfl⟩, by decide, by decide⟩ rfl rfl rfl (Nat.le_of_ble_eq_true rfl) dX1_index_2 ?_
  refine sx_if_eqB E 16 dX1_index_5 (by decide) (fun c5 => ?_) (fun c5 => ?_)
  · refine sx_sipush (v := (iI ((-1000)))) E dX1_index_16 (by decide) ?_
    exact ret _ _ _ () dX1_index_19 (rfl) (by unfold spIndexM; rw [if_pos (by rw [Bool.not_eq_false'] at c5; exact c5)])
  · have c5b : bads n z = false := by rw [Bool.not_eq_true'] at c5; exact c5
    have c5c := bads_f c5b
    obtain ⟨S, rfl⟩ : ∃ S : Nat, z = (S : Int) := ⟨z.toNat, by omega⟩
    refine sx_lve (lv' := [(0, .ref (g 0)), (1, .int (nI S))]) (by rw [iI_n S]) ?_
    refine sx_aload_n E dX1_index_8 rfl 0 rfl ?_
    refine sx_iload_n E dX1_index_9 rfl 1 rfl ?_
    refine sx_callr (rest := []) E (cM_indexOf l D g cb n d _ _ hn hd S) wM_indexOf kM_indexOf ⟨⟨rfl, rfl⟩, by decide, by decide⟩ rfl rfl rfl (Nat.le_of_ble_eq_true rfl) dX1_index_10 ?_
    have hib := idxM_bd hd S n
    refine sx_goto E 19 dX1_index_13 (by decide) ?_
    exact ret _ _ _ () dX1_index_19 (rfl) (by unfold spIndexM; rw [if_neg (by rw [c5b]; decide)]; rfl)

set_option maxHeartbeats 4000000 in
theorem cM_edges (l : Launch) (D : va_G) (g : Nat → Nat) (cb : Nat → ClassId) (n : Nat) (d : Nat → Nat) (mk mi : Nat → Int32) (hn : n ≤ 7) (hd : ∀ k, d k ≤ 60)  : sx_Ci l yX1_edges cX1_edges 3 .int rmM_edges D (tyM cb) [.ref (g 0)] (pM g cb (nI n) (nF d) mk mi) (S := Nat → Int32) (fun u => pM g cb (nI n) (nF d) mk u) (fun r _ => r = nI (cT (pos d n) (hT n))) := by
  refine sx_enter_i (own := RX1) (by decide) rfl (Nat.le_of_ble_eq_true rfl) (lv := [(0, .ref (g 0))]) rfl ?_
  intro G E ret
  have h2n : 2 ^ n ≤ 128 := pow7 hn
  have h2p : 1 ≤ 2 ^ n := Nat.one_le_two_pow
  have hpw := pw n
  have hhT : hT n = (2 ^ n - 1) / 2 := rfl
  refine sx_aload_n E dX1_edges_0 rfl 0 rfl ?_
  refine sx_callv (rest := []) E (cM_work l D g cb n d _ _ hn hd) wM_work kM_work ⟨⟨rfl, rfl⟩, by decide, by decide⟩ rfl rfl rfl (Nat.le_of_ble_eq_true rfl) dX1_edges_1 (fun u1 hp1 => ?_)
  have hw : wk n d u1 := hp1
  refine sx_iconst (v := (nI 0)) E dX1_edges_4 (by decide) ?_
  refine sx_istore_n E dX1_edges_5 rfl (by decide) (lv' := [(0, .ref (g 0)), (1, .int (nI 0))]) [1, 0] rfl ?_
  refine sx_iconst (v := (nI 1)) E dX1_edges_6 (by decide) ?_
  refine sx_istore_n E dX1_edges_7 rfl (by decide) (lv' := [(0, .ref (g 0)), (1, .int (nI 0)), (2, .int (nI 1))]) [1, 2, 0] rfl ?_
  have L8 : ∀ (f_ : Nat) (s : Nat) (t : Nat) (m : Nat), (s = 2 * t + 1) → (t ≤ hT n) → (m = cT (pos d n) t) → hT n - t < f_ → sx_S G (pM g cb (nI n) (nF d) mk u1) 8 [(0, .ref (g 0)), (1, .int (nI m)), (2, .int (nI s))] [] := by
    intro f_
    induction f_ with
    | zero => intro s t m hs ht hm hm_; exact absurd hm_ (Nat.not_lt_zero _)
    | succ f_ ih8 =>
      intro s t m hs ht hm hm_
      refine sx_iload_n E dX1_edges_8 rfl 2 rfl ?_
      refine sx_iconst (v := (nI 1)) E dX1_edges_9 (by decide) ?_
      refine sx_aload_n E dX1_edges_10 rfl 0 rfl ?_
      refine sx_gM E rfl 0 (by decide) q218 rfl dX1_edges_11 ?_
      refine sx_shl1 E dX1_edges_14 (by omega) ?_
      refine sx_iconst (v := (nI 1)) E dX1_edges_15 (by decide) ?_
      refine sx_isubNM E dX1_edges_16 (h2p) ?_
      refine sx_icmp_geN E 38 dX1_edges_17 (by decide) (by omega) (by omega) (fun c17 => ?_) (fun c17 => ?_)
      · obtain rfl : t = hT n := by omega
        refine sx_iload_n E dX1_edges_38 rfl 1 rfl ?_
        exact ret _ _ _ u1 dX1_edges_39 (rfl) (by rw [hm])
      · have hib := idxM_bd hd s n
        refine sx_aload_n E dX1_edges_20 rfl 0 rfl ?_
        refine sx_gM E rfl 3 (by decide) q221 rfl dX1_edges_21 ?_
        refine sx_iload_n E dX1_edges_24 rfl 2 rfl ?_
        refine sx_iald E 3 2 rfl rfl (by omega) (by decide) (v := (iI (idxM d s n))) (hw _ (by omega) (by omega)) dX1_edges_25 ?_
        refine sx_if_leI E 32 dX1_edges_26 (by decide) (by omega) (fun c26 => ?_) (fun c26 => ?_)
        · refine sx_iinc E dX1_edges_32 2 rfl (v := (nI (s + 2))) (inc2 _) (by decide) (lv' := [(0, .ref (g 0)), (1, .int (nI m)), (2, .int (nI (s + 2)))]) [1, 2, 0] rfl ?_
          refine sx_goto E 8 dX1_edges_35 (by decide) ?_
          exact ih8 (s + 2) (t + 1) m (by omega) (by omega) (by rw [cT_s, ← hm, ← hs]; unfold pos; rw [if_neg (by rw [decide_eq_false (by omega)]; decide)]) (by omega)
        · refine sx_iinc E dX1_edges_29 1 rfl (v := (nI (m + 1))) (inc1 _) (by decide) (lv' := [(0, .ref (g 0)), (1, .int (nI (m + 1))), (2, .int (nI s))]) [1, 0, 2] rfl ?_
          refine sx_iinc E dX1_edges_32 2 rfl (v := (nI (s + 2))) (inc2 _) (by decide) (lv' := [(0, .ref (g 0)), (1, .int (nI (m + 1))), (2, .int (nI (s + 2)))]) [1, 2, 0] rfl ?_
          refine sx_goto E 8 dX1_edges_35 (by decide) ?_
          exact ih8 (s + 2) (t + 1) (m + 1) (by omega) (by omega) (by rw [cT_s, ← hm, ← hs]; unfold pos; rw [if_pos (decide_eq_true c26)]) (by omega)
  exact L8 _ 1 0 0 (rfl) (Nat.zero_le _) (rfl) (Nat.lt_succ_self _)

set_option maxHeartbeats 4000000 in
theorem cM_edge (l : Launch) (D : va_G) (g : Nat → Nat) (cb : Nat → ClassId) (n : Nat) (d : Nat → Nat) (mk mi : Nat → Int32) (hn : n ≤ 7) (hd : ∀ k, d k ≤ 60) (z : Int) (hz : -2147483648 ≤ z ∧ z < 2147483648) : sx_Ci l yX1_edge cX1_edge 4 .int rmM_edge D (tyM cb) [.ref (g 0), .int (iI z)] (pM g cb (nI n) (nF d) mk mi) (S := Nat → Int32) (fun u => pM g cb (nI n) (nF d) mk u) (fun r _ => (∃ t, t < hT n ∧ pos d n (2 * t + 1) = true ∧ (cT (pos d n) t : Int) = z ∧ r = nI (2 * t + 1)) ∨ ((∀ t, t < hT n → pos d n (2 * t + 1) = true → (cT (pos d n) t : Int) ≠ z) ∧ r = iI (-1002))) := by
  refine sx_enter_i (own := RX1) (by decide) rfl (Nat.le_of_ble_eq_true rfl) (lv := [(0, .ref (g 0)), (1, .int (iI z))]) rfl ?_
  intro G E ret
  have h2n : 2 ^ n ≤ 128 := pow7 hn
  have h2p : 1 ≤ 2 ^ n := Nat.one_le_two_pow
  have hpw := pw n
  have hhT : hT n = (2 ^ n - 1) / 2 := rfl
  refine sx_aload_n E dX1_edge_0 rfl 0 rfl ?_
  refine sx_callv (rest := []) E (cM_work l D g cb n d _ _ hn hd) wM_work kM_work ⟨⟨rfl, rfl⟩, by decide, by decide⟩ rfl rfl rfl (Nat.le_of_ble_eq_true rfl) dX1_edge_1 (fun u1 hp1 => ?_)
  have hw : wk n d u1 := hp1
  refine sx_iconst (v := (nI 0)) E dX1_edge_4 (by decide) ?_
  refine sx_istore_n E dX1_edge_5 rfl (by decide) (lv' := [(0, .ref (g 0)), (1, .int (iI z)), (2, .int (nI 0))]) [1, 2, 0] rfl ?_
  refine sx_iconst (v := (nI 1)) E dX1_edge_6 (by decide) ?_
  refine sx_istore_n E dX1_edge_7 rfl (by decide) (lv' := [(0, .ref (g 0)), (1, .int (iI z)), (2, .int (nI 0)), (3, .int (nI 1))]) [1, 2, 3, 0] rfl ?_
  have L8 : ∀ (f_ : Nat) (s : Nat) (t : Nat) (m : Nat), (s = 2 * t + 1) → (t ≤ hT n) → (m = cT (pos d n) t) → (∀ u, u < t → pos d n (2 * u + 1) = true → (cT (pos d n) u : Int) ≠ z) → hT n - t < f_ → sx_S G (pM g cb (nI n) (nF d) mk u1) 8 [(0, .ref (g 0)), (1, .int (iI z)), (2, .int (nI m)), (3, .int (nI s))] [] := by
    intro f_
    induction f_ with
    | zero => intro s t m hs ht hm hno hm_; exact absurd hm_ (Nat.not_lt_zero _)
    | succ f_ ih8 =>
      intro s t m hs ht hm hno hm_
      have hcl := cT_le (pos d n) t
      refine sx_iload_n E dX1_edge_8 rfl 3 rfl ?_
      refine sx_iconst (v := (nI 1)) E dX1_edge_9 (by decide) ?_
      refine sx_aload_n E dX1_edge_10 rfl 0 rfl ?_
      refine sx_gM E rfl 0 (by decide) q218 rfl dX1_edge_11 ?_
      refine sx_shl1 E dX1_edge_14 (by omega) ?_
      refine sx_iconst (v := (nI 1)) E dX1_edge_15 (by decide) ?_
      refine sx_isubNM E dX1_edge_16 (h2p) ?_
      refine sx_icmp_geN E 45 dX1_edge_17 (by decide) (by omega) (by omega) (fun c17 => ?_) (fun c17 => ?_)
      · obtain rfl : t = hT n := by omega
        refine sx_sipush (v := (iI ((-1002)))) E dX1_edge_45 (by decide) ?_
        exact ret _ _ _ u1 dX1_edge_48 (rfl) (Or.inr ⟨hno, rfl⟩)
      · have hib := idxM_bd hd s n
        refine sx_aload_n E dX1_edge_20 rfl 0 rfl ?_
        refine sx_gM E rfl 3 (by decide) q221 rfl dX1_edge_21 ?_
        refine sx_iload_n E dX1_edge_24 rfl 3 rfl ?_
        refine sx_iald E 3 2 rfl rfl (by omega) (by decide) (v := (iI (idxM d s n))) (hw _ (by omega) (by omega)) dX1_edge_25 ?_
        refine sx_if_leI E 39 dX1_edge_26 (by decide) (by omega) (fun c26 => ?_) (fun c26 => ?_)
        · refine sx_iinc E dX1_edge_39 3 rfl (v := (nI (s + 2))) (inc2 _) (by decide) (lv' := [(0, .ref (g 0)), (1, .int (iI z)), (2, .int (nI m)), (3, .int (nI (s + 2)))]) [1, 2, 3, 0] rfl ?_
          refine sx_goto E 8 dX1_edge_42 (by decide) ?_
          exact ih8 (s + 2) (t + 1) m (by omega) (by omega) (by rw [cT_s, ← hm, ← hs]; unfold pos; rw [if_neg (by rw [decide_eq_false (by omega)]; decide)]) (fun u hu hp => by rcases Nat.lt_or_ge u t with h1 | h1; exact hno u h1 hp; obtain rfl : u = t := (by omega); rw [← hs] at hp; exact absurd (of_decide_eq_true hp) (by omega)) (by omega)
        · refine sx_iload_n E dX1_edge_29 rfl 2 rfl ?_
          refine sx_iload_n E dX1_edge_30 rfl 1 rfl ?_
          refine sx_top2 (iI_n _) ?_
          refine sx_icmp_neI E 36 dX1_edge_31 (by decide) (by omega) (by omega) (fun c31 => ?_) (fun c31 => ?_)
          · refine sx_iinc E dX1_edge_36 2 rfl (v := (nI (m + 1))) (inc1 _) (by decide) (lv' := [(0, .ref (g 0)), (1, .int (iI z)), (2, .int (nI (m + 1))), (3, .int (nI s))]) [1, 2, 0, 3] rfl ?_
            refine sx_iinc E dX1_edge_39 3 rfl (v := (nI (s + 2))) (inc2 _) (by decide) (lv' := [(0, .ref (g 0)), (1, .int (iI z)), (2, .int (nI (m + 1))), (3, .int (nI (s + 2)))]) [1, 2, 3, 0] rfl ?_
            refine sx_goto E 8 dX1_edge_42 (by decide) ?_
            exact ih8 (s + 2) (t + 1) (m + 1) (by omega) (by omega) (by rw [cT_s, ← hm, ← hs]; unfold pos; rw [if_pos (decide_eq_true c26)]) (fun u hu hp => by rcases Nat.lt_or_ge u t with h1 | h1; exact hno u h1 hp; obtain rfl : u = t := (by omega); rw [← hm]; exact c31) (by omega)
          · refine sx_iload_n E dX1_edge_34 rfl 3 rfl ?_
            exact ret _ _ _ u1 dX1_edge_35 (rfl) (Or.inl ⟨t, by omega, by rw [← hs]; exact decide_eq_true c26, by rw [← hm]; exact c31, by rw [hs]⟩)
  exact L8 _ 1 0 0 (rfl) (Nat.zero_le _) (rfl) (fun u h => absurd h (Nat.not_lt_zero _)) (Nat.lt_succ_self _)

set_option maxHeartbeats 4000000 in
theorem cM_treeDistance (l : Launch) (D : va_G) (g : Nat → Nat) (cb : Nat → ClassId) (n : Nat) (d : Nat → Nat) (mk mi : Nat → Int32) (hn : n ≤ 7) (hd : ∀ k, d k ≤ 60) (x y : Int) (hx : -2147483648 ≤ x ∧ x < 2147483648) (hy : -2147483648 ≤ y ∧ y < 2147483648) : sx_Ci l yX1_treeDistance cX1_treeDistance 3 .int rmM_treeDistance D (tyM cb) [.ref (g 0), .int (iI x), .int (iI y)] (pM g cb (nI n) (nF d) mk mi) (S := Nat → Int32) (fun u => pM g cb (nI n) (nF d) mk u) (fun r _ => r = spTDM n d x y) := by
  refine sx_enter_i (own := RX1) (by decide) rfl (Nat.le_of_ble_eq_true rfl) (lv := [(0, .ref (g 0)), (1, .int (iI x)), (2, .int (iI y))]) rfl ?_
  intro G E ret
  have h2n : 2 ^ n ≤ 128 := pow7 hn
  have h2p : 1 ≤ 2 ^ n := Nat.one_le_two_pow
  have hpw := pw n
  have hhT : hT n = (2 ^ n - 1) / 2 := rfl
  refine sx_aload_n E dX1_treeDistance_0 rfl 0 rfl ?_
  refine sx_iload_n E dX1_treeDistance_1 rfl 1 rfl ?_
  refine sx_callr (rest := []) E (cM_is l D g cb n d _ _ hn x (by omega)) wM_is kM_is ⟨⟨rfl, rfl⟩, by decide, by decide⟩ rfl rfl rfl (Nat.le_of_ble_eq_true rfl) dX1_treeDistance_2 ?_
  refine sx_if_eqB E 16 dX1_treeDistance_5 (by decide) (fun c5 => ?_) (fun c5 => ?_)
  · have c5 := isb_f c5
    refine sx_sipush (v := (iI ((-1000)))) E dX1_treeDistance_16 (by decide) ?_
    exact ret _ _ _ mi dX1_treeDistance_19 (rfl) (by unfold spTDM; rw [if_pos (by omega)])
  · have c5 := isb_t c5
    refine sx_aload_n E dX1_treeDistance_8 rfl 0 rfl ?_
    refine sx_iload_n E dX1_treeDistance_9 rfl 2 rfl ?_
    refine sx_callr (rest := []) E (cM_is l D g cb n d _ _ hn y (by omega)) wM_is kM_is ⟨⟨rfl, rfl⟩, by decide, by decide⟩ rfl rfl rfl (Nat.le_of_ble_eq_true rfl) dX1_treeDistance_10 ?_
    refine sx_if_neB E 20 dX1_treeDistance_13 (by decide) (fun c13 => ?_) (fun c13 => ?_)
    · have c13 := isb_t c13
      obtain ⟨i, rfl⟩ : ∃ i : Nat, x = (i : Int) := ⟨x.toNat, by omega⟩
      obtain ⟨j, rfl⟩ : ∃ j : Nat, y = (j : Int) := ⟨y.toNat, by omega⟩
      refine sx_lve (lv' := [(0, .ref (g 0)), (1, .int (nI i)), (2, .int (nI j))]) (by rw [iI_n i, iI_n j]) ?_
      refine sx_aload_n E dX1_treeDistance_20 rfl 0 rfl ?_
      refine sx_callv (rest := []) E (cM_work l D g cb n d _ _ hn hd) wM_work kM_work ⟨⟨rfl, rfl⟩, by decide, by decide⟩ rfl rfl rfl (Nat.le_of_ble_eq_true rfl) dX1_treeDistance_21 (fun u21 hp21 => ?_)
      have hw : wk n d u21 := hp21
      refine sx_aload_n E dX1_treeDistance_24 rfl 0 rfl ?_
      refine sx_iload_n E dX1_treeDistance_25 rfl 1 rfl ?_
      refine sx_iload_n E dX1_treeDistance_26 rfl 2 rfl ?_
      refine sx_callr (rest := []) E (cM_between l D g cb n d _ _ hn hd hw i j (by omega) (by omega)) wM_between kM_between ⟨⟨rfl, rfl⟩, by decide, by decide⟩ rfl rfl rfl (Nat.le_of_ble_eq_true rfl) dX1_treeDistance_27 ?_
      have hbl := bet_le hd hn i j
      exact ret _ _ _ u21 dX1_treeDistance_30 (rfl) (by unfold spTDM; rw [if_neg (by omega)]; rfl)
    · have c13 := isb_f c13
      refine sx_sipush (v := (iI ((-1000)))) E dX1_treeDistance_16 (by decide) ?_
      exact ret _ _ _ mi dX1_treeDistance_19 (rfl) (by unfold spTDM; rw [if_pos (by omega)])

set_option maxHeartbeats 4000000 in
theorem cM_together (l : Launch) (D : va_G) (g : Nat → Nat) (cb : Nat → ClassId) (n : Nat) (d : Nat → Nat) (mk mi : Nat → Int32) (hn : n ≤ 7) (hd : ∀ k, d k ≤ 60) (x y : Int) (hx : -2147483648 ≤ x ∧ x < 2147483648) (hy : -2147483648 ≤ y ∧ y < 2147483648) : sx_Ci l yX1_together cX1_together 3 .int rmM_together D (tyM cb) [.ref (g 0), .int (iI x), .int (iI y)] (pM g cb (nI n) (nF d) mk mi) (S := Nat → Int32) (fun u => pM g cb (nI n) (nF d) mk u) (fun r _ => r = spTogM n d x y) := by
  refine sx_enter_i (own := RX1) (by decide) rfl (Nat.le_of_ble_eq_true rfl) (lv := [(0, .ref (g 0)), (1, .int (iI x)), (2, .int (iI y))]) rfl ?_
  intro G E ret
  have h2n : 2 ^ n ≤ 128 := pow7 hn
  have h2p : 1 ≤ 2 ^ n := Nat.one_le_two_pow
  have hpw := pw n
  have hhT : hT n = (2 ^ n - 1) / 2 := rfl
  refine sx_aload_n E dX1_together_0 rfl 0 rfl ?_
  refine sx_iload_n E dX1_together_1 rfl 1 rfl ?_
  refine sx_callr (rest := []) E (cM_is l D g cb n d _ _ hn x (by omega)) wM_is kM_is ⟨⟨rfl, rfl⟩, by decide, by decide⟩ rfl rfl rfl (Nat.le_of_ble_eq_true rfl) dX1_together_2 ?_
  refine sx_if_eqB E 16 dX1_together_5 (by decide) (fun c5 => ?_) (fun c5 => ?_)
  · have c5 := isb_f c5
    refine sx_sipush (v := (iI ((-1000)))) E dX1_together_16 (by decide) ?_
    exact ret _ _ _ mi dX1_together_19 (rfl) (by unfold spTogM; rw [if_pos (by omega)])
  · have c5 := isb_t c5
    refine sx_aload_n E dX1_together_8 rfl 0 rfl ?_
    refine sx_iload_n E dX1_together_9 rfl 2 rfl ?_
    refine sx_callr (rest := []) E (cM_is l D g cb n d _ _ hn y (by omega)) wM_is kM_is ⟨⟨rfl, rfl⟩, by decide, by decide⟩ rfl rfl rfl (Nat.le_of_ble_eq_true rfl) dX1_together_10 ?_
    refine sx_if_neB E 20 dX1_together_13 (by decide) (fun c13 => ?_) (fun c13 => ?_)
    · have c13 := isb_t c13
      obtain ⟨i, rfl⟩ : ∃ i : Nat, x = (i : Int) := ⟨x.toNat, by omega⟩
      obtain ⟨j, rfl⟩ : ∃ j : Nat, y = (j : Int) := ⟨y.toNat, by omega⟩
      refine sx_lve (lv' := [(0, .ref (g 0)), (1, .int (nI i)), (2, .int (nI j))]) (by rw [iI_n i, iI_n j]) ?_
      refine sx_aload_n E dX1_together_20 rfl 0 rfl ?_
      refine sx_callv (rest := []) E (cM_work l D g cb n d _ _ hn hd) wM_work kM_work ⟨⟨rfl, rfl⟩, by decide, by decide⟩ rfl rfl rfl (Nat.le_of_ble_eq_true rfl) dX1_together_21 (fun u21 hp21 => ?_)
      have hw : wk n d u21 := hp21
      refine sx_aload_n E dX1_together_24 rfl 0 rfl ?_
      refine sx_iload_n E dX1_together_25 rfl 1 rfl ?_
      refine sx_iload_n E dX1_together_26 rfl 2 rfl ?_
      refine sx_callr (rest := []) E (cM_between l D g cb n d _ _ hn hd hw i j (by omega) (by omega)) wM_between kM_between ⟨⟨rfl, rfl⟩, by decide, by decide⟩ rfl rfl rfl (Nat.le_of_ble_eq_true rfl) dX1_together_27 ?_
      have hbl := bet_le hd hn i j
      refine sx_top (iI_n _) ?_
      refine sx_if_neI E 37 dX1_together_30 (by decide) (by omega) (fun c30 => ?_) (fun c30 => ?_)
      · refine sx_iconst (v := (nI 0)) E dX1_together_37 (by decide) ?_
        exact ret _ _ _ u21 dX1_together_38 (rfl) (by unfold spTogM; rw [if_neg (by omega)]; exact (if_neg (show ¬ bet d n i j = 0 by omega)).symm)
      · refine sx_iconst (v := (nI 1)) E dX1_together_33 (by decide) ?_
        refine sx_goto E 38 dX1_together_34 (by decide) ?_
        exact ret _ _ _ u21 dX1_together_38 (rfl) (by unfold spTogM; rw [if_neg (by omega)]; exact (if_pos (show bet d n i j = 0 by omega)).symm)
    · have c13 := isb_f c13
      refine sx_sipush (v := (iI ((-1000)))) E dX1_together_16 (by decide) ?_
      exact ret _ _ _ mi dX1_together_19 (rfl) (by unfold spTogM; rw [if_pos (by omega)])

set_option maxHeartbeats 4000000 in
theorem cM_agree (l : Launch) (D : va_G) (g : Nat → Nat) (cb : Nat → ClassId) (n : Nat) (d : Nat → Nat) (mk mi : Nat → Int32) (hn : n ≤ 7) (S T : Nat) (hS : S < 128) (hT : T < 128) : sx_Cr l yX1_agree cX1_agree 8 .boolean rmM_agree D (tyM cb) [.ref (g 0), .int (nI S), .int (nI T)] (pM g cb (nI n) (nF d) mk mi) (bI (agrM n S T)) := by
  refine sx_enter_i (own := RX1) (by decide) rfl (Nat.le_of_ble_eq_true rfl) (lv := [(0, .ref (g 0)), (1, .int (nI S)), (2, .int (nI T))]) rfl ?_
  intro G E ret
  have h2n : 2 ^ n ≤ 128 := pow7 hn
  have h2p : 1 ≤ 2 ^ n := Nat.one_le_two_pow
  have hal : S &&& T < 128 := Nat.lt_of_le_of_lt Nat.and_le_left hS
  refine sx_iconst (v := (nI 1)) E dX1_agree_0 (by decide) ?_
  refine sx_aload_n E dX1_agree_1 rfl 0 rfl ?_
  refine sx_gM E rfl 0 (by decide) q218 rfl dX1_agree_2 ?_
  refine sx_shl1 E dX1_agree_5 (by omega) ?_
  refine sx_iconst (v := (nI 1)) E dX1_agree_6 (by decide) ?_
  refine sx_isubNM E dX1_agree_7 (h2p) ?_
  refine sx_istore_n E dX1_agree_8 rfl (by decide) (lv' := [(0, .ref (g 0)), (1, .int (nI S)), (2, .int (nI T)), (3, .int (nI ((2 ^ n) - 1)))]) [1, 2, 3, 0] rfl ?_
  refine sx_iload_n E dX1_agree_9 rfl 1 rfl ?_
  refine sx_iload_n E dX1_agree_10 rfl 2 rfl ?_
  refine sx_iandNN E dX1_agree_11 ?_
  refine sx_istore E dX1_agree_12 (by decide) (lv' := [(0, .ref (g 0)), (1, .int (nI S)), (2, .int (nI T)), (3, .int (nI ((2 ^ n) - 1))), (4, .int (nI (S &&& T)))]) [1, 2, 3, 4, 0] rfl ?_
  refine sx_iload_n E dX1_agree_14 rfl 1 rfl ?_
  refine sx_iload_n E dX1_agree_15 rfl 2 rfl ?_
  refine sx_iconst (v := (iI ((-1)))) E dX1_agree_16 (by decide) ?_
  refine sx_ixor E dX1_agree_17 ?_
  refine sx_iand E dX1_agree_18 ?_
  refine sx_istore E dX1_agree_19 (by decide) (lv' := [(0, .ref (g 0)), (1, .int (nI S)), (2, .int (nI T)), (3, .int (nI ((2 ^ n) - 1))), (4, .int (nI (S &&& T))), (5, .int ((nI S) &&& ((nI T) ^^^ (iI ((-1))))))]) [1, 2, 3, 4, 5, 0] rfl ?_
  refine sx_iload_n E dX1_agree_21 rfl 2 rfl ?_
  refine sx_iload_n E dX1_agree_22 rfl 1 rfl ?_
  refine sx_iconst (v := (iI ((-1)))) E dX1_agree_23 (by decide) ?_
  refine sx_ixor E dX1_agree_24 ?_
  refine sx_iand E dX1_agree_25 ?_
  refine sx_istore E dX1_agree_26 (by decide) (lv' := [(0, .ref (g 0)), (1, .int (nI S)), (2, .int (nI T)), (3, .int (nI ((2 ^ n) - 1))), (4, .int (nI (S &&& T))), (5, .int ((nI S) &&& ((nI T) ^^^ (iI ((-1)))))), (6, .int ((nI T) &&& ((nI S) ^^^ (iI ((-1))))))]) [1, 2, 3, 4, 5, 6, 0] rfl ?_
  refine sx_iload_n E dX1_agree_28 rfl 3 rfl ?_
  refine sx_iload_n E dX1_agree_29 rfl 1 rfl ?_
  refine sx_iconst (v := (iI ((-1)))) E dX1_agree_30 (by decide) ?_
  refine sx_ixor E dX1_agree_31 ?_
  refine sx_iand E dX1_agree_32 ?_
  refine sx_iload_n E dX1_agree_33 rfl 2 rfl ?_
  refine sx_iconst (v := (iI ((-1)))) E dX1_agree_34 (by decide) ?_
  refine sx_ixor E dX1_agree_35 ?_
  refine sx_iand E dX1_agree_36 ?_
  refine sx_istore E dX1_agree_37 (by decide) (lv' := [(0, .ref (g 0)), (1, .int (nI S)), (2, .int (nI T)), (3, .int (nI ((2 ^ n) - 1))), (4, .int (nI (S &&& T))), (5, .int ((nI S) &&& ((nI T) ^^^ (iI ((-1)))))), (6, .int ((nI T) &&& ((nI S) ^^^ (iI ((-1)))))), (7, .int (((nI ((2 ^ n) - 1)) &&& ((nI S) ^^^ (iI ((-1))))) &&& ((nI T) ^^^ (iI ((-1))))))]) [1, 2, 3, 4, 5, 6, 7, 0] rfl ?_
  refine sx_iload E dX1_agree_39 4 rfl ?_
  refine sx_top (iI_n _) ?_
  refine sx_if_eqI E 59 dX1_agree_41 (by decide) (by omega) (fun c41 => ?_) (fun c41 => ?_)
  · refine sx_iconst (v := (nI 1)) E dX1_agree_59 (by decide) ?_
    refine sx_goto E 64 dX1_agree_60 (by decide) ?_
    exact ret _ _ _ () dX1_agree_64 (rfl) (agrM_1 (Or.inl (by omega)))
  · refine sx_iload E dX1_agree_44 5 rfl ?_
    refine sx_if_eq E 59 dX1_agree_46 (by decide) (fun c46 => ?_) (fun c46 => ?_)
    · have c46 := (andn hS hT).mp c46
      refine sx_iconst (v := (nI 1)) E dX1_agree_59 (by decide) ?_
      refine sx_goto E 64 dX1_agree_60 (by decide) ?_
      exact ret _ _ _ () dX1_agree_64 (rfl) (agrM_1 (Or.inr (Or.inl c46)))
    · have c46 : ¬ S &&& T = S := fun e => c46 ((andn hS hT).mpr e)
      refine sx_iload E dX1_agree_49 6 rfl ?_
      refine sx_if_eq E 59 dX1_agree_51 (by decide) (fun c51 => ?_) (fun c51 => ?_)
      · have c51 := (andn hT hS).mp c51
        refine sx_iconst (v := (nI 1)) E dX1_agree_59 (by decide) ?_
        refine sx_goto E 64 dX1_agree_60 (by decide) ?_
        exact ret _ _ _ () dX1_agree_64 (rfl) (agrM_1 (Or.inr (Or.inr (Or.inl c51))))
      · have c51 : ¬ T &&& S = T := fun e => c51 ((andn hT hS).mpr e)
        refine sx_iload E dX1_agree_54 7 rfl ?_
        refine sx_if_ne E 63 dX1_agree_56 (by decide) (fun c56 => ?_) (fun c56 => ?_)
        · have c56 : ¬ (2 ^ n - 1) &&& (S ||| T) = 2 ^ n - 1 := fun e => c56 ((andn2 (by omega)).mpr e)
          refine sx_iconst (v := (nI 0)) E dX1_agree_63 (by decide) ?_
          exact ret _ _ _ () dX1_agree_64 (rfl) (agrM_0 (by intro e; rcases e with e | e | e | e; omega; exact c46 e; exact c51 e; exact c56 e))
        · have c56 := (andn2 (by omega)).mp c56
          refine sx_iconst (v := (nI 1)) E dX1_agree_59 (by decide) ?_
          refine sx_goto E 64 dX1_agree_60 (by decide) ?_
          exact ret _ _ _ () dX1_agree_64 (rfl) (agrM_1 (Or.inr (Or.inr (Or.inr c56))))

set_option maxHeartbeats 4000000 in
theorem cM_agreesWithAll (l : Launch) (D : va_G) (g : Nat → Nat) (cb : Nat → ClassId) (n : Nat) (d : Nat → Nat) (mk mi : Nat → Int32) (hn : n ≤ 7) (hd : ∀ k, d k ≤ 60) (hw : wk n d mi) (S : Nat) (hS : S < 128) : sx_Cr l yX1_agreesWithAll cX1_agreesWithAll 3 .boolean rmM_agreesWithAll D (tyM cb) [.ref (g 0), .int (nI S)] (pM g cb (nI n) (nF d) mk mi) (bI (agM d n S)) := by
  refine sx_enter_i (own := RX1) (by decide) rfl (Nat.le_of_ble_eq_true rfl) (lv := [(0, .ref (g 0)), (1, .int (nI S))]) rfl ?_
  intro G E ret
  have h2n : 2 ^ n ≤ 128 := pow7 hn
  have h2p : 1 ≤ 2 ^ n := Nat.one_le_two_pow
  have hpw := pw n
  have hhT : hT n = (2 ^ n - 1) / 2 := rfl
  refine sx_iconst (v := (nI 1)) E dX1_agreesWithAll_0 (by decide) ?_
  refine sx_istore_n E dX1_agreesWithAll_1 rfl (by decide) (lv' := [(0, .ref (g 0)), (1, .int (nI S)), (2, .int (nI 1))]) [1, 2, 0] rfl ?_
  have L2 : ∀ (f_ : Nat) (s : Nat) (t : Nat), (s = 2 * t + 1) → (t ≤ hT n) → (aT (agp d n S) t = true) → hT n - t < f_ → sx_S G (pM g cb (nI n) (nF d) mk mi) 2 [(0, .ref (g 0)), (1, .int (nI S)), (2, .int (nI s))] [] := by
    intro f_
    induction f_ with
    | zero => intro s t hs ht ha hm_; exact absurd hm_ (Nat.not_lt_zero _)
    | succ f_ ih2 =>
      intro s t hs ht ha hm_
      refine sx_iload_n E dX1_agreesWithAll_2 rfl 2 rfl ?_
      refine sx_iconst (v := (nI 1)) E dX1_agreesWithAll_3 (by decide) ?_
      refine sx_aload_n E dX1_agreesWithAll_4 rfl 0 rfl ?_
      refine sx_gM E rfl 0 (by decide) q218 rfl dX1_agreesWithAll_5 ?_
      refine sx_shl1 E dX1_agreesWithAll_8 (by omega) ?_
      refine sx_iconst (v := (nI 1)) E dX1_agreesWithAll_9 (by decide) ?_
      refine sx_isubNM E dX1_agreesWithAll_10 (h2p) ?_
      refine sx_icmp_geN E 40 dX1_agreesWithAll_11 (by decide) (by omega) (by omega) (fun c11 => ?_) (fun c11 => ?_)
      · obtain rfl : t = hT n := by omega
        refine sx_iconst (v := (bI true)) E dX1_agreesWithAll_40 (by decide) ?_
        exact ret _ _ _ () dX1_agreesWithAll_41 (rfl) (by unfold agM; rw [ha])
      · have hib := idxM_bd hd s n
        refine sx_aload_n E dX1_agreesWithAll_14 rfl 0 rfl ?_
        refine sx_gM E rfl 3 (by decide) q221 rfl dX1_agreesWithAll_15 ?_
        refine sx_iload_n E dX1_agreesWithAll_18 rfl 2 rfl ?_
        refine sx_iald E 3 2 rfl rfl (by omega) (by decide) (v := (iI (idxM d s n))) (hw _ (by omega) (by omega)) dX1_agreesWithAll_19 ?_
        refine sx_if_leI E 34 dX1_agreesWithAll_20 (by decide) (by omega) (fun c20 => ?_) (fun c20 => ?_)
        · refine sx_iinc E dX1_agreesWithAll_34 2 rfl (v := (nI (s + 2))) (inc2 _) (by decide) (lv' := [(0, .ref (g 0)), (1, .int (nI S)), (2, .int (nI (s + 2)))]) [1, 2, 0] rfl ?_
          refine sx_goto E 2 dX1_agreesWithAll_37 (by decide) ?_
          exact ih2 (s + 2) (t + 1) (by omega) (by omega) (by rw [aT_s, ha, ← hs]; unfold agp pos; rw [decide_eq_false (by omega)]; rfl) (by omega)
        · refine sx_aload_n E dX1_agreesWithAll_23 rfl 0 rfl ?_
          refine sx_iload_n E dX1_agreesWithAll_24 rfl 1 rfl ?_
          refine sx_iload_n E dX1_agreesWithAll_25 rfl 2 rfl ?_
          refine sx_callr (rest := []) E (cM_agree l D g cb n d _ _ hn S s (by omega) (by omega)) wM_agree kM_agree ⟨⟨rfl, rfl⟩, by decide, by decide⟩ rfl rfl rfl (Nat.le_of_ble_eq_true rfl) dX1_agreesWithAll_26 ?_
          refine sx_if_neB E 34 dX1_agreesWithAll_29 (by decide) (fun c29 => ?_) (fun c29 => ?_)
          · refine sx_iinc E dX1_agreesWithAll_34 2 rfl (v := (nI (s + 2))) (inc2 _) (by decide) (lv' := [(0, .ref (g 0)), (1, .int (nI S)), (2, .int (nI (s + 2)))]) [1, 2, 0] rfl ?_
            refine sx_goto E 2 dX1_agreesWithAll_37 (by decide) ?_
            exact ih2 (s + 2) (t + 1) (by omega) (by omega) (by rw [aT_s, ha, ← hs]; unfold agp; rw [c29, Bool.or_true]; rfl) (by omega)
          · refine sx_iconst (v := (bI false)) E dX1_agreesWithAll_32 (by decide) ?_
            exact ret _ _ _ () dX1_agreesWithAll_33 (rfl) (by unfold agM; rw [aT_stop' (t := t) (by rw [← hs]; unfold agp pos; rw [decide_eq_true c20, c29]; rfl) (by omega)])
  exact L2 _ 1 0 (rfl) (Nat.zero_le _) (rfl) (Nat.lt_succ_self _)

set_option maxHeartbeats 4000000 in
theorem cM_agrees (l : Launch) (D : va_G) (g : Nat → Nat) (cb : Nat → ClassId) (n : Nat) (d : Nat → Nat) (mk mi : Nat → Int32) (hn : n ≤ 7) (hd : ∀ k, d k ≤ 60) (z : Int) (hz : -2147483648 ≤ z ∧ z < 2147483648) : sx_Ci l yX1_agrees cX1_agrees 2 .int rmM_agrees D (tyM cb) [.ref (g 0), .int (iI z)] (pM g cb (nI n) (nF d) mk mi) (S := Nat → Int32) (fun u => pM g cb (nI n) (nF d) mk u) (fun r _ => r = spAgreesM n d z) := by
  refine sx_enter_i (own := RX1) (by decide) rfl (Nat.le_of_ble_eq_true rfl) (lv := [(0, .ref (g 0)), (1, .int (iI z))]) rfl ?_
  intro G E ret
  have h2n : 2 ^ n ≤ 128 := pow7 hn
  have h2p : 1 ≤ 2 ^ n := Nat.one_le_two_pow
  have hpw := pw n
  have hhT : hT n = (2 ^ n - 1) / 2 := rfl
  refine sx_aload_n E dX1_agrees_0 rfl 0 rfl ?_
  refine sx_iload_n E dX1_agrees_1 rfl 1 rfl ?_
  refine sx_callr (rest := []) E (cM_isSplit l D g cb n d _ _ hn z (by omega)) wM_isSplit kM_isSplit ⟨⟨rfl, rfl⟩, by decide, by decide⟩ rfl rfl rfl (Nat.le_of_ble_eq_true rfl) dX1_agrees_2 ?_
  refine sx_if_neB E 12 dX1_agrees_5 (by decide) (fun c5 => ?_) (fun c5 => ?_)
  · have c5b : bads n z = false := by rw [Bool.not_eq_true'] at c5; exact c5
    have c5c := bads_f c5b
    obtain ⟨S, rfl⟩ : ∃ S : Nat, z = (S : Int) := ⟨z.toNat, by omega⟩
    refine sx_lve (lv' := [(0, .ref (g 0)), (1, .int (nI S))]) (by rw [iI_n S]) ?_
    refine sx_aload_n E dX1_agrees_12 rfl 0 rfl ?_
    refine sx_callv (rest := []) E (cM_work l D g cb n d _ _ hn hd) wM_work kM_work ⟨⟨rfl, rfl⟩, by decide, by decide⟩ rfl rfl rfl (Nat.le_of_ble_eq_true rfl) dX1_agrees_13 (fun u13 hp13 => ?_)
    have hw : wk n d u13 := hp13
    refine sx_aload_n E dX1_agrees_16 rfl 0 rfl ?_
    refine sx_iload_n E dX1_agrees_17 rfl 1 rfl ?_
    refine sx_callr (rest := []) E (cM_agreesWithAll l D g cb n d _ _ hn hd hw S (by omega)) wM_agreesWithAll kM_agreesWithAll ⟨⟨rfl, rfl⟩, by decide, by decide⟩ rfl rfl rfl (Nat.le_of_ble_eq_true rfl) dX1_agrees_18 ?_
    refine sx_if_eqB E 28 dX1_agrees_21 (by decide) (fun c21 => ?_) (fun c21 => ?_)
    · refine sx_iconst (v := (nI 0)) E dX1_agrees_28 (by decide) ?_
      exact ret _ _ _ u13 dX1_agrees_29 (rfl) (by unfold spAgreesM; rw [if_neg (by rw [c5b]; decide)]; show _ = bI (agM d n S); rw [c21]; rfl)
    · refine sx_iconst (v := (nI 1)) E dX1_agrees_24 (by decide) ?_
      refine sx_goto E 29 dX1_agrees_25 (by decide) ?_
      exact ret _ _ _ u13 dX1_agrees_29 (rfl) (by unfold spAgreesM; rw [if_neg (by rw [c5b]; decide)]; show _ = bI (agM d n S); rw [c21]; rfl)
  · refine sx_sipush (v := (iI ((-1000)))) E dX1_agrees_8 (by decide) ?_
    exact ret _ _ _ mi dX1_agrees_11 (rfl) (by unfold spAgreesM; rw [if_pos (by rw [Bool.not_eq_false'] at c5; exact c5)])

set_option maxHeartbeats 4000000 in
theorem cM_agreeing (l : Launch) (D : va_G) (g : Nat → Nat) (cb : Nat → ClassId) (n : Nat) (d : Nat → Nat) (mk mi : Nat → Int32) (hn : n ≤ 7) (hd : ∀ k, d k ≤ 60)  : sx_Ci l yX1_agreeing cX1_agreeing 3 .int rmM_agreeing D (tyM cb) [.ref (g 0)] (pM g cb (nI n) (nF d) mk mi) (S := Nat → Int32) (fun u => pM g cb (nI n) (nF d) mk u) (fun r _ => r = nI (cT (agM d n) (hT n))) := by
  refine sx_enter_i (own := RX1) (by decide) rfl (Nat.le_of_ble_eq_true rfl) (lv := [(0, .ref (g 0))]) rfl ?_
  intro G E ret
  have h2n : 2 ^ n ≤ 128 := pow7 hn
  have h2p : 1 ≤ 2 ^ n := Nat.one_le_two_pow
  have hpw := pw n
  have hhT : hT n = (2 ^ n - 1) / 2 := rfl
  refine sx_aload_n E dX1_agreeing_0 rfl 0 rfl ?_
  refine sx_callv (rest := []) E (cM_work l D g cb n d _ _ hn hd) wM_work kM_work ⟨⟨rfl, rfl⟩, by decide, by decide⟩ rfl rfl rfl (Nat.le_of_ble_eq_true rfl) dX1_agreeing_1 (fun u1 hp1 => ?_)
  have hw : wk n d u1 := hp1
  refine sx_iconst (v := (nI 0)) E dX1_agreeing_4 (by decide) ?_
  refine sx_istore_n E dX1_agreeing_5 rfl (by decide) (lv' := [(0, .ref (g 0)), (1, .int (nI 0))]) [1, 0] rfl ?_
  refine sx_iconst (v := (nI 1)) E dX1_agreeing_6 (by decide) ?_
  refine sx_istore_n E dX1_agreeing_7 rfl (by decide) (lv' := [(0, .ref (g 0)), (1, .int (nI 0)), (2, .int (nI 1))]) [1, 2, 0] rfl ?_
  have L8 : ∀ (f_ : Nat) (s : Nat) (t : Nat) (m : Nat), (s = 2 * t + 1) → (t ≤ hT n) → (m = cT (agM d n) t) → hT n - t < f_ → sx_S G (pM g cb (nI n) (nF d) mk u1) 8 [(0, .ref (g 0)), (1, .int (nI m)), (2, .int (nI s))] [] := by
    intro f_
    induction f_ with
    | zero => intro s t m hs ht hm hm_; exact absurd hm_ (Nat.not_lt_zero _)
    | succ f_ ih8 =>
      intro s t m hs ht hm hm_
      refine sx_iload_n E dX1_agreeing_8 rfl 2 rfl ?_
      refine sx_iconst (v := (nI 1)) E dX1_agreeing_9 (by decide) ?_
      refine sx_aload_n E dX1_agreeing_10 rfl 0 rfl ?_
      refine sx_gM E rfl 0 (by decide) q218 rfl dX1_agreeing_11 ?_
      refine sx_shl1 E dX1_agreeing_14 (by omega) ?_
      refine sx_iconst (v := (nI 1)) E dX1_agreeing_15 (by decide) ?_
      refine sx_isubNM E dX1_agreeing_16 (h2p) ?_
      refine sx_icmp_geN E 37 dX1_agreeing_17 (by decide) (by omega) (by omega) (fun c17 => ?_) (fun c17 => ?_)
      · obtain rfl : t = hT n := by omega
        refine sx_iload_n E dX1_agreeing_37 rfl 1 rfl ?_
        exact ret _ _ _ u1 dX1_agreeing_38 (rfl) (by rw [hm])
      · have hib := idxM_bd hd s n
        refine sx_aload_n E dX1_agreeing_20 rfl 0 rfl ?_
        refine sx_iload_n E dX1_agreeing_21 rfl 2 rfl ?_
        refine sx_callr (rest := []) E (cM_agreesWithAll l D g cb n d _ _ hn hd hw s (by omega)) wM_agreesWithAll kM_agreesWithAll ⟨⟨rfl, rfl⟩, by decide, by decide⟩ rfl rfl rfl (Nat.le_of_ble_eq_true rfl) dX1_agreeing_22 ?_
        refine sx_if_eqB E 31 dX1_agreeing_25 (by decide) (fun c25 => ?_) (fun c25 => ?_)
        · refine sx_iinc E dX1_agreeing_31 2 rfl (v := (nI (s + 2))) (inc2 _) (by decide) (lv' := [(0, .ref (g 0)), (1, .int (nI m)), (2, .int (nI (s + 2)))]) [1, 2, 0] rfl ?_
          refine sx_goto E 8 dX1_agreeing_34 (by decide) ?_
          exact ih8 (s + 2) (t + 1) m (by omega) (by omega) (by rw [cT_s, ← hm, ← hs, if_neg (by rw [c25]; decide)]) (by omega)
        · refine sx_iinc E dX1_agreeing_28 1 rfl (v := (nI (m + 1))) (inc1 _) (by decide) (lv' := [(0, .ref (g 0)), (1, .int (nI (m + 1))), (2, .int (nI s))]) [1, 0, 2] rfl ?_
          refine sx_iinc E dX1_agreeing_31 2 rfl (v := (nI (s + 2))) (inc2 _) (by decide) (lv' := [(0, .ref (g 0)), (1, .int (nI (m + 1))), (2, .int (nI (s + 2)))]) [1, 2, 0] rfl ?_
          refine sx_goto E 8 dX1_agreeing_34 (by decide) ?_
          exact ih8 (s + 2) (t + 1) (m + 1) (by omega) (by omega) (by rw [cT_s, ← hm, ← hs, if_pos c25]) (by omega)
  exact L8 _ 1 0 0 (rfl) (Nat.zero_le _) (rfl) (Nat.lt_succ_self _)

set_option maxHeartbeats 4000000 in
theorem cM_level (l : Launch) (D : va_G) (g : Nat → Nat) (cb : Nat → ClassId) (n : Nat) (d : Nat → Nat) (mk mi : Nat → Int32) (x y z : Nat) (hx : x < 2147483648) (hy : y < 2147483648) (hz : z < 2147483648) : sx_Cr l yX1_level cX1_level 4 .boolean rmM_level D (tyM cb) [.ref (g 0), .int (nI x), .int (nI y), .int (nI z)] (pM g cb (nI n) (nF d) mk mi) (bI (lvl x y z)) := by
  refine sx_enter_i (own := RX1) (by decide) rfl (Nat.le_of_ble_eq_true rfl) (lv := [(0, .ref (g 0)), (1, .int (nI x)), (2, .int (nI y)), (3, .int (nI z))]) rfl ?_
  intro G E ret
  refine sx_iload_n E dX1_level_0 rfl 1 rfl ?_
  refine sx_iload_n E dX1_level_1 rfl 2 rfl ?_
  refine sx_icmp_neN E 16 dX1_level_2 (by decide) (by omega) (by omega) (fun c2 => ?_) (fun c2 => ?_)
  · refine sx_iload_n E dX1_level_16 rfl 1 rfl ?_
    refine sx_iload_n E dX1_level_17 rfl 3 rfl ?_
    refine sx_icmp_neN E 32 dX1_level_18 (by decide) (by omega) (by omega) (fun c18 => ?_) (fun c18 => ?_)
    · refine sx_iload_n E dX1_level_32 rfl 2 rfl ?_
      refine sx_iload_n E dX1_level_33 rfl 3 rfl ?_
      refine sx_icmp_neN E 46 dX1_level_34 (by decide) (by omega) (by omega) (fun c34 => ?_) (fun c34 => ?_)
      · refine sx_iconst (v := (bI false)) E dX1_level_46 (by decide) ?_
        exact ret _ _ _ () dX1_level_47 (rfl) (by unfold lvl; rw [if_neg c2, if_neg c18]; rw [decide_eq_false (by omega)])
      · refine sx_iload_n E dX1_level_37 rfl 1 rfl ?_
        refine sx_iload_n E dX1_level_38 rfl 2 rfl ?_
        refine sx_icmp_gtN E 46 dX1_level_39 (by decide) (by omega) (by omega) (fun c39 => ?_) (fun c39 => ?_)
        · refine sx_iconst (v := (bI false)) E dX1_level_46 (by decide) ?_
          exact ret _ _ _ () dX1_level_47 (rfl) (by unfold lvl; rw [if_neg c2, if_neg c18]; rw [decide_eq_false (by omega)])
        · refine sx_iconst (v := (bI true)) E dX1_level_42 (by decide) ?_
          refine sx_goto E 47 dX1_level_43 (by decide) ?_
          exact ret _ _ _ () dX1_level_47 (rfl) (by unfold lvl; rw [if_neg c2, if_neg c18]; rw [decide_eq_true ⟨c34, c39⟩])
    · refine sx_iload_n E dX1_level_21 rfl 2 rfl ?_
      refine sx_iload_n E dX1_level_22 rfl 1 rfl ?_
      refine sx_icmp_gtN E 30 dX1_level_23 (by decide) (by omega) (by omega) (fun c23 => ?_) (fun c23 => ?_)
      · refine sx_iconst (v := (bI false)) E dX1_level_30 (by decide) ?_
        exact ret _ _ _ () dX1_level_31 (rfl) (by unfold lvl; rw [if_neg c2, if_pos c18]; rw [decide_eq_false (by omega)])
      · refine sx_iconst (v := (bI true)) E dX1_level_26 (by decide) ?_
        refine sx_goto E 31 dX1_level_27 (by decide) ?_
        exact ret _ _ _ () dX1_level_31 (rfl) (by unfold lvl; rw [if_neg c2, if_pos c18]; rw [decide_eq_true c23])
  · refine sx_iload_n E dX1_level_5 rfl 3 rfl ?_
    refine sx_iload_n E dX1_level_6 rfl 1 rfl ?_
    refine sx_icmp_gtN E 14 dX1_level_7 (by decide) (by omega) (by omega) (fun c7 => ?_) (fun c7 => ?_)
    · refine sx_iconst (v := (bI false)) E dX1_level_14 (by decide) ?_
      exact ret _ _ _ () dX1_level_15 (rfl) (by unfold lvl; rw [if_pos c2]; rw [decide_eq_false (by omega)])
    · refine sx_iconst (v := (bI true)) E dX1_level_10 (by decide) ?_
      refine sx_goto E 15 dX1_level_11 (by decide) ?_
      exact ret _ _ _ () dX1_level_15 (rfl) (by unfold lvl; rw [if_pos c2]; rw [decide_eq_true c7])

set_option maxHeartbeats 4000000 in
theorem cM_fits (l : Launch) (D : va_G) (g : Nat → Nat) (cb : Nat → ClassId) (n : Nat) (d : Nat → Nat) (mk mi : Nat → Int32) (hn : n ≤ 7) (hd : ∀ k, d k ≤ 60) (i j : Nat) (hi : i < 7) (hj : j < 7) : sx_Cr l yX1_fits cX1_fits 8 .boolean rmM_fits D (tyM cb) [.ref (g 0), .int (nI i), .int (nI j)] (pM g cb (nI n) (nF d) mk mi) (bI (fitM d n i j)) := by
  refine sx_enter_i (own := RX1) (by decide) rfl (Nat.le_of_ble_eq_true rfl) (lv := [(0, .ref (g 0)), (1, .int (nI i)), (2, .int (nI j))]) rfl ?_
  intro G E ret
  refine sx_iconst (v := (nI 0)) E dX1_fits_0 (by decide) ?_
  refine sx_istore_n E dX1_fits_1 rfl (by decide) (lv' := [(0, .ref (g 0)), (1, .int (nI i)), (2, .int (nI j)), (3, .int (nI 0))]) [1, 2, 3, 0] rfl ?_
  have L2 : ∀ (f_ : Nat) (k : Nat), (k ≤ n) → (alN (fun k => alN (fun m => lvp d i j k m) n) k = true) → n - k < f_ → sx_S G (pM g cb (nI n) (nF d) mk mi) 2 [(0, .ref (g 0)), (1, .int (nI i)), (2, .int (nI j)), (3, .int (nI k))] [] := by
    intro f_
    induction f_ with
    | zero => intro k hk ha hm_; exact absurd hm_ (Nat.not_lt_zero _)
    | succ f_ ih2 =>
      intro k hk ha hm_
      refine sx_iload_n E dX1_fits_2 rfl 3 rfl ?_
      refine sx_aload_n E dX1_fits_3 rfl 0 rfl ?_
      refine sx_gM E rfl 0 (by decide) q218 rfl dX1_fits_4 ?_
      refine sx_icmp_geN E 127 dX1_fits_7 (by decide) (by omega) (by omega) (fun c7 => ?_) (fun c7 => ?_)
      · refine sx_iconst (v := (bI true)) E dX1_fits_127 (by decide) ?_
        exact ret _ _ _ () dX1_fits_128 (rfl) (by unfold fitM; rw [← show k = n by omega]; rw [← show k = n by omega] at ha; rw [ha])
      · refine sx_iconst (v := (nI 0)) E dX1_fits_10 (by decide) ?_
        refine sx_istore E dX1_fits_11 (by decide) (lv' := [(0, .ref (g 0)), (1, .int (nI i)), (2, .int (nI j)), (3, .int (nI k)), (4, .int (nI 0))]) [1, 2, 3, 4, 0] rfl ?_
        have L13 : ∀ (f_ : Nat) (m : Nat), (m ≤ n) → (alN (fun m => lvp d i j k m) m = true) → n - m < f_ → sx_S G (pM g cb (nI n) (nF d) mk mi) 13 [(0, .ref (g 0)), (1, .int (nI i)), (2, .int (nI j)), (3, .int (nI k)), (4, .int (nI m))] [] := by
          intro f_
          induction f_ with
          | zero => intro m hm hb hm_; exact absurd hm_ (Nat.not_lt_zero _)
          | succ f_ ih13 =>
            intro m hm hb hm_
            refine sx_iload E dX1_fits_13 4 rfl ?_
            refine sx_aload_n E dX1_fits_15 rfl 0 rfl ?_
            refine sx_gM E rfl 0 (by decide) q218 rfl dX1_fits_16 ?_
            refine sx_icmp_geN E 121 dX1_fits_19 (by decide) (by omega) (by omega) (fun c19 => ?_) (fun c19 => ?_)
            · refine sx_iinc E dX1_fits_121 3 rfl (v := (nI (k + 1))) (inc1 _) (by decide) (lv' := [(0, .ref (g 0)), (1, .int (nI i)), (2, .int (nI j)), (3, .int (nI (k + 1))), (4, .int (nI m))]) [1, 2, 3, 0, 4] rfl ?_
              refine sx_goto E 2 dX1_fits_124 (by decide) ?_
              refine sx_lv (lv' := [(0, .ref (g 0)), (1, .int (nI i)), (2, .int (nI j)), (3, .int (nI (k + 1)))]) [0, 1, 2, 3] rfl ?_
              exact ih2 (k + 1) (by omega) (by rw [alN_s, ha, Bool.true_and, ← show m = n by omega]; exact hb) (by omega)
            · refine sx_aload_n E dX1_fits_22 rfl 0 rfl ?_
              refine sx_gM E rfl 1 (by decide) q219 rfl dX1_fits_23 ?_
              refine sx_bipush (v := (nI 7)) E dX1_fits_26 (by decide) ?_
              refine sx_iload_n E dX1_fits_28 rfl 1 rfl ?_
              refine sx_imulNN E dX1_fits_29 ?_
              refine sx_iload_n E dX1_fits_30 rfl 2 rfl ?_
              refine sx_iaddNN E dX1_fits_31 ?_
              refine sx_iald E 1 0 rfl rfl (by omega) (by decide) (v := (nI (d ((7 * i) + j)))) (rfl) dX1_fits_32 ?_
              refine sx_aload_n E dX1_fits_33 rfl 0 rfl ?_
              refine sx_gM E rfl 1 (by decide) q219 rfl dX1_fits_34 ?_
              refine sx_bipush (v := (nI 7)) E dX1_fits_37 (by decide) ?_
              refine sx_iload_n E dX1_fits_39 rfl 3 rfl ?_
              refine sx_imulNN E dX1_fits_40 ?_
              refine sx_iload E dX1_fits_41 4 rfl ?_
              refine sx_iaddNN E dX1_fits_43 ?_
              refine sx_iald E 1 0 rfl rfl (by omega) (by decide) (v := (nI (d ((7 * k) + m)))) (rfl) dX1_fits_44 ?_
              refine sx_iaddNN E dX1_fits_45 ?_
              refine sx_istore E dX1_fits_46 (by decide) (lv' := [(0, .ref (g 0)), (1, .int (nI i)), (2, .int (nI j)), (3, .int (nI k)), (4, .int (nI m)), (5, .int (nI ((d ((7 * i) + j)) + (d ((7 * k) + m)))))]) [1, 2, 3, 4, 5, 0] rfl ?_
              refine sx_aload_n E dX1_fits_48 rfl 0 rfl ?_
              refine sx_gM E rfl 1 (by decide) q219 rfl dX1_fits_49 ?_
              refine sx_bipush (v := (nI 7)) E dX1_fits_52 (by decide) ?_
              refine sx_iload_n E dX1_fits_54 rfl 1 rfl ?_
              refine sx_imulNN E dX1_fits_55 ?_
              refine sx_iload_n E dX1_fits_56 rfl 3 rfl ?_
              refine sx_iaddNN E dX1_fits_57 ?_
              refine sx_iald E 1 0 rfl rfl (by omega) (by decide) (v := (nI (d ((7 * i) + k)))) (rfl) dX1_fits_58 ?_
              refine sx_aload_n E dX1_fits_59 rfl 0 rfl ?_
              refine sx_gM E rfl 1 (by decide) q219 rfl dX1_fits_60 ?_
              refine sx_bipush (v := (nI 7)) E dX1_fits_63 (by decide) ?_
              refine sx_iload_n E dX1_fits_65 rfl 2 rfl ?_
              refine sx_imulNN E dX1_fits_66 ?_
              refine sx_iload E dX1_fits_67 4 rfl ?_
              refine sx_iaddNN E dX1_fits_69 ?_
              refine sx_iald E 1 0 rfl rfl (by omega) (by decide) (v := (nI (d ((7 * j) + m)))) (rfl) dX1_fits_70 ?_
              refine sx_iaddNN E dX1_fits_71 ?_
              refine sx_istore E dX1_fits_72 (by decide) (lv' := [(0, .ref (g 0)), (1, .int (nI i)), (2, .int (nI j)), (3, .int (nI k)), (4, .int (nI m)), (5, .int (nI ((d ((7 * i) + j)) + (d ((7 * k) + m))))), (6, .int (nI ((d ((7 * i) + k)) + (d ((7 * j) + m)))))]) [1, 2, 3, 4, 5, 6, 0] rfl ?_
              refine sx_aload_n E dX1_fits_74 rfl 0 rfl ?_
              refine sx_gM E rfl 1 (by decide) q219 rfl dX1_fits_75 ?_
              refine sx_bipush (v := (nI 7)) E dX1_fits_78 (by decide) ?_
              refine sx_iload_n E dX1_fits_80 rfl 1 rfl ?_
              refine sx_imulNN E dX1_fits_81 ?_
              refine sx_iload E dX1_fits_82 4 rfl ?_
              refine sx_iaddNN E dX1_fits_84 ?_
              refine sx_iald E 1 0 rfl rfl (by omega) (by decide) (v := (nI (d ((7 * i) + m)))) (rfl) dX1_fits_85 ?_
              refine sx_aload_n E dX1_fits_86 rfl 0 rfl ?_
              refine sx_gM E rfl 1 (by decide) q219 rfl dX1_fits_87 ?_
              refine sx_bipush (v := (nI 7)) E dX1_fits_90 (by decide) ?_
              refine sx_iload_n E dX1_fits_92 rfl 2 rfl ?_
              refine sx_imulNN E dX1_fits_93 ?_
              refine sx_iload_n E dX1_fits_94 rfl 3 rfl ?_
              refine sx_iaddNN E dX1_fits_95 ?_
              refine sx_iald E 1 0 rfl rfl (by omega) (by decide) (v := (nI (d ((7 * j) + k)))) (rfl) dX1_fits_96 ?_
              refine sx_iaddNN E dX1_fits_97 ?_
              refine sx_istore E dX1_fits_98 (by decide) (lv' := [(0, .ref (g 0)), (1, .int (nI i)), (2, .int (nI j)), (3, .int (nI k)), (4, .int (nI m)), (5, .int (nI ((d ((7 * i) + j)) + (d ((7 * k) + m))))), (6, .int (nI ((d ((7 * i) + k)) + (d ((7 * j) + m))))), (7, .int (nI ((d ((7 * i) + m)) + (d ((7 * j) + k)))))]) [1, 2, 3, 4, 5, 6, 7, 0] rfl ?_
              refine sx_aload_n E dX1_fits_100 rfl 0 rfl ?_
              refine sx_iload E dX1_fits_101 5 rfl ?_
              refine sx_iload E dX1_fits_103 6 rfl ?_
              refine sx_iload E dX1_fits_105 7 rfl ?_
              have hd1 := hd (7 * i + j)
              have hd2 := hd (7 * k + m)
              have hd3 := hd (7 * i + k)
              have hd4 := hd (7 * j + m)
              have hd5 := hd (7 * i + m)
              have hd6 := hd (7 * j + k)
              refine sx_callr (rest := []) E (cM_level l D g cb n d _ _ ((d ((7 * i) + j)) + (d ((7 * k) + m))) ((d ((7 * i) + k)) + (d ((7 * j) + m))) ((d ((7 * i) + m)) + (d ((7 * j) + k))) (by omega) (by omega) (by omega)) wM_level kM_level ⟨⟨rfl, rfl⟩, by decide, by decide⟩ rfl rfl rfl (Nat.le_of_ble_eq_true rfl) dX1_fits_107 ?_
              refine sx_top (y := (bI (lvp d i j k m))) (rfl) ?_
              refine sx_if_neB E 115 dX1_fits_110 (by decide) (fun c110 => ?_) (fun c110 => ?_)
              · refine sx_iinc E dX1_fits_115 4 rfl (v := (nI (m + 1))) (inc1 _) (by decide) (lv' := [(0, .ref (g 0)), (1, .int (nI i)), (2, .int (nI j)), (3, .int (nI k)), (4, .int (nI (m + 1))), (5, .int (nI ((d ((7 * i) + j)) + (d ((7 * k) + m))))), (6, .int (nI ((d ((7 * i) + k)) + (d ((7 * j) + m))))), (7, .int (nI ((d ((7 * i) + m)) + (d ((7 * j) + k)))))]) [1, 2, 3, 4, 0, 5, 6, 7] rfl ?_
                refine sx_goto E 13 dX1_fits_118 (by decide) ?_
                refine sx_lv (lv' := [(0, .ref (g 0)), (1, .int (nI i)), (2, .int (nI j)), (3, .int (nI k)), (4, .int (nI (m + 1)))]) [0, 1, 2, 3, 4] rfl ?_
                exact ih13 (m + 1) (by omega) (by rw [alN_s, hb, c110]; rfl) (by omega)
              · refine sx_iconst (v := (bI false)) E dX1_fits_113 (by decide) ?_
                exact ret _ _ _ () dX1_fits_114 (rfl) (by unfold fitM; rw [alN_stop' (f := fun k => alN (fun m => lvp d i j k m) n) (t := k) (alN_stop' (f := fun m => lvp d i j k m) (t := m) c110 (by omega)) (by omega)])
        exact L13 _ 0 (Nat.zero_le _) (rfl) (Nat.lt_succ_self _)
  exact L2 _ 0 (Nat.zero_le _) (rfl) (Nat.lt_succ_self _)

set_option maxHeartbeats 4000000 in
theorem cM_treelike (l : Launch) (D : va_G) (g : Nat → Nat) (cb : Nat → ClassId) (n : Nat) (d : Nat → Nat) (mk mi : Nat → Int32) (hn : n ≤ 7) (hd : ∀ k, d k ≤ 60) : sx_Cr l yX1_treelike cX1_treelike 3 .int rmM_treelike D (tyM cb) [.ref (g 0)] (pM g cb (nI n) (nF d) mk mi) (bI (tlM d n)) := by
  refine sx_enter_i (own := RX1) (by decide) rfl (Nat.le_of_ble_eq_true rfl) (lv := [(0, .ref (g 0))]) rfl ?_
  intro G E ret
  refine sx_iconst (v := (nI 0)) E dX1_treelike_0 (by decide) ?_
  refine sx_istore_n E dX1_treelike_1 rfl (by decide) (lv' := [(0, .ref (g 0)), (1, .int (nI 0))]) [1, 0] rfl ?_
  have L2 : ∀ (f_ : Nat) (i : Nat), (i ≤ n) → (alN (fun i => alN (fun j => fitM d n i j) n) i = true) → n - i < f_ → sx_S G (pM g cb (nI n) (nF d) mk mi) 2 [(0, .ref (g 0)), (1, .int (nI i))] [] := by
    intro f_
    induction f_ with
    | zero => intro i hi ha hm_; exact absurd hm_ (Nat.not_lt_zero _)
    | succ f_ ih2 =>
      intro i hi ha hm_
      refine sx_iload_n E dX1_treelike_2 rfl 1 rfl ?_
      refine sx_aload_n E dX1_treelike_3 rfl 0 rfl ?_
      refine sx_gM E rfl 0 (by decide) q218 rfl dX1_treelike_4 ?_
      refine sx_icmp_geN E 43 dX1_treelike_7 (by decide) (by omega) (by omega) (fun c7 => ?_) (fun c7 => ?_)
      · refine sx_iconst (v := (bI true)) E dX1_treelike_43 (by decide) ?_
        exact ret _ _ _ () dX1_treelike_44 (rfl) (by unfold tlM; rw [← show i = n by omega]; rw [← show i = n by omega] at ha; rw [ha])
      · refine sx_iconst (v := (nI 0)) E dX1_treelike_10 (by decide) ?_
        refine sx_istore_n E dX1_treelike_11 rfl (by decide) (lv' := [(0, .ref (g 0)), (1, .int (nI i)), (2, .int (nI 0))]) [1, 2, 0] rfl ?_
        have L12 : ∀ (f_ : Nat) (j : Nat), (j ≤ n) → (alN (fun j => fitM d n i j) j = true) → n - j < f_ → sx_S G (pM g cb (nI n) (nF d) mk mi) 12 [(0, .ref (g 0)), (1, .int (nI i)), (2, .int (nI j))] [] := by
          intro f_
          induction f_ with
          | zero => intro j hj hb hm_; exact absurd hm_ (Nat.not_lt_zero _)
          | succ f_ ih12 =>
            intro j hj hb hm_
            refine sx_iload_n E dX1_treelike_12 rfl 2 rfl ?_
            refine sx_aload_n E dX1_treelike_13 rfl 0 rfl ?_
            refine sx_gM E rfl 0 (by decide) q218 rfl dX1_treelike_14 ?_
            refine sx_icmp_geN E 37 dX1_treelike_17 (by decide) (by omega) (by omega) (fun c17 => ?_) (fun c17 => ?_)
            · refine sx_iinc E dX1_treelike_37 1 rfl (v := (nI (i + 1))) (inc1 _) (by decide) (lv' := [(0, .ref (g 0)), (1, .int (nI (i + 1))), (2, .int (nI j))]) [1, 0, 2] rfl ?_
              refine sx_goto E 2 dX1_treelike_40 (by decide) ?_
              refine sx_lv (lv' := [(0, .ref (g 0)), (1, .int (nI (i + 1)))]) [0, 1] rfl ?_
              exact ih2 (i + 1) (by omega) (by rw [alN_s, ha, Bool.true_and, ← show j = n by omega]; rw [← show j = n by omega] at hb; exact hb) (by omega)
            · refine sx_aload_n E dX1_treelike_20 rfl 0 rfl ?_
              refine sx_iload_n E dX1_treelike_21 rfl 1 rfl ?_
              refine sx_iload_n E dX1_treelike_22 rfl 2 rfl ?_
              refine sx_callr (rest := []) E (cM_fits l D g cb n d _ _ hn hd i j (by omega) (by omega)) wM_fits kM_fits ⟨⟨rfl, rfl⟩, by decide, by decide⟩ rfl rfl rfl (Nat.le_of_ble_eq_true rfl) dX1_treelike_23 ?_
              refine sx_if_neB E 31 dX1_treelike_26 (by decide) (fun c26 => ?_) (fun c26 => ?_)
              · refine sx_iinc E dX1_treelike_31 2 rfl (v := (nI (j + 1))) (inc1 _) (by decide) (lv' := [(0, .ref (g 0)), (1, .int (nI i)), (2, .int (nI (j + 1)))]) [1, 2, 0] rfl ?_
                refine sx_goto E 12 dX1_treelike_34 (by decide) ?_
                exact ih12 (j + 1) (by omega) (by rw [alN_s, hb, c26]; rfl) (by omega)
              · refine sx_iconst (v := (bI false)) E dX1_treelike_29 (by decide) ?_
                exact ret _ _ _ () dX1_treelike_30 (rfl) (by unfold tlM; rw [alN_stop' (f := fun i => alN (fun j => fitM d n i j) n) (t := i) (alN_stop' (f := fun j => fitM d n i j) (t := j) c26 (by omega)) (by omega)])
        exact L12 _ 0 (Nat.zero_le _) (rfl) (Nat.lt_succ_self _)
  exact L2 _ 0 (Nat.zero_le _) (rfl) (Nat.lt_succ_self _)

set_option maxHeartbeats 4000000 in
theorem cM_span (l : Launch) (D : va_G) (g : Nat → Nat) (cb : Nat → ClassId) (n : Nat) (d : Nat → Nat) (mk mi : Nat → Int32) (hn : n ≤ 7) (hd : ∀ k, d k ≤ 60)  : sx_Ci l yX1_span cX1_span 5 .int rmM_span D (tyM cb) [.ref (g 0)] (pM g cb (nI n) (nF d) mk mi) (S := Nat → Int32) (fun u => pM g cb (nI n) (nF d) mk u) (fun r _ => r = nI (sp1 d n n)) := by
  refine sx_enter_i (own := RX1) (by decide) rfl (Nat.le_of_ble_eq_true rfl) (lv := [(0, .ref (g 0))]) rfl ?_
  intro G E ret
  have h2n : 2 ^ n ≤ 128 := pow7 hn
  have h2p : 1 ≤ 2 ^ n := Nat.one_le_two_pow
  have hpw := pw n
  have hhT : hT n = (2 ^ n - 1) / 2 := rfl
  refine sx_aload_n E dX1_span_0 rfl 0 rfl ?_
  refine sx_callv (rest := []) E (cM_work l D g cb n d _ _ hn hd) wM_work kM_work ⟨⟨rfl, rfl⟩, by decide, by decide⟩ rfl rfl rfl (Nat.le_of_ble_eq_true rfl) dX1_span_1 (fun u1 hp1 => ?_)
  have hw : wk n d u1 := hp1
  refine sx_iconst (v := (nI 0)) E dX1_span_4 (by decide) ?_
  refine sx_istore_n E dX1_span_5 rfl (by decide) (lv' := [(0, .ref (g 0)), (1, .int (nI 0))]) [1, 0] rfl ?_
  refine sx_iconst (v := (nI 0)) E dX1_span_6 (by decide) ?_
  refine sx_istore_n E dX1_span_7 rfl (by decide) (lv' := [(0, .ref (g 0)), (1, .int (nI 0)), (2, .int (nI 0))]) [1, 2, 0] rfl ?_
  have L8 : ∀ (f_ : Nat) (i : Nat) (m : Nat), (i ≤ n) → (m = sp1 d n i) → n - i < f_ → sx_S G (pM g cb (nI n) (nF d) mk u1) 8 [(0, .ref (g 0)), (1, .int (nI m)), (2, .int (nI i))] [] := by
    intro f_
    induction f_ with
    | zero => intro i m hi hm hm_; exact absurd hm_ (Nat.not_lt_zero _)
    | succ f_ ih8 =>
      intro i m hi hm hm_
      have hml := sp1_le hd hn i
      rw [← hm] at hml
      refine sx_iload_n E dX1_span_8 rfl 2 rfl ?_
      refine sx_aload_n E dX1_span_9 rfl 0 rfl ?_
      refine sx_gM E rfl 0 (by decide) q218 rfl dX1_span_10 ?_
      refine sx_icmp_geN E 55 dX1_span_13 (by decide) (by omega) (by omega) (fun c13 => ?_) (fun c13 => ?_)
      · refine sx_iload_n E dX1_span_55 rfl 1 rfl ?_
        exact ret _ _ _ u1 dX1_span_56 (rfl) (by rw [hm, show i = n by omega])
      · refine sx_iconst (v := (nI 0)) E dX1_span_16 (by decide) ?_
        refine sx_istore_n E dX1_span_17 rfl (by decide) (lv' := [(0, .ref (g 0)), (1, .int (nI m)), (2, .int (nI i)), (3, .int (nI 0))]) [1, 2, 3, 0] rfl ?_
        have L18 : ∀ (f_ : Nat) (j : Nat) (m2 : Nat), (j ≤ n) → (m2 = sp2 d n i m j) → n - j < f_ → sx_S G (pM g cb (nI n) (nF d) mk u1) 18 [(0, .ref (g 0)), (1, .int (nI m2)), (2, .int (nI i)), (3, .int (nI j))] [] := by
          intro f_
          induction f_ with
          | zero => intro j m2 hj hm2 hm_; exact absurd hm_ (Nat.not_lt_zero _)
          | succ f_ ih18 =>
            intro j m2 hj hm2 hm_
            have hml2 := sp2_le hd hn i hml j
            rw [← hm2] at hml2
            refine sx_iload_n E dX1_span_18 rfl 3 rfl ?_
            refine sx_aload_n E dX1_span_19 rfl 0 rfl ?_
            refine sx_gM E rfl 0 (by decide) q218 rfl dX1_span_20 ?_
            refine sx_icmp_geN E 49 dX1_span_23 (by decide) (by omega) (by omega) (fun c23 => ?_) (fun c23 => ?_)
            · refine sx_iinc E dX1_span_49 2 rfl (v := (nI (i + 1))) (inc1 _) (by decide) (lv' := [(0, .ref (g 0)), (1, .int (nI m2)), (2, .int (nI (i + 1))), (3, .int (nI j))]) [1, 2, 0, 3] rfl ?_
              refine sx_goto E 8 dX1_span_52 (by decide) ?_
              refine sx_lv (lv' := [(0, .ref (g 0)), (1, .int (nI m2)), (2, .int (nI (i + 1)))]) [0, 1, 2] rfl ?_
              exact ih8 (i + 1) m2 (by omega) (by unfold sp1; rw [← hm, hm2, show j = n by omega]) (by omega)
            · refine sx_aload_n E dX1_span_26 rfl 0 rfl ?_
              refine sx_iload_n E dX1_span_27 rfl 2 rfl ?_
              refine sx_iload_n E dX1_span_28 rfl 3 rfl ?_
              refine sx_callr (rest := []) E (cM_between l D g cb n d _ _ hn hd hw i j (by omega) (by omega)) wM_between kM_between ⟨⟨rfl, rfl⟩, by decide, by decide⟩ rfl rfl rfl (Nat.le_of_ble_eq_true rfl) dX1_span_29 ?_
              have hbl := bet_le hd hn i j
              refine sx_istore E dX1_span_32 (by decide) (lv' := [(0, .ref (g 0)), (1, .int (nI m2)), (2, .int (nI i)), (3, .int (nI j)), (4, .int (nI (bet d n i j)))]) [1, 2, 3, 4, 0] rfl ?_
              refine sx_iload E dX1_span_34 4 rfl ?_
              refine sx_iload_n E dX1_span_36 rfl 1 rfl ?_
              refine sx_icmp_leN E 43 dX1_span_37 (by decide) (by omega) (by omega) (fun c37 => ?_) (fun c37 => ?_)
              · refine sx_iinc E dX1_span_43 3 rfl (v := (nI (j + 1))) (inc1 _) (by decide) (lv' := [(0, .ref (g 0)), (1, .int (nI m2)), (2, .int (nI i)), (3, .int (nI (j + 1))), (4, .int (nI (bet d n i j)))]) [1, 2, 3, 0, 4] rfl ?_
                refine sx_goto E 18 dX1_span_46 (by decide) ?_
                refine sx_lv (lv' := [(0, .ref (g 0)), (1, .int (nI m2)), (2, .int (nI i)), (3, .int (nI (j + 1)))]) [0, 1, 2, 3] rfl ?_
                exact ih18 (j + 1) m2 (by omega) (by rw [sp2_s, ← hm2, if_neg (by omega)]) (by omega)
              · refine sx_iload E dX1_span_40 4 rfl ?_
                refine sx_istore_n E dX1_span_42 rfl (by decide) (lv' := [(0, .ref (g 0)), (1, .int (nI (bet d n i j))), (2, .int (nI i)), (3, .int (nI j)), (4, .int (nI (bet d n i j)))]) [1, 0, 2, 3, 4] rfl ?_
                refine sx_iinc E dX1_span_43 3 rfl (v := (nI (j + 1))) (inc1 _) (by decide) (lv' := [(0, .ref (g 0)), (1, .int (nI (bet d n i j))), (2, .int (nI i)), (3, .int (nI (j + 1))), (4, .int (nI (bet d n i j)))]) [1, 2, 3, 0, 4] rfl ?_
                refine sx_goto E 18 dX1_span_46 (by decide) ?_
                refine sx_lv (lv' := [(0, .ref (g 0)), (1, .int (nI (bet d n i j))), (2, .int (nI i)), (3, .int (nI (j + 1)))]) [0, 1, 2, 3] rfl ?_
                exact ih18 (j + 1) (bet d n i j) (by omega) (by rw [sp2_s, ← hm2, if_pos c37]) (by omega)
        exact L18 _ 0 m (Nat.zero_le _) (rfl) (Nat.lt_succ_self _)
  exact L8 _ 0 0 (Nat.zero_le _) (rfl) (Nat.lt_succ_self _)

set_option maxHeartbeats 4000000 in
theorem cM_weight (l : Launch) (D : va_G) (g : Nat → Nat) (cb : Nat → ClassId) (n : Nat) (d : Nat → Nat) (mk mi : Nat → Int32) (hn : n ≤ 7) (hd : ∀ k, d k ≤ 60)  : sx_Ci l yX1_weight cX1_weight 3 .int rmM_weight D (tyM cb) [.ref (g 0)] (pM g cb (nI n) (nF d) mk mi) (S := Nat → Int32) (fun u => pM g cb (nI n) (nF d) mk u) (fun r _ => r = nI (sT (wgt d n) (hT n))) := by
  refine sx_enter_i (own := RX1) (by decide) rfl (Nat.le_of_ble_eq_true rfl) (lv := [(0, .ref (g 0))]) rfl ?_
  intro G E ret
  have h2n : 2 ^ n ≤ 128 := pow7 hn
  have h2p : 1 ≤ 2 ^ n := Nat.one_le_two_pow
  have hpw := pw n
  have hhT : hT n = (2 ^ n - 1) / 2 := rfl
  refine sx_aload_n E dX1_weight_0 rfl 0 rfl ?_
  refine sx_callv (rest := []) E (cM_work l D g cb n d _ _ hn hd) wM_work kM_work ⟨⟨rfl, rfl⟩, by decide, by decide⟩ rfl rfl rfl (Nat.le_of_ble_eq_true rfl) dX1_weight_1 (fun u1 hp1 => ?_)
  have hw : wk n d u1 := hp1
  refine sx_iconst (v := (nI 0)) E dX1_weight_4 (by decide) ?_
  refine sx_istore_n E dX1_weight_5 rfl (by decide) (lv' := [(0, .ref (g 0)), (1, .int (nI 0))]) [1, 0] rfl ?_
  refine sx_iconst (v := (nI 1)) E dX1_weight_6 (by decide) ?_
  refine sx_istore_n E dX1_weight_7 rfl (by decide) (lv' := [(0, .ref (g 0)), (1, .int (nI 0)), (2, .int (nI 1))]) [1, 2, 0] rfl ?_
  have L8 : ∀ (f_ : Nat) (s : Nat) (t : Nat) (m : Nat), (s = 2 * t + 1) → (t ≤ hT n) → (m = sT (wgt d n) t) → hT n - t < f_ → sx_S G (pM g cb (nI n) (nF d) mk u1) 8 [(0, .ref (g 0)), (1, .int (nI m)), (2, .int (nI s))] [] := by
    intro f_
    induction f_ with
    | zero => intro s t m hs ht hm hm_; exact absurd hm_ (Nat.not_lt_zero _)
    | succ f_ ih8 =>
      intro s t m hs ht hm hm_
      refine sx_iload_n E dX1_weight_8 rfl 2 rfl ?_
      refine sx_iconst (v := (nI 1)) E dX1_weight_9 (by decide) ?_
      refine sx_aload_n E dX1_weight_10 rfl 0 rfl ?_
      refine sx_gM E rfl 0 (by decide) q218 rfl dX1_weight_11 ?_
      refine sx_shl1 E dX1_weight_14 (by omega) ?_
      refine sx_iconst (v := (nI 1)) E dX1_weight_15 (by decide) ?_
      refine sx_isubNM E dX1_weight_16 (h2p) ?_
      refine sx_icmp_geN E 44 dX1_weight_17 (by decide) (by omega) (by omega) (fun c17 => ?_) (fun c17 => ?_)
      · obtain rfl : t = hT n := by omega
        refine sx_iload_n E dX1_weight_44 rfl 1 rfl ?_
        exact ret _ _ _ u1 dX1_weight_45 (rfl) (by rw [hm])
      · have hib := idxM_bd hd s n
        refine sx_aload_n E dX1_weight_20 rfl 0 rfl ?_
        refine sx_gM E rfl 3 (by decide) q221 rfl dX1_weight_21 ?_
        refine sx_iload_n E dX1_weight_24 rfl 2 rfl ?_
        refine sx_iald E 3 2 rfl rfl (by omega) (by decide) (v := (iI (idxM d s n))) (hw _ (by omega) (by omega)) dX1_weight_25 ?_
        refine sx_if_leI E 38 dX1_weight_26 (by decide) (by omega) (fun c26 => ?_) (fun c26 => ?_)
        · refine sx_iinc E dX1_weight_38 2 rfl (v := (nI (s + 2))) (inc2 _) (by decide) (lv' := [(0, .ref (g 0)), (1, .int (nI m)), (2, .int (nI (s + 2)))]) [1, 2, 0] rfl ?_
          refine sx_goto E 8 dX1_weight_41 (by decide) ?_
          exact ih8 (s + 2) (t + 1) m (by omega) (by omega) (by rw [sT_s, ← hm, ← hs]; unfold wgt; rw [if_neg (by omega)]; rfl) (by omega)
        · refine sx_iload_n E dX1_weight_29 rfl 1 rfl ?_
          refine sx_aload_n E dX1_weight_30 rfl 0 rfl ?_
          refine sx_gM E rfl 3 (by decide) q221 rfl dX1_weight_31 ?_
          refine sx_iload_n E dX1_weight_34 rfl 2 rfl ?_
          refine sx_iald E 3 2 rfl rfl (by omega) (by decide) (v := (iI (idxM d s n))) (hw _ (by omega) (by omega)) dX1_weight_35 ?_
          refine sx_top (y := (nI ((idxM d s n).toNat))) (iI_toNat (by omega)) ?_
          refine sx_iaddNN E dX1_weight_36 ?_
          refine sx_istore_n E dX1_weight_37 rfl (by decide) (lv' := [(0, .ref (g 0)), (1, .int (nI (m + ((idxM d s n).toNat)))), (2, .int (nI s))]) [1, 0, 2] rfl ?_
          refine sx_iinc E dX1_weight_38 2 rfl (v := (nI (s + 2))) (inc2 _) (by decide) (lv' := [(0, .ref (g 0)), (1, .int (nI (m + ((idxM d s n).toNat)))), (2, .int (nI (s + 2)))]) [1, 2, 0] rfl ?_
          refine sx_goto E 8 dX1_weight_41 (by decide) ?_
          exact ih8 (s + 2) (t + 1) (m + ((idxM d s n).toNat)) (by omega) (by omega) (by rw [sT_s, ← hm, ← hs]; unfold wgt; rw [if_pos c26]) (by omega)
  exact L8 _ 1 0 0 (rfl) (Nat.zero_le _) (rfl) (Nat.lt_succ_self _)

set_option maxHeartbeats 4000000 in
theorem cM_smooth (l : Launch) (D : va_G) (g : Nat → Nat) (cb : Nat → ClassId) (n : Nat) (d : Nat → Nat) (mk mi : Nat → Int32) (hn : n ≤ 7) (hd : ∀ k, d k ≤ 60) : sx_Ci l yX1_smooth cX1_smooth 5 .int rmM_smooth D (tyM cb) [.ref (g 0)] (pM g cb (nI n) (nF d) mk mi) (S := (Nat → Nat) × (Nat → Int32) × (Nat → Int32)) (fun u => pM g cb (nI n) (nF u.1) u.2.1 u.2.2) (fun r u => r = nI (cM d n (n * n)) ∧ u.1 = cpM d n (n * n)) := by
  refine sx_enter_i (own := RX1) (by decide) rfl (Nat.le_of_ble_eq_true rfl) (lv := [(0, .ref (g 0))]) rfl ?_
  intro G E ret
  have h2n : 2 ^ n ≤ 128 := pow7 hn
  have h2p : 1 ≤ 2 ^ n := Nat.one_le_two_pow
  have hpw := pw n
  have hhT : hT n = (2 ^ n - 1) / 2 := rfl
  refine sx_aload_n E dX1_smooth_0 rfl 0 rfl ?_
  refine sx_callv (rest := []) E (cM_work l D g cb n d _ _ hn hd) wM_work kM_work ⟨⟨rfl, rfl⟩, by decide, by decide⟩ rfl rfl rfl (Nat.le_of_ble_eq_true rfl) dX1_smooth_1 (fun u1 hp1 => ?_)
  have hw : wk n d u1 := hp1
  refine sx_iconst (v := (nI 0)) E dX1_smooth_4 (by decide) ?_
  refine sx_istore_n E dX1_smooth_5 rfl (by decide) (lv' := [(0, .ref (g 0)), (1, .int (nI 0))]) [1, 0] rfl ?_
  refine sx_iconst (v := (nI 0)) E dX1_smooth_6 (by decide) ?_
  refine sx_istore_n E dX1_smooth_7 rfl (by decide) (lv' := [(0, .ref (g 0)), (1, .int (nI 0)), (2, .int (nI 0))]) [1, 2, 0] rfl ?_
  have L8 : ∀ (f_ : Nat) (i : Nat) (c : Nat) (mq : Nat → Int32), (i ≤ n) → (c = cM d n (i * n)) → (mkI d n mq i 0) → n - i < f_ → sx_S G (pM g cb (nI n) (nF d) mq u1) 8 [(0, .ref (g 0)), (1, .int (nI c)), (2, .int (nI i))] [] := by
    intro f_
    induction f_ with
    | zero => intro i c mq hi hc hmk hm_; exact absurd hm_ (Nat.not_lt_zero _)
    | succ f_ ih8 =>
      intro i c mq hi hc hmk hm_
      refine sx_iload_n E dX1_smooth_8 rfl 2 rfl ?_
      refine sx_aload_n E dX1_smooth_9 rfl 0 rfl ?_
      refine sx_gM E rfl 0 (by decide) q218 rfl dX1_smooth_10 ?_
      refine sx_icmp_geN E 106 dX1_smooth_13 (by decide) (by omega) (by omega) (fun c13 => ?_) (fun c13 => ?_)
      · have hmk2 : ∀ a b, a < n → b < n → True → mq (7 * a + b) = nI (smb d n a b) := fun a b ha hb _ => hmk a b ha hb (by omega)
        have hcn : c = cM d n (n * n) := by rw [hc, show i = n by omega]
        refine sx_iconst (v := (nI 0)) E dX1_smooth_106 (by decide) ?_
        refine sx_istore_n E dX1_smooth_107 rfl (by decide) (lv' := [(0, .ref (g 0)), (1, .int (nI c)), (2, .int (nI 0))]) [1, 2, 0] rfl ?_
        have L108 : ∀ (f_ : Nat) (i : Nat) (e : Nat → Nat), (i ≤ n) → (e = cpM d n (i * n)) → n - i < f_ → sx_S G (pM g cb (nI n) (nF e) mq u1) 108 [(0, .ref (g 0)), (1, .int (nI c)), (2, .int (nI i))] [] := by
          intro f_
          induction f_ with
          | zero => intro i e hi he hm_; exact absurd hm_ (Nat.not_lt_zero _)
          | succ f_ ih108 =>
            intro i e hi he hm_
            refine sx_iload_n E dX1_smooth_108 rfl 2 rfl ?_
            refine sx_aload_n E dX1_smooth_109 rfl 0 rfl ?_
            refine sx_gM E rfl 0 (by decide) q218 rfl dX1_smooth_110 ?_
            refine sx_icmp_geN E 160 dX1_smooth_113 (by decide) (by omega) (by omega) (fun c113 => ?_) (fun c113 => ?_)
            · refine sx_iload_n E dX1_smooth_160 rfl 1 rfl ?_
              exact ret _ _ _ (e, mq, u1) dX1_smooth_161 (rfl) (⟨by rw [hcn], by rw [he, show i = n by omega]⟩)
            · refine sx_iconst (v := (nI 0)) E dX1_smooth_116 (by decide) ?_
              refine sx_istore_n E dX1_smooth_117 rfl (by decide) (lv' := [(0, .ref (g 0)), (1, .int (nI c)), (2, .int (nI i)), (3, .int (nI 0))]) [1, 2, 3, 0] rfl ?_
              have L118 : ∀ (f_ : Nat) (j : Nat) (e : Nat → Nat), (j ≤ n) → (e = cpM d n (i * n + j)) → n - j < f_ → sx_S G (pM g cb (nI n) (nF e) mq u1) 118 [(0, .ref (g 0)), (1, .int (nI c)), (2, .int (nI i)), (3, .int (nI j))] [] := by
                intro f_
                induction f_ with
                | zero => intro j e hj he hm_; exact absurd hm_ (Nat.not_lt_zero _)
                | succ f_ ih118 =>
                  intro j e hj he hm_
                  refine sx_iload_n E dX1_smooth_118 rfl 3 rfl ?_
                  refine sx_aload_n E dX1_smooth_119 rfl 0 rfl ?_
                  refine sx_gM E rfl 0 (by decide) q218 rfl dX1_smooth_120 ?_
                  refine sx_icmp_geN E 154 dX1_smooth_123 (by decide) (by omega) (by omega) (fun c123 => ?_) (fun c123 => ?_)
                  · refine sx_iinc E dX1_smooth_154 2 rfl (v := (nI (i + 1))) (inc1 _) (by decide) (lv' := [(0, .ref (g 0)), (1, .int (nI c)), (2, .int (nI (i + 1))), (3, .int (nI j))]) [1, 2, 0, 3] rfl ?_
                    refine sx_goto E 108 dX1_smooth_157 (by decide) ?_
                    refine sx_lv (lv' := [(0, .ref (g 0)), (1, .int (nI c)), (2, .int (nI (i + 1)))]) [0, 1, 2] rfl ?_
                    exact ih108 (i + 1) e (by omega) (by rw [Nat.succ_mul]; rw [show j = n by omega] at he; exact he) (by omega)
                  · refine sx_aload_n E dX1_smooth_126 rfl 0 rfl ?_
                    refine sx_gM E rfl 1 (by decide) q219 rfl dX1_smooth_127 ?_
                    refine sx_bipush (v := (nI 7)) E dX1_smooth_130 (by decide) ?_
                    refine sx_iload_n E dX1_smooth_132 rfl 2 rfl ?_
                    refine sx_imulNN E dX1_smooth_133 ?_
                    refine sx_iload_n E dX1_smooth_134 rfl 3 rfl ?_
                    refine sx_iaddNN E dX1_smooth_135 ?_
                    refine sx_aload_n E dX1_smooth_136 rfl 0 rfl ?_
                    refine sx_gM E rfl 2 (by decide) q220 rfl dX1_smooth_137 ?_
                    refine sx_bipush (v := (nI 7)) E dX1_smooth_140 (by decide) ?_
                    refine sx_iload_n E dX1_smooth_142 rfl 2 rfl ?_
                    refine sx_imulNN E dX1_smooth_143 ?_
                    refine sx_iload_n E dX1_smooth_144 rfl 3 rfl ?_
                    refine sx_iaddNN E dX1_smooth_145 ?_
                    refine sx_iald E 2 1 rfl rfl (by omega) (by decide) (v := (nI (smb d n i j))) (hmk2 i j (by omega) (by omega) trivial) dX1_smooth_146 ?_
                    refine sx_iast E 1 0 rfl rfl (by omega) (by decide) (f' := nF (up_d e ((7 * i) + j) (smb d n i j))) (upd_nF _ _ _) dX1_smooth_147 (ws' := (pM g cb (nI n) (nF (up_d e ((7 * i) + j) (smb d n i j))) mq u1)) rfl ?_
                    refine sx_iinc E dX1_smooth_148 3 rfl (v := (nI (j + 1))) (inc1 _) (by decide) (lv' := [(0, .ref (g 0)), (1, .int (nI c)), (2, .int (nI i)), (3, .int (nI (j + 1)))]) [1, 2, 3, 0] rfl ?_
                    refine sx_goto E 118 dX1_smooth_151 (by decide) ?_
                    exact ih118 (j + 1) ((up_d e ((7 * i) + j) (smb d n i j))) (by omega) (by rw [cpM_ij c123, he]) (by omega)
              exact L118 _ 0 e (Nat.zero_le _) (he) (Nat.lt_succ_self _)
        exact L108 _ 0 d (Nat.zero_le _) (by rw [Nat.zero_mul]; rfl) (Nat.lt_succ_self _)
      · refine sx_iconst (v := (nI 0)) E dX1_smooth_16 (by decide) ?_
        refine sx_istore_n E dX1_smooth_17 rfl (by decide) (lv' := [(0, .ref (g 0)), (1, .int (nI c)), (2, .int (nI i)), (3, .int (nI 0))]) [1, 2, 3, 0] rfl ?_
        have L18 : ∀ (f_ : Nat) (j : Nat) (c : Nat) (mq : Nat → Int32), (j ≤ n) → (c = cM d n (i * n + j)) → (mkI d n mq i j) → n - j < f_ → sx_S G (pM g cb (nI n) (nF d) mq u1) 18 [(0, .ref (g 0)), (1, .int (nI c)), (2, .int (nI i)), (3, .int (nI j))] [] := by
          intro f_
          induction f_ with
          | zero => intro j c mq hj hc hmk hm_; exact absurd hm_ (Nat.not_lt_zero _)
          | succ f_ ih18 =>
            intro j c mq hj hc hmk hm_
            refine sx_iload_n E dX1_smooth_18 rfl 3 rfl ?_
            refine sx_aload_n E dX1_smooth_19 rfl 0 rfl ?_
            refine sx_gM E rfl 0 (by decide) q218 rfl dX1_smooth_20 ?_
            refine sx_icmp_geN E 100 dX1_smooth_23 (by decide) (by omega) (by omega) (fun c23 => ?_) (fun c23 => ?_)
            · refine sx_iinc E dX1_smooth_100 2 rfl (v := (nI (i + 1))) (inc1 _) (by decide) (lv' := [(0, .ref (g 0)), (1, .int (nI c)), (2, .int (nI (i + 1))), (3, .int (nI j))]) [1, 2, 0, 3] rfl ?_
              refine sx_goto E 8 dX1_smooth_103 (by decide) ?_
              refine sx_lv (lv' := [(0, .ref (g 0)), (1, .int (nI c)), (2, .int (nI (i + 1)))]) [0, 1, 2] rfl ?_
              exact ih8 (i + 1) c mq (by omega) (by rw [Nat.succ_mul]; rw [show j = n by omega] at hc; exact hc) (mkI_row (by rw [← show j = n by omega]; rw [← show j = n by omega] at hmk; exact hmk)) (by omega)
            · refine sx_aload_n E dX1_smooth_26 rfl 0 rfl ?_
              refine sx_iload_n E dX1_smooth_27 rfl 2 rfl ?_
              refine sx_iload_n E dX1_smooth_28 rfl 3 rfl ?_
              refine sx_callr (rest := []) E (cM_between l D g cb n d _ _ hn hd hw i j (by omega) (by omega)) wM_between kM_between ⟨⟨rfl, rfl⟩, by decide, by decide⟩ rfl rfl rfl (Nat.le_of_ble_eq_true rfl) dX1_smooth_29 ?_
              have hbl := bet_le hd hn i j
              refine sx_iconst (v := (nI 2)) E dX1_smooth_32 (by decide) ?_
              refine sx_idivNN E dX1_smooth_33 (by omega) (by omega) (by omega) ?_
              refine sx_istore E dX1_smooth_34 (by decide) (lv' := [(0, .ref (g 0)), (1, .int (nI c)), (2, .int (nI i)), (3, .int (nI j)), (4, .int (nI ((bet d n i j) / 2)))]) [1, 2, 3, 4, 0] rfl ?_
              refine sx_aload_n E dX1_smooth_36 rfl 0 rfl ?_
              refine sx_gM E rfl 2 (by decide) q220 rfl dX1_smooth_37 ?_
              refine sx_bipush (v := (nI 7)) E dX1_smooth_40 (by decide) ?_
              refine sx_iload_n E dX1_smooth_42 rfl 2 rfl ?_
              refine sx_imulNN E dX1_smooth_43 ?_
              refine sx_iload_n E dX1_smooth_44 rfl 3 rfl ?_
              refine sx_iaddNN E dX1_smooth_45 ?_
              refine sx_iload E dX1_smooth_46 4 rfl ?_
              refine sx_bipush (v := (nI 60)) E dX1_smooth_48 (by decide) ?_
              refine sx_icmp_leN E 58 dX1_smooth_50 (by decide) (by omega) (by omega) (fun c50 => ?_) (fun c50 => ?_)
              · refine sx_iload E dX1_smooth_58 4 rfl ?_
                have hsm := smb_le d n i j
                refine sx_top (y := (nI (smb d n i j))) (by unfold smb; rw [if_neg (by omega)]) ?_
                refine sx_iast E 2 1 rfl rfl (by omega) (by decide) (f' := upd mq ((7 * i) + j) (nI (smb d n i j))) (rfl) dX1_smooth_60 (ws' := (pM g cb (nI n) (nF d) (upd mq ((7 * i) + j) (nI (smb d n i j))) u1)) rfl ?_
                refine sx_iload_n E dX1_smooth_61 rfl 2 rfl ?_
                refine sx_iload_n E dX1_smooth_62 rfl 3 rfl ?_
                refine sx_icmp_geN E 94 dX1_smooth_63 (by decide) (by omega) (by omega) (fun c63 => ?_) (fun c63 => ?_)
                · refine sx_iinc E dX1_smooth_94 3 rfl (v := (nI (j + 1))) (inc1 _) (by decide) (lv' := [(0, .ref (g 0)), (1, .int (nI c)), (2, .int (nI i)), (3, .int (nI (j + 1))), (4, .int (nI ((bet d n i j) / 2)))]) [1, 2, 3, 0, 4] rfl ?_
                  refine sx_goto E 18 dX1_smooth_97 (by decide) ?_
                  refine sx_lv (lv' := [(0, .ref (g 0)), (1, .int (nI c)), (2, .int (nI i)), (3, .int (nI (j + 1)))]) [0, 1, 2, 3] rfl ?_
                  exact ih18 (j + 1) c (upd mq ((7 * i) + j) (nI (smb d n i j))) (by omega) (by rw [cM_ij c23, if_neg (by omega)]; exact hc) (mkI_s hn c23 hmk) (by omega)
                · refine sx_aload_n E dX1_smooth_66 rfl 0 rfl ?_
                  refine sx_gM E rfl 2 (by decide) q220 rfl dX1_smooth_67 ?_
                  refine sx_bipush (v := (nI 7)) E dX1_smooth_70 (by decide) ?_
                  refine sx_iload_n E dX1_smooth_72 rfl 2 rfl ?_
                  refine sx_imulNN E dX1_smooth_73 ?_
                  refine sx_iload_n E dX1_smooth_74 rfl 3 rfl ?_
                  refine sx_iaddNN E dX1_smooth_75 ?_
                  refine sx_iald E 2 1 rfl rfl (by omega) (by decide) (v := (nI (smb d n i j))) (upd_at _ _ _) dX1_smooth_76 ?_
                  refine sx_aload_n E dX1_smooth_77 rfl 0 rfl ?_
                  refine sx_gM E rfl 1 (by decide) q219 rfl dX1_smooth_78 ?_
                  refine sx_bipush (v := (nI 7)) E dX1_smooth_81 (by decide) ?_
                  refine sx_iload_n E dX1_smooth_83 rfl 2 rfl ?_
                  refine sx_imulNN E dX1_smooth_84 ?_
                  refine sx_iload_n E dX1_smooth_85 rfl 3 rfl ?_
                  refine sx_iaddNN E dX1_smooth_86 ?_
                  refine sx_iald E 1 0 rfl rfl (by omega) (by decide) (v := (nI (d ((7 * i) + j)))) (rfl) dX1_smooth_87 ?_
                  have hdij := hd (7 * i + j)
                  refine sx_icmp_eqN E 94 dX1_smooth_88 (by decide) (by omega) (by omega) (fun c88 => ?_) (fun c88 => ?_)
                  · refine sx_iinc E dX1_smooth_94 3 rfl (v := (nI (j + 1))) (inc1 _) (by decide) (lv' := [(0, .ref (g 0)), (1, .int (nI c)), (2, .int (nI i)), (3, .int (nI (j + 1))), (4, .int (nI ((bet d n i j) / 2)))]) [1, 2, 3, 0, 4] rfl ?_
                    refine sx_goto E 18 dX1_smooth_97 (by decide) ?_
                    refine sx_lv (lv' := [(0, .ref (g 0)), (1, .int (nI c)), (2, .int (nI i)), (3, .int (nI (j + 1)))]) [0, 1, 2, 3] rfl ?_
                    exact ih18 (j + 1) c (upd mq ((7 * i) + j) (nI (smb d n i j))) (by omega) (by rw [cM_ij c23, if_neg (by omega)]; exact hc) (mkI_s hn c23 hmk) (by omega)
                  · refine sx_iinc E dX1_smooth_91 1 rfl (v := (nI (c + 1))) (inc1 _) (by decide) (lv' := [(0, .ref (g 0)), (1, .int (nI (c + 1))), (2, .int (nI i)), (3, .int (nI j)), (4, .int (nI ((bet d n i j) / 2)))]) [1, 0, 2, 3, 4] rfl ?_
                    refine sx_iinc E dX1_smooth_94 3 rfl (v := (nI (j + 1))) (inc1 _) (by decide) (lv' := [(0, .ref (g 0)), (1, .int (nI (c + 1))), (2, .int (nI i)), (3, .int (nI (j + 1))), (4, .int (nI ((bet d n i j) / 2)))]) [1, 2, 3, 0, 4] rfl ?_
                    refine sx_goto E 18 dX1_smooth_97 (by decide) ?_
                    refine sx_lv (lv' := [(0, .ref (g 0)), (1, .int (nI (c + 1))), (2, .int (nI i)), (3, .int (nI (j + 1)))]) [0, 1, 2, 3] rfl ?_
                    exact ih18 (j + 1) (c + 1) (upd mq ((7 * i) + j) (nI (smb d n i j))) (by omega) (by rw [cM_ij c23, if_pos ⟨c63, c88⟩, hc]) (mkI_s hn c23 hmk) (by omega)
              · refine sx_bipush (v := (nI 60)) E dX1_smooth_53 (by decide) ?_
                refine sx_goto E 60 dX1_smooth_55 (by decide) ?_
                have hsm := smb_le d n i j
                refine sx_top (y := (nI (smb d n i j))) (by unfold smb; rw [if_pos c50]) ?_
                refine sx_iast E 2 1 rfl rfl (by omega) (by decide) (f' := upd mq ((7 * i) + j) (nI (smb d n i j))) (rfl) dX1_smooth_60 (ws' := (pM g cb (nI n) (nF d) (upd mq ((7 * i) + j) (nI (smb d n i j))) u1)) rfl ?_
                refine sx_iload_n E dX1_smooth_61 rfl 2 rfl ?_
                refine sx_iload_n E dX1_smooth_62 rfl 3 rfl ?_
                refine sx_icmp_geN E 94 dX1_smooth_63 (by decide) (by omega) (by omega) (fun c63 => ?_) (fun c63 => ?_)
                · refine sx_iinc E dX1_smooth_94 3 rfl (v := (nI (j + 1))) (inc1 _) (by decide) (lv' := [(0, .ref (g 0)), (1, .int (nI c)), (2, .int (nI i)), (3, .int (nI (j + 1))), (4, .int (nI ((bet d n i j) / 2)))]) [1, 2, 3, 0, 4] rfl ?_
                  refine sx_goto E 18 dX1_smooth_97 (by decide) ?_
                  refine sx_lv (lv' := [(0, .ref (g 0)), (1, .int (nI c)), (2, .int (nI i)), (3, .int (nI (j + 1)))]) [0, 1, 2, 3] rfl ?_
                  exact ih18 (j + 1) c (upd mq ((7 * i) + j) (nI (smb d n i j))) (by omega) (by rw [cM_ij c23, if_neg (by omega)]; exact hc) (mkI_s hn c23 hmk) (by omega)
                · refine sx_aload_n E dX1_smooth_66 rfl 0 rfl ?_
                  refine sx_gM E rfl 2 (by decide) q220 rfl dX1_smooth_67 ?_
                  refine sx_bipush (v := (nI 7)) E dX1_smooth_70 (by decide) ?_
                  refine sx_iload_n E dX1_smooth_72 rfl 2 rfl ?_
                  refine sx_imulNN E dX1_smooth_73 ?_
                  refine sx_iload_n E dX1_smooth_74 rfl 3 rfl ?_
                  refine sx_iaddNN E dX1_smooth_75 ?_
                  refine sx_iald E 2 1 rfl rfl (by omega) (by decide) (v := (nI (smb d n i j))) (upd_at _ _ _) dX1_smooth_76 ?_
                  refine sx_aload_n E dX1_smooth_77 rfl 0 rfl ?_
                  refine sx_gM E rfl 1 (by decide) q219 rfl dX1_smooth_78 ?_
                  refine sx_bipush (v := (nI 7)) E dX1_smooth_81 (by decide) ?_
                  refine sx_iload_n E dX1_smooth_83 rfl 2 rfl ?_
                  refine sx_imulNN E dX1_smooth_84 ?_
                  refine sx_iload_n E dX1_smooth_85 rfl 3 rfl ?_
                  refine sx_iaddNN E dX1_smooth_86 ?_
                  refine sx_iald E 1 0 rfl rfl (by omega) (by decide) (v := (nI (d ((7 * i) + j)))) (rfl) dX1_smooth_87 ?_
                  have hdij := hd (7 * i + j)
                  refine sx_icmp_eqN E 94 dX1_smooth_88 (by decide) (by omega) (by omega) (fun c88 => ?_) (fun c88 => ?_)
                  · refine sx_iinc E dX1_smooth_94 3 rfl (v := (nI (j + 1))) (inc1 _) (by decide) (lv' := [(0, .ref (g 0)), (1, .int (nI c)), (2, .int (nI i)), (3, .int (nI (j + 1))), (4, .int (nI ((bet d n i j) / 2)))]) [1, 2, 3, 0, 4] rfl ?_
                    refine sx_goto E 18 dX1_smooth_97 (by decide) ?_
                    refine sx_lv (lv' := [(0, .ref (g 0)), (1, .int (nI c)), (2, .int (nI i)), (3, .int (nI (j + 1)))]) [0, 1, 2, 3] rfl ?_
                    exact ih18 (j + 1) c (upd mq ((7 * i) + j) (nI (smb d n i j))) (by omega) (by rw [cM_ij c23, if_neg (by omega)]; exact hc) (mkI_s hn c23 hmk) (by omega)
                  · refine sx_iinc E dX1_smooth_91 1 rfl (v := (nI (c + 1))) (inc1 _) (by decide) (lv' := [(0, .ref (g 0)), (1, .int (nI (c + 1))), (2, .int (nI i)), (3, .int (nI j)), (4, .int (nI ((bet d n i j) / 2)))]) [1, 0, 2, 3, 4] rfl ?_
                    refine sx_iinc E dX1_smooth_94 3 rfl (v := (nI (j + 1))) (inc1 _) (by decide) (lv' := [(0, .ref (g 0)), (1, .int (nI (c + 1))), (2, .int (nI i)), (3, .int (nI (j + 1))), (4, .int (nI ((bet d n i j) / 2)))]) [1, 2, 3, 0, 4] rfl ?_
                    refine sx_goto E 18 dX1_smooth_97 (by decide) ?_
                    refine sx_lv (lv' := [(0, .ref (g 0)), (1, .int (nI (c + 1))), (2, .int (nI i)), (3, .int (nI (j + 1)))]) [0, 1, 2, 3] rfl ?_
                    exact ih18 (j + 1) (c + 1) (upd mq ((7 * i) + j) (nI (smb d n i j))) (by omega) (by rw [cM_ij c23, if_pos ⟨c63, c88⟩, hc]) (mkI_s hn c23 hmk) (by omega)
        exact L18 _ 0 c mq (Nat.zero_le _) (hc) (hmk) (Nat.lt_succ_self _)
  exact L8 _ 0 0 mk (Nat.zero_le _) (by rw [Nat.zero_mul]; rfl) (fun a b ha hb hab => absurd hab (by omega)) (Nat.lt_succ_self _)
end
section
set_option maxRecDepth 100000
def f0X : List Value := [.int 0, .null, .int 0, .int 0, .null, .null, .int 0, .null, .null, .null]
def w0X (h0 : Nat) : va_W := [(h0, .inr (0, f0X))]
set_option maxHeartbeats 4000000 in
theorem cX_init (l : Launch) (D : va_G) (h0 sz : Nat) : Met l yX0_init (ws_ yX0_init cX0_init 1 none) ({ frames := 1, cells := 6, slots := 226, locals := 12 }) (sx_Pc D [] (w0X h0) sz [.ref h0]) (va_Qv (fun u : (Nat → Nat) × (Nat → ClassId) => u.1 0 = h0) (fun u => sx_B D (tyX u.2) (va_A (w0X h0) sz) (pX u.1 u.2 (nI 0) (bI false) (nI 0) (nI 0) (nF fun _ => 0) (nF fun _ => 0) (nF fun _ => 0) (nF fun _ => 0) (nF fun _ => 0) (nF fun _ => 0))) (va_A (w0X h0) sz)) 6 226 (va_A (w0X h0) sz) := by
  refine Met.ofW (cc := cX0_init) (maxL := 1) (ret := none) (by decide) rfl ?_
  intro p e s m args below meth c s₁ B hml hv
  obtain ⟨rfl, hsz, hP, hK, hD0⟩ := hv
  have hx := B.exec
  have hb := B.bytes
  have hr := B.returns
  have hts := atoms_spec (ws := ws_ yX0_init cX0_init 1 none) B.pre
  have hts : ∀ w ∈ lw_all, w.before _ s = true := fun w h => hts w (List.mem_cons_of_mem _ h)
  have hown : s.vm.findClass RX0 = some m.cls := findClass_of_methodNamed B.named
  have hlocks := B.notSynchronized
  have hin : meth.name = "<init>" := (name_of_methodNamed B.named B.method).1
  subst hsz
  have hD := hD0.self (sz := s.heap.size)
  generalize hAe : va_A (w0X h0) s.heap.size = A at hD ⊢
  have hA : ∀ q : Nat, s.heap.size ≤ q → A q := fun q h => by rw [← hAe]; exact Or.inr h
  have hS : va_S A s.heap s.heap [] := va_S.rf
  have hP : va_P D cls2 [(h0, .inr (0, [.int 0, .null, .int 0, .int 0, .null, .null, .int 0, .null, .null, .null]))] s.heap := hP
  have hD : va_D A [(h0, .inr (0, [.int 0, .null, .int 0, .int 0, .null, .null, .int 0, .null, .null, .null]))] := hD
  have hl := lv_entry ([.ref h0]) (n := 1) (Nat.le_of_ble_eq_true rfl)
  rw [lg_entry_eq]
  generalize (lg_sl ([.ref h0]) ++ List.replicate (1 - (lg_sl ([.ref h0])).length) Slot.unset).toArray = ls at hl ⊢
  have hl : lv_has ls 1 [(0, .ref h0)] := hl
  refine lv_aload_n hx hb dX0_init_0 rfl (lv_at hl 0 rfl) ?_
  refine W.objInit hx hb hown (hts _ q36) (hts _ q37) (hts _ q38) rfl (by rw [hml]; exact hl.1) rfl dX0_init_1 (Nat.le_of_ble_eq_true rfl) (Nat.le_of_ble_eq_true rfl) ?_
  refine W.eq (g2 := F0 m 4 ls []) rfl ?_
  refine lv_aload_n hx hb dX0_init_4 rfl (lv_at hl 0 rfl) ?_
  refine lv_bipush (v := 49) hx hb dX0_init_5 (by decide) ?_
  refine va_newa (atype := .byte) (a0 := (49, .inl (fun _ => 0))) (N' := 49) (ty := .byte) hx hb (hts _ q70) rfl hK hP hD hS hA (fun _ => rfl) (by decide) (by decide) (by decide) (Nat.le_of_ble_eq_true rfl) (Nat.le_of_ble_eq_true rfl) dX0_init_7 (fun q1 c1 H hK hP hD hS => ?_)
  have hP : va_P D cls2 [(h0, .inr (0, [.int 0, .null, .int 0, .int 0, .null, .null, .int 0, .null, .null, .null])), (q1, .inl (c1, 49, .inl (fun _ => 0)))] H := hP
  have hD : va_D A [(h0, .inr (0, [.int 0, .null, .int 0, .int 0, .null, .null, .int 0, .null, .null, .null])), (q1, .inl (c1, 49, .inl (fun _ => 0)))] := hD
  have hK : va_K D cls2 [(c1, .byte)] s := hK
  refine W.widen (k := 1) (n := 49) (Nat.le_of_ble_eq_true rfl) (Nat.le_of_ble_eq_true rfl) ?_
  refine va_putF (D := D) (ci := 0) (v := .ref q1) (ty := .array .byte) (C := RX0) (T := TX0) (N := 10) hx hb hts in_X0 tyX0 tyX0_ok nmX0 hown hK hP hD hS 0 rfl rfl 1 (by decide) (hts _ q40) (fun _ h9 => h9) rfl hin rfl (by decide +kernel) rfl rfl (Nat.le_of_ble_eq_true rfl) dX0_init_9 (fun H locs hP hD hS => ?_)
  have hP : va_P D cls2 [(h0, .inr (0, [.int 0, .ref q1, .int 0, .int 0, .null, .null, .int 0, .null, .null, .null])), (q1, .inl (c1, 49, .inl (fun _ => 0)))] H := hP
  have hD : va_D A [(h0, .inr (0, [.int 0, .ref q1, .int 0, .int 0, .null, .null, .int 0, .null, .null, .null])), (q1, .inl (c1, 49, .inl (fun _ => 0)))] := hD
  refine lv_aload_n hx hb dX0_init_12 rfl (lv_at hl 0 rfl) ?_
  refine lv_bipush (v := 32) hx hb dX0_init_13 (by decide) ?_
  refine va_newa (atype := .byte) (a0 := (32, .inl (fun _ => 0))) (N' := 32) (ty := .byte) hx hb (hts _ q70) rfl hK hP hD hS hA (fun _ => rfl) (by decide) (by decide) (by decide) (Nat.le_of_ble_eq_true rfl) (Nat.le_of_ble_eq_true rfl) dX0_init_15 (fun q2 c2 H hK hP hD hS => ?_)
  have hP : va_P D cls2 [(h0, .inr (0, [.int 0, .ref q1, .int 0, .int 0, .null, .null, .int 0, .null, .null, .null])), (q1, .inl (c1, 49, .inl (fun _ => 0))), (q2, .inl (c2, 32, .inl (fun _ => 0)))] H := hP
  have hD : va_D A [(h0, .inr (0, [.int 0, .ref q1, .int 0, .int 0, .null, .null, .int 0, .null, .null, .null])), (q1, .inl (c1, 49, .inl (fun _ => 0))), (q2, .inl (c2, 32, .inl (fun _ => 0)))] := hD
  have hK : va_K D cls2 [(c1, .byte), (c2, .byte)] s := hK
  refine W.widen (k := 2) (n := 81) (Nat.le_of_ble_eq_true rfl) (Nat.le_of_ble_eq_true rfl) ?_
  refine va_putF (D := D) (ci := 0) (v := .ref q2) (ty := .array .byte) (C := RX0) (T := TX0) (N := 10) hx hb hts in_X0 tyX0 tyX0_ok nmX0 hown hK hP hD hS 0 rfl rfl 4 (by decide) (hts _ q43) (fun _ h9 => h9) rfl hin rfl (by decide +kernel) rfl rfl (Nat.le_of_ble_eq_true rfl) dX0_init_17 (fun H locs hP hD hS => ?_)
  have hP : va_P D cls2 [(h0, .inr (0, [.int 0, .ref q1, .int 0, .int 0, .ref q2, .null, .int 0, .null, .null, .null])), (q1, .inl (c1, 49, .inl (fun _ => 0))), (q2, .inl (c2, 32, .inl (fun _ => 0)))] H := hP
  have hD : va_D A [(h0, .inr (0, [.int 0, .ref q1, .int 0, .int 0, .ref q2, .null, .int 0, .null, .null, .null])), (q1, .inl (c1, 49, .inl (fun _ => 0))), (q2, .inl (c2, 32, .inl (fun _ => 0)))] := hD
  refine lv_aload_n hx hb dX0_init_20 rfl (lv_at hl 0 rfl) ?_
  refine lv_bipush (v := 32) hx hb dX0_init_21 (by decide) ?_
  refine va_newa (atype := .int) (a0 := (32, .inl (fun _ => 0))) (N' := 32) (ty := .int) hx hb (hts _ q71) rfl hK hP hD hS hA (fun _ => rfl) (by decide) (by decide) (by decide) (Nat.le_of_ble_eq_true rfl) (Nat.le_of_ble_eq_true rfl) dX0_init_23 (fun q3 c3 H hK hP hD hS => ?_)
  have hP : va_P D cls2 [(h0, .inr (0, [.int 0, .ref q1, .int 0, .int 0, .ref q2, .null, .int 0, .null, .null, .null])), (q1, .inl (c1, 49, .inl (fun _ => 0))), (q2, .inl (c2, 32, .inl (fun _ => 0))), (q3, .inl (c3, 32, .inl (fun _ => 0)))] H := hP
  have hD : va_D A [(h0, .inr (0, [.int 0, .ref q1, .int 0, .int 0, .ref q2, .null, .int 0, .null, .null, .null])), (q1, .inl (c1, 49, .inl (fun _ => 0))), (q2, .inl (c2, 32, .inl (fun _ => 0))), (q3, .inl (c3, 32, .inl (fun _ => 0)))] := hD
  have hK : va_K D cls2 [(c1, .byte), (c2, .byte), (c3, .int)] s := hK
  refine W.widen (k := 3) (n := 113) (Nat.le_of_ble_eq_true rfl) (Nat.le_of_ble_eq_true rfl) ?_
  refine va_putF (D := D) (ci := 0) (v := .ref q3) (ty := .array .int) (C := RX0) (T := TX0) (N := 10) hx hb hts in_X0 tyX0 tyX0_ok nmX0 hown hK hP hD hS 0 rfl rfl 5 (by decide) (hts _ q44) (fun _ h9 => h9) rfl hin rfl (by decide +kernel) rfl rfl (Nat.le_of_ble_eq_true rfl) dX0_init_25 (fun H locs hP hD hS => ?_)
  have hP : va_P D cls2 [(h0, .inr (0, [.int 0, .ref q1, .int 0, .int 0, .ref q2, .ref q3, .int 0, .null, .null, .null])), (q1, .inl (c1, 49, .inl (fun _ => 0))), (q2, .inl (c2, 32, .inl (fun _ => 0))), (q3, .inl (c3, 32, .inl (fun _ => 0)))] H := hP
  have hD : va_D A [(h0, .inr (0, [.int 0, .ref q1, .int 0, .int 0, .ref q2, .ref q3, .int 0, .null, .null, .null])), (q1, .inl (c1, 49, .inl (fun _ => 0))), (q2, .inl (c2, 32, .inl (fun _ => 0))), (q3, .inl (c3, 32, .inl (fun _ => 0)))] := hD
  refine lv_aload_n hx hb dX0_init_28 rfl (lv_at hl 0 rfl) ?_
  refine lv_bipush (v := 32) hx hb dX0_init_29 (by decide) ?_
  refine va_newa (atype := .byte) (a0 := (32, .inl (fun _ => 0))) (N' := 32) (ty := .byte) hx hb (hts _ q70) rfl hK hP hD hS hA (fun _ => rfl) (by decide) (by decide) (by decide) (Nat.le_of_ble_eq_true rfl) (Nat.le_of_ble_eq_true rfl) dX0_init_31 (fun q4 c4 H hK hP hD hS => ?_)
  have hP : va_P D cls2 [(h0, .inr (0, [.int 0, .ref q1, .int 0, .int 0, .ref q2, .ref q3, .int 0, .null, .null, .null])), (q1, .inl (c1, 49, .inl (fun _ => 0))), (q2, .inl (c2, 32, .inl (fun _ => 0))), (q3, .inl (c3, 32, .inl (fun _ => 0))), (q4, .inl (c4, 32, .inl (fun _ => 0)))] H := hP
  have hD : va_D A [(h0, .inr (0, [.int 0, .ref q1, .int 0, .int 0, .ref q2, .ref q3, .int 0, .null, .null, .null])), (q1, .inl (c1, 49, .inl (fun _ => 0))), (q2, .inl (c2, 32, .inl (fun _ => 0))), (q3, .inl (c3, 32, .inl (fun _ => 0))), (q4, .inl (c4, 32, .inl (fun _ => 0)))] := hD
  have hK : va_K D cls2 [(c1, .byte), (c2, .byte), (c3, .int), (c4, .byte)] s := hK
  refine W.widen (k := 4) (n := 145) (Nat.le_of_ble_eq_true rfl) (Nat.le_of_ble_eq_true rfl) ?_
  refine va_putF (D := D) (ci := 0) (v := .ref q4) (ty := .array .byte) (C := RX0) (T := TX0) (N := 10) hx hb hts in_X0 tyX0 tyX0_ok nmX0 hown hK hP hD hS 0 rfl rfl 7 (by decide) (hts _ q46) (fun _ h9 => h9) rfl hin rfl (by decide +kernel) rfl rfl (Nat.le_of_ble_eq_true rfl) dX0_init_33 (fun H locs hP hD hS => ?_)
  have hP : va_P D cls2 [(h0, .inr (0, [.int 0, .ref q1, .int 0, .int 0, .ref q2, .ref q3, .int 0, .ref q4, .null, .null])), (q1, .inl (c1, 49, .inl (fun _ => 0))), (q2, .inl (c2, 32, .inl (fun _ => 0))), (q3, .inl (c3, 32, .inl (fun _ => 0))), (q4, .inl (c4, 32, .inl (fun _ => 0)))] H := hP
  have hD : va_D A [(h0, .inr (0, [.int 0, .ref q1, .int 0, .int 0, .ref q2, .ref q3, .int 0, .ref q4, .null, .null])), (q1, .inl (c1, 49, .inl (fun _ => 0))), (q2, .inl (c2, 32, .inl (fun _ => 0))), (q3, .inl (c3, 32, .inl (fun _ => 0))), (q4, .inl (c4, 32, .inl (fun _ => 0)))] := hD
  refine lv_aload_n hx hb dX0_init_36 rfl (lv_at hl 0 rfl) ?_
  refine lv_bipush (v := 32) hx hb dX0_init_37 (by decide) ?_
  refine va_newa (atype := .int) (a0 := (32, .inl (fun _ => 0))) (N' := 32) (ty := .int) hx hb (hts _ q71) rfl hK hP hD hS hA (fun _ => rfl) (by decide) (by decide) (by decide) (Nat.le_of_ble_eq_true rfl) (Nat.le_of_ble_eq_true rfl) dX0_init_39 (fun q5 c5 H hK hP hD hS => ?_)
  have hP : va_P D cls2 [(h0, .inr (0, [.int 0, .ref q1, .int 0, .int 0, .ref q2, .ref q3, .int 0, .ref q4, .null, .null])), (q1, .inl (c1, 49, .inl (fun _ => 0))), (q2, .inl (c2, 32, .inl (fun _ => 0))), (q3, .inl (c3, 32, .inl (fun _ => 0))), (q4, .inl (c4, 32, .inl (fun _ => 0))), (q5, .inl (c5, 32, .inl (fun _ => 0)))] H := hP
  have hD : va_D A [(h0, .inr (0, [.int 0, .ref q1, .int 0, .int 0, .ref q2, .ref q3, .int 0, .ref q4, .null, .null])), (q1, .inl (c1, 49, .inl (fun _ => 0))), (q2, .inl (c2, 32, .inl (fun _ => 0))), (q3, .inl (c3, 32, .inl (fun _ => 0))), (q4, .inl (c4, 32, .inl (fun _ => 0))), (q5, .inl (c5, 32, .inl (fun _ => 0)))] := hD
  have hK : va_K D cls2 [(c1, .byte), (c2, .byte), (c3, .int), (c4, .byte), (c5, .int)] s := hK
  refine W.widen (k := 5) (n := 177) (Nat.le_of_ble_eq_true rfl) (Nat.le_of_ble_eq_true rfl) ?_
  refine va_putF (D := D) (ci := 0) (v := .ref q5) (ty := .array .int) (C := RX0) (T := TX0) (N := 10) hx hb hts in_X0 tyX0 tyX0_ok nmX0 hown hK hP hD hS 0 rfl rfl 8 (by decide) (hts _ q47) (fun _ h9 => h9) rfl hin rfl (by decide +kernel) rfl rfl (Nat.le_of_ble_eq_true rfl) dX0_init_41 (fun H locs hP hD hS => ?_)
  have hP : va_P D cls2 [(h0, .inr (0, [.int 0, .ref q1, .int 0, .int 0, .ref q2, .ref q3, .int 0, .ref q4, .ref q5, .null])), (q1, .inl (c1, 49, .inl (fun _ => 0))), (q2, .inl (c2, 32, .inl (fun _ => 0))), (q3, .inl (c3, 32, .inl (fun _ => 0))), (q4, .inl (c4, 32, .inl (fun _ => 0))), (q5, .inl (c5, 32, .inl (fun _ => 0)))] H := hP
  have hD : va_D A [(h0, .inr (0, [.int 0, .ref q1, .int 0, .int 0, .ref q2, .ref q3, .int 0, .ref q4, .ref q5, .null])), (q1, .inl (c1, 49, .inl (fun _ => 0))), (q2, .inl (c2, 32, .inl (fun _ => 0))), (q3, .inl (c3, 32, .inl (fun _ => 0))), (q4, .inl (c4, 32, .inl (fun _ => 0))), (q5, .inl (c5, 32, .inl (fun _ => 0)))] := hD
  refine lv_aload_n hx hb dX0_init_44 rfl (lv_at hl 0 rfl) ?_
  refine lv_bipush (v := 49) hx hb dX0_init_45 (by decide) ?_
  refine va_newa (atype := .byte) (a0 := (49, .inl (fun _ => 0))) (N' := 49) (ty := .byte) hx hb (hts _ q70) rfl hK hP hD hS hA (fun _ => rfl) (by decide) (by decide) (by decide) (Nat.le_of_ble_eq_true rfl) (Nat.le_of_ble_eq_true rfl) dX0_init_47 (fun q6 c6 H hK hP hD hS => ?_)
  have hP : va_P D cls2 [(h0, .inr (0, [.int 0, .ref q1, .int 0, .int 0, .ref q2, .ref q3, .int 0, .ref q4, .ref q5, .null])), (q1, .inl (c1, 49, .inl (fun _ => 0))), (q2, .inl (c2, 32, .inl (fun _ => 0))), (q3, .inl (c3, 32, .inl (fun _ => 0))), (q4, .inl (c4, 32, .inl (fun _ => 0))), (q5, .inl (c5, 32, .inl (fun _ => 0))), (q6, .inl (c6, 49, .inl (fun _ => 0)))] H := hP
  have hD : va_D A [(h0, .inr (0, [.int 0, .ref q1, .int 0, .int 0, .ref q2, .ref q3, .int 0, .ref q4, .ref q5, .null])), (q1, .inl (c1, 49, .inl (fun _ => 0))), (q2, .inl (c2, 32, .inl (fun _ => 0))), (q3, .inl (c3, 32, .inl (fun _ => 0))), (q4, .inl (c4, 32, .inl (fun _ => 0))), (q5, .inl (c5, 32, .inl (fun _ => 0))), (q6, .inl (c6, 49, .inl (fun _ => 0)))] := hD
  have hK : va_K D cls2 [(c1, .byte), (c2, .byte), (c3, .int), (c4, .byte), (c5, .int), (c6, .byte)] s := hK
  refine W.widen (k := 6) (n := 226) (Nat.le_of_ble_eq_true rfl) (Nat.le_of_ble_eq_true rfl) ?_
  refine va_putF (D := D) (ci := 0) (v := .ref q6) (ty := .array .byte) (C := RX0) (T := TX0) (N := 10) hx hb hts in_X0 tyX0 tyX0_ok nmX0 hown hK hP hD hS 0 rfl rfl 9 (by decide) (hts _ q48) (fun _ h9 => h9) rfl hin rfl (by decide +kernel) rfl rfl (Nat.le_of_ble_eq_true rfl) dX0_init_49 (fun H locs hP hD hS => ?_)
  have hP : va_P D cls2 [(h0, .inr (0, [.int 0, .ref q1, .int 0, .int 0, .ref q2, .ref q3, .int 0, .ref q4, .ref q5, .ref q6])), (q1, .inl (c1, 49, .inl (fun _ => 0))), (q2, .inl (c2, 32, .inl (fun _ => 0))), (q3, .inl (c3, 32, .inl (fun _ => 0))), (q4, .inl (c4, 32, .inl (fun _ => 0))), (q5, .inl (c5, 32, .inl (fun _ => 0))), (q6, .inl (c6, 49, .inl (fun _ => 0)))] H := hP
  have hD : va_D A [(h0, .inr (0, [.int 0, .ref q1, .int 0, .int 0, .ref q2, .ref q3, .int 0, .ref q4, .ref q5, .ref q6])), (q1, .inl (c1, 49, .inl (fun _ => 0))), (q2, .inl (c2, 32, .inl (fun _ => 0))), (q3, .inl (c3, 32, .inl (fun _ => 0))), (q4, .inl (c4, 32, .inl (fun _ => 0))), (q5, .inl (c5, 32, .inl (fun _ => 0))), (q6, .inl (c6, 49, .inl (fun _ => 0)))] := hD
  refine lv_aload_n hx hb dX0_init_52 rfl (lv_at hl 0 rfl) ?_
  refine lv_iconst (v := 0) hx hb dX0_init_53 (by decide) ?_
  refine va_put (D := D) (ci := 0) (v := .int 0) (ty := .int) (C := RX0) (T := TX0) (N := 10) hx hb hts in_X0 tyX0 tyX0_ok nmX0 hown hK hP hD hS 0 rfl rfl 0 (by decide) (hts _ q39) (fun _ h9 => h9) rfl (by decide +kernel) rfl rfl (Nat.le_of_ble_eq_true rfl) dX0_init_54 (fun H locs hP hD hS => ?_)
  have hP : va_P D cls2 [(h0, .inr (0, [.int 0, .ref q1, .int 0, .int 0, .ref q2, .ref q3, .int 0, .ref q4, .ref q5, .ref q6])), (q1, .inl (c1, 49, .inl (fun _ => 0))), (q2, .inl (c2, 32, .inl (fun _ => 0))), (q3, .inl (c3, 32, .inl (fun _ => 0))), (q4, .inl (c4, 32, .inl (fun _ => 0))), (q5, .inl (c5, 32, .inl (fun _ => 0))), (q6, .inl (c6, 49, .inl (fun _ => 0)))] H := hP
  have hD : va_D A [(h0, .inr (0, [.int 0, .ref q1, .int 0, .int 0, .ref q2, .ref q3, .int 0, .ref q4, .ref q5, .ref q6])), (q1, .inl (c1, 49, .inl (fun _ => 0))), (q2, .inl (c2, 32, .inl (fun _ => 0))), (q3, .inl (c3, 32, .inl (fun _ => 0))), (q4, .inl (c4, 32, .inl (fun _ => 0))), (q5, .inl (c5, 32, .inl (fun _ => 0))), (q6, .inl (c6, 49, .inl (fun _ => 0)))] := hD
  exact W.vret hx hb hr (fun t ht hW => ⟨⟨(fun k => if k = 0 then h0 else if k = 1 then q1 else if k = 2 then q2 else if k = 3 then q3 else if k = 4 then q4 else if k = 5 then q5 else q6, fun k => if k = 1 then c1 else if k = 2 then c2 else if k = 3 then c3 else if k = 4 then c4 else if k = 5 then c5 else c6), rfl, rfl, by rw [ht]; exact hP, va_K.moved hW.alike hK, hD⟩, hS.F ht⟩) hS.2.2 dX0_init_57
def f0M : List Value := [.int 0, .null, .null, .null]
def w0M (h0 : Nat) : va_W := [(h0, .inr (1, f0M))]
set_option maxHeartbeats 4000000 in
theorem cM_init (l : Launch) (D : va_G) (h0 sz : Nat) : Met l yX1_init (ws_ yX1_init cX1_init 1 none) ({ frames := 1, cells := 3, slots := 226, locals := 12 }) (sx_Pc D [] (w0M h0) sz [.ref h0]) (va_Qv (fun u : (Nat → Nat) × (Nat → ClassId) => u.1 0 = h0) (fun u => sx_B D (tyM u.2) (va_A (w0M h0) sz) (pM u.1 u.2 (nI 0) (nF fun _ => 0) (nF fun _ => 0) (nF fun _ => 0))) (va_A (w0M h0) sz)) 3 226 (va_A (w0M h0) sz) := by
  refine Met.ofW (cc := cX1_init) (maxL := 1) (ret := none) (by decide) rfl ?_
  intro p e s m args below meth c s₁ B hml hv
  obtain ⟨rfl, hsz, hP, hK, hD0⟩ := hv
  have hx := B.exec
  have hb := B.bytes
  have hr := B.returns
  have hts := atoms_spec (ws := ws_ yX1_init cX1_init 1 none) B.pre
  have hts : ∀ w ∈ lw_all, w.before _ s = true := fun w h => hts w (List.mem_cons_of_mem _ h)
  have hown : s.vm.findClass RX1 = some m.cls := findClass_of_methodNamed B.named
  have hlocks := B.notSynchronized
  have hin : meth.name = "<init>" := (name_of_methodNamed B.named B.method).1
  subst hsz
  have hD := hD0.self (sz := s.heap.size)
  generalize hAe : va_A (w0M h0) s.heap.size = A at hD ⊢
  have hA : ∀ q : Nat, s.heap.size ≤ q → A q := fun q h => by rw [← hAe]; exact Or.inr h
  have hS : va_S A s.heap s.heap [] := va_S.rf
  have hP : va_P D cls2 [(h0, .inr (1, [.int 0, .null, .null, .null]))] s.heap := hP
  have hD : va_D A [(h0, .inr (1, [.int 0, .null, .null, .null]))] := hD
  have hl := lv_entry ([.ref h0]) (n := 1) (Nat.le_of_ble_eq_true rfl)
  rw [lg_entry_eq]
  generalize (lg_sl ([.ref h0]) ++ List.replicate (1 - (lg_sl ([.ref h0])).length) Slot.unset).toArray = ls at hl ⊢
  have hl : lv_has ls 1 [(0, .ref h0)] := hl
  refine lv_aload_n hx hb dX1_init_0 rfl (lv_at hl 0 rfl) ?_
  refine W.objInit hx hb hown (hts _ q217) (hts _ q37) (hts _ q38) rfl (by rw [hml]; exact hl.1) rfl dX1_init_1 (Nat.le_of_ble_eq_true rfl) (Nat.le_of_ble_eq_true rfl) ?_
  refine W.eq (g2 := F0 m 4 ls []) rfl ?_
  refine lv_aload_n hx hb dX1_init_4 rfl (lv_at hl 0 rfl) ?_
  refine lv_bipush (v := 49) hx hb dX1_init_5 (by decide) ?_
  refine va_newa (atype := .int) (a0 := (49, .inl (fun _ => 0))) (N' := 49) (ty := .int) hx hb (hts _ q71) rfl hK hP hD hS hA (fun _ => rfl) (by decide) (by decide) (by decide) (Nat.le_of_ble_eq_true rfl) (Nat.le_of_ble_eq_true rfl) dX1_init_7 (fun q1 c1 H hK hP hD hS => ?_)
  have hP : va_P D cls2 [(h0, .inr (1, [.int 0, .null, .null, .null])), (q1, .inl (c1, 49, .inl (fun _ => 0)))] H := hP
  have hD : va_D A [(h0, .inr (1, [.int 0, .null, .null, .null])), (q1, .inl (c1, 49, .inl (fun _ => 0)))] := hD
  have hK : va_K D cls2 [(c1, .int)] s := hK
  refine W.widen (k := 1) (n := 49) (Nat.le_of_ble_eq_true rfl) (Nat.le_of_ble_eq_true rfl) ?_
  refine va_put (D := D) (ci := 1) (v := .ref q1) (ty := .array .int) (C := RX1) (T := TX1) (N := 4) hx hb hts in_X1 tyX1 tyX1_ok nmX1 hown hK hP hD hS 0 rfl rfl 1 (by decide) (hts _ q219) (fun _ h9 => h9) rfl (by decide +kernel) rfl rfl (Nat.le_of_ble_eq_true rfl) dX1_init_9 (fun H locs hP hD hS => ?_)
  have hP : va_P D cls2 [(h0, .inr (1, [.int 0, .ref q1, .null, .null])), (q1, .inl (c1, 49, .inl (fun _ => 0)))] H := hP
  have hD : va_D A [(h0, .inr (1, [.int 0, .ref q1, .null, .null])), (q1, .inl (c1, 49, .inl (fun _ => 0)))] := hD
  refine lv_aload_n hx hb dX1_init_12 rfl (lv_at hl 0 rfl) ?_
  refine lv_bipush (v := 49) hx hb dX1_init_13 (by decide) ?_
  refine va_newa (atype := .int) (a0 := (49, .inl (fun _ => 0))) (N' := 49) (ty := .int) hx hb (hts _ q71) rfl hK hP hD hS hA (fun _ => rfl) (by decide) (by decide) (by decide) (Nat.le_of_ble_eq_true rfl) (Nat.le_of_ble_eq_true rfl) dX1_init_15 (fun q2 c2 H hK hP hD hS => ?_)
  have hP : va_P D cls2 [(h0, .inr (1, [.int 0, .ref q1, .null, .null])), (q1, .inl (c1, 49, .inl (fun _ => 0))), (q2, .inl (c2, 49, .inl (fun _ => 0)))] H := hP
  have hD : va_D A [(h0, .inr (1, [.int 0, .ref q1, .null, .null])), (q1, .inl (c1, 49, .inl (fun _ => 0))), (q2, .inl (c2, 49, .inl (fun _ => 0)))] := hD
  have hK : va_K D cls2 [(c1, .int), (c2, .int)] s := hK
  refine W.widen (k := 2) (n := 98) (Nat.le_of_ble_eq_true rfl) (Nat.le_of_ble_eq_true rfl) ?_
  refine va_put (D := D) (ci := 1) (v := .ref q2) (ty := .array .int) (C := RX1) (T := TX1) (N := 4) hx hb hts in_X1 tyX1 tyX1_ok nmX1 hown hK hP hD hS 0 rfl rfl 2 (by decide) (hts _ q220) (fun _ h9 => h9) rfl (by decide +kernel) rfl rfl (Nat.le_of_ble_eq_true rfl) dX1_init_17 (fun H locs hP hD hS => ?_)
  have hP : va_P D cls2 [(h0, .inr (1, [.int 0, .ref q1, .ref q2, .null])), (q1, .inl (c1, 49, .inl (fun _ => 0))), (q2, .inl (c2, 49, .inl (fun _ => 0)))] H := hP
  have hD : va_D A [(h0, .inr (1, [.int 0, .ref q1, .ref q2, .null])), (q1, .inl (c1, 49, .inl (fun _ => 0))), (q2, .inl (c2, 49, .inl (fun _ => 0)))] := hD
  refine lv_aload_n hx hb dX1_init_20 rfl (lv_at hl 0 rfl) ?_
  refine lv_sipush (v := 128) hx hb dX1_init_21 (by decide) ?_
  refine va_newa (atype := .int) (a0 := (128, .inl (fun _ => 0))) (N' := 128) (ty := .int) hx hb (hts _ q71) rfl hK hP hD hS hA (fun _ => rfl) (by decide) (by decide) (by decide) (Nat.le_of_ble_eq_true rfl) (Nat.le_of_ble_eq_true rfl) dX1_init_24 (fun q3 c3 H hK hP hD hS => ?_)
  have hP : va_P D cls2 [(h0, .inr (1, [.int 0, .ref q1, .ref q2, .null])), (q1, .inl (c1, 49, .inl (fun _ => 0))), (q2, .inl (c2, 49, .inl (fun _ => 0))), (q3, .inl (c3, 128, .inl (fun _ => 0)))] H := hP
  have hD : va_D A [(h0, .inr (1, [.int 0, .ref q1, .ref q2, .null])), (q1, .inl (c1, 49, .inl (fun _ => 0))), (q2, .inl (c2, 49, .inl (fun _ => 0))), (q3, .inl (c3, 128, .inl (fun _ => 0)))] := hD
  have hK : va_K D cls2 [(c1, .int), (c2, .int), (c3, .int)] s := hK
  refine W.widen (k := 3) (n := 226) (Nat.le_of_ble_eq_true rfl) (Nat.le_of_ble_eq_true rfl) ?_
  refine va_put (D := D) (ci := 1) (v := .ref q3) (ty := .array .int) (C := RX1) (T := TX1) (N := 4) hx hb hts in_X1 tyX1 tyX1_ok nmX1 hown hK hP hD hS 0 rfl rfl 3 (by decide) (hts _ q221) (fun _ h9 => h9) rfl (by decide +kernel) rfl rfl (Nat.le_of_ble_eq_true rfl) dX1_init_26 (fun H locs hP hD hS => ?_)
  have hP : va_P D cls2 [(h0, .inr (1, [.int 0, .ref q1, .ref q2, .ref q3])), (q1, .inl (c1, 49, .inl (fun _ => 0))), (q2, .inl (c2, 49, .inl (fun _ => 0))), (q3, .inl (c3, 128, .inl (fun _ => 0)))] H := hP
  have hD : va_D A [(h0, .inr (1, [.int 0, .ref q1, .ref q2, .ref q3])), (q1, .inl (c1, 49, .inl (fun _ => 0))), (q2, .inl (c2, 49, .inl (fun _ => 0))), (q3, .inl (c3, 128, .inl (fun _ => 0)))] := hD
  exact W.vret hx hb hr (fun t ht hW => ⟨⟨(fun k => if k = 0 then h0 else if k = 1 then q1 else if k = 2 then q2 else q3, fun k => if k = 1 then c1 else if k = 2 then c2 else c3), rfl, rfl, by rw [ht]; exact hP, va_K.moved hW.alike hK, hD⟩, hS.F ht⟩) hS.2.2 dX1_init_29
end
section
set_option maxRecDepth 100000
section SXL
variable {G : sx_G} {cc : ByteArray} {own : String} {l : Launch} {D : va_G} {tys : List (ClassId × FieldType)} {R : Room} {nL : Nat} {ws : va_W} {pc : Nat} {lv : List (Nat × Value)} {st rest : List Value}
variable {y : MethodName} {bytes : ByteArray} {maxL : Nat} {ret : FieldType} {rm : Room} {As : List Value} {h ci idx : Nat} {fs : List Value} {C : String} {T : u_T} {N : Nat} {S : Type} {pic : S → va_W}
/-- a call of a method of an object that is a part of the world -/
theorem sx_lcall (E : sx_E G cc own l D tys R nL) {tysC : List (ClassId × FieldType)} {wc : va_W} {post : Int32 → S → Prop} (hC : sx_Ci l y bytes maxL ret rm D tysC (.ref h :: As) wc pic post)
    (hw : GoodIn lw_all (wsV own idx C y (ws_ y bytes maxL (some ret)))) (hd : y.cls = C ∧ y.cls ≠ "java/lang/invoke/MethodHandle" ∧ y.cls ≠ "java/lang/invoke/VarHandle" ∧ (parseMethodDescriptor y.desc).map (fun d => d.parameters.length) = some As.length)
    (hrm : (rm.cells = 0 ∧ rm.slots = 0) ∧ rm.frames + 1 ≤ R.frames ∧ 8 + (maxL + 11) + rm.locals ≤ R.locals) (hc : cls2[ci]? = some (C, T, N)) (he : wc[0]? = some (h, .inr (ci, fs)))
    (isT : List Nat) (hT : isT.filterMap (fun i => tys[i]?) = tysC) (isC isR : List Nat) (wr : va_W) (hCf : isC.filterMap (fun i => ws[i]?) = wc) (hCi : isC.map (fun i => ws[i]?) = wc.map some) (hRi : isR.map (fun i => ws[i]?) = wr.map some) (hnC : va_nd isC = true) (hnR : va_nd isR = true) (hdis : ∀ i ∈ isR, i ∉ isC)
    (hs : st = As.reverse ++ .ref h :: rest) (hr : (rest.map fun v => v.category).sum ≤ 8) (d : decode cc pc = .ok (.invokevirtual idx, 3))
    (k : ∀ (r : Int32) (u : S), post r u → sx_S G (wr ++ pic u) (pc + 3) lv (.int r :: rest)) : sx_S G ws pc lv st := by
  intro H locs ls hP hD hS hl
  obtain ⟨hx, hb, hml, hown, hts, hK, hA, hk, rfl, rfl, rfl, rfl, rfl⟩ := E
  subst hs
  have hPc : va_P (g_D G) cls2 wc H := hP.sub isC hCf
  have hDc : va_D (g_A G) wc := hD.sub isC hnC hCi
  have hKc : va_K (g_D G) cls2 tysC (g_s G) := hK.sub isT hT
  have hF := sx_free hDc hS hA
  refine va_calli (va_runV (As := As) (rest := rest) ⟨hx, hb, hml, hown, hts⟩ (hC H.size) (cwV As.length hts hw rfl hrm.1.1 hrm.1.2 hd hrm.2) ⟨sx_blind, va_recv hKc hPc (ci := ci) (q0 := 0) hc he, fun U hU hW => ⟨rfl, by rw [hU], by rw [hU]; exact hPc, va_K.moved hW.alike hKc, hDc.weaken (fun _ _ _ _ => trivial)⟩⟩ rfl rfl hl.1 rfl (lv_room hr) d ⟨hk.1, hk.2⟩) hS (fun q _ h => hF q h) hF (fun r u t H1 locs1 ht hvm hp hB hz1 hk1 hS1 => ?_)
  obtain ⟨hP1, hK1, hD1⟩ := hB
  rw [ht] at hP1
  obtain ⟨hP2, hD2⟩ := va_join (wr := wr) (w1 := pic u) hP hD isC isR hCi hRi hnR hdis hk1 hF hP1 hD1
  exact k r u hp H1 locs1 ls hP2 hD2 hS1 hl
theorem sx_sld (E : sx_E G cc own l D tys R nL) {b L : Nat} {xs : Nat → Int32} (hX : va_X b L xs (g_s G) (g_s G).heap) (hbl : b < (g_s G).heap.size) (hbA : ¬ g_A G b) {i : Nat} (hi : i < L) (hL : L < 2147483648) {v : Int32} (hv : xs i = v) (d : decode cc pc = .ok (.iaload, 1)) (k : sx_S G ws (pc + 1) lv (.int v :: rest)) : sx_S G ws pc lv (.int (nI i) :: .ref b :: rest) := fun H locs ls hP hD hS hl => by
  subst hv
  refine va_sld E.1 E.2.1 hX hbl hbA hS (vp_in_nI hi hL) d ?_
  rw [nI_clamp (by omega)]
  exact k H locs ls hP hD hS hl
theorem sx_slen (E : sx_E G cc own l D tys R nL) {b L : Nat} {xs : Nat → Int32} (hX : va_X b L xs (g_s G) (g_s G).heap) (hbl : b < (g_s G).heap.size) (hbA : ¬ g_A G b) (d : decode cc pc = .ok (.arraylength, 1)) (k : sx_S G ws (pc + 1) lv (.int (nI L) :: rest)) : sx_S G ws pc lv (.ref b :: rest) := fun H locs ls hP hD hS hl =>
  va_slen E.1 E.2.1 hX hbl hbA hS d (k H locs ls hP hD hS hl)
theorem sx_tabOut (E : sx_E G cc own l D tys R nL) {dflt lo hi : Int} {offs : Array Int} {len : Nat} {x : Int32} (tgt : Nat) (d : decode cc pc = .ok (.tableswitch dflt lo hi offs, len)) (h : x.toInt < lo ∨ hi < x.toInt) (ht : (pc : Int) + dflt = (tgt : Int)) (k : sx_S G ws tgt lv rest) : sx_S G ws pc lv (.int x :: rest) := fun H locs ls hP hD hS hl =>
  lv_tableOut E.1 E.2.1 d h ht (k H locs ls hP hD hS hl)
theorem sx_tabIn (E : sx_E G cc own l D tys R nL) {dflt lo hi : Int} {offs : Array Int} {len : Nat} {x : Int32} (off : Int) (tgt : Nat) (d : decode cc pc = .ok (.tableswitch dflt lo hi offs, len)) (h1 : ¬ x.toInt < lo) (h2 : ¬ hi < x.toInt) (ho : offs[(x.toInt - lo).toNat]? = some off) (ht : (pc : Int) + off = (tgt : Int)) (k : sx_S G ws tgt lv rest) : sx_S G ws pc lv (.int x :: rest) := fun H locs ls hP hD hS hl =>
  lv_tableIn E.1 E.2.1 d h1 h2 ho ht (k H locs ls hP hD hS hl)
end SXL
theorem KN_mut {n : Nat} {d : Nat → Nat} {kn fnd : Int32} {sd ix : Nat → Int32} (hK : KN n d kn fnd sd ix) {u : Int32 × Nat × (Nat → Nat)} (h : u.1 = nI 0 ∨ u = (kn, n, d)) : KN u.2.1 u.2.2 u.1 fnd sd ix := by
  rcases h with h | h
  · exact ⟨false, h, fun e => by cases e⟩
  · rw [h]
    exact hK
theorem KN_smooth {n : Nat} {d e : Nat → Nat} {kn fnd : Int32} {sd ix : Nat → Int32} (h : kn = nI 0 ∨ (kn = nI 1 ∧ e = d)) (h1 : fnd = nI (Es d n).length) (h2 : hold sd ix (Es d n)) : KN n e kn fnd sd ix := by
  rcases h with h | ⟨h, h3⟩
  · exact ⟨false, h, fun e => by cases e⟩
  · rw [h3]
    exact ⟨true, h, fun _ => ⟨h1, h2⟩⟩

set_option maxHeartbeats 8000000 in
theorem law_loop {G : sx_G} {l : Launch} {D : va_G} {h g : Nat → Nat} {ca cb : Nat → ClassId} {b L : Nat} {xs : Nat → Int32} (E : sx_E G cL_law "SplitTreeLaw" l D (tyX ca ++ tyM cb) room_1 4) (hX : va_X b L xs (g_s G) (g_s G).heap) (hbl : b < (g_s G).heap.size) (hbA : ¬ g_A G b) (hL : L ≤ 256) (ret : ∀ (ws : va_W) (pc : Nat) (lv : List (Nat × Value)), decode cL_law pc = .ok (.ireturn, 1) → sx_S G ws pc lv [.int (nI 1)]) : sx_S G ((pX h ca (nI 0) (bI false) (nI 0) (nI 0) (nF fun _ => 0) (nF fun _ => 0) (nF fun _ => 0) (nF fun _ => 0) (nF fun _ => 0) (nF fun _ => 0)) ++ (pM g cb (nI 0) (nF fun _ => 0) (nF fun _ => 0) (nF fun _ => 0))) 18 [(0, .ref b), (1, .ref (h 0)), (2, .ref (g 0)), (3, .int (nI 0))] [] := by
  have L18 : ∀ (f_ : Nat) (i : Nat) (n : Nat) (d : Nat → Nat) (kn : Int32) (fnd : Int32) (fr : Int32) (sd : Nat → Int32) (ix : Nat → Int32) (fs : Nat → Int32) (fi : Nat → Int32) (kp : Nat → Int32) (mk : Nat → Int32) (mi : Nat → Int32), (i ≤ L) → (n ≤ 7) → (Inv d) → (KN n d kn fnd sd ix) → L + 4 - i < f_ → sx_S G ((pX h ca (nI n) kn fnd fr (nF d) sd ix fs fi kp) ++ (pM g cb (nI n) (nF d) mk mi)) 18 [(0, .ref b), (1, .ref (h 0)), (2, .ref (g 0)), (3, .int (nI i))] [] := by
    intro f_
    induction f_ with
    | zero => intro i n d kn fnd fr sd ix fs fi kp mk mi hi hn hI hK hm_; exact absurd hm_ (Nat.not_lt_zero _)
    | succ f_ ih18 =>
      intro i n d kn fnd fr sd ix fs fi kp mk mi hi hn hI hK hm_
      refine sx_iload_n E dL_law_18 rfl 3 rfl ?_
      refine sx_aload_n E dL_law_19 rfl 0 rfl ?_
      refine sx_slen E hX hbl hbA dL_law_20 ?_
      refine sx_iconst (v := (nI 4)) E dL_law_21 (by decide) ?_
      refine sx_isubNN E dL_law_22 ?_
      refine sx_top2 (iI_n _) ?_
      refine sx_icmp_gtI E 493 dL_law_23 (by decide) (by omega) (by omega) (fun c23 => ?_) (fun c23 => ?_)
      · refine sx_iconst (v := (nI 1)) E dL_law_493 (by decide) ?_
        exact ret _ _ _ dL_law_494
      · obtain ⟨z1, hz1, ez1⟩ := iI_of (xs (i + 1))
        obtain ⟨z2, hz2, ez2⟩ := iI_of (xs (i + 2))
        obtain ⟨z3, hz3, ez3⟩ := iI_of (xs (i + 3))
        refine sx_aload_n E dL_law_26 rfl 0 rfl ?_
        refine sx_iload_n E dL_law_27 rfl 3 rfl ?_
        refine sx_sld E hX hbl hbA (by omega) (by omega) (v := (xs i)) (rfl) dL_law_28 ?_
        refine sx_bipush (v := (nI 31)) E dL_law_29 (by decide) ?_
        refine sx_iand E dL_law_31 ?_
        obtain ⟨j, hj, ej⟩ := pk_andE (xs i) (m := nI 31) 5 (by decide)
        refine sx_top (y := (nI j)) (ej) ?_
        rcases (show j = 0 ∨ j = 1 ∨ j = 2 ∨ j = 3 ∨ j = 4 ∨ j = 5 ∨ j = 6 ∨ j = 7 ∨ j = 8 ∨ j = 9 ∨ j = 10 ∨ j = 11 ∨ j = 12 ∨ j = 13 ∨ j = 14 ∨ j = 15 ∨ j = 16 ∨ 17 ≤ j by omega) with rfl | rfl | rfl | rfl | rfl | rfl | rfl | rfl | rfl | rfl | rfl | rfl | rfl | rfl | rfl | rfl | rfl | hj17
        · refine sx_tabIn E 84 116 dL_law_32 (by decide) (by decide) (by decide) (by decide) ?_
          refine sx_aload_n E dL_law_116 rfl 1 rfl ?_
          refine sx_aload_n E dL_law_117 rfl 0 rfl ?_
          refine sx_iload_n E dL_law_118 rfl 3 rfl ?_
          refine sx_iconst (v := (nI 1)) E dL_law_119 (by decide) ?_
          refine sx_iaddNN E dL_law_120 ?_
          refine sx_sld E hX hbl hbA (by omega) (by omega) (v := (iI z1)) (ez1) dL_law_121 ?_
          refine sx_lcall (rest := []) E (cX_point l D h ca n kn fnd fr d sd ix fs fi kp hn z1 hz1) wLX_point kX_point ⟨⟨rfl, rfl⟩, by decide, by decide⟩ rfl rfl [0, 1, 2, 3, 4, 5] rfl [0, 1, 2, 3, 4, 5, 6] [7, 8, 9, 10] (pM g cb (nI n) (nF d) mk mi) rfl rfl rfl (by decide) (by decide) (by decide) rfl (Nat.le_of_ble_eq_true rfl) dL_law_122 (fun r122 u122 hp122 => ?_)
          refine sx_w (ws' := ((pM g cb (nI n) (nF d) mk mi) ++ (pX h ca (nI u122.2.1) u122.1 fnd fr (nF u122.2.2) sd ix fs fi kp))) rfl ?_
          refine sx_aload_n E dL_law_125 rfl 2 rfl ?_
          refine sx_aload_n E dL_law_126 rfl 0 rfl ?_
          refine sx_iload_n E dL_law_127 rfl 3 rfl ?_
          refine sx_iconst (v := (nI 1)) E dL_law_128 (by decide) ?_
          refine sx_iaddNN E dL_law_129 ?_
          refine sx_sld E hX hbl hbA (by omega) (by omega) (v := (iI z1)) (ez1) dL_law_130 ?_
          refine sx_lcall (rest := [.int r122]) E (cM_point l D g cb n d mk mi hn z1 hz1) wLM_point kM_point ⟨⟨rfl, rfl⟩, by decide, by decide⟩ rfl rfl [6, 7, 8] rfl [0, 1, 2, 3] [4, 5, 6, 7, 8, 9, 10] (pX h ca (nI u122.2.1) u122.1 fnd fr (nF u122.2.2) sd ix fs fi kp) rfl rfl rfl (by decide) (by decide) (by decide) rfl (Nat.le_of_ble_eq_true rfl) dL_law_131 (fun r131 u131 hp131 => ?_)
          refine sx_w (ws' := ((pX h ca (nI u122.2.1) u122.1 fnd fr (nF u122.2.2) sd ix fs fi kp) ++ (pM g cb (nI u131.1) (nF u131.2) mk mi))) rfl ?_
          refine sx_icmp_eq E 487 dL_law_134 (by decide) (fun c134 => ?_) (fun c134 => ?_)
          · have hq := f_point hI hn z1
            rw [← hp122.2.1] at hq
            have hKq := KN_mut hK hp122.2.2
            have heu : u131 = u122.2 := hp131.2.trans hp122.2.1.symm
            refine sx_w (ws' := ((pX h ca (nI u122.2.1) u122.1 fnd fr (nF u122.2.2) sd ix fs fi kp) ++ (pM g cb (nI u122.2.1) (nF u122.2.2) mk mi))) (by rw [heu]) ?_
            refine sx_iinc E dL_law_487 3 rfl (v := (nI (i + 4))) (inc4 _) (by decide) (lv' := [(0, .ref b), (1, .ref (h 0)), (2, .ref (g 0)), (3, .int (nI (i + 4)))]) [1, 2, 3, 0] rfl ?_
            refine sx_goto E 18 dL_law_490 (by decide) ?_
            exact ih18 (i + 4) u122.2.1 u122.2.2 u122.1 fnd fr sd ix fs fi kp mk mi (by omega) (hq.1) (hq.2) (hKq) (by omega)
          · exact absurd (show r122 = r131 by rw [hp122.1, hp131.1]) c134
        · refine sx_tabIn E 107 139 dL_law_32 (by decide) (by decide) (by decide) (by decide) ?_
          refine sx_aload_n E dL_law_139 rfl 1 rfl ?_
          refine sx_lcall (rest := []) E (cX_drop l D h ca n kn fnd fr d sd ix fs fi kp hn  ) wLX_drop kX_drop ⟨⟨rfl, rfl⟩, by decide, by decide⟩ rfl rfl [0, 1, 2, 3, 4, 5] rfl [0, 1, 2, 3, 4, 5, 6] [7, 8, 9, 10] (pM g cb (nI n) (nF d) mk mi) rfl rfl rfl (by decide) (by decide) (by decide) rfl (Nat.le_of_ble_eq_true rfl) dL_law_140 (fun r140 u140 hp140 => ?_)
          refine sx_w (ws' := ((pM g cb (nI n) (nF d) mk mi) ++ (pX h ca (nI u140.2.1) u140.1 fnd fr (nF u140.2.2) sd ix fs fi kp))) rfl ?_
          refine sx_aload_n E dL_law_143 rfl 2 rfl ?_
          refine sx_lcall (rest := [.int r140]) E (cM_drop l D g cb n d mk mi hn  ) wLM_drop kM_drop ⟨⟨rfl, rfl⟩, by decide, by decide⟩ rfl rfl [6, 7, 8] rfl [0, 1, 2, 3] [4, 5, 6, 7, 8, 9, 10] (pX h ca (nI u140.2.1) u140.1 fnd fr (nF u140.2.2) sd ix fs fi kp) rfl rfl rfl (by decide) (by decide) (by decide) rfl (Nat.le_of_ble_eq_true rfl) dL_law_144 (fun r144 u144 hp144 => ?_)
          refine sx_w (ws' := ((pX h ca (nI u140.2.1) u140.1 fnd fr (nF u140.2.2) sd ix fs fi kp) ++ (pM g cb (nI u144.1) (nF u144.2) mk mi))) rfl ?_
          refine sx_icmp_eq E 487 dL_law_147 (by decide) (fun c147 => ?_) (fun c147 => ?_)
          · have hq := f_drop hI hn
            rw [← hp140.2.1] at hq
            have hKq := KN_mut hK hp140.2.2
            have heu : u144 = u140.2 := hp144.2.trans hp140.2.1.symm
            refine sx_w (ws' := ((pX h ca (nI u140.2.1) u140.1 fnd fr (nF u140.2.2) sd ix fs fi kp) ++ (pM g cb (nI u140.2.1) (nF u140.2.2) mk mi))) (by rw [heu]) ?_
            refine sx_iinc E dL_law_487 3 rfl (v := (nI (i + 4))) (inc4 _) (by decide) (lv' := [(0, .ref b), (1, .ref (h 0)), (2, .ref (g 0)), (3, .int (nI (i + 4)))]) [1, 2, 3, 0] rfl ?_
            refine sx_goto E 18 dL_law_490 (by decide) ?_
            exact ih18 (i + 4) u140.2.1 u140.2.2 u140.1 fnd fr sd ix fs fi kp mk mi (by omega) (hq.1) (hq.2) (hKq) (by omega)
          · exact absurd (show r140 = r144 by rw [hp140.1, hp144.1]) c147
        · refine sx_tabIn E 120 152 dL_law_32 (by decide) (by decide) (by decide) (by decide) ?_
          refine sx_aload_n E dL_law_152 rfl 1 rfl ?_
          refine sx_aload_n E dL_law_153 rfl 0 rfl ?_
          refine sx_iload_n E dL_law_154 rfl 3 rfl ?_
          refine sx_iconst (v := (nI 1)) E dL_law_155 (by decide) ?_
          refine sx_iaddNN E dL_law_156 ?_
          refine sx_sld E hX hbl hbA (by omega) (by omega) (v := (iI z1)) (ez1) dL_law_157 ?_
          refine sx_aload_n E dL_law_158 rfl 0 rfl ?_
          refine sx_iload_n E dL_law_159 rfl 3 rfl ?_
          refine sx_iconst (v := (nI 2)) E dL_law_160 (by decide) ?_
          refine sx_iaddNN E dL_law_161 ?_
          refine sx_sld E hX hbl hbA (by omega) (by omega) (v := (iI z2)) (ez2) dL_law_162 ?_
          refine sx_aload_n E dL_law_163 rfl 0 rfl ?_
          refine sx_iload_n E dL_law_164 rfl 3 rfl ?_
          refine sx_iconst (v := (nI 3)) E dL_law_165 (by decide) ?_
          refine sx_iaddNN E dL_law_166 ?_
          refine sx_sld E hX hbl hbA (by omega) (by omega) (v := (iI z3)) (ez3) dL_law_167 ?_
          refine sx_lcall (rest := []) E (cX_set l D h ca n kn fnd fr d sd ix fs fi kp hn z1 z2 z3 hz1 hz2 hz3) wLX_set kX_set ⟨⟨rfl, rfl⟩, by decide, by decide⟩ rfl rfl [0, 1, 2, 3, 4, 5] rfl [0, 1, 2, 3, 4, 5, 6] [7, 8, 9, 10] (pM g cb (nI n) (nF d) mk mi) rfl rfl rfl (by decide) (by decide) (by decide) rfl (Nat.le_of_ble_eq_true rfl) dL_law_168 (fun r168 u168 hp168 => ?_)
          refine sx_w (ws' := ((pM g cb (nI n) (nF d) mk mi) ++ (pX h ca (nI u168.2.1) u168.1 fnd fr (nF u168.2.2) sd ix fs fi kp))) rfl ?_
          refine sx_aload_n E dL_law_171 rfl 2 rfl ?_
          refine sx_aload_n E dL_law_172 rfl 0 rfl ?_
          refine sx_iload_n E dL_law_173 rfl 3 rfl ?_
          refine sx_iconst (v := (nI 1)) E dL_law_174 (by decide) ?_
          refine sx_iaddNN E dL_law_175 ?_
          refine sx_sld E hX hbl hbA (by omega) (by omega) (v := (iI z1)) (ez1) dL_law_176 ?_
          refine sx_aload_n E dL_law_177 rfl 0 rfl ?_
          refine sx_iload_n E dL_law_178 rfl 3 rfl ?_
          refine sx_iconst (v := (nI 2)) E dL_law_179 (by decide) ?_
          refine sx_iaddNN E dL_law_180 ?_
          refine sx_sld E hX hbl hbA (by omega) (by omega) (v := (iI z2)) (ez2) dL_law_181 ?_
          refine sx_aload_n E dL_law_182 rfl 0 rfl ?_
          refine sx_iload_n E dL_law_183 rfl 3 rfl ?_
          refine sx_iconst (v := (nI 3)) E dL_law_184 (by decide) ?_
          refine sx_iaddNN E dL_law_185 ?_
          refine sx_sld E hX hbl hbA (by omega) (by omega) (v := (iI z3)) (ez3) dL_law_186 ?_
          refine sx_lcall (rest := [.int r168]) E (cM_set l D g cb n d mk mi hn z1 z2 z3 hz1 hz2 hz3) wLM_set kM_set ⟨⟨rfl, rfl⟩, by decide, by decide⟩ rfl rfl [6, 7, 8] rfl [0, 1, 2, 3] [4, 5, 6, 7, 8, 9, 10] (pX h ca (nI u168.2.1) u168.1 fnd fr (nF u168.2.2) sd ix fs fi kp) rfl rfl rfl (by decide) (by decide) (by decide) rfl (Nat.le_of_ble_eq_true rfl) dL_law_187 (fun r187 u187 hp187 => ?_)
          refine sx_w (ws' := ((pX h ca (nI u168.2.1) u168.1 fnd fr (nF u168.2.2) sd ix fs fi kp) ++ (pM g cb (nI u187.1) (nF u187.2) mk mi))) rfl ?_
          refine sx_icmp_eq E 487 dL_law_190 (by decide) (fun c190 => ?_) (fun c190 => ?_)
          · have hq := f_set hI hn z1 z2 z3
            rw [← hp168.2.1] at hq
            have hKq := KN_mut hK hp168.2.2
            have heu : u187 = u168.2 := hp187.2.trans hp168.2.1.symm
            refine sx_w (ws' := ((pX h ca (nI u168.2.1) u168.1 fnd fr (nF u168.2.2) sd ix fs fi kp) ++ (pM g cb (nI u168.2.1) (nF u168.2.2) mk mi))) (by rw [heu]) ?_
            refine sx_iinc E dL_law_487 3 rfl (v := (nI (i + 4))) (inc4 _) (by decide) (lv' := [(0, .ref b), (1, .ref (h 0)), (2, .ref (g 0)), (3, .int (nI (i + 4)))]) [1, 2, 3, 0] rfl ?_
            refine sx_goto E 18 dL_law_490 (by decide) ?_
            exact ih18 (i + 4) u168.2.1 u168.2.2 u168.1 fnd fr sd ix fs fi kp mk mi (by omega) (hq.1) (hq.2) (hKq) (by omega)
          · exact absurd (show r168 = r187 by rw [hp168.1, hp187.1]) c190
        · refine sx_tabIn E 163 195 dL_law_32 (by decide) (by decide) (by decide) (by decide) ?_
          refine sx_aload_n E dL_law_195 rfl 1 rfl ?_
          refine sx_aload_n E dL_law_196 rfl 0 rfl ?_
          refine sx_iload_n E dL_law_197 rfl 3 rfl ?_
          refine sx_iconst (v := (nI 1)) E dL_law_198 (by decide) ?_
          refine sx_iaddNN E dL_law_199 ?_
          refine sx_sld E hX hbl hbA (by omega) (by omega) (v := (xs (i + 1))) (rfl) dL_law_200 ?_
          refine sx_aload_n E dL_law_201 rfl 0 rfl ?_
          refine sx_iload_n E dL_law_202 rfl 3 rfl ?_
          refine sx_iconst (v := (nI 2)) E dL_law_203 (by decide) ?_
          refine sx_iaddNN E dL_law_204 ?_
          refine sx_sld E hX hbl hbA (by omega) (by omega) (v := (iI z2)) (ez2) dL_law_205 ?_
          refine sx_lcall (rest := []) E (cX_move l D h ca n kn fnd fr d sd ix fs fi kp hn hI.1 (xs (i + 1)) z2 hz2) wLX_move kX_move ⟨⟨rfl, rfl⟩, by decide, by decide⟩ rfl rfl [0, 1, 2, 3, 4, 5] rfl [0, 1, 2, 3, 4, 5, 6] [7, 8, 9, 10] (pM g cb (nI n) (nF d) mk mi) rfl rfl rfl (by decide) (by decide) (by decide) rfl (Nat.le_of_ble_eq_true rfl) dL_law_206 (fun r206 u206 hp206 => ?_)
          refine sx_w (ws' := ((pM g cb (nI n) (nF d) mk mi) ++ (pX h ca (nI u206.2.1) u206.1 fnd fr (nF u206.2.2) sd ix fs fi kp))) rfl ?_
          refine sx_aload_n E dL_law_209 rfl 2 rfl ?_
          refine sx_aload_n E dL_law_210 rfl 0 rfl ?_
          refine sx_iload_n E dL_law_211 rfl 3 rfl ?_
          refine sx_iconst (v := (nI 1)) E dL_law_212 (by decide) ?_
          refine sx_iaddNN E dL_law_213 ?_
          refine sx_sld E hX hbl hbA (by omega) (by omega) (v := (xs (i + 1))) (rfl) dL_law_214 ?_
          refine sx_aload_n E dL_law_215 rfl 0 rfl ?_
          refine sx_iload_n E dL_law_216 rfl 3 rfl ?_
          refine sx_iconst (v := (nI 2)) E dL_law_217 (by decide) ?_
          refine sx_iaddNN E dL_law_218 ?_
          refine sx_sld E hX hbl hbA (by omega) (by omega) (v := (iI z2)) (ez2) dL_law_219 ?_
          refine sx_lcall (rest := [.int r206]) E (cM_move l D g cb n d mk mi hn hI.1 (xs (i + 1)) z2 hz2) wLM_move kM_move ⟨⟨rfl, rfl⟩, by decide, by decide⟩ rfl rfl [6, 7, 8] rfl [0, 1, 2, 3] [4, 5, 6, 7, 8, 9, 10] (pX h ca (nI u206.2.1) u206.1 fnd fr (nF u206.2.2) sd ix fs fi kp) rfl rfl rfl (by decide) (by decide) (by decide) rfl (Nat.le_of_ble_eq_true rfl) dL_law_220 (fun r220 u220 hp220 => ?_)
          refine sx_w (ws' := ((pX h ca (nI u206.2.1) u206.1 fnd fr (nF u206.2.2) sd ix fs fi kp) ++ (pM g cb (nI u220.1) (nF u220.2) mk mi))) rfl ?_
          refine sx_icmp_eq E 487 dL_law_223 (by decide) (fun c223 => ?_) (fun c223 => ?_)
          · have hq := f_moved hI hn (xs (i + 1)) z2
            rw [← hp206.2.1] at hq
            have hKq := KN_mut hK hp206.2.2
            have heu : u220 = u206.2 := by rw [hp220.2, hp206.2.1, f_move hI hn]
            refine sx_w (ws' := ((pX h ca (nI u206.2.1) u206.1 fnd fr (nF u206.2.2) sd ix fs fi kp) ++ (pM g cb (nI u206.2.1) (nF u206.2.2) mk mi))) (by rw [heu]) ?_
            refine sx_iinc E dL_law_487 3 rfl (v := (nI (i + 4))) (inc4 _) (by decide) (lv' := [(0, .ref b), (1, .ref (h 0)), (2, .ref (g 0)), (3, .int (nI (i + 4)))]) [1, 2, 3, 0] rfl ?_
            refine sx_goto E 18 dL_law_490 (by decide) ?_
            exact ih18 (i + 4) u206.2.1 u206.2.2 u206.1 fnd fr sd ix fs fi kp mk mi (by omega) (hq.1) (hq.2) (hKq) (by omega)
          · exact absurd (show r206 = r220 by rw [hp206.1, hp220.1, f_move hI hn]) c223
        · refine sx_tabIn E 196 228 dL_law_32 (by decide) (by decide) (by decide) (by decide) ?_
          refine sx_aload_n E dL_law_228 rfl 1 rfl ?_
          refine sx_lcall (rest := []) E (cX_smooth l D h ca n kn fnd fr d sd ix fs fi kp hn hI.1 (f_find hI) hK  ) wLX_smooth kX_smooth ⟨⟨rfl, rfl⟩, by decide, by decide⟩ rfl rfl [0, 1, 2, 3, 4, 5] rfl [0, 1, 2, 3, 4, 5, 6] [7, 8, 9, 10] (pM g cb (nI n) (nF d) mk mi) rfl rfl rfl (by decide) (by decide) (by decide) rfl (Nat.le_of_ble_eq_true rfl) dL_law_229 (fun r229 u229 hp229 => ?_)
          refine sx_w (ws' := ((pM g cb (nI n) (nF d) mk mi) ++ (pX h ca (nI n) u229.2.1 u229.2.2.1 u229.2.2.2.1 (nF u229.1) u229.2.2.2.2.1 u229.2.2.2.2.2.1 u229.2.2.2.2.2.2.1 u229.2.2.2.2.2.2.2.1 u229.2.2.2.2.2.2.2.2))) rfl ?_
          refine sx_aload_n E dL_law_232 rfl 2 rfl ?_
          refine sx_lcall (rest := [.int r229]) E (cM_smooth l D g cb n d mk mi hn hI.1  ) wLM_smooth kM_smooth ⟨⟨rfl, rfl⟩, by decide, by decide⟩ rfl rfl [6, 7, 8] rfl [0, 1, 2, 3] [4, 5, 6, 7, 8, 9, 10] (pX h ca (nI n) u229.2.1 u229.2.2.1 u229.2.2.2.1 (nF u229.1) u229.2.2.2.2.1 u229.2.2.2.2.2.1 u229.2.2.2.2.2.2.1 u229.2.2.2.2.2.2.2.1 u229.2.2.2.2.2.2.2.2) rfl rfl rfl (by decide) (by decide) (by decide) rfl (Nat.le_of_ble_eq_true rfl) dL_law_233 (fun r233 u233 hp233 => ?_)
          refine sx_w (ws' := ((pX h ca (nI n) u229.2.1 u229.2.2.1 u229.2.2.2.1 (nF u229.1) u229.2.2.2.2.1 u229.2.2.2.2.2.1 u229.2.2.2.2.2.2.1 u229.2.2.2.2.2.2.2.1 u229.2.2.2.2.2.2.2.2) ++ (pM g cb (nI n) (nF u233.1) u233.2.1 u233.2.2))) rfl ?_
          refine sx_icmp_eq E 487 dL_law_236 (by decide) (fun c236 => ?_) (fun c236 => ?_)
          · have hq := f_smoothed hI hn
            rw [← hp229.2.1] at hq
            have hKq := KN_smooth hp229.2.2.1 hp229.2.2.2.1 hp229.2.2.2.2
            have heu : u233.1 = u229.1 := by rw [hp233.2, hp229.2.1, (f_smooth hI hn).2]
            refine sx_w (ws' := ((pX h ca (nI n) u229.2.1 u229.2.2.1 u229.2.2.2.1 (nF u229.1) u229.2.2.2.2.1 u229.2.2.2.2.2.1 u229.2.2.2.2.2.2.1 u229.2.2.2.2.2.2.2.1 u229.2.2.2.2.2.2.2.2) ++ (pM g cb (nI n) (nF u229.1) u233.2.1 u233.2.2))) (by rw [heu]) ?_
            refine sx_iinc E dL_law_487 3 rfl (v := (nI (i + 4))) (inc4 _) (by decide) (lv' := [(0, .ref b), (1, .ref (h 0)), (2, .ref (g 0)), (3, .int (nI (i + 4)))]) [1, 2, 3, 0] rfl ?_
            refine sx_goto E 18 dL_law_490 (by decide) ?_
            exact ih18 (i + 4) n u229.1 u229.2.1 u229.2.2.1 u229.2.2.2.1 u229.2.2.2.2.1 u229.2.2.2.2.2.1 u229.2.2.2.2.2.2.1 u229.2.2.2.2.2.2.2.1 u229.2.2.2.2.2.2.2.2 u233.2.1 u233.2.2 (by omega) (hn) (hq) (hKq) (by omega)
          · exact absurd (show r229 = r233 by rw [hp229.1, hp233.1, (f_smooth hI hn).1]) c236
        · refine sx_tabIn E 209 241 dL_law_32 (by decide) (by decide) (by decide) (by decide) ?_
          refine sx_aload_n E dL_law_241 rfl 1 rfl ?_
          refine sx_lcall (rest := []) E (cX_points l D h ca n kn fnd fr d sd ix fs fi kp) wLX_points kX_points ⟨⟨rfl, rfl⟩, by decide, by decide⟩ rfl rfl [0, 1, 2, 3, 4, 5] rfl [0, 1, 2, 3, 4, 5, 6] [7, 8, 9, 10] (pM g cb (nI n) (nF d) mk mi) rfl rfl rfl (by decide) (by decide) (by decide) rfl (Nat.le_of_ble_eq_true rfl) dL_law_242 (fun r242 u242 hp242 => ?_)
          refine sx_w (ws' := ((pM g cb (nI n) (nF d) mk mi) ++ (pX h ca (nI n) kn fnd fr (nF d) sd ix fs fi kp))) rfl ?_
          refine sx_aload_n E dL_law_245 rfl 2 rfl ?_
          refine sx_lcall (rest := [.int r242]) E (cM_points l D g cb n d mk mi) wLM_points kM_points ⟨⟨rfl, rfl⟩, by decide, by decide⟩ rfl rfl [6, 7, 8] rfl [0, 1, 2, 3] [4, 5, 6, 7, 8, 9, 10] (pX h ca (nI n) kn fnd fr (nF d) sd ix fs fi kp) rfl rfl rfl (by decide) (by decide) (by decide) rfl (Nat.le_of_ble_eq_true rfl) dL_law_246 (fun r246 u246 hp246 => ?_)
          refine sx_w (ws' := ((pX h ca (nI n) kn fnd fr (nF d) sd ix fs fi kp) ++ (pM g cb (nI n) (nF d) mk mi))) rfl ?_
          refine sx_icmp_eq E 487 dL_law_249 (by decide) (fun c249 => ?_) (fun c249 => ?_)
          · refine sx_iinc E dL_law_487 3 rfl (v := (nI (i + 4))) (inc4 _) (by decide) (lv' := [(0, .ref b), (1, .ref (h 0)), (2, .ref (g 0)), (3, .int (nI (i + 4)))]) [1, 2, 3, 0] rfl ?_
            refine sx_goto E 18 dL_law_490 (by decide) ?_
            exact ih18 (i + 4) n d kn fnd fr sd ix fs fi kp mk mi (by omega) (hn) (hI) (hK) (by omega)
          · exact absurd (show r242 = r246 by rw [hp242, hp246]) c249
        · refine sx_tabIn E 222 254 dL_law_32 (by decide) (by decide) (by decide) (by decide) ?_
          refine sx_aload_n E dL_law_254 rfl 1 rfl ?_
          refine sx_aload_n E dL_law_255 rfl 0 rfl ?_
          refine sx_iload_n E dL_law_256 rfl 3 rfl ?_
          refine sx_iconst (v := (nI 1)) E dL_law_257 (by decide) ?_
          refine sx_iaddNN E dL_law_258 ?_
          refine sx_sld E hX hbl hbA (by omega) (by omega) (v := (iI z1)) (ez1) dL_law_259 ?_
          refine sx_aload_n E dL_law_260 rfl 0 rfl ?_
          refine sx_iload_n E dL_law_261 rfl 3 rfl ?_
          refine sx_iconst (v := (nI 2)) E dL_law_262 (by decide) ?_
          refine sx_iaddNN E dL_law_263 ?_
          refine sx_sld E hX hbl hbA (by omega) (by omega) (v := (iI z2)) (ez2) dL_law_264 ?_
          refine sx_lcall (rest := []) E (cX_distance l D h ca n kn fnd fr d sd ix fs fi kp hn z1 z2 hz1 hz2) wLX_distance kX_distance ⟨⟨rfl, rfl⟩, by decide, by decide⟩ rfl rfl [0, 1, 2, 3, 4, 5] rfl [0, 1, 2, 3, 4, 5, 6] [7, 8, 9, 10] (pM g cb (nI n) (nF d) mk mi) rfl rfl rfl (by decide) (by decide) (by decide) rfl (Nat.le_of_ble_eq_true rfl) dL_law_265 (fun r265 u265 hp265 => ?_)
          refine sx_w (ws' := ((pM g cb (nI n) (nF d) mk mi) ++ (pX h ca (nI n) kn fnd fr (nF d) sd ix fs fi kp))) rfl ?_
          refine sx_aload_n E dL_law_268 rfl 2 rfl ?_
          refine sx_aload_n E dL_law_269 rfl 0 rfl ?_
          refine sx_iload_n E dL_law_270 rfl 3 rfl ?_
          refine sx_iconst (v := (nI 1)) E dL_law_271 (by decide) ?_
          refine sx_iaddNN E dL_law_272 ?_
          refine sx_sld E hX hbl hbA (by omega) (by omega) (v := (iI z1)) (ez1) dL_law_273 ?_
          refine sx_aload_n E dL_law_274 rfl 0 rfl ?_
          refine sx_iload_n E dL_law_275 rfl 3 rfl ?_
          refine sx_iconst (v := (nI 2)) E dL_law_276 (by decide) ?_
          refine sx_iaddNN E dL_law_277 ?_
          refine sx_sld E hX hbl hbA (by omega) (by omega) (v := (iI z2)) (ez2) dL_law_278 ?_
          refine sx_lcall (rest := [.int r265]) E (cM_distance l D g cb n d mk mi hn z1 z2 hz1 hz2) wLM_distance kM_distance ⟨⟨rfl, rfl⟩, by decide, by decide⟩ rfl rfl [6, 7, 8] rfl [0, 1, 2, 3] [4, 5, 6, 7, 8, 9, 10] (pX h ca (nI n) kn fnd fr (nF d) sd ix fs fi kp) rfl rfl rfl (by decide) (by decide) (by decide) rfl (Nat.le_of_ble_eq_true rfl) dL_law_279 (fun r279 u279 hp279 => ?_)
          refine sx_w (ws' := ((pX h ca (nI n) kn fnd fr (nF d) sd ix fs fi kp) ++ (pM g cb (nI n) (nF d) mk mi))) rfl ?_
          refine sx_icmp_eq E 487 dL_law_282 (by decide) (fun c282 => ?_) (fun c282 => ?_)
          · refine sx_iinc E dL_law_487 3 rfl (v := (nI (i + 4))) (inc4 _) (by decide) (lv' := [(0, .ref b), (1, .ref (h 0)), (2, .ref (g 0)), (3, .int (nI (i + 4)))]) [1, 2, 3, 0] rfl ?_
            refine sx_goto E 18 dL_law_490 (by decide) ?_
            exact ih18 (i + 4) n d kn fnd fr sd ix fs fi kp mk mi (by omega) (hn) (hI) (hK) (by omega)
          · exact absurd (show r265 = r279 by rw [hp265, hp279]) c282
        · refine sx_tabIn E 255 287 dL_law_32 (by decide) (by decide) (by decide) (by decide) ?_
          refine sx_aload_n E dL_law_287 rfl 1 rfl ?_
          refine sx_aload_n E dL_law_288 rfl 0 rfl ?_
          refine sx_iload_n E dL_law_289 rfl 3 rfl ?_
          refine sx_iconst (v := (nI 1)) E dL_law_290 (by decide) ?_
          refine sx_iaddNN E dL_law_291 ?_
          refine sx_sld E hX hbl hbA (by omega) (by omega) (v := (iI z1)) (ez1) dL_law_292 ?_
          refine sx_lcall (rest := []) E (cX_index l D h ca n kn fnd fr d sd ix fs fi kp hn hI.1 z1 hz1) wLX_index kX_index ⟨⟨rfl, rfl⟩, by decide, by decide⟩ rfl rfl [0, 1, 2, 3, 4, 5] rfl [0, 1, 2, 3, 4, 5, 6] [7, 8, 9, 10] (pM g cb (nI n) (nF d) mk mi) rfl rfl rfl (by decide) (by decide) (by decide) rfl (Nat.le_of_ble_eq_true rfl) dL_law_293 (fun r293 u293 hp293 => ?_)
          refine sx_w (ws' := ((pM g cb (nI n) (nF d) mk mi) ++ (pX h ca (nI n) kn fnd fr (nF d) sd ix fs fi kp))) rfl ?_
          refine sx_aload_n E dL_law_296 rfl 2 rfl ?_
          refine sx_aload_n E dL_law_297 rfl 0 rfl ?_
          refine sx_iload_n E dL_law_298 rfl 3 rfl ?_
          refine sx_iconst (v := (nI 1)) E dL_law_299 (by decide) ?_
          refine sx_iaddNN E dL_law_300 ?_
          refine sx_sld E hX hbl hbA (by omega) (by omega) (v := (iI z1)) (ez1) dL_law_301 ?_
          refine sx_lcall (rest := [.int r293]) E (cM_index l D g cb n d mk mi hn hI.1 z1 hz1) wLM_index kM_index ⟨⟨rfl, rfl⟩, by decide, by decide⟩ rfl rfl [6, 7, 8] rfl [0, 1, 2, 3] [4, 5, 6, 7, 8, 9, 10] (pX h ca (nI n) kn fnd fr (nF d) sd ix fs fi kp) rfl rfl rfl (by decide) (by decide) (by decide) rfl (Nat.le_of_ble_eq_true rfl) dL_law_302 (fun r302 u302 hp302 => ?_)
          refine sx_w (ws' := ((pX h ca (nI n) kn fnd fr (nF d) sd ix fs fi kp) ++ (pM g cb (nI n) (nF d) mk mi))) rfl ?_
          refine sx_icmp_eq E 487 dL_law_305 (by decide) (fun c305 => ?_) (fun c305 => ?_)
          · refine sx_iinc E dL_law_487 3 rfl (v := (nI (i + 4))) (inc4 _) (by decide) (lv' := [(0, .ref b), (1, .ref (h 0)), (2, .ref (g 0)), (3, .int (nI (i + 4)))]) [1, 2, 3, 0] rfl ?_
            refine sx_goto E 18 dL_law_490 (by decide) ?_
            exact ih18 (i + 4) n d kn fnd fr sd ix fs fi kp mk mi (by omega) (hn) (hI) (hK) (by omega)
          · exact absurd (show r293 = r302 by rw [hp293, hp302, f_index hI hn]) c305
        · refine sx_tabIn E 278 310 dL_law_32 (by decide) (by decide) (by decide) (by decide) ?_
          refine sx_aload_n E dL_law_310 rfl 1 rfl ?_
          refine sx_lcall (rest := []) E (cX_edges l D h ca n kn fnd fr d sd ix fs fi kp hn hI.1 (f_find hI) hK  ) wLX_edges kX_edges ⟨⟨rfl, rfl⟩, by decide, by decide⟩ rfl rfl [0, 1, 2, 3, 4, 5] rfl [0, 1, 2, 3, 4, 5, 6] [7, 8, 9, 10] (pM g cb (nI n) (nF d) mk mi) rfl rfl rfl (by decide) (by decide) (by decide) rfl (Nat.le_of_ble_eq_true rfl) dL_law_311 (fun r311 u311 hp311 => ?_)
          refine sx_w (ws' := ((pM g cb (nI n) (nF d) mk mi) ++ (pX h ca (nI n) u311.1 u311.2.1 u311.2.2.1 (nF d) u311.2.2.2.1 u311.2.2.2.2.1 u311.2.2.2.2.2.1 u311.2.2.2.2.2.2 kp))) rfl ?_
          refine sx_aload_n E dL_law_314 rfl 2 rfl ?_
          refine sx_lcall (rest := [.int r311]) E (cM_edges l D g cb n d mk mi hn hI.1  ) wLM_edges kM_edges ⟨⟨rfl, rfl⟩, by decide, by decide⟩ rfl rfl [6, 7, 8] rfl [0, 1, 2, 3] [4, 5, 6, 7, 8, 9, 10] (pX h ca (nI n) u311.1 u311.2.1 u311.2.2.1 (nF d) u311.2.2.2.1 u311.2.2.2.2.1 u311.2.2.2.2.2.1 u311.2.2.2.2.2.2 kp) rfl rfl rfl (by decide) (by decide) (by decide) rfl (Nat.le_of_ble_eq_true rfl) dL_law_315 (fun r315 u315 hp315 => ?_)
          refine sx_w (ws' := ((pX h ca (nI n) u311.1 u311.2.1 u311.2.2.1 (nF d) u311.2.2.2.1 u311.2.2.2.2.1 u311.2.2.2.2.2.1 u311.2.2.2.2.2.2 kp) ++ (pM g cb (nI n) (nF d) mk u315))) rfl ?_
          refine sx_icmp_eq E 487 dL_law_318 (by decide) (fun c318 => ?_) (fun c318 => ?_)
          · refine sx_iinc E dL_law_487 3 rfl (v := (nI (i + 4))) (inc4 _) (by decide) (lv' := [(0, .ref b), (1, .ref (h 0)), (2, .ref (g 0)), (3, .int (nI (i + 4)))]) [1, 2, 3, 0] rfl ?_
            refine sx_goto E 18 dL_law_490 (by decide) ?_
            exact ih18 (i + 4) n d u311.1 u311.2.1 u311.2.2.1 u311.2.2.2.1 u311.2.2.2.2.1 u311.2.2.2.2.2.1 u311.2.2.2.2.2.2 kp mk u315 (by omega) (hn) (hI) (hp311.2) (by omega)
          · exact absurd (show r311 = r315 by rw [hp311.1, hp315, f_edges hI hn]) c318
        · refine sx_tabIn E 291 323 dL_law_32 (by decide) (by decide) (by decide) (by decide) ?_
          refine sx_aload_n E dL_law_323 rfl 1 rfl ?_
          refine sx_aload_n E dL_law_324 rfl 0 rfl ?_
          refine sx_iload_n E dL_law_325 rfl 3 rfl ?_
          refine sx_iconst (v := (nI 1)) E dL_law_326 (by decide) ?_
          refine sx_iaddNN E dL_law_327 ?_
          refine sx_sld E hX hbl hbA (by omega) (by omega) (v := (iI z1)) (ez1) dL_law_328 ?_
          refine sx_lcall (rest := []) E (cX_edge l D h ca n kn fnd fr d sd ix fs fi kp hn hI.1 (f_find hI) hK z1 hz1) wLX_edge kX_edge ⟨⟨rfl, rfl⟩, by decide, by decide⟩ rfl rfl [0, 1, 2, 3, 4, 5] rfl [0, 1, 2, 3, 4, 5, 6] [7, 8, 9, 10] (pM g cb (nI n) (nF d) mk mi) rfl rfl rfl (by decide) (by decide) (by decide) rfl (Nat.le_of_ble_eq_true rfl) dL_law_329 (fun r329 u329 hp329 => ?_)
          refine sx_w (ws' := ((pM g cb (nI n) (nF d) mk mi) ++ (pX h ca (nI n) u329.1 u329.2.1 u329.2.2.1 (nF d) u329.2.2.2.1 u329.2.2.2.2.1 u329.2.2.2.2.2.1 u329.2.2.2.2.2.2 kp))) rfl ?_
          refine sx_aload_n E dL_law_332 rfl 2 rfl ?_
          refine sx_aload_n E dL_law_333 rfl 0 rfl ?_
          refine sx_iload_n E dL_law_334 rfl 3 rfl ?_
          refine sx_iconst (v := (nI 1)) E dL_law_335 (by decide) ?_
          refine sx_iaddNN E dL_law_336 ?_
          refine sx_sld E hX hbl hbA (by omega) (by omega) (v := (iI z1)) (ez1) dL_law_337 ?_
          refine sx_lcall (rest := [.int r329]) E (cM_edge l D g cb n d mk mi hn hI.1 z1 hz1) wLM_edge kM_edge ⟨⟨rfl, rfl⟩, by decide, by decide⟩ rfl rfl [6, 7, 8] rfl [0, 1, 2, 3] [4, 5, 6, 7, 8, 9, 10] (pX h ca (nI n) u329.1 u329.2.1 u329.2.2.1 (nF d) u329.2.2.2.1 u329.2.2.2.2.1 u329.2.2.2.2.2.1 u329.2.2.2.2.2.2 kp) rfl rfl rfl (by decide) (by decide) (by decide) rfl (Nat.le_of_ble_eq_true rfl) dL_law_338 (fun r338 u338 hp338 => ?_)
          refine sx_w (ws' := ((pX h ca (nI n) u329.1 u329.2.1 u329.2.2.1 (nF d) u329.2.2.2.1 u329.2.2.2.2.1 u329.2.2.2.2.2.1 u329.2.2.2.2.2.2 kp) ++ (pM g cb (nI n) (nF d) mk u338))) rfl ?_
          refine sx_icmp_eq E 487 dL_law_341 (by decide) (fun c341 => ?_) (fun c341 => ?_)
          · refine sx_iinc E dL_law_487 3 rfl (v := (nI (i + 4))) (inc4 _) (by decide) (lv' := [(0, .ref b), (1, .ref (h 0)), (2, .ref (g 0)), (3, .int (nI (i + 4)))]) [1, 2, 3, 0] rfl ?_
            refine sx_goto E 18 dL_law_490 (by decide) ?_
            exact ih18 (i + 4) n d u329.1 u329.2.1 u329.2.2.1 u329.2.2.2.1 u329.2.2.2.2.1 u329.2.2.2.2.2.1 u329.2.2.2.2.2.2 kp mk u338 (by omega) (hn) (hI) (hp329.2) (by omega)
          · exact absurd (show r329 = r338 by rw [hp329.1]; exact (f_edge hI hn hp338).symm) c341
        · refine sx_tabIn E 314 346 dL_law_32 (by decide) (by decide) (by decide) (by decide) ?_
          refine sx_aload_n E dL_law_346 rfl 1 rfl ?_
          refine sx_aload_n E dL_law_347 rfl 0 rfl ?_
          refine sx_iload_n E dL_law_348 rfl 3 rfl ?_
          refine sx_iconst (v := (nI 1)) E dL_law_349 (by decide) ?_
          refine sx_iaddNN E dL_law_350 ?_
          refine sx_sld E hX hbl hbA (by omega) (by omega) (v := (iI z1)) (ez1) dL_law_351 ?_
          refine sx_aload_n E dL_law_352 rfl 0 rfl ?_
          refine sx_iload_n E dL_law_353 rfl 3 rfl ?_
          refine sx_iconst (v := (nI 2)) E dL_law_354 (by decide) ?_
          refine sx_iaddNN E dL_law_355 ?_
          refine sx_sld E hX hbl hbA (by omega) (by omega) (v := (iI z2)) (ez2) dL_law_356 ?_
          refine sx_lcall (rest := []) E (cX_treeDistance l D h ca n kn fnd fr d sd ix fs fi kp hn hI.1 (f_find hI) hK z1 z2 hz1 hz2) wLX_treeDistance kX_treeDistance ⟨⟨rfl, rfl⟩, by decide, by decide⟩ rfl rfl [0, 1, 2, 3, 4, 5] rfl [0, 1, 2, 3, 4, 5, 6] [7, 8, 9, 10] (pM g cb (nI n) (nF d) mk mi) rfl rfl rfl (by decide) (by decide) (by decide) rfl (Nat.le_of_ble_eq_true rfl) dL_law_357 (fun r357 u357 hp357 => ?_)
          refine sx_w (ws' := ((pM g cb (nI n) (nF d) mk mi) ++ (pX h ca (nI n) u357.1 u357.2.1 u357.2.2.1 (nF d) u357.2.2.2.1 u357.2.2.2.2.1 u357.2.2.2.2.2.1 u357.2.2.2.2.2.2 kp))) rfl ?_
          refine sx_aload_n E dL_law_360 rfl 2 rfl ?_
          refine sx_aload_n E dL_law_361 rfl 0 rfl ?_
          refine sx_iload_n E dL_law_362 rfl 3 rfl ?_
          refine sx_iconst (v := (nI 1)) E dL_law_363 (by decide) ?_
          refine sx_iaddNN E dL_law_364 ?_
          refine sx_sld E hX hbl hbA (by omega) (by omega) (v := (iI z1)) (ez1) dL_law_365 ?_
          refine sx_aload_n E dL_law_366 rfl 0 rfl ?_
          refine sx_iload_n E dL_law_367 rfl 3 rfl ?_
          refine sx_iconst (v := (nI 2)) E dL_law_368 (by decide) ?_
          refine sx_iaddNN E dL_law_369 ?_
          refine sx_sld E hX hbl hbA (by omega) (by omega) (v := (iI z2)) (ez2) dL_law_370 ?_
          refine sx_lcall (rest := [.int r357]) E (cM_treeDistance l D g cb n d mk mi hn hI.1 z1 z2 hz1 hz2) wLM_treeDistance kM_treeDistance ⟨⟨rfl, rfl⟩, by decide, by decide⟩ rfl rfl [6, 7, 8] rfl [0, 1, 2, 3] [4, 5, 6, 7, 8, 9, 10] (pX h ca (nI n) u357.1 u357.2.1 u357.2.2.1 (nF d) u357.2.2.2.1 u357.2.2.2.2.1 u357.2.2.2.2.2.1 u357.2.2.2.2.2.2 kp) rfl rfl rfl (by decide) (by decide) (by decide) rfl (Nat.le_of_ble_eq_true rfl) dL_law_371 (fun r371 u371 hp371 => ?_)
          refine sx_w (ws' := ((pX h ca (nI n) u357.1 u357.2.1 u357.2.2.1 (nF d) u357.2.2.2.1 u357.2.2.2.2.1 u357.2.2.2.2.2.1 u357.2.2.2.2.2.2 kp) ++ (pM g cb (nI n) (nF d) mk u371))) rfl ?_
          refine sx_icmp_eq E 487 dL_law_374 (by decide) (fun c374 => ?_) (fun c374 => ?_)
          · refine sx_iinc E dL_law_487 3 rfl (v := (nI (i + 4))) (inc4 _) (by decide) (lv' := [(0, .ref b), (1, .ref (h 0)), (2, .ref (g 0)), (3, .int (nI (i + 4)))]) [1, 2, 3, 0] rfl ?_
            refine sx_goto E 18 dL_law_490 (by decide) ?_
            exact ih18 (i + 4) n d u357.1 u357.2.1 u357.2.2.1 u357.2.2.2.1 u357.2.2.2.2.1 u357.2.2.2.2.2.1 u357.2.2.2.2.2.2 kp mk u371 (by omega) (hn) (hI) (hp357.2) (by omega)
          · exact absurd (show r357 = r371 by rw [hp357.1, hp371, f_td hI hn]) c374
        · refine sx_tabIn E 347 379 dL_law_32 (by decide) (by decide) (by decide) (by decide) ?_
          refine sx_aload_n E dL_law_379 rfl 1 rfl ?_
          refine sx_aload_n E dL_law_380 rfl 0 rfl ?_
          refine sx_iload_n E dL_law_381 rfl 3 rfl ?_
          refine sx_iconst (v := (nI 1)) E dL_law_382 (by decide) ?_
          refine sx_iaddNN E dL_law_383 ?_
          refine sx_sld E hX hbl hbA (by omega) (by omega) (v := (iI z1)) (ez1) dL_law_384 ?_
          refine sx_aload_n E dL_law_385 rfl 0 rfl ?_
          refine sx_iload_n E dL_law_386 rfl 3 rfl ?_
          refine sx_iconst (v := (nI 2)) E dL_law_387 (by decide) ?_
          refine sx_iaddNN E dL_law_388 ?_
          refine sx_sld E hX hbl hbA (by omega) (by omega) (v := (iI z2)) (ez2) dL_law_389 ?_
          refine sx_lcall (rest := []) E (cX_together l D h ca n kn fnd fr d sd ix fs fi kp hn hI.1 (f_find hI) hK z1 z2 hz1 hz2) wLX_together kX_together ⟨⟨rfl, rfl⟩, by decide, by decide⟩ rfl rfl [0, 1, 2, 3, 4, 5] rfl [0, 1, 2, 3, 4, 5, 6] [7, 8, 9, 10] (pM g cb (nI n) (nF d) mk mi) rfl rfl rfl (by decide) (by decide) (by decide) rfl (Nat.le_of_ble_eq_true rfl) dL_law_390 (fun r390 u390 hp390 => ?_)
          refine sx_w (ws' := ((pM g cb (nI n) (nF d) mk mi) ++ (pX h ca (nI n) u390.1 u390.2.1 u390.2.2.1 (nF d) u390.2.2.2.1 u390.2.2.2.2.1 u390.2.2.2.2.2.1 u390.2.2.2.2.2.2 kp))) rfl ?_
          refine sx_aload_n E dL_law_393 rfl 2 rfl ?_
          refine sx_aload_n E dL_law_394 rfl 0 rfl ?_
          refine sx_iload_n E dL_law_395 rfl 3 rfl ?_
          refine sx_iconst (v := (nI 1)) E dL_law_396 (by decide) ?_
          refine sx_iaddNN E dL_law_397 ?_
          refine sx_sld E hX hbl hbA (by omega) (by omega) (v := (iI z1)) (ez1) dL_law_398 ?_
          refine sx_aload_n E dL_law_399 rfl 0 rfl ?_
          refine sx_iload_n E dL_law_400 rfl 3 rfl ?_
          refine sx_iconst (v := (nI 2)) E dL_law_401 (by decide) ?_
          refine sx_iaddNN E dL_law_402 ?_
          refine sx_sld E hX hbl hbA (by omega) (by omega) (v := (iI z2)) (ez2) dL_law_403 ?_
          refine sx_lcall (rest := [.int r390]) E (cM_together l D g cb n d mk mi hn hI.1 z1 z2 hz1 hz2) wLM_together kM_together ⟨⟨rfl, rfl⟩, by decide, by decide⟩ rfl rfl [6, 7, 8] rfl [0, 1, 2, 3] [4, 5, 6, 7, 8, 9, 10] (pX h ca (nI n) u390.1 u390.2.1 u390.2.2.1 (nF d) u390.2.2.2.1 u390.2.2.2.2.1 u390.2.2.2.2.2.1 u390.2.2.2.2.2.2 kp) rfl rfl rfl (by decide) (by decide) (by decide) rfl (Nat.le_of_ble_eq_true rfl) dL_law_404 (fun r404 u404 hp404 => ?_)
          refine sx_w (ws' := ((pX h ca (nI n) u390.1 u390.2.1 u390.2.2.1 (nF d) u390.2.2.2.1 u390.2.2.2.2.1 u390.2.2.2.2.2.1 u390.2.2.2.2.2.2 kp) ++ (pM g cb (nI n) (nF d) mk u404))) rfl ?_
          refine sx_icmp_eq E 487 dL_law_407 (by decide) (fun c407 => ?_) (fun c407 => ?_)
          · refine sx_iinc E dL_law_487 3 rfl (v := (nI (i + 4))) (inc4 _) (by decide) (lv' := [(0, .ref b), (1, .ref (h 0)), (2, .ref (g 0)), (3, .int (nI (i + 4)))]) [1, 2, 3, 0] rfl ?_
            refine sx_goto E 18 dL_law_490 (by decide) ?_
            exact ih18 (i + 4) n d u390.1 u390.2.1 u390.2.2.1 u390.2.2.2.1 u390.2.2.2.2.1 u390.2.2.2.2.2.1 u390.2.2.2.2.2.2 kp mk u404 (by omega) (hn) (hI) (hp390.2) (by omega)
          · exact absurd (show r390 = r404 by rw [hp390.1, hp404, f_tog hI hn]) c407
        · refine sx_tabIn E 380 412 dL_law_32 (by decide) (by decide) (by decide) (by decide) ?_
          refine sx_aload_n E dL_law_412 rfl 1 rfl ?_
          refine sx_aload_n E dL_law_413 rfl 0 rfl ?_
          refine sx_iload_n E dL_law_414 rfl 3 rfl ?_
          refine sx_iconst (v := (nI 1)) E dL_law_415 (by decide) ?_
          refine sx_iaddNN E dL_law_416 ?_
          refine sx_sld E hX hbl hbA (by omega) (by omega) (v := (iI z1)) (ez1) dL_law_417 ?_
          refine sx_lcall (rest := []) E (cX_agrees l D h ca n kn fnd fr d sd ix fs fi kp hn hI.1 (f_find hI) hK z1 hz1) wLX_agrees kX_agrees ⟨⟨rfl, rfl⟩, by decide, by decide⟩ rfl rfl [0, 1, 2, 3, 4, 5] rfl [0, 1, 2, 3, 4, 5, 6] [7, 8, 9, 10] (pM g cb (nI n) (nF d) mk mi) rfl rfl rfl (by decide) (by decide) (by decide) rfl (Nat.le_of_ble_eq_true rfl) dL_law_418 (fun r418 u418 hp418 => ?_)
          refine sx_w (ws' := ((pM g cb (nI n) (nF d) mk mi) ++ (pX h ca (nI n) u418.1 u418.2.1 u418.2.2.1 (nF d) u418.2.2.2.1 u418.2.2.2.2.1 u418.2.2.2.2.2.1 u418.2.2.2.2.2.2 kp))) rfl ?_
          refine sx_aload_n E dL_law_421 rfl 2 rfl ?_
          refine sx_aload_n E dL_law_422 rfl 0 rfl ?_
          refine sx_iload_n E dL_law_423 rfl 3 rfl ?_
          refine sx_iconst (v := (nI 1)) E dL_law_424 (by decide) ?_
          refine sx_iaddNN E dL_law_425 ?_
          refine sx_sld E hX hbl hbA (by omega) (by omega) (v := (iI z1)) (ez1) dL_law_426 ?_
          refine sx_lcall (rest := [.int r418]) E (cM_agrees l D g cb n d mk mi hn hI.1 z1 hz1) wLM_agrees kM_agrees ⟨⟨rfl, rfl⟩, by decide, by decide⟩ rfl rfl [6, 7, 8] rfl [0, 1, 2, 3] [4, 5, 6, 7, 8, 9, 10] (pX h ca (nI n) u418.1 u418.2.1 u418.2.2.1 (nF d) u418.2.2.2.1 u418.2.2.2.2.1 u418.2.2.2.2.2.1 u418.2.2.2.2.2.2 kp) rfl rfl rfl (by decide) (by decide) (by decide) rfl (Nat.le_of_ble_eq_true rfl) dL_law_427 (fun r427 u427 hp427 => ?_)
          refine sx_w (ws' := ((pX h ca (nI n) u418.1 u418.2.1 u418.2.2.1 (nF d) u418.2.2.2.1 u418.2.2.2.2.1 u418.2.2.2.2.2.1 u418.2.2.2.2.2.2 kp) ++ (pM g cb (nI n) (nF d) mk u427))) rfl ?_
          refine sx_icmp_eq E 487 dL_law_430 (by decide) (fun c430 => ?_) (fun c430 => ?_)
          · refine sx_iinc E dL_law_487 3 rfl (v := (nI (i + 4))) (inc4 _) (by decide) (lv' := [(0, .ref b), (1, .ref (h 0)), (2, .ref (g 0)), (3, .int (nI (i + 4)))]) [1, 2, 3, 0] rfl ?_
            refine sx_goto E 18 dL_law_490 (by decide) ?_
            exact ih18 (i + 4) n d u418.1 u418.2.1 u418.2.2.1 u418.2.2.2.1 u418.2.2.2.2.1 u418.2.2.2.2.2.1 u418.2.2.2.2.2.2 kp mk u427 (by omega) (hn) (hI) (hp418.2) (by omega)
          · exact absurd (show r418 = r427 by rw [hp418.1, hp427, f_agrees hI hn]) c430
        · refine sx_tabIn E 403 435 dL_law_32 (by decide) (by decide) (by decide) (by decide) ?_
          refine sx_aload_n E dL_law_435 rfl 1 rfl ?_
          refine sx_lcall (rest := []) E (cX_agreeing l D h ca n kn fnd fr d sd ix fs fi kp hn hI.1 (f_find hI) hK  ) wLX_agreeing kX_agreeing ⟨⟨rfl, rfl⟩, by decide, by decide⟩ rfl rfl [0, 1, 2, 3, 4, 5] rfl [0, 1, 2, 3, 4, 5, 6] [7, 8, 9, 10] (pM g cb (nI n) (nF d) mk mi) rfl rfl rfl (by decide) (by decide) (by decide) rfl (Nat.le_of_ble_eq_true rfl) dL_law_436 (fun r436 u436 hp436 => ?_)
          refine sx_w (ws' := ((pM g cb (nI n) (nF d) mk mi) ++ (pX h ca (nI n) u436.1 u436.2.1 u436.2.2.1 (nF d) u436.2.2.2.1 u436.2.2.2.2.1 u436.2.2.2.2.2.1 u436.2.2.2.2.2.2 kp))) rfl ?_
          refine sx_aload_n E dL_law_439 rfl 2 rfl ?_
          refine sx_lcall (rest := [.int r436]) E (cM_agreeing l D g cb n d mk mi hn hI.1  ) wLM_agreeing kM_agreeing ⟨⟨rfl, rfl⟩, by decide, by decide⟩ rfl rfl [6, 7, 8] rfl [0, 1, 2, 3] [4, 5, 6, 7, 8, 9, 10] (pX h ca (nI n) u436.1 u436.2.1 u436.2.2.1 (nF d) u436.2.2.2.1 u436.2.2.2.2.1 u436.2.2.2.2.2.1 u436.2.2.2.2.2.2 kp) rfl rfl rfl (by decide) (by decide) (by decide) rfl (Nat.le_of_ble_eq_true rfl) dL_law_440 (fun r440 u440 hp440 => ?_)
          refine sx_w (ws' := ((pX h ca (nI n) u436.1 u436.2.1 u436.2.2.1 (nF d) u436.2.2.2.1 u436.2.2.2.2.1 u436.2.2.2.2.2.1 u436.2.2.2.2.2.2 kp) ++ (pM g cb (nI n) (nF d) mk u440))) rfl ?_
          refine sx_icmp_eq E 487 dL_law_443 (by decide) (fun c443 => ?_) (fun c443 => ?_)
          · refine sx_iinc E dL_law_487 3 rfl (v := (nI (i + 4))) (inc4 _) (by decide) (lv' := [(0, .ref b), (1, .ref (h 0)), (2, .ref (g 0)), (3, .int (nI (i + 4)))]) [1, 2, 3, 0] rfl ?_
            refine sx_goto E 18 dL_law_490 (by decide) ?_
            exact ih18 (i + 4) n d u436.1 u436.2.1 u436.2.2.1 u436.2.2.2.1 u436.2.2.2.2.1 u436.2.2.2.2.2.1 u436.2.2.2.2.2.2 kp mk u440 (by omega) (hn) (hI) (hp436.2) (by omega)
          · exact absurd (show r436 = r440 by rw [hp436.1, hp440, f_agreeing hI hn]) c443
        · refine sx_tabIn E 416 448 dL_law_32 (by decide) (by decide) (by decide) (by decide) ?_
          refine sx_aload_n E dL_law_448 rfl 1 rfl ?_
          refine sx_lcall (rest := []) E (cX_treelike l D h ca n kn fnd fr d sd ix fs fi kp hn hI.1 (f_find hI) hK  ) wLX_treelike kX_treelike ⟨⟨rfl, rfl⟩, by decide, by decide⟩ rfl rfl [0, 1, 2, 3, 4, 5] rfl [0, 1, 2, 3, 4, 5, 6] [7, 8, 9, 10] (pM g cb (nI n) (nF d) mk mi) rfl rfl rfl (by decide) (by decide) (by decide) rfl (Nat.le_of_ble_eq_true rfl) dL_law_449 (fun r449 u449 hp449 => ?_)
          refine sx_w (ws' := ((pM g cb (nI n) (nF d) mk mi) ++ (pX h ca (nI n) u449.1 u449.2.1 u449.2.2.1 (nF d) u449.2.2.2.1 u449.2.2.2.2.1 u449.2.2.2.2.2.1 u449.2.2.2.2.2.2 kp))) rfl ?_
          refine sx_aload_n E dL_law_452 rfl 2 rfl ?_
          refine sx_lcall (rest := [.int r449]) E (cM_treelike l D g cb n d mk mi hn hI.1) wLM_treelike kM_treelike ⟨⟨rfl, rfl⟩, by decide, by decide⟩ rfl rfl [6, 7, 8] rfl [0, 1, 2, 3] [4, 5, 6, 7, 8, 9, 10] (pX h ca (nI n) u449.1 u449.2.1 u449.2.2.1 (nF d) u449.2.2.2.1 u449.2.2.2.2.1 u449.2.2.2.2.2.1 u449.2.2.2.2.2.2 kp) rfl rfl rfl (by decide) (by decide) (by decide) rfl (Nat.le_of_ble_eq_true rfl) dL_law_453 (fun r453 u453 hp453 => ?_)
          refine sx_w (ws' := ((pX h ca (nI n) u449.1 u449.2.1 u449.2.2.1 (nF d) u449.2.2.2.1 u449.2.2.2.2.1 u449.2.2.2.2.2.1 u449.2.2.2.2.2.2 kp) ++ (pM g cb (nI n) (nF d) mk mi))) rfl ?_
          refine sx_icmp_eq E 487 dL_law_456 (by decide) (fun c456 => ?_) (fun c456 => ?_)
          · refine sx_iinc E dL_law_487 3 rfl (v := (nI (i + 4))) (inc4 _) (by decide) (lv' := [(0, .ref b), (1, .ref (h 0)), (2, .ref (g 0)), (3, .int (nI (i + 4)))]) [1, 2, 3, 0] rfl ?_
            refine sx_goto E 18 dL_law_490 (by decide) ?_
            exact ih18 (i + 4) n d u449.1 u449.2.1 u449.2.2.1 u449.2.2.2.1 u449.2.2.2.2.1 u449.2.2.2.2.2.1 u449.2.2.2.2.2.2 kp mk mi (by omega) (hn) (hI) (hp449.2) (by omega)
          · exact absurd (show r449 = r453 by rw [hp449.1, hp453, f_treelike hI hn]) c456
        · refine sx_tabIn E 429 461 dL_law_32 (by decide) (by decide) (by decide) (by decide) ?_
          refine sx_aload_n E dL_law_461 rfl 1 rfl ?_
          refine sx_lcall (rest := []) E (cX_span l D h ca n kn fnd fr d sd ix fs fi kp hn hI.1 (f_find hI) hK  ) wLX_span kX_span ⟨⟨rfl, rfl⟩, by decide, by decide⟩ rfl rfl [0, 1, 2, 3, 4, 5] rfl [0, 1, 2, 3, 4, 5, 6] [7, 8, 9, 10] (pM g cb (nI n) (nF d) mk mi) rfl rfl rfl (by decide) (by decide) (by decide) rfl (Nat.le_of_ble_eq_true rfl) dL_law_462 (fun r462 u462 hp462 => ?_)
          refine sx_w (ws' := ((pM g cb (nI n) (nF d) mk mi) ++ (pX h ca (nI n) u462.1 u462.2.1 u462.2.2.1 (nF d) u462.2.2.2.1 u462.2.2.2.2.1 u462.2.2.2.2.2.1 u462.2.2.2.2.2.2 kp))) rfl ?_
          refine sx_aload_n E dL_law_465 rfl 2 rfl ?_
          refine sx_lcall (rest := [.int r462]) E (cM_span l D g cb n d mk mi hn hI.1  ) wLM_span kM_span ⟨⟨rfl, rfl⟩, by decide, by decide⟩ rfl rfl [6, 7, 8] rfl [0, 1, 2, 3] [4, 5, 6, 7, 8, 9, 10] (pX h ca (nI n) u462.1 u462.2.1 u462.2.2.1 (nF d) u462.2.2.2.1 u462.2.2.2.2.1 u462.2.2.2.2.2.1 u462.2.2.2.2.2.2 kp) rfl rfl rfl (by decide) (by decide) (by decide) rfl (Nat.le_of_ble_eq_true rfl) dL_law_466 (fun r466 u466 hp466 => ?_)
          refine sx_w (ws' := ((pX h ca (nI n) u462.1 u462.2.1 u462.2.2.1 (nF d) u462.2.2.2.1 u462.2.2.2.2.1 u462.2.2.2.2.2.1 u462.2.2.2.2.2.2 kp) ++ (pM g cb (nI n) (nF d) mk u466))) rfl ?_
          refine sx_icmp_eq E 487 dL_law_469 (by decide) (fun c469 => ?_) (fun c469 => ?_)
          · refine sx_iinc E dL_law_487 3 rfl (v := (nI (i + 4))) (inc4 _) (by decide) (lv' := [(0, .ref b), (1, .ref (h 0)), (2, .ref (g 0)), (3, .int (nI (i + 4)))]) [1, 2, 3, 0] rfl ?_
            refine sx_goto E 18 dL_law_490 (by decide) ?_
            exact ih18 (i + 4) n d u462.1 u462.2.1 u462.2.2.1 u462.2.2.2.1 u462.2.2.2.2.1 u462.2.2.2.2.2.1 u462.2.2.2.2.2.2 kp mk u466 (by omega) (hn) (hI) (hp462.2) (by omega)
          · exact absurd (show r462 = r466 by rw [hp462.1, hp466, f_span hI hn]) c469
        · refine sx_tabIn E 442 474 dL_law_32 (by decide) (by decide) (by decide) (by decide) ?_
          refine sx_aload_n E dL_law_474 rfl 1 rfl ?_
          refine sx_lcall (rest := []) E (cX_weight l D h ca n kn fnd fr d sd ix fs fi kp hn hI.1 (f_find hI) hK  ) wLX_weight kX_weight ⟨⟨rfl, rfl⟩, by decide, by decide⟩ rfl rfl [0, 1, 2, 3, 4, 5] rfl [0, 1, 2, 3, 4, 5, 6] [7, 8, 9, 10] (pM g cb (nI n) (nF d) mk mi) rfl rfl rfl (by decide) (by decide) (by decide) rfl (Nat.le_of_ble_eq_true rfl) dL_law_475 (fun r475 u475 hp475 => ?_)
          refine sx_w (ws' := ((pM g cb (nI n) (nF d) mk mi) ++ (pX h ca (nI n) u475.1 u475.2.1 u475.2.2.1 (nF d) u475.2.2.2.1 u475.2.2.2.2.1 u475.2.2.2.2.2.1 u475.2.2.2.2.2.2 kp))) rfl ?_
          refine sx_aload_n E dL_law_478 rfl 2 rfl ?_
          refine sx_lcall (rest := [.int r475]) E (cM_weight l D g cb n d mk mi hn hI.1  ) wLM_weight kM_weight ⟨⟨rfl, rfl⟩, by decide, by decide⟩ rfl rfl [6, 7, 8] rfl [0, 1, 2, 3] [4, 5, 6, 7, 8, 9, 10] (pX h ca (nI n) u475.1 u475.2.1 u475.2.2.1 (nF d) u475.2.2.2.1 u475.2.2.2.2.1 u475.2.2.2.2.2.1 u475.2.2.2.2.2.2 kp) rfl rfl rfl (by decide) (by decide) (by decide) rfl (Nat.le_of_ble_eq_true rfl) dL_law_479 (fun r479 u479 hp479 => ?_)
          refine sx_w (ws' := ((pX h ca (nI n) u475.1 u475.2.1 u475.2.2.1 (nF d) u475.2.2.2.1 u475.2.2.2.2.1 u475.2.2.2.2.2.1 u475.2.2.2.2.2.2 kp) ++ (pM g cb (nI n) (nF d) mk u479))) rfl ?_
          refine sx_icmp_eq E 487 dL_law_482 (by decide) (fun c482 => ?_) (fun c482 => ?_)
          · refine sx_iinc E dL_law_487 3 rfl (v := (nI (i + 4))) (inc4 _) (by decide) (lv' := [(0, .ref b), (1, .ref (h 0)), (2, .ref (g 0)), (3, .int (nI (i + 4)))]) [1, 2, 3, 0] rfl ?_
            refine sx_goto E 18 dL_law_490 (by decide) ?_
            exact ih18 (i + 4) n d u475.1 u475.2.1 u475.2.2.1 u475.2.2.2.1 u475.2.2.2.2.1 u475.2.2.2.2.2.1 u475.2.2.2.2.2.2 kp mk u479 (by omega) (hn) (hI) (hp475.2) (by omega)
          · exact absurd (show r475 = r479 by rw [hp475.1, hp479, f_weight hI hn]) c482
        · refine sx_tabOut E 487 dL_law_32 (by rw [nI_toInt (by omega)]; omega) (by decide) ?_
          refine sx_iinc E dL_law_487 3 rfl (v := (nI (i + 4))) (inc4 _) (by decide) (lv' := [(0, .ref b), (1, .ref (h 0)), (2, .ref (g 0)), (3, .int (nI (i + 4)))]) [1, 2, 3, 0] rfl ?_
          refine sx_goto E 18 dL_law_490 (by decide) ?_
          exact ih18 (i + 4) n d kn fnd fr sd ix fs fi kp mk mi (by omega) (hn) (hI) (hK) (by omega)
  exact L18 _ 0 0 (fun _ => 0) (bI false) (nI 0) (nI 0) (nF fun _ => 0) (nF fun _ => 0) (nF fun _ => 0) (nF fun _ => 0) (nF fun _ => 0) (nF fun _ => 0) (nF fun _ => 0) (Nat.zero_le _) (Nat.zero_le _) (f_inv0) (⟨false, rfl, fun e => by cases e⟩) (Nat.lt_succ_self _)
end
section
set_option maxRecDepth 100000
/-! THE CLAIM OUT OF ONE WALK OF THE LAW'S BODY. Your part is whole_start (and what it stands on); all else here is the same for every law, but numbers. -/
def R_law : String := "SplitTreeLaw"
def lw_P (b : Addr) (xs : List Int32) (args : Array Value) (s : State) : Prop := args = #[.ref b] ∧ s.IntsAt b xs ∧ xs.length ≤ 256 ∧ (Jvm.Cond.and given_1 narrow_1).before args s = true
def lw_Q (_ : Array Value) (s : State) (o : Outcome) (t : State) : Prop := o = .returned (some (.int 1)) ∧ Framed s o t [] 600000 7290000
def lw_Z (below : List Frame) (a : Array Value) (s : State) : State → Prop := fun t => ∃ o, t.status = .running ∧ Ended t below o ∧ lw_Q a s o t
/-- the law's own end, with 1 on the stack, nothing written that was there before, its room as the claim has it -/
theorem lw_ret {p : Program} {l : Launch} {e : Env} {s : State} {m : MethodId} {below : List Frame} {meth : Method} {c : Code} {b : Nat} (hx : p.tables.exec = Jvm.exec) (hb : c.code = code) (hr : meth.sig.returnType = ret) (hlocks : meth.locks = false) {pc : Nat} {H : Heap} {ls : Array Slot} (hdg : decode code pc = .ok (.ireturn, 1)) : W p l e room_1 s m #[Value.ref b] below meth c H [] 600000 7290000 (lw_Z below #[Value.ref b] s) (F0 m pc ls [.int 1]) := by
  intro T hT X
  obtain ⟨fs, hret, hrun, hended, hW, hframe⟩ := X.leave (v := some (.int 1)) (hlocks := hlocks) (fun h => by rw [hr] at h; cases h)
  have hmeth' : T.vm.method? m = some meth := X.method'
  refine ⟨T.setFrames fs, ?_, .returned (some (.int 1)), hrun, hended, rfl, ⟨_, rfl⟩, hW, hframe⟩
  jvm_step X.here [X.here.top, hx, hb, hdg, hmeth', hr, ret, narrow_b1]
  (try refine ⟨rfl, ?_⟩); (try refine ⟨rfl, ?_⟩)
  first | (intro acts; rw [hret _ acts rfl rfl rfl]) | rw [hret _ _ rfl rfl rfl]
  exact Steps.refl _
/-- what holds at the law's entry: the machine, the code, the tables' words (any of lw_tbl by 'hts w (by decide +kernel)'), the script of L ints xs at the cell b, what the Statement gives of the start (any of its parts by flat_of_before) -/
def lw_At (p : Program) (s : State) (m : MethodId) (meth : Method) (c : Code) (b L : Nat) (xs : Nat → Int32) : Prop :=
  p.tables.exec = Jvm.exec ∧ c.code = code ∧ meth.sig.returnType = ret ∧ c.maxLocals = 4 ∧ s.vm.findClass R_law = some m.cls ∧ (∀ w ∈ lw_tbl, w.before #[Value.ref b] s = true) ∧ va_X b L xs s s.heap ∧ b < s.heap.size ∧ meth.locks = false ∧ (Jvm.Cond.and given_1 narrow_1).before #[Value.ref b] s = true
-- ===== YOUR PART BEGINS =====
set_option maxHeartbeats 4000000 in
/-- from the entry, for every script of at most 256 ints, the law comes to its end with true -/
theorem whole_start {p : Program} {e : Env} {s : State} {m : MethodId} {below : List Frame} {meth : Method} {c : Code} (l : Launch) {b L : Nat} {xs : Nat → Int32} (hL : L ≤ 256) (C0 : lw_At p s m meth c b L xs) : W p l e room_1 s m #[Value.ref b] below meth c s.heap [] 0 0 (lw_Z below #[Value.ref b] s) (entryFrame m ([Value.ref b] : List Value).toArray 4) := by
  obtain ⟨hx, hb, hr, hml, hown, hts0, hX, hbl, hlocks, hgv⟩ := C0
  have hts : ∀ w ∈ lw_all, w.before #[Value.ref b] s = true := fun w h => hts0 w (lw_all_tbl h)
  obtain ⟨c0_, iS0, hKn0⟩ := u_known (C := RX0) (T := TX0) (N := 10) (n := 10) hts0 (fun w h => lw_all_tbl (in_X0 w h)) (hts0 _ (lw_all_tbl q32))
  obtain ⟨c1_, iS1, hKn1⟩ := u_known (C := RX1) (T := TX1) (N := 4) (n := 4) hts0 (fun w h => lw_all_tbl (in_X1 w h)) (hts0 _ (lw_all_tbl q213))
  obtain ⟨D, hK⟩ : ∃ D : va_G, va_K D cls2 [] s := by
    refine ⟨(fun k => if k = 0 then c0_ else c1_, fun k => if k = 0 then iS0 else iS1), ?_, fun k q h => by simp at h⟩
    intro k q hq
    match k, hq with
    | 0, hq => cases hq; exact hKn0
    | 1, hq => cases hq; exact hKn1
    | k + 2, hq => simp [cls2] at hq
  obtain ⟨A, hAe⟩ : ∃ A : Nat → Prop, A = fun q => s.heap.size ≤ q := ⟨_, rfl⟩
  have hA : ∀ q : Nat, s.heap.size ≤ q → A q := fun q h => by rw [hAe]; exact h
  have hA2 : ∀ q : Nat, A q → s.heap.size ≤ q := fun q h => by rw [hAe] at h; exact h
  have hS : va_S A s.heap s.heap [] := va_S.rf
  have hP : va_P D cls2 [] s.heap := fun k q h => by simp at h
  have hD : va_D A [] := ⟨fun i j x y h => by simp at h, fun k q h => by simp at h⟩
  have hl := lv_entry ([.ref b]) (n := 4) (Nat.le_of_ble_eq_true rfl)
  rw [lg_entry_eq]
  generalize (lg_sl ([.ref b]) ++ List.replicate (4 - (lg_sl ([.ref b])).length) Slot.unset).toArray = ls at hl ⊢
  have hl : lv_has ls 4 [(0, .ref b)] := hl
  refine va_new (ci := 0) (fs := f0X) (C := RX0) (T := TX0) (N := 10) hx hb hts in_X0 tyX0 tyX0_ok hown (hts _ q31) (hts _ q32) (hts _ q29) hK hP hD hS hA rfl (fun j hj => by rcases (show j = 0 ∨ j = 1 ∨ j = 2 ∨ j = 3 ∨ j = 4 ∨ j = 5 ∨ j = 6 ∨ j = 7 ∨ j = 8 ∨ j = 9 by omega) with rfl | rfl | rfl | rfl | rfl | rfl | rfl | rfl | rfl | rfl <;> rfl) (Nat.le_of_ble_eq_true rfl) (Nat.le_of_ble_eq_true rfl) dL_law_0 (fun qx H hP hD hS => ?_)
  have hP : va_P D cls2 (w0X qx) H := hP
  have hD : va_D A (w0X qx) := hD
  refine W.widen (k := 1) (n := 10) (Nat.le_of_ble_eq_true rfl) (Nat.le_of_ble_eq_true rfl) ?_
  refine lv_dup hx hb dL_law_3 rfl ?_
  have hF := sx_free hD hS hA
  refine va_callv (va_runI (As := []) (rest := [.ref qx]) ⟨hx, hb, hml, hown, hts⟩ (cX_init l D qx H.size) (cwI 0 hts (lw_meth q35) rfl rfl rfl (hts _ q29) (hts _ q33) (hts _ q34) rfl (by decide +kernel) ⟨Nat.le_of_ble_eq_true rfl, Nat.le_of_ble_eq_true rfl⟩) ⟨sx_blind, fun U hU hW => ⟨rfl, by rw [hU], by rw [hU]; exact hP, va_K.moved hW.alike hK, hD.weaken (fun _ _ _ _ => trivial)⟩⟩ rfl rfl hl.1 rfl (lv_room (Nat.le_of_ble_eq_true rfl)) dL_law_4 ⟨Nat.le_of_ble_eq_true rfl, Nat.le_of_ble_eq_true rfl⟩) hS (fun q _ h => hF q h) hF (fun u t H1 locs ht hvm hw1 hB hz1 hk1 hS => ?_)
  obtain ⟨hP1, hK1, hD1⟩ := hB
  rw [ht] at hP1
  have hK := va_K.moved hvm.symm hK1
  have hD := hD1.weaken (fun _ _ _ z => hF _ z)
  have hP := hP1
  clear hP1 hK1 hD1
  refine W.widen (k := 7) (n := 236) (Nat.le_of_ble_eq_true rfl) (Nat.le_of_ble_eq_true rfl) ?_
  refine lv_astore_n (lv' := [(1, .ref qx), (0, .ref b)]) hx hb dL_law_7 rfl hl (by decide) rfl (fun ls hl => ?_)
  obtain ⟨h, ca⟩ := u
  have hw1 : h 0 = qx := hw1
  refine va_new (ci := 1) (fs := f0M) (C := RX1) (T := TX1) (N := 4) hx hb hts in_X1 tyX1 tyX1_ok hown (hts _ q212) (hts _ q213) (hts _ q30) hK hP hD hS hA rfl (fun j hj => by rcases (show j = 0 ∨ j = 1 ∨ j = 2 ∨ j = 3 by omega) with rfl | rfl | rfl | rfl <;> rfl) (Nat.le_of_ble_eq_true rfl) (Nat.le_of_ble_eq_true rfl) dL_law_8 (fun qm H2 hP hD hS => ?_)
  refine W.widen (k := 8) (n := 240) (Nat.le_of_ble_eq_true rfl) (Nat.le_of_ble_eq_true rfl) ?_
  refine lv_dup hx hb dL_law_11 rfl ?_
  have hPc := hP.sub (ws' := w0M qm) [7] rfl
  have hDc := hD.sub (ws' := w0M qm) [7] (by decide) rfl
  have hKc := hK.sub (tys' := []) [] rfl
  have hF2 := sx_free hDc hS hA
  refine va_callv (va_runI (As := []) (rest := [.ref qm]) ⟨hx, hb, hml, hown, hts⟩ (cM_init l D qm H2.size) (cwI 0 hts (lw_meth q216) rfl rfl rfl (hts _ q30) (hts _ q214) (hts _ q215) rfl (by decide +kernel) ⟨Nat.le_of_ble_eq_true rfl, Nat.le_of_ble_eq_true rfl⟩) ⟨sx_blind, fun U hU hW => ⟨rfl, by rw [hU], by rw [hU]; exact hPc, va_K.moved hW.alike hKc, hDc.weaken (fun _ _ _ _ => trivial)⟩⟩ rfl rfl hl.1 rfl (lv_room (Nat.le_of_ble_eq_true rfl)) dL_law_12 ⟨Nat.le_of_ble_eq_true rfl, Nat.le_of_ble_eq_true rfl⟩) hS (fun q _ h => hF2 q h) hF2 (fun u t H3 locs ht hvm hw2 hB hz1 hk1 hS => ?_)
  obtain ⟨hP1, hK1, hD1⟩ := hB
  rw [ht] at hP1
  obtain ⟨g, cb⟩ := u
  have hw2 : g 0 = qm := hw2
  obtain ⟨hP, hD⟩ := va_join (wr := pX h ca (nI 0) (bI false) (nI 0) (nI 0) (nF fun _ => 0) (nF fun _ => 0) (nF fun _ => 0) (nF fun _ => 0) (nF fun _ => 0) (nF fun _ => 0)) hP hD [7] [0, 1, 2, 3, 4, 5, 6] rfl rfl (by decide) (by decide) hk1 hF2 hP1 hD1
  have hK := hK.app (va_K.moved hvm.symm hK1)
  refine W.widen (k := 600000) (n := 7290000) (Nat.le_of_ble_eq_true rfl) (Nat.le_of_ble_eq_true rfl) ?_
  refine lv_astore_n (lv' := [(2, .ref qm), (1, .ref qx), (0, .ref b)]) hx hb dL_law_15 rfl hl (by decide) rfl (fun ls hl => ?_)
  refine lv_iconst (v := nI 0) hx hb dL_law_16 (by decide) ?_
  refine lv_istore_n (lv' := [(3, .int (nI 0)), (2, .ref qm), (1, .ref qx), (0, .ref b)]) hx hb dL_law_17 rfl hl (by decide) rfl (fun ls hl => ?_)
  have hl := lv_sub (l' := [(0, .ref b), (1, .ref qx), (2, .ref qm), (3, .int (nI 0))]) hl [3, 2, 1, 0] rfl
  rw [← hw1, ← hw2] at hl
  exact law_loop (G := (p, l, e, room_1, s, m, #[Value.ref b], below, meth, c, 600000, 7290000, lw_Z below #[Value.ref b] s, 4, D, tyX ca ++ tyM cb, A))
    ⟨hx, hb, hml, hown, hts, hK, hA, ⟨Nat.le_refl _, Nat.le_refl _⟩, rfl, rfl, rfl, rfl, rfl⟩ hX hbl (fun z => by have := hA2 b z; exact absurd hbl (Nat.not_lt.mpr this)) hL
    (fun ws pc lv d H locs ls hP hD hS hl => va_forget (fun q hq => hA2 _ (hS.2.2 q hq)) (lw_ret hx hb hr hlocks d)) H3 locs ls hP hD hS hl
-- ===== YOUR PART ENDS =====
set_option maxHeartbeats 4000000 in
theorem lw_walk (l : Launch) (b : Addr) (xs : List Int32) : MetFree l x (headSpec (Jvm.Cond.code x code maxLocals ret :: tables_1) room_1) (lw_P b xs) (fun _ _ _ _ _ => True) lw_Q := by
  refine MetFree.of_bodyS (code := code) (maxLocals := maxLocals) (ret := ret) (by decide) ?_ ?_
  · intro args s m h hn
    obtain ⟨meth, c, h1, h2, h3, h4, h5, h6, -, -⟩ := Cond.code_spec hn (atoms_spec (ws := Jvm.Cond.code x code maxLocals ret :: tables_1) h _ List.mem_cons_self)
    exact ⟨meth, c, h1, h2, h3, h4, h5, h6⟩
  · intro p e s m args below meth c s₁ B hml0 hP _
    obtain ⟨rfl, hx, hbd, hgv⟩ := hP
    obtain ⟨scr, harrAt, hlist, hof, hsmall⟩ := hx
    obtain ⟨hcb, hkn, -, -⟩ := State.arrayAt?_spec harrAt
    have hown : s.vm.findClass R_law = some m.cls := findClass_of_methodNamed B.named
    have hts0 : ∀ c ∈ (Jvm.Cond.code x code maxLocals ret :: tables_1), c.before #[Value.ref b] s = true := atoms_spec (ws := Jvm.Cond.code x code maxLocals ret :: tables_1) B.pre
    have hts : ∀ w ∈ lw_tbl, w.before #[Value.ref b] s = true := k2_hts_sels lw_privs (fun w hw => hts0 w (List.mem_cons_of_mem _ hw)) lw_privs_ok
    have hml : c.maxLocals = 4 := B.maxLocals_eq (hts0 _ List.mem_cons_self)
    have X₀ : Stand p l e room_1 s m #[Value.ref b] below meth c s₁ [] 0 0 := Stand.of_body B
    have hh0 : s₁.heap = s.heap := by rw [B.state]; rfl
    have hsz : scr.slots.size = xs.length := by rw [← Array.length_toList, hlist, List.length_map]
    have hval : ∀ j : Nat, j < xs.length → scr.slots[j]? = some (.int (xs.getD j 0)) := fun j hj => by
      rw [← Array.getElem?_toList, hlist]
      simp [hj]
    have hbl : b < s.heap.size := (Array.getElem?_eq_some_iff.mp hcb).1
    have hX : va_X b xs.length (fun j => xs.getD j 0) s s.heap := ⟨scr, hcb, hof, hkn, hsz, hval⟩
    have K : W p l e room_1 s m #[Value.ref b] below meth c s₁.heap [] 0 0 (lw_Z below #[Value.ref b] s) (entryFrame m ([Value.ref b] : List Value).toArray 4) := by
      rw [hh0]
      exact whole_start l hbd ⟨B.exec, B.bytes, B.returns, hml, hown, hts, hX, hbl, B.notSynchronized, hgv⟩
    obtain ⟨t, a1, o, b1, b2, b3⟩ := K s₁ rfl X₀
    exact ⟨t, o, a1, b1, b2, b3⟩
theorem lw_pre_spec {args : Array Value} {s : State} (h : (Jvm.Cond.and given_1 narrow_1).before args s = true) (hr : rest_1_c.before args s = true) : ∃ (b : Addr) (xs : List Int32), lw_P b xs args s := by
  have hs := flat_of_before _ h
  have hq := flat_of_before _ hr
  have hc : (Cond.count 1).before args s = true := hs _ (by decide +kernel)
  have harr : (Cond.arrayOf (.arg 0) .int).before args s = true := hs _ (by decide +kernel)
  have hle : (Cond.le (.length (.arg 0)) (.int 256)).before args s = true := hs _ (by decide +kernel)
  have hlen : (Cond.isInt (.length (.arg 0))).before args s = true := hq _ (by decide +kernel)
  have hall : (Cond.all (.arg 0) (.isInt (.elem (.arg 0) (.index 0)))).before args s = true := hq _ (by decide +kernel)
  obtain ⟨b, xs, hb, hx⟩ := State.ints_of_pre rfl harr hlen hall
  have hsm : xs.length < 2 ^ 31 := hx.choose_spec.2.2.2
  have hev : (Term.length (.arg 0)).eval args s none [] s = some (.int xs.length.toInt32) := hx.length_eval hb
  have hv := Cond.le_ints hev (show (Term.int 256).eval args s none [] s = some (.int 256) from rfl)
  have hd : xs.length.toInt32 ≤ 256 := by
    simpa [Cond.before, Cond.holds, hv] using hle
  have hN : xs.length ≤ 256 := (Int32.ofNat_le_ofNat hsm (by decide)).mp (show Int32.ofNat xs.length ≤ Int32.ofNat 256 from hd)
  exact ⟨b, xs, Cond.one_arg hc (show args[0]? = some (.ref b) from hb), hx, hN, h⟩
theorem lw_comes (l : Launch) : Comes l x (Jvm.Cond.code x code maxLocals ret :: tables_1) room_1 (fun tb e args s => Calls_1 tb e args s ∧ rest_1 tb e args s ∧ Pre_1 tb e args s)
    (fun _ _ args s o t => lw_Q args s o t) := by
  intro p e ha hc hk s m args below hf hfit hheap happ hpre
  obtain ⟨b, xs, hP⟩ := lw_pre_spec hpre.2.2 hpre.2.1
  obtain ⟨k, o, h1, h2, h3, hQ⟩ := lw_walk l b xs p e ha hc hk s m args below hf ((Spec.applies_iff_loose hf).mp happ).1 hP trivial
  exact ⟨k, o, h1, h2, h3, hQ⟩
theorem lw_frame {s t : State} {o : Outcome} {args : Array Value} (h : Framed s o t [] 600000 7290000) :
    Framed s o t (fieldLocs frame_1_writes args s ++ arrayLocs frame_1_arrays args s ++ staticLocs frame_1_statics s) 600000 7290000 := h
theorem lw_limb (L : Cond) (hL : ∀ (args : Array Value) (s t : State), L.after args s (.returned (some (.int 1))) t = true) :
    ArmFor flags0 classFile x code maxLocals ret World_1 tables_1 room_1 Calls_1 rest_1 Pre_1
      (fun tb e a s o t => postC L tb e a s o t ∧ Framed s o t (fieldLocs frame_1_writes a s ++ arrayLocs frame_1_arrays a s ++ staticLocs frame_1_statics s) 600000 7290000) := by
  intro l _ _ _ p e ha hc hk s m args below hf hfit hheap happ hpre
  obtain ⟨k, o, h1, h2, h3, rfl, hF⟩ := lw_comes l p e ha hc hk s m args below hf hfit hheap happ hpre
  exact ⟨k, _, h1, h2, h3, hL args s _, lw_frame hF⟩
theorem i_vc : Claimed_1_1 ∧ Claimed_1_2 := ⟨lw_limb limb_1_1 (fun args s t => by simp [limb_1_1, Cond.after, Cond.holds, Cond.value]), lw_limb limb_1_2 (fun args s t => Cond.after_iff.mpr (by
  first | (rw [show limb_1_2 = Cond.eq .result (.int 1) from rfl, Cond.eq_ints (x := 1) (y := 1) rfl rfl]; simp; done) | (simp [limb_1_2, Cond.value, Term.eval]; done)))⟩
end
