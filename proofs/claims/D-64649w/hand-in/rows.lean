section
-- ===== PART A: goes FIRST, ahead of the names: the tables' words, and 'selects' of the private methods out of them =====
/-- a private method of a class that the tables say can be made, by its rows of tables_1 -/
def lw_okq (q : MethodName × Nat) : Prop := (q.1.cls ≠ "java/lang/invoke/MethodHandle" ∧ q.1.cls ≠ "java/lang/invoke/VarHandle") ∧ Cond.instantiable q.1.cls q.2 ∈ tables_1 ∧ Cond.privateMethod q.1 ∈ tables_1 ∧ Cond.instanceMethod q.1 ∈ tables_1
set_option maxRecDepth 100000
theorem lw_t1 {w : Cond} (h : w ∈ tables_1_1) : w ∈ tables_1 := List.mem_append_left _ h
theorem lw_t2 {w : Cond} (h : w ∈ tables_1_2) : w ∈ tables_1 := List.mem_append_right _ h
theorem lw_p0 : lw_okq (⟨"OctreeSolid", "clearChains", "()V"⟩, 16) := ⟨⟨by decide +kernel, by decide +kernel⟩, lw_t1 (List.mem_of_getElem? (i := 4) rfl), lw_t1 (List.mem_of_getElem? (i := 12) rfl), lw_t1 (List.mem_of_getElem? (i := 13) rfl)⟩
theorem lw_p1 : lw_okq (⟨"OctreeSolid", "build", "(I)V"⟩, 16) := ⟨⟨by decide +kernel, by decide +kernel⟩, lw_t1 (List.mem_of_getElem? (i := 4) rfl), lw_t1 (List.mem_of_getElem? (i := 77) rfl), lw_t1 (List.mem_of_getElem? (i := 78) rfl)⟩
theorem lw_p2 : lw_okq (⟨"OctreeSolid", "sweep", "()V"⟩, 16) := ⟨⟨by decide +kernel, by decide +kernel⟩, lw_t1 (List.mem_of_getElem? (i := 4) rfl), lw_t1 (List.mem_of_getElem? (i := 81) rfl), lw_t1 (List.mem_of_getElem? (i := 82) rfl)⟩
theorem lw_p3 : lw_okq (⟨"OctreeSolid", "markFrom", "(I)V"⟩, 16) := ⟨⟨by decide +kernel, by decide +kernel⟩, lw_t1 (List.mem_of_getElem? (i := 4) rfl), lw_t1 (List.mem_of_getElem? (i := 85) rfl), lw_t1 (List.mem_of_getElem? (i := 86) rfl)⟩
theorem lw_p4 : lw_okq (⟨"OctreeSolid", "markOf", "(I)I"⟩, 16) := ⟨⟨by decide +kernel, by decide +kernel⟩, lw_t1 (List.mem_of_getElem? (i := 4) rfl), lw_t1 (List.mem_of_getElem? (i := 89) rfl), lw_t1 (List.mem_of_getElem? (i := 90) rfl)⟩
theorem lw_p5 : lw_okq (⟨"OctreeSolid", "cellOf", "(I)I"⟩, 16) := ⟨⟨by decide +kernel, by decide +kernel⟩, lw_t1 (List.mem_of_getElem? (i := 4) rfl), lw_t1 (List.mem_of_getElem? (i := 100) rfl), lw_t1 (List.mem_of_getElem? (i := 101) rfl)⟩
theorem lw_p6 : lw_okq (⟨"OctreeSolid", "cubeAt", "(III)I"⟩, 16) := ⟨⟨by decide +kernel, by decide +kernel⟩, lw_t1 (List.mem_of_getElem? (i := 4) rfl), lw_t1 (List.mem_of_getElem? (i := 104) rfl), lw_t1 (List.mem_of_getElem? (i := 105) rfl)⟩
theorem lw_p7 : lw_okq (⟨"OctreeSolid", "inBox", "(I)Z"⟩, 16) := ⟨⟨by decide +kernel, by decide +kernel⟩, lw_t1 (List.mem_of_getElem? (i := 4) rfl), lw_t1 (List.mem_of_getElem? (i := 114) rfl), lw_t1 (List.mem_of_getElem? (i := 115) rfl)⟩
theorem lw_p8 : lw_okq (⟨"OctreeSolid", "make", "()I"⟩, 16) := ⟨⟨by decide +kernel, by decide +kernel⟩, lw_t1 (List.mem_of_getElem? (i := 4) rfl), lw_t1 (List.mem_of_getElem? (i := 121) rfl), lw_t1 (List.mem_of_getElem? (i := 122) rfl)⟩
theorem lw_p9 : lw_okq (⟨"OctreeSolid", "hasEight", "(I)Z"⟩, 16) := ⟨⟨by decide +kernel, by decide +kernel⟩, lw_t1 (List.mem_of_getElem? (i := 4) rfl), lw_t1 (List.mem_of_getElem? (i := 125) rfl), lw_t1 (List.mem_of_getElem? (i := 126) rfl)⟩
theorem lw_p10 : lw_okq (⟨"OctreeSolid", "create", "(I)I"⟩, 16) := ⟨⟨by decide +kernel, by decide +kernel⟩, lw_t1 (List.mem_of_getElem? (i := 4) rfl), lw_t1 (List.mem_of_getElem? (i := 129) rfl), lw_t1 (List.mem_of_getElem? (i := 130) rfl)⟩
theorem lw_p11 : lw_okq (⟨"OctreeSolid", "orderOf", "(II)I"⟩, 16) := ⟨⟨by decide +kernel, by decide +kernel⟩, lw_t1 (List.mem_of_getElem? (i := 4) rfl), lw_t1 (List.mem_of_getElem? (i := 165) rfl), lw_t1 (List.mem_of_getElem? (i := 166) rfl)⟩
theorem lw_p12 : lw_okq (⟨"OctreeSolidModel", "solid", "(I)Z"⟩, 2) := ⟨⟨by decide +kernel, by decide +kernel⟩, lw_t1 (List.mem_of_getElem? (i := 186) rfl), lw_t1 (List.mem_of_getElem? (i := 203) rfl), lw_t1 (List.mem_of_getElem? (i := 204) rfl)⟩
theorem lw_p13 : lw_okq (⟨"OctreeSolidModel", "cell", "(I)Z"⟩, 2) := ⟨⟨by decide +kernel, by decide +kernel⟩, lw_t1 (List.mem_of_getElem? (i := 186) rfl), lw_t1 (List.mem_of_getElem? (i := 207) rfl), lw_t1 (List.mem_of_getElem? (i := 208) rfl)⟩
theorem lw_p14 : lw_okq (⟨"OctreeSolidModel", "between", "(IIII)Z"⟩, 2) := ⟨⟨by decide +kernel, by decide +kernel⟩, lw_t1 (List.mem_of_getElem? (i := 186) rfl), lw_t1 (List.mem_of_getElem? (i := 211) rfl), lw_t1 (List.mem_of_getElem? (i := 212) rfl)⟩
theorem lw_p15 : lw_okq (⟨"OctreeSolidModel", "part", "(II)I"⟩, 2) := ⟨⟨by decide +kernel, by decide +kernel⟩, lw_t1 (List.mem_of_getElem? (i := 186) rfl), lw_t1 (List.mem_of_getElem? (i := 215) rfl), lw_t1 (List.mem_of_getElem? (i := 216) rfl)⟩
def lw_privs_1 : List (MethodName × Nat) := [(⟨"OctreeSolid", "clearChains", "()V"⟩, 16), (⟨"OctreeSolid", "build", "(I)V"⟩, 16), (⟨"OctreeSolid", "sweep", "()V"⟩, 16), (⟨"OctreeSolid", "markFrom", "(I)V"⟩, 16), (⟨"OctreeSolid", "markOf", "(I)I"⟩, 16), (⟨"OctreeSolid", "cellOf", "(I)I"⟩, 16), (⟨"OctreeSolid", "cubeAt", "(III)I"⟩, 16), (⟨"OctreeSolid", "inBox", "(I)Z"⟩, 16), (⟨"OctreeSolid", "make", "()I"⟩, 16), (⟨"OctreeSolid", "hasEight", "(I)Z"⟩, 16), (⟨"OctreeSolid", "create", "(I)I"⟩, 16), (⟨"OctreeSolid", "orderOf", "(II)I"⟩, 16), (⟨"OctreeSolidModel", "solid", "(I)Z"⟩, 2), (⟨"OctreeSolidModel", "cell", "(I)Z"⟩, 2), (⟨"OctreeSolidModel", "between", "(IIII)Z"⟩, 2), (⟨"OctreeSolidModel", "part", "(II)I"⟩, 2)]
theorem lw_r1 : ∀ q ∈ lw_privs_1, lw_okq q := List.forall_mem_cons.mpr ⟨lw_p0, List.forall_mem_cons.mpr ⟨lw_p1, List.forall_mem_cons.mpr ⟨lw_p2, List.forall_mem_cons.mpr ⟨lw_p3, List.forall_mem_cons.mpr ⟨lw_p4, List.forall_mem_cons.mpr ⟨lw_p5, List.forall_mem_cons.mpr ⟨lw_p6, List.forall_mem_cons.mpr ⟨lw_p7, List.forall_mem_cons.mpr ⟨lw_p8, List.forall_mem_cons.mpr ⟨lw_p9, List.forall_mem_cons.mpr ⟨lw_p10, List.forall_mem_cons.mpr ⟨lw_p11, List.forall_mem_cons.mpr ⟨lw_p12, List.forall_mem_cons.mpr ⟨lw_p13, List.forall_mem_cons.mpr ⟨lw_p14, List.forall_mem_cons.mpr ⟨lw_p15, fun _ h => absurd h List.not_mem_nil⟩⟩⟩⟩⟩⟩⟩⟩⟩⟩⟩⟩⟩⟩⟩⟩
theorem lw_p16 : lw_okq (⟨"OctreeSolidModel", "keep", "(I)V"⟩, 2) := ⟨⟨by decide +kernel, by decide +kernel⟩, lw_t1 (List.mem_of_getElem? (i := 186) rfl), lw_t1 (List.mem_of_getElem? (i := 223) rfl), lw_t1 (List.mem_of_getElem? (i := 224) rfl)⟩
theorem lw_p17 : lw_okq (⟨"OctreeSolidModel", "even", "(III)Z"⟩, 2) := ⟨⟨by decide +kernel, by decide +kernel⟩, lw_t1 (List.mem_of_getElem? (i := 186) rfl), lw_t2 (List.mem_of_getElem? (i := 20) rfl), lw_t2 (List.mem_of_getElem? (i := 21) rfl)⟩
theorem lw_p18 : lw_okq (⟨"OctreeSolidModel", "together", "(III)Z"⟩, 2) := ⟨⟨by decide +kernel, by decide +kernel⟩, lw_t1 (List.mem_of_getElem? (i := 186) rfl), lw_t2 (List.mem_of_getElem? (i := 24) rfl), lw_t2 (List.mem_of_getElem? (i := 25) rfl)⟩
theorem lw_p19 : lw_okq (⟨"OctreeSolidModel", "corner", "(II)Z"⟩, 2) := ⟨⟨by decide +kernel, by decide +kernel⟩, lw_t1 (List.mem_of_getElem? (i := 186) rfl), lw_t2 (List.mem_of_getElem? (i := 28) rfl), lw_t2 (List.mem_of_getElem? (i := 29) rfl)⟩
theorem lw_p20 : lw_okq (⟨"OctreeSolidModel", "neighbour", "(III)I"⟩, 2) := ⟨⟨by decide +kernel, by decide +kernel⟩, lw_t1 (List.mem_of_getElem? (i := 186) rfl), lw_t2 (List.mem_of_getElem? (i := 37) rfl), lw_t2 (List.mem_of_getElem? (i := 38) rfl)⟩
theorem lw_p21 : lw_okq (⟨"OctreeSolidModel", "alike", "(IIII)Z"⟩, 2) := ⟨⟨by decide +kernel, by decide +kernel⟩, lw_t1 (List.mem_of_getElem? (i := 186) rfl), lw_t2 (List.mem_of_getElem? (i := 49) rfl), lw_t2 (List.mem_of_getElem? (i := 50) rfl)⟩
def lw_privs_2 : List (MethodName × Nat) := [(⟨"OctreeSolidModel", "keep", "(I)V"⟩, 2), (⟨"OctreeSolidModel", "even", "(III)Z"⟩, 2), (⟨"OctreeSolidModel", "together", "(III)Z"⟩, 2), (⟨"OctreeSolidModel", "corner", "(II)Z"⟩, 2), (⟨"OctreeSolidModel", "neighbour", "(III)I"⟩, 2), (⟨"OctreeSolidModel", "alike", "(IIII)Z"⟩, 2)]
theorem lw_r2 : ∀ q ∈ lw_privs_2, lw_okq q := List.forall_mem_cons.mpr ⟨lw_p16, List.forall_mem_cons.mpr ⟨lw_p17, List.forall_mem_cons.mpr ⟨lw_p18, List.forall_mem_cons.mpr ⟨lw_p19, List.forall_mem_cons.mpr ⟨lw_p20, List.forall_mem_cons.mpr ⟨lw_p21, fun _ h => absurd h List.not_mem_nil⟩⟩⟩⟩⟩⟩
def lw_privs : List (MethodName × Nat) := lw_privs_1 ++ (lw_privs_2)
def lw_tbl : List Cond := k2_sels lw_privs ++ tables_1
theorem lw_privs_ok : ∀ q ∈ lw_privs, lw_okq q := by
  show ∀ q ∈ lw_privs_1 ++ (lw_privs_2), lw_okq q
  exact List.forall_mem_append.mpr ⟨lw_r1, lw_r2⟩
-- ===== ONE list of words for every method: the tables' words that hold all through a run =====
def lw_all : List Cond := lw_tbl.filter goodWord
/-- a word of the tables by its place: claim/WORDS.tsv -/
theorem lw_w {w : Cond} (i : Nat) (h : lw_tbl[i]? = some w) (g : goodWord w = true) : w ∈ lw_all := List.mem_filter.mpr ⟨List.mem_of_getElem? h, g⟩
theorem lw_all_tbl {w : Cond} (h : w ∈ lw_all) : w ∈ lw_tbl := (List.mem_filter.mp h).1
theorem lw_self : GoodIn lw_all lw_all := fun w h => ⟨h, good_of_word (List.mem_filter.mp h).2⟩
/-- a class's field words, by their places -/
theorem lw_in (ws : List Cond) (ps : List Nat) (hp : ws = ps.filterMap (fun i => lw_tbl[i]?)) (hg : ws.all goodWord = true) : ∀ w ∈ ws, w ∈ lw_all := by
  intro w h
  have h1 := List.all_eq_true.mp hg w h
  rw [hp] at h
  obtain ⟨i, -, hi⟩ := List.mem_filterMap.mp h
  exact lw_w i hi h1
/-- the words of a contract for the method y with code b, L locals, answer r -/
abbrev ws_ (y : MethodName) (b : ByteArray) (L : Nat) (r : Option FieldType) : List Cond := Cond.code y b L r :: lw_all
theorem lw_meth {y : MethodName} {b : ByteArray} {L : Nat} {r : Option FieldType} (h : Cond.code y b L r ∈ lw_all) : GoodIn lw_all (ws_ y b L r) := by
  intro w hw
  rcases List.mem_cons.mp hw with e | e
  · rw [e]
    exact lw_self _ h
  · exact lw_self _ e
theorem lw_app {a c : List Cond} (ha : ∀ w ∈ a, w ∈ lw_all) (hc : GoodIn lw_all c) : GoodIn lw_all (a ++ c) := by
  intro w hw
  rcases List.mem_append.mp hw with e | e
  · exact lw_self w (ha w e)
  · exact hc w e
/-- what a call through an object asks: cwV n hts (lw_V ..) -/
theorem lw_V {own : String} {idx : Nat} {C : String} {y : MethodName} {b : ByteArray} {L : Nat} {r : Option FieldType} (h1 : Cond.methodLink own idx y ∈ lw_all) (h2 : Cond.instanceMethod y ∈ lw_all) (h3 : Cond.selects C y y ∈ lw_all) (h4 : Cond.initialized C ∈ lw_all) (h5 : Cond.code y b L r ∈ lw_all) : GoodIn lw_all (wsV own idx C y (ws_ y b L r)) := by
  refine lw_app ?_ (lw_meth h5)
  intro w hw
  simp only [List.mem_cons, List.not_mem_nil, or_false] at hw
  rcases hw with e | e | e | e
  · rw [e]; exact h1
  · rw [e]; exact h2
  · rw [e]; exact h3
  · rw [e]; exact h4
/-- what a static call asks: va_cwS n hts (lw_S ..) -/
theorem lw_S {own : String} {idx : Nat} {y : MethodName} {b : ByteArray} {L : Nat} {r : Option FieldType} (h1 : Cond.methodLink own idx y ∈ lw_all) (h2 : Cond.static y ∈ lw_all) (h3 : Cond.initialized y.cls ∈ lw_all) (h4 : Cond.code y b L r ∈ lw_all) : GoodIn lw_all (va_wsS own idx y (ws_ y b L r)) := by
  refine lw_app ?_ (lw_meth h4)
  intro w hw
  simp only [List.mem_cons, List.not_mem_nil, or_false] at hw
  rcases hw with e | e | e
  · rw [e]; exact h1
  · rw [e]; exact h2
  · rw [e]; exact h3
/-- the words of a contract for a method WITH HANDLERS (hh: its table) -/
abbrev wsW_ (y : MethodName) (b : ByteArray) (L : Nat) (r : Option FieldType) (hh : List (Nat × Nat × Nat × Nat)) : List Cond := Cond.codeWith y b L r hh :: lw_all
theorem lw_methW {y : MethodName} {b : ByteArray} {L : Nat} {r : Option FieldType} {hh : List (Nat × Nat × Nat × Nat)} (h : Cond.codeWith y b L r hh ∈ lw_all) : GoodIn lw_all (wsW_ y b L r hh) := by
  intro w hw
  rcases List.mem_cons.mp hw with e | e
  · rw [e]
    exact lw_self _ h
  · exact lw_self _ e
/-- any list of words by their places (lw_in), good -/
theorem lw_good {ws : List Cond} (h : ∀ w ∈ ws, w ∈ lw_all) : GoodIn lw_all ws := fun w hw => lw_self w (h w hw)
/-- what a call of a method with handlers asks: vx_cwVW n hts (lw_VW ..), vx_cwSW n hts (lw_SW ..) -/
theorem lw_VW {own : String} {idx : Nat} {C : String} {y : MethodName} {b : ByteArray} {L : Nat} {r : Option FieldType} {hh : List (Nat × Nat × Nat × Nat)} (h1 : Cond.methodLink own idx y ∈ lw_all) (h2 : Cond.instanceMethod y ∈ lw_all) (h3 : Cond.selects C y y ∈ lw_all) (h4 : Cond.initialized C ∈ lw_all) (h5 : Cond.codeWith y b L r hh ∈ lw_all) : GoodIn lw_all (wsV own idx C y (wsW_ y b L r hh)) := by
  refine lw_app ?_ (lw_methW h5)
  intro w hw
  simp only [List.mem_cons, List.not_mem_nil, or_false] at hw
  rcases hw with e | e | e | e
  · rw [e]; exact h1
  · rw [e]; exact h2
  · rw [e]; exact h3
  · rw [e]; exact h4
theorem lw_SW {own : String} {idx : Nat} {y : MethodName} {b : ByteArray} {L : Nat} {r : Option FieldType} {hh : List (Nat × Nat × Nat × Nat)} (h1 : Cond.methodLink own idx y ∈ lw_all) (h2 : Cond.static y ∈ lw_all) (h3 : Cond.initialized y.cls ∈ lw_all) (h4 : Cond.codeWith y b L r hh ∈ lw_all) : GoodIn lw_all (va_wsS own idx y (wsW_ y b L r hh)) := by
  refine lw_app ?_ (lw_methW h4)
  intro w hw
  simp only [List.mem_cons, List.not_mem_nil, or_false] at hw
  rcases hw with e | e | e
  · rw [e]; exact h1
  · rw [e]; exact h2
  · rw [e]; exact h3
/-- a word by its place in its run of the tables -/
theorem lw_at {r : List Cond} (hr : ∀ w ∈ r, w ∈ lw_tbl) {w : Cond} (i : Nat) (h : r[i]? = some w) : w ∈ lw_tbl := hr w (List.mem_of_getElem? h)
theorem lw_g {w : Cond} (h : w ∈ lw_tbl) (g : goodWord w = true) : w ∈ lw_all := List.mem_filter.mpr ⟨h, g⟩
theorem lw_ms : ∀ w ∈ k2_sels lw_privs, w ∈ lw_tbl := fun w h => show w ∈ k2_sels lw_privs ++ tables_1 from List.mem_append_left _ h
theorem lw_m1 : ∀ w ∈ tables_1_1, w ∈ lw_tbl := fun w h => show w ∈ k2_sels lw_privs ++ tables_1 from List.mem_append_right (k2_sels lw_privs) (show w ∈ tables_1 from List.mem_append_left _ h)
theorem lw_m2 : ∀ w ∈ tables_1_2, w ∈ lw_tbl := fun w h => show w ∈ k2_sels lw_privs ++ tables_1 from List.mem_append_right (k2_sels lw_privs) (show w ∈ tables_1 from List.mem_append_right _ h)
theorem qs0 : (Cond.selects "OctreeSolid" ⟨"OctreeSolid", "clearChains", "()V"⟩ ⟨"OctreeSolid", "clearChains", "()V"⟩) ∈ lw_all := lw_g (lw_at lw_ms 0 rfl) rfl
theorem qs1 : (Cond.selects "OctreeSolid" ⟨"OctreeSolid", "build", "(I)V"⟩ ⟨"OctreeSolid", "build", "(I)V"⟩) ∈ lw_all := lw_g (lw_at lw_ms 1 rfl) rfl
theorem qs2 : (Cond.selects "OctreeSolid" ⟨"OctreeSolid", "sweep", "()V"⟩ ⟨"OctreeSolid", "sweep", "()V"⟩) ∈ lw_all := lw_g (lw_at lw_ms 2 rfl) rfl
theorem qs3 : (Cond.selects "OctreeSolid" ⟨"OctreeSolid", "markFrom", "(I)V"⟩ ⟨"OctreeSolid", "markFrom", "(I)V"⟩) ∈ lw_all := lw_g (lw_at lw_ms 3 rfl) rfl
theorem qs4 : (Cond.selects "OctreeSolid" ⟨"OctreeSolid", "markOf", "(I)I"⟩ ⟨"OctreeSolid", "markOf", "(I)I"⟩) ∈ lw_all := lw_g (lw_at lw_ms 4 rfl) rfl
theorem qs5 : (Cond.selects "OctreeSolid" ⟨"OctreeSolid", "cellOf", "(I)I"⟩ ⟨"OctreeSolid", "cellOf", "(I)I"⟩) ∈ lw_all := lw_g (lw_at lw_ms 5 rfl) rfl
theorem qs6 : (Cond.selects "OctreeSolid" ⟨"OctreeSolid", "cubeAt", "(III)I"⟩ ⟨"OctreeSolid", "cubeAt", "(III)I"⟩) ∈ lw_all := lw_g (lw_at lw_ms 6 rfl) rfl
theorem qs7 : (Cond.selects "OctreeSolid" ⟨"OctreeSolid", "inBox", "(I)Z"⟩ ⟨"OctreeSolid", "inBox", "(I)Z"⟩) ∈ lw_all := lw_g (lw_at lw_ms 7 rfl) rfl
theorem qs8 : (Cond.selects "OctreeSolid" ⟨"OctreeSolid", "make", "()I"⟩ ⟨"OctreeSolid", "make", "()I"⟩) ∈ lw_all := lw_g (lw_at lw_ms 8 rfl) rfl
theorem qs9 : (Cond.selects "OctreeSolid" ⟨"OctreeSolid", "hasEight", "(I)Z"⟩ ⟨"OctreeSolid", "hasEight", "(I)Z"⟩) ∈ lw_all := lw_g (lw_at lw_ms 9 rfl) rfl
theorem qs10 : (Cond.selects "OctreeSolid" ⟨"OctreeSolid", "create", "(I)I"⟩ ⟨"OctreeSolid", "create", "(I)I"⟩) ∈ lw_all := lw_g (lw_at lw_ms 10 rfl) rfl
theorem qs11 : (Cond.selects "OctreeSolid" ⟨"OctreeSolid", "orderOf", "(II)I"⟩ ⟨"OctreeSolid", "orderOf", "(II)I"⟩) ∈ lw_all := lw_g (lw_at lw_ms 11 rfl) rfl
theorem qs12 : (Cond.selects "OctreeSolidModel" ⟨"OctreeSolidModel", "solid", "(I)Z"⟩ ⟨"OctreeSolidModel", "solid", "(I)Z"⟩) ∈ lw_all := lw_g (lw_at lw_ms 12 rfl) rfl
theorem qs13 : (Cond.selects "OctreeSolidModel" ⟨"OctreeSolidModel", "cell", "(I)Z"⟩ ⟨"OctreeSolidModel", "cell", "(I)Z"⟩) ∈ lw_all := lw_g (lw_at lw_ms 13 rfl) rfl
theorem qs14 : (Cond.selects "OctreeSolidModel" ⟨"OctreeSolidModel", "between", "(IIII)Z"⟩ ⟨"OctreeSolidModel", "between", "(IIII)Z"⟩) ∈ lw_all := lw_g (lw_at lw_ms 14 rfl) rfl
theorem qs15 : (Cond.selects "OctreeSolidModel" ⟨"OctreeSolidModel", "part", "(II)I"⟩ ⟨"OctreeSolidModel", "part", "(II)I"⟩) ∈ lw_all := lw_g (lw_at lw_ms 15 rfl) rfl
theorem qs16 : (Cond.selects "OctreeSolidModel" ⟨"OctreeSolidModel", "keep", "(I)V"⟩ ⟨"OctreeSolidModel", "keep", "(I)V"⟩) ∈ lw_all := lw_g (lw_at lw_ms 16 rfl) rfl
theorem qs17 : (Cond.selects "OctreeSolidModel" ⟨"OctreeSolidModel", "even", "(III)Z"⟩ ⟨"OctreeSolidModel", "even", "(III)Z"⟩) ∈ lw_all := lw_g (lw_at lw_ms 17 rfl) rfl
theorem qs18 : (Cond.selects "OctreeSolidModel" ⟨"OctreeSolidModel", "together", "(III)Z"⟩ ⟨"OctreeSolidModel", "together", "(III)Z"⟩) ∈ lw_all := lw_g (lw_at lw_ms 18 rfl) rfl
theorem qs19 : (Cond.selects "OctreeSolidModel" ⟨"OctreeSolidModel", "corner", "(II)Z"⟩ ⟨"OctreeSolidModel", "corner", "(II)Z"⟩) ∈ lw_all := lw_g (lw_at lw_ms 19 rfl) rfl
theorem qs20 : (Cond.selects "OctreeSolidModel" ⟨"OctreeSolidModel", "neighbour", "(III)I"⟩ ⟨"OctreeSolidModel", "neighbour", "(III)I"⟩) ∈ lw_all := lw_g (lw_at lw_ms 20 rfl) rfl
theorem qs21 : (Cond.selects "OctreeSolidModel" ⟨"OctreeSolidModel", "alike", "(IIII)Z"⟩ ⟨"OctreeSolidModel", "alike", "(IIII)Z"⟩) ∈ lw_all := lw_g (lw_at lw_ms 21 rfl) rfl
end
section
set_option maxRecDepth 100000
/-! java/lang/Object -/
def RJ0 : String := "java/lang/Object"
abbrev cJ0_init : ByteArray := object_method_1_code
def yJ0_init : MethodName := ⟨RJ0, "<init>", "()V"⟩
theorem q31 : (Jvm.Cond.instanceMethod ({ cls := "java/lang/Object", name := "<init>", desc := "()V" } : Jvm.MethodName)) ∈ lw_all := lw_g (lw_at lw_m1 9 rfl) rfl
theorem q32 : (Jvm.Cond.code ({ cls := "java/lang/Object", name := "<init>", desc := "()V" } : Jvm.MethodName) object_method_1_code (1 : Nat) (Option.none : Option Jvm.ClassFile.FieldType)) ∈ lw_all := lw_g (lw_at lw_m1 10 rfl) rfl
/-! OctreeSolid -/
def RX0 : String := "OctreeSolid"
def TX0 : u_T := fun k => match k with
  | 0 => ("OctreeSolid", "parts", "[S", true)
  | 1 => ("OctreeSolid", "used", "[Z", true)
  | 2 => ("OctreeSolid", "heads", "[S", true)
  | 3 => ("OctreeSolid", "chain", "[S", true)
  | 4 => ("OctreeSolid", "free", "I", false)
  | 5 => ("OctreeSolid", "seen", "[Z", true)
  | 6 => ("OctreeSolid", "roots", "[S", true)
  | 7 => ("OctreeSolid", "eight", "[S", true)
  | 8 => ("OctreeSolid", "small", "[S", true)
  | 9 => ("OctreeSolid", "middle", "[S", true)
  | 10 => ("OctreeSolid", "task", "I", false)
  | 11 => ("OctreeSolid", "left", "I", false)
  | 12 => ("OctreeSolid", "right", "I", false)
  | 13 => ("OctreeSolid", "corner", "I", false)
  | 14 => ("OctreeSolid", "other", "I", false)
  | _ => ("OctreeSolid", "put", "I", false)
def tyX0 : Nat → FieldType := fun k => match k with
  | 0 => .array .short
  | 1 => .array .boolean
  | 2 => .array .short
  | 3 => .array .short
  | 4 => .int
  | 5 => .array .boolean
  | 6 => .array .short
  | 7 => .array .short
  | 8 => .array .short
  | 9 => .array .short
  | 10 => .int
  | 11 => .int
  | 12 => .int
  | 13 => .int
  | 14 => .int
  | _ => .int
abbrev wsX00 : List Cond := u_ws RX0 TX0 16
set_option maxRecDepth 100000 in
theorem nmX0 : ∀ a, a < 16 → ∀ b, b < 16 → a ≠ b → (TX0 a).2.1 ≠ (TX0 b).2.1 := by decide +kernel
set_option maxRecDepth 100000 in
theorem tyX0_ok : ∀ k, k < 16 → parseFieldDescriptor (TX0 k).2.2.1 = some (tyX0 k) := by decide +kernel
abbrev cX0_init : ByteArray := prog_1_method_1_code
def yX0_init : MethodName := ⟨RX0, "<init>", "()V"⟩
abbrev cX0_clearChains : ByteArray := prog_1_method_4_code
def yX0_clearChains : MethodName := ⟨RX0, "clearChains", "()V"⟩
abbrev cX0_box : ByteArray := prog_1_method_20_code
def yX0_box : MethodName := ⟨RX0, "box", "(IIII)Z"⟩
abbrev cX0_isSolid : ByteArray := prog_1_method_2_code
def yX0_isSolid : MethodName := ⟨RX0, "isSolid", "(I)Z"⟩
abbrev cX0_isCell : ByteArray := prog_1_method_3_code
def yX0_isCell : MethodName := ⟨RX0, "isCell", "(I)Z"⟩
abbrev cX0_build : ByteArray := prog_1_method_19_code
def yX0_build : MethodName := ⟨RX0, "build", "(I)V"⟩
abbrev cX0_sweep : ByteArray := prog_1_method_10_code
def yX0_sweep : MethodName := ⟨RX0, "sweep", "()V"⟩
abbrev cX0_markFrom : ByteArray := prog_1_method_11_code
def yX0_markFrom : MethodName := ⟨RX0, "markFrom", "(I)V"⟩
abbrev cX0_markOf : ByteArray := prog_1_method_6_code
def yX0_markOf : MethodName := ⟨RX0, "markOf", "(I)I"⟩
abbrev cX0_mix : ByteArray := prog_1_method_5_code
def yX0_mix : MethodName := ⟨RX0, "mix", "(II)I"⟩
abbrev cX0_cellAt : ByteArray := prog_1_method_18_code
def yX0_cellAt : MethodName := ⟨RX0, "cellAt", "(I)I"⟩
abbrev cX0_cellOf : ByteArray := prog_1_method_17_code
def yX0_cellOf : MethodName := ⟨RX0, "cellOf", "(I)I"⟩
abbrev cX0_cubeAt : ByteArray := prog_1_method_14_code
def yX0_cubeAt : MethodName := ⟨RX0, "cubeAt", "(III)I"⟩
abbrev cX0_partOf : ByteArray := prog_1_method_13_code
def yX0_partOf : MethodName := ⟨RX0, "partOf", "(II)I"⟩
abbrev cX0_bit : ByteArray := prog_1_method_12_code
def yX0_bit : MethodName := ⟨RX0, "bit", "(III)I"⟩
abbrev cX0_inBox : ByteArray := prog_1_method_16_code
def yX0_inBox : MethodName := ⟨RX0, "inBox", "(I)Z"⟩
abbrev cX0_coordinate : ByteArray := prog_1_method_15_code
def yX0_coordinate : MethodName := ⟨RX0, "coordinate", "(II)I"⟩
abbrev cX0_make : ByteArray := prog_1_method_8_code
def yX0_make : MethodName := ⟨RX0, "make", "()I"⟩
abbrev cX0_hasEight : ByteArray := prog_1_method_7_code
def yX0_hasEight : MethodName := ⟨RX0, "hasEight", "(I)Z"⟩
abbrev cX0_create : ByteArray := prog_1_method_9_code
def yX0_create : MethodName := ⟨RX0, "create", "(I)I"⟩
abbrev cX0_combine : ByteArray := prog_1_method_21_code
def yX0_combine : MethodName := ⟨RX0, "combine", "(IIII)Z"⟩
abbrev cX0_turn : ByteArray := prog_1_method_22_code
def yX0_turn : MethodName := ⟨RX0, "turn", "(II)Z"⟩
abbrev cX0_mirror : ByteArray := prog_1_method_23_code
def yX0_mirror : MethodName := ⟨RX0, "mirror", "(III)Z"⟩
abbrev cX0_volume : ByteArray := prog_1_method_24_code
def yX0_volume : MethodName := ⟨RX0, "volume", "(I)I"⟩
abbrev cX0_has : ByteArray := prog_1_method_25_code
def yX0_has : MethodName := ⟨RX0, "has", "(II)Z"⟩
abbrev cX0_same : ByteArray := prog_1_method_26_code
def yX0_same : MethodName := ⟨RX0, "same", "(II)Z"⟩
abbrev cX0_inside : ByteArray := prog_1_method_27_code
def yX0_inside : MethodName := ⟨RX0, "inside", "(II)Z"⟩
abbrev cX0_cubes : ByteArray := prog_1_method_29_code
def yX0_cubes : MethodName := ⟨RX0, "cubes", "(I)I"⟩
abbrev cX0_orderOf : ByteArray := prog_1_method_28_code
def yX0_orderOf : MethodName := ⟨RX0, "orderOf", "(II)I"⟩
abbrev cX0_order : ByteArray := prog_1_method_30_code
def yX0_order : MethodName := ⟨RX0, "order", "(II)I"⟩
abbrev cX0_surface : ByteArray := prog_1_method_31_code
def yX0_surface : MethodName := ⟨RX0, "surface", "(I)I"⟩
abbrev cX0_next : ByteArray := prog_1_method_32_code
def yX0_next : MethodName := ⟨RX0, "next", "(II)I"⟩
abbrev cX0_kinds : ByteArray := prog_1_method_33_code
def yX0_kinds : MethodName := ⟨RX0, "kinds", "(II)I"⟩
theorem q23 : (Jvm.Cond.initialized "OctreeSolid") ∈ lw_all := lw_g (lw_at lw_m1 1 rfl) rfl
theorem q26 : (Jvm.Cond.instantiable "OctreeSolid" (16 : Nat)) ∈ lw_all := lw_g (lw_at lw_m1 4 rfl) rfl
theorem q28 : (Jvm.Cond.instanceMethod ({ cls := "OctreeSolid", name := "<init>", desc := "()V" } : Jvm.MethodName)) ∈ lw_all := lw_g (lw_at lw_m1 6 rfl) rfl
theorem q29 : (Jvm.Cond.code ({ cls := "OctreeSolid", name := "<init>", desc := "()V" } : Jvm.MethodName) prog_1_method_1_code (1 : Nat) (Option.none : Option Jvm.ClassFile.FieldType)) ∈ lw_all := lw_g (lw_at lw_m1 7 rfl) rfl
theorem q30 : (Jvm.Cond.methodLink "OctreeSolid" (1 : Nat) ({ cls := "java/lang/Object", name := "<init>", desc := "()V" } : Jvm.MethodName)) ∈ lw_all := lw_g (lw_at lw_m1 8 rfl) rfl
theorem q33 : (Jvm.Cond.methodLink "OctreeSolid" (38 : Nat) ({ cls := "OctreeSolid", name := "clearChains", desc := "()V" } : Jvm.MethodName)) ∈ lw_all := lw_g (lw_at lw_m1 11 rfl) rfl
theorem q34 : (Jvm.Cond.privateMethod ({ cls := "OctreeSolid", name := "clearChains", desc := "()V" } : Jvm.MethodName)) ∈ lw_tbl := lw_at lw_m1 12 rfl
theorem q35 : (Jvm.Cond.instanceMethod ({ cls := "OctreeSolid", name := "clearChains", desc := "()V" } : Jvm.MethodName)) ∈ lw_all := lw_g (lw_at lw_m1 13 rfl) rfl
theorem q36 : (Jvm.Cond.code ({ cls := "OctreeSolid", name := "clearChains", desc := "()V" } : Jvm.MethodName) prog_1_method_4_code (2 : Nat) (Option.none : Option Jvm.ClassFile.FieldType)) ∈ lw_all := lw_g (lw_at lw_m1 14 rfl) rfl
theorem q37 : (Jvm.Cond.fieldLink "OctreeSolid" (7 : Nat) "OctreeSolid" "parts" "[S") ∈ lw_all := lw_g (lw_at lw_m1 15 rfl) rfl
theorem q38 : (Jvm.Cond.fieldLink "OctreeSolid" (13 : Nat) "OctreeSolid" "used" "[Z") ∈ lw_all := lw_g (lw_at lw_m1 16 rfl) rfl
theorem q39 : (Jvm.Cond.fieldLink "OctreeSolid" (17 : Nat) "OctreeSolid" "heads" "[S") ∈ lw_all := lw_g (lw_at lw_m1 17 rfl) rfl
theorem q40 : (Jvm.Cond.fieldLink "OctreeSolid" (20 : Nat) "OctreeSolid" "chain" "[S") ∈ lw_all := lw_g (lw_at lw_m1 18 rfl) rfl
theorem q41 : (Jvm.Cond.fieldLink "OctreeSolid" (41 : Nat) "OctreeSolid" "free" "I") ∈ lw_all := lw_g (lw_at lw_m1 19 rfl) rfl
theorem q42 : (Jvm.Cond.fieldLink "OctreeSolid" (23 : Nat) "OctreeSolid" "seen" "[Z") ∈ lw_all := lw_g (lw_at lw_m1 20 rfl) rfl
theorem q43 : (Jvm.Cond.fieldLink "OctreeSolid" (26 : Nat) "OctreeSolid" "roots" "[S") ∈ lw_all := lw_g (lw_at lw_m1 21 rfl) rfl
theorem q44 : (Jvm.Cond.fieldLink "OctreeSolid" (29 : Nat) "OctreeSolid" "eight" "[S") ∈ lw_all := lw_g (lw_at lw_m1 22 rfl) rfl
theorem q45 : (Jvm.Cond.fieldLink "OctreeSolid" (32 : Nat) "OctreeSolid" "small" "[S") ∈ lw_all := lw_g (lw_at lw_m1 23 rfl) rfl
theorem q46 : (Jvm.Cond.fieldLink "OctreeSolid" (35 : Nat) "OctreeSolid" "middle" "[S") ∈ lw_all := lw_g (lw_at lw_m1 24 rfl) rfl
theorem q47 : (Jvm.Cond.fieldLink "OctreeSolid" (81 : Nat) "OctreeSolid" "task" "I") ∈ lw_all := lw_g (lw_at lw_m1 25 rfl) rfl
theorem q48 : (Jvm.Cond.fieldLink "OctreeSolid" (87 : Nat) "OctreeSolid" "left" "I") ∈ lw_all := lw_g (lw_at lw_m1 26 rfl) rfl
theorem q49 : (Jvm.Cond.fieldLink "OctreeSolid" (96 : Nat) "OctreeSolid" "right" "I") ∈ lw_all := lw_g (lw_at lw_m1 27 rfl) rfl
theorem q50 : (Jvm.Cond.fieldLink "OctreeSolid" (72 : Nat) "OctreeSolid" "corner" "I") ∈ lw_all := lw_g (lw_at lw_m1 28 rfl) rfl
theorem q51 : (Jvm.Cond.fieldLink "OctreeSolid" (78 : Nat) "OctreeSolid" "other" "I") ∈ lw_all := lw_g (lw_at lw_m1 29 rfl) rfl
theorem q52 : (Jvm.Cond.fieldLink "OctreeSolid" (84 : Nat) "OctreeSolid" "put" "I") ∈ lw_all := lw_g (lw_at lw_m1 30 rfl) rfl
theorem q53 : (Jvm.Cond.laysFinal "OctreeSolid" "OctreeSolid" "parts" "[S") ∈ lw_all := lw_g (lw_at lw_m1 31 rfl) rfl
theorem q54 : (Jvm.Cond.soleField "OctreeSolid" "parts") ∈ lw_all := lw_g (lw_at lw_m1 32 rfl) rfl
theorem q55 : (Jvm.Cond.laysFinal "OctreeSolid" "OctreeSolid" "used" "[Z") ∈ lw_all := lw_g (lw_at lw_m1 33 rfl) rfl
theorem q56 : (Jvm.Cond.soleField "OctreeSolid" "used") ∈ lw_all := lw_g (lw_at lw_m1 34 rfl) rfl
theorem q57 : (Jvm.Cond.laysFinal "OctreeSolid" "OctreeSolid" "heads" "[S") ∈ lw_all := lw_g (lw_at lw_m1 35 rfl) rfl
theorem q58 : (Jvm.Cond.soleField "OctreeSolid" "heads") ∈ lw_all := lw_g (lw_at lw_m1 36 rfl) rfl
theorem q59 : (Jvm.Cond.laysFinal "OctreeSolid" "OctreeSolid" "chain" "[S") ∈ lw_all := lw_g (lw_at lw_m1 37 rfl) rfl
theorem q60 : (Jvm.Cond.soleField "OctreeSolid" "chain") ∈ lw_all := lw_g (lw_at lw_m1 38 rfl) rfl
theorem q61 : (Jvm.Cond.lays "OctreeSolid" "OctreeSolid" "free" "I") ∈ lw_all := lw_g (lw_at lw_m1 39 rfl) rfl
theorem q62 : (Jvm.Cond.soleField "OctreeSolid" "free") ∈ lw_all := lw_g (lw_at lw_m1 40 rfl) rfl
theorem q63 : (Jvm.Cond.laysFinal "OctreeSolid" "OctreeSolid" "seen" "[Z") ∈ lw_all := lw_g (lw_at lw_m1 41 rfl) rfl
theorem q64 : (Jvm.Cond.soleField "OctreeSolid" "seen") ∈ lw_all := lw_g (lw_at lw_m1 42 rfl) rfl
theorem q65 : (Jvm.Cond.laysFinal "OctreeSolid" "OctreeSolid" "roots" "[S") ∈ lw_all := lw_g (lw_at lw_m1 43 rfl) rfl
theorem q66 : (Jvm.Cond.soleField "OctreeSolid" "roots") ∈ lw_all := lw_g (lw_at lw_m1 44 rfl) rfl
theorem q67 : (Jvm.Cond.laysFinal "OctreeSolid" "OctreeSolid" "eight" "[S") ∈ lw_all := lw_g (lw_at lw_m1 45 rfl) rfl
theorem q68 : (Jvm.Cond.soleField "OctreeSolid" "eight") ∈ lw_all := lw_g (lw_at lw_m1 46 rfl) rfl
theorem q69 : (Jvm.Cond.laysFinal "OctreeSolid" "OctreeSolid" "small" "[S") ∈ lw_all := lw_g (lw_at lw_m1 47 rfl) rfl
theorem q70 : (Jvm.Cond.soleField "OctreeSolid" "small") ∈ lw_all := lw_g (lw_at lw_m1 48 rfl) rfl
theorem q71 : (Jvm.Cond.laysFinal "OctreeSolid" "OctreeSolid" "middle" "[S") ∈ lw_all := lw_g (lw_at lw_m1 49 rfl) rfl
theorem q72 : (Jvm.Cond.soleField "OctreeSolid" "middle") ∈ lw_all := lw_g (lw_at lw_m1 50 rfl) rfl
theorem q73 : (Jvm.Cond.lays "OctreeSolid" "OctreeSolid" "task" "I") ∈ lw_all := lw_g (lw_at lw_m1 51 rfl) rfl
theorem q74 : (Jvm.Cond.soleField "OctreeSolid" "task") ∈ lw_all := lw_g (lw_at lw_m1 52 rfl) rfl
theorem q75 : (Jvm.Cond.lays "OctreeSolid" "OctreeSolid" "left" "I") ∈ lw_all := lw_g (lw_at lw_m1 53 rfl) rfl
theorem q76 : (Jvm.Cond.soleField "OctreeSolid" "left") ∈ lw_all := lw_g (lw_at lw_m1 54 rfl) rfl
theorem q77 : (Jvm.Cond.lays "OctreeSolid" "OctreeSolid" "right" "I") ∈ lw_all := lw_g (lw_at lw_m1 55 rfl) rfl
theorem q78 : (Jvm.Cond.soleField "OctreeSolid" "right") ∈ lw_all := lw_g (lw_at lw_m1 56 rfl) rfl
theorem q79 : (Jvm.Cond.lays "OctreeSolid" "OctreeSolid" "corner" "I") ∈ lw_all := lw_g (lw_at lw_m1 57 rfl) rfl
theorem q80 : (Jvm.Cond.soleField "OctreeSolid" "corner") ∈ lw_all := lw_g (lw_at lw_m1 58 rfl) rfl
theorem q81 : (Jvm.Cond.lays "OctreeSolid" "OctreeSolid" "other" "I") ∈ lw_all := lw_g (lw_at lw_m1 59 rfl) rfl
theorem q82 : (Jvm.Cond.soleField "OctreeSolid" "other") ∈ lw_all := lw_g (lw_at lw_m1 60 rfl) rfl
theorem q83 : (Jvm.Cond.lays "OctreeSolid" "OctreeSolid" "put" "I") ∈ lw_all := lw_g (lw_at lw_m1 61 rfl) rfl
theorem q84 : (Jvm.Cond.soleField "OctreeSolid" "put") ∈ lw_all := lw_g (lw_at lw_m1 62 rfl) rfl
theorem q85 : (Jvm.Cond.superclass "OctreeSolid" "java/lang/Object") ∈ lw_all := lw_g (lw_at lw_m1 63 rfl) rfl
theorem q89 : (Jvm.Cond.instanceMethod ({ cls := "OctreeSolid", name := "box", desc := "(IIII)Z" } : Jvm.MethodName)) ∈ lw_all := lw_g (lw_at lw_m1 67 rfl) rfl
theorem q90 : (Jvm.Cond.selects "OctreeSolid" ({ cls := "OctreeSolid", name := "box", desc := "(IIII)Z" } : Jvm.MethodName) ({ cls := "OctreeSolid", name := "box", desc := "(IIII)Z" } : Jvm.MethodName)) ∈ lw_all := lw_g (lw_at lw_m1 68 rfl) rfl
theorem q91 : (Jvm.Cond.code ({ cls := "OctreeSolid", name := "box", desc := "(IIII)Z" } : Jvm.MethodName) prog_1_method_20_code (5 : Nat) (Option.some Jvm.ClassFile.FieldType.boolean)) ∈ lw_all := lw_g (lw_at lw_m1 69 rfl) rfl
theorem q92 : (Jvm.Cond.methodLink "OctreeSolid" (112 : Nat) ({ cls := "OctreeSolid", name := "isSolid", desc := "(I)Z" } : Jvm.MethodName)) ∈ lw_all := lw_g (lw_at lw_m1 70 rfl) rfl
theorem q93 : (Jvm.Cond.static ({ cls := "OctreeSolid", name := "isSolid", desc := "(I)Z" } : Jvm.MethodName)) ∈ lw_all := lw_g (lw_at lw_m1 71 rfl) rfl
theorem q94 : (Jvm.Cond.code ({ cls := "OctreeSolid", name := "isSolid", desc := "(I)Z" } : Jvm.MethodName) prog_1_method_2_code (1 : Nat) (Option.some Jvm.ClassFile.FieldType.boolean)) ∈ lw_all := lw_g (lw_at lw_m1 72 rfl) rfl
theorem q95 : (Jvm.Cond.methodLink "OctreeSolid" (115 : Nat) ({ cls := "OctreeSolid", name := "isCell", desc := "(I)Z" } : Jvm.MethodName)) ∈ lw_all := lw_g (lw_at lw_m1 73 rfl) rfl
theorem q96 : (Jvm.Cond.static ({ cls := "OctreeSolid", name := "isCell", desc := "(I)Z" } : Jvm.MethodName)) ∈ lw_all := lw_g (lw_at lw_m1 74 rfl) rfl
theorem q97 : (Jvm.Cond.code ({ cls := "OctreeSolid", name := "isCell", desc := "(I)Z" } : Jvm.MethodName) prog_1_method_3_code (1 : Nat) (Option.some Jvm.ClassFile.FieldType.boolean)) ∈ lw_all := lw_g (lw_at lw_m1 75 rfl) rfl
theorem q98 : (Jvm.Cond.methodLink "OctreeSolid" (118 : Nat) ({ cls := "OctreeSolid", name := "build", desc := "(I)V" } : Jvm.MethodName)) ∈ lw_all := lw_g (lw_at lw_m1 76 rfl) rfl
theorem q99 : (Jvm.Cond.privateMethod ({ cls := "OctreeSolid", name := "build", desc := "(I)V" } : Jvm.MethodName)) ∈ lw_tbl := lw_at lw_m1 77 rfl
theorem q100 : (Jvm.Cond.instanceMethod ({ cls := "OctreeSolid", name := "build", desc := "(I)V" } : Jvm.MethodName)) ∈ lw_all := lw_g (lw_at lw_m1 78 rfl) rfl
theorem q101 : (Jvm.Cond.code ({ cls := "OctreeSolid", name := "build", desc := "(I)V" } : Jvm.MethodName) prog_1_method_19_code (5 : Nat) (Option.none : Option Jvm.ClassFile.FieldType)) ∈ lw_all := lw_g (lw_at lw_m1 79 rfl) rfl
theorem q102 : (Jvm.Cond.methodLink "OctreeSolid" (99 : Nat) ({ cls := "OctreeSolid", name := "sweep", desc := "()V" } : Jvm.MethodName)) ∈ lw_all := lw_g (lw_at lw_m1 80 rfl) rfl
theorem q103 : (Jvm.Cond.privateMethod ({ cls := "OctreeSolid", name := "sweep", desc := "()V" } : Jvm.MethodName)) ∈ lw_tbl := lw_at lw_m1 81 rfl
theorem q104 : (Jvm.Cond.instanceMethod ({ cls := "OctreeSolid", name := "sweep", desc := "()V" } : Jvm.MethodName)) ∈ lw_all := lw_g (lw_at lw_m1 82 rfl) rfl
theorem q105 : (Jvm.Cond.code ({ cls := "OctreeSolid", name := "sweep", desc := "()V" } : Jvm.MethodName) prog_1_method_10_code (3 : Nat) (Option.none : Option Jvm.ClassFile.FieldType)) ∈ lw_all := lw_g (lw_at lw_m1 83 rfl) rfl
theorem q106 : (Jvm.Cond.methodLink "OctreeSolid" (58 : Nat) ({ cls := "OctreeSolid", name := "markFrom", desc := "(I)V" } : Jvm.MethodName)) ∈ lw_all := lw_g (lw_at lw_m1 84 rfl) rfl
theorem q107 : (Jvm.Cond.privateMethod ({ cls := "OctreeSolid", name := "markFrom", desc := "(I)V" } : Jvm.MethodName)) ∈ lw_tbl := lw_at lw_m1 85 rfl
theorem q108 : (Jvm.Cond.instanceMethod ({ cls := "OctreeSolid", name := "markFrom", desc := "(I)V" } : Jvm.MethodName)) ∈ lw_all := lw_g (lw_at lw_m1 86 rfl) rfl
theorem q109 : (Jvm.Cond.code ({ cls := "OctreeSolid", name := "markFrom", desc := "(I)V" } : Jvm.MethodName) prog_1_method_11_code (6 : Nat) (Option.none : Option Jvm.ClassFile.FieldType)) ∈ lw_all := lw_g (lw_at lw_m1 87 rfl) rfl
theorem q110 : (Jvm.Cond.methodLink "OctreeSolid" (62 : Nat) ({ cls := "OctreeSolid", name := "markOf", desc := "(I)I" } : Jvm.MethodName)) ∈ lw_all := lw_g (lw_at lw_m1 88 rfl) rfl
theorem q111 : (Jvm.Cond.privateMethod ({ cls := "OctreeSolid", name := "markOf", desc := "(I)I" } : Jvm.MethodName)) ∈ lw_tbl := lw_at lw_m1 89 rfl
theorem q112 : (Jvm.Cond.instanceMethod ({ cls := "OctreeSolid", name := "markOf", desc := "(I)I" } : Jvm.MethodName)) ∈ lw_all := lw_g (lw_at lw_m1 90 rfl) rfl
theorem q113 : (Jvm.Cond.code ({ cls := "OctreeSolid", name := "markOf", desc := "(I)I" } : Jvm.MethodName) prog_1_method_6_code (4 : Nat) (Option.some Jvm.ClassFile.FieldType.int)) ∈ lw_all := lw_g (lw_at lw_m1 91 rfl) rfl
theorem q114 : (Jvm.Cond.methodLink "OctreeSolid" (46 : Nat) ({ cls := "OctreeSolid", name := "mix", desc := "(II)I" } : Jvm.MethodName)) ∈ lw_all := lw_g (lw_at lw_m1 92 rfl) rfl
theorem q115 : (Jvm.Cond.static ({ cls := "OctreeSolid", name := "mix", desc := "(II)I" } : Jvm.MethodName)) ∈ lw_all := lw_g (lw_at lw_m1 93 rfl) rfl
theorem q116 : (Jvm.Cond.code ({ cls := "OctreeSolid", name := "mix", desc := "(II)I" } : Jvm.MethodName) prog_1_method_5_code (2 : Nat) (Option.some Jvm.ClassFile.FieldType.int)) ∈ lw_all := lw_g (lw_at lw_m1 94 rfl) rfl
theorem q117 : (Jvm.Cond.constant "OctreeSolid" (45 : Nat) (65535 : Int32)) ∈ lw_all := lw_g (lw_at lw_m1 95 rfl) rfl
theorem q118 : (Jvm.Cond.methodLink "OctreeSolid" (102 : Nat) ({ cls := "OctreeSolid", name := "cellAt", desc := "(I)I" } : Jvm.MethodName)) ∈ lw_all := lw_g (lw_at lw_m1 96 rfl) rfl
theorem q119 : (Jvm.Cond.static ({ cls := "OctreeSolid", name := "cellAt", desc := "(I)I" } : Jvm.MethodName)) ∈ lw_all := lw_g (lw_at lw_m1 97 rfl) rfl
theorem q120 : (Jvm.Cond.code ({ cls := "OctreeSolid", name := "cellAt", desc := "(I)I" } : Jvm.MethodName) prog_1_method_18_code (4 : Nat) (Option.some Jvm.ClassFile.FieldType.int)) ∈ lw_all := lw_g (lw_at lw_m1 98 rfl) rfl
theorem q121 : (Jvm.Cond.methodLink "OctreeSolid" (105 : Nat) ({ cls := "OctreeSolid", name := "cellOf", desc := "(I)I" } : Jvm.MethodName)) ∈ lw_all := lw_g (lw_at lw_m1 99 rfl) rfl
theorem q122 : (Jvm.Cond.privateMethod ({ cls := "OctreeSolid", name := "cellOf", desc := "(I)I" } : Jvm.MethodName)) ∈ lw_tbl := lw_at lw_m1 100 rfl
theorem q123 : (Jvm.Cond.instanceMethod ({ cls := "OctreeSolid", name := "cellOf", desc := "(I)I" } : Jvm.MethodName)) ∈ lw_all := lw_g (lw_at lw_m1 101 rfl) rfl
theorem q124 : (Jvm.Cond.code ({ cls := "OctreeSolid", name := "cellOf", desc := "(I)I" } : Jvm.MethodName) prog_1_method_17_code (4 : Nat) (Option.some Jvm.ClassFile.FieldType.int)) ∈ lw_all := lw_g (lw_at lw_m1 102 rfl) rfl
theorem q125 : (Jvm.Cond.methodLink "OctreeSolid" (90 : Nat) ({ cls := "OctreeSolid", name := "cubeAt", desc := "(III)I" } : Jvm.MethodName)) ∈ lw_all := lw_g (lw_at lw_m1 103 rfl) rfl
theorem q126 : (Jvm.Cond.privateMethod ({ cls := "OctreeSolid", name := "cubeAt", desc := "(III)I" } : Jvm.MethodName)) ∈ lw_tbl := lw_at lw_m1 104 rfl
theorem q127 : (Jvm.Cond.instanceMethod ({ cls := "OctreeSolid", name := "cubeAt", desc := "(III)I" } : Jvm.MethodName)) ∈ lw_all := lw_g (lw_at lw_m1 105 rfl) rfl
theorem q128 : (Jvm.Cond.code ({ cls := "OctreeSolid", name := "cubeAt", desc := "(III)I" } : Jvm.MethodName) prog_1_method_14_code (7 : Nat) (Option.some Jvm.ClassFile.FieldType.int)) ∈ lw_all := lw_g (lw_at lw_m1 106 rfl) rfl
theorem q129 : (Jvm.Cond.methodLink "OctreeSolid" (69 : Nat) ({ cls := "OctreeSolid", name := "partOf", desc := "(II)I" } : Jvm.MethodName)) ∈ lw_all := lw_g (lw_at lw_m1 107 rfl) rfl
theorem q130 : (Jvm.Cond.static ({ cls := "OctreeSolid", name := "partOf", desc := "(II)I" } : Jvm.MethodName)) ∈ lw_all := lw_g (lw_at lw_m1 108 rfl) rfl
theorem q131 : (Jvm.Cond.code ({ cls := "OctreeSolid", name := "partOf", desc := "(II)I" } : Jvm.MethodName) prog_1_method_13_code (2 : Nat) (Option.some Jvm.ClassFile.FieldType.int)) ∈ lw_all := lw_g (lw_at lw_m1 109 rfl) rfl
theorem q132 : (Jvm.Cond.methodLink "OctreeSolid" (65 : Nat) ({ cls := "OctreeSolid", name := "bit", desc := "(III)I" } : Jvm.MethodName)) ∈ lw_all := lw_g (lw_at lw_m1 110 rfl) rfl
theorem q133 : (Jvm.Cond.static ({ cls := "OctreeSolid", name := "bit", desc := "(III)I" } : Jvm.MethodName)) ∈ lw_all := lw_g (lw_at lw_m1 111 rfl) rfl
theorem q134 : (Jvm.Cond.code ({ cls := "OctreeSolid", name := "bit", desc := "(III)I" } : Jvm.MethodName) prog_1_method_12_code (3 : Nat) (Option.some Jvm.ClassFile.FieldType.int)) ∈ lw_all := lw_g (lw_at lw_m1 112 rfl) rfl
theorem q135 : (Jvm.Cond.methodLink "OctreeSolid" (93 : Nat) ({ cls := "OctreeSolid", name := "inBox", desc := "(I)Z" } : Jvm.MethodName)) ∈ lw_all := lw_g (lw_at lw_m1 113 rfl) rfl
theorem q136 : (Jvm.Cond.privateMethod ({ cls := "OctreeSolid", name := "inBox", desc := "(I)Z" } : Jvm.MethodName)) ∈ lw_tbl := lw_at lw_m1 114 rfl
theorem q137 : (Jvm.Cond.instanceMethod ({ cls := "OctreeSolid", name := "inBox", desc := "(I)Z" } : Jvm.MethodName)) ∈ lw_all := lw_g (lw_at lw_m1 115 rfl) rfl
theorem q138 : (Jvm.Cond.code ({ cls := "OctreeSolid", name := "inBox", desc := "(I)Z" } : Jvm.MethodName) prog_1_method_16_code (6 : Nat) (Option.some Jvm.ClassFile.FieldType.boolean)) ∈ lw_all := lw_g (lw_at lw_m1 116 rfl) rfl
theorem q139 : (Jvm.Cond.methodLink "OctreeSolid" (75 : Nat) ({ cls := "OctreeSolid", name := "coordinate", desc := "(II)I" } : Jvm.MethodName)) ∈ lw_all := lw_g (lw_at lw_m1 117 rfl) rfl
theorem q140 : (Jvm.Cond.static ({ cls := "OctreeSolid", name := "coordinate", desc := "(II)I" } : Jvm.MethodName)) ∈ lw_all := lw_g (lw_at lw_m1 118 rfl) rfl
theorem q141 : (Jvm.Cond.code ({ cls := "OctreeSolid", name := "coordinate", desc := "(II)I" } : Jvm.MethodName) prog_1_method_15_code (2 : Nat) (Option.some Jvm.ClassFile.FieldType.int)) ∈ lw_all := lw_g (lw_at lw_m1 119 rfl) rfl
theorem q142 : (Jvm.Cond.methodLink "OctreeSolid" (108 : Nat) ({ cls := "OctreeSolid", name := "make", desc := "()I" } : Jvm.MethodName)) ∈ lw_all := lw_g (lw_at lw_m1 120 rfl) rfl
theorem q143 : (Jvm.Cond.privateMethod ({ cls := "OctreeSolid", name := "make", desc := "()I" } : Jvm.MethodName)) ∈ lw_tbl := lw_at lw_m1 121 rfl
theorem q144 : (Jvm.Cond.instanceMethod ({ cls := "OctreeSolid", name := "make", desc := "()I" } : Jvm.MethodName)) ∈ lw_all := lw_g (lw_at lw_m1 122 rfl) rfl
theorem q145 : (Jvm.Cond.code ({ cls := "OctreeSolid", name := "make", desc := "()I" } : Jvm.MethodName) prog_1_method_8_code (6 : Nat) (Option.some Jvm.ClassFile.FieldType.int)) ∈ lw_all := lw_g (lw_at lw_m1 123 rfl) rfl
theorem q146 : (Jvm.Cond.methodLink "OctreeSolid" (50 : Nat) ({ cls := "OctreeSolid", name := "hasEight", desc := "(I)Z" } : Jvm.MethodName)) ∈ lw_all := lw_g (lw_at lw_m1 124 rfl) rfl
theorem q147 : (Jvm.Cond.privateMethod ({ cls := "OctreeSolid", name := "hasEight", desc := "(I)Z" } : Jvm.MethodName)) ∈ lw_tbl := lw_at lw_m1 125 rfl
theorem q148 : (Jvm.Cond.instanceMethod ({ cls := "OctreeSolid", name := "hasEight", desc := "(I)Z" } : Jvm.MethodName)) ∈ lw_all := lw_g (lw_at lw_m1 126 rfl) rfl
theorem q149 : (Jvm.Cond.code ({ cls := "OctreeSolid", name := "hasEight", desc := "(I)Z" } : Jvm.MethodName) prog_1_method_7_code (3 : Nat) (Option.some Jvm.ClassFile.FieldType.boolean)) ∈ lw_all := lw_g (lw_at lw_m1 127 rfl) rfl
theorem q150 : (Jvm.Cond.methodLink "OctreeSolid" (54 : Nat) ({ cls := "OctreeSolid", name := "create", desc := "(I)I" } : Jvm.MethodName)) ∈ lw_all := lw_g (lw_at lw_m1 128 rfl) rfl
theorem q151 : (Jvm.Cond.privateMethod ({ cls := "OctreeSolid", name := "create", desc := "(I)I" } : Jvm.MethodName)) ∈ lw_tbl := lw_at lw_m1 129 rfl
theorem q152 : (Jvm.Cond.instanceMethod ({ cls := "OctreeSolid", name := "create", desc := "(I)I" } : Jvm.MethodName)) ∈ lw_all := lw_g (lw_at lw_m1 130 rfl) rfl
theorem q153 : (Jvm.Cond.code ({ cls := "OctreeSolid", name := "create", desc := "(I)I" } : Jvm.MethodName) prog_1_method_9_code (4 : Nat) (Option.some Jvm.ClassFile.FieldType.int)) ∈ lw_all := lw_g (lw_at lw_m1 131 rfl) rfl
theorem q155 : (Jvm.Cond.instanceMethod ({ cls := "OctreeSolid", name := "combine", desc := "(IIII)Z" } : Jvm.MethodName)) ∈ lw_all := lw_g (lw_at lw_m1 133 rfl) rfl
theorem q156 : (Jvm.Cond.selects "OctreeSolid" ({ cls := "OctreeSolid", name := "combine", desc := "(IIII)Z" } : Jvm.MethodName) ({ cls := "OctreeSolid", name := "combine", desc := "(IIII)Z" } : Jvm.MethodName)) ∈ lw_all := lw_g (lw_at lw_m1 134 rfl) rfl
theorem q157 : (Jvm.Cond.code ({ cls := "OctreeSolid", name := "combine", desc := "(IIII)Z" } : Jvm.MethodName) prog_1_method_21_code (5 : Nat) (Option.some Jvm.ClassFile.FieldType.boolean)) ∈ lw_all := lw_g (lw_at lw_m1 135 rfl) rfl
theorem q159 : (Jvm.Cond.instanceMethod ({ cls := "OctreeSolid", name := "turn", desc := "(II)Z" } : Jvm.MethodName)) ∈ lw_all := lw_g (lw_at lw_m1 137 rfl) rfl
theorem q160 : (Jvm.Cond.selects "OctreeSolid" ({ cls := "OctreeSolid", name := "turn", desc := "(II)Z" } : Jvm.MethodName) ({ cls := "OctreeSolid", name := "turn", desc := "(II)Z" } : Jvm.MethodName)) ∈ lw_all := lw_g (lw_at lw_m1 138 rfl) rfl
theorem q161 : (Jvm.Cond.code ({ cls := "OctreeSolid", name := "turn", desc := "(II)Z" } : Jvm.MethodName) prog_1_method_22_code (3 : Nat) (Option.some Jvm.ClassFile.FieldType.boolean)) ∈ lw_all := lw_g (lw_at lw_m1 139 rfl) rfl
theorem q163 : (Jvm.Cond.instanceMethod ({ cls := "OctreeSolid", name := "mirror", desc := "(III)Z" } : Jvm.MethodName)) ∈ lw_all := lw_g (lw_at lw_m1 141 rfl) rfl
theorem q164 : (Jvm.Cond.selects "OctreeSolid" ({ cls := "OctreeSolid", name := "mirror", desc := "(III)Z" } : Jvm.MethodName) ({ cls := "OctreeSolid", name := "mirror", desc := "(III)Z" } : Jvm.MethodName)) ∈ lw_all := lw_g (lw_at lw_m1 142 rfl) rfl
theorem q165 : (Jvm.Cond.code ({ cls := "OctreeSolid", name := "mirror", desc := "(III)Z" } : Jvm.MethodName) prog_1_method_23_code (4 : Nat) (Option.some Jvm.ClassFile.FieldType.boolean)) ∈ lw_all := lw_g (lw_at lw_m1 143 rfl) rfl
theorem q167 : (Jvm.Cond.instanceMethod ({ cls := "OctreeSolid", name := "volume", desc := "(I)I" } : Jvm.MethodName)) ∈ lw_all := lw_g (lw_at lw_m1 145 rfl) rfl
theorem q168 : (Jvm.Cond.selects "OctreeSolid" ({ cls := "OctreeSolid", name := "volume", desc := "(I)I" } : Jvm.MethodName) ({ cls := "OctreeSolid", name := "volume", desc := "(I)I" } : Jvm.MethodName)) ∈ lw_all := lw_g (lw_at lw_m1 146 rfl) rfl
theorem q169 : (Jvm.Cond.code ({ cls := "OctreeSolid", name := "volume", desc := "(I)I" } : Jvm.MethodName) prog_1_method_24_code (5 : Nat) (Option.some Jvm.ClassFile.FieldType.int)) ∈ lw_all := lw_g (lw_at lw_m1 147 rfl) rfl
theorem q171 : (Jvm.Cond.instanceMethod ({ cls := "OctreeSolid", name := "has", desc := "(II)Z" } : Jvm.MethodName)) ∈ lw_all := lw_g (lw_at lw_m1 149 rfl) rfl
theorem q172 : (Jvm.Cond.selects "OctreeSolid" ({ cls := "OctreeSolid", name := "has", desc := "(II)Z" } : Jvm.MethodName) ({ cls := "OctreeSolid", name := "has", desc := "(II)Z" } : Jvm.MethodName)) ∈ lw_all := lw_g (lw_at lw_m1 150 rfl) rfl
theorem q173 : (Jvm.Cond.code ({ cls := "OctreeSolid", name := "has", desc := "(II)Z" } : Jvm.MethodName) prog_1_method_25_code (3 : Nat) (Option.some Jvm.ClassFile.FieldType.boolean)) ∈ lw_all := lw_g (lw_at lw_m1 151 rfl) rfl
theorem q175 : (Jvm.Cond.instanceMethod ({ cls := "OctreeSolid", name := "same", desc := "(II)Z" } : Jvm.MethodName)) ∈ lw_all := lw_g (lw_at lw_m1 153 rfl) rfl
theorem q176 : (Jvm.Cond.selects "OctreeSolid" ({ cls := "OctreeSolid", name := "same", desc := "(II)Z" } : Jvm.MethodName) ({ cls := "OctreeSolid", name := "same", desc := "(II)Z" } : Jvm.MethodName)) ∈ lw_all := lw_g (lw_at lw_m1 154 rfl) rfl
theorem q177 : (Jvm.Cond.code ({ cls := "OctreeSolid", name := "same", desc := "(II)Z" } : Jvm.MethodName) prog_1_method_26_code (3 : Nat) (Option.some Jvm.ClassFile.FieldType.boolean)) ∈ lw_all := lw_g (lw_at lw_m1 155 rfl) rfl
theorem q179 : (Jvm.Cond.instanceMethod ({ cls := "OctreeSolid", name := "inside", desc := "(II)Z" } : Jvm.MethodName)) ∈ lw_all := lw_g (lw_at lw_m1 157 rfl) rfl
theorem q180 : (Jvm.Cond.selects "OctreeSolid" ({ cls := "OctreeSolid", name := "inside", desc := "(II)Z" } : Jvm.MethodName) ({ cls := "OctreeSolid", name := "inside", desc := "(II)Z" } : Jvm.MethodName)) ∈ lw_all := lw_g (lw_at lw_m1 158 rfl) rfl
theorem q181 : (Jvm.Cond.code ({ cls := "OctreeSolid", name := "inside", desc := "(II)Z" } : Jvm.MethodName) prog_1_method_27_code (5 : Nat) (Option.some Jvm.ClassFile.FieldType.boolean)) ∈ lw_all := lw_g (lw_at lw_m1 159 rfl) rfl
theorem q183 : (Jvm.Cond.instanceMethod ({ cls := "OctreeSolid", name := "cubes", desc := "(I)I" } : Jvm.MethodName)) ∈ lw_all := lw_g (lw_at lw_m1 161 rfl) rfl
theorem q184 : (Jvm.Cond.selects "OctreeSolid" ({ cls := "OctreeSolid", name := "cubes", desc := "(I)I" } : Jvm.MethodName) ({ cls := "OctreeSolid", name := "cubes", desc := "(I)I" } : Jvm.MethodName)) ∈ lw_all := lw_g (lw_at lw_m1 162 rfl) rfl
theorem q185 : (Jvm.Cond.code ({ cls := "OctreeSolid", name := "cubes", desc := "(I)I" } : Jvm.MethodName) prog_1_method_29_code (6 : Nat) (Option.some Jvm.ClassFile.FieldType.int)) ∈ lw_all := lw_g (lw_at lw_m1 163 rfl) rfl
theorem q186 : (Jvm.Cond.methodLink "OctreeSolid" (121 : Nat) ({ cls := "OctreeSolid", name := "orderOf", desc := "(II)I" } : Jvm.MethodName)) ∈ lw_all := lw_g (lw_at lw_m1 164 rfl) rfl
theorem q187 : (Jvm.Cond.privateMethod ({ cls := "OctreeSolid", name := "orderOf", desc := "(II)I" } : Jvm.MethodName)) ∈ lw_tbl := lw_at lw_m1 165 rfl
theorem q188 : (Jvm.Cond.instanceMethod ({ cls := "OctreeSolid", name := "orderOf", desc := "(II)I" } : Jvm.MethodName)) ∈ lw_all := lw_g (lw_at lw_m1 166 rfl) rfl
theorem q189 : (Jvm.Cond.code ({ cls := "OctreeSolid", name := "orderOf", desc := "(II)I" } : Jvm.MethodName) prog_1_method_28_code (4 : Nat) (Option.some Jvm.ClassFile.FieldType.int)) ∈ lw_all := lw_g (lw_at lw_m1 167 rfl) rfl
theorem q191 : (Jvm.Cond.instanceMethod ({ cls := "OctreeSolid", name := "order", desc := "(II)I" } : Jvm.MethodName)) ∈ lw_all := lw_g (lw_at lw_m1 169 rfl) rfl
theorem q192 : (Jvm.Cond.selects "OctreeSolid" ({ cls := "OctreeSolid", name := "order", desc := "(II)I" } : Jvm.MethodName) ({ cls := "OctreeSolid", name := "order", desc := "(II)I" } : Jvm.MethodName)) ∈ lw_all := lw_g (lw_at lw_m1 170 rfl) rfl
theorem q193 : (Jvm.Cond.code ({ cls := "OctreeSolid", name := "order", desc := "(II)I" } : Jvm.MethodName) prog_1_method_30_code (3 : Nat) (Option.some Jvm.ClassFile.FieldType.int)) ∈ lw_all := lw_g (lw_at lw_m1 171 rfl) rfl
theorem q195 : (Jvm.Cond.instanceMethod ({ cls := "OctreeSolid", name := "surface", desc := "(I)I" } : Jvm.MethodName)) ∈ lw_all := lw_g (lw_at lw_m1 173 rfl) rfl
theorem q196 : (Jvm.Cond.selects "OctreeSolid" ({ cls := "OctreeSolid", name := "surface", desc := "(I)I" } : Jvm.MethodName) ({ cls := "OctreeSolid", name := "surface", desc := "(I)I" } : Jvm.MethodName)) ∈ lw_all := lw_g (lw_at lw_m1 174 rfl) rfl
theorem q197 : (Jvm.Cond.code ({ cls := "OctreeSolid", name := "surface", desc := "(I)I" } : Jvm.MethodName) prog_1_method_31_code (7 : Nat) (Option.some Jvm.ClassFile.FieldType.int)) ∈ lw_all := lw_g (lw_at lw_m1 175 rfl) rfl
theorem q198 : (Jvm.Cond.methodLink "OctreeSolid" (124 : Nat) ({ cls := "OctreeSolid", name := "has", desc := "(II)Z" } : Jvm.MethodName)) ∈ lw_all := lw_g (lw_at lw_m1 176 rfl) rfl
theorem q200 : (Jvm.Cond.instanceMethod ({ cls := "OctreeSolid", name := "next", desc := "(II)I" } : Jvm.MethodName)) ∈ lw_all := lw_g (lw_at lw_m1 178 rfl) rfl
theorem q201 : (Jvm.Cond.selects "OctreeSolid" ({ cls := "OctreeSolid", name := "next", desc := "(II)I" } : Jvm.MethodName) ({ cls := "OctreeSolid", name := "next", desc := "(II)I" } : Jvm.MethodName)) ∈ lw_all := lw_g (lw_at lw_m1 179 rfl) rfl
theorem q202 : (Jvm.Cond.code ({ cls := "OctreeSolid", name := "next", desc := "(II)I" } : Jvm.MethodName) prog_1_method_32_code (4 : Nat) (Option.some Jvm.ClassFile.FieldType.int)) ∈ lw_all := lw_g (lw_at lw_m1 180 rfl) rfl
theorem q204 : (Jvm.Cond.instanceMethod ({ cls := "OctreeSolid", name := "kinds", desc := "(II)I" } : Jvm.MethodName)) ∈ lw_all := lw_g (lw_at lw_m1 182 rfl) rfl
theorem q205 : (Jvm.Cond.selects "OctreeSolid" ({ cls := "OctreeSolid", name := "kinds", desc := "(II)I" } : Jvm.MethodName) ({ cls := "OctreeSolid", name := "kinds", desc := "(II)I" } : Jvm.MethodName)) ∈ lw_all := lw_g (lw_at lw_m1 183 rfl) rfl
theorem q206 : (Jvm.Cond.code ({ cls := "OctreeSolid", name := "kinds", desc := "(II)I" } : Jvm.MethodName) prog_1_method_33_code (8 : Nat) (Option.some Jvm.ClassFile.FieldType.int)) ∈ lw_all := lw_g (lw_at lw_m1 184 rfl) rfl
theorem in_X0 : ∀ w ∈ wsX00, w ∈ lw_all := lw_in wsX00 [53, 55, 57, 59, 61, 63, 65, 67, 69, 71, 73, 75, 77, 79, 81, 83] (by decide +kernel) (by decide +kernel)
/-! OctreeSolidModel -/
def RX1 : String := "OctreeSolidModel"
def TX1 : u_T := fun k => match k with
  | 0 => ("OctreeSolidModel", "in", "[Z", false)
  | _ => ("OctreeSolidModel", "made", "[Z", false)
def tyX1 : Nat → FieldType := fun k => match k with
  | 0 => .array .boolean
  | _ => .array .boolean
abbrev wsX10 : List Cond := u_ws RX1 TX1 2
theorem nmX1 : ∀ a, a < 2 → ∀ b, b < 2 → a ≠ b → (TX1 a).2.1 ≠ (TX1 b).2.1 := by decide +kernel
theorem tyX1_ok : ∀ k, k < 2 → parseFieldDescriptor (TX1 k).2.2.1 = some (tyX1 k) := by decide +kernel
abbrev cX1_init : ByteArray := prog_3_method_1_code
def yX1_init : MethodName := ⟨RX1, "<init>", "()V"⟩
abbrev cX1_box : ByteArray := prog_3_method_6_code
def yX1_box : MethodName := ⟨RX1, "box", "(IIII)Z"⟩
abbrev cX1_solid : ByteArray := prog_3_method_2_code
def yX1_solid : MethodName := ⟨RX1, "solid", "(I)Z"⟩
abbrev cX1_cell : ByteArray := prog_3_method_3_code
def yX1_cell : MethodName := ⟨RX1, "cell", "(I)Z"⟩
abbrev cX1_between : ByteArray := prog_3_method_5_code
def yX1_between : MethodName := ⟨RX1, "between", "(IIII)Z"⟩
abbrev cX1_part : ByteArray := prog_3_method_4_code
def yX1_part : MethodName := ⟨RX1, "part", "(II)I"⟩
abbrev cX1_combine : ByteArray := prog_3_method_8_code
def yX1_combine : MethodName := ⟨RX1, "combine", "(IIII)Z"⟩
abbrev cX1_keep : ByteArray := prog_3_method_7_code
def yX1_keep : MethodName := ⟨RX1, "keep", "(I)V"⟩
abbrev cX1_turn : ByteArray := prog_3_method_9_code
def yX1_turn : MethodName := ⟨RX1, "turn", "(II)Z"⟩
abbrev cX1_mirror : ByteArray := prog_3_method_10_code
def yX1_mirror : MethodName := ⟨RX1, "mirror", "(III)Z"⟩
abbrev cX1_volume : ByteArray := prog_3_method_11_code
def yX1_volume : MethodName := ⟨RX1, "volume", "(I)I"⟩
abbrev cX1_has : ByteArray := prog_3_method_12_code
def yX1_has : MethodName := ⟨RX1, "has", "(II)Z"⟩
abbrev cX1_same : ByteArray := prog_3_method_13_code
def yX1_same : MethodName := ⟨RX1, "same", "(II)Z"⟩
abbrev cX1_inside : ByteArray := prog_3_method_14_code
def yX1_inside : MethodName := ⟨RX1, "inside", "(II)Z"⟩
abbrev cX1_cubes : ByteArray := prog_3_method_18_code
def yX1_cubes : MethodName := ⟨RX1, "cubes", "(I)I"⟩
abbrev cX1_order : ByteArray := prog_3_method_19_code
def yX1_order : MethodName := ⟨RX1, "order", "(II)I"⟩
abbrev cX1_even : ByteArray := prog_3_method_16_code
def yX1_even : MethodName := ⟨RX1, "even", "(III)Z"⟩
abbrev cX1_together : ByteArray := prog_3_method_15_code
def yX1_together : MethodName := ⟨RX1, "together", "(III)Z"⟩
abbrev cX1_corner : ByteArray := prog_3_method_17_code
def yX1_corner : MethodName := ⟨RX1, "corner", "(II)Z"⟩
abbrev cX1_surface : ByteArray := prog_3_method_21_code
def yX1_surface : MethodName := ⟨RX1, "surface", "(I)I"⟩
abbrev cX1_neighbour : ByteArray := prog_3_method_20_code
def yX1_neighbour : MethodName := ⟨RX1, "neighbour", "(III)I"⟩
abbrev cX1_next : ByteArray := prog_3_method_22_code
def yX1_next : MethodName := ⟨RX1, "next", "(II)I"⟩
abbrev cX1_kinds : ByteArray := prog_3_method_24_code
def yX1_kinds : MethodName := ⟨RX1, "kinds", "(II)I"⟩
abbrev cX1_alike : ByteArray := prog_3_method_23_code
def yX1_alike : MethodName := ⟨RX1, "alike", "(IIII)Z"⟩
theorem q24 : (Jvm.Cond.initialized "OctreeSolidModel") ∈ lw_all := lw_g (lw_at lw_m1 2 rfl) rfl
theorem q208 : (Jvm.Cond.instantiable "OctreeSolidModel" (2 : Nat)) ∈ lw_all := lw_g (lw_at lw_m1 186 rfl) rfl
theorem q210 : (Jvm.Cond.instanceMethod ({ cls := "OctreeSolidModel", name := "<init>", desc := "()V" } : Jvm.MethodName)) ∈ lw_all := lw_g (lw_at lw_m1 188 rfl) rfl
theorem q211 : (Jvm.Cond.code ({ cls := "OctreeSolidModel", name := "<init>", desc := "()V" } : Jvm.MethodName) prog_3_method_1_code (1 : Nat) (Option.none : Option Jvm.ClassFile.FieldType)) ∈ lw_all := lw_g (lw_at lw_m1 189 rfl) rfl
theorem q212 : (Jvm.Cond.methodLink "OctreeSolidModel" (1 : Nat) ({ cls := "java/lang/Object", name := "<init>", desc := "()V" } : Jvm.MethodName)) ∈ lw_all := lw_g (lw_at lw_m1 190 rfl) rfl
theorem q213 : (Jvm.Cond.fieldLink "OctreeSolidModel" (7 : Nat) "OctreeSolidModel" "in" "[Z") ∈ lw_all := lw_g (lw_at lw_m1 191 rfl) rfl
theorem q214 : (Jvm.Cond.fieldLink "OctreeSolidModel" (13 : Nat) "OctreeSolidModel" "made" "[Z") ∈ lw_all := lw_g (lw_at lw_m1 192 rfl) rfl
theorem q215 : (Jvm.Cond.lays "OctreeSolidModel" "OctreeSolidModel" "in" "[Z") ∈ lw_all := lw_g (lw_at lw_m1 193 rfl) rfl
theorem q216 : (Jvm.Cond.soleField "OctreeSolidModel" "in") ∈ lw_all := lw_g (lw_at lw_m1 194 rfl) rfl
theorem q217 : (Jvm.Cond.lays "OctreeSolidModel" "OctreeSolidModel" "made" "[Z") ∈ lw_all := lw_g (lw_at lw_m1 195 rfl) rfl
theorem q218 : (Jvm.Cond.soleField "OctreeSolidModel" "made") ∈ lw_all := lw_g (lw_at lw_m1 196 rfl) rfl
theorem q219 : (Jvm.Cond.superclass "OctreeSolidModel" "java/lang/Object") ∈ lw_all := lw_g (lw_at lw_m1 197 rfl) rfl
theorem q221 : (Jvm.Cond.instanceMethod ({ cls := "OctreeSolidModel", name := "box", desc := "(IIII)Z" } : Jvm.MethodName)) ∈ lw_all := lw_g (lw_at lw_m1 199 rfl) rfl
theorem q222 : (Jvm.Cond.selects "OctreeSolidModel" ({ cls := "OctreeSolidModel", name := "box", desc := "(IIII)Z" } : Jvm.MethodName) ({ cls := "OctreeSolidModel", name := "box", desc := "(IIII)Z" } : Jvm.MethodName)) ∈ lw_all := lw_g (lw_at lw_m1 200 rfl) rfl
theorem q223 : (Jvm.Cond.code ({ cls := "OctreeSolidModel", name := "box", desc := "(IIII)Z" } : Jvm.MethodName) prog_3_method_6_code (7 : Nat) (Option.some Jvm.ClassFile.FieldType.boolean)) ∈ lw_all := lw_g (lw_at lw_m1 201 rfl) rfl
theorem q224 : (Jvm.Cond.methodLink "OctreeSolidModel" (20 : Nat) ({ cls := "OctreeSolidModel", name := "solid", desc := "(I)Z" } : Jvm.MethodName)) ∈ lw_all := lw_g (lw_at lw_m1 202 rfl) rfl
theorem q225 : (Jvm.Cond.privateMethod ({ cls := "OctreeSolidModel", name := "solid", desc := "(I)Z" } : Jvm.MethodName)) ∈ lw_tbl := lw_at lw_m1 203 rfl
theorem q226 : (Jvm.Cond.instanceMethod ({ cls := "OctreeSolidModel", name := "solid", desc := "(I)Z" } : Jvm.MethodName)) ∈ lw_all := lw_g (lw_at lw_m1 204 rfl) rfl
theorem q227 : (Jvm.Cond.code ({ cls := "OctreeSolidModel", name := "solid", desc := "(I)Z" } : Jvm.MethodName) prog_3_method_2_code (2 : Nat) (Option.some Jvm.ClassFile.FieldType.boolean)) ∈ lw_all := lw_g (lw_at lw_m1 205 rfl) rfl
theorem q228 : (Jvm.Cond.methodLink "OctreeSolidModel" (24 : Nat) ({ cls := "OctreeSolidModel", name := "cell", desc := "(I)Z" } : Jvm.MethodName)) ∈ lw_all := lw_g (lw_at lw_m1 206 rfl) rfl
theorem q229 : (Jvm.Cond.privateMethod ({ cls := "OctreeSolidModel", name := "cell", desc := "(I)Z" } : Jvm.MethodName)) ∈ lw_tbl := lw_at lw_m1 207 rfl
theorem q230 : (Jvm.Cond.instanceMethod ({ cls := "OctreeSolidModel", name := "cell", desc := "(I)Z" } : Jvm.MethodName)) ∈ lw_all := lw_g (lw_at lw_m1 208 rfl) rfl
theorem q231 : (Jvm.Cond.code ({ cls := "OctreeSolidModel", name := "cell", desc := "(I)Z" } : Jvm.MethodName) prog_3_method_3_code (2 : Nat) (Option.some Jvm.ClassFile.FieldType.boolean)) ∈ lw_all := lw_g (lw_at lw_m1 209 rfl) rfl
theorem q232 : (Jvm.Cond.methodLink "OctreeSolidModel" (27 : Nat) ({ cls := "OctreeSolidModel", name := "between", desc := "(IIII)Z" } : Jvm.MethodName)) ∈ lw_all := lw_g (lw_at lw_m1 210 rfl) rfl
theorem q233 : (Jvm.Cond.privateMethod ({ cls := "OctreeSolidModel", name := "between", desc := "(IIII)Z" } : Jvm.MethodName)) ∈ lw_tbl := lw_at lw_m1 211 rfl
theorem q234 : (Jvm.Cond.instanceMethod ({ cls := "OctreeSolidModel", name := "between", desc := "(IIII)Z" } : Jvm.MethodName)) ∈ lw_all := lw_g (lw_at lw_m1 212 rfl) rfl
theorem q235 : (Jvm.Cond.code ({ cls := "OctreeSolidModel", name := "between", desc := "(IIII)Z" } : Jvm.MethodName) prog_3_method_5_code (8 : Nat) (Option.some Jvm.ClassFile.FieldType.boolean)) ∈ lw_all := lw_g (lw_at lw_m1 213 rfl) rfl
theorem q236 : (Jvm.Cond.methodLink "OctreeSolidModel" (16 : Nat) ({ cls := "OctreeSolidModel", name := "part", desc := "(II)I" } : Jvm.MethodName)) ∈ lw_all := lw_g (lw_at lw_m1 214 rfl) rfl
theorem q237 : (Jvm.Cond.privateMethod ({ cls := "OctreeSolidModel", name := "part", desc := "(II)I" } : Jvm.MethodName)) ∈ lw_tbl := lw_at lw_m1 215 rfl
theorem q238 : (Jvm.Cond.instanceMethod ({ cls := "OctreeSolidModel", name := "part", desc := "(II)I" } : Jvm.MethodName)) ∈ lw_all := lw_g (lw_at lw_m1 216 rfl) rfl
theorem q239 : (Jvm.Cond.code ({ cls := "OctreeSolidModel", name := "part", desc := "(II)I" } : Jvm.MethodName) prog_3_method_4_code (3 : Nat) (Option.some Jvm.ClassFile.FieldType.int)) ∈ lw_all := lw_g (lw_at lw_m1 217 rfl) rfl
theorem q241 : (Jvm.Cond.instanceMethod ({ cls := "OctreeSolidModel", name := "combine", desc := "(IIII)Z" } : Jvm.MethodName)) ∈ lw_all := lw_g (lw_at lw_m1 219 rfl) rfl
theorem q242 : (Jvm.Cond.selects "OctreeSolidModel" ({ cls := "OctreeSolidModel", name := "combine", desc := "(IIII)Z" } : Jvm.MethodName) ({ cls := "OctreeSolidModel", name := "combine", desc := "(IIII)Z" } : Jvm.MethodName)) ∈ lw_all := lw_g (lw_at lw_m1 220 rfl) rfl
theorem q243 : (Jvm.Cond.code ({ cls := "OctreeSolidModel", name := "combine", desc := "(IIII)Z" } : Jvm.MethodName) prog_3_method_8_code (8 : Nat) (Option.some Jvm.ClassFile.FieldType.boolean)) ∈ lw_all := lw_g (lw_at lw_m1 221 rfl) rfl
theorem q244 : (Jvm.Cond.methodLink "OctreeSolidModel" (31 : Nat) ({ cls := "OctreeSolidModel", name := "keep", desc := "(I)V" } : Jvm.MethodName)) ∈ lw_all := lw_g (lw_at lw_m1 222 rfl) rfl
theorem q245 : (Jvm.Cond.privateMethod ({ cls := "OctreeSolidModel", name := "keep", desc := "(I)V" } : Jvm.MethodName)) ∈ lw_tbl := lw_at lw_m1 223 rfl
theorem q246 : (Jvm.Cond.instanceMethod ({ cls := "OctreeSolidModel", name := "keep", desc := "(I)V" } : Jvm.MethodName)) ∈ lw_all := lw_g (lw_at lw_m1 224 rfl) rfl
theorem q247 : (Jvm.Cond.code ({ cls := "OctreeSolidModel", name := "keep", desc := "(I)V" } : Jvm.MethodName) prog_3_method_7_code (3 : Nat) (Option.none : Option Jvm.ClassFile.FieldType)) ∈ lw_all := lw_g (lw_at lw_m1 225 rfl) rfl
theorem q249 : (Jvm.Cond.instanceMethod ({ cls := "OctreeSolidModel", name := "turn", desc := "(II)Z" } : Jvm.MethodName)) ∈ lw_all := lw_g (lw_at lw_m1 227 rfl) rfl
theorem q250 : (Jvm.Cond.selects "OctreeSolidModel" ({ cls := "OctreeSolidModel", name := "turn", desc := "(II)Z" } : Jvm.MethodName) ({ cls := "OctreeSolidModel", name := "turn", desc := "(II)Z" } : Jvm.MethodName)) ∈ lw_all := lw_g (lw_at lw_m1 228 rfl) rfl
theorem q251 : (Jvm.Cond.code ({ cls := "OctreeSolidModel", name := "turn", desc := "(II)Z" } : Jvm.MethodName) prog_3_method_9_code (4 : Nat) (Option.some Jvm.ClassFile.FieldType.boolean)) ∈ lw_all := lw_g (lw_at lw_m1 229 rfl) rfl
theorem q253 : (Jvm.Cond.instanceMethod ({ cls := "OctreeSolidModel", name := "mirror", desc := "(III)Z" } : Jvm.MethodName)) ∈ lw_all := lw_g (lw_at lw_m1 231 rfl) rfl
theorem q254 : (Jvm.Cond.selects "OctreeSolidModel" ({ cls := "OctreeSolidModel", name := "mirror", desc := "(III)Z" } : Jvm.MethodName) ({ cls := "OctreeSolidModel", name := "mirror", desc := "(III)Z" } : Jvm.MethodName)) ∈ lw_all := lw_g (lw_at lw_m1 232 rfl) rfl
theorem q255 : (Jvm.Cond.code ({ cls := "OctreeSolidModel", name := "mirror", desc := "(III)Z" } : Jvm.MethodName) prog_3_method_10_code (5 : Nat) (Option.some Jvm.ClassFile.FieldType.boolean)) ∈ lw_all := lw_g (lw_at lw_m1 233 rfl) rfl
theorem q257 : (Jvm.Cond.instanceMethod ({ cls := "OctreeSolidModel", name := "volume", desc := "(I)I" } : Jvm.MethodName)) ∈ lw_all := lw_g (lw_at lw_m1 235 rfl) rfl
theorem q258 : (Jvm.Cond.selects "OctreeSolidModel" ({ cls := "OctreeSolidModel", name := "volume", desc := "(I)I" } : Jvm.MethodName) ({ cls := "OctreeSolidModel", name := "volume", desc := "(I)I" } : Jvm.MethodName)) ∈ lw_all := lw_g (lw_at lw_m1 236 rfl) rfl
theorem q259 : (Jvm.Cond.code ({ cls := "OctreeSolidModel", name := "volume", desc := "(I)I" } : Jvm.MethodName) prog_3_method_11_code (4 : Nat) (Option.some Jvm.ClassFile.FieldType.int)) ∈ lw_all := lw_g (lw_at lw_m1 237 rfl) rfl
theorem q261 : (Jvm.Cond.instanceMethod ({ cls := "OctreeSolidModel", name := "has", desc := "(II)Z" } : Jvm.MethodName)) ∈ lw_all := lw_g (lw_at lw_m1 239 rfl) rfl
theorem q262 : (Jvm.Cond.selects "OctreeSolidModel" ({ cls := "OctreeSolidModel", name := "has", desc := "(II)Z" } : Jvm.MethodName) ({ cls := "OctreeSolidModel", name := "has", desc := "(II)Z" } : Jvm.MethodName)) ∈ lw_all := lw_g (lw_at lw_m2 0 rfl) rfl
theorem q263 : (Jvm.Cond.code ({ cls := "OctreeSolidModel", name := "has", desc := "(II)Z" } : Jvm.MethodName) prog_3_method_12_code (3 : Nat) (Option.some Jvm.ClassFile.FieldType.boolean)) ∈ lw_all := lw_g (lw_at lw_m2 1 rfl) rfl
theorem q265 : (Jvm.Cond.instanceMethod ({ cls := "OctreeSolidModel", name := "same", desc := "(II)Z" } : Jvm.MethodName)) ∈ lw_all := lw_g (lw_at lw_m2 3 rfl) rfl
theorem q266 : (Jvm.Cond.selects "OctreeSolidModel" ({ cls := "OctreeSolidModel", name := "same", desc := "(II)Z" } : Jvm.MethodName) ({ cls := "OctreeSolidModel", name := "same", desc := "(II)Z" } : Jvm.MethodName)) ∈ lw_all := lw_g (lw_at lw_m2 4 rfl) rfl
theorem q267 : (Jvm.Cond.code ({ cls := "OctreeSolidModel", name := "same", desc := "(II)Z" } : Jvm.MethodName) prog_3_method_13_code (3 : Nat) (Option.some Jvm.ClassFile.FieldType.boolean)) ∈ lw_all := lw_g (lw_at lw_m2 5 rfl) rfl
theorem q268 : (Jvm.Cond.methodLink "OctreeSolidModel" (35 : Nat) ({ cls := "OctreeSolidModel", name := "inside", desc := "(II)Z" } : Jvm.MethodName)) ∈ lw_all := lw_g (lw_at lw_m2 6 rfl) rfl
theorem q269 : (Jvm.Cond.instanceMethod ({ cls := "OctreeSolidModel", name := "inside", desc := "(II)Z" } : Jvm.MethodName)) ∈ lw_all := lw_g (lw_at lw_m2 7 rfl) rfl
theorem q270 : (Jvm.Cond.selects "OctreeSolidModel" ({ cls := "OctreeSolidModel", name := "inside", desc := "(II)Z" } : Jvm.MethodName) ({ cls := "OctreeSolidModel", name := "inside", desc := "(II)Z" } : Jvm.MethodName)) ∈ lw_all := lw_g (lw_at lw_m2 8 rfl) rfl
theorem q271 : (Jvm.Cond.code ({ cls := "OctreeSolidModel", name := "inside", desc := "(II)Z" } : Jvm.MethodName) prog_3_method_14_code (5 : Nat) (Option.some Jvm.ClassFile.FieldType.boolean)) ∈ lw_all := lw_g (lw_at lw_m2 9 rfl) rfl
theorem q274 : (Jvm.Cond.instanceMethod ({ cls := "OctreeSolidModel", name := "cubes", desc := "(I)I" } : Jvm.MethodName)) ∈ lw_all := lw_g (lw_at lw_m2 12 rfl) rfl
theorem q275 : (Jvm.Cond.selects "OctreeSolidModel" ({ cls := "OctreeSolidModel", name := "cubes", desc := "(I)I" } : Jvm.MethodName) ({ cls := "OctreeSolidModel", name := "cubes", desc := "(I)I" } : Jvm.MethodName)) ∈ lw_all := lw_g (lw_at lw_m2 13 rfl) rfl
theorem q276 : (Jvm.Cond.code ({ cls := "OctreeSolidModel", name := "cubes", desc := "(I)I" } : Jvm.MethodName) prog_3_method_18_code (5 : Nat) (Option.some Jvm.ClassFile.FieldType.int)) ∈ lw_all := lw_g (lw_at lw_m2 14 rfl) rfl
theorem q277 : (Jvm.Cond.methodLink "OctreeSolidModel" (43 : Nat) ({ cls := "OctreeSolidModel", name := "order", desc := "(II)I" } : Jvm.MethodName)) ∈ lw_all := lw_g (lw_at lw_m2 15 rfl) rfl
theorem q278 : (Jvm.Cond.instanceMethod ({ cls := "OctreeSolidModel", name := "order", desc := "(II)I" } : Jvm.MethodName)) ∈ lw_all := lw_g (lw_at lw_m2 16 rfl) rfl
theorem q279 : (Jvm.Cond.selects "OctreeSolidModel" ({ cls := "OctreeSolidModel", name := "order", desc := "(II)I" } : Jvm.MethodName) ({ cls := "OctreeSolidModel", name := "order", desc := "(II)I" } : Jvm.MethodName)) ∈ lw_all := lw_g (lw_at lw_m2 17 rfl) rfl
theorem q280 : (Jvm.Cond.code ({ cls := "OctreeSolidModel", name := "order", desc := "(II)I" } : Jvm.MethodName) prog_3_method_19_code (4 : Nat) (Option.some Jvm.ClassFile.FieldType.int)) ∈ lw_all := lw_g (lw_at lw_m2 18 rfl) rfl
theorem q281 : (Jvm.Cond.methodLink "OctreeSolidModel" (49 : Nat) ({ cls := "OctreeSolidModel", name := "even", desc := "(III)Z" } : Jvm.MethodName)) ∈ lw_all := lw_g (lw_at lw_m2 19 rfl) rfl
theorem q282 : (Jvm.Cond.privateMethod ({ cls := "OctreeSolidModel", name := "even", desc := "(III)Z" } : Jvm.MethodName)) ∈ lw_tbl := lw_at lw_m2 20 rfl
theorem q283 : (Jvm.Cond.instanceMethod ({ cls := "OctreeSolidModel", name := "even", desc := "(III)Z" } : Jvm.MethodName)) ∈ lw_all := lw_g (lw_at lw_m2 21 rfl) rfl
theorem q284 : (Jvm.Cond.code ({ cls := "OctreeSolidModel", name := "even", desc := "(III)Z" } : Jvm.MethodName) prog_3_method_16_code (6 : Nat) (Option.some Jvm.ClassFile.FieldType.boolean)) ∈ lw_all := lw_g (lw_at lw_m2 22 rfl) rfl
theorem q285 : (Jvm.Cond.methodLink "OctreeSolidModel" (39 : Nat) ({ cls := "OctreeSolidModel", name := "together", desc := "(III)Z" } : Jvm.MethodName)) ∈ lw_all := lw_g (lw_at lw_m2 23 rfl) rfl
theorem q286 : (Jvm.Cond.privateMethod ({ cls := "OctreeSolidModel", name := "together", desc := "(III)Z" } : Jvm.MethodName)) ∈ lw_tbl := lw_at lw_m2 24 rfl
theorem q287 : (Jvm.Cond.instanceMethod ({ cls := "OctreeSolidModel", name := "together", desc := "(III)Z" } : Jvm.MethodName)) ∈ lw_all := lw_g (lw_at lw_m2 25 rfl) rfl
theorem q288 : (Jvm.Cond.code ({ cls := "OctreeSolidModel", name := "together", desc := "(III)Z" } : Jvm.MethodName) prog_3_method_15_code (4 : Nat) (Option.some Jvm.ClassFile.FieldType.boolean)) ∈ lw_all := lw_g (lw_at lw_m2 26 rfl) rfl
theorem q289 : (Jvm.Cond.methodLink "OctreeSolidModel" (46 : Nat) ({ cls := "OctreeSolidModel", name := "corner", desc := "(II)Z" } : Jvm.MethodName)) ∈ lw_all := lw_g (lw_at lw_m2 27 rfl) rfl
theorem q290 : (Jvm.Cond.privateMethod ({ cls := "OctreeSolidModel", name := "corner", desc := "(II)Z" } : Jvm.MethodName)) ∈ lw_tbl := lw_at lw_m2 28 rfl
theorem q291 : (Jvm.Cond.instanceMethod ({ cls := "OctreeSolidModel", name := "corner", desc := "(II)Z" } : Jvm.MethodName)) ∈ lw_all := lw_g (lw_at lw_m2 29 rfl) rfl
theorem q292 : (Jvm.Cond.code ({ cls := "OctreeSolidModel", name := "corner", desc := "(II)Z" } : Jvm.MethodName) prog_3_method_17_code (4 : Nat) (Option.some Jvm.ClassFile.FieldType.boolean)) ∈ lw_all := lw_g (lw_at lw_m2 30 rfl) rfl
theorem q295 : (Jvm.Cond.instanceMethod ({ cls := "OctreeSolidModel", name := "surface", desc := "(I)I" } : Jvm.MethodName)) ∈ lw_all := lw_g (lw_at lw_m2 33 rfl) rfl
theorem q296 : (Jvm.Cond.selects "OctreeSolidModel" ({ cls := "OctreeSolidModel", name := "surface", desc := "(I)I" } : Jvm.MethodName) ({ cls := "OctreeSolidModel", name := "surface", desc := "(I)I" } : Jvm.MethodName)) ∈ lw_all := lw_g (lw_at lw_m2 34 rfl) rfl
theorem q297 : (Jvm.Cond.code ({ cls := "OctreeSolidModel", name := "surface", desc := "(I)I" } : Jvm.MethodName) prog_3_method_21_code (6 : Nat) (Option.some Jvm.ClassFile.FieldType.int)) ∈ lw_all := lw_g (lw_at lw_m2 35 rfl) rfl
theorem q298 : (Jvm.Cond.methodLink "OctreeSolidModel" (52 : Nat) ({ cls := "OctreeSolidModel", name := "neighbour", desc := "(III)I" } : Jvm.MethodName)) ∈ lw_all := lw_g (lw_at lw_m2 36 rfl) rfl
theorem q299 : (Jvm.Cond.privateMethod ({ cls := "OctreeSolidModel", name := "neighbour", desc := "(III)I" } : Jvm.MethodName)) ∈ lw_tbl := lw_at lw_m2 37 rfl
theorem q300 : (Jvm.Cond.instanceMethod ({ cls := "OctreeSolidModel", name := "neighbour", desc := "(III)I" } : Jvm.MethodName)) ∈ lw_all := lw_g (lw_at lw_m2 38 rfl) rfl
theorem q301 : (Jvm.Cond.code ({ cls := "OctreeSolidModel", name := "neighbour", desc := "(III)I" } : Jvm.MethodName) prog_3_method_20_code (5 : Nat) (Option.some Jvm.ClassFile.FieldType.int)) ∈ lw_all := lw_g (lw_at lw_m2 39 rfl) rfl
theorem q303 : (Jvm.Cond.instanceMethod ({ cls := "OctreeSolidModel", name := "next", desc := "(II)I" } : Jvm.MethodName)) ∈ lw_all := lw_g (lw_at lw_m2 41 rfl) rfl
theorem q304 : (Jvm.Cond.selects "OctreeSolidModel" ({ cls := "OctreeSolidModel", name := "next", desc := "(II)I" } : Jvm.MethodName) ({ cls := "OctreeSolidModel", name := "next", desc := "(II)I" } : Jvm.MethodName)) ∈ lw_all := lw_g (lw_at lw_m2 42 rfl) rfl
theorem q305 : (Jvm.Cond.code ({ cls := "OctreeSolidModel", name := "next", desc := "(II)I" } : Jvm.MethodName) prog_3_method_22_code (4 : Nat) (Option.some Jvm.ClassFile.FieldType.int)) ∈ lw_all := lw_g (lw_at lw_m2 43 rfl) rfl
theorem q307 : (Jvm.Cond.instanceMethod ({ cls := "OctreeSolidModel", name := "kinds", desc := "(II)I" } : Jvm.MethodName)) ∈ lw_all := lw_g (lw_at lw_m2 45 rfl) rfl
theorem q308 : (Jvm.Cond.selects "OctreeSolidModel" ({ cls := "OctreeSolidModel", name := "kinds", desc := "(II)I" } : Jvm.MethodName) ({ cls := "OctreeSolidModel", name := "kinds", desc := "(II)I" } : Jvm.MethodName)) ∈ lw_all := lw_g (lw_at lw_m2 46 rfl) rfl
theorem q309 : (Jvm.Cond.code ({ cls := "OctreeSolidModel", name := "kinds", desc := "(II)I" } : Jvm.MethodName) prog_3_method_24_code (7 : Nat) (Option.some Jvm.ClassFile.FieldType.int)) ∈ lw_all := lw_g (lw_at lw_m2 47 rfl) rfl
theorem q310 : (Jvm.Cond.methodLink "OctreeSolidModel" (56 : Nat) ({ cls := "OctreeSolidModel", name := "alike", desc := "(IIII)Z" } : Jvm.MethodName)) ∈ lw_all := lw_g (lw_at lw_m2 48 rfl) rfl
theorem q311 : (Jvm.Cond.privateMethod ({ cls := "OctreeSolidModel", name := "alike", desc := "(IIII)Z" } : Jvm.MethodName)) ∈ lw_tbl := lw_at lw_m2 49 rfl
theorem q312 : (Jvm.Cond.instanceMethod ({ cls := "OctreeSolidModel", name := "alike", desc := "(IIII)Z" } : Jvm.MethodName)) ∈ lw_all := lw_g (lw_at lw_m2 50 rfl) rfl
theorem q313 : (Jvm.Cond.code ({ cls := "OctreeSolidModel", name := "alike", desc := "(IIII)Z" } : Jvm.MethodName) prog_3_method_23_code (9 : Nat) (Option.some Jvm.ClassFile.FieldType.boolean)) ∈ lw_all := lw_g (lw_at lw_m2 51 rfl) rfl
theorem in_X1 : ∀ w ∈ wsX10, w ∈ lw_all := lw_in wsX10 [215, 217] (by decide +kernel) (by decide +kernel)
theorem q22 : (Jvm.Cond.initialized "OctreeSolidLaw") ∈ lw_all := lw_g (lw_at lw_m1 0 rfl) rfl
theorem q25 : (Jvm.Cond.classLink "OctreeSolidLaw" (7 : Nat) "OctreeSolid") ∈ lw_all := lw_g (lw_at lw_m1 3 rfl) rfl
theorem q27 : (Jvm.Cond.methodLink "OctreeSolidLaw" (9 : Nat) ({ cls := "OctreeSolid", name := "<init>", desc := "()V" } : Jvm.MethodName)) ∈ lw_all := lw_g (lw_at lw_m1 5 rfl) rfl
theorem q88 : (Jvm.Cond.methodLink "OctreeSolidLaw" (13 : Nat) ({ cls := "OctreeSolid", name := "box", desc := "(IIII)Z" } : Jvm.MethodName)) ∈ lw_all := lw_g (lw_at lw_m1 66 rfl) rfl
theorem q154 : (Jvm.Cond.methodLink "OctreeSolidLaw" (18 : Nat) ({ cls := "OctreeSolid", name := "combine", desc := "(IIII)Z" } : Jvm.MethodName)) ∈ lw_all := lw_g (lw_at lw_m1 132 rfl) rfl
theorem q158 : (Jvm.Cond.methodLink "OctreeSolidLaw" (22 : Nat) ({ cls := "OctreeSolid", name := "turn", desc := "(II)Z" } : Jvm.MethodName)) ∈ lw_all := lw_g (lw_at lw_m1 136 rfl) rfl
theorem q162 : (Jvm.Cond.methodLink "OctreeSolidLaw" (27 : Nat) ({ cls := "OctreeSolid", name := "mirror", desc := "(III)Z" } : Jvm.MethodName)) ∈ lw_all := lw_g (lw_at lw_m1 140 rfl) rfl
theorem q166 : (Jvm.Cond.methodLink "OctreeSolidLaw" (32 : Nat) ({ cls := "OctreeSolid", name := "volume", desc := "(I)I" } : Jvm.MethodName)) ∈ lw_all := lw_g (lw_at lw_m1 144 rfl) rfl
theorem q170 : (Jvm.Cond.methodLink "OctreeSolidLaw" (37 : Nat) ({ cls := "OctreeSolid", name := "has", desc := "(II)Z" } : Jvm.MethodName)) ∈ lw_all := lw_g (lw_at lw_m1 148 rfl) rfl
theorem q174 : (Jvm.Cond.methodLink "OctreeSolidLaw" (41 : Nat) ({ cls := "OctreeSolid", name := "same", desc := "(II)Z" } : Jvm.MethodName)) ∈ lw_all := lw_g (lw_at lw_m1 152 rfl) rfl
theorem q178 : (Jvm.Cond.methodLink "OctreeSolidLaw" (45 : Nat) ({ cls := "OctreeSolid", name := "inside", desc := "(II)Z" } : Jvm.MethodName)) ∈ lw_all := lw_g (lw_at lw_m1 156 rfl) rfl
theorem q182 : (Jvm.Cond.methodLink "OctreeSolidLaw" (49 : Nat) ({ cls := "OctreeSolid", name := "cubes", desc := "(I)I" } : Jvm.MethodName)) ∈ lw_all := lw_g (lw_at lw_m1 160 rfl) rfl
theorem q190 : (Jvm.Cond.methodLink "OctreeSolidLaw" (53 : Nat) ({ cls := "OctreeSolid", name := "order", desc := "(II)I" } : Jvm.MethodName)) ∈ lw_all := lw_g (lw_at lw_m1 168 rfl) rfl
theorem q194 : (Jvm.Cond.methodLink "OctreeSolidLaw" (58 : Nat) ({ cls := "OctreeSolid", name := "surface", desc := "(I)I" } : Jvm.MethodName)) ∈ lw_all := lw_g (lw_at lw_m1 172 rfl) rfl
theorem q199 : (Jvm.Cond.methodLink "OctreeSolidLaw" (62 : Nat) ({ cls := "OctreeSolid", name := "next", desc := "(II)I" } : Jvm.MethodName)) ∈ lw_all := lw_g (lw_at lw_m1 177 rfl) rfl
theorem q203 : (Jvm.Cond.methodLink "OctreeSolidLaw" (66 : Nat) ({ cls := "OctreeSolid", name := "kinds", desc := "(II)I" } : Jvm.MethodName)) ∈ lw_all := lw_g (lw_at lw_m1 181 rfl) rfl
theorem q207 : (Jvm.Cond.classLink "OctreeSolidLaw" (10 : Nat) "OctreeSolidModel") ∈ lw_all := lw_g (lw_at lw_m1 185 rfl) rfl
theorem q209 : (Jvm.Cond.methodLink "OctreeSolidLaw" (12 : Nat) ({ cls := "OctreeSolidModel", name := "<init>", desc := "()V" } : Jvm.MethodName)) ∈ lw_all := lw_g (lw_at lw_m1 187 rfl) rfl
theorem q220 : (Jvm.Cond.methodLink "OctreeSolidLaw" (17 : Nat) ({ cls := "OctreeSolidModel", name := "box", desc := "(IIII)Z" } : Jvm.MethodName)) ∈ lw_all := lw_g (lw_at lw_m1 198 rfl) rfl
theorem q240 : (Jvm.Cond.methodLink "OctreeSolidLaw" (21 : Nat) ({ cls := "OctreeSolidModel", name := "combine", desc := "(IIII)Z" } : Jvm.MethodName)) ∈ lw_all := lw_g (lw_at lw_m1 218 rfl) rfl
theorem q248 : (Jvm.Cond.methodLink "OctreeSolidLaw" (26 : Nat) ({ cls := "OctreeSolidModel", name := "turn", desc := "(II)Z" } : Jvm.MethodName)) ∈ lw_all := lw_g (lw_at lw_m1 226 rfl) rfl
theorem q252 : (Jvm.Cond.methodLink "OctreeSolidLaw" (31 : Nat) ({ cls := "OctreeSolidModel", name := "mirror", desc := "(III)Z" } : Jvm.MethodName)) ∈ lw_all := lw_g (lw_at lw_m1 230 rfl) rfl
theorem q256 : (Jvm.Cond.methodLink "OctreeSolidLaw" (36 : Nat) ({ cls := "OctreeSolidModel", name := "volume", desc := "(I)I" } : Jvm.MethodName)) ∈ lw_all := lw_g (lw_at lw_m1 234 rfl) rfl
theorem q260 : (Jvm.Cond.methodLink "OctreeSolidLaw" (40 : Nat) ({ cls := "OctreeSolidModel", name := "has", desc := "(II)Z" } : Jvm.MethodName)) ∈ lw_all := lw_g (lw_at lw_m1 238 rfl) rfl
theorem q264 : (Jvm.Cond.methodLink "OctreeSolidLaw" (44 : Nat) ({ cls := "OctreeSolidModel", name := "same", desc := "(II)Z" } : Jvm.MethodName)) ∈ lw_all := lw_g (lw_at lw_m2 2 rfl) rfl
theorem q272 : (Jvm.Cond.methodLink "OctreeSolidLaw" (48 : Nat) ({ cls := "OctreeSolidModel", name := "inside", desc := "(II)Z" } : Jvm.MethodName)) ∈ lw_all := lw_g (lw_at lw_m2 10 rfl) rfl
theorem q273 : (Jvm.Cond.methodLink "OctreeSolidLaw" (52 : Nat) ({ cls := "OctreeSolidModel", name := "cubes", desc := "(I)I" } : Jvm.MethodName)) ∈ lw_all := lw_g (lw_at lw_m2 11 rfl) rfl
theorem q293 : (Jvm.Cond.methodLink "OctreeSolidLaw" (57 : Nat) ({ cls := "OctreeSolidModel", name := "order", desc := "(II)I" } : Jvm.MethodName)) ∈ lw_all := lw_g (lw_at lw_m2 31 rfl) rfl
theorem q294 : (Jvm.Cond.methodLink "OctreeSolidLaw" (61 : Nat) ({ cls := "OctreeSolidModel", name := "surface", desc := "(I)I" } : Jvm.MethodName)) ∈ lw_all := lw_g (lw_at lw_m2 32 rfl) rfl
theorem q302 : (Jvm.Cond.methodLink "OctreeSolidLaw" (65 : Nat) ({ cls := "OctreeSolidModel", name := "next", desc := "(II)I" } : Jvm.MethodName)) ∈ lw_all := lw_g (lw_at lw_m2 40 rfl) rfl
theorem q306 : (Jvm.Cond.methodLink "OctreeSolidLaw" (69 : Nat) ({ cls := "OctreeSolidModel", name := "kinds", desc := "(II)I" } : Jvm.MethodName)) ∈ lw_all := lw_g (lw_at lw_m2 44 rfl) rfl
theorem q86 : (Jvm.Cond.arrayClass Jvm.ClassFile.FieldType.short) ∈ lw_all := lw_g (lw_at lw_m1 64 rfl) rfl
theorem q87 : (Jvm.Cond.arrayClass Jvm.ClassFile.FieldType.boolean) ∈ lw_all := lw_g (lw_at lw_m1 65 rfl) rfl
/-! the law's own entry -/
abbrev cL_law : ByteArray := code
end
section
set_option maxRecDepth 100000
theorem dJ0_init_0 : decode cJ0_init 0 = .ok (.return_, 1) := by decide +kernel
theorem dX0_init_0 : decode cX0_init 0 = .ok (.aload_n 0, 1) := by decide +kernel
theorem dX0_init_1 : decode cX0_init 1 = .ok (.invokespecial 1, 3) := by decide +kernel
theorem dX0_init_4 : decode cX0_init 4 = .ok (.aload_n 0, 1) := by decide +kernel
theorem dX0_init_5 : decode cX0_init 5 = .ok (.sipush 4096, 3) := by decide +kernel
theorem dX0_init_8 : decode cX0_init 8 = .ok (.newarray .short, 2) := by decide +kernel
theorem dX0_init_10 : decode cX0_init 10 = .ok (.putfield 7, 3) := by decide +kernel
theorem dX0_init_13 : decode cX0_init 13 = .ok (.aload_n 0, 1) := by decide +kernel
theorem dX0_init_14 : decode cX0_init 14 = .ok (.sipush 512, 3) := by decide +kernel
theorem dX0_init_17 : decode cX0_init 17 = .ok (.newarray .boolean, 2) := by decide +kernel
theorem dX0_init_19 : decode cX0_init 19 = .ok (.putfield 13, 3) := by decide +kernel
theorem dX0_init_22 : decode cX0_init 22 = .ok (.aload_n 0, 1) := by decide +kernel
theorem dX0_init_23 : decode cX0_init 23 = .ok (.sipush 256, 3) := by decide +kernel
theorem dX0_init_26 : decode cX0_init 26 = .ok (.newarray .short, 2) := by decide +kernel
theorem dX0_init_28 : decode cX0_init 28 = .ok (.putfield 17, 3) := by decide +kernel
theorem dX0_init_31 : decode cX0_init 31 = .ok (.aload_n 0, 1) := by decide +kernel
theorem dX0_init_32 : decode cX0_init 32 = .ok (.sipush 512, 3) := by decide +kernel
theorem dX0_init_35 : decode cX0_init 35 = .ok (.newarray .short, 2) := by decide +kernel
theorem dX0_init_37 : decode cX0_init 37 = .ok (.putfield 20, 3) := by decide +kernel
theorem dX0_init_40 : decode cX0_init 40 = .ok (.aload_n 0, 1) := by decide +kernel
theorem dX0_init_41 : decode cX0_init 41 = .ok (.sipush 512, 3) := by decide +kernel
theorem dX0_init_44 : decode cX0_init 44 = .ok (.newarray .boolean, 2) := by decide +kernel
theorem dX0_init_46 : decode cX0_init 46 = .ok (.putfield 23, 3) := by decide +kernel
theorem dX0_init_49 : decode cX0_init 49 = .ok (.aload_n 0, 1) := by decide +kernel
theorem dX0_init_50 : decode cX0_init 50 = .ok (.iconst 4, 1) := by decide +kernel
theorem dX0_init_51 : decode cX0_init 51 = .ok (.newarray .short, 2) := by decide +kernel
theorem dX0_init_53 : decode cX0_init 53 = .ok (.putfield 26, 3) := by decide +kernel
theorem dX0_init_56 : decode cX0_init 56 = .ok (.aload_n 0, 1) := by decide +kernel
theorem dX0_init_57 : decode cX0_init 57 = .ok (.bipush 8, 2) := by decide +kernel
theorem dX0_init_59 : decode cX0_init 59 = .ok (.newarray .short, 2) := by decide +kernel
theorem dX0_init_61 : decode cX0_init 61 = .ok (.putfield 29, 3) := by decide +kernel
theorem dX0_init_64 : decode cX0_init 64 = .ok (.aload_n 0, 1) := by decide +kernel
theorem dX0_init_65 : decode cX0_init 65 = .ok (.bipush 64, 2) := by decide +kernel
theorem dX0_init_67 : decode cX0_init 67 = .ok (.newarray .short, 2) := by decide +kernel
theorem dX0_init_69 : decode cX0_init 69 = .ok (.putfield 32, 3) := by decide +kernel
theorem dX0_init_72 : decode cX0_init 72 = .ok (.aload_n 0, 1) := by decide +kernel
theorem dX0_init_73 : decode cX0_init 73 = .ok (.bipush 8, 2) := by decide +kernel
theorem dX0_init_75 : decode cX0_init 75 = .ok (.newarray .short, 2) := by decide +kernel
theorem dX0_init_77 : decode cX0_init 77 = .ok (.putfield 35, 3) := by decide +kernel
theorem dX0_init_80 : decode cX0_init 80 = .ok (.aload_n 0, 1) := by decide +kernel
theorem dX0_init_81 : decode cX0_init 81 = .ok (.invokevirtual 38, 3) := by decide +kernel
theorem dX0_init_84 : decode cX0_init 84 = .ok (.aload_n 0, 1) := by decide +kernel
theorem dX0_init_85 : decode cX0_init 85 = .ok (.iconst 2, 1) := by decide +kernel
theorem dX0_init_86 : decode cX0_init 86 = .ok (.putfield 41, 3) := by decide +kernel
theorem dX0_init_89 : decode cX0_init 89 = .ok (.return_, 1) := by decide +kernel
theorem dX0_clearChains_0 : decode cX0_clearChains 0 = .ok (.iconst 0, 1) := by decide +kernel
theorem dX0_clearChains_1 : decode cX0_clearChains 1 = .ok (.istore_n 1, 1) := by decide +kernel
theorem dX0_clearChains_2 : decode cX0_clearChains 2 = .ok (.iload_n 1, 1) := by decide +kernel
theorem dX0_clearChains_3 : decode cX0_clearChains 3 = .ok (.sipush 256, 3) := by decide +kernel
theorem dX0_clearChains_6 : decode cX0_clearChains 6 = .ok (.if_icmp .ge 16, 3) := by decide +kernel
theorem dX0_clearChains_9 : decode cX0_clearChains 9 = .ok (.aload_n 0, 1) := by decide +kernel
theorem dX0_clearChains_10 : decode cX0_clearChains 10 = .ok (.getfield 17, 3) := by decide +kernel
theorem dX0_clearChains_13 : decode cX0_clearChains 13 = .ok (.iload_n 1, 1) := by decide +kernel
theorem dX0_clearChains_14 : decode cX0_clearChains 14 = .ok (.iconst (-1), 1) := by decide +kernel
theorem dX0_clearChains_15 : decode cX0_clearChains 15 = .ok (.sastore, 1) := by decide +kernel
theorem dX0_clearChains_16 : decode cX0_clearChains 16 = .ok (.iinc 1 1, 3) := by decide +kernel
theorem dX0_clearChains_19 : decode cX0_clearChains 19 = .ok (.goto (-17), 3) := by decide +kernel
theorem dX0_clearChains_22 : decode cX0_clearChains 22 = .ok (.return_, 1) := by decide +kernel
theorem dX0_box_0 : decode cX0_box 0 = .ok (.iload_n 1, 1) := by decide +kernel
theorem dX0_box_1 : decode cX0_box 1 = .ok (.invokestatic 112, 3) := by decide +kernel
theorem dX0_box_4 : decode cX0_box 4 = .ok (.ifCond .eq 28, 3) := by decide +kernel
theorem dX0_box_7 : decode cX0_box 7 = .ok (.iload_n 2, 1) := by decide +kernel
theorem dX0_box_8 : decode cX0_box 8 = .ok (.invokestatic 115, 3) := by decide +kernel
theorem dX0_box_11 : decode cX0_box 11 = .ok (.ifCond .eq 21, 3) := by decide +kernel
theorem dX0_box_14 : decode cX0_box 14 = .ok (.iload_n 3, 1) := by decide +kernel
theorem dX0_box_15 : decode cX0_box 15 = .ok (.invokestatic 115, 3) := by decide +kernel
theorem dX0_box_18 : decode cX0_box 18 = .ok (.ifCond .eq 14, 3) := by decide +kernel
theorem dX0_box_21 : decode cX0_box 21 = .ok (.iload 4, 2) := by decide +kernel
theorem dX0_box_23 : decode cX0_box 23 = .ok (.ifCond .lt 9, 3) := by decide +kernel
theorem dX0_box_26 : decode cX0_box 26 = .ok (.iload 4, 2) := by decide +kernel
theorem dX0_box_28 : decode cX0_box 28 = .ok (.iconst 1, 1) := by decide +kernel
theorem dX0_box_29 : decode cX0_box 29 = .ok (.if_icmp .le 5, 3) := by decide +kernel
theorem dX0_box_32 : decode cX0_box 32 = .ok (.iconst 0, 1) := by decide +kernel
theorem dX0_box_33 : decode cX0_box 33 = .ok (.ireturn, 1) := by decide +kernel
theorem dX0_box_34 : decode cX0_box 34 = .ok (.aload_n 0, 1) := by decide +kernel
theorem dX0_box_35 : decode cX0_box 35 = .ok (.iconst 4, 1) := by decide +kernel
theorem dX0_box_36 : decode cX0_box 36 = .ok (.putfield 81, 3) := by decide +kernel
theorem dX0_box_39 : decode cX0_box 39 = .ok (.aload_n 0, 1) := by decide +kernel
theorem dX0_box_40 : decode cX0_box 40 = .ok (.aload_n 0, 1) := by decide +kernel
theorem dX0_box_41 : decode cX0_box 41 = .ok (.getfield 26, 3) := by decide +kernel
theorem dX0_box_44 : decode cX0_box 44 = .ok (.iload_n 1, 1) := by decide +kernel
theorem dX0_box_45 : decode cX0_box 45 = .ok (.saload, 1) := by decide +kernel
theorem dX0_box_46 : decode cX0_box 46 = .ok (.putfield 87, 3) := by decide +kernel
theorem dX0_box_49 : decode cX0_box 49 = .ok (.aload_n 0, 1) := by decide +kernel
theorem dX0_box_50 : decode cX0_box 50 = .ok (.iload_n 2, 1) := by decide +kernel
theorem dX0_box_51 : decode cX0_box 51 = .ok (.putfield 72, 3) := by decide +kernel
theorem dX0_box_54 : decode cX0_box 54 = .ok (.aload_n 0, 1) := by decide +kernel
theorem dX0_box_55 : decode cX0_box 55 = .ok (.iload_n 3, 1) := by decide +kernel
theorem dX0_box_56 : decode cX0_box 56 = .ok (.putfield 78, 3) := by decide +kernel
theorem dX0_box_59 : decode cX0_box 59 = .ok (.aload_n 0, 1) := by decide +kernel
theorem dX0_box_60 : decode cX0_box 60 = .ok (.iload 4, 2) := by decide +kernel
theorem dX0_box_62 : decode cX0_box 62 = .ok (.putfield 84, 3) := by decide +kernel
theorem dX0_box_65 : decode cX0_box 65 = .ok (.aload_n 0, 1) := by decide +kernel
theorem dX0_box_66 : decode cX0_box 66 = .ok (.iload_n 1, 1) := by decide +kernel
theorem dX0_box_67 : decode cX0_box 67 = .ok (.invokevirtual 118, 3) := by decide +kernel
theorem dX0_box_70 : decode cX0_box 70 = .ok (.iconst 1, 1) := by decide +kernel
theorem dX0_box_71 : decode cX0_box 71 = .ok (.ireturn, 1) := by decide +kernel
theorem dX0_isSolid_0 : decode cX0_isSolid 0 = .ok (.iload_n 0, 1) := by decide +kernel
theorem dX0_isSolid_1 : decode cX0_isSolid 1 = .ok (.ifCond .lt 12, 3) := by decide +kernel
theorem dX0_isSolid_4 : decode cX0_isSolid 4 = .ok (.iload_n 0, 1) := by decide +kernel
theorem dX0_isSolid_5 : decode cX0_isSolid 5 = .ok (.iconst 4, 1) := by decide +kernel
theorem dX0_isSolid_6 : decode cX0_isSolid 6 = .ok (.if_icmp .ge 7, 3) := by decide +kernel
theorem dX0_isSolid_9 : decode cX0_isSolid 9 = .ok (.iconst 1, 1) := by decide +kernel
theorem dX0_isSolid_10 : decode cX0_isSolid 10 = .ok (.goto 4, 3) := by decide +kernel
theorem dX0_isSolid_13 : decode cX0_isSolid 13 = .ok (.iconst 0, 1) := by decide +kernel
theorem dX0_isSolid_14 : decode cX0_isSolid 14 = .ok (.ireturn, 1) := by decide +kernel
theorem dX0_isCell_0 : decode cX0_isCell 0 = .ok (.iload_n 0, 1) := by decide +kernel
theorem dX0_isCell_1 : decode cX0_isCell 1 = .ok (.ifCond .lt 14, 3) := by decide +kernel
theorem dX0_isCell_4 : decode cX0_isCell 4 = .ok (.iload_n 0, 1) := by decide +kernel
theorem dX0_isCell_5 : decode cX0_isCell 5 = .ok (.sipush 512, 3) := by decide +kernel
theorem dX0_isCell_8 : decode cX0_isCell 8 = .ok (.if_icmp .ge 7, 3) := by decide +kernel
theorem dX0_isCell_11 : decode cX0_isCell 11 = .ok (.iconst 1, 1) := by decide +kernel
theorem dX0_isCell_12 : decode cX0_isCell 12 = .ok (.goto 4, 3) := by decide +kernel
theorem dX0_isCell_15 : decode cX0_isCell 15 = .ok (.iconst 0, 1) := by decide +kernel
theorem dX0_isCell_16 : decode cX0_isCell 16 = .ok (.ireturn, 1) := by decide +kernel
theorem dX0_build_0 : decode cX0_build 0 = .ok (.aload_n 0, 1) := by decide +kernel
theorem dX0_build_1 : decode cX0_build 1 = .ok (.invokevirtual 99, 3) := by decide +kernel
theorem dX0_build_4 : decode cX0_build 4 = .ok (.iconst 0, 1) := by decide +kernel
theorem dX0_build_5 : decode cX0_build 5 = .ok (.istore_n 2, 1) := by decide +kernel
theorem dX0_build_6 : decode cX0_build 6 = .ok (.iload_n 2, 1) := by decide +kernel
theorem dX0_build_7 : decode cX0_build 7 = .ok (.bipush 64, 2) := by decide +kernel
theorem dX0_build_9 : decode cX0_build 9 = .ok (.if_icmp .ge 58, 3) := by decide +kernel
theorem dX0_build_12 : decode cX0_build 12 = .ok (.iconst 0, 1) := by decide +kernel
theorem dX0_build_13 : decode cX0_build 13 = .ok (.istore_n 3, 1) := by decide +kernel
theorem dX0_build_14 : decode cX0_build 14 = .ok (.iload_n 3, 1) := by decide +kernel
theorem dX0_build_15 : decode cX0_build 15 = .ok (.bipush 8, 2) := by decide +kernel
theorem dX0_build_17 : decode cX0_build 17 = .ok (.if_icmp .ge 33, 3) := by decide +kernel
theorem dX0_build_20 : decode cX0_build 20 = .ok (.bipush 8, 2) := by decide +kernel
theorem dX0_build_22 : decode cX0_build 22 = .ok (.iload_n 2, 1) := by decide +kernel
theorem dX0_build_23 : decode cX0_build 23 = .ok (.imul, 1) := by decide +kernel
theorem dX0_build_24 : decode cX0_build 24 = .ok (.iload_n 3, 1) := by decide +kernel
theorem dX0_build_25 : decode cX0_build 25 = .ok (.iadd, 1) := by decide +kernel
theorem dX0_build_26 : decode cX0_build 26 = .ok (.invokestatic 102, 3) := by decide +kernel
theorem dX0_build_29 : decode cX0_build 29 = .ok (.istore 4, 2) := by decide +kernel
theorem dX0_build_31 : decode cX0_build 31 = .ok (.aload_n 0, 1) := by decide +kernel
theorem dX0_build_32 : decode cX0_build 32 = .ok (.getfield 29, 3) := by decide +kernel
theorem dX0_build_35 : decode cX0_build 35 = .ok (.iload_n 3, 1) := by decide +kernel
theorem dX0_build_36 : decode cX0_build 36 = .ok (.aload_n 0, 1) := by decide +kernel
theorem dX0_build_37 : decode cX0_build 37 = .ok (.iload 4, 2) := by decide +kernel
theorem dX0_build_39 : decode cX0_build 39 = .ok (.invokevirtual 105, 3) := by decide +kernel
theorem dX0_build_42 : decode cX0_build 42 = .ok (.i2s, 1) := by decide +kernel
theorem dX0_build_43 : decode cX0_build 43 = .ok (.sastore, 1) := by decide +kernel
theorem dX0_build_44 : decode cX0_build 44 = .ok (.iinc 3 1, 3) := by decide +kernel
theorem dX0_build_47 : decode cX0_build 47 = .ok (.goto (-33), 3) := by decide +kernel
theorem dX0_build_50 : decode cX0_build 50 = .ok (.aload_n 0, 1) := by decide +kernel
theorem dX0_build_51 : decode cX0_build 51 = .ok (.getfield 32, 3) := by decide +kernel
theorem dX0_build_54 : decode cX0_build 54 = .ok (.iload_n 2, 1) := by decide +kernel
theorem dX0_build_55 : decode cX0_build 55 = .ok (.aload_n 0, 1) := by decide +kernel
theorem dX0_build_56 : decode cX0_build 56 = .ok (.invokevirtual 108, 3) := by decide +kernel
theorem dX0_build_59 : decode cX0_build 59 = .ok (.i2s, 1) := by decide +kernel
theorem dX0_build_60 : decode cX0_build 60 = .ok (.sastore, 1) := by decide +kernel
theorem dX0_build_61 : decode cX0_build 61 = .ok (.iinc 2 1, 3) := by decide +kernel
theorem dX0_build_64 : decode cX0_build 64 = .ok (.goto (-58), 3) := by decide +kernel
theorem dX0_build_67 : decode cX0_build 67 = .ok (.iconst 0, 1) := by decide +kernel
theorem dX0_build_68 : decode cX0_build 68 = .ok (.istore_n 2, 1) := by decide +kernel
theorem dX0_build_69 : decode cX0_build 69 = .ok (.iload_n 2, 1) := by decide +kernel
theorem dX0_build_70 : decode cX0_build 70 = .ok (.bipush 8, 2) := by decide +kernel
theorem dX0_build_72 : decode cX0_build 72 = .ok (.if_icmp .ge 51, 3) := by decide +kernel
theorem dX0_build_75 : decode cX0_build 75 = .ok (.iconst 0, 1) := by decide +kernel
theorem dX0_build_76 : decode cX0_build 76 = .ok (.istore_n 3, 1) := by decide +kernel
theorem dX0_build_77 : decode cX0_build 77 = .ok (.iload_n 3, 1) := by decide +kernel
theorem dX0_build_78 : decode cX0_build 78 = .ok (.bipush 8, 2) := by decide +kernel
theorem dX0_build_80 : decode cX0_build 80 = .ok (.if_icmp .ge 26, 3) := by decide +kernel
theorem dX0_build_83 : decode cX0_build 83 = .ok (.aload_n 0, 1) := by decide +kernel
theorem dX0_build_84 : decode cX0_build 84 = .ok (.getfield 29, 3) := by decide +kernel
theorem dX0_build_87 : decode cX0_build 87 = .ok (.iload_n 3, 1) := by decide +kernel
theorem dX0_build_88 : decode cX0_build 88 = .ok (.aload_n 0, 1) := by decide +kernel
theorem dX0_build_89 : decode cX0_build 89 = .ok (.getfield 32, 3) := by decide +kernel
theorem dX0_build_92 : decode cX0_build 92 = .ok (.bipush 8, 2) := by decide +kernel
theorem dX0_build_94 : decode cX0_build 94 = .ok (.iload_n 2, 1) := by decide +kernel
theorem dX0_build_95 : decode cX0_build 95 = .ok (.imul, 1) := by decide +kernel
theorem dX0_build_96 : decode cX0_build 96 = .ok (.iload_n 3, 1) := by decide +kernel
theorem dX0_build_97 : decode cX0_build 97 = .ok (.iadd, 1) := by decide +kernel
theorem dX0_build_98 : decode cX0_build 98 = .ok (.saload, 1) := by decide +kernel
theorem dX0_build_99 : decode cX0_build 99 = .ok (.sastore, 1) := by decide +kernel
theorem dX0_build_100 : decode cX0_build 100 = .ok (.iinc 3 1, 3) := by decide +kernel
theorem dX0_build_103 : decode cX0_build 103 = .ok (.goto (-26), 3) := by decide +kernel
theorem dX0_build_106 : decode cX0_build 106 = .ok (.aload_n 0, 1) := by decide +kernel
theorem dX0_build_107 : decode cX0_build 107 = .ok (.getfield 35, 3) := by decide +kernel
theorem dX0_build_110 : decode cX0_build 110 = .ok (.iload_n 2, 1) := by decide +kernel
theorem dX0_build_111 : decode cX0_build 111 = .ok (.aload_n 0, 1) := by decide +kernel
theorem dX0_build_112 : decode cX0_build 112 = .ok (.invokevirtual 108, 3) := by decide +kernel
theorem dX0_build_115 : decode cX0_build 115 = .ok (.i2s, 1) := by decide +kernel
theorem dX0_build_116 : decode cX0_build 116 = .ok (.sastore, 1) := by decide +kernel
theorem dX0_build_117 : decode cX0_build 117 = .ok (.iinc 2 1, 3) := by decide +kernel
theorem dX0_build_120 : decode cX0_build 120 = .ok (.goto (-51), 3) := by decide +kernel
theorem dX0_build_123 : decode cX0_build 123 = .ok (.iconst 0, 1) := by decide +kernel
theorem dX0_build_124 : decode cX0_build 124 = .ok (.istore_n 2, 1) := by decide +kernel
theorem dX0_build_125 : decode cX0_build 125 = .ok (.iload_n 2, 1) := by decide +kernel
theorem dX0_build_126 : decode cX0_build 126 = .ok (.bipush 8, 2) := by decide +kernel
theorem dX0_build_128 : decode cX0_build 128 = .ok (.if_icmp .ge 21, 3) := by decide +kernel
theorem dX0_build_131 : decode cX0_build 131 = .ok (.aload_n 0, 1) := by decide +kernel
theorem dX0_build_132 : decode cX0_build 132 = .ok (.getfield 29, 3) := by decide +kernel
theorem dX0_build_135 : decode cX0_build 135 = .ok (.iload_n 2, 1) := by decide +kernel
theorem dX0_build_136 : decode cX0_build 136 = .ok (.aload_n 0, 1) := by decide +kernel
theorem dX0_build_137 : decode cX0_build 137 = .ok (.getfield 35, 3) := by decide +kernel
theorem dX0_build_140 : decode cX0_build 140 = .ok (.iload_n 2, 1) := by decide +kernel
theorem dX0_build_141 : decode cX0_build 141 = .ok (.saload, 1) := by decide +kernel
theorem dX0_build_142 : decode cX0_build 142 = .ok (.sastore, 1) := by decide +kernel
theorem dX0_build_143 : decode cX0_build 143 = .ok (.iinc 2 1, 3) := by decide +kernel
theorem dX0_build_146 : decode cX0_build 146 = .ok (.goto (-21), 3) := by decide +kernel
theorem dX0_build_149 : decode cX0_build 149 = .ok (.aload_n 0, 1) := by decide +kernel
theorem dX0_build_150 : decode cX0_build 150 = .ok (.getfield 26, 3) := by decide +kernel
theorem dX0_build_153 : decode cX0_build 153 = .ok (.iload_n 1, 1) := by decide +kernel
theorem dX0_build_154 : decode cX0_build 154 = .ok (.aload_n 0, 1) := by decide +kernel
theorem dX0_build_155 : decode cX0_build 155 = .ok (.invokevirtual 108, 3) := by decide +kernel
theorem dX0_build_158 : decode cX0_build 158 = .ok (.i2s, 1) := by decide +kernel
theorem dX0_build_159 : decode cX0_build 159 = .ok (.sastore, 1) := by decide +kernel
theorem dX0_build_160 : decode cX0_build 160 = .ok (.return_, 1) := by decide +kernel
theorem dX0_sweep_0 : decode cX0_sweep 0 = .ok (.iconst 0, 1) := by decide +kernel
theorem dX0_sweep_1 : decode cX0_sweep 1 = .ok (.istore_n 1, 1) := by decide +kernel
theorem dX0_sweep_2 : decode cX0_sweep 2 = .ok (.iload_n 1, 1) := by decide +kernel
theorem dX0_sweep_3 : decode cX0_sweep 3 = .ok (.sipush 512, 3) := by decide +kernel
theorem dX0_sweep_6 : decode cX0_sweep 6 = .ok (.if_icmp .ge 16, 3) := by decide +kernel
theorem dX0_sweep_9 : decode cX0_sweep 9 = .ok (.aload_n 0, 1) := by decide +kernel
theorem dX0_sweep_10 : decode cX0_sweep 10 = .ok (.getfield 13, 3) := by decide +kernel
theorem dX0_sweep_13 : decode cX0_sweep 13 = .ok (.iload_n 1, 1) := by decide +kernel
theorem dX0_sweep_14 : decode cX0_sweep 14 = .ok (.iconst 0, 1) := by decide +kernel
theorem dX0_sweep_15 : decode cX0_sweep 15 = .ok (.bastore, 1) := by decide +kernel
theorem dX0_sweep_16 : decode cX0_sweep 16 = .ok (.iinc 1 1, 3) := by decide +kernel
theorem dX0_sweep_19 : decode cX0_sweep 19 = .ok (.goto (-17), 3) := by decide +kernel
theorem dX0_sweep_22 : decode cX0_sweep 22 = .ok (.iconst 0, 1) := by decide +kernel
theorem dX0_sweep_23 : decode cX0_sweep 23 = .ok (.istore_n 1, 1) := by decide +kernel
theorem dX0_sweep_24 : decode cX0_sweep 24 = .ok (.iload_n 1, 1) := by decide +kernel
theorem dX0_sweep_25 : decode cX0_sweep 25 = .ok (.iconst 4, 1) := by decide +kernel
theorem dX0_sweep_26 : decode cX0_sweep 26 = .ok (.if_icmp .ge 19, 3) := by decide +kernel
theorem dX0_sweep_29 : decode cX0_sweep 29 = .ok (.aload_n 0, 1) := by decide +kernel
theorem dX0_sweep_30 : decode cX0_sweep 30 = .ok (.aload_n 0, 1) := by decide +kernel
theorem dX0_sweep_31 : decode cX0_sweep 31 = .ok (.getfield 26, 3) := by decide +kernel
theorem dX0_sweep_34 : decode cX0_sweep 34 = .ok (.iload_n 1, 1) := by decide +kernel
theorem dX0_sweep_35 : decode cX0_sweep 35 = .ok (.saload, 1) := by decide +kernel
theorem dX0_sweep_36 : decode cX0_sweep 36 = .ok (.invokevirtual 58, 3) := by decide +kernel
theorem dX0_sweep_39 : decode cX0_sweep 39 = .ok (.iinc 1 1, 3) := by decide +kernel
theorem dX0_sweep_42 : decode cX0_sweep 42 = .ok (.goto (-18), 3) := by decide +kernel
theorem dX0_sweep_45 : decode cX0_sweep 45 = .ok (.aload_n 0, 1) := by decide +kernel
theorem dX0_sweep_46 : decode cX0_sweep 46 = .ok (.invokevirtual 38, 3) := by decide +kernel
theorem dX0_sweep_49 : decode cX0_sweep 49 = .ok (.iconst 2, 1) := by decide +kernel
theorem dX0_sweep_50 : decode cX0_sweep 50 = .ok (.istore_n 1, 1) := by decide +kernel
theorem dX0_sweep_51 : decode cX0_sweep 51 = .ok (.iload_n 1, 1) := by decide +kernel
theorem dX0_sweep_52 : decode cX0_sweep 52 = .ok (.sipush 512, 3) := by decide +kernel
theorem dX0_sweep_55 : decode cX0_sweep 55 = .ok (.if_icmp .ge 44, 3) := by decide +kernel
theorem dX0_sweep_58 : decode cX0_sweep 58 = .ok (.aload_n 0, 1) := by decide +kernel
theorem dX0_sweep_59 : decode cX0_sweep 59 = .ok (.getfield 13, 3) := by decide +kernel
theorem dX0_sweep_62 : decode cX0_sweep 62 = .ok (.iload_n 1, 1) := by decide +kernel
theorem dX0_sweep_63 : decode cX0_sweep 63 = .ok (.baload, 1) := by decide +kernel
theorem dX0_sweep_64 : decode cX0_sweep 64 = .ok (.ifCond .eq 29, 3) := by decide +kernel
theorem dX0_sweep_67 : decode cX0_sweep 67 = .ok (.aload_n 0, 1) := by decide +kernel
theorem dX0_sweep_68 : decode cX0_sweep 68 = .ok (.iload_n 1, 1) := by decide +kernel
theorem dX0_sweep_69 : decode cX0_sweep 69 = .ok (.invokevirtual 62, 3) := by decide +kernel
theorem dX0_sweep_72 : decode cX0_sweep 72 = .ok (.istore_n 2, 1) := by decide +kernel
theorem dX0_sweep_73 : decode cX0_sweep 73 = .ok (.aload_n 0, 1) := by decide +kernel
theorem dX0_sweep_74 : decode cX0_sweep 74 = .ok (.getfield 20, 3) := by decide +kernel
theorem dX0_sweep_77 : decode cX0_sweep 77 = .ok (.iload_n 1, 1) := by decide +kernel
theorem dX0_sweep_78 : decode cX0_sweep 78 = .ok (.aload_n 0, 1) := by decide +kernel
theorem dX0_sweep_79 : decode cX0_sweep 79 = .ok (.getfield 17, 3) := by decide +kernel
theorem dX0_sweep_82 : decode cX0_sweep 82 = .ok (.iload_n 2, 1) := by decide +kernel
theorem dX0_sweep_83 : decode cX0_sweep 83 = .ok (.saload, 1) := by decide +kernel
theorem dX0_sweep_84 : decode cX0_sweep 84 = .ok (.sastore, 1) := by decide +kernel
theorem dX0_sweep_85 : decode cX0_sweep 85 = .ok (.aload_n 0, 1) := by decide +kernel
theorem dX0_sweep_86 : decode cX0_sweep 86 = .ok (.getfield 17, 3) := by decide +kernel
theorem dX0_sweep_89 : decode cX0_sweep 89 = .ok (.iload_n 2, 1) := by decide +kernel
theorem dX0_sweep_90 : decode cX0_sweep 90 = .ok (.iload_n 1, 1) := by decide +kernel
theorem dX0_sweep_91 : decode cX0_sweep 91 = .ok (.i2s, 1) := by decide +kernel
theorem dX0_sweep_92 : decode cX0_sweep 92 = .ok (.sastore, 1) := by decide +kernel
theorem dX0_sweep_93 : decode cX0_sweep 93 = .ok (.iinc 1 1, 3) := by decide +kernel
theorem dX0_sweep_96 : decode cX0_sweep 96 = .ok (.goto (-45), 3) := by decide +kernel
theorem dX0_sweep_99 : decode cX0_sweep 99 = .ok (.aload_n 0, 1) := by decide +kernel
theorem dX0_sweep_100 : decode cX0_sweep 100 = .ok (.iconst 2, 1) := by decide +kernel
theorem dX0_sweep_101 : decode cX0_sweep 101 = .ok (.putfield 41, 3) := by decide +kernel
theorem dX0_sweep_104 : decode cX0_sweep 104 = .ok (.return_, 1) := by decide +kernel
theorem dX0_markFrom_0 : decode cX0_markFrom 0 = .ok (.iload_n 1, 1) := by decide +kernel
theorem dX0_markFrom_1 : decode cX0_markFrom 1 = .ok (.iconst 2, 1) := by decide +kernel
theorem dX0_markFrom_2 : decode cX0_markFrom 2 = .ok (.if_icmp .ge 4, 3) := by decide +kernel
theorem dX0_markFrom_5 : decode cX0_markFrom 5 = .ok (.return_, 1) := by decide +kernel
theorem dX0_markFrom_6 : decode cX0_markFrom 6 = .ok (.aload_n 0, 1) := by decide +kernel
theorem dX0_markFrom_7 : decode cX0_markFrom 7 = .ok (.getfield 13, 3) := by decide +kernel
theorem dX0_markFrom_10 : decode cX0_markFrom 10 = .ok (.iload_n 1, 1) := by decide +kernel
theorem dX0_markFrom_11 : decode cX0_markFrom 11 = .ok (.iconst 1, 1) := by decide +kernel
theorem dX0_markFrom_12 : decode cX0_markFrom 12 = .ok (.bastore, 1) := by decide +kernel
theorem dX0_markFrom_13 : decode cX0_markFrom 13 = .ok (.iconst 0, 1) := by decide +kernel
theorem dX0_markFrom_14 : decode cX0_markFrom 14 = .ok (.istore_n 2, 1) := by decide +kernel
theorem dX0_markFrom_15 : decode cX0_markFrom 15 = .ok (.iload_n 2, 1) := by decide +kernel
theorem dX0_markFrom_16 : decode cX0_markFrom 16 = .ok (.bipush 8, 2) := by decide +kernel
theorem dX0_markFrom_18 : decode cX0_markFrom 18 = .ok (.if_icmp .ge 91, 3) := by decide +kernel
theorem dX0_markFrom_21 : decode cX0_markFrom 21 = .ok (.aload_n 0, 1) := by decide +kernel
theorem dX0_markFrom_22 : decode cX0_markFrom 22 = .ok (.getfield 7, 3) := by decide +kernel
theorem dX0_markFrom_25 : decode cX0_markFrom 25 = .ok (.iload_n 1, 1) := by decide +kernel
theorem dX0_markFrom_26 : decode cX0_markFrom 26 = .ok (.bipush 8, 2) := by decide +kernel
theorem dX0_markFrom_28 : decode cX0_markFrom 28 = .ok (.imul, 1) := by decide +kernel
theorem dX0_markFrom_29 : decode cX0_markFrom 29 = .ok (.iload_n 2, 1) := by decide +kernel
theorem dX0_markFrom_30 : decode cX0_markFrom 30 = .ok (.iadd, 1) := by decide +kernel
theorem dX0_markFrom_31 : decode cX0_markFrom 31 = .ok (.saload, 1) := by decide +kernel
theorem dX0_markFrom_32 : decode cX0_markFrom 32 = .ok (.istore_n 3, 1) := by decide +kernel
theorem dX0_markFrom_33 : decode cX0_markFrom 33 = .ok (.iload_n 3, 1) := by decide +kernel
theorem dX0_markFrom_34 : decode cX0_markFrom 34 = .ok (.iconst 2, 1) := by decide +kernel
theorem dX0_markFrom_35 : decode cX0_markFrom 35 = .ok (.if_icmp .lt 68, 3) := by decide +kernel
theorem dX0_markFrom_38 : decode cX0_markFrom 38 = .ok (.aload_n 0, 1) := by decide +kernel
theorem dX0_markFrom_39 : decode cX0_markFrom 39 = .ok (.getfield 13, 3) := by decide +kernel
theorem dX0_markFrom_42 : decode cX0_markFrom 42 = .ok (.iload_n 3, 1) := by decide +kernel
theorem dX0_markFrom_43 : decode cX0_markFrom 43 = .ok (.iconst 1, 1) := by decide +kernel
theorem dX0_markFrom_44 : decode cX0_markFrom 44 = .ok (.bastore, 1) := by decide +kernel
theorem dX0_markFrom_45 : decode cX0_markFrom 45 = .ok (.iconst 0, 1) := by decide +kernel
theorem dX0_markFrom_46 : decode cX0_markFrom 46 = .ok (.istore 4, 2) := by decide +kernel
theorem dX0_markFrom_48 : decode cX0_markFrom 48 = .ok (.iload 4, 2) := by decide +kernel
theorem dX0_markFrom_50 : decode cX0_markFrom 50 = .ok (.bipush 8, 2) := by decide +kernel
theorem dX0_markFrom_52 : decode cX0_markFrom 52 = .ok (.if_icmp .ge 51, 3) := by decide +kernel
theorem dX0_markFrom_55 : decode cX0_markFrom 55 = .ok (.aload_n 0, 1) := by decide +kernel
theorem dX0_markFrom_56 : decode cX0_markFrom 56 = .ok (.getfield 7, 3) := by decide +kernel
theorem dX0_markFrom_59 : decode cX0_markFrom 59 = .ok (.iload_n 3, 1) := by decide +kernel
theorem dX0_markFrom_60 : decode cX0_markFrom 60 = .ok (.bipush 8, 2) := by decide +kernel
theorem dX0_markFrom_62 : decode cX0_markFrom 62 = .ok (.imul, 1) := by decide +kernel
theorem dX0_markFrom_63 : decode cX0_markFrom 63 = .ok (.iload 4, 2) := by decide +kernel
theorem dX0_markFrom_65 : decode cX0_markFrom 65 = .ok (.iadd, 1) := by decide +kernel
theorem dX0_markFrom_66 : decode cX0_markFrom 66 = .ok (.saload, 1) := by decide +kernel
theorem dX0_markFrom_67 : decode cX0_markFrom 67 = .ok (.istore 5, 2) := by decide +kernel
theorem dX0_markFrom_69 : decode cX0_markFrom 69 = .ok (.aload_n 0, 1) := by decide +kernel
theorem dX0_markFrom_70 : decode cX0_markFrom 70 = .ok (.getfield 13, 3) := by decide +kernel
theorem dX0_markFrom_73 : decode cX0_markFrom 73 = .ok (.iload 5, 2) := by decide +kernel
theorem dX0_markFrom_75 : decode cX0_markFrom 75 = .ok (.aload_n 0, 1) := by decide +kernel
theorem dX0_markFrom_76 : decode cX0_markFrom 76 = .ok (.getfield 13, 3) := by decide +kernel
theorem dX0_markFrom_79 : decode cX0_markFrom 79 = .ok (.iload 5, 2) := by decide +kernel
theorem dX0_markFrom_81 : decode cX0_markFrom 81 = .ok (.baload, 1) := by decide +kernel
theorem dX0_markFrom_82 : decode cX0_markFrom 82 = .ok (.ifCond .ne 9, 3) := by decide +kernel
theorem dX0_markFrom_85 : decode cX0_markFrom 85 = .ok (.iload 5, 2) := by decide +kernel
theorem dX0_markFrom_87 : decode cX0_markFrom 87 = .ok (.iconst 2, 1) := by decide +kernel
theorem dX0_markFrom_88 : decode cX0_markFrom 88 = .ok (.if_icmp .lt 7, 3) := by decide +kernel
theorem dX0_markFrom_91 : decode cX0_markFrom 91 = .ok (.iconst 1, 1) := by decide +kernel
theorem dX0_markFrom_92 : decode cX0_markFrom 92 = .ok (.goto 4, 3) := by decide +kernel
theorem dX0_markFrom_95 : decode cX0_markFrom 95 = .ok (.iconst 0, 1) := by decide +kernel
theorem dX0_markFrom_96 : decode cX0_markFrom 96 = .ok (.bastore, 1) := by decide +kernel
theorem dX0_markFrom_97 : decode cX0_markFrom 97 = .ok (.iinc 4 1, 3) := by decide +kernel
theorem dX0_markFrom_100 : decode cX0_markFrom 100 = .ok (.goto (-52), 3) := by decide +kernel
theorem dX0_markFrom_103 : decode cX0_markFrom 103 = .ok (.iinc 2 1, 3) := by decide +kernel
theorem dX0_markFrom_106 : decode cX0_markFrom 106 = .ok (.goto (-91), 3) := by decide +kernel
theorem dX0_markFrom_109 : decode cX0_markFrom 109 = .ok (.return_, 1) := by decide +kernel
theorem dX0_markOf_0 : decode cX0_markOf 0 = .ok (.bipush 7, 2) := by decide +kernel
theorem dX0_markOf_2 : decode cX0_markOf 2 = .ok (.istore_n 2, 1) := by decide +kernel
theorem dX0_markOf_3 : decode cX0_markOf 3 = .ok (.iconst 0, 1) := by decide +kernel
theorem dX0_markOf_4 : decode cX0_markOf 4 = .ok (.istore_n 3, 1) := by decide +kernel
theorem dX0_markOf_5 : decode cX0_markOf 5 = .ok (.iload_n 3, 1) := by decide +kernel
theorem dX0_markOf_6 : decode cX0_markOf 6 = .ok (.bipush 8, 2) := by decide +kernel
theorem dX0_markOf_8 : decode cX0_markOf 8 = .ok (.if_icmp .ge 25, 3) := by decide +kernel
theorem dX0_markOf_11 : decode cX0_markOf 11 = .ok (.iload_n 2, 1) := by decide +kernel
theorem dX0_markOf_12 : decode cX0_markOf 12 = .ok (.aload_n 0, 1) := by decide +kernel
theorem dX0_markOf_13 : decode cX0_markOf 13 = .ok (.getfield 7, 3) := by decide +kernel
theorem dX0_markOf_16 : decode cX0_markOf 16 = .ok (.iload_n 1, 1) := by decide +kernel
theorem dX0_markOf_17 : decode cX0_markOf 17 = .ok (.bipush 8, 2) := by decide +kernel
theorem dX0_markOf_19 : decode cX0_markOf 19 = .ok (.imul, 1) := by decide +kernel
theorem dX0_markOf_20 : decode cX0_markOf 20 = .ok (.iload_n 3, 1) := by decide +kernel
theorem dX0_markOf_21 : decode cX0_markOf 21 = .ok (.iadd, 1) := by decide +kernel
theorem dX0_markOf_22 : decode cX0_markOf 22 = .ok (.saload, 1) := by decide +kernel
theorem dX0_markOf_23 : decode cX0_markOf 23 = .ok (.invokestatic 46, 3) := by decide +kernel
theorem dX0_markOf_26 : decode cX0_markOf 26 = .ok (.istore_n 2, 1) := by decide +kernel
theorem dX0_markOf_27 : decode cX0_markOf 27 = .ok (.iinc 3 1, 3) := by decide +kernel
theorem dX0_markOf_30 : decode cX0_markOf 30 = .ok (.goto (-25), 3) := by decide +kernel
theorem dX0_markOf_33 : decode cX0_markOf 33 = .ok (.iload_n 2, 1) := by decide +kernel
theorem dX0_markOf_34 : decode cX0_markOf 34 = .ok (.iload_n 2, 1) := by decide +kernel
theorem dX0_markOf_35 : decode cX0_markOf 35 = .ok (.bipush 8, 2) := by decide +kernel
theorem dX0_markOf_37 : decode cX0_markOf 37 = .ok (.ishr, 1) := by decide +kernel
theorem dX0_markOf_38 : decode cX0_markOf 38 = .ok (.ixor, 1) := by decide +kernel
theorem dX0_markOf_39 : decode cX0_markOf 39 = .ok (.sipush 255, 3) := by decide +kernel
theorem dX0_markOf_42 : decode cX0_markOf 42 = .ok (.iand, 1) := by decide +kernel
theorem dX0_markOf_43 : decode cX0_markOf 43 = .ok (.ireturn, 1) := by decide +kernel
theorem dX0_mix_0 : decode cX0_mix 0 = .ok (.iload_n 0, 1) := by decide +kernel
theorem dX0_mix_1 : decode cX0_mix 1 = .ok (.bipush 31, 2) := by decide +kernel
theorem dX0_mix_3 : decode cX0_mix 3 = .ok (.imul, 1) := by decide +kernel
theorem dX0_mix_4 : decode cX0_mix 4 = .ok (.iload_n 1, 1) := by decide +kernel
theorem dX0_mix_5 : decode cX0_mix 5 = .ok (.iadd, 1) := by decide +kernel
theorem dX0_mix_6 : decode cX0_mix 6 = .ok (.ldc 45, 2) := by decide +kernel
theorem dX0_mix_8 : decode cX0_mix 8 = .ok (.iand, 1) := by decide +kernel
theorem dX0_mix_9 : decode cX0_mix 9 = .ok (.ireturn, 1) := by decide +kernel
theorem dX0_cellAt_0 : decode cX0_cellAt 0 = .ok (.iconst 0, 1) := by decide +kernel
theorem dX0_cellAt_1 : decode cX0_cellAt 1 = .ok (.istore_n 1, 1) := by decide +kernel
theorem dX0_cellAt_2 : decode cX0_cellAt 2 = .ok (.iconst 0, 1) := by decide +kernel
theorem dX0_cellAt_3 : decode cX0_cellAt 3 = .ok (.istore_n 2, 1) := by decide +kernel
theorem dX0_cellAt_4 : decode cX0_cellAt 4 = .ok (.iload_n 2, 1) := by decide +kernel
theorem dX0_cellAt_5 : decode cX0_cellAt 5 = .ok (.iconst 3, 1) := by decide +kernel
theorem dX0_cellAt_6 : decode cX0_cellAt 6 = .ok (.if_icmp .ge 45, 3) := by decide +kernel
theorem dX0_cellAt_9 : decode cX0_cellAt 9 = .ok (.iload_n 0, 1) := by decide +kernel
theorem dX0_cellAt_10 : decode cX0_cellAt 10 = .ok (.iconst 3, 1) := by decide +kernel
theorem dX0_cellAt_11 : decode cX0_cellAt 11 = .ok (.iload_n 2, 1) := by decide +kernel
theorem dX0_cellAt_12 : decode cX0_cellAt 12 = .ok (.imul, 1) := by decide +kernel
theorem dX0_cellAt_13 : decode cX0_cellAt 13 = .ok (.ishr, 1) := by decide +kernel
theorem dX0_cellAt_14 : decode cX0_cellAt 14 = .ok (.bipush 7, 2) := by decide +kernel
theorem dX0_cellAt_16 : decode cX0_cellAt 16 = .ok (.iand, 1) := by decide +kernel
theorem dX0_cellAt_17 : decode cX0_cellAt 17 = .ok (.istore_n 3, 1) := by decide +kernel
theorem dX0_cellAt_18 : decode cX0_cellAt 18 = .ok (.iload_n 1, 1) := by decide +kernel
theorem dX0_cellAt_19 : decode cX0_cellAt 19 = .ok (.iload_n 3, 1) := by decide +kernel
theorem dX0_cellAt_20 : decode cX0_cellAt 20 = .ok (.iconst 1, 1) := by decide +kernel
theorem dX0_cellAt_21 : decode cX0_cellAt 21 = .ok (.iand, 1) := by decide +kernel
theorem dX0_cellAt_22 : decode cX0_cellAt 22 = .ok (.iload_n 2, 1) := by decide +kernel
theorem dX0_cellAt_23 : decode cX0_cellAt 23 = .ok (.ishl, 1) := by decide +kernel
theorem dX0_cellAt_24 : decode cX0_cellAt 24 = .ok (.iload_n 3, 1) := by decide +kernel
theorem dX0_cellAt_25 : decode cX0_cellAt 25 = .ok (.iconst 1, 1) := by decide +kernel
theorem dX0_cellAt_26 : decode cX0_cellAt 26 = .ok (.ishr, 1) := by decide +kernel
theorem dX0_cellAt_27 : decode cX0_cellAt 27 = .ok (.iconst 1, 1) := by decide +kernel
theorem dX0_cellAt_28 : decode cX0_cellAt 28 = .ok (.iand, 1) := by decide +kernel
theorem dX0_cellAt_29 : decode cX0_cellAt 29 = .ok (.iconst 3, 1) := by decide +kernel
theorem dX0_cellAt_30 : decode cX0_cellAt 30 = .ok (.iload_n 2, 1) := by decide +kernel
theorem dX0_cellAt_31 : decode cX0_cellAt 31 = .ok (.iadd, 1) := by decide +kernel
end
section
set_option maxRecDepth 100000
theorem dX0_cellAt_32 : decode cX0_cellAt 32 = .ok (.ishl, 1) := by decide +kernel
theorem dX0_cellAt_33 : decode cX0_cellAt 33 = .ok (.ior, 1) := by decide +kernel
theorem dX0_cellAt_34 : decode cX0_cellAt 34 = .ok (.iload_n 3, 1) := by decide +kernel
theorem dX0_cellAt_35 : decode cX0_cellAt 35 = .ok (.iconst 2, 1) := by decide +kernel
theorem dX0_cellAt_36 : decode cX0_cellAt 36 = .ok (.ishr, 1) := by decide +kernel
theorem dX0_cellAt_37 : decode cX0_cellAt 37 = .ok (.bipush 6, 2) := by decide +kernel
theorem dX0_cellAt_39 : decode cX0_cellAt 39 = .ok (.iload_n 2, 1) := by decide +kernel
theorem dX0_cellAt_40 : decode cX0_cellAt 40 = .ok (.iadd, 1) := by decide +kernel
theorem dX0_cellAt_41 : decode cX0_cellAt 41 = .ok (.ishl, 1) := by decide +kernel
theorem dX0_cellAt_42 : decode cX0_cellAt 42 = .ok (.ior, 1) := by decide +kernel
theorem dX0_cellAt_43 : decode cX0_cellAt 43 = .ok (.ior, 1) := by decide +kernel
theorem dX0_cellAt_44 : decode cX0_cellAt 44 = .ok (.istore_n 1, 1) := by decide +kernel
theorem dX0_cellAt_45 : decode cX0_cellAt 45 = .ok (.iinc 2 1, 3) := by decide +kernel
theorem dX0_cellAt_48 : decode cX0_cellAt 48 = .ok (.goto (-44), 3) := by decide +kernel
theorem dX0_cellAt_51 : decode cX0_cellAt 51 = .ok (.iload_n 1, 1) := by decide +kernel
theorem dX0_cellAt_52 : decode cX0_cellAt 52 = .ok (.ireturn, 1) := by decide +kernel
theorem dX0_cellOf_0 : decode cX0_cellOf 0 = .ok (.aload_n 0, 1) := by decide +kernel
theorem dX0_cellOf_1 : decode cX0_cellOf 1 = .ok (.getfield 81, 3) := by decide +kernel
theorem dX0_cellOf_4 : decode cX0_cellOf 4 = .ok (.bipush 6, 2) := by decide +kernel
theorem dX0_cellOf_6 : decode cX0_cellOf 6 = .ok (.if_icmp .ne 26, 3) := by decide +kernel
theorem dX0_cellOf_9 : decode cX0_cellOf 9 = .ok (.iload_n 1, 1) := by decide +kernel
theorem dX0_cellOf_10 : decode cX0_cellOf 10 = .ok (.bipush 7, 2) := by decide +kernel
theorem dX0_cellOf_12 : decode cX0_cellOf 12 = .ok (.iconst 3, 1) := by decide +kernel
theorem dX0_cellOf_13 : decode cX0_cellOf 13 = .ok (.aload_n 0, 1) := by decide +kernel
theorem dX0_cellOf_14 : decode cX0_cellOf 14 = .ok (.getfield 84, 3) := by decide +kernel
theorem dX0_cellOf_17 : decode cX0_cellOf 17 = .ok (.imul, 1) := by decide +kernel
theorem dX0_cellOf_18 : decode cX0_cellOf 18 = .ok (.ishl, 1) := by decide +kernel
theorem dX0_cellOf_19 : decode cX0_cellOf 19 = .ok (.ixor, 1) := by decide +kernel
theorem dX0_cellOf_20 : decode cX0_cellOf 20 = .ok (.istore_n 2, 1) := by decide +kernel
theorem dX0_cellOf_21 : decode cX0_cellOf 21 = .ok (.aload_n 0, 1) := by decide +kernel
theorem dX0_cellOf_22 : decode cX0_cellOf 22 = .ok (.aload_n 0, 1) := by decide +kernel
theorem dX0_cellOf_23 : decode cX0_cellOf 23 = .ok (.getfield 87, 3) := by decide +kernel
theorem dX0_cellOf_26 : decode cX0_cellOf 26 = .ok (.iload_n 2, 1) := by decide +kernel
theorem dX0_cellOf_27 : decode cX0_cellOf 27 = .ok (.iconst 0, 1) := by decide +kernel
theorem dX0_cellOf_28 : decode cX0_cellOf 28 = .ok (.invokevirtual 90, 3) := by decide +kernel
theorem dX0_cellOf_31 : decode cX0_cellOf 31 = .ok (.ireturn, 1) := by decide +kernel
theorem dX0_cellOf_32 : decode cX0_cellOf 32 = .ok (.aload_n 0, 1) := by decide +kernel
theorem dX0_cellOf_33 : decode cX0_cellOf 33 = .ok (.aload_n 0, 1) := by decide +kernel
theorem dX0_cellOf_34 : decode cX0_cellOf 34 = .ok (.getfield 87, 3) := by decide +kernel
theorem dX0_cellOf_37 : decode cX0_cellOf 37 = .ok (.iload_n 1, 1) := by decide +kernel
theorem dX0_cellOf_38 : decode cX0_cellOf 38 = .ok (.iconst 0, 1) := by decide +kernel
theorem dX0_cellOf_39 : decode cX0_cellOf 39 = .ok (.invokevirtual 90, 3) := by decide +kernel
theorem dX0_cellOf_42 : decode cX0_cellOf 42 = .ok (.istore_n 2, 1) := by decide +kernel
theorem dX0_cellOf_43 : decode cX0_cellOf 43 = .ok (.aload_n 0, 1) := by decide +kernel
theorem dX0_cellOf_44 : decode cX0_cellOf 44 = .ok (.getfield 81, 3) := by decide +kernel
theorem dX0_cellOf_47 : decode cX0_cellOf 47 = .ok (.iconst 4, 1) := by decide +kernel
theorem dX0_cellOf_48 : decode cX0_cellOf 48 = .ok (.if_icmp .ne 20, 3) := by decide +kernel
theorem dX0_cellOf_51 : decode cX0_cellOf 51 = .ok (.aload_n 0, 1) := by decide +kernel
theorem dX0_cellOf_52 : decode cX0_cellOf 52 = .ok (.iload_n 1, 1) := by decide +kernel
theorem dX0_cellOf_53 : decode cX0_cellOf 53 = .ok (.invokevirtual 93, 3) := by decide +kernel
theorem dX0_cellOf_56 : decode cX0_cellOf 56 = .ok (.ifCond .eq 10, 3) := by decide +kernel
theorem dX0_cellOf_59 : decode cX0_cellOf 59 = .ok (.aload_n 0, 1) := by decide +kernel
theorem dX0_cellOf_60 : decode cX0_cellOf 60 = .ok (.getfield 84, 3) := by decide +kernel
theorem dX0_cellOf_63 : decode cX0_cellOf 63 = .ok (.goto 4, 3) := by decide +kernel
theorem dX0_cellOf_66 : decode cX0_cellOf 66 = .ok (.iload_n 2, 1) := by decide +kernel
theorem dX0_cellOf_67 : decode cX0_cellOf 67 = .ok (.ireturn, 1) := by decide +kernel
theorem dX0_cellOf_68 : decode cX0_cellOf 68 = .ok (.aload_n 0, 1) := by decide +kernel
theorem dX0_cellOf_69 : decode cX0_cellOf 69 = .ok (.getfield 81, 3) := by decide +kernel
theorem dX0_cellOf_72 : decode cX0_cellOf 72 = .ok (.iconst 5, 1) := by decide +kernel
theorem dX0_cellOf_73 : decode cX0_cellOf 73 = .ok (.if_icmp .ne 7, 3) := by decide +kernel
theorem dX0_cellOf_76 : decode cX0_cellOf 76 = .ok (.iconst 1, 1) := by decide +kernel
theorem dX0_cellOf_77 : decode cX0_cellOf 77 = .ok (.iload_n 2, 1) := by decide +kernel
theorem dX0_cellOf_78 : decode cX0_cellOf 78 = .ok (.isub, 1) := by decide +kernel
theorem dX0_cellOf_79 : decode cX0_cellOf 79 = .ok (.ireturn, 1) := by decide +kernel
theorem dX0_cellOf_80 : decode cX0_cellOf 80 = .ok (.aload_n 0, 1) := by decide +kernel
theorem dX0_cellOf_81 : decode cX0_cellOf 81 = .ok (.aload_n 0, 1) := by decide +kernel
theorem dX0_cellOf_82 : decode cX0_cellOf 82 = .ok (.getfield 96, 3) := by decide +kernel
theorem dX0_cellOf_85 : decode cX0_cellOf 85 = .ok (.iload_n 1, 1) := by decide +kernel
theorem dX0_cellOf_86 : decode cX0_cellOf 86 = .ok (.iconst 0, 1) := by decide +kernel
theorem dX0_cellOf_87 : decode cX0_cellOf 87 = .ok (.invokevirtual 90, 3) := by decide +kernel
theorem dX0_cellOf_90 : decode cX0_cellOf 90 = .ok (.istore_n 3, 1) := by decide +kernel
theorem dX0_cellOf_91 : decode cX0_cellOf 91 = .ok (.aload_n 0, 1) := by decide +kernel
theorem dX0_cellOf_92 : decode cX0_cellOf 92 = .ok (.getfield 81, 3) := by decide +kernel
theorem dX0_cellOf_95 : decode cX0_cellOf 95 = .ok (.ifCond .ne 7, 3) := by decide +kernel
theorem dX0_cellOf_98 : decode cX0_cellOf 98 = .ok (.iload_n 2, 1) := by decide +kernel
theorem dX0_cellOf_99 : decode cX0_cellOf 99 = .ok (.iload_n 3, 1) := by decide +kernel
theorem dX0_cellOf_100 : decode cX0_cellOf 100 = .ok (.ior, 1) := by decide +kernel
theorem dX0_cellOf_101 : decode cX0_cellOf 101 = .ok (.ireturn, 1) := by decide +kernel
theorem dX0_cellOf_102 : decode cX0_cellOf 102 = .ok (.aload_n 0, 1) := by decide +kernel
theorem dX0_cellOf_103 : decode cX0_cellOf 103 = .ok (.getfield 81, 3) := by decide +kernel
theorem dX0_cellOf_106 : decode cX0_cellOf 106 = .ok (.iconst 1, 1) := by decide +kernel
theorem dX0_cellOf_107 : decode cX0_cellOf 107 = .ok (.if_icmp .ne 7, 3) := by decide +kernel
theorem dX0_cellOf_110 : decode cX0_cellOf 110 = .ok (.iload_n 2, 1) := by decide +kernel
theorem dX0_cellOf_111 : decode cX0_cellOf 111 = .ok (.iload_n 3, 1) := by decide +kernel
theorem dX0_cellOf_112 : decode cX0_cellOf 112 = .ok (.iand, 1) := by decide +kernel
theorem dX0_cellOf_113 : decode cX0_cellOf 113 = .ok (.ireturn, 1) := by decide +kernel
theorem dX0_cellOf_114 : decode cX0_cellOf 114 = .ok (.aload_n 0, 1) := by decide +kernel
theorem dX0_cellOf_115 : decode cX0_cellOf 115 = .ok (.getfield 81, 3) := by decide +kernel
theorem dX0_cellOf_118 : decode cX0_cellOf 118 = .ok (.iconst 2, 1) := by decide +kernel
theorem dX0_cellOf_119 : decode cX0_cellOf 119 = .ok (.if_icmp .ne 11, 3) := by decide +kernel
theorem dX0_cellOf_122 : decode cX0_cellOf 122 = .ok (.iload_n 2, 1) := by decide +kernel
theorem dX0_cellOf_123 : decode cX0_cellOf 123 = .ok (.iload_n 3, 1) := by decide +kernel
theorem dX0_cellOf_124 : decode cX0_cellOf 124 = .ok (.iconst (-1), 1) := by decide +kernel
theorem dX0_cellOf_125 : decode cX0_cellOf 125 = .ok (.ixor, 1) := by decide +kernel
theorem dX0_cellOf_126 : decode cX0_cellOf 126 = .ok (.iand, 1) := by decide +kernel
theorem dX0_cellOf_127 : decode cX0_cellOf 127 = .ok (.goto 6, 3) := by decide +kernel
theorem dX0_cellOf_130 : decode cX0_cellOf 130 = .ok (.iload_n 2, 1) := by decide +kernel
theorem dX0_cellOf_131 : decode cX0_cellOf 131 = .ok (.iload_n 3, 1) := by decide +kernel
theorem dX0_cellOf_132 : decode cX0_cellOf 132 = .ok (.ixor, 1) := by decide +kernel
theorem dX0_cellOf_133 : decode cX0_cellOf 133 = .ok (.ireturn, 1) := by decide +kernel
theorem dX0_cubeAt_0 : decode cX0_cubeAt 0 = .ok (.iload_n 1, 1) := by decide +kernel
theorem dX0_cubeAt_1 : decode cX0_cubeAt 1 = .ok (.istore 4, 2) := by decide +kernel
theorem dX0_cubeAt_3 : decode cX0_cubeAt 3 = .ok (.iconst 2, 1) := by decide +kernel
theorem dX0_cubeAt_4 : decode cX0_cubeAt 4 = .ok (.istore 5, 2) := by decide +kernel
theorem dX0_cubeAt_6 : decode cX0_cubeAt 6 = .ok (.iload 5, 2) := by decide +kernel
theorem dX0_cubeAt_8 : decode cX0_cubeAt 8 = .ok (.iload_n 3, 1) := by decide +kernel
theorem dX0_cubeAt_9 : decode cX0_cubeAt 9 = .ok (.if_icmp .lt 38, 3) := by decide +kernel
theorem dX0_cubeAt_12 : decode cX0_cubeAt 12 = .ok (.iload 4, 2) := by decide +kernel
theorem dX0_cubeAt_14 : decode cX0_cubeAt 14 = .ok (.iconst 2, 1) := by decide +kernel
theorem dX0_cubeAt_15 : decode cX0_cubeAt 15 = .ok (.if_icmp .lt 26, 3) := by decide +kernel
theorem dX0_cubeAt_18 : decode cX0_cubeAt 18 = .ok (.iload_n 2, 1) := by decide +kernel
theorem dX0_cubeAt_19 : decode cX0_cubeAt 19 = .ok (.iload 5, 2) := by decide +kernel
theorem dX0_cubeAt_21 : decode cX0_cubeAt 21 = .ok (.invokestatic 69, 3) := by decide +kernel
theorem dX0_cubeAt_24 : decode cX0_cubeAt 24 = .ok (.istore 6, 2) := by decide +kernel
theorem dX0_cubeAt_26 : decode cX0_cubeAt 26 = .ok (.aload_n 0, 1) := by decide +kernel
theorem dX0_cubeAt_27 : decode cX0_cubeAt 27 = .ok (.getfield 7, 3) := by decide +kernel
theorem dX0_cubeAt_30 : decode cX0_cubeAt 30 = .ok (.iload 4, 2) := by decide +kernel
theorem dX0_cubeAt_32 : decode cX0_cubeAt 32 = .ok (.bipush 8, 2) := by decide +kernel
theorem dX0_cubeAt_34 : decode cX0_cubeAt 34 = .ok (.imul, 1) := by decide +kernel
theorem dX0_cubeAt_35 : decode cX0_cubeAt 35 = .ok (.iload 6, 2) := by decide +kernel
theorem dX0_cubeAt_37 : decode cX0_cubeAt 37 = .ok (.iadd, 1) := by decide +kernel
theorem dX0_cubeAt_38 : decode cX0_cubeAt 38 = .ok (.saload, 1) := by decide +kernel
theorem dX0_cubeAt_39 : decode cX0_cubeAt 39 = .ok (.istore 4, 2) := by decide +kernel
theorem dX0_cubeAt_41 : decode cX0_cubeAt 41 = .ok (.iinc 5 (-1), 3) := by decide +kernel
theorem dX0_cubeAt_44 : decode cX0_cubeAt 44 = .ok (.goto (-38), 3) := by decide +kernel
theorem dX0_cubeAt_47 : decode cX0_cubeAt 47 = .ok (.iload 4, 2) := by decide +kernel
theorem dX0_cubeAt_49 : decode cX0_cubeAt 49 = .ok (.ireturn, 1) := by decide +kernel
theorem dX0_partOf_0 : decode cX0_partOf 0 = .ok (.iload_n 0, 1) := by decide +kernel
theorem dX0_partOf_1 : decode cX0_partOf 1 = .ok (.iconst 0, 1) := by decide +kernel
theorem dX0_partOf_2 : decode cX0_partOf 2 = .ok (.iload_n 1, 1) := by decide +kernel
theorem dX0_partOf_3 : decode cX0_partOf 3 = .ok (.invokestatic 65, 3) := by decide +kernel
theorem dX0_partOf_6 : decode cX0_partOf 6 = .ok (.iconst 2, 1) := by decide +kernel
theorem dX0_partOf_7 : decode cX0_partOf 7 = .ok (.iload_n 0, 1) := by decide +kernel
theorem dX0_partOf_8 : decode cX0_partOf 8 = .ok (.iconst 1, 1) := by decide +kernel
theorem dX0_partOf_9 : decode cX0_partOf 9 = .ok (.iload_n 1, 1) := by decide +kernel
theorem dX0_partOf_10 : decode cX0_partOf 10 = .ok (.invokestatic 65, 3) := by decide +kernel
theorem dX0_partOf_13 : decode cX0_partOf 13 = .ok (.imul, 1) := by decide +kernel
theorem dX0_partOf_14 : decode cX0_partOf 14 = .ok (.iadd, 1) := by decide +kernel
theorem dX0_partOf_15 : decode cX0_partOf 15 = .ok (.iconst 4, 1) := by decide +kernel
theorem dX0_partOf_16 : decode cX0_partOf 16 = .ok (.iload_n 0, 1) := by decide +kernel
theorem dX0_partOf_17 : decode cX0_partOf 17 = .ok (.iconst 2, 1) := by decide +kernel
theorem dX0_partOf_18 : decode cX0_partOf 18 = .ok (.iload_n 1, 1) := by decide +kernel
theorem dX0_partOf_19 : decode cX0_partOf 19 = .ok (.invokestatic 65, 3) := by decide +kernel
theorem dX0_partOf_22 : decode cX0_partOf 22 = .ok (.imul, 1) := by decide +kernel
theorem dX0_partOf_23 : decode cX0_partOf 23 = .ok (.iadd, 1) := by decide +kernel
theorem dX0_partOf_24 : decode cX0_partOf 24 = .ok (.ireturn, 1) := by decide +kernel
theorem dX0_bit_0 : decode cX0_bit 0 = .ok (.iload_n 0, 1) := by decide +kernel
theorem dX0_bit_1 : decode cX0_bit 1 = .ok (.iconst 3, 1) := by decide +kernel
theorem dX0_bit_2 : decode cX0_bit 2 = .ok (.iload_n 1, 1) := by decide +kernel
theorem dX0_bit_3 : decode cX0_bit 3 = .ok (.imul, 1) := by decide +kernel
theorem dX0_bit_4 : decode cX0_bit 4 = .ok (.iload_n 2, 1) := by decide +kernel
theorem dX0_bit_5 : decode cX0_bit 5 = .ok (.iadd, 1) := by decide +kernel
theorem dX0_bit_6 : decode cX0_bit 6 = .ok (.ishr, 1) := by decide +kernel
theorem dX0_bit_7 : decode cX0_bit 7 = .ok (.iconst 1, 1) := by decide +kernel
theorem dX0_bit_8 : decode cX0_bit 8 = .ok (.iand, 1) := by decide +kernel
theorem dX0_bit_9 : decode cX0_bit 9 = .ok (.ireturn, 1) := by decide +kernel
theorem dX0_inBox_0 : decode cX0_inBox 0 = .ok (.iconst 0, 1) := by decide +kernel
theorem dX0_inBox_1 : decode cX0_inBox 1 = .ok (.istore_n 2, 1) := by decide +kernel
theorem dX0_inBox_2 : decode cX0_inBox 2 = .ok (.iload_n 2, 1) := by decide +kernel
theorem dX0_inBox_3 : decode cX0_inBox 3 = .ok (.iconst 3, 1) := by decide +kernel
theorem dX0_inBox_4 : decode cX0_inBox 4 = .ok (.if_icmp .ge 71, 3) := by decide +kernel
theorem dX0_inBox_7 : decode cX0_inBox 7 = .ok (.aload_n 0, 1) := by decide +kernel
theorem dX0_inBox_8 : decode cX0_inBox 8 = .ok (.getfield 72, 3) := by decide +kernel
theorem dX0_inBox_11 : decode cX0_inBox 11 = .ok (.iload_n 2, 1) := by decide +kernel
theorem dX0_inBox_12 : decode cX0_inBox 12 = .ok (.invokestatic 75, 3) := by decide +kernel
theorem dX0_inBox_15 : decode cX0_inBox 15 = .ok (.istore_n 3, 1) := by decide +kernel
theorem dX0_inBox_16 : decode cX0_inBox 16 = .ok (.aload_n 0, 1) := by decide +kernel
theorem dX0_inBox_17 : decode cX0_inBox 17 = .ok (.getfield 78, 3) := by decide +kernel
theorem dX0_inBox_20 : decode cX0_inBox 20 = .ok (.iload_n 2, 1) := by decide +kernel
theorem dX0_inBox_21 : decode cX0_inBox 21 = .ok (.invokestatic 75, 3) := by decide +kernel
theorem dX0_inBox_24 : decode cX0_inBox 24 = .ok (.istore 4, 2) := by decide +kernel
theorem dX0_inBox_26 : decode cX0_inBox 26 = .ok (.iload_n 1, 1) := by decide +kernel
theorem dX0_inBox_27 : decode cX0_inBox 27 = .ok (.iload_n 2, 1) := by decide +kernel
theorem dX0_inBox_28 : decode cX0_inBox 28 = .ok (.invokestatic 75, 3) := by decide +kernel
theorem dX0_inBox_31 : decode cX0_inBox 31 = .ok (.istore 5, 2) := by decide +kernel
theorem dX0_inBox_33 : decode cX0_inBox 33 = .ok (.iload 5, 2) := by decide +kernel
theorem dX0_inBox_35 : decode cX0_inBox 35 = .ok (.iload_n 3, 1) := by decide +kernel
theorem dX0_inBox_36 : decode cX0_inBox 36 = .ok (.iload 4, 2) := by decide +kernel
theorem dX0_inBox_38 : decode cX0_inBox 38 = .ok (.if_icmp .ge 7, 3) := by decide +kernel
theorem dX0_inBox_41 : decode cX0_inBox 41 = .ok (.iload_n 3, 1) := by decide +kernel
theorem dX0_inBox_42 : decode cX0_inBox 42 = .ok (.goto 5, 3) := by decide +kernel
theorem dX0_inBox_45 : decode cX0_inBox 45 = .ok (.iload 4, 2) := by decide +kernel
theorem dX0_inBox_47 : decode cX0_inBox 47 = .ok (.if_icmp .lt 20, 3) := by decide +kernel
theorem dX0_inBox_50 : decode cX0_inBox 50 = .ok (.iload 5, 2) := by decide +kernel
theorem dX0_inBox_52 : decode cX0_inBox 52 = .ok (.iload_n 3, 1) := by decide +kernel
theorem dX0_inBox_53 : decode cX0_inBox 53 = .ok (.iload 4, 2) := by decide +kernel
theorem dX0_inBox_55 : decode cX0_inBox 55 = .ok (.if_icmp .ge 8, 3) := by decide +kernel
theorem dX0_inBox_58 : decode cX0_inBox 58 = .ok (.iload 4, 2) := by decide +kernel
theorem dX0_inBox_60 : decode cX0_inBox 60 = .ok (.goto 4, 3) := by decide +kernel
theorem dX0_inBox_63 : decode cX0_inBox 63 = .ok (.iload_n 3, 1) := by decide +kernel
theorem dX0_inBox_64 : decode cX0_inBox 64 = .ok (.if_icmp .le 5, 3) := by decide +kernel
theorem dX0_inBox_67 : decode cX0_inBox 67 = .ok (.iconst 0, 1) := by decide +kernel
theorem dX0_inBox_68 : decode cX0_inBox 68 = .ok (.ireturn, 1) := by decide +kernel
theorem dX0_inBox_69 : decode cX0_inBox 69 = .ok (.iinc 2 1, 3) := by decide +kernel
theorem dX0_inBox_72 : decode cX0_inBox 72 = .ok (.goto (-70), 3) := by decide +kernel
theorem dX0_inBox_75 : decode cX0_inBox 75 = .ok (.iconst 1, 1) := by decide +kernel
theorem dX0_inBox_76 : decode cX0_inBox 76 = .ok (.ireturn, 1) := by decide +kernel
theorem dX0_coordinate_0 : decode cX0_coordinate 0 = .ok (.iload_n 0, 1) := by decide +kernel
theorem dX0_coordinate_1 : decode cX0_coordinate 1 = .ok (.iconst 3, 1) := by decide +kernel
theorem dX0_coordinate_2 : decode cX0_coordinate 2 = .ok (.iload_n 1, 1) := by decide +kernel
theorem dX0_coordinate_3 : decode cX0_coordinate 3 = .ok (.imul, 1) := by decide +kernel
theorem dX0_coordinate_4 : decode cX0_coordinate 4 = .ok (.ishr, 1) := by decide +kernel
theorem dX0_coordinate_5 : decode cX0_coordinate 5 = .ok (.bipush 7, 2) := by decide +kernel
theorem dX0_coordinate_7 : decode cX0_coordinate 7 = .ok (.iand, 1) := by decide +kernel
theorem dX0_coordinate_8 : decode cX0_coordinate 8 = .ok (.ireturn, 1) := by decide +kernel
theorem dX0_make_0 : decode cX0_make 0 = .ok (.bipush 7, 2) := by decide +kernel
theorem dX0_make_2 : decode cX0_make 2 = .ok (.istore_n 1, 1) := by decide +kernel
theorem dX0_make_3 : decode cX0_make 3 = .ok (.aload_n 0, 1) := by decide +kernel
theorem dX0_make_4 : decode cX0_make 4 = .ok (.getfield 29, 3) := by decide +kernel
theorem dX0_make_7 : decode cX0_make 7 = .ok (.iconst 0, 1) := by decide +kernel
theorem dX0_make_8 : decode cX0_make 8 = .ok (.saload, 1) := by decide +kernel
theorem dX0_make_9 : decode cX0_make 9 = .ok (.iconst 1, 1) := by decide +kernel
theorem dX0_make_10 : decode cX0_make 10 = .ok (.if_icmp .gt 7, 3) := by decide +kernel
theorem dX0_make_13 : decode cX0_make 13 = .ok (.iconst 1, 1) := by decide +kernel
theorem dX0_make_14 : decode cX0_make 14 = .ok (.goto 4, 3) := by decide +kernel
theorem dX0_make_17 : decode cX0_make 17 = .ok (.iconst 0, 1) := by decide +kernel
theorem dX0_make_18 : decode cX0_make 18 = .ok (.istore_n 2, 1) := by decide +kernel
theorem dX0_make_19 : decode cX0_make 19 = .ok (.iconst 0, 1) := by decide +kernel
theorem dX0_make_20 : decode cX0_make 20 = .ok (.istore_n 3, 1) := by decide +kernel
theorem dX0_make_21 : decode cX0_make 21 = .ok (.iload_n 3, 1) := by decide +kernel
theorem dX0_make_22 : decode cX0_make 22 = .ok (.bipush 8, 2) := by decide +kernel
theorem dX0_make_24 : decode cX0_make 24 = .ok (.if_icmp .ge 45, 3) := by decide +kernel
theorem dX0_make_27 : decode cX0_make 27 = .ok (.iload_n 1, 1) := by decide +kernel
theorem dX0_make_28 : decode cX0_make 28 = .ok (.aload_n 0, 1) := by decide +kernel
theorem dX0_make_29 : decode cX0_make 29 = .ok (.getfield 29, 3) := by decide +kernel
theorem dX0_make_32 : decode cX0_make 32 = .ok (.iload_n 3, 1) := by decide +kernel
theorem dX0_make_33 : decode cX0_make 33 = .ok (.saload, 1) := by decide +kernel
theorem dX0_make_34 : decode cX0_make 34 = .ok (.invokestatic 46, 3) := by decide +kernel
theorem dX0_make_37 : decode cX0_make 37 = .ok (.istore_n 1, 1) := by decide +kernel
theorem dX0_make_38 : decode cX0_make 38 = .ok (.iload_n 2, 1) := by decide +kernel
theorem dX0_make_39 : decode cX0_make 39 = .ok (.ifCond .eq 22, 3) := by decide +kernel
theorem dX0_make_42 : decode cX0_make 42 = .ok (.aload_n 0, 1) := by decide +kernel
theorem dX0_make_43 : decode cX0_make 43 = .ok (.getfield 29, 3) := by decide +kernel
theorem dX0_make_46 : decode cX0_make 46 = .ok (.iload_n 3, 1) := by decide +kernel
theorem dX0_make_47 : decode cX0_make 47 = .ok (.saload, 1) := by decide +kernel
theorem dX0_make_48 : decode cX0_make 48 = .ok (.aload_n 0, 1) := by decide +kernel
theorem dX0_make_49 : decode cX0_make 49 = .ok (.getfield 29, 3) := by decide +kernel
theorem dX0_make_52 : decode cX0_make 52 = .ok (.iconst 0, 1) := by decide +kernel
theorem dX0_make_53 : decode cX0_make 53 = .ok (.saload, 1) := by decide +kernel
theorem dX0_make_54 : decode cX0_make 54 = .ok (.if_icmp .ne 7, 3) := by decide +kernel
theorem dX0_make_57 : decode cX0_make 57 = .ok (.iconst 1, 1) := by decide +kernel
theorem dX0_make_58 : decode cX0_make 58 = .ok (.goto 4, 3) := by decide +kernel
theorem dX0_make_61 : decode cX0_make 61 = .ok (.iconst 0, 1) := by decide +kernel
theorem dX0_make_62 : decode cX0_make 62 = .ok (.istore_n 2, 1) := by decide +kernel
theorem dX0_make_63 : decode cX0_make 63 = .ok (.iinc 3 1, 3) := by decide +kernel
theorem dX0_make_66 : decode cX0_make 66 = .ok (.goto (-45), 3) := by decide +kernel
theorem dX0_make_69 : decode cX0_make 69 = .ok (.iload_n 2, 1) := by decide +kernel
theorem dX0_make_70 : decode cX0_make 70 = .ok (.ifCond .eq 10, 3) := by decide +kernel
theorem dX0_make_73 : decode cX0_make 73 = .ok (.aload_n 0, 1) := by decide +kernel
theorem dX0_make_74 : decode cX0_make 74 = .ok (.getfield 29, 3) := by decide +kernel
theorem dX0_make_77 : decode cX0_make 77 = .ok (.iconst 0, 1) := by decide +kernel
theorem dX0_make_78 : decode cX0_make 78 = .ok (.saload, 1) := by decide +kernel
theorem dX0_make_79 : decode cX0_make 79 = .ok (.ireturn, 1) := by decide +kernel
theorem dX0_make_80 : decode cX0_make 80 = .ok (.iload_n 1, 1) := by decide +kernel
theorem dX0_make_81 : decode cX0_make 81 = .ok (.iload_n 1, 1) := by decide +kernel
theorem dX0_make_82 : decode cX0_make 82 = .ok (.bipush 8, 2) := by decide +kernel
theorem dX0_make_84 : decode cX0_make 84 = .ok (.ishr, 1) := by decide +kernel
theorem dX0_make_85 : decode cX0_make 85 = .ok (.ixor, 1) := by decide +kernel
theorem dX0_make_86 : decode cX0_make 86 = .ok (.sipush 255, 3) := by decide +kernel
theorem dX0_make_89 : decode cX0_make 89 = .ok (.iand, 1) := by decide +kernel
theorem dX0_make_90 : decode cX0_make 90 = .ok (.istore_n 3, 1) := by decide +kernel
theorem dX0_make_91 : decode cX0_make 91 = .ok (.aload_n 0, 1) := by decide +kernel
theorem dX0_make_92 : decode cX0_make 92 = .ok (.getfield 17, 3) := by decide +kernel
theorem dX0_make_95 : decode cX0_make 95 = .ok (.iload_n 3, 1) := by decide +kernel
theorem dX0_make_96 : decode cX0_make 96 = .ok (.saload, 1) := by decide +kernel
theorem dX0_make_97 : decode cX0_make 97 = .ok (.istore 4, 2) := by decide +kernel
theorem dX0_make_99 : decode cX0_make 99 = .ok (.iconst 0, 1) := by decide +kernel
theorem dX0_make_100 : decode cX0_make 100 = .ok (.istore 5, 2) := by decide +kernel
theorem dX0_make_102 : decode cX0_make 102 = .ok (.iload 5, 2) := by decide +kernel
theorem dX0_make_104 : decode cX0_make 104 = .ok (.sipush 512, 3) := by decide +kernel
theorem dX0_make_107 : decode cX0_make 107 = .ok (.if_icmp .ge 35, 3) := by decide +kernel
theorem dX0_make_110 : decode cX0_make 110 = .ok (.iload 4, 2) := by decide +kernel
theorem dX0_make_112 : decode cX0_make 112 = .ok (.ifCond .lt 30, 3) := by decide +kernel
theorem dX0_make_115 : decode cX0_make 115 = .ok (.aload_n 0, 1) := by decide +kernel
theorem dX0_make_116 : decode cX0_make 116 = .ok (.iload 4, 2) := by decide +kernel
theorem dX0_make_118 : decode cX0_make 118 = .ok (.invokevirtual 50, 3) := by decide +kernel
theorem dX0_make_121 : decode cX0_make 121 = .ok (.ifCond .eq 6, 3) := by decide +kernel
theorem dX0_make_124 : decode cX0_make 124 = .ok (.iload 4, 2) := by decide +kernel
theorem dX0_make_126 : decode cX0_make 126 = .ok (.ireturn, 1) := by decide +kernel
theorem dX0_make_127 : decode cX0_make 127 = .ok (.aload_n 0, 1) := by decide +kernel
theorem dX0_make_128 : decode cX0_make 128 = .ok (.getfield 20, 3) := by decide +kernel
theorem dX0_make_131 : decode cX0_make 131 = .ok (.iload 4, 2) := by decide +kernel
theorem dX0_make_133 : decode cX0_make 133 = .ok (.saload, 1) := by decide +kernel
theorem dX0_make_134 : decode cX0_make 134 = .ok (.istore 4, 2) := by decide +kernel
theorem dX0_make_136 : decode cX0_make 136 = .ok (.iinc 5 1, 3) := by decide +kernel
theorem dX0_make_139 : decode cX0_make 139 = .ok (.goto (-37), 3) := by decide +kernel
theorem dX0_make_142 : decode cX0_make 142 = .ok (.aload_n 0, 1) := by decide +kernel
theorem dX0_make_143 : decode cX0_make 143 = .ok (.iload_n 3, 1) := by decide +kernel
theorem dX0_make_144 : decode cX0_make 144 = .ok (.invokevirtual 54, 3) := by decide +kernel
theorem dX0_make_147 : decode cX0_make 147 = .ok (.ireturn, 1) := by decide +kernel
theorem dX0_hasEight_0 : decode cX0_hasEight 0 = .ok (.iconst 0, 1) := by decide +kernel
theorem dX0_hasEight_1 : decode cX0_hasEight 1 = .ok (.istore_n 2, 1) := by decide +kernel
theorem dX0_hasEight_2 : decode cX0_hasEight 2 = .ok (.iload_n 2, 1) := by decide +kernel
theorem dX0_hasEight_3 : decode cX0_hasEight 3 = .ok (.bipush 8, 2) := by decide +kernel
theorem dX0_hasEight_5 : decode cX0_hasEight 5 = .ok (.if_icmp .ge 31, 3) := by decide +kernel
theorem dX0_hasEight_8 : decode cX0_hasEight 8 = .ok (.aload_n 0, 1) := by decide +kernel
theorem dX0_hasEight_9 : decode cX0_hasEight 9 = .ok (.getfield 7, 3) := by decide +kernel
theorem dX0_hasEight_12 : decode cX0_hasEight 12 = .ok (.iload_n 1, 1) := by decide +kernel
theorem dX0_hasEight_13 : decode cX0_hasEight 13 = .ok (.bipush 8, 2) := by decide +kernel
theorem dX0_hasEight_15 : decode cX0_hasEight 15 = .ok (.imul, 1) := by decide +kernel
theorem dX0_hasEight_16 : decode cX0_hasEight 16 = .ok (.iload_n 2, 1) := by decide +kernel
theorem dX0_hasEight_17 : decode cX0_hasEight 17 = .ok (.iadd, 1) := by decide +kernel
theorem dX0_hasEight_18 : decode cX0_hasEight 18 = .ok (.saload, 1) := by decide +kernel
theorem dX0_hasEight_19 : decode cX0_hasEight 19 = .ok (.aload_n 0, 1) := by decide +kernel
theorem dX0_hasEight_20 : decode cX0_hasEight 20 = .ok (.getfield 29, 3) := by decide +kernel
theorem dX0_hasEight_23 : decode cX0_hasEight 23 = .ok (.iload_n 2, 1) := by decide +kernel
theorem dX0_hasEight_24 : decode cX0_hasEight 24 = .ok (.saload, 1) := by decide +kernel
theorem dX0_hasEight_25 : decode cX0_hasEight 25 = .ok (.if_icmp .eq 5, 3) := by decide +kernel
theorem dX0_hasEight_28 : decode cX0_hasEight 28 = .ok (.iconst 0, 1) := by decide +kernel
theorem dX0_hasEight_29 : decode cX0_hasEight 29 = .ok (.ireturn, 1) := by decide +kernel
theorem dX0_hasEight_30 : decode cX0_hasEight 30 = .ok (.iinc 2 1, 3) := by decide +kernel
theorem dX0_hasEight_33 : decode cX0_hasEight 33 = .ok (.goto (-31), 3) := by decide +kernel
theorem dX0_hasEight_36 : decode cX0_hasEight 36 = .ok (.iconst 1, 1) := by decide +kernel
theorem dX0_hasEight_37 : decode cX0_hasEight 37 = .ok (.ireturn, 1) := by decide +kernel
theorem dX0_create_0 : decode cX0_create 0 = .ok (.aload_n 0, 1) := by decide +kernel
theorem dX0_create_1 : decode cX0_create 1 = .ok (.getfield 41, 3) := by decide +kernel
theorem dX0_create_4 : decode cX0_create 4 = .ok (.sipush 511, 3) := by decide +kernel
theorem dX0_create_7 : decode cX0_create 7 = .ok (.if_icmp .ge 28, 3) := by decide +kernel
theorem dX0_create_10 : decode cX0_create 10 = .ok (.aload_n 0, 1) := by decide +kernel
theorem dX0_create_11 : decode cX0_create 11 = .ok (.getfield 13, 3) := by decide +kernel
theorem dX0_create_14 : decode cX0_create 14 = .ok (.aload_n 0, 1) := by decide +kernel
theorem dX0_create_15 : decode cX0_create 15 = .ok (.getfield 41, 3) := by decide +kernel
theorem dX0_create_18 : decode cX0_create 18 = .ok (.baload, 1) := by decide +kernel
theorem dX0_create_19 : decode cX0_create 19 = .ok (.ifCond .eq 16, 3) := by decide +kernel
theorem dX0_create_22 : decode cX0_create 22 = .ok (.aload_n 0, 1) := by decide +kernel
theorem dX0_create_23 : decode cX0_create 23 = .ok (.dup, 1) := by decide +kernel
theorem dX0_create_24 : decode cX0_create 24 = .ok (.getfield 41, 3) := by decide +kernel
theorem dX0_create_27 : decode cX0_create 27 = .ok (.iconst 1, 1) := by decide +kernel
theorem dX0_create_28 : decode cX0_create 28 = .ok (.iadd, 1) := by decide +kernel
theorem dX0_create_29 : decode cX0_create 29 = .ok (.putfield 41, 3) := by decide +kernel
theorem dX0_create_32 : decode cX0_create 32 = .ok (.goto (-32), 3) := by decide +kernel
theorem dX0_create_35 : decode cX0_create 35 = .ok (.aload_n 0, 1) := by decide +kernel
theorem dX0_create_36 : decode cX0_create 36 = .ok (.getfield 41, 3) := by decide +kernel
theorem dX0_create_39 : decode cX0_create 39 = .ok (.istore_n 2, 1) := by decide +kernel
theorem dX0_create_40 : decode cX0_create 40 = .ok (.aload_n 0, 1) := by decide +kernel
theorem dX0_create_41 : decode cX0_create 41 = .ok (.getfield 13, 3) := by decide +kernel
theorem dX0_create_44 : decode cX0_create 44 = .ok (.iload_n 2, 1) := by decide +kernel
theorem dX0_create_45 : decode cX0_create 45 = .ok (.iconst 1, 1) := by decide +kernel
theorem dX0_create_46 : decode cX0_create 46 = .ok (.bastore, 1) := by decide +kernel
theorem dX0_create_47 : decode cX0_create 47 = .ok (.iconst 0, 1) := by decide +kernel
theorem dX0_create_48 : decode cX0_create 48 = .ok (.istore_n 3, 1) := by decide +kernel
theorem dX0_create_49 : decode cX0_create 49 = .ok (.iload_n 3, 1) := by decide +kernel
theorem dX0_create_50 : decode cX0_create 50 = .ok (.bipush 8, 2) := by decide +kernel
theorem dX0_create_52 : decode cX0_create 52 = .ok (.if_icmp .ge 26, 3) := by decide +kernel
theorem dX0_create_55 : decode cX0_create 55 = .ok (.aload_n 0, 1) := by decide +kernel
theorem dX0_create_56 : decode cX0_create 56 = .ok (.getfield 7, 3) := by decide +kernel
theorem dX0_create_59 : decode cX0_create 59 = .ok (.iload_n 2, 1) := by decide +kernel
theorem dX0_create_60 : decode cX0_create 60 = .ok (.bipush 8, 2) := by decide +kernel
theorem dX0_create_62 : decode cX0_create 62 = .ok (.imul, 1) := by decide +kernel
theorem dX0_create_63 : decode cX0_create 63 = .ok (.iload_n 3, 1) := by decide +kernel
theorem dX0_create_64 : decode cX0_create 64 = .ok (.iadd, 1) := by decide +kernel
theorem dX0_create_65 : decode cX0_create 65 = .ok (.aload_n 0, 1) := by decide +kernel
theorem dX0_create_66 : decode cX0_create 66 = .ok (.getfield 29, 3) := by decide +kernel
theorem dX0_create_69 : decode cX0_create 69 = .ok (.iload_n 3, 1) := by decide +kernel
theorem dX0_create_70 : decode cX0_create 70 = .ok (.saload, 1) := by decide +kernel
theorem dX0_create_71 : decode cX0_create 71 = .ok (.sastore, 1) := by decide +kernel
theorem dX0_create_72 : decode cX0_create 72 = .ok (.iinc 3 1, 3) := by decide +kernel
theorem dX0_create_75 : decode cX0_create 75 = .ok (.goto (-26), 3) := by decide +kernel
theorem dX0_create_78 : decode cX0_create 78 = .ok (.aload_n 0, 1) := by decide +kernel
theorem dX0_create_79 : decode cX0_create 79 = .ok (.getfield 20, 3) := by decide +kernel
theorem dX0_create_82 : decode cX0_create 82 = .ok (.iload_n 2, 1) := by decide +kernel
theorem dX0_create_83 : decode cX0_create 83 = .ok (.aload_n 0, 1) := by decide +kernel
theorem dX0_create_84 : decode cX0_create 84 = .ok (.getfield 17, 3) := by decide +kernel
theorem dX0_create_87 : decode cX0_create 87 = .ok (.iload_n 1, 1) := by decide +kernel
theorem dX0_create_88 : decode cX0_create 88 = .ok (.saload, 1) := by decide +kernel
theorem dX0_create_89 : decode cX0_create 89 = .ok (.sastore, 1) := by decide +kernel
theorem dX0_create_90 : decode cX0_create 90 = .ok (.aload_n 0, 1) := by decide +kernel
theorem dX0_create_91 : decode cX0_create 91 = .ok (.getfield 17, 3) := by decide +kernel
theorem dX0_create_94 : decode cX0_create 94 = .ok (.iload_n 1, 1) := by decide +kernel
theorem dX0_create_95 : decode cX0_create 95 = .ok (.iload_n 2, 1) := by decide +kernel
theorem dX0_create_96 : decode cX0_create 96 = .ok (.i2s, 1) := by decide +kernel
theorem dX0_create_97 : decode cX0_create 97 = .ok (.sastore, 1) := by decide +kernel
theorem dX0_create_98 : decode cX0_create 98 = .ok (.iload_n 2, 1) := by decide +kernel
theorem dX0_create_99 : decode cX0_create 99 = .ok (.ireturn, 1) := by decide +kernel
theorem dX0_combine_0 : decode cX0_combine 0 = .ok (.iload_n 1, 1) := by decide +kernel
theorem dX0_combine_1 : decode cX0_combine 1 = .ok (.invokestatic 112, 3) := by decide +kernel
theorem dX0_combine_4 : decode cX0_combine 4 = .ok (.ifCond .eq 27, 3) := by decide +kernel
theorem dX0_combine_7 : decode cX0_combine 7 = .ok (.iload_n 3, 1) := by decide +kernel
theorem dX0_combine_8 : decode cX0_combine 8 = .ok (.invokestatic 112, 3) := by decide +kernel
theorem dX0_combine_11 : decode cX0_combine 11 = .ok (.ifCond .eq 20, 3) := by decide +kernel
theorem dX0_combine_14 : decode cX0_combine 14 = .ok (.iload 4, 2) := by decide +kernel
theorem dX0_combine_16 : decode cX0_combine 16 = .ok (.invokestatic 112, 3) := by decide +kernel
theorem dX0_combine_19 : decode cX0_combine 19 = .ok (.ifCond .eq 12, 3) := by decide +kernel
theorem dX0_combine_22 : decode cX0_combine 22 = .ok (.iload_n 2, 1) := by decide +kernel
theorem dX0_combine_23 : decode cX0_combine 23 = .ok (.ifCond .lt 8, 3) := by decide +kernel
theorem dX0_combine_26 : decode cX0_combine 26 = .ok (.iload_n 2, 1) := by decide +kernel
theorem dX0_combine_27 : decode cX0_combine 27 = .ok (.iconst 3, 1) := by decide +kernel
theorem dX0_combine_28 : decode cX0_combine 28 = .ok (.if_icmp .le 5, 3) := by decide +kernel
theorem dX0_combine_31 : decode cX0_combine 31 = .ok (.iconst 0, 1) := by decide +kernel
theorem dX0_combine_32 : decode cX0_combine 32 = .ok (.ireturn, 1) := by decide +kernel
theorem dX0_combine_33 : decode cX0_combine 33 = .ok (.aload_n 0, 1) := by decide +kernel
theorem dX0_combine_34 : decode cX0_combine 34 = .ok (.iload_n 2, 1) := by decide +kernel
theorem dX0_combine_35 : decode cX0_combine 35 = .ok (.putfield 81, 3) := by decide +kernel
theorem dX0_combine_38 : decode cX0_combine 38 = .ok (.aload_n 0, 1) := by decide +kernel
theorem dX0_combine_39 : decode cX0_combine 39 = .ok (.aload_n 0, 1) := by decide +kernel
theorem dX0_combine_40 : decode cX0_combine 40 = .ok (.getfield 26, 3) := by decide +kernel
theorem dX0_combine_43 : decode cX0_combine 43 = .ok (.iload_n 3, 1) := by decide +kernel
theorem dX0_combine_44 : decode cX0_combine 44 = .ok (.saload, 1) := by decide +kernel
theorem dX0_combine_45 : decode cX0_combine 45 = .ok (.putfield 87, 3) := by decide +kernel
theorem dX0_combine_48 : decode cX0_combine 48 = .ok (.aload_n 0, 1) := by decide +kernel
end
section
set_option maxRecDepth 100000
theorem dX0_combine_49 : decode cX0_combine 49 = .ok (.aload_n 0, 1) := by decide +kernel
theorem dX0_combine_50 : decode cX0_combine 50 = .ok (.getfield 26, 3) := by decide +kernel
theorem dX0_combine_53 : decode cX0_combine 53 = .ok (.iload 4, 2) := by decide +kernel
theorem dX0_combine_55 : decode cX0_combine 55 = .ok (.saload, 1) := by decide +kernel
theorem dX0_combine_56 : decode cX0_combine 56 = .ok (.putfield 96, 3) := by decide +kernel
theorem dX0_combine_59 : decode cX0_combine 59 = .ok (.aload_n 0, 1) := by decide +kernel
theorem dX0_combine_60 : decode cX0_combine 60 = .ok (.iload_n 1, 1) := by decide +kernel
theorem dX0_combine_61 : decode cX0_combine 61 = .ok (.invokevirtual 118, 3) := by decide +kernel
theorem dX0_combine_64 : decode cX0_combine 64 = .ok (.iconst 1, 1) := by decide +kernel
theorem dX0_combine_65 : decode cX0_combine 65 = .ok (.ireturn, 1) := by decide +kernel
theorem dX0_turn_0 : decode cX0_turn 0 = .ok (.iload_n 1, 1) := by decide +kernel
theorem dX0_turn_1 : decode cX0_turn 1 = .ok (.invokestatic 112, 3) := by decide +kernel
theorem dX0_turn_4 : decode cX0_turn 4 = .ok (.ifCond .eq 10, 3) := by decide +kernel
theorem dX0_turn_7 : decode cX0_turn 7 = .ok (.iload_n 2, 1) := by decide +kernel
theorem dX0_turn_8 : decode cX0_turn 8 = .ok (.invokestatic 112, 3) := by decide +kernel
theorem dX0_turn_11 : decode cX0_turn 11 = .ok (.ifCond .ne 5, 3) := by decide +kernel
theorem dX0_turn_14 : decode cX0_turn 14 = .ok (.iconst 0, 1) := by decide +kernel
theorem dX0_turn_15 : decode cX0_turn 15 = .ok (.ireturn, 1) := by decide +kernel
theorem dX0_turn_16 : decode cX0_turn 16 = .ok (.aload_n 0, 1) := by decide +kernel
theorem dX0_turn_17 : decode cX0_turn 17 = .ok (.iconst 5, 1) := by decide +kernel
theorem dX0_turn_18 : decode cX0_turn 18 = .ok (.putfield 81, 3) := by decide +kernel
theorem dX0_turn_21 : decode cX0_turn 21 = .ok (.aload_n 0, 1) := by decide +kernel
theorem dX0_turn_22 : decode cX0_turn 22 = .ok (.aload_n 0, 1) := by decide +kernel
theorem dX0_turn_23 : decode cX0_turn 23 = .ok (.getfield 26, 3) := by decide +kernel
theorem dX0_turn_26 : decode cX0_turn 26 = .ok (.iload_n 2, 1) := by decide +kernel
theorem dX0_turn_27 : decode cX0_turn 27 = .ok (.saload, 1) := by decide +kernel
theorem dX0_turn_28 : decode cX0_turn 28 = .ok (.putfield 87, 3) := by decide +kernel
theorem dX0_turn_31 : decode cX0_turn 31 = .ok (.aload_n 0, 1) := by decide +kernel
theorem dX0_turn_32 : decode cX0_turn 32 = .ok (.iload_n 1, 1) := by decide +kernel
theorem dX0_turn_33 : decode cX0_turn 33 = .ok (.invokevirtual 118, 3) := by decide +kernel
theorem dX0_turn_36 : decode cX0_turn 36 = .ok (.iconst 1, 1) := by decide +kernel
theorem dX0_turn_37 : decode cX0_turn 37 = .ok (.ireturn, 1) := by decide +kernel
theorem dX0_mirror_0 : decode cX0_mirror 0 = .ok (.iload_n 1, 1) := by decide +kernel
theorem dX0_mirror_1 : decode cX0_mirror 1 = .ok (.invokestatic 112, 3) := by decide +kernel
theorem dX0_mirror_4 : decode cX0_mirror 4 = .ok (.ifCond .eq 19, 3) := by decide +kernel
theorem dX0_mirror_7 : decode cX0_mirror 7 = .ok (.iload_n 2, 1) := by decide +kernel
theorem dX0_mirror_8 : decode cX0_mirror 8 = .ok (.invokestatic 112, 3) := by decide +kernel
theorem dX0_mirror_11 : decode cX0_mirror 11 = .ok (.ifCond .eq 12, 3) := by decide +kernel
theorem dX0_mirror_14 : decode cX0_mirror 14 = .ok (.iload_n 3, 1) := by decide +kernel
theorem dX0_mirror_15 : decode cX0_mirror 15 = .ok (.ifCond .lt 8, 3) := by decide +kernel
theorem dX0_mirror_18 : decode cX0_mirror 18 = .ok (.iload_n 3, 1) := by decide +kernel
theorem dX0_mirror_19 : decode cX0_mirror 19 = .ok (.iconst 2, 1) := by decide +kernel
theorem dX0_mirror_20 : decode cX0_mirror 20 = .ok (.if_icmp .le 5, 3) := by decide +kernel
theorem dX0_mirror_23 : decode cX0_mirror 23 = .ok (.iconst 0, 1) := by decide +kernel
theorem dX0_mirror_24 : decode cX0_mirror 24 = .ok (.ireturn, 1) := by decide +kernel
theorem dX0_mirror_25 : decode cX0_mirror 25 = .ok (.aload_n 0, 1) := by decide +kernel
theorem dX0_mirror_26 : decode cX0_mirror 26 = .ok (.bipush 6, 2) := by decide +kernel
theorem dX0_mirror_28 : decode cX0_mirror 28 = .ok (.putfield 81, 3) := by decide +kernel
theorem dX0_mirror_31 : decode cX0_mirror 31 = .ok (.aload_n 0, 1) := by decide +kernel
theorem dX0_mirror_32 : decode cX0_mirror 32 = .ok (.aload_n 0, 1) := by decide +kernel
theorem dX0_mirror_33 : decode cX0_mirror 33 = .ok (.getfield 26, 3) := by decide +kernel
theorem dX0_mirror_36 : decode cX0_mirror 36 = .ok (.iload_n 2, 1) := by decide +kernel
theorem dX0_mirror_37 : decode cX0_mirror 37 = .ok (.saload, 1) := by decide +kernel
theorem dX0_mirror_38 : decode cX0_mirror 38 = .ok (.putfield 87, 3) := by decide +kernel
theorem dX0_mirror_41 : decode cX0_mirror 41 = .ok (.aload_n 0, 1) := by decide +kernel
theorem dX0_mirror_42 : decode cX0_mirror 42 = .ok (.iload_n 3, 1) := by decide +kernel
theorem dX0_mirror_43 : decode cX0_mirror 43 = .ok (.putfield 84, 3) := by decide +kernel
theorem dX0_mirror_46 : decode cX0_mirror 46 = .ok (.aload_n 0, 1) := by decide +kernel
theorem dX0_mirror_47 : decode cX0_mirror 47 = .ok (.iload_n 1, 1) := by decide +kernel
theorem dX0_mirror_48 : decode cX0_mirror 48 = .ok (.invokevirtual 118, 3) := by decide +kernel
theorem dX0_mirror_51 : decode cX0_mirror 51 = .ok (.iconst 1, 1) := by decide +kernel
theorem dX0_mirror_52 : decode cX0_mirror 52 = .ok (.ireturn, 1) := by decide +kernel
theorem dX0_volume_0 : decode cX0_volume 0 = .ok (.iload_n 1, 1) := by decide +kernel
theorem dX0_volume_1 : decode cX0_volume 1 = .ok (.invokestatic 112, 3) := by decide +kernel
theorem dX0_volume_4 : decode cX0_volume 4 = .ok (.ifCond .ne 5, 3) := by decide +kernel
theorem dX0_volume_7 : decode cX0_volume 7 = .ok (.iconst (-1), 1) := by decide +kernel
theorem dX0_volume_8 : decode cX0_volume 8 = .ok (.ireturn, 1) := by decide +kernel
theorem dX0_volume_9 : decode cX0_volume 9 = .ok (.iconst 0, 1) := by decide +kernel
theorem dX0_volume_10 : decode cX0_volume 10 = .ok (.istore_n 2, 1) := by decide +kernel
theorem dX0_volume_11 : decode cX0_volume 11 = .ok (.iconst 0, 1) := by decide +kernel
theorem dX0_volume_12 : decode cX0_volume 12 = .ok (.istore_n 3, 1) := by decide +kernel
theorem dX0_volume_13 : decode cX0_volume 13 = .ok (.iload_n 3, 1) := by decide +kernel
theorem dX0_volume_14 : decode cX0_volume 14 = .ok (.sipush 512, 3) := by decide +kernel
theorem dX0_volume_17 : decode cX0_volume 17 = .ok (.if_icmp .ge 31, 3) := by decide +kernel
theorem dX0_volume_20 : decode cX0_volume 20 = .ok (.iload_n 3, 1) := by decide +kernel
theorem dX0_volume_21 : decode cX0_volume 21 = .ok (.invokestatic 102, 3) := by decide +kernel
theorem dX0_volume_24 : decode cX0_volume 24 = .ok (.istore 4, 2) := by decide +kernel
theorem dX0_volume_26 : decode cX0_volume 26 = .ok (.iload_n 2, 1) := by decide +kernel
theorem dX0_volume_27 : decode cX0_volume 27 = .ok (.aload_n 0, 1) := by decide +kernel
theorem dX0_volume_28 : decode cX0_volume 28 = .ok (.aload_n 0, 1) := by decide +kernel
theorem dX0_volume_29 : decode cX0_volume 29 = .ok (.getfield 26, 3) := by decide +kernel
theorem dX0_volume_32 : decode cX0_volume 32 = .ok (.iload_n 1, 1) := by decide +kernel
theorem dX0_volume_33 : decode cX0_volume 33 = .ok (.saload, 1) := by decide +kernel
theorem dX0_volume_34 : decode cX0_volume 34 = .ok (.iload 4, 2) := by decide +kernel
theorem dX0_volume_36 : decode cX0_volume 36 = .ok (.iconst 0, 1) := by decide +kernel
theorem dX0_volume_37 : decode cX0_volume 37 = .ok (.invokevirtual 90, 3) := by decide +kernel
theorem dX0_volume_40 : decode cX0_volume 40 = .ok (.iadd, 1) := by decide +kernel
theorem dX0_volume_41 : decode cX0_volume 41 = .ok (.istore_n 2, 1) := by decide +kernel
theorem dX0_volume_42 : decode cX0_volume 42 = .ok (.iinc 3 1, 3) := by decide +kernel
theorem dX0_volume_45 : decode cX0_volume 45 = .ok (.goto (-32), 3) := by decide +kernel
theorem dX0_volume_48 : decode cX0_volume 48 = .ok (.iload_n 2, 1) := by decide +kernel
theorem dX0_volume_49 : decode cX0_volume 49 = .ok (.ireturn, 1) := by decide +kernel
theorem dX0_has_0 : decode cX0_has 0 = .ok (.iload_n 1, 1) := by decide +kernel
theorem dX0_has_1 : decode cX0_has 1 = .ok (.invokestatic 112, 3) := by decide +kernel
theorem dX0_has_4 : decode cX0_has 4 = .ok (.ifCond .eq 30, 3) := by decide +kernel
theorem dX0_has_7 : decode cX0_has 7 = .ok (.iload_n 2, 1) := by decide +kernel
theorem dX0_has_8 : decode cX0_has 8 = .ok (.invokestatic 115, 3) := by decide +kernel
theorem dX0_has_11 : decode cX0_has 11 = .ok (.ifCond .eq 23, 3) := by decide +kernel
theorem dX0_has_14 : decode cX0_has 14 = .ok (.aload_n 0, 1) := by decide +kernel
theorem dX0_has_15 : decode cX0_has 15 = .ok (.aload_n 0, 1) := by decide +kernel
theorem dX0_has_16 : decode cX0_has 16 = .ok (.getfield 26, 3) := by decide +kernel
theorem dX0_has_19 : decode cX0_has 19 = .ok (.iload_n 1, 1) := by decide +kernel
theorem dX0_has_20 : decode cX0_has 20 = .ok (.saload, 1) := by decide +kernel
theorem dX0_has_21 : decode cX0_has 21 = .ok (.iload_n 2, 1) := by decide +kernel
theorem dX0_has_22 : decode cX0_has 22 = .ok (.iconst 0, 1) := by decide +kernel
theorem dX0_has_23 : decode cX0_has 23 = .ok (.invokevirtual 90, 3) := by decide +kernel
theorem dX0_has_26 : decode cX0_has 26 = .ok (.iconst 1, 1) := by decide +kernel
theorem dX0_has_27 : decode cX0_has 27 = .ok (.if_icmp .ne 7, 3) := by decide +kernel
theorem dX0_has_30 : decode cX0_has 30 = .ok (.iconst 1, 1) := by decide +kernel
theorem dX0_has_31 : decode cX0_has 31 = .ok (.goto 4, 3) := by decide +kernel
theorem dX0_has_34 : decode cX0_has 34 = .ok (.iconst 0, 1) := by decide +kernel
theorem dX0_has_35 : decode cX0_has 35 = .ok (.ireturn, 1) := by decide +kernel
theorem dX0_same_0 : decode cX0_same 0 = .ok (.iload_n 1, 1) := by decide +kernel
theorem dX0_same_1 : decode cX0_same 1 = .ok (.invokestatic 112, 3) := by decide +kernel
theorem dX0_same_4 : decode cX0_same 4 = .ok (.ifCond .eq 29, 3) := by decide +kernel
theorem dX0_same_7 : decode cX0_same 7 = .ok (.iload_n 2, 1) := by decide +kernel
theorem dX0_same_8 : decode cX0_same 8 = .ok (.invokestatic 112, 3) := by decide +kernel
theorem dX0_same_11 : decode cX0_same 11 = .ok (.ifCond .eq 22, 3) := by decide +kernel
theorem dX0_same_14 : decode cX0_same 14 = .ok (.aload_n 0, 1) := by decide +kernel
theorem dX0_same_15 : decode cX0_same 15 = .ok (.getfield 26, 3) := by decide +kernel
theorem dX0_same_18 : decode cX0_same 18 = .ok (.iload_n 1, 1) := by decide +kernel
theorem dX0_same_19 : decode cX0_same 19 = .ok (.saload, 1) := by decide +kernel
theorem dX0_same_20 : decode cX0_same 20 = .ok (.aload_n 0, 1) := by decide +kernel
theorem dX0_same_21 : decode cX0_same 21 = .ok (.getfield 26, 3) := by decide +kernel
theorem dX0_same_24 : decode cX0_same 24 = .ok (.iload_n 2, 1) := by decide +kernel
theorem dX0_same_25 : decode cX0_same 25 = .ok (.saload, 1) := by decide +kernel
theorem dX0_same_26 : decode cX0_same 26 = .ok (.if_icmp .ne 7, 3) := by decide +kernel
theorem dX0_same_29 : decode cX0_same 29 = .ok (.iconst 1, 1) := by decide +kernel
theorem dX0_same_30 : decode cX0_same 30 = .ok (.goto 4, 3) := by decide +kernel
theorem dX0_same_33 : decode cX0_same 33 = .ok (.iconst 0, 1) := by decide +kernel
theorem dX0_same_34 : decode cX0_same 34 = .ok (.ireturn, 1) := by decide +kernel
theorem dX0_inside_0 : decode cX0_inside 0 = .ok (.iload_n 1, 1) := by decide +kernel
theorem dX0_inside_1 : decode cX0_inside 1 = .ok (.invokestatic 112, 3) := by decide +kernel
theorem dX0_inside_4 : decode cX0_inside 4 = .ok (.ifCond .eq 10, 3) := by decide +kernel
theorem dX0_inside_7 : decode cX0_inside 7 = .ok (.iload_n 2, 1) := by decide +kernel
theorem dX0_inside_8 : decode cX0_inside 8 = .ok (.invokestatic 112, 3) := by decide +kernel
theorem dX0_inside_11 : decode cX0_inside 11 = .ok (.ifCond .ne 5, 3) := by decide +kernel
theorem dX0_inside_14 : decode cX0_inside 14 = .ok (.iconst 0, 1) := by decide +kernel
theorem dX0_inside_15 : decode cX0_inside 15 = .ok (.ireturn, 1) := by decide +kernel
theorem dX0_inside_16 : decode cX0_inside 16 = .ok (.iconst 0, 1) := by decide +kernel
theorem dX0_inside_17 : decode cX0_inside 17 = .ok (.istore_n 3, 1) := by decide +kernel
theorem dX0_inside_18 : decode cX0_inside 18 = .ok (.iload_n 3, 1) := by decide +kernel
theorem dX0_inside_19 : decode cX0_inside 19 = .ok (.sipush 512, 3) := by decide +kernel
theorem dX0_inside_22 : decode cX0_inside 22 = .ok (.if_icmp .ge 46, 3) := by decide +kernel
theorem dX0_inside_25 : decode cX0_inside 25 = .ok (.aload_n 0, 1) := by decide +kernel
theorem dX0_inside_26 : decode cX0_inside 26 = .ok (.aload_n 0, 1) := by decide +kernel
theorem dX0_inside_27 : decode cX0_inside 27 = .ok (.getfield 26, 3) := by decide +kernel
theorem dX0_inside_30 : decode cX0_inside 30 = .ok (.iload_n 1, 1) := by decide +kernel
theorem dX0_inside_31 : decode cX0_inside 31 = .ok (.saload, 1) := by decide +kernel
theorem dX0_inside_32 : decode cX0_inside 32 = .ok (.iload_n 3, 1) := by decide +kernel
theorem dX0_inside_33 : decode cX0_inside 33 = .ok (.iconst 0, 1) := by decide +kernel
theorem dX0_inside_34 : decode cX0_inside 34 = .ok (.invokevirtual 90, 3) := by decide +kernel
theorem dX0_inside_37 : decode cX0_inside 37 = .ok (.istore 4, 2) := by decide +kernel
theorem dX0_inside_39 : decode cX0_inside 39 = .ok (.iload 4, 2) := by decide +kernel
theorem dX0_inside_41 : decode cX0_inside 41 = .ok (.iconst 1, 1) := by decide +kernel
theorem dX0_inside_42 : decode cX0_inside 42 = .ok (.if_icmp .ne 20, 3) := by decide +kernel
theorem dX0_inside_45 : decode cX0_inside 45 = .ok (.aload_n 0, 1) := by decide +kernel
theorem dX0_inside_46 : decode cX0_inside 46 = .ok (.aload_n 0, 1) := by decide +kernel
theorem dX0_inside_47 : decode cX0_inside 47 = .ok (.getfield 26, 3) := by decide +kernel
theorem dX0_inside_50 : decode cX0_inside 50 = .ok (.iload_n 2, 1) := by decide +kernel
theorem dX0_inside_51 : decode cX0_inside 51 = .ok (.saload, 1) := by decide +kernel
theorem dX0_inside_52 : decode cX0_inside 52 = .ok (.iload_n 3, 1) := by decide +kernel
theorem dX0_inside_53 : decode cX0_inside 53 = .ok (.iconst 0, 1) := by decide +kernel
theorem dX0_inside_54 : decode cX0_inside 54 = .ok (.invokevirtual 90, 3) := by decide +kernel
theorem dX0_inside_57 : decode cX0_inside 57 = .ok (.ifCond .ne 5, 3) := by decide +kernel
theorem dX0_inside_60 : decode cX0_inside 60 = .ok (.iconst 0, 1) := by decide +kernel
theorem dX0_inside_61 : decode cX0_inside 61 = .ok (.ireturn, 1) := by decide +kernel
theorem dX0_inside_62 : decode cX0_inside 62 = .ok (.iinc 3 1, 3) := by decide +kernel
theorem dX0_inside_65 : decode cX0_inside 65 = .ok (.goto (-47), 3) := by decide +kernel
theorem dX0_inside_68 : decode cX0_inside 68 = .ok (.iconst 1, 1) := by decide +kernel
theorem dX0_inside_69 : decode cX0_inside 69 = .ok (.ireturn, 1) := by decide +kernel
theorem dX0_cubes_0 : decode cX0_cubes 0 = .ok (.iload_n 1, 1) := by decide +kernel
theorem dX0_cubes_1 : decode cX0_cubes 1 = .ok (.invokestatic 112, 3) := by decide +kernel
theorem dX0_cubes_4 : decode cX0_cubes 4 = .ok (.ifCond .ne 5, 3) := by decide +kernel
theorem dX0_cubes_7 : decode cX0_cubes 7 = .ok (.iconst (-1), 1) := by decide +kernel
theorem dX0_cubes_8 : decode cX0_cubes 8 = .ok (.ireturn, 1) := by decide +kernel
theorem dX0_cubes_9 : decode cX0_cubes 9 = .ok (.iconst 0, 1) := by decide +kernel
theorem dX0_cubes_10 : decode cX0_cubes 10 = .ok (.istore_n 2, 1) := by decide +kernel
theorem dX0_cubes_11 : decode cX0_cubes 11 = .ok (.iconst 0, 1) := by decide +kernel
theorem dX0_cubes_12 : decode cX0_cubes 12 = .ok (.istore_n 3, 1) := by decide +kernel
theorem dX0_cubes_13 : decode cX0_cubes 13 = .ok (.iload_n 3, 1) := by decide +kernel
theorem dX0_cubes_14 : decode cX0_cubes 14 = .ok (.sipush 512, 3) := by decide +kernel
theorem dX0_cubes_17 : decode cX0_cubes 17 = .ok (.if_icmp .ge 50, 3) := by decide +kernel
theorem dX0_cubes_20 : decode cX0_cubes 20 = .ok (.iload_n 3, 1) := by decide +kernel
theorem dX0_cubes_21 : decode cX0_cubes 21 = .ok (.invokestatic 102, 3) := by decide +kernel
theorem dX0_cubes_24 : decode cX0_cubes 24 = .ok (.istore 4, 2) := by decide +kernel
theorem dX0_cubes_26 : decode cX0_cubes 26 = .ok (.aload_n 0, 1) := by decide +kernel
theorem dX0_cubes_27 : decode cX0_cubes 27 = .ok (.aload_n 0, 1) := by decide +kernel
theorem dX0_cubes_28 : decode cX0_cubes 28 = .ok (.getfield 26, 3) := by decide +kernel
theorem dX0_cubes_31 : decode cX0_cubes 31 = .ok (.iload_n 1, 1) := by decide +kernel
theorem dX0_cubes_32 : decode cX0_cubes 32 = .ok (.saload, 1) := by decide +kernel
theorem dX0_cubes_33 : decode cX0_cubes 33 = .ok (.iload 4, 2) := by decide +kernel
theorem dX0_cubes_35 : decode cX0_cubes 35 = .ok (.invokevirtual 121, 3) := by decide +kernel
theorem dX0_cubes_38 : decode cX0_cubes 38 = .ok (.istore 5, 2) := by decide +kernel
theorem dX0_cubes_40 : decode cX0_cubes 40 = .ok (.iload_n 2, 1) := by decide +kernel
theorem dX0_cubes_41 : decode cX0_cubes 41 = .ok (.iload_n 3, 1) := by decide +kernel
theorem dX0_cubes_42 : decode cX0_cubes 42 = .ok (.iconst 1, 1) := by decide +kernel
theorem dX0_cubes_43 : decode cX0_cubes 43 = .ok (.iconst 3, 1) := by decide +kernel
theorem dX0_cubes_44 : decode cX0_cubes 44 = .ok (.iload 5, 2) := by decide +kernel
theorem dX0_cubes_46 : decode cX0_cubes 46 = .ok (.imul, 1) := by decide +kernel
theorem dX0_cubes_47 : decode cX0_cubes 47 = .ok (.ishl, 1) := by decide +kernel
theorem dX0_cubes_48 : decode cX0_cubes 48 = .ok (.iconst 1, 1) := by decide +kernel
theorem dX0_cubes_49 : decode cX0_cubes 49 = .ok (.isub, 1) := by decide +kernel
theorem dX0_cubes_50 : decode cX0_cubes 50 = .ok (.iand, 1) := by decide +kernel
theorem dX0_cubes_51 : decode cX0_cubes 51 = .ok (.ifCond .ne 7, 3) := by decide +kernel
theorem dX0_cubes_54 : decode cX0_cubes 54 = .ok (.iconst 1, 1) := by decide +kernel
theorem dX0_cubes_55 : decode cX0_cubes 55 = .ok (.goto 4, 3) := by decide +kernel
theorem dX0_cubes_58 : decode cX0_cubes 58 = .ok (.iconst 0, 1) := by decide +kernel
theorem dX0_cubes_59 : decode cX0_cubes 59 = .ok (.iadd, 1) := by decide +kernel
theorem dX0_cubes_60 : decode cX0_cubes 60 = .ok (.istore_n 2, 1) := by decide +kernel
theorem dX0_cubes_61 : decode cX0_cubes 61 = .ok (.iinc 3 1, 3) := by decide +kernel
theorem dX0_cubes_64 : decode cX0_cubes 64 = .ok (.goto (-51), 3) := by decide +kernel
theorem dX0_cubes_67 : decode cX0_cubes 67 = .ok (.iload_n 2, 1) := by decide +kernel
theorem dX0_cubes_68 : decode cX0_cubes 68 = .ok (.ireturn, 1) := by decide +kernel
theorem dX0_orderOf_0 : decode cX0_orderOf 0 = .ok (.iconst 3, 1) := by decide +kernel
theorem dX0_orderOf_1 : decode cX0_orderOf 1 = .ok (.istore_n 3, 1) := by decide +kernel
theorem dX0_orderOf_2 : decode cX0_orderOf 2 = .ok (.iload_n 3, 1) := by decide +kernel
theorem dX0_orderOf_3 : decode cX0_orderOf 3 = .ok (.ifCond .le 20, 3) := by decide +kernel
theorem dX0_orderOf_6 : decode cX0_orderOf 6 = .ok (.aload_n 0, 1) := by decide +kernel
theorem dX0_orderOf_7 : decode cX0_orderOf 7 = .ok (.iload_n 1, 1) := by decide +kernel
theorem dX0_orderOf_8 : decode cX0_orderOf 8 = .ok (.iload_n 2, 1) := by decide +kernel
theorem dX0_orderOf_9 : decode cX0_orderOf 9 = .ok (.iload_n 3, 1) := by decide +kernel
theorem dX0_orderOf_10 : decode cX0_orderOf 10 = .ok (.invokevirtual 90, 3) := by decide +kernel
theorem dX0_orderOf_13 : decode cX0_orderOf 13 = .ok (.iconst 2, 1) := by decide +kernel
theorem dX0_orderOf_14 : decode cX0_orderOf 14 = .ok (.if_icmp .lt 9, 3) := by decide +kernel
theorem dX0_orderOf_17 : decode cX0_orderOf 17 = .ok (.iinc 3 (-1), 3) := by decide +kernel
theorem dX0_orderOf_20 : decode cX0_orderOf 20 = .ok (.goto (-18), 3) := by decide +kernel
theorem dX0_orderOf_23 : decode cX0_orderOf 23 = .ok (.iload_n 3, 1) := by decide +kernel
theorem dX0_orderOf_24 : decode cX0_orderOf 24 = .ok (.ireturn, 1) := by decide +kernel
theorem dX0_order_0 : decode cX0_order 0 = .ok (.iload_n 1, 1) := by decide +kernel
theorem dX0_order_1 : decode cX0_order 1 = .ok (.invokestatic 112, 3) := by decide +kernel
theorem dX0_order_4 : decode cX0_order 4 = .ok (.ifCond .eq 24, 3) := by decide +kernel
theorem dX0_order_7 : decode cX0_order 7 = .ok (.iload_n 2, 1) := by decide +kernel
theorem dX0_order_8 : decode cX0_order 8 = .ok (.invokestatic 115, 3) := by decide +kernel
theorem dX0_order_11 : decode cX0_order 11 = .ok (.ifCond .eq 17, 3) := by decide +kernel
theorem dX0_order_14 : decode cX0_order 14 = .ok (.aload_n 0, 1) := by decide +kernel
theorem dX0_order_15 : decode cX0_order 15 = .ok (.aload_n 0, 1) := by decide +kernel
theorem dX0_order_16 : decode cX0_order 16 = .ok (.getfield 26, 3) := by decide +kernel
theorem dX0_order_19 : decode cX0_order 19 = .ok (.iload_n 1, 1) := by decide +kernel
theorem dX0_order_20 : decode cX0_order 20 = .ok (.saload, 1) := by decide +kernel
theorem dX0_order_21 : decode cX0_order 21 = .ok (.iload_n 2, 1) := by decide +kernel
theorem dX0_order_22 : decode cX0_order 22 = .ok (.invokevirtual 121, 3) := by decide +kernel
theorem dX0_order_25 : decode cX0_order 25 = .ok (.goto 4, 3) := by decide +kernel
theorem dX0_order_28 : decode cX0_order 28 = .ok (.iconst (-1), 1) := by decide +kernel
theorem dX0_order_29 : decode cX0_order 29 = .ok (.ireturn, 1) := by decide +kernel
theorem dX0_surface_0 : decode cX0_surface 0 = .ok (.iload_n 1, 1) := by decide +kernel
theorem dX0_surface_1 : decode cX0_surface 1 = .ok (.invokestatic 112, 3) := by decide +kernel
theorem dX0_surface_4 : decode cX0_surface 4 = .ok (.ifCond .ne 5, 3) := by decide +kernel
theorem dX0_surface_7 : decode cX0_surface 7 = .ok (.iconst (-1), 1) := by decide +kernel
theorem dX0_surface_8 : decode cX0_surface 8 = .ok (.ireturn, 1) := by decide +kernel
theorem dX0_surface_9 : decode cX0_surface 9 = .ok (.iconst 0, 1) := by decide +kernel
theorem dX0_surface_10 : decode cX0_surface 10 = .ok (.istore_n 2, 1) := by decide +kernel
theorem dX0_surface_11 : decode cX0_surface 11 = .ok (.iconst 0, 1) := by decide +kernel
theorem dX0_surface_12 : decode cX0_surface 12 = .ok (.istore_n 3, 1) := by decide +kernel
theorem dX0_surface_13 : decode cX0_surface 13 = .ok (.iload_n 3, 1) := by decide +kernel
theorem dX0_surface_14 : decode cX0_surface 14 = .ok (.sipush 512, 3) := by decide +kernel
theorem dX0_surface_17 : decode cX0_surface 17 = .ok (.if_icmp .ge 101, 3) := by decide +kernel
theorem dX0_surface_20 : decode cX0_surface 20 = .ok (.iconst 0, 1) := by decide +kernel
theorem dX0_surface_21 : decode cX0_surface 21 = .ok (.istore 4, 2) := by decide +kernel
theorem dX0_surface_23 : decode cX0_surface 23 = .ok (.iload 4, 2) := by decide +kernel
theorem dX0_surface_25 : decode cX0_surface 25 = .ok (.iconst 3, 1) := by decide +kernel
theorem dX0_surface_26 : decode cX0_surface 26 = .ok (.if_icmp .ge 86, 3) := by decide +kernel
theorem dX0_surface_29 : decode cX0_surface 29 = .ok (.aload_n 0, 1) := by decide +kernel
theorem dX0_surface_30 : decode cX0_surface 30 = .ok (.iload_n 1, 1) := by decide +kernel
theorem dX0_surface_31 : decode cX0_surface 31 = .ok (.iload_n 3, 1) := by decide +kernel
theorem dX0_surface_32 : decode cX0_surface 32 = .ok (.invokevirtual 124, 3) := by decide +kernel
theorem dX0_surface_35 : decode cX0_surface 35 = .ok (.ifCond .eq 77, 3) := by decide +kernel
theorem dX0_surface_38 : decode cX0_surface 38 = .ok (.iload_n 3, 1) := by decide +kernel
theorem dX0_surface_39 : decode cX0_surface 39 = .ok (.iload 4, 2) := by decide +kernel
theorem dX0_surface_41 : decode cX0_surface 41 = .ok (.invokestatic 75, 3) := by decide +kernel
theorem dX0_surface_44 : decode cX0_surface 44 = .ok (.istore 5, 2) := by decide +kernel
theorem dX0_surface_46 : decode cX0_surface 46 = .ok (.iconst 1, 1) := by decide +kernel
theorem dX0_surface_47 : decode cX0_surface 47 = .ok (.iconst 3, 1) := by decide +kernel
theorem dX0_surface_48 : decode cX0_surface 48 = .ok (.iload 4, 2) := by decide +kernel
theorem dX0_surface_50 : decode cX0_surface 50 = .ok (.imul, 1) := by decide +kernel
theorem dX0_surface_51 : decode cX0_surface 51 = .ok (.ishl, 1) := by decide +kernel
theorem dX0_surface_52 : decode cX0_surface 52 = .ok (.istore 6, 2) := by decide +kernel
theorem dX0_surface_54 : decode cX0_surface 54 = .ok (.iload_n 2, 1) := by decide +kernel
theorem dX0_surface_55 : decode cX0_surface 55 = .ok (.iload 5, 2) := by decide +kernel
theorem dX0_surface_57 : decode cX0_surface 57 = .ok (.ifCond .eq 15, 3) := by decide +kernel
theorem dX0_surface_60 : decode cX0_surface 60 = .ok (.aload_n 0, 1) := by decide +kernel
theorem dX0_surface_61 : decode cX0_surface 61 = .ok (.iload_n 1, 1) := by decide +kernel
theorem dX0_surface_62 : decode cX0_surface 62 = .ok (.iload_n 3, 1) := by decide +kernel
theorem dX0_surface_63 : decode cX0_surface 63 = .ok (.iload 6, 2) := by decide +kernel
theorem dX0_surface_65 : decode cX0_surface 65 = .ok (.isub, 1) := by decide +kernel
theorem dX0_surface_66 : decode cX0_surface 66 = .ok (.invokevirtual 124, 3) := by decide +kernel
theorem dX0_surface_69 : decode cX0_surface 69 = .ok (.ifCond .ne 7, 3) := by decide +kernel
theorem dX0_surface_72 : decode cX0_surface 72 = .ok (.iconst 1, 1) := by decide +kernel
theorem dX0_surface_73 : decode cX0_surface 73 = .ok (.goto 4, 3) := by decide +kernel
theorem dX0_surface_76 : decode cX0_surface 76 = .ok (.iconst 0, 1) := by decide +kernel
theorem dX0_surface_77 : decode cX0_surface 77 = .ok (.iadd, 1) := by decide +kernel
theorem dX0_surface_78 : decode cX0_surface 78 = .ok (.istore_n 2, 1) := by decide +kernel
theorem dX0_surface_79 : decode cX0_surface 79 = .ok (.iload_n 2, 1) := by decide +kernel
theorem dX0_surface_80 : decode cX0_surface 80 = .ok (.iload 5, 2) := by decide +kernel
theorem dX0_surface_82 : decode cX0_surface 82 = .ok (.bipush 7, 2) := by decide +kernel
theorem dX0_surface_84 : decode cX0_surface 84 = .ok (.if_icmp .eq 15, 3) := by decide +kernel
theorem dX0_surface_87 : decode cX0_surface 87 = .ok (.aload_n 0, 1) := by decide +kernel
theorem dX0_surface_88 : decode cX0_surface 88 = .ok (.iload_n 1, 1) := by decide +kernel
theorem dX0_surface_89 : decode cX0_surface 89 = .ok (.iload_n 3, 1) := by decide +kernel
theorem dX0_surface_90 : decode cX0_surface 90 = .ok (.iload 6, 2) := by decide +kernel
theorem dX0_surface_92 : decode cX0_surface 92 = .ok (.iadd, 1) := by decide +kernel
theorem dX0_surface_93 : decode cX0_surface 93 = .ok (.invokevirtual 124, 3) := by decide +kernel
theorem dX0_surface_96 : decode cX0_surface 96 = .ok (.ifCond .ne 7, 3) := by decide +kernel
theorem dX0_surface_99 : decode cX0_surface 99 = .ok (.iconst 1, 1) := by decide +kernel
theorem dX0_surface_100 : decode cX0_surface 100 = .ok (.goto 4, 3) := by decide +kernel
theorem dX0_surface_103 : decode cX0_surface 103 = .ok (.iconst 0, 1) := by decide +kernel
theorem dX0_surface_104 : decode cX0_surface 104 = .ok (.iadd, 1) := by decide +kernel
theorem dX0_surface_105 : decode cX0_surface 105 = .ok (.istore_n 2, 1) := by decide +kernel
theorem dX0_surface_106 : decode cX0_surface 106 = .ok (.iinc 4 1, 3) := by decide +kernel
theorem dX0_surface_109 : decode cX0_surface 109 = .ok (.goto (-86), 3) := by decide +kernel
theorem dX0_surface_112 : decode cX0_surface 112 = .ok (.iinc 3 1, 3) := by decide +kernel
theorem dX0_surface_115 : decode cX0_surface 115 = .ok (.goto (-102), 3) := by decide +kernel
theorem dX0_surface_118 : decode cX0_surface 118 = .ok (.iload_n 2, 1) := by decide +kernel
theorem dX0_surface_119 : decode cX0_surface 119 = .ok (.ireturn, 1) := by decide +kernel
theorem dX0_next_0 : decode cX0_next 0 = .ok (.iload_n 2, 1) := by decide +kernel
theorem dX0_next_1 : decode cX0_next 1 = .ok (.ifCond .ge 7, 3) := by decide +kernel
theorem dX0_next_4 : decode cX0_next 4 = .ok (.iconst 0, 1) := by decide +kernel
theorem dX0_next_5 : decode cX0_next 5 = .ok (.goto 4, 3) := by decide +kernel
theorem dX0_next_8 : decode cX0_next 8 = .ok (.iload_n 2, 1) := by decide +kernel
theorem dX0_next_9 : decode cX0_next 9 = .ok (.istore_n 3, 1) := by decide +kernel
theorem dX0_next_10 : decode cX0_next 10 = .ok (.iload_n 3, 1) := by decide +kernel
theorem dX0_next_11 : decode cX0_next 11 = .ok (.sipush 512, 3) := by decide +kernel
theorem dX0_next_14 : decode cX0_next 14 = .ok (.if_icmp .ge 27, 3) := by decide +kernel
theorem dX0_next_17 : decode cX0_next 17 = .ok (.iload_n 1, 1) := by decide +kernel
theorem dX0_next_18 : decode cX0_next 18 = .ok (.invokestatic 112, 3) := by decide +kernel
theorem dX0_next_21 : decode cX0_next 21 = .ok (.ifCond .eq 20, 3) := by decide +kernel
theorem dX0_next_24 : decode cX0_next 24 = .ok (.aload_n 0, 1) := by decide +kernel
theorem dX0_next_25 : decode cX0_next 25 = .ok (.iload_n 1, 1) := by decide +kernel
theorem dX0_next_26 : decode cX0_next 26 = .ok (.iload_n 3, 1) := by decide +kernel
theorem dX0_next_27 : decode cX0_next 27 = .ok (.invokevirtual 124, 3) := by decide +kernel
theorem dX0_next_30 : decode cX0_next 30 = .ok (.ifCond .eq 5, 3) := by decide +kernel
theorem dX0_next_33 : decode cX0_next 33 = .ok (.iload_n 3, 1) := by decide +kernel
theorem dX0_next_34 : decode cX0_next 34 = .ok (.ireturn, 1) := by decide +kernel
theorem dX0_next_35 : decode cX0_next 35 = .ok (.iinc 3 1, 3) := by decide +kernel
theorem dX0_next_38 : decode cX0_next 38 = .ok (.goto (-28), 3) := by decide +kernel
theorem dX0_next_41 : decode cX0_next 41 = .ok (.iconst (-1), 1) := by decide +kernel
theorem dX0_next_42 : decode cX0_next 42 = .ok (.ireturn, 1) := by decide +kernel
theorem dX0_kinds_0 : decode cX0_kinds 0 = .ok (.iload_n 1, 1) := by decide +kernel
theorem dX0_kinds_1 : decode cX0_kinds 1 = .ok (.invokestatic 112, 3) := by decide +kernel
theorem dX0_kinds_4 : decode cX0_kinds 4 = .ok (.ifCond .eq 12, 3) := by decide +kernel
theorem dX0_kinds_7 : decode cX0_kinds 7 = .ok (.iload_n 2, 1) := by decide +kernel
theorem dX0_kinds_8 : decode cX0_kinds 8 = .ok (.ifCond .lt 8, 3) := by decide +kernel
theorem dX0_kinds_11 : decode cX0_kinds 11 = .ok (.iload_n 2, 1) := by decide +kernel
theorem dX0_kinds_12 : decode cX0_kinds 12 = .ok (.iconst 3, 1) := by decide +kernel
theorem dX0_kinds_13 : decode cX0_kinds 13 = .ok (.if_icmp .le 5, 3) := by decide +kernel
theorem dX0_kinds_16 : decode cX0_kinds 16 = .ok (.iconst (-1), 1) := by decide +kernel
theorem dX0_kinds_17 : decode cX0_kinds 17 = .ok (.ireturn, 1) := by decide +kernel
theorem dX0_kinds_18 : decode cX0_kinds 18 = .ok (.iconst 0, 1) := by decide +kernel
theorem dX0_kinds_19 : decode cX0_kinds 19 = .ok (.istore_n 3, 1) := by decide +kernel
theorem dX0_kinds_20 : decode cX0_kinds 20 = .ok (.iload_n 3, 1) := by decide +kernel
theorem dX0_kinds_21 : decode cX0_kinds 21 = .ok (.sipush 512, 3) := by decide +kernel
theorem dX0_kinds_24 : decode cX0_kinds 24 = .ok (.if_icmp .ge 16, 3) := by decide +kernel
theorem dX0_kinds_27 : decode cX0_kinds 27 = .ok (.aload_n 0, 1) := by decide +kernel
theorem dX0_kinds_28 : decode cX0_kinds 28 = .ok (.getfield 23, 3) := by decide +kernel
theorem dX0_kinds_31 : decode cX0_kinds 31 = .ok (.iload_n 3, 1) := by decide +kernel
theorem dX0_kinds_32 : decode cX0_kinds 32 = .ok (.iconst 0, 1) := by decide +kernel
theorem dX0_kinds_33 : decode cX0_kinds 33 = .ok (.bastore, 1) := by decide +kernel
theorem dX0_kinds_34 : decode cX0_kinds 34 = .ok (.iinc 3 1, 3) := by decide +kernel
theorem dX0_kinds_37 : decode cX0_kinds 37 = .ok (.goto (-17), 3) := by decide +kernel
theorem dX0_kinds_40 : decode cX0_kinds 40 = .ok (.iconst 0, 1) := by decide +kernel
theorem dX0_kinds_41 : decode cX0_kinds 41 = .ok (.istore_n 3, 1) := by decide +kernel
theorem dX0_kinds_42 : decode cX0_kinds 42 = .ok (.iconst 1, 1) := by decide +kernel
theorem dX0_kinds_43 : decode cX0_kinds 43 = .ok (.iconst 3, 1) := by decide +kernel
theorem dX0_kinds_44 : decode cX0_kinds 44 = .ok (.iload_n 2, 1) := by decide +kernel
theorem dX0_kinds_45 : decode cX0_kinds 45 = .ok (.imul, 1) := by decide +kernel
theorem dX0_kinds_46 : decode cX0_kinds 46 = .ok (.ishl, 1) := by decide +kernel
theorem dX0_kinds_47 : decode cX0_kinds 47 = .ok (.istore 4, 2) := by decide +kernel
theorem dX0_kinds_49 : decode cX0_kinds 49 = .ok (.iconst 0, 1) := by decide +kernel
theorem dX0_kinds_50 : decode cX0_kinds 50 = .ok (.istore 5, 2) := by decide +kernel
theorem dX0_kinds_52 : decode cX0_kinds 52 = .ok (.iload 5, 2) := by decide +kernel
theorem dX0_kinds_54 : decode cX0_kinds 54 = .ok (.sipush 512, 3) := by decide +kernel
theorem dX0_kinds_57 : decode cX0_kinds 57 = .ok (.if_icmp .ge 61, 3) := by decide +kernel
theorem dX0_kinds_60 : decode cX0_kinds 60 = .ok (.iload 5, 2) := by decide +kernel
theorem dX0_kinds_62 : decode cX0_kinds 62 = .ok (.invokestatic 102, 3) := by decide +kernel
theorem dX0_kinds_65 : decode cX0_kinds 65 = .ok (.istore 6, 2) := by decide +kernel
theorem dX0_kinds_67 : decode cX0_kinds 67 = .ok (.aload_n 0, 1) := by decide +kernel
theorem dX0_kinds_68 : decode cX0_kinds 68 = .ok (.aload_n 0, 1) := by decide +kernel
theorem dX0_kinds_69 : decode cX0_kinds 69 = .ok (.getfield 26, 3) := by decide +kernel
theorem dX0_kinds_72 : decode cX0_kinds 72 = .ok (.iload_n 1, 1) := by decide +kernel
theorem dX0_kinds_73 : decode cX0_kinds 73 = .ok (.saload, 1) := by decide +kernel
theorem dX0_kinds_74 : decode cX0_kinds 74 = .ok (.iload 6, 2) := by decide +kernel
theorem dX0_kinds_76 : decode cX0_kinds 76 = .ok (.iload_n 2, 1) := by decide +kernel
theorem dX0_kinds_77 : decode cX0_kinds 77 = .ok (.invokevirtual 90, 3) := by decide +kernel
theorem dX0_kinds_80 : decode cX0_kinds 80 = .ok (.istore 7, 2) := by decide +kernel
theorem dX0_kinds_82 : decode cX0_kinds 82 = .ok (.iload_n 3, 1) := by decide +kernel
theorem dX0_kinds_83 : decode cX0_kinds 83 = .ok (.aload_n 0, 1) := by decide +kernel
theorem dX0_kinds_84 : decode cX0_kinds 84 = .ok (.getfield 23, 3) := by decide +kernel
theorem dX0_kinds_87 : decode cX0_kinds 87 = .ok (.iload 7, 2) := by decide +kernel
theorem dX0_kinds_89 : decode cX0_kinds 89 = .ok (.baload, 1) := by decide +kernel
theorem dX0_kinds_90 : decode cX0_kinds 90 = .ok (.ifCond .eq 7, 3) := by decide +kernel
theorem dX0_kinds_93 : decode cX0_kinds 93 = .ok (.iconst 0, 1) := by decide +kernel
theorem dX0_kinds_94 : decode cX0_kinds 94 = .ok (.goto 4, 3) := by decide +kernel
theorem dX0_kinds_97 : decode cX0_kinds 97 = .ok (.iconst 1, 1) := by decide +kernel
theorem dX0_kinds_98 : decode cX0_kinds 98 = .ok (.iadd, 1) := by decide +kernel
theorem dX0_kinds_99 : decode cX0_kinds 99 = .ok (.istore_n 3, 1) := by decide +kernel
theorem dX0_kinds_100 : decode cX0_kinds 100 = .ok (.aload_n 0, 1) := by decide +kernel
theorem dX0_kinds_101 : decode cX0_kinds 101 = .ok (.getfield 23, 3) := by decide +kernel
theorem dX0_kinds_104 : decode cX0_kinds 104 = .ok (.iload 7, 2) := by decide +kernel
theorem dX0_kinds_106 : decode cX0_kinds 106 = .ok (.iconst 1, 1) := by decide +kernel
theorem dX0_kinds_107 : decode cX0_kinds 107 = .ok (.bastore, 1) := by decide +kernel
end
section
set_option maxRecDepth 100000
theorem dX0_kinds_108 : decode cX0_kinds 108 = .ok (.iload 5, 2) := by decide +kernel
theorem dX0_kinds_110 : decode cX0_kinds 110 = .ok (.iload 4, 2) := by decide +kernel
theorem dX0_kinds_112 : decode cX0_kinds 112 = .ok (.iadd, 1) := by decide +kernel
theorem dX0_kinds_113 : decode cX0_kinds 113 = .ok (.istore 5, 2) := by decide +kernel
theorem dX0_kinds_115 : decode cX0_kinds 115 = .ok (.goto (-63), 3) := by decide +kernel
theorem dX0_kinds_118 : decode cX0_kinds 118 = .ok (.iload_n 3, 1) := by decide +kernel
theorem dX0_kinds_119 : decode cX0_kinds 119 = .ok (.ireturn, 1) := by decide +kernel
theorem dX1_init_0 : decode cX1_init 0 = .ok (.aload_n 0, 1) := by decide +kernel
theorem dX1_init_1 : decode cX1_init 1 = .ok (.invokespecial 1, 3) := by decide +kernel
theorem dX1_init_4 : decode cX1_init 4 = .ok (.aload_n 0, 1) := by decide +kernel
theorem dX1_init_5 : decode cX1_init 5 = .ok (.sipush 2048, 3) := by decide +kernel
theorem dX1_init_8 : decode cX1_init 8 = .ok (.newarray .boolean, 2) := by decide +kernel
theorem dX1_init_10 : decode cX1_init 10 = .ok (.putfield 7, 3) := by decide +kernel
theorem dX1_init_13 : decode cX1_init 13 = .ok (.aload_n 0, 1) := by decide +kernel
theorem dX1_init_14 : decode cX1_init 14 = .ok (.sipush 512, 3) := by decide +kernel
theorem dX1_init_17 : decode cX1_init 17 = .ok (.newarray .boolean, 2) := by decide +kernel
theorem dX1_init_19 : decode cX1_init 19 = .ok (.putfield 13, 3) := by decide +kernel
theorem dX1_init_22 : decode cX1_init 22 = .ok (.return_, 1) := by decide +kernel
theorem dX1_box_0 : decode cX1_box 0 = .ok (.aload_n 0, 1) := by decide +kernel
theorem dX1_box_1 : decode cX1_box 1 = .ok (.iload_n 1, 1) := by decide +kernel
theorem dX1_box_2 : decode cX1_box 2 = .ok (.invokevirtual 20, 3) := by decide +kernel
theorem dX1_box_5 : decode cX1_box 5 = .ok (.ifCond .eq 30, 3) := by decide +kernel
theorem dX1_box_8 : decode cX1_box 8 = .ok (.aload_n 0, 1) := by decide +kernel
theorem dX1_box_9 : decode cX1_box 9 = .ok (.iload_n 2, 1) := by decide +kernel
theorem dX1_box_10 : decode cX1_box 10 = .ok (.invokevirtual 24, 3) := by decide +kernel
theorem dX1_box_13 : decode cX1_box 13 = .ok (.ifCond .eq 22, 3) := by decide +kernel
theorem dX1_box_16 : decode cX1_box 16 = .ok (.aload_n 0, 1) := by decide +kernel
theorem dX1_box_17 : decode cX1_box 17 = .ok (.iload_n 3, 1) := by decide +kernel
theorem dX1_box_18 : decode cX1_box 18 = .ok (.invokevirtual 24, 3) := by decide +kernel
theorem dX1_box_21 : decode cX1_box 21 = .ok (.ifCond .eq 14, 3) := by decide +kernel
theorem dX1_box_24 : decode cX1_box 24 = .ok (.iload 4, 2) := by decide +kernel
theorem dX1_box_26 : decode cX1_box 26 = .ok (.ifCond .eq 11, 3) := by decide +kernel
theorem dX1_box_29 : decode cX1_box 29 = .ok (.iload 4, 2) := by decide +kernel
theorem dX1_box_31 : decode cX1_box 31 = .ok (.iconst 1, 1) := by decide +kernel
theorem dX1_box_32 : decode cX1_box 32 = .ok (.if_icmp .eq 5, 3) := by decide +kernel
theorem dX1_box_35 : decode cX1_box 35 = .ok (.iconst 0, 1) := by decide +kernel
theorem dX1_box_36 : decode cX1_box 36 = .ok (.ireturn, 1) := by decide +kernel
theorem dX1_box_37 : decode cX1_box 37 = .ok (.iconst 0, 1) := by decide +kernel
theorem dX1_box_38 : decode cX1_box 38 = .ok (.istore 5, 2) := by decide +kernel
theorem dX1_box_40 : decode cX1_box 40 = .ok (.iload 5, 2) := by decide +kernel
theorem dX1_box_42 : decode cX1_box 42 = .ok (.sipush 512, 3) := by decide +kernel
theorem dX1_box_45 : decode cX1_box 45 = .ok (.if_icmp .ge 97, 3) := by decide +kernel
theorem dX1_box_48 : decode cX1_box 48 = .ok (.aload_n 0, 1) := by decide +kernel
theorem dX1_box_49 : decode cX1_box 49 = .ok (.iload 5, 2) := by decide +kernel
theorem dX1_box_51 : decode cX1_box 51 = .ok (.iload_n 2, 1) := by decide +kernel
theorem dX1_box_52 : decode cX1_box 52 = .ok (.iload_n 3, 1) := by decide +kernel
theorem dX1_box_53 : decode cX1_box 53 = .ok (.iconst 0, 1) := by decide +kernel
theorem dX1_box_54 : decode cX1_box 54 = .ok (.invokevirtual 27, 3) := by decide +kernel
theorem dX1_box_57 : decode cX1_box 57 = .ok (.ifCond .eq 31, 3) := by decide +kernel
theorem dX1_box_60 : decode cX1_box 60 = .ok (.aload_n 0, 1) := by decide +kernel
theorem dX1_box_61 : decode cX1_box 61 = .ok (.iload 5, 2) := by decide +kernel
theorem dX1_box_63 : decode cX1_box 63 = .ok (.iload_n 2, 1) := by decide +kernel
theorem dX1_box_64 : decode cX1_box 64 = .ok (.iload_n 3, 1) := by decide +kernel
theorem dX1_box_65 : decode cX1_box 65 = .ok (.iconst 1, 1) := by decide +kernel
theorem dX1_box_66 : decode cX1_box 66 = .ok (.invokevirtual 27, 3) := by decide +kernel
theorem dX1_box_69 : decode cX1_box 69 = .ok (.ifCond .eq 19, 3) := by decide +kernel
theorem dX1_box_72 : decode cX1_box 72 = .ok (.aload_n 0, 1) := by decide +kernel
theorem dX1_box_73 : decode cX1_box 73 = .ok (.iload 5, 2) := by decide +kernel
theorem dX1_box_75 : decode cX1_box 75 = .ok (.iload_n 2, 1) := by decide +kernel
theorem dX1_box_76 : decode cX1_box 76 = .ok (.iload_n 3, 1) := by decide +kernel
theorem dX1_box_77 : decode cX1_box 77 = .ok (.iconst 2, 1) := by decide +kernel
theorem dX1_box_78 : decode cX1_box 78 = .ok (.invokevirtual 27, 3) := by decide +kernel
theorem dX1_box_81 : decode cX1_box 81 = .ok (.ifCond .eq 7, 3) := by decide +kernel
theorem dX1_box_84 : decode cX1_box 84 = .ok (.iconst 1, 1) := by decide +kernel
theorem dX1_box_85 : decode cX1_box 85 = .ok (.goto 4, 3) := by decide +kernel
theorem dX1_box_88 : decode cX1_box 88 = .ok (.iconst 0, 1) := by decide +kernel
theorem dX1_box_89 : decode cX1_box 89 = .ok (.istore 6, 2) := by decide +kernel
theorem dX1_box_91 : decode cX1_box 91 = .ok (.aload_n 0, 1) := by decide +kernel
theorem dX1_box_92 : decode cX1_box 92 = .ok (.getfield 7, 3) := by decide +kernel
theorem dX1_box_95 : decode cX1_box 95 = .ok (.sipush 512, 3) := by decide +kernel
theorem dX1_box_98 : decode cX1_box 98 = .ok (.iload_n 1, 1) := by decide +kernel
theorem dX1_box_99 : decode cX1_box 99 = .ok (.imul, 1) := by decide +kernel
theorem dX1_box_100 : decode cX1_box 100 = .ok (.iload 5, 2) := by decide +kernel
theorem dX1_box_102 : decode cX1_box 102 = .ok (.iadd, 1) := by decide +kernel
theorem dX1_box_103 : decode cX1_box 103 = .ok (.iload 6, 2) := by decide +kernel
theorem dX1_box_105 : decode cX1_box 105 = .ok (.ifCond .eq 17, 3) := by decide +kernel
theorem dX1_box_108 : decode cX1_box 108 = .ok (.iload 4, 2) := by decide +kernel
theorem dX1_box_110 : decode cX1_box 110 = .ok (.iconst 1, 1) := by decide +kernel
theorem dX1_box_111 : decode cX1_box 111 = .ok (.if_icmp .ne 7, 3) := by decide +kernel
theorem dX1_box_114 : decode cX1_box 114 = .ok (.iconst 1, 1) := by decide +kernel
theorem dX1_box_115 : decode cX1_box 115 = .ok (.goto 20, 3) := by decide +kernel
theorem dX1_box_118 : decode cX1_box 118 = .ok (.iconst 0, 1) := by decide +kernel
theorem dX1_box_119 : decode cX1_box 119 = .ok (.goto 16, 3) := by decide +kernel
theorem dX1_box_122 : decode cX1_box 122 = .ok (.aload_n 0, 1) := by decide +kernel
theorem dX1_box_123 : decode cX1_box 123 = .ok (.getfield 7, 3) := by decide +kernel
theorem dX1_box_126 : decode cX1_box 126 = .ok (.sipush 512, 3) := by decide +kernel
theorem dX1_box_129 : decode cX1_box 129 = .ok (.iload_n 1, 1) := by decide +kernel
theorem dX1_box_130 : decode cX1_box 130 = .ok (.imul, 1) := by decide +kernel
theorem dX1_box_131 : decode cX1_box 131 = .ok (.iload 5, 2) := by decide +kernel
theorem dX1_box_133 : decode cX1_box 133 = .ok (.iadd, 1) := by decide +kernel
theorem dX1_box_134 : decode cX1_box 134 = .ok (.baload, 1) := by decide +kernel
theorem dX1_box_135 : decode cX1_box 135 = .ok (.bastore, 1) := by decide +kernel
theorem dX1_box_136 : decode cX1_box 136 = .ok (.iinc 5 1, 3) := by decide +kernel
theorem dX1_box_139 : decode cX1_box 139 = .ok (.goto (-99), 3) := by decide +kernel
theorem dX1_box_142 : decode cX1_box 142 = .ok (.iconst 1, 1) := by decide +kernel
theorem dX1_box_143 : decode cX1_box 143 = .ok (.ireturn, 1) := by decide +kernel
theorem dX1_solid_0 : decode cX1_solid 0 = .ok (.iload_n 1, 1) := by decide +kernel
theorem dX1_solid_1 : decode cX1_solid 1 = .ok (.ifCond .lt 12, 3) := by decide +kernel
theorem dX1_solid_4 : decode cX1_solid 4 = .ok (.iload_n 1, 1) := by decide +kernel
theorem dX1_solid_5 : decode cX1_solid 5 = .ok (.iconst 3, 1) := by decide +kernel
theorem dX1_solid_6 : decode cX1_solid 6 = .ok (.if_icmp .gt 7, 3) := by decide +kernel
theorem dX1_solid_9 : decode cX1_solid 9 = .ok (.iconst 1, 1) := by decide +kernel
theorem dX1_solid_10 : decode cX1_solid 10 = .ok (.goto 4, 3) := by decide +kernel
theorem dX1_solid_13 : decode cX1_solid 13 = .ok (.iconst 0, 1) := by decide +kernel
theorem dX1_solid_14 : decode cX1_solid 14 = .ok (.ireturn, 1) := by decide +kernel
theorem dX1_cell_0 : decode cX1_cell 0 = .ok (.iload_n 1, 1) := by decide +kernel
theorem dX1_cell_1 : decode cX1_cell 1 = .ok (.ifCond .lt 14, 3) := by decide +kernel
theorem dX1_cell_4 : decode cX1_cell 4 = .ok (.iload_n 1, 1) := by decide +kernel
theorem dX1_cell_5 : decode cX1_cell 5 = .ok (.sipush 511, 3) := by decide +kernel
theorem dX1_cell_8 : decode cX1_cell 8 = .ok (.if_icmp .gt 7, 3) := by decide +kernel
theorem dX1_cell_11 : decode cX1_cell 11 = .ok (.iconst 1, 1) := by decide +kernel
theorem dX1_cell_12 : decode cX1_cell 12 = .ok (.goto 4, 3) := by decide +kernel
theorem dX1_cell_15 : decode cX1_cell 15 = .ok (.iconst 0, 1) := by decide +kernel
theorem dX1_cell_16 : decode cX1_cell 16 = .ok (.ireturn, 1) := by decide +kernel
theorem dX1_between_0 : decode cX1_between 0 = .ok (.aload_n 0, 1) := by decide +kernel
theorem dX1_between_1 : decode cX1_between 1 = .ok (.iload_n 1, 1) := by decide +kernel
theorem dX1_between_2 : decode cX1_between 2 = .ok (.iload 4, 2) := by decide +kernel
theorem dX1_between_4 : decode cX1_between 4 = .ok (.invokevirtual 16, 3) := by decide +kernel
theorem dX1_between_7 : decode cX1_between 7 = .ok (.istore 5, 2) := by decide +kernel
theorem dX1_between_9 : decode cX1_between 9 = .ok (.aload_n 0, 1) := by decide +kernel
theorem dX1_between_10 : decode cX1_between 10 = .ok (.iload_n 2, 1) := by decide +kernel
theorem dX1_between_11 : decode cX1_between 11 = .ok (.iload 4, 2) := by decide +kernel
theorem dX1_between_13 : decode cX1_between 13 = .ok (.invokevirtual 16, 3) := by decide +kernel
theorem dX1_between_16 : decode cX1_between 16 = .ok (.istore 6, 2) := by decide +kernel
theorem dX1_between_18 : decode cX1_between 18 = .ok (.aload_n 0, 1) := by decide +kernel
theorem dX1_between_19 : decode cX1_between 19 = .ok (.iload_n 3, 1) := by decide +kernel
theorem dX1_between_20 : decode cX1_between 20 = .ok (.iload 4, 2) := by decide +kernel
theorem dX1_between_22 : decode cX1_between 22 = .ok (.invokevirtual 16, 3) := by decide +kernel
theorem dX1_between_25 : decode cX1_between 25 = .ok (.istore 7, 2) := by decide +kernel
theorem dX1_between_27 : decode cX1_between 27 = .ok (.iload 5, 2) := by decide +kernel
theorem dX1_between_29 : decode cX1_between 29 = .ok (.iload 6, 2) := by decide +kernel
theorem dX1_between_31 : decode cX1_between 31 = .ok (.if_icmp .lt 10, 3) := by decide +kernel
theorem dX1_between_34 : decode cX1_between 34 = .ok (.iload 5, 2) := by decide +kernel
theorem dX1_between_36 : decode cX1_between 36 = .ok (.iload 7, 2) := by decide +kernel
theorem dX1_between_38 : decode cX1_between 38 = .ok (.if_icmp .le 17, 3) := by decide +kernel
theorem dX1_between_41 : decode cX1_between 41 = .ok (.iload 5, 2) := by decide +kernel
theorem dX1_between_43 : decode cX1_between 43 = .ok (.iload 7, 2) := by decide +kernel
theorem dX1_between_45 : decode cX1_between 45 = .ok (.if_icmp .lt 14, 3) := by decide +kernel
theorem dX1_between_48 : decode cX1_between 48 = .ok (.iload 5, 2) := by decide +kernel
theorem dX1_between_50 : decode cX1_between 50 = .ok (.iload 6, 2) := by decide +kernel
theorem dX1_between_52 : decode cX1_between 52 = .ok (.if_icmp .gt 7, 3) := by decide +kernel
theorem dX1_between_55 : decode cX1_between 55 = .ok (.iconst 1, 1) := by decide +kernel
theorem dX1_between_56 : decode cX1_between 56 = .ok (.goto 4, 3) := by decide +kernel
theorem dX1_between_59 : decode cX1_between 59 = .ok (.iconst 0, 1) := by decide +kernel
theorem dX1_between_60 : decode cX1_between 60 = .ok (.ireturn, 1) := by decide +kernel
theorem dX1_part_0 : decode cX1_part 0 = .ok (.iload_n 1, 1) := by decide +kernel
theorem dX1_part_1 : decode cX1_part 1 = .ok (.iconst 3, 1) := by decide +kernel
theorem dX1_part_2 : decode cX1_part 2 = .ok (.iload_n 2, 1) := by decide +kernel
theorem dX1_part_3 : decode cX1_part 3 = .ok (.imul, 1) := by decide +kernel
theorem dX1_part_4 : decode cX1_part 4 = .ok (.ishr, 1) := by decide +kernel
theorem dX1_part_5 : decode cX1_part 5 = .ok (.bipush 7, 2) := by decide +kernel
theorem dX1_part_7 : decode cX1_part 7 = .ok (.iand, 1) := by decide +kernel
theorem dX1_part_8 : decode cX1_part 8 = .ok (.ireturn, 1) := by decide +kernel
theorem dX1_combine_0 : decode cX1_combine 0 = .ok (.aload_n 0, 1) := by decide +kernel
theorem dX1_combine_1 : decode cX1_combine 1 = .ok (.iload_n 1, 1) := by decide +kernel
theorem dX1_combine_2 : decode cX1_combine 2 = .ok (.invokevirtual 20, 3) := by decide +kernel
theorem dX1_combine_5 : decode cX1_combine 5 = .ok (.ifCond .eq 29, 3) := by decide +kernel
theorem dX1_combine_8 : decode cX1_combine 8 = .ok (.aload_n 0, 1) := by decide +kernel
theorem dX1_combine_9 : decode cX1_combine 9 = .ok (.iload_n 3, 1) := by decide +kernel
theorem dX1_combine_10 : decode cX1_combine 10 = .ok (.invokevirtual 20, 3) := by decide +kernel
theorem dX1_combine_13 : decode cX1_combine 13 = .ok (.ifCond .eq 21, 3) := by decide +kernel
theorem dX1_combine_16 : decode cX1_combine 16 = .ok (.aload_n 0, 1) := by decide +kernel
theorem dX1_combine_17 : decode cX1_combine 17 = .ok (.iload 4, 2) := by decide +kernel
theorem dX1_combine_19 : decode cX1_combine 19 = .ok (.invokevirtual 20, 3) := by decide +kernel
theorem dX1_combine_22 : decode cX1_combine 22 = .ok (.ifCond .eq 12, 3) := by decide +kernel
theorem dX1_combine_25 : decode cX1_combine 25 = .ok (.iload_n 2, 1) := by decide +kernel
theorem dX1_combine_26 : decode cX1_combine 26 = .ok (.ifCond .lt 8, 3) := by decide +kernel
theorem dX1_combine_29 : decode cX1_combine 29 = .ok (.iload_n 2, 1) := by decide +kernel
theorem dX1_combine_30 : decode cX1_combine 30 = .ok (.iconst 3, 1) := by decide +kernel
theorem dX1_combine_31 : decode cX1_combine 31 = .ok (.if_icmp .le 5, 3) := by decide +kernel
theorem dX1_combine_34 : decode cX1_combine 34 = .ok (.iconst 0, 1) := by decide +kernel
theorem dX1_combine_35 : decode cX1_combine 35 = .ok (.ireturn, 1) := by decide +kernel
theorem dX1_combine_36 : decode cX1_combine 36 = .ok (.iconst 0, 1) := by decide +kernel
theorem dX1_combine_37 : decode cX1_combine 37 = .ok (.istore 5, 2) := by decide +kernel
theorem dX1_combine_39 : decode cX1_combine 39 = .ok (.iload 5, 2) := by decide +kernel
theorem dX1_combine_41 : decode cX1_combine 41 = .ok (.sipush 512, 3) := by decide +kernel
theorem dX1_combine_44 : decode cX1_combine 44 = .ok (.if_icmp .ge 127, 3) := by decide +kernel
theorem dX1_combine_47 : decode cX1_combine 47 = .ok (.aload_n 0, 1) := by decide +kernel
theorem dX1_combine_48 : decode cX1_combine 48 = .ok (.getfield 7, 3) := by decide +kernel
theorem dX1_combine_51 : decode cX1_combine 51 = .ok (.sipush 512, 3) := by decide +kernel
theorem dX1_combine_54 : decode cX1_combine 54 = .ok (.iload_n 3, 1) := by decide +kernel
theorem dX1_combine_55 : decode cX1_combine 55 = .ok (.imul, 1) := by decide +kernel
theorem dX1_combine_56 : decode cX1_combine 56 = .ok (.iload 5, 2) := by decide +kernel
theorem dX1_combine_58 : decode cX1_combine 58 = .ok (.iadd, 1) := by decide +kernel
theorem dX1_combine_59 : decode cX1_combine 59 = .ok (.baload, 1) := by decide +kernel
theorem dX1_combine_60 : decode cX1_combine 60 = .ok (.istore 6, 2) := by decide +kernel
theorem dX1_combine_62 : decode cX1_combine 62 = .ok (.aload_n 0, 1) := by decide +kernel
theorem dX1_combine_63 : decode cX1_combine 63 = .ok (.getfield 7, 3) := by decide +kernel
theorem dX1_combine_66 : decode cX1_combine 66 = .ok (.sipush 512, 3) := by decide +kernel
theorem dX1_combine_69 : decode cX1_combine 69 = .ok (.iload 4, 2) := by decide +kernel
theorem dX1_combine_71 : decode cX1_combine 71 = .ok (.imul, 1) := by decide +kernel
theorem dX1_combine_72 : decode cX1_combine 72 = .ok (.iload 5, 2) := by decide +kernel
theorem dX1_combine_74 : decode cX1_combine 74 = .ok (.iadd, 1) := by decide +kernel
theorem dX1_combine_75 : decode cX1_combine 75 = .ok (.baload, 1) := by decide +kernel
theorem dX1_combine_76 : decode cX1_combine 76 = .ok (.istore 7, 2) := by decide +kernel
theorem dX1_combine_78 : decode cX1_combine 78 = .ok (.aload_n 0, 1) := by decide +kernel
theorem dX1_combine_79 : decode cX1_combine 79 = .ok (.getfield 13, 3) := by decide +kernel
theorem dX1_combine_82 : decode cX1_combine 82 = .ok (.iload 5, 2) := by decide +kernel
theorem dX1_combine_84 : decode cX1_combine 84 = .ok (.iload_n 2, 1) := by decide +kernel
theorem dX1_combine_85 : decode cX1_combine 85 = .ok (.ifCond .ne 21, 3) := by decide +kernel
theorem dX1_combine_88 : decode cX1_combine 88 = .ok (.iload 6, 2) := by decide +kernel
theorem dX1_combine_90 : decode cX1_combine 90 = .ok (.ifCond .ne 8, 3) := by decide +kernel
theorem dX1_combine_93 : decode cX1_combine 93 = .ok (.iload 7, 2) := by decide +kernel
theorem dX1_combine_95 : decode cX1_combine 95 = .ok (.ifCond .eq 7, 3) := by decide +kernel
theorem dX1_combine_98 : decode cX1_combine 98 = .ok (.iconst 1, 1) := by decide +kernel
theorem dX1_combine_99 : decode cX1_combine 99 = .ok (.goto 65, 3) := by decide +kernel
theorem dX1_combine_102 : decode cX1_combine 102 = .ok (.iconst 0, 1) := by decide +kernel
theorem dX1_combine_103 : decode cX1_combine 103 = .ok (.goto 61, 3) := by decide +kernel
theorem dX1_combine_106 : decode cX1_combine 106 = .ok (.iload_n 2, 1) := by decide +kernel
theorem dX1_combine_107 : decode cX1_combine 107 = .ok (.iconst 1, 1) := by decide +kernel
theorem dX1_combine_108 : decode cX1_combine 108 = .ok (.if_icmp .ne 21, 3) := by decide +kernel
theorem dX1_combine_111 : decode cX1_combine 111 = .ok (.iload 6, 2) := by decide +kernel
theorem dX1_combine_113 : decode cX1_combine 113 = .ok (.ifCond .eq 12, 3) := by decide +kernel
theorem dX1_combine_116 : decode cX1_combine 116 = .ok (.iload 7, 2) := by decide +kernel
theorem dX1_combine_118 : decode cX1_combine 118 = .ok (.ifCond .eq 7, 3) := by decide +kernel
theorem dX1_combine_121 : decode cX1_combine 121 = .ok (.iconst 1, 1) := by decide +kernel
theorem dX1_combine_122 : decode cX1_combine 122 = .ok (.goto 42, 3) := by decide +kernel
theorem dX1_combine_125 : decode cX1_combine 125 = .ok (.iconst 0, 1) := by decide +kernel
theorem dX1_combine_126 : decode cX1_combine 126 = .ok (.goto 38, 3) := by decide +kernel
theorem dX1_combine_129 : decode cX1_combine 129 = .ok (.iload_n 2, 1) := by decide +kernel
theorem dX1_combine_130 : decode cX1_combine 130 = .ok (.iconst 2, 1) := by decide +kernel
theorem dX1_combine_131 : decode cX1_combine 131 = .ok (.if_icmp .ne 21, 3) := by decide +kernel
theorem dX1_combine_134 : decode cX1_combine 134 = .ok (.iload 6, 2) := by decide +kernel
theorem dX1_combine_136 : decode cX1_combine 136 = .ok (.ifCond .eq 12, 3) := by decide +kernel
theorem dX1_combine_139 : decode cX1_combine 139 = .ok (.iload 7, 2) := by decide +kernel
theorem dX1_combine_141 : decode cX1_combine 141 = .ok (.ifCond .ne 7, 3) := by decide +kernel
theorem dX1_combine_144 : decode cX1_combine 144 = .ok (.iconst 1, 1) := by decide +kernel
theorem dX1_combine_145 : decode cX1_combine 145 = .ok (.goto 19, 3) := by decide +kernel
theorem dX1_combine_148 : decode cX1_combine 148 = .ok (.iconst 0, 1) := by decide +kernel
theorem dX1_combine_149 : decode cX1_combine 149 = .ok (.goto 15, 3) := by decide +kernel
theorem dX1_combine_152 : decode cX1_combine 152 = .ok (.iload 6, 2) := by decide +kernel
theorem dX1_combine_154 : decode cX1_combine 154 = .ok (.iload 7, 2) := by decide +kernel
theorem dX1_combine_156 : decode cX1_combine 156 = .ok (.if_icmp .eq 7, 3) := by decide +kernel
theorem dX1_combine_159 : decode cX1_combine 159 = .ok (.iconst 1, 1) := by decide +kernel
theorem dX1_combine_160 : decode cX1_combine 160 = .ok (.goto 4, 3) := by decide +kernel
theorem dX1_combine_163 : decode cX1_combine 163 = .ok (.iconst 0, 1) := by decide +kernel
theorem dX1_combine_164 : decode cX1_combine 164 = .ok (.bastore, 1) := by decide +kernel
theorem dX1_combine_165 : decode cX1_combine 165 = .ok (.iinc 5 1, 3) := by decide +kernel
theorem dX1_combine_168 : decode cX1_combine 168 = .ok (.goto (-129), 3) := by decide +kernel
theorem dX1_combine_171 : decode cX1_combine 171 = .ok (.aload_n 0, 1) := by decide +kernel
theorem dX1_combine_172 : decode cX1_combine 172 = .ok (.iload_n 1, 1) := by decide +kernel
theorem dX1_combine_173 : decode cX1_combine 173 = .ok (.invokevirtual 31, 3) := by decide +kernel
theorem dX1_combine_176 : decode cX1_combine 176 = .ok (.iconst 1, 1) := by decide +kernel
theorem dX1_combine_177 : decode cX1_combine 177 = .ok (.ireturn, 1) := by decide +kernel
theorem dX1_keep_0 : decode cX1_keep 0 = .ok (.iconst 0, 1) := by decide +kernel
theorem dX1_keep_1 : decode cX1_keep 1 = .ok (.istore_n 2, 1) := by decide +kernel
theorem dX1_keep_2 : decode cX1_keep 2 = .ok (.iload_n 2, 1) := by decide +kernel
theorem dX1_keep_3 : decode cX1_keep 3 = .ok (.sipush 512, 3) := by decide +kernel
theorem dX1_keep_6 : decode cX1_keep 6 = .ok (.if_icmp .ge 27, 3) := by decide +kernel
theorem dX1_keep_9 : decode cX1_keep 9 = .ok (.aload_n 0, 1) := by decide +kernel
theorem dX1_keep_10 : decode cX1_keep 10 = .ok (.getfield 7, 3) := by decide +kernel
theorem dX1_keep_13 : decode cX1_keep 13 = .ok (.sipush 512, 3) := by decide +kernel
theorem dX1_keep_16 : decode cX1_keep 16 = .ok (.iload_n 1, 1) := by decide +kernel
theorem dX1_keep_17 : decode cX1_keep 17 = .ok (.imul, 1) := by decide +kernel
theorem dX1_keep_18 : decode cX1_keep 18 = .ok (.iload_n 2, 1) := by decide +kernel
theorem dX1_keep_19 : decode cX1_keep 19 = .ok (.iadd, 1) := by decide +kernel
theorem dX1_keep_20 : decode cX1_keep 20 = .ok (.aload_n 0, 1) := by decide +kernel
theorem dX1_keep_21 : decode cX1_keep 21 = .ok (.getfield 13, 3) := by decide +kernel
theorem dX1_keep_24 : decode cX1_keep 24 = .ok (.iload_n 2, 1) := by decide +kernel
theorem dX1_keep_25 : decode cX1_keep 25 = .ok (.baload, 1) := by decide +kernel
theorem dX1_keep_26 : decode cX1_keep 26 = .ok (.bastore, 1) := by decide +kernel
theorem dX1_keep_27 : decode cX1_keep 27 = .ok (.iinc 2 1, 3) := by decide +kernel
theorem dX1_keep_30 : decode cX1_keep 30 = .ok (.goto (-28), 3) := by decide +kernel
theorem dX1_keep_33 : decode cX1_keep 33 = .ok (.return_, 1) := by decide +kernel
theorem dX1_turn_0 : decode cX1_turn 0 = .ok (.aload_n 0, 1) := by decide +kernel
theorem dX1_turn_1 : decode cX1_turn 1 = .ok (.iload_n 1, 1) := by decide +kernel
theorem dX1_turn_2 : decode cX1_turn 2 = .ok (.invokevirtual 20, 3) := by decide +kernel
theorem dX1_turn_5 : decode cX1_turn 5 = .ok (.ifCond .eq 11, 3) := by decide +kernel
theorem dX1_turn_8 : decode cX1_turn 8 = .ok (.aload_n 0, 1) := by decide +kernel
theorem dX1_turn_9 : decode cX1_turn 9 = .ok (.iload_n 2, 1) := by decide +kernel
theorem dX1_turn_10 : decode cX1_turn 10 = .ok (.invokevirtual 20, 3) := by decide +kernel
theorem dX1_turn_13 : decode cX1_turn 13 = .ok (.ifCond .ne 5, 3) := by decide +kernel
theorem dX1_turn_16 : decode cX1_turn 16 = .ok (.iconst 0, 1) := by decide +kernel
theorem dX1_turn_17 : decode cX1_turn 17 = .ok (.ireturn, 1) := by decide +kernel
theorem dX1_turn_18 : decode cX1_turn 18 = .ok (.iconst 0, 1) := by decide +kernel
theorem dX1_turn_19 : decode cX1_turn 19 = .ok (.istore_n 3, 1) := by decide +kernel
theorem dX1_turn_20 : decode cX1_turn 20 = .ok (.iload_n 3, 1) := by decide +kernel
theorem dX1_turn_21 : decode cX1_turn 21 = .ok (.sipush 512, 3) := by decide +kernel
theorem dX1_turn_24 : decode cX1_turn 24 = .ok (.if_icmp .ge 35, 3) := by decide +kernel
theorem dX1_turn_27 : decode cX1_turn 27 = .ok (.aload_n 0, 1) := by decide +kernel
theorem dX1_turn_28 : decode cX1_turn 28 = .ok (.getfield 13, 3) := by decide +kernel
theorem dX1_turn_31 : decode cX1_turn 31 = .ok (.iload_n 3, 1) := by decide +kernel
theorem dX1_turn_32 : decode cX1_turn 32 = .ok (.aload_n 0, 1) := by decide +kernel
theorem dX1_turn_33 : decode cX1_turn 33 = .ok (.getfield 7, 3) := by decide +kernel
theorem dX1_turn_36 : decode cX1_turn 36 = .ok (.sipush 512, 3) := by decide +kernel
theorem dX1_turn_39 : decode cX1_turn 39 = .ok (.iload_n 2, 1) := by decide +kernel
theorem dX1_turn_40 : decode cX1_turn 40 = .ok (.imul, 1) := by decide +kernel
theorem dX1_turn_41 : decode cX1_turn 41 = .ok (.iload_n 3, 1) := by decide +kernel
theorem dX1_turn_42 : decode cX1_turn 42 = .ok (.iadd, 1) := by decide +kernel
theorem dX1_turn_43 : decode cX1_turn 43 = .ok (.baload, 1) := by decide +kernel
theorem dX1_turn_44 : decode cX1_turn 44 = .ok (.ifCond .ne 7, 3) := by decide +kernel
theorem dX1_turn_47 : decode cX1_turn 47 = .ok (.iconst 1, 1) := by decide +kernel
theorem dX1_turn_48 : decode cX1_turn 48 = .ok (.goto 4, 3) := by decide +kernel
theorem dX1_turn_51 : decode cX1_turn 51 = .ok (.iconst 0, 1) := by decide +kernel
theorem dX1_turn_52 : decode cX1_turn 52 = .ok (.bastore, 1) := by decide +kernel
theorem dX1_turn_53 : decode cX1_turn 53 = .ok (.iinc 3 1, 3) := by decide +kernel
theorem dX1_turn_56 : decode cX1_turn 56 = .ok (.goto (-36), 3) := by decide +kernel
theorem dX1_turn_59 : decode cX1_turn 59 = .ok (.aload_n 0, 1) := by decide +kernel
theorem dX1_turn_60 : decode cX1_turn 60 = .ok (.iload_n 1, 1) := by decide +kernel
theorem dX1_turn_61 : decode cX1_turn 61 = .ok (.invokevirtual 31, 3) := by decide +kernel
theorem dX1_turn_64 : decode cX1_turn 64 = .ok (.iconst 1, 1) := by decide +kernel
theorem dX1_turn_65 : decode cX1_turn 65 = .ok (.ireturn, 1) := by decide +kernel
theorem dX1_mirror_0 : decode cX1_mirror 0 = .ok (.aload_n 0, 1) := by decide +kernel
theorem dX1_mirror_1 : decode cX1_mirror 1 = .ok (.iload_n 1, 1) := by decide +kernel
theorem dX1_mirror_2 : decode cX1_mirror 2 = .ok (.invokevirtual 20, 3) := by decide +kernel
theorem dX1_mirror_5 : decode cX1_mirror 5 = .ok (.ifCond .eq 20, 3) := by decide +kernel
theorem dX1_mirror_8 : decode cX1_mirror 8 = .ok (.aload_n 0, 1) := by decide +kernel
theorem dX1_mirror_9 : decode cX1_mirror 9 = .ok (.iload_n 2, 1) := by decide +kernel
theorem dX1_mirror_10 : decode cX1_mirror 10 = .ok (.invokevirtual 20, 3) := by decide +kernel
theorem dX1_mirror_13 : decode cX1_mirror 13 = .ok (.ifCond .eq 12, 3) := by decide +kernel
theorem dX1_mirror_16 : decode cX1_mirror 16 = .ok (.iload_n 3, 1) := by decide +kernel
theorem dX1_mirror_17 : decode cX1_mirror 17 = .ok (.ifCond .lt 8, 3) := by decide +kernel
theorem dX1_mirror_20 : decode cX1_mirror 20 = .ok (.iload_n 3, 1) := by decide +kernel
theorem dX1_mirror_21 : decode cX1_mirror 21 = .ok (.iconst 2, 1) := by decide +kernel
theorem dX1_mirror_22 : decode cX1_mirror 22 = .ok (.if_icmp .le 5, 3) := by decide +kernel
theorem dX1_mirror_25 : decode cX1_mirror 25 = .ok (.iconst 0, 1) := by decide +kernel
theorem dX1_mirror_26 : decode cX1_mirror 26 = .ok (.ireturn, 1) := by decide +kernel
theorem dX1_mirror_27 : decode cX1_mirror 27 = .ok (.iconst 0, 1) := by decide +kernel
theorem dX1_mirror_28 : decode cX1_mirror 28 = .ok (.istore 4, 2) := by decide +kernel
theorem dX1_mirror_30 : decode cX1_mirror 30 = .ok (.iload 4, 2) := by decide +kernel
theorem dX1_mirror_32 : decode cX1_mirror 32 = .ok (.sipush 512, 3) := by decide +kernel
theorem dX1_mirror_35 : decode cX1_mirror 35 = .ok (.if_icmp .ge 36, 3) := by decide +kernel
theorem dX1_mirror_38 : decode cX1_mirror 38 = .ok (.aload_n 0, 1) := by decide +kernel
theorem dX1_mirror_39 : decode cX1_mirror 39 = .ok (.getfield 13, 3) := by decide +kernel
theorem dX1_mirror_42 : decode cX1_mirror 42 = .ok (.iload 4, 2) := by decide +kernel
theorem dX1_mirror_44 : decode cX1_mirror 44 = .ok (.aload_n 0, 1) := by decide +kernel
theorem dX1_mirror_45 : decode cX1_mirror 45 = .ok (.getfield 7, 3) := by decide +kernel
theorem dX1_mirror_48 : decode cX1_mirror 48 = .ok (.sipush 512, 3) := by decide +kernel
theorem dX1_mirror_51 : decode cX1_mirror 51 = .ok (.iload_n 2, 1) := by decide +kernel
theorem dX1_mirror_52 : decode cX1_mirror 52 = .ok (.imul, 1) := by decide +kernel
theorem dX1_mirror_53 : decode cX1_mirror 53 = .ok (.iload 4, 2) := by decide +kernel
theorem dX1_mirror_55 : decode cX1_mirror 55 = .ok (.bipush 7, 2) := by decide +kernel
theorem dX1_mirror_57 : decode cX1_mirror 57 = .ok (.iconst 3, 1) := by decide +kernel
theorem dX1_mirror_58 : decode cX1_mirror 58 = .ok (.iload_n 3, 1) := by decide +kernel
theorem dX1_mirror_59 : decode cX1_mirror 59 = .ok (.imul, 1) := by decide +kernel
theorem dX1_mirror_60 : decode cX1_mirror 60 = .ok (.ishl, 1) := by decide +kernel
theorem dX1_mirror_61 : decode cX1_mirror 61 = .ok (.ixor, 1) := by decide +kernel
theorem dX1_mirror_62 : decode cX1_mirror 62 = .ok (.iadd, 1) := by decide +kernel
theorem dX1_mirror_63 : decode cX1_mirror 63 = .ok (.baload, 1) := by decide +kernel
theorem dX1_mirror_64 : decode cX1_mirror 64 = .ok (.bastore, 1) := by decide +kernel
theorem dX1_mirror_65 : decode cX1_mirror 65 = .ok (.iinc 4 1, 3) := by decide +kernel
theorem dX1_mirror_68 : decode cX1_mirror 68 = .ok (.goto (-38), 3) := by decide +kernel
theorem dX1_mirror_71 : decode cX1_mirror 71 = .ok (.aload_n 0, 1) := by decide +kernel
theorem dX1_mirror_72 : decode cX1_mirror 72 = .ok (.iload_n 1, 1) := by decide +kernel
theorem dX1_mirror_73 : decode cX1_mirror 73 = .ok (.invokevirtual 31, 3) := by decide +kernel
theorem dX1_mirror_76 : decode cX1_mirror 76 = .ok (.iconst 1, 1) := by decide +kernel
theorem dX1_mirror_77 : decode cX1_mirror 77 = .ok (.ireturn, 1) := by decide +kernel
theorem dX1_volume_0 : decode cX1_volume 0 = .ok (.iconst 0, 1) := by decide +kernel
theorem dX1_volume_1 : decode cX1_volume 1 = .ok (.istore_n 2, 1) := by decide +kernel
theorem dX1_volume_2 : decode cX1_volume 2 = .ok (.iconst 0, 1) := by decide +kernel
theorem dX1_volume_3 : decode cX1_volume 3 = .ok (.istore_n 3, 1) := by decide +kernel
theorem dX1_volume_4 : decode cX1_volume 4 = .ok (.iload_n 3, 1) := by decide +kernel
theorem dX1_volume_5 : decode cX1_volume 5 = .ok (.sipush 512, 3) := by decide +kernel
theorem dX1_volume_8 : decode cX1_volume 8 = .ok (.if_icmp .ge 40, 3) := by decide +kernel
theorem dX1_volume_11 : decode cX1_volume 11 = .ok (.aload_n 0, 1) := by decide +kernel
theorem dX1_volume_12 : decode cX1_volume 12 = .ok (.iload_n 1, 1) := by decide +kernel
theorem dX1_volume_13 : decode cX1_volume 13 = .ok (.invokevirtual 20, 3) := by decide +kernel
theorem dX1_volume_16 : decode cX1_volume 16 = .ok (.ifCond .eq 32, 3) := by decide +kernel
theorem dX1_volume_19 : decode cX1_volume 19 = .ok (.aload_n 0, 1) := by decide +kernel
theorem dX1_volume_20 : decode cX1_volume 20 = .ok (.getfield 7, 3) := by decide +kernel
theorem dX1_volume_23 : decode cX1_volume 23 = .ok (.sipush 512, 3) := by decide +kernel
theorem dX1_volume_26 : decode cX1_volume 26 = .ok (.iload_n 1, 1) := by decide +kernel
theorem dX1_volume_27 : decode cX1_volume 27 = .ok (.imul, 1) := by decide +kernel
theorem dX1_volume_28 : decode cX1_volume 28 = .ok (.iload_n 3, 1) := by decide +kernel
theorem dX1_volume_29 : decode cX1_volume 29 = .ok (.iadd, 1) := by decide +kernel
theorem dX1_volume_30 : decode cX1_volume 30 = .ok (.baload, 1) := by decide +kernel
theorem dX1_volume_31 : decode cX1_volume 31 = .ok (.ifCond .eq 9, 3) := by decide +kernel
theorem dX1_volume_34 : decode cX1_volume 34 = .ok (.iload_n 2, 1) := by decide +kernel
theorem dX1_volume_35 : decode cX1_volume 35 = .ok (.iconst 1, 1) := by decide +kernel
theorem dX1_volume_36 : decode cX1_volume 36 = .ok (.iadd, 1) := by decide +kernel
theorem dX1_volume_37 : decode cX1_volume 37 = .ok (.goto 4, 3) := by decide +kernel
theorem dX1_volume_40 : decode cX1_volume 40 = .ok (.iload_n 2, 1) := by decide +kernel
theorem dX1_volume_41 : decode cX1_volume 41 = .ok (.istore_n 2, 1) := by decide +kernel
theorem dX1_volume_42 : decode cX1_volume 42 = .ok (.iinc 3 1, 3) := by decide +kernel
theorem dX1_volume_45 : decode cX1_volume 45 = .ok (.goto (-41), 3) := by decide +kernel
theorem dX1_volume_48 : decode cX1_volume 48 = .ok (.aload_n 0, 1) := by decide +kernel
theorem dX1_volume_49 : decode cX1_volume 49 = .ok (.iload_n 1, 1) := by decide +kernel
theorem dX1_volume_50 : decode cX1_volume 50 = .ok (.invokevirtual 20, 3) := by decide +kernel
theorem dX1_volume_53 : decode cX1_volume 53 = .ok (.ifCond .eq 7, 3) := by decide +kernel
theorem dX1_volume_56 : decode cX1_volume 56 = .ok (.iload_n 2, 1) := by decide +kernel
theorem dX1_volume_57 : decode cX1_volume 57 = .ok (.goto 4, 3) := by decide +kernel
theorem dX1_volume_60 : decode cX1_volume 60 = .ok (.iconst (-1), 1) := by decide +kernel
theorem dX1_volume_61 : decode cX1_volume 61 = .ok (.ireturn, 1) := by decide +kernel
theorem dX1_has_0 : decode cX1_has 0 = .ok (.aload_n 0, 1) := by decide +kernel
theorem dX1_has_1 : decode cX1_has 1 = .ok (.iload_n 1, 1) := by decide +kernel
theorem dX1_has_2 : decode cX1_has 2 = .ok (.invokevirtual 20, 3) := by decide +kernel
theorem dX1_has_5 : decode cX1_has 5 = .ok (.ifCond .eq 30, 3) := by decide +kernel
theorem dX1_has_8 : decode cX1_has 8 = .ok (.aload_n 0, 1) := by decide +kernel
theorem dX1_has_9 : decode cX1_has 9 = .ok (.iload_n 2, 1) := by decide +kernel
theorem dX1_has_10 : decode cX1_has 10 = .ok (.invokevirtual 24, 3) := by decide +kernel
theorem dX1_has_13 : decode cX1_has 13 = .ok (.ifCond .eq 22, 3) := by decide +kernel
theorem dX1_has_16 : decode cX1_has 16 = .ok (.aload_n 0, 1) := by decide +kernel
theorem dX1_has_17 : decode cX1_has 17 = .ok (.getfield 7, 3) := by decide +kernel
theorem dX1_has_20 : decode cX1_has 20 = .ok (.sipush 512, 3) := by decide +kernel
theorem dX1_has_23 : decode cX1_has 23 = .ok (.iload_n 1, 1) := by decide +kernel
theorem dX1_has_24 : decode cX1_has 24 = .ok (.imul, 1) := by decide +kernel
theorem dX1_has_25 : decode cX1_has 25 = .ok (.iload_n 2, 1) := by decide +kernel
theorem dX1_has_26 : decode cX1_has 26 = .ok (.iadd, 1) := by decide +kernel
theorem dX1_has_27 : decode cX1_has 27 = .ok (.baload, 1) := by decide +kernel
theorem dX1_has_28 : decode cX1_has 28 = .ok (.ifCond .eq 7, 3) := by decide +kernel
end
section
set_option maxRecDepth 100000
theorem dX1_has_31 : decode cX1_has 31 = .ok (.iconst 1, 1) := by decide +kernel
theorem dX1_has_32 : decode cX1_has 32 = .ok (.goto 4, 3) := by decide +kernel
theorem dX1_has_35 : decode cX1_has 35 = .ok (.iconst 0, 1) := by decide +kernel
theorem dX1_has_36 : decode cX1_has 36 = .ok (.ireturn, 1) := by decide +kernel
theorem dX1_same_0 : decode cX1_same 0 = .ok (.aload_n 0, 1) := by decide +kernel
theorem dX1_same_1 : decode cX1_same 1 = .ok (.iload_n 1, 1) := by decide +kernel
theorem dX1_same_2 : decode cX1_same 2 = .ok (.iload_n 2, 1) := by decide +kernel
theorem dX1_same_3 : decode cX1_same 3 = .ok (.invokevirtual 35, 3) := by decide +kernel
theorem dX1_same_6 : decode cX1_same 6 = .ok (.ifCond .eq 16, 3) := by decide +kernel
theorem dX1_same_9 : decode cX1_same 9 = .ok (.aload_n 0, 1) := by decide +kernel
theorem dX1_same_10 : decode cX1_same 10 = .ok (.iload_n 2, 1) := by decide +kernel
theorem dX1_same_11 : decode cX1_same 11 = .ok (.iload_n 1, 1) := by decide +kernel
theorem dX1_same_12 : decode cX1_same 12 = .ok (.invokevirtual 35, 3) := by decide +kernel
theorem dX1_same_15 : decode cX1_same 15 = .ok (.ifCond .eq 7, 3) := by decide +kernel
theorem dX1_same_18 : decode cX1_same 18 = .ok (.iconst 1, 1) := by decide +kernel
theorem dX1_same_19 : decode cX1_same 19 = .ok (.goto 4, 3) := by decide +kernel
theorem dX1_same_22 : decode cX1_same 22 = .ok (.iconst 0, 1) := by decide +kernel
theorem dX1_same_23 : decode cX1_same 23 = .ok (.ireturn, 1) := by decide +kernel
theorem dX1_inside_0 : decode cX1_inside 0 = .ok (.aload_n 0, 1) := by decide +kernel
theorem dX1_inside_1 : decode cX1_inside 1 = .ok (.iload_n 1, 1) := by decide +kernel
theorem dX1_inside_2 : decode cX1_inside 2 = .ok (.invokevirtual 20, 3) := by decide +kernel
theorem dX1_inside_5 : decode cX1_inside 5 = .ok (.ifCond .eq 15, 3) := by decide +kernel
theorem dX1_inside_8 : decode cX1_inside 8 = .ok (.aload_n 0, 1) := by decide +kernel
theorem dX1_inside_9 : decode cX1_inside 9 = .ok (.iload_n 2, 1) := by decide +kernel
theorem dX1_inside_10 : decode cX1_inside 10 = .ok (.invokevirtual 20, 3) := by decide +kernel
theorem dX1_inside_13 : decode cX1_inside 13 = .ok (.ifCond .eq 7, 3) := by decide +kernel
theorem dX1_inside_16 : decode cX1_inside 16 = .ok (.iconst 1, 1) := by decide +kernel
theorem dX1_inside_17 : decode cX1_inside 17 = .ok (.goto 4, 3) := by decide +kernel
theorem dX1_inside_20 : decode cX1_inside 20 = .ok (.iconst 0, 1) := by decide +kernel
theorem dX1_inside_21 : decode cX1_inside 21 = .ok (.istore_n 3, 1) := by decide +kernel
theorem dX1_inside_22 : decode cX1_inside 22 = .ok (.iconst 0, 1) := by decide +kernel
theorem dX1_inside_23 : decode cX1_inside 23 = .ok (.istore 4, 2) := by decide +kernel
theorem dX1_inside_25 : decode cX1_inside 25 = .ok (.iload 4, 2) := by decide +kernel
theorem dX1_inside_27 : decode cX1_inside 27 = .ok (.sipush 512, 3) := by decide +kernel
theorem dX1_inside_30 : decode cX1_inside 30 = .ok (.if_icmp .ge 51, 3) := by decide +kernel
theorem dX1_inside_33 : decode cX1_inside 33 = .ok (.iload_n 3, 1) := by decide +kernel
theorem dX1_inside_34 : decode cX1_inside 34 = .ok (.ifCond .eq 47, 3) := by decide +kernel
theorem dX1_inside_37 : decode cX1_inside 37 = .ok (.aload_n 0, 1) := by decide +kernel
theorem dX1_inside_38 : decode cX1_inside 38 = .ok (.getfield 7, 3) := by decide +kernel
theorem dX1_inside_41 : decode cX1_inside 41 = .ok (.sipush 512, 3) := by decide +kernel
theorem dX1_inside_44 : decode cX1_inside 44 = .ok (.iload_n 1, 1) := by decide +kernel
theorem dX1_inside_45 : decode cX1_inside 45 = .ok (.imul, 1) := by decide +kernel
theorem dX1_inside_46 : decode cX1_inside 46 = .ok (.iload 4, 2) := by decide +kernel
theorem dX1_inside_48 : decode cX1_inside 48 = .ok (.iadd, 1) := by decide +kernel
theorem dX1_inside_49 : decode cX1_inside 49 = .ok (.baload, 1) := by decide +kernel
theorem dX1_inside_50 : decode cX1_inside 50 = .ok (.ifCond .eq 19, 3) := by decide +kernel
theorem dX1_inside_53 : decode cX1_inside 53 = .ok (.aload_n 0, 1) := by decide +kernel
theorem dX1_inside_54 : decode cX1_inside 54 = .ok (.getfield 7, 3) := by decide +kernel
theorem dX1_inside_57 : decode cX1_inside 57 = .ok (.sipush 512, 3) := by decide +kernel
theorem dX1_inside_60 : decode cX1_inside 60 = .ok (.iload_n 2, 1) := by decide +kernel
theorem dX1_inside_61 : decode cX1_inside 61 = .ok (.imul, 1) := by decide +kernel
theorem dX1_inside_62 : decode cX1_inside 62 = .ok (.iload 4, 2) := by decide +kernel
theorem dX1_inside_64 : decode cX1_inside 64 = .ok (.iadd, 1) := by decide +kernel
theorem dX1_inside_65 : decode cX1_inside 65 = .ok (.baload, 1) := by decide +kernel
theorem dX1_inside_66 : decode cX1_inside 66 = .ok (.ifCond .eq 7, 3) := by decide +kernel
theorem dX1_inside_69 : decode cX1_inside 69 = .ok (.iconst 1, 1) := by decide +kernel
theorem dX1_inside_70 : decode cX1_inside 70 = .ok (.goto 4, 3) := by decide +kernel
theorem dX1_inside_73 : decode cX1_inside 73 = .ok (.iconst 0, 1) := by decide +kernel
theorem dX1_inside_74 : decode cX1_inside 74 = .ok (.istore_n 3, 1) := by decide +kernel
theorem dX1_inside_75 : decode cX1_inside 75 = .ok (.iinc 4 1, 3) := by decide +kernel
theorem dX1_inside_78 : decode cX1_inside 78 = .ok (.goto (-53), 3) := by decide +kernel
theorem dX1_inside_81 : decode cX1_inside 81 = .ok (.iload_n 3, 1) := by decide +kernel
theorem dX1_inside_82 : decode cX1_inside 82 = .ok (.ireturn, 1) := by decide +kernel
theorem dX1_cubes_0 : decode cX1_cubes 0 = .ok (.iconst 0, 1) := by decide +kernel
theorem dX1_cubes_1 : decode cX1_cubes 1 = .ok (.istore_n 2, 1) := by decide +kernel
theorem dX1_cubes_2 : decode cX1_cubes 2 = .ok (.iconst 0, 1) := by decide +kernel
theorem dX1_cubes_3 : decode cX1_cubes 3 = .ok (.istore_n 3, 1) := by decide +kernel
theorem dX1_cubes_4 : decode cX1_cubes 4 = .ok (.iload_n 3, 1) := by decide +kernel
theorem dX1_cubes_5 : decode cX1_cubes 5 = .ok (.sipush 512, 3) := by decide +kernel
theorem dX1_cubes_8 : decode cX1_cubes 8 = .ok (.if_icmp .ge 43, 3) := by decide +kernel
theorem dX1_cubes_11 : decode cX1_cubes 11 = .ok (.aload_n 0, 1) := by decide +kernel
theorem dX1_cubes_12 : decode cX1_cubes 12 = .ok (.iload_n 1, 1) := by decide +kernel
theorem dX1_cubes_13 : decode cX1_cubes 13 = .ok (.invokevirtual 20, 3) := by decide +kernel
theorem dX1_cubes_16 : decode cX1_cubes 16 = .ok (.ifCond .eq 35, 3) := by decide +kernel
theorem dX1_cubes_19 : decode cX1_cubes 19 = .ok (.aload_n 0, 1) := by decide +kernel
theorem dX1_cubes_20 : decode cX1_cubes 20 = .ok (.iload_n 1, 1) := by decide +kernel
theorem dX1_cubes_21 : decode cX1_cubes 21 = .ok (.iload_n 3, 1) := by decide +kernel
theorem dX1_cubes_22 : decode cX1_cubes 22 = .ok (.invokevirtual 43, 3) := by decide +kernel
theorem dX1_cubes_25 : decode cX1_cubes 25 = .ok (.istore 4, 2) := by decide +kernel
theorem dX1_cubes_27 : decode cX1_cubes 27 = .ok (.aload_n 0, 1) := by decide +kernel
theorem dX1_cubes_28 : decode cX1_cubes 28 = .ok (.iload_n 3, 1) := by decide +kernel
theorem dX1_cubes_29 : decode cX1_cubes 29 = .ok (.iload 4, 2) := by decide +kernel
theorem dX1_cubes_31 : decode cX1_cubes 31 = .ok (.invokevirtual 46, 3) := by decide +kernel
theorem dX1_cubes_34 : decode cX1_cubes 34 = .ok (.ifCond .eq 9, 3) := by decide +kernel
theorem dX1_cubes_37 : decode cX1_cubes 37 = .ok (.iload_n 2, 1) := by decide +kernel
theorem dX1_cubes_38 : decode cX1_cubes 38 = .ok (.iconst 1, 1) := by decide +kernel
theorem dX1_cubes_39 : decode cX1_cubes 39 = .ok (.iadd, 1) := by decide +kernel
theorem dX1_cubes_40 : decode cX1_cubes 40 = .ok (.goto 4, 3) := by decide +kernel
theorem dX1_cubes_43 : decode cX1_cubes 43 = .ok (.iload_n 2, 1) := by decide +kernel
theorem dX1_cubes_44 : decode cX1_cubes 44 = .ok (.istore_n 2, 1) := by decide +kernel
theorem dX1_cubes_45 : decode cX1_cubes 45 = .ok (.iinc 3 1, 3) := by decide +kernel
theorem dX1_cubes_48 : decode cX1_cubes 48 = .ok (.goto (-44), 3) := by decide +kernel
theorem dX1_cubes_51 : decode cX1_cubes 51 = .ok (.aload_n 0, 1) := by decide +kernel
theorem dX1_cubes_52 : decode cX1_cubes 52 = .ok (.iload_n 1, 1) := by decide +kernel
theorem dX1_cubes_53 : decode cX1_cubes 53 = .ok (.invokevirtual 20, 3) := by decide +kernel
theorem dX1_cubes_56 : decode cX1_cubes 56 = .ok (.ifCond .eq 7, 3) := by decide +kernel
theorem dX1_cubes_59 : decode cX1_cubes 59 = .ok (.iload_n 2, 1) := by decide +kernel
theorem dX1_cubes_60 : decode cX1_cubes 60 = .ok (.goto 4, 3) := by decide +kernel
theorem dX1_cubes_63 : decode cX1_cubes 63 = .ok (.iconst (-1), 1) := by decide +kernel
theorem dX1_cubes_64 : decode cX1_cubes 64 = .ok (.ireturn, 1) := by decide +kernel
theorem dX1_order_0 : decode cX1_order 0 = .ok (.aload_n 0, 1) := by decide +kernel
theorem dX1_order_1 : decode cX1_order 1 = .ok (.iload_n 1, 1) := by decide +kernel
theorem dX1_order_2 : decode cX1_order 2 = .ok (.invokevirtual 20, 3) := by decide +kernel
theorem dX1_order_5 : decode cX1_order 5 = .ok (.ifCond .eq 11, 3) := by decide +kernel
theorem dX1_order_8 : decode cX1_order 8 = .ok (.aload_n 0, 1) := by decide +kernel
theorem dX1_order_9 : decode cX1_order 9 = .ok (.iload_n 2, 1) := by decide +kernel
theorem dX1_order_10 : decode cX1_order 10 = .ok (.invokevirtual 24, 3) := by decide +kernel
theorem dX1_order_13 : decode cX1_order 13 = .ok (.ifCond .ne 5, 3) := by decide +kernel
theorem dX1_order_16 : decode cX1_order 16 = .ok (.iconst (-1), 1) := by decide +kernel
theorem dX1_order_17 : decode cX1_order 17 = .ok (.ireturn, 1) := by decide +kernel
theorem dX1_order_18 : decode cX1_order 18 = .ok (.iconst 3, 1) := by decide +kernel
theorem dX1_order_19 : decode cX1_order 19 = .ok (.istore_n 3, 1) := by decide +kernel
theorem dX1_order_20 : decode cX1_order 20 = .ok (.iload_n 3, 1) := by decide +kernel
theorem dX1_order_21 : decode cX1_order 21 = .ok (.ifCond .le 19, 3) := by decide +kernel
theorem dX1_order_24 : decode cX1_order 24 = .ok (.aload_n 0, 1) := by decide +kernel
theorem dX1_order_25 : decode cX1_order 25 = .ok (.iload_n 1, 1) := by decide +kernel
theorem dX1_order_26 : decode cX1_order 26 = .ok (.iload_n 2, 1) := by decide +kernel
theorem dX1_order_27 : decode cX1_order 27 = .ok (.iload_n 3, 1) := by decide +kernel
theorem dX1_order_28 : decode cX1_order 28 = .ok (.invokevirtual 49, 3) := by decide +kernel
theorem dX1_order_31 : decode cX1_order 31 = .ok (.ifCond .ne 9, 3) := by decide +kernel
theorem dX1_order_34 : decode cX1_order 34 = .ok (.iinc 3 (-1), 3) := by decide +kernel
theorem dX1_order_37 : decode cX1_order 37 = .ok (.goto (-17), 3) := by decide +kernel
theorem dX1_order_40 : decode cX1_order 40 = .ok (.iload_n 3, 1) := by decide +kernel
theorem dX1_order_41 : decode cX1_order 41 = .ok (.ireturn, 1) := by decide +kernel
theorem dX1_even_0 : decode cX1_even 0 = .ok (.iconst 1, 1) := by decide +kernel
theorem dX1_even_1 : decode cX1_even 1 = .ok (.istore 4, 2) := by decide +kernel
theorem dX1_even_3 : decode cX1_even 3 = .ok (.iconst 0, 1) := by decide +kernel
theorem dX1_even_4 : decode cX1_even 4 = .ok (.istore 5, 2) := by decide +kernel
theorem dX1_even_6 : decode cX1_even 6 = .ok (.iload 5, 2) := by decide +kernel
theorem dX1_even_8 : decode cX1_even 8 = .ok (.sipush 512, 3) := by decide +kernel
theorem dX1_even_11 : decode cX1_even 11 = .ok (.if_icmp .ge 60, 3) := by decide +kernel
theorem dX1_even_14 : decode cX1_even 14 = .ok (.iload 4, 2) := by decide +kernel
theorem dX1_even_16 : decode cX1_even 16 = .ok (.ifCond .eq 46, 3) := by decide +kernel
theorem dX1_even_19 : decode cX1_even 19 = .ok (.aload_n 0, 1) := by decide +kernel
theorem dX1_even_20 : decode cX1_even 20 = .ok (.iload_n 2, 1) := by decide +kernel
theorem dX1_even_21 : decode cX1_even 21 = .ok (.iload 5, 2) := by decide +kernel
theorem dX1_even_23 : decode cX1_even 23 = .ok (.iload_n 3, 1) := by decide +kernel
theorem dX1_even_24 : decode cX1_even 24 = .ok (.invokevirtual 39, 3) := by decide +kernel
theorem dX1_even_27 : decode cX1_even 27 = .ok (.ifCond .eq 31, 3) := by decide +kernel
theorem dX1_even_30 : decode cX1_even 30 = .ok (.aload_n 0, 1) := by decide +kernel
theorem dX1_even_31 : decode cX1_even 31 = .ok (.getfield 7, 3) := by decide +kernel
theorem dX1_even_34 : decode cX1_even 34 = .ok (.sipush 512, 3) := by decide +kernel
theorem dX1_even_37 : decode cX1_even 37 = .ok (.iload_n 1, 1) := by decide +kernel
theorem dX1_even_38 : decode cX1_even 38 = .ok (.imul, 1) := by decide +kernel
theorem dX1_even_39 : decode cX1_even 39 = .ok (.iload 5, 2) := by decide +kernel
theorem dX1_even_41 : decode cX1_even 41 = .ok (.iadd, 1) := by decide +kernel
theorem dX1_even_42 : decode cX1_even 42 = .ok (.baload, 1) := by decide +kernel
theorem dX1_even_43 : decode cX1_even 43 = .ok (.aload_n 0, 1) := by decide +kernel
theorem dX1_even_44 : decode cX1_even 44 = .ok (.getfield 7, 3) := by decide +kernel
theorem dX1_even_47 : decode cX1_even 47 = .ok (.sipush 512, 3) := by decide +kernel
theorem dX1_even_50 : decode cX1_even 50 = .ok (.iload_n 1, 1) := by decide +kernel
theorem dX1_even_51 : decode cX1_even 51 = .ok (.imul, 1) := by decide +kernel
theorem dX1_even_52 : decode cX1_even 52 = .ok (.iload_n 2, 1) := by decide +kernel
theorem dX1_even_53 : decode cX1_even 53 = .ok (.iadd, 1) := by decide +kernel
theorem dX1_even_54 : decode cX1_even 54 = .ok (.baload, 1) := by decide +kernel
theorem dX1_even_55 : decode cX1_even 55 = .ok (.if_icmp .ne 7, 3) := by decide +kernel
theorem dX1_even_58 : decode cX1_even 58 = .ok (.iconst 1, 1) := by decide +kernel
theorem dX1_even_59 : decode cX1_even 59 = .ok (.goto 4, 3) := by decide +kernel
theorem dX1_even_62 : decode cX1_even 62 = .ok (.iconst 0, 1) := by decide +kernel
theorem dX1_even_63 : decode cX1_even 63 = .ok (.istore 4, 2) := by decide +kernel
theorem dX1_even_65 : decode cX1_even 65 = .ok (.iinc 5 1, 3) := by decide +kernel
theorem dX1_even_68 : decode cX1_even 68 = .ok (.goto (-62), 3) := by decide +kernel
theorem dX1_even_71 : decode cX1_even 71 = .ok (.iload 4, 2) := by decide +kernel
theorem dX1_even_73 : decode cX1_even 73 = .ok (.ireturn, 1) := by decide +kernel
theorem dX1_together_0 : decode cX1_together 0 = .ok (.aload_n 0, 1) := by decide +kernel
theorem dX1_together_1 : decode cX1_together 1 = .ok (.iload_n 1, 1) := by decide +kernel
theorem dX1_together_2 : decode cX1_together 2 = .ok (.iconst 0, 1) := by decide +kernel
theorem dX1_together_3 : decode cX1_together 3 = .ok (.invokevirtual 16, 3) := by decide +kernel
theorem dX1_together_6 : decode cX1_together 6 = .ok (.iload_n 3, 1) := by decide +kernel
theorem dX1_together_7 : decode cX1_together 7 = .ok (.ishr, 1) := by decide +kernel
theorem dX1_together_8 : decode cX1_together 8 = .ok (.aload_n 0, 1) := by decide +kernel
theorem dX1_together_9 : decode cX1_together 9 = .ok (.iload_n 2, 1) := by decide +kernel
theorem dX1_together_10 : decode cX1_together 10 = .ok (.iconst 0, 1) := by decide +kernel
theorem dX1_together_11 : decode cX1_together 11 = .ok (.invokevirtual 16, 3) := by decide +kernel
theorem dX1_together_14 : decode cX1_together 14 = .ok (.iload_n 3, 1) := by decide +kernel
theorem dX1_together_15 : decode cX1_together 15 = .ok (.ishr, 1) := by decide +kernel
theorem dX1_together_16 : decode cX1_together 16 = .ok (.if_icmp .ne 45, 3) := by decide +kernel
theorem dX1_together_19 : decode cX1_together 19 = .ok (.aload_n 0, 1) := by decide +kernel
theorem dX1_together_20 : decode cX1_together 20 = .ok (.iload_n 1, 1) := by decide +kernel
theorem dX1_together_21 : decode cX1_together 21 = .ok (.iconst 1, 1) := by decide +kernel
theorem dX1_together_22 : decode cX1_together 22 = .ok (.invokevirtual 16, 3) := by decide +kernel
theorem dX1_together_25 : decode cX1_together 25 = .ok (.iload_n 3, 1) := by decide +kernel
theorem dX1_together_26 : decode cX1_together 26 = .ok (.ishr, 1) := by decide +kernel
theorem dX1_together_27 : decode cX1_together 27 = .ok (.aload_n 0, 1) := by decide +kernel
theorem dX1_together_28 : decode cX1_together 28 = .ok (.iload_n 2, 1) := by decide +kernel
theorem dX1_together_29 : decode cX1_together 29 = .ok (.iconst 1, 1) := by decide +kernel
theorem dX1_together_30 : decode cX1_together 30 = .ok (.invokevirtual 16, 3) := by decide +kernel
theorem dX1_together_33 : decode cX1_together 33 = .ok (.iload_n 3, 1) := by decide +kernel
theorem dX1_together_34 : decode cX1_together 34 = .ok (.ishr, 1) := by decide +kernel
theorem dX1_together_35 : decode cX1_together 35 = .ok (.if_icmp .ne 26, 3) := by decide +kernel
theorem dX1_together_38 : decode cX1_together 38 = .ok (.aload_n 0, 1) := by decide +kernel
theorem dX1_together_39 : decode cX1_together 39 = .ok (.iload_n 1, 1) := by decide +kernel
theorem dX1_together_40 : decode cX1_together 40 = .ok (.iconst 2, 1) := by decide +kernel
theorem dX1_together_41 : decode cX1_together 41 = .ok (.invokevirtual 16, 3) := by decide +kernel
theorem dX1_together_44 : decode cX1_together 44 = .ok (.iload_n 3, 1) := by decide +kernel
theorem dX1_together_45 : decode cX1_together 45 = .ok (.ishr, 1) := by decide +kernel
theorem dX1_together_46 : decode cX1_together 46 = .ok (.aload_n 0, 1) := by decide +kernel
theorem dX1_together_47 : decode cX1_together 47 = .ok (.iload_n 2, 1) := by decide +kernel
theorem dX1_together_48 : decode cX1_together 48 = .ok (.iconst 2, 1) := by decide +kernel
theorem dX1_together_49 : decode cX1_together 49 = .ok (.invokevirtual 16, 3) := by decide +kernel
theorem dX1_together_52 : decode cX1_together 52 = .ok (.iload_n 3, 1) := by decide +kernel
theorem dX1_together_53 : decode cX1_together 53 = .ok (.ishr, 1) := by decide +kernel
theorem dX1_together_54 : decode cX1_together 54 = .ok (.if_icmp .ne 7, 3) := by decide +kernel
theorem dX1_together_57 : decode cX1_together 57 = .ok (.iconst 1, 1) := by decide +kernel
theorem dX1_together_58 : decode cX1_together 58 = .ok (.goto 4, 3) := by decide +kernel
theorem dX1_together_61 : decode cX1_together 61 = .ok (.iconst 0, 1) := by decide +kernel
theorem dX1_together_62 : decode cX1_together 62 = .ok (.ireturn, 1) := by decide +kernel
theorem dX1_corner_0 : decode cX1_corner 0 = .ok (.iconst 1, 1) := by decide +kernel
theorem dX1_corner_1 : decode cX1_corner 1 = .ok (.iload_n 2, 1) := by decide +kernel
theorem dX1_corner_2 : decode cX1_corner 2 = .ok (.ishl, 1) := by decide +kernel
theorem dX1_corner_3 : decode cX1_corner 3 = .ok (.iconst 1, 1) := by decide +kernel
theorem dX1_corner_4 : decode cX1_corner 4 = .ok (.isub, 1) := by decide +kernel
theorem dX1_corner_5 : decode cX1_corner 5 = .ok (.istore_n 3, 1) := by decide +kernel
theorem dX1_corner_6 : decode cX1_corner 6 = .ok (.aload_n 0, 1) := by decide +kernel
theorem dX1_corner_7 : decode cX1_corner 7 = .ok (.iload_n 1, 1) := by decide +kernel
theorem dX1_corner_8 : decode cX1_corner 8 = .ok (.iconst 0, 1) := by decide +kernel
theorem dX1_corner_9 : decode cX1_corner 9 = .ok (.invokevirtual 16, 3) := by decide +kernel
theorem dX1_corner_12 : decode cX1_corner 12 = .ok (.iload_n 3, 1) := by decide +kernel
theorem dX1_corner_13 : decode cX1_corner 13 = .ok (.iand, 1) := by decide +kernel
theorem dX1_corner_14 : decode cX1_corner 14 = .ok (.ifCond .ne 29, 3) := by decide +kernel
theorem dX1_corner_17 : decode cX1_corner 17 = .ok (.aload_n 0, 1) := by decide +kernel
theorem dX1_corner_18 : decode cX1_corner 18 = .ok (.iload_n 1, 1) := by decide +kernel
theorem dX1_corner_19 : decode cX1_corner 19 = .ok (.iconst 1, 1) := by decide +kernel
theorem dX1_corner_20 : decode cX1_corner 20 = .ok (.invokevirtual 16, 3) := by decide +kernel
theorem dX1_corner_23 : decode cX1_corner 23 = .ok (.iload_n 3, 1) := by decide +kernel
theorem dX1_corner_24 : decode cX1_corner 24 = .ok (.iand, 1) := by decide +kernel
theorem dX1_corner_25 : decode cX1_corner 25 = .ok (.ifCond .ne 18, 3) := by decide +kernel
theorem dX1_corner_28 : decode cX1_corner 28 = .ok (.aload_n 0, 1) := by decide +kernel
theorem dX1_corner_29 : decode cX1_corner 29 = .ok (.iload_n 1, 1) := by decide +kernel
theorem dX1_corner_30 : decode cX1_corner 30 = .ok (.iconst 2, 1) := by decide +kernel
theorem dX1_corner_31 : decode cX1_corner 31 = .ok (.invokevirtual 16, 3) := by decide +kernel
theorem dX1_corner_34 : decode cX1_corner 34 = .ok (.iload_n 3, 1) := by decide +kernel
theorem dX1_corner_35 : decode cX1_corner 35 = .ok (.iand, 1) := by decide +kernel
theorem dX1_corner_36 : decode cX1_corner 36 = .ok (.ifCond .ne 7, 3) := by decide +kernel
theorem dX1_corner_39 : decode cX1_corner 39 = .ok (.iconst 1, 1) := by decide +kernel
theorem dX1_corner_40 : decode cX1_corner 40 = .ok (.goto 4, 3) := by decide +kernel
theorem dX1_corner_43 : decode cX1_corner 43 = .ok (.iconst 0, 1) := by decide +kernel
theorem dX1_corner_44 : decode cX1_corner 44 = .ok (.ireturn, 1) := by decide +kernel
theorem dX1_surface_0 : decode cX1_surface 0 = .ok (.iconst 0, 1) := by decide +kernel
theorem dX1_surface_1 : decode cX1_surface 1 = .ok (.istore_n 2, 1) := by decide +kernel
theorem dX1_surface_2 : decode cX1_surface 2 = .ok (.iconst 0, 1) := by decide +kernel
theorem dX1_surface_3 : decode cX1_surface 3 = .ok (.istore_n 3, 1) := by decide +kernel
theorem dX1_surface_4 : decode cX1_surface 4 = .ok (.iload_n 3, 1) := by decide +kernel
theorem dX1_surface_5 : decode cX1_surface 5 = .ok (.sipush 512, 3) := by decide +kernel
theorem dX1_surface_8 : decode cX1_surface 8 = .ok (.if_icmp .ge 100, 3) := by decide +kernel
theorem dX1_surface_11 : decode cX1_surface 11 = .ok (.aload_n 0, 1) := by decide +kernel
theorem dX1_surface_12 : decode cX1_surface 12 = .ok (.iload_n 1, 1) := by decide +kernel
theorem dX1_surface_13 : decode cX1_surface 13 = .ok (.invokevirtual 20, 3) := by decide +kernel
theorem dX1_surface_16 : decode cX1_surface 16 = .ok (.ifCond .eq 92, 3) := by decide +kernel
theorem dX1_surface_19 : decode cX1_surface 19 = .ok (.iconst 0, 1) := by decide +kernel
theorem dX1_surface_20 : decode cX1_surface 20 = .ok (.istore 4, 2) := by decide +kernel
theorem dX1_surface_22 : decode cX1_surface 22 = .ok (.iload 4, 2) := by decide +kernel
theorem dX1_surface_24 : decode cX1_surface 24 = .ok (.bipush 6, 2) := by decide +kernel
theorem dX1_surface_26 : decode cX1_surface 26 = .ok (.if_icmp .ge 76, 3) := by decide +kernel
theorem dX1_surface_29 : decode cX1_surface 29 = .ok (.aload_n 0, 1) := by decide +kernel
theorem dX1_surface_30 : decode cX1_surface 30 = .ok (.iload_n 3, 1) := by decide +kernel
theorem dX1_surface_31 : decode cX1_surface 31 = .ok (.iload 4, 2) := by decide +kernel
theorem dX1_surface_33 : decode cX1_surface 33 = .ok (.iconst 2, 1) := by decide +kernel
theorem dX1_surface_34 : decode cX1_surface 34 = .ok (.idiv, 1) := by decide +kernel
theorem dX1_surface_35 : decode cX1_surface 35 = .ok (.iload 4, 2) := by decide +kernel
theorem dX1_surface_37 : decode cX1_surface 37 = .ok (.iconst 2, 1) := by decide +kernel
theorem dX1_surface_38 : decode cX1_surface 38 = .ok (.irem, 1) := by decide +kernel
theorem dX1_surface_39 : decode cX1_surface 39 = .ok (.ifCond .ne 7, 3) := by decide +kernel
theorem dX1_surface_42 : decode cX1_surface 42 = .ok (.iconst 1, 1) := by decide +kernel
theorem dX1_surface_43 : decode cX1_surface 43 = .ok (.goto 4, 3) := by decide +kernel
theorem dX1_surface_46 : decode cX1_surface 46 = .ok (.iconst (-1), 1) := by decide +kernel
theorem dX1_surface_47 : decode cX1_surface 47 = .ok (.invokevirtual 52, 3) := by decide +kernel
theorem dX1_surface_50 : decode cX1_surface 50 = .ok (.istore 5, 2) := by decide +kernel
theorem dX1_surface_52 : decode cX1_surface 52 = .ok (.aload_n 0, 1) := by decide +kernel
theorem dX1_surface_53 : decode cX1_surface 53 = .ok (.getfield 7, 3) := by decide +kernel
theorem dX1_surface_56 : decode cX1_surface 56 = .ok (.sipush 512, 3) := by decide +kernel
theorem dX1_surface_59 : decode cX1_surface 59 = .ok (.iload_n 1, 1) := by decide +kernel
theorem dX1_surface_60 : decode cX1_surface 60 = .ok (.imul, 1) := by decide +kernel
theorem dX1_surface_61 : decode cX1_surface 61 = .ok (.iload_n 3, 1) := by decide +kernel
theorem dX1_surface_62 : decode cX1_surface 62 = .ok (.iadd, 1) := by decide +kernel
theorem dX1_surface_63 : decode cX1_surface 63 = .ok (.baload, 1) := by decide +kernel
theorem dX1_surface_64 : decode cX1_surface 64 = .ok (.ifCond .eq 30, 3) := by decide +kernel
theorem dX1_surface_67 : decode cX1_surface 67 = .ok (.iload 5, 2) := by decide +kernel
theorem dX1_surface_69 : decode cX1_surface 69 = .ok (.ifCond .lt 19, 3) := by decide +kernel
theorem dX1_surface_72 : decode cX1_surface 72 = .ok (.aload_n 0, 1) := by decide +kernel
theorem dX1_surface_73 : decode cX1_surface 73 = .ok (.getfield 7, 3) := by decide +kernel
theorem dX1_surface_76 : decode cX1_surface 76 = .ok (.sipush 512, 3) := by decide +kernel
theorem dX1_surface_79 : decode cX1_surface 79 = .ok (.iload_n 1, 1) := by decide +kernel
theorem dX1_surface_80 : decode cX1_surface 80 = .ok (.imul, 1) := by decide +kernel
theorem dX1_surface_81 : decode cX1_surface 81 = .ok (.iload 5, 2) := by decide +kernel
theorem dX1_surface_83 : decode cX1_surface 83 = .ok (.iadd, 1) := by decide +kernel
theorem dX1_surface_84 : decode cX1_surface 84 = .ok (.baload, 1) := by decide +kernel
theorem dX1_surface_85 : decode cX1_surface 85 = .ok (.ifCond .ne 9, 3) := by decide +kernel
theorem dX1_surface_88 : decode cX1_surface 88 = .ok (.iload_n 2, 1) := by decide +kernel
theorem dX1_surface_89 : decode cX1_surface 89 = .ok (.iconst 1, 1) := by decide +kernel
theorem dX1_surface_90 : decode cX1_surface 90 = .ok (.iadd, 1) := by decide +kernel
theorem dX1_surface_91 : decode cX1_surface 91 = .ok (.goto 4, 3) := by decide +kernel
theorem dX1_surface_94 : decode cX1_surface 94 = .ok (.iload_n 2, 1) := by decide +kernel
theorem dX1_surface_95 : decode cX1_surface 95 = .ok (.istore_n 2, 1) := by decide +kernel
theorem dX1_surface_96 : decode cX1_surface 96 = .ok (.iinc 4 1, 3) := by decide +kernel
theorem dX1_surface_99 : decode cX1_surface 99 = .ok (.goto (-77), 3) := by decide +kernel
theorem dX1_surface_102 : decode cX1_surface 102 = .ok (.iinc 3 1, 3) := by decide +kernel
theorem dX1_surface_105 : decode cX1_surface 105 = .ok (.goto (-101), 3) := by decide +kernel
theorem dX1_surface_108 : decode cX1_surface 108 = .ok (.aload_n 0, 1) := by decide +kernel
theorem dX1_surface_109 : decode cX1_surface 109 = .ok (.iload_n 1, 1) := by decide +kernel
theorem dX1_surface_110 : decode cX1_surface 110 = .ok (.invokevirtual 20, 3) := by decide +kernel
theorem dX1_surface_113 : decode cX1_surface 113 = .ok (.ifCond .eq 7, 3) := by decide +kernel
theorem dX1_surface_116 : decode cX1_surface 116 = .ok (.iload_n 2, 1) := by decide +kernel
theorem dX1_surface_117 : decode cX1_surface 117 = .ok (.goto 4, 3) := by decide +kernel
theorem dX1_surface_120 : decode cX1_surface 120 = .ok (.iconst (-1), 1) := by decide +kernel
theorem dX1_surface_121 : decode cX1_surface 121 = .ok (.ireturn, 1) := by decide +kernel
theorem dX1_neighbour_0 : decode cX1_neighbour 0 = .ok (.aload_n 0, 1) := by decide +kernel
theorem dX1_neighbour_1 : decode cX1_neighbour 1 = .ok (.iload_n 1, 1) := by decide +kernel
theorem dX1_neighbour_2 : decode cX1_neighbour 2 = .ok (.iload_n 2, 1) := by decide +kernel
theorem dX1_neighbour_3 : decode cX1_neighbour 3 = .ok (.invokevirtual 16, 3) := by decide +kernel
theorem dX1_neighbour_6 : decode cX1_neighbour 6 = .ok (.iload_n 3, 1) := by decide +kernel
theorem dX1_neighbour_7 : decode cX1_neighbour 7 = .ok (.iadd, 1) := by decide +kernel
theorem dX1_neighbour_8 : decode cX1_neighbour 8 = .ok (.istore 4, 2) := by decide +kernel
theorem dX1_neighbour_10 : decode cX1_neighbour 10 = .ok (.iload 4, 2) := by decide +kernel
theorem dX1_neighbour_12 : decode cX1_neighbour 12 = .ok (.ifCond .lt 10, 3) := by decide +kernel
theorem dX1_neighbour_15 : decode cX1_neighbour 15 = .ok (.iload 4, 2) := by decide +kernel
theorem dX1_neighbour_17 : decode cX1_neighbour 17 = .ok (.bipush 7, 2) := by decide +kernel
theorem dX1_neighbour_19 : decode cX1_neighbour 19 = .ok (.if_icmp .le 7, 3) := by decide +kernel
theorem dX1_neighbour_22 : decode cX1_neighbour 22 = .ok (.iconst (-1), 1) := by decide +kernel
theorem dX1_neighbour_23 : decode cX1_neighbour 23 = .ok (.goto 10, 3) := by decide +kernel
theorem dX1_neighbour_26 : decode cX1_neighbour 26 = .ok (.iload_n 1, 1) := by decide +kernel
theorem dX1_neighbour_27 : decode cX1_neighbour 27 = .ok (.iload_n 3, 1) := by decide +kernel
theorem dX1_neighbour_28 : decode cX1_neighbour 28 = .ok (.iconst 3, 1) := by decide +kernel
theorem dX1_neighbour_29 : decode cX1_neighbour 29 = .ok (.iload_n 2, 1) := by decide +kernel
theorem dX1_neighbour_30 : decode cX1_neighbour 30 = .ok (.imul, 1) := by decide +kernel
theorem dX1_neighbour_31 : decode cX1_neighbour 31 = .ok (.ishl, 1) := by decide +kernel
theorem dX1_neighbour_32 : decode cX1_neighbour 32 = .ok (.iadd, 1) := by decide +kernel
theorem dX1_neighbour_33 : decode cX1_neighbour 33 = .ok (.ireturn, 1) := by decide +kernel
theorem dX1_next_0 : decode cX1_next 0 = .ok (.iconst 0, 1) := by decide +kernel
theorem dX1_next_1 : decode cX1_next 1 = .ok (.istore_n 3, 1) := by decide +kernel
theorem dX1_next_2 : decode cX1_next 2 = .ok (.iload_n 3, 1) := by decide +kernel
theorem dX1_next_3 : decode cX1_next 3 = .ok (.sipush 512, 3) := by decide +kernel
theorem dX1_next_6 : decode cX1_next 6 = .ok (.if_icmp .ge 39, 3) := by decide +kernel
theorem dX1_next_9 : decode cX1_next 9 = .ok (.aload_n 0, 1) := by decide +kernel
theorem dX1_next_10 : decode cX1_next 10 = .ok (.iload_n 1, 1) := by decide +kernel
theorem dX1_next_11 : decode cX1_next 11 = .ok (.invokevirtual 20, 3) := by decide +kernel
theorem dX1_next_14 : decode cX1_next 14 = .ok (.ifCond .eq 31, 3) := by decide +kernel
theorem dX1_next_17 : decode cX1_next 17 = .ok (.iload_n 3, 1) := by decide +kernel
theorem dX1_next_18 : decode cX1_next 18 = .ok (.iload_n 2, 1) := by decide +kernel
theorem dX1_next_19 : decode cX1_next 19 = .ok (.if_icmp .lt 20, 3) := by decide +kernel
theorem dX1_next_22 : decode cX1_next 22 = .ok (.aload_n 0, 1) := by decide +kernel
theorem dX1_next_23 : decode cX1_next 23 = .ok (.getfield 7, 3) := by decide +kernel
theorem dX1_next_26 : decode cX1_next 26 = .ok (.sipush 512, 3) := by decide +kernel
theorem dX1_next_29 : decode cX1_next 29 = .ok (.iload_n 1, 1) := by decide +kernel
theorem dX1_next_30 : decode cX1_next 30 = .ok (.imul, 1) := by decide +kernel
theorem dX1_next_31 : decode cX1_next 31 = .ok (.iload_n 3, 1) := by decide +kernel
theorem dX1_next_32 : decode cX1_next 32 = .ok (.iadd, 1) := by decide +kernel
theorem dX1_next_33 : decode cX1_next 33 = .ok (.baload, 1) := by decide +kernel
theorem dX1_next_34 : decode cX1_next 34 = .ok (.ifCond .eq 5, 3) := by decide +kernel
theorem dX1_next_37 : decode cX1_next 37 = .ok (.iload_n 3, 1) := by decide +kernel
theorem dX1_next_38 : decode cX1_next 38 = .ok (.ireturn, 1) := by decide +kernel
theorem dX1_next_39 : decode cX1_next 39 = .ok (.iinc 3 1, 3) := by decide +kernel
theorem dX1_next_42 : decode cX1_next 42 = .ok (.goto (-40), 3) := by decide +kernel
theorem dX1_next_45 : decode cX1_next 45 = .ok (.iconst (-1), 1) := by decide +kernel
theorem dX1_next_46 : decode cX1_next 46 = .ok (.ireturn, 1) := by decide +kernel
theorem dX1_kinds_0 : decode cX1_kinds 0 = .ok (.aload_n 0, 1) := by decide +kernel
theorem dX1_kinds_1 : decode cX1_kinds 1 = .ok (.iload_n 1, 1) := by decide +kernel
theorem dX1_kinds_2 : decode cX1_kinds 2 = .ok (.invokevirtual 20, 3) := by decide +kernel
theorem dX1_kinds_5 : decode cX1_kinds 5 = .ok (.ifCond .eq 12, 3) := by decide +kernel
theorem dX1_kinds_8 : decode cX1_kinds 8 = .ok (.iload_n 2, 1) := by decide +kernel
theorem dX1_kinds_9 : decode cX1_kinds 9 = .ok (.ifCond .lt 8, 3) := by decide +kernel
theorem dX1_kinds_12 : decode cX1_kinds 12 = .ok (.iload_n 2, 1) := by decide +kernel
theorem dX1_kinds_13 : decode cX1_kinds 13 = .ok (.iconst 3, 1) := by decide +kernel
theorem dX1_kinds_14 : decode cX1_kinds 14 = .ok (.if_icmp .le 5, 3) := by decide +kernel
theorem dX1_kinds_17 : decode cX1_kinds 17 = .ok (.iconst (-1), 1) := by decide +kernel
theorem dX1_kinds_18 : decode cX1_kinds 18 = .ok (.ireturn, 1) := by decide +kernel
theorem dX1_kinds_19 : decode cX1_kinds 19 = .ok (.iconst 0, 1) := by decide +kernel
theorem dX1_kinds_20 : decode cX1_kinds 20 = .ok (.istore_n 3, 1) := by decide +kernel
theorem dX1_kinds_21 : decode cX1_kinds 21 = .ok (.iconst 0, 1) := by decide +kernel
theorem dX1_kinds_22 : decode cX1_kinds 22 = .ok (.istore 4, 2) := by decide +kernel
theorem dX1_kinds_24 : decode cX1_kinds 24 = .ok (.iload 4, 2) := by decide +kernel
theorem dX1_kinds_26 : decode cX1_kinds 26 = .ok (.sipush 512, 3) := by decide +kernel
theorem dX1_kinds_29 : decode cX1_kinds 29 = .ok (.if_icmp .ge 82, 3) := by decide +kernel
theorem dX1_kinds_32 : decode cX1_kinds 32 = .ok (.aload_n 0, 1) := by decide +kernel
theorem dX1_kinds_33 : decode cX1_kinds 33 = .ok (.iload 4, 2) := by decide +kernel
theorem dX1_kinds_35 : decode cX1_kinds 35 = .ok (.iload_n 2, 1) := by decide +kernel
theorem dX1_kinds_36 : decode cX1_kinds 36 = .ok (.invokevirtual 46, 3) := by decide +kernel
theorem dX1_kinds_39 : decode cX1_kinds 39 = .ok (.istore 5, 2) := by decide +kernel
theorem dX1_kinds_41 : decode cX1_kinds 41 = .ok (.iconst 0, 1) := by decide +kernel
theorem dX1_kinds_42 : decode cX1_kinds 42 = .ok (.istore 6, 2) := by decide +kernel
theorem dX1_kinds_44 : decode cX1_kinds 44 = .ok (.iload 6, 2) := by decide +kernel
theorem dX1_kinds_46 : decode cX1_kinds 46 = .ok (.iload 4, 2) := by decide +kernel
theorem dX1_kinds_48 : decode cX1_kinds 48 = .ok (.if_icmp .ge 44, 3) := by decide +kernel
theorem dX1_kinds_51 : decode cX1_kinds 51 = .ok (.iload 5, 2) := by decide +kernel
theorem dX1_kinds_53 : decode cX1_kinds 53 = .ok (.ifCond .eq 39, 3) := by decide +kernel
theorem dX1_kinds_56 : decode cX1_kinds 56 = .ok (.aload_n 0, 1) := by decide +kernel
theorem dX1_kinds_57 : decode cX1_kinds 57 = .ok (.iload 6, 2) := by decide +kernel
theorem dX1_kinds_59 : decode cX1_kinds 59 = .ok (.iload_n 2, 1) := by decide +kernel
theorem dX1_kinds_60 : decode cX1_kinds 60 = .ok (.invokevirtual 46, 3) := by decide +kernel
theorem dX1_kinds_63 : decode cX1_kinds 63 = .ok (.ifCond .eq 16, 3) := by decide +kernel
theorem dX1_kinds_66 : decode cX1_kinds 66 = .ok (.aload_n 0, 1) := by decide +kernel
theorem dX1_kinds_67 : decode cX1_kinds 67 = .ok (.iload_n 1, 1) := by decide +kernel
theorem dX1_kinds_68 : decode cX1_kinds 68 = .ok (.iload 4, 2) := by decide +kernel
theorem dX1_kinds_70 : decode cX1_kinds 70 = .ok (.iload 6, 2) := by decide +kernel
theorem dX1_kinds_72 : decode cX1_kinds 72 = .ok (.iload_n 2, 1) := by decide +kernel
theorem dX1_kinds_73 : decode cX1_kinds 73 = .ok (.invokevirtual 56, 3) := by decide +kernel
theorem dX1_kinds_76 : decode cX1_kinds 76 = .ok (.ifCond .ne 7, 3) := by decide +kernel
theorem dX1_kinds_79 : decode cX1_kinds 79 = .ok (.iconst 1, 1) := by decide +kernel
theorem dX1_kinds_80 : decode cX1_kinds 80 = .ok (.goto 4, 3) := by decide +kernel
theorem dX1_kinds_83 : decode cX1_kinds 83 = .ok (.iconst 0, 1) := by decide +kernel
end
section
set_option maxRecDepth 100000
theorem dX1_kinds_84 : decode cX1_kinds 84 = .ok (.istore 5, 2) := by decide +kernel
theorem dX1_kinds_86 : decode cX1_kinds 86 = .ok (.iinc 6 1, 3) := by decide +kernel
theorem dX1_kinds_89 : decode cX1_kinds 89 = .ok (.goto (-45), 3) := by decide +kernel
theorem dX1_kinds_92 : decode cX1_kinds 92 = .ok (.iload 5, 2) := by decide +kernel
theorem dX1_kinds_94 : decode cX1_kinds 94 = .ok (.ifCond .eq 9, 3) := by decide +kernel
theorem dX1_kinds_97 : decode cX1_kinds 97 = .ok (.iload_n 3, 1) := by decide +kernel
theorem dX1_kinds_98 : decode cX1_kinds 98 = .ok (.iconst 1, 1) := by decide +kernel
theorem dX1_kinds_99 : decode cX1_kinds 99 = .ok (.iadd, 1) := by decide +kernel
theorem dX1_kinds_100 : decode cX1_kinds 100 = .ok (.goto 4, 3) := by decide +kernel
theorem dX1_kinds_103 : decode cX1_kinds 103 = .ok (.iload_n 3, 1) := by decide +kernel
theorem dX1_kinds_104 : decode cX1_kinds 104 = .ok (.istore_n 3, 1) := by decide +kernel
theorem dX1_kinds_105 : decode cX1_kinds 105 = .ok (.iinc 4 1, 3) := by decide +kernel
theorem dX1_kinds_108 : decode cX1_kinds 108 = .ok (.goto (-84), 3) := by decide +kernel
theorem dX1_kinds_111 : decode cX1_kinds 111 = .ok (.iload_n 3, 1) := by decide +kernel
theorem dX1_kinds_112 : decode cX1_kinds 112 = .ok (.ireturn, 1) := by decide +kernel
theorem dX1_alike_0 : decode cX1_alike 0 = .ok (.iconst 1, 1) := by decide +kernel
theorem dX1_alike_1 : decode cX1_alike 1 = .ok (.istore 5, 2) := by decide +kernel
theorem dX1_alike_3 : decode cX1_alike 3 = .ok (.iconst 0, 1) := by decide +kernel
theorem dX1_alike_4 : decode cX1_alike 4 = .ok (.istore 6, 2) := by decide +kernel
theorem dX1_alike_6 : decode cX1_alike 6 = .ok (.iload 6, 2) := by decide +kernel
theorem dX1_alike_8 : decode cX1_alike 8 = .ok (.iconst 1, 1) := by decide +kernel
theorem dX1_alike_9 : decode cX1_alike 9 = .ok (.iconst 3, 1) := by decide +kernel
theorem dX1_alike_10 : decode cX1_alike 10 = .ok (.iload 4, 2) := by decide +kernel
theorem dX1_alike_12 : decode cX1_alike 12 = .ok (.imul, 1) := by decide +kernel
theorem dX1_alike_13 : decode cX1_alike 13 = .ok (.ishl, 1) := by decide +kernel
theorem dX1_alike_14 : decode cX1_alike 14 = .ok (.if_icmp .ge 92, 3) := by decide +kernel
theorem dX1_alike_17 : decode cX1_alike 17 = .ok (.iconst 1, 1) := by decide +kernel
theorem dX1_alike_18 : decode cX1_alike 18 = .ok (.iload 4, 2) := by decide +kernel
theorem dX1_alike_20 : decode cX1_alike 20 = .ok (.ishl, 1) := by decide +kernel
theorem dX1_alike_21 : decode cX1_alike 21 = .ok (.iconst 1, 1) := by decide +kernel
theorem dX1_alike_22 : decode cX1_alike 22 = .ok (.isub, 1) := by decide +kernel
theorem dX1_alike_23 : decode cX1_alike 23 = .ok (.istore 7, 2) := by decide +kernel
theorem dX1_alike_25 : decode cX1_alike 25 = .ok (.iload 6, 2) := by decide +kernel
theorem dX1_alike_27 : decode cX1_alike 27 = .ok (.iload 7, 2) := by decide +kernel
theorem dX1_alike_29 : decode cX1_alike 29 = .ok (.iand, 1) := by decide +kernel
theorem dX1_alike_30 : decode cX1_alike 30 = .ok (.bipush 8, 2) := by decide +kernel
theorem dX1_alike_32 : decode cX1_alike 32 = .ok (.iload 6, 2) := by decide +kernel
theorem dX1_alike_34 : decode cX1_alike 34 = .ok (.iload 4, 2) := by decide +kernel
theorem dX1_alike_36 : decode cX1_alike 36 = .ok (.ishr, 1) := by decide +kernel
theorem dX1_alike_37 : decode cX1_alike 37 = .ok (.iload 7, 2) := by decide +kernel
theorem dX1_alike_39 : decode cX1_alike 39 = .ok (.iand, 1) := by decide +kernel
theorem dX1_alike_40 : decode cX1_alike 40 = .ok (.imul, 1) := by decide +kernel
theorem dX1_alike_41 : decode cX1_alike 41 = .ok (.iadd, 1) := by decide +kernel
theorem dX1_alike_42 : decode cX1_alike 42 = .ok (.bipush 64, 2) := by decide +kernel
theorem dX1_alike_44 : decode cX1_alike 44 = .ok (.iload 6, 2) := by decide +kernel
theorem dX1_alike_46 : decode cX1_alike 46 = .ok (.iconst 2, 1) := by decide +kernel
theorem dX1_alike_47 : decode cX1_alike 47 = .ok (.iload 4, 2) := by decide +kernel
theorem dX1_alike_49 : decode cX1_alike 49 = .ok (.imul, 1) := by decide +kernel
theorem dX1_alike_50 : decode cX1_alike 50 = .ok (.ishr, 1) := by decide +kernel
theorem dX1_alike_51 : decode cX1_alike 51 = .ok (.imul, 1) := by decide +kernel
theorem dX1_alike_52 : decode cX1_alike 52 = .ok (.iadd, 1) := by decide +kernel
theorem dX1_alike_53 : decode cX1_alike 53 = .ok (.istore 8, 2) := by decide +kernel
theorem dX1_alike_55 : decode cX1_alike 55 = .ok (.iload 5, 2) := by decide +kernel
theorem dX1_alike_57 : decode cX1_alike 57 = .ok (.ifCond .eq 40, 3) := by decide +kernel
theorem dX1_alike_60 : decode cX1_alike 60 = .ok (.aload_n 0, 1) := by decide +kernel
theorem dX1_alike_61 : decode cX1_alike 61 = .ok (.getfield 7, 3) := by decide +kernel
theorem dX1_alike_64 : decode cX1_alike 64 = .ok (.sipush 512, 3) := by decide +kernel
theorem dX1_alike_67 : decode cX1_alike 67 = .ok (.iload_n 1, 1) := by decide +kernel
theorem dX1_alike_68 : decode cX1_alike 68 = .ok (.imul, 1) := by decide +kernel
theorem dX1_alike_69 : decode cX1_alike 69 = .ok (.iload_n 2, 1) := by decide +kernel
theorem dX1_alike_70 : decode cX1_alike 70 = .ok (.iadd, 1) := by decide +kernel
theorem dX1_alike_71 : decode cX1_alike 71 = .ok (.iload 8, 2) := by decide +kernel
theorem dX1_alike_73 : decode cX1_alike 73 = .ok (.iadd, 1) := by decide +kernel
theorem dX1_alike_74 : decode cX1_alike 74 = .ok (.baload, 1) := by decide +kernel
theorem dX1_alike_75 : decode cX1_alike 75 = .ok (.aload_n 0, 1) := by decide +kernel
theorem dX1_alike_76 : decode cX1_alike 76 = .ok (.getfield 7, 3) := by decide +kernel
theorem dX1_alike_79 : decode cX1_alike 79 = .ok (.sipush 512, 3) := by decide +kernel
theorem dX1_alike_82 : decode cX1_alike 82 = .ok (.iload_n 1, 1) := by decide +kernel
theorem dX1_alike_83 : decode cX1_alike 83 = .ok (.imul, 1) := by decide +kernel
theorem dX1_alike_84 : decode cX1_alike 84 = .ok (.iload_n 3, 1) := by decide +kernel
theorem dX1_alike_85 : decode cX1_alike 85 = .ok (.iadd, 1) := by decide +kernel
theorem dX1_alike_86 : decode cX1_alike 86 = .ok (.iload 8, 2) := by decide +kernel
theorem dX1_alike_88 : decode cX1_alike 88 = .ok (.iadd, 1) := by decide +kernel
theorem dX1_alike_89 : decode cX1_alike 89 = .ok (.baload, 1) := by decide +kernel
theorem dX1_alike_90 : decode cX1_alike 90 = .ok (.if_icmp .ne 7, 3) := by decide +kernel
theorem dX1_alike_93 : decode cX1_alike 93 = .ok (.iconst 1, 1) := by decide +kernel
theorem dX1_alike_94 : decode cX1_alike 94 = .ok (.goto 4, 3) := by decide +kernel
theorem dX1_alike_97 : decode cX1_alike 97 = .ok (.iconst 0, 1) := by decide +kernel
theorem dX1_alike_98 : decode cX1_alike 98 = .ok (.istore 5, 2) := by decide +kernel
theorem dX1_alike_100 : decode cX1_alike 100 = .ok (.iinc 6 1, 3) := by decide +kernel
theorem dX1_alike_103 : decode cX1_alike 103 = .ok (.goto (-97), 3) := by decide +kernel
theorem dX1_alike_106 : decode cX1_alike 106 = .ok (.iload 5, 2) := by decide +kernel
theorem dX1_alike_108 : decode cX1_alike 108 = .ok (.ireturn, 1) := by decide +kernel
end
section
/-! numbers: nI over Nat; oc_c v: v - 1 (0 stands for -1) -/
def oc_c (v : Nat) : Int32 := nI v - 1
theorem oc_c0 : oc_c 0 = -1 := by decide +kernel
theorem oc_cS (n : Nat) : oc_c (n + 1) = nI n := nI_pred n
theorem oc_and (a b : Nat) : nI a &&& nI b = nI (a &&& b) := by
  apply Int32.toBitVec_inj.1
  show BitVec.ofNat 32 a &&& BitVec.ofNat 32 b = BitVec.ofNat 32 (a &&& b)
  apply BitVec.eq_of_getLsbD_eq
  intro i hi
  simp [hi]
theorem oc_or (a b : Nat) : nI a ||| nI b = nI (a ||| b) := by
  apply Int32.toBitVec_inj.1
  show BitVec.ofNat 32 a ||| BitVec.ofNat 32 b = BitVec.ofNat 32 (a ||| b)
  apply BitVec.eq_of_getLsbD_eq
  intro i hi
  simp [hi]
theorem oc_xor (a b : Nat) : nI a ^^^ nI b = nI (a ^^^ b) := by
  apply Int32.toBitVec_inj.1
  show BitVec.ofNat 32 a ^^^ BitVec.ofNat 32 b = BitVec.ofNat 32 (a ^^^ b)
  apply BitVec.eq_of_getLsbD_eq
  intro i hi
  simp [hi]
theorem oc_sl : ∀ n, n < 32 → ((nI n &&& 31).toBitVec.smod 32).toNat = n := by decide +kernel
theorem oc_shr {a k : Nat} (ha : a < 2147483648) (hk : k < 32) : nI a >>> (nI k &&& 31) = nI (a / 2 ^ k) := pk_shrN (by omega) _ k (oc_sl k hk)
theorem oc_shl {a k : Nat} (hk : k < 32) (h : a * 2 ^ k < 4294967296) : nI a <<< (nI k &&& 31) = nI (a * 2 ^ k) := pk_shlN _ k (oc_sl k hk) (by omega)
theorem oc_sub {a b : Nat} (h : b ≤ a) : nI a - nI b = nI (a - b) := pk_sub h
theorem oc_i2s {a : Nat} (h : a < 32768) : (nI a).toInt16.toInt32 = nI a := by
  apply Int32.toInt_inj.mp
  rw [Int16.toInt_toInt32, Int32.toInt_toInt16, nI_toInt (by omega)]
  apply Int.bmod_eq_of_le <;> omega
theorem oc_c2s {v : Nat} (h : v < 32768) : (oc_c v).toInt16.toInt32 = oc_c v := by
  cases v with
  | zero => rw [oc_c0]; decide +kernel
  | succ n => rw [oc_cS]; exact oc_i2s (by omega)
theorem oc_nar_s {a : Nat} (h : a < 32768) : vp_nar .short (nI a) = nI a := by rw [vp_nar_short]; exact oc_i2s h
theorem oc_nar_c {a : Nat} (h : a < 32768) : vp_nar .short (oc_c a) = oc_c a := by rw [vp_nar_short]; exact oc_c2s h
theorem oc_nar_z {a : Nat} (h : a < 2) : vp_nar .boolean (nI a) = nI a := by
  have e : vp_nar .boolean (nI a) = nI a &&& 1 := rfl
  rcases (by omega : a = 0 ∨ a = 1) with rfl | rfl <;> (rw [e]; decide +kernel)
theorem oc_nar_zv {a : Nat} (h : a < 2) : narrow .boolean (.int (nI a)) = .int (nI a) := by
  rcases (by omega : a = 0 ∨ a = 1) with rfl | rfl <;> rfl
theorem oc_clt {j o : Nat} (hj : j < 2147483648) (ho : o < 2147483648) : oc_c j < nI o ↔ j ≤ o := by
  cases j with
  | zero =>
    rw [oc_c0, Int32.lt_iff_toInt_lt, nI_toInt (by omega)]
    have : (-1 : Int32).toInt = -1 := by decide +kernel
    omega
  | succ n =>
    rw [oc_cS, nI_ltI (by omega) (by omega)]
    omega
theorem oc_cneg {j : Nat} (hj : j < 2147483648) : oc_c j < 0 ↔ j = 0 := by
  cases j with
  | zero => exact ⟨fun _ => rfl, fun _ => by rw [oc_c0]; decide +kernel⟩
  | succ n =>
    rw [oc_cS]
    exact ⟨fun h => absurd h (nI_pos (by omega)), fun h => by omega⟩
theorem oc_cdec (n : Nat) : oc_c (n + 1) + (-1) = oc_c n := by
  show nI (n + 1) - 1 + (-1) = nI n - 1
  rw [nI_succ]
  grind
theorem oc_ic0 : Int32.ofInt 0 = nI 0 := by decide +kernel
theorem oc_ic1 : Int32.ofInt 1 = nI 1 := by decide +kernel
theorem oc_ic2 : Int32.ofInt 2 = nI 2 := by decide +kernel
theorem oc_ic3 : Int32.ofInt 3 = nI 3 := by decide +kernel
theorem oc_ic4 : Int32.ofInt 4 = nI 4 := by decide +kernel
theorem oc_ic5 : Int32.ofInt 5 = nI 5 := by decide +kernel
theorem oc_icm : Int32.ofInt (-1) = -1 := by decide +kernel
theorem oc_bp6 : (Int8.ofInt 6).toInt32 = nI 6 := by decide +kernel
theorem oc_bp7 : (Int8.ofInt 7).toInt32 = nI 7 := by decide +kernel
theorem oc_bp8 : (Int8.ofInt 8).toInt32 = nI 8 := by decide +kernel
theorem oc_bp15 : (Int8.ofInt 15).toInt32 = nI 15 := by decide +kernel
theorem oc_bp31 : (Int8.ofInt 31).toInt32 = nI 31 := by decide +kernel
theorem oc_bp64 : (Int8.ofInt 64).toInt32 = nI 64 := by decide +kernel
theorem oc_sp255 : (Int16.ofInt 255).toInt32 = nI 255 := by decide +kernel
theorem oc_sp256 : (Int16.ofInt 256).toInt32 = nI 256 := by decide +kernel
theorem oc_sp511 : (Int16.ofInt 511).toInt32 = nI 511 := by decide +kernel
theorem oc_sp512 : (Int16.ofInt 512).toInt32 = nI 512 := by decide +kernel
theorem oc_sp2048 : (Int16.ofInt 2048).toInt32 = nI 2048 := by decide +kernel
theorem oc_sp4096 : (Int16.ofInt 4096).toInt32 = nI 4096 := by decide +kernel
theorem oc_inc (a : Nat) : nI a + Int32.ofInt 1 = nI (a + 1) := by rw [oc_ic1]; exact nI_1 a
theorem oc_dec (a : Nat) : nI (a + 1) + Int32.ofInt (-1) = nI a := by rw [oc_icm]; exact pk_m1 a
theorem oc_decc (a : Nat) : oc_c (a + 1) + Int32.ofInt (-1) = oc_c a := by rw [oc_icm]; exact oc_cdec a
end
section
/-! the walk's own judgement: the world ws, the locals lo by place, the stack st, at pc -/
abbrev oc_Cl : List vw_C := [(RX0, TX0, 16), (RX1, TX1, 2)]
def oc_lo : Nat → List (Option Value) → List (Nat × Value)
  | _, [] => []
  | i, none :: t => oc_lo (i + 1) t
  | i, some v :: t => (i, v) :: oc_lo (i + 1) t
theorem oc_lo_mem : ∀ (t : List (Option Value)) (k : Nat) (q : Nat × Value), q ∈ oc_lo k t ↔ ∃ j, t[j]? = some (some q.2) ∧ q.1 = k + j
  | [], k, q => by simp [oc_lo]
  | none :: t, k, q => by
    rw [oc_lo, oc_lo_mem t (k + 1) q]
    constructor
    · rintro ⟨j, h1, h2⟩
      exact ⟨j + 1, by simpa using h1, by omega⟩
    · rintro ⟨j, h1, h2⟩
      cases j with
      | zero => simp at h1
      | succ j => exact ⟨j, by simpa using h1, by omega⟩
  | some v :: t, k, q => by
    rw [oc_lo, List.mem_cons, oc_lo_mem t (k + 1) q]
    constructor
    · rintro (rfl | ⟨j, h1, h2⟩)
      · exact ⟨0, by simp, by simp⟩
      · exact ⟨j + 1, by simpa using h1, by omega⟩
    · rintro ⟨j, h1, h2⟩
      cases j with
      | zero =>
        have e1 : v = q.2 := by simpa using h1
        have e2 : q.1 = k := by simpa using h2
        exact Or.inl (Prod.ext e2 e1.symm)
      | succ j => exact Or.inr ⟨j, by simpa using h1, by omega⟩
def oc_has (ls : Array Slot) (nL : Nat) (lo : List (Option Value)) : Prop := ls.size = nL ∧ lv_wf ls ∧ ∀ (i : Nat) (v : Value), lo[i]? = some (some v) → v.category = 1 ∧ ls[i]? = some (.val v)
theorem oc_has.lv {ls : Array Slot} {nL : Nat} {lo : List (Option Value)} (h : oc_has ls nL lo) : lv_has ls nL (oc_lo 0 lo) := by
  refine ⟨h.1, h.2.1, fun q hq => ?_⟩
  obtain ⟨j, h1, h2⟩ := (oc_lo_mem lo 0 q).mp hq
  rw [h2, Nat.zero_add]
  exact (h.2.2 j q.2 h1).2
theorem oc_has.at {ls : Array Slot} {nL : Nat} {lo : List (Option Value)} (h : oc_has ls nL lo) {i : Nat} {v : Value} (hi : lo[i]? = some (some v)) : ls[i]? = some (.val v) := (h.2.2 i v hi).2
theorem oc_has.place {lo : List (Option Value)} {i : Nat} {v : Value} (hi : lo[i]? = some (some v)) : ∃ k : Nat, (oc_lo 0 lo)[k]? = some (i, v) := List.getElem?_of_mem ((oc_lo_mem lo 0 (i, v)).mpr ⟨i, hi, by simp⟩)
theorem oc_has.set {ls ls' : Array Slot} {nL : Nat} {lo : List (Option Value)} {i : Nat} {v : Value} (h : oc_has ls nL lo) (hc : v.category = 1) (h' : lv_has ls' nL ((i, v) :: (oc_lo 0 lo).filter (fun q => !(q.1 == i) && !(q.1 + 1 == i && q.2.category == 2)))) : oc_has ls' nL (lo.set i (some v)) := by
  refine ⟨h'.1, h'.2.1, fun j w hj => ?_⟩
  by_cases e : i = j
  · subst e
    by_cases hl : i < lo.length
    · rw [List.getElem?_set_self hl] at hj
      have e1 : v = w := Option.some.inj (Option.some.inj hj)
      rw [← e1]
      exact ⟨hc, h'.2.2 (i, v) List.mem_cons_self⟩
    · have : (lo.set i (some v))[i]? = none := List.getElem?_eq_none (by simp; omega)
      rw [this] at hj
      cases hj
  · rw [List.getElem?_set_ne e] at hj
    obtain ⟨c1, c2⟩ := h.2.2 j w hj
    refine ⟨c1, h'.2.2 (j, w) (List.mem_cons_of_mem _ (List.mem_filter.mpr ⟨(oc_lo_mem lo 0 (j, w)).mpr ⟨j, hj, by simp⟩, ?_⟩))⟩
    simp [Ne.symm e, c1]
theorem oc_has.sub {ls : Array Slot} {nL : Nat} {lo lo' : List (Option Value)} (h : oc_has ls nL lo) (hs : ∀ (i : Nat) (v : Value), lo'[i]? = some (some v) → lo[i]? = some (some v)) : oc_has ls nL lo' := ⟨h.1, h.2.1, fun i v hi => h.2.2 i v (hs i v hi)⟩
/-- what stays the same in a method's run -/
def oc_X (p : Program) (s : State) (m : MethodId) (args : Array Value) (meth : Method) (c : Code) (cc : ByteArray) (nL : Nat) (own : String) (D : va_G) (tys : List (ClassId × FieldType)) (A : Nat → Prop) : Prop :=
  p.tables.exec = Jvm.exec ∧ c.code = cc ∧ c.maxLocals = nL ∧ s.vm.findClass own = some m.cls ∧ (∀ w ∈ lw_all, w.before args s = true) ∧ va_K D oc_Cl tys s ∧ meth.locks = false ∧ ∀ q : Nat, s.heap.size ≤ q → A q
def gg (p : Program) (l : Launch) (e : Env) (R : Room) (s : State) (m : MethodId) (args : Array Value) (below : List Frame) (meth : Method) (c : Code) (Q : State → Prop) (cells slots : Nat) (D : va_G) (A : Nat → Prop) (nL : Nat) (ws : va_W) (pc : Nat) (lo : List (Option Value)) (st : List Value) : Prop :=
  ∀ (H : Heap) (locs : List Loc) (ls : Array Slot), va_P D oc_Cl ws H → va_D A ws → va_S A s.heap H locs → oc_has ls nL lo → W p l e R s m args below meth c H locs cells slots Q (F0 m pc ls st)
section GG
variable {p : Program} {l : Launch} {e : Env} {R : Room} {s : State} {m : MethodId} {args : Array Value} {below : List Frame} {meth : Method} {c : Code} {Q : State → Prop} {cells slots : Nat} {D : va_G} {A : Nat → Prop} {nL : Nat} {ws : va_W} {pc : Nat} {lo : List (Option Value)} {st : List Value}
variable {cc : ByteArray} {own : String} {tys : List (ClassId × FieldType)}
theorem gg_at {pc' : Nat} (h : pc = pc') (kk : gg p l e R s m args below meth c Q cells slots D A nL ws (pc') lo (st)) : gg p l e R s m args below meth c Q cells slots D A nL ws (pc) lo (st) := h ▸ kk
theorem gg_top {x y : Int32} (h : x = y) (kk : gg p l e R s m args below meth c Q cells slots D A nL ws (pc) lo (.int y :: st)) : gg p l e R s m args below meth c Q cells slots D A nL ws (pc) lo (.int x :: st) := h ▸ kk
theorem gg_top2 {z : Value} {x y : Int32} (h : x = y) (kk : gg p l e R s m args below meth c Q cells slots D A nL ws (pc) lo (z :: .int y :: st)) : gg p l e R s m args below meth c Q cells slots D A nL ws (pc) lo (z :: .int x :: st) := h ▸ kk
theorem gg_nm {x : Int32} (kk : ∀ y : Int32, y = x → gg p l e R s m args below meth c Q cells slots D A nL ws (pc) lo (.int y :: st)) : gg p l e R s m args below meth c Q cells slots D A nL ws (pc) lo (.int x :: st) := kk x rfl
theorem gg_sub {lo' : List (Option Value)} (hs : ∀ (i : Nat) (v : Value), lo'[i]? = some (some v) → lo[i]? = some (some v)) (kk : gg p l e R s m args below meth c Q cells slots D A nL ws (pc) lo' (st)) : gg p l e R s m args below meth c Q cells slots D A nL ws (pc) lo (st) := fun H locs ls hP hD hS hl => kk H locs ls hP hD hS (hl.sub hs)
theorem gg_drop (i : Nat) (kk : gg p l e R s m args below meth c Q cells slots D A nL ws (pc) (lo.set i none) (st)) : gg p l e R s m args below meth c Q cells slots D A nL ws (pc) lo (st) := by
  refine gg_sub (lo' := lo.set i none) (fun j v h => ?_) kk
  by_cases hij : i = j
  · subst hij
    by_cases hl : i < lo.length
    · rw [List.getElem?_set_self hl] at h
      cases h
    · have : (lo.set i none)[i]? = none := List.getElem?_eq_none (by simp; omega)
      rw [this] at h
      cases h
  · rw [List.getElem?_set_ne hij] at h
    exact h
theorem gg_ws {ws' : va_W} (h : ws = ws') (kk : gg p l e R s m args below meth c Q cells slots D A nL ws' (pc) lo (st)) : gg p l e R s m args below meth c Q cells slots D A nL ws (pc) lo (st) := h ▸ kk
theorem gg_ic (X : oc_X p s m args meth c cc nL own D tys A) {k : Int} {v : Int32} (hd : decode cc pc = .ok (.iconst k, 1)) (hv : Int32.ofInt k = v) (kk : gg p l e R s m args below meth c Q cells slots D A nL ws (pc + 1) lo (.int v :: st)) : gg p l e R s m args below meth c Q cells slots D A nL ws (pc) lo (st) := fun H locs ls hP hD hS hl => lv_iconst X.1 X.2.1 hd hv (kk H locs ls hP hD hS hl)
theorem gg_bp (X : oc_X p s m args meth c cc nL own D tys A) {k : Int} {v : Int32} (hd : decode cc pc = .ok (.bipush k, 2)) (hv : (Int8.ofInt k).toInt32 = v) (kk : gg p l e R s m args below meth c Q cells slots D A nL ws (pc + 2) lo (.int v :: st)) : gg p l e R s m args below meth c Q cells slots D A nL ws (pc) lo (st) := fun H locs ls hP hD hS hl => lv_bipush X.1 X.2.1 hd hv (kk H locs ls hP hD hS hl)
theorem gg_sp (X : oc_X p s m args meth c cc nL own D tys A) {k : Int} {v : Int32} (hd : decode cc pc = .ok (.sipush k, 3)) (hv : (Int16.ofInt k).toInt32 = v) (kk : gg p l e R s m args below meth c Q cells slots D A nL ws (pc + 3) lo (.int v :: st)) : gg p l e R s m args below meth c Q cells slots D A nL ws (pc) lo (st) := fun H locs ls hP hD hS hl => lv_sipush X.1 X.2.1 hd hv (kk H locs ls hP hD hS hl)
theorem gg_ldc (X : oc_X p s m args meth c cc nL own D tys A) {k : Nat} {v : Int32} (hd : decode cc pc = .ok (.ldc k, 2)) (hc : Cond.constant own k v ∈ lw_all) (kk : gg p l e R s m args below meth c Q cells slots D A nL ws (pc + 2) lo (.int v :: st)) : gg p l e R s m args below meth c Q cells slots D A nL ws (pc) lo (st) := fun H locs ls hP hD hS hl => lv_ldc X.1 X.2.1 X.2.2.2.1 (X.2.2.2.2.1 _ hc) hd (kk H locs ls hP hD hS hl)
theorem gg_ild_n (X : oc_X p s m args meth c cc nL own D tys A) {k : Fin 4} {v : Int32} (hd : decode cc pc = .ok (.iload_n k, 1)) (hv : lo[(k : Nat)]? = some (some (.int v))) (kk : gg p l e R s m args below meth c Q cells slots D A nL ws (pc + 1) lo (.int v :: st)) : gg p l e R s m args below meth c Q cells slots D A nL ws (pc) lo (st) := fun H locs ls hP hD hS hl => lv_iload_n X.1 X.2.1 hd rfl (hl.at hv) (kk H locs ls hP hD hS hl)
theorem gg_ild (X : oc_X p s m args meth c cc nL own D tys A) {k : Nat} {v : Int32} (hd : decode cc pc = .ok (.iload k, 2)) (hv : lo[k]? = some (some (.int v))) (kk : gg p l e R s m args below meth c Q cells slots D A nL ws (pc + 2) lo (.int v :: st)) : gg p l e R s m args below meth c Q cells slots D A nL ws (pc) lo (st) := fun H locs ls hP hD hS hl => lv_iload X.1 X.2.1 hd (hl.at hv) (kk H locs ls hP hD hS hl)
theorem gg_ald_n (X : oc_X p s m args meth c cc nL own D tys A) {k : Fin 4} {v : Nat} (hd : decode cc pc = .ok (.aload_n k, 1)) (hv : lo[(k : Nat)]? = some (some (.ref v))) (kk : gg p l e R s m args below meth c Q cells slots D A nL ws (pc + 1) lo (.ref v :: st)) : gg p l e R s m args below meth c Q cells slots D A nL ws (pc) lo (st) := fun H locs ls hP hD hS hl => lv_aload_n X.1 X.2.1 hd rfl (hl.at hv) (kk H locs ls hP hD hS hl)
theorem gg_ist_n (X : oc_X p s m args meth c cc nL own D tys A) {k : Fin 4} {v : Int32} (hd : decode cc pc = .ok (.istore_n k, 1)) (hk : (k : Nat) < nL) (kk : gg p l e R s m args below meth c Q cells slots D A nL ws (pc + 1) (lo.set (k : Nat) (some (.int v))) (st)) : gg p l e R s m args below meth c Q cells slots D A nL ws (pc) lo (.int v :: st) := fun H locs ls hP hD hS hl => lv_istore_n X.1 X.2.1 hd rfl hl.lv hk rfl (fun ls' h' => kk H locs ls' hP hD hS (hl.set rfl h'))
theorem gg_ist (X : oc_X p s m args meth c cc nL own D tys A) {k : Nat} {v : Int32} (hd : decode cc pc = .ok (.istore k, 2)) (hk : k < nL) (kk : gg p l e R s m args below meth c Q cells slots D A nL ws (pc + 2) (lo.set k (some (.int v))) (st)) : gg p l e R s m args below meth c Q cells slots D A nL ws (pc) lo (.int v :: st) := fun H locs ls hP hD hS hl => lv_istore X.1 X.2.1 hd hl.lv hk rfl (fun ls' h' => kk H locs ls' hP hD hS (hl.set rfl h'))
theorem gg_ast_n (X : oc_X p s m args meth c cc nL own D tys A) {k : Fin 4} {v : Nat} (hd : decode cc pc = .ok (.astore_n k, 1)) (hk : (k : Nat) < nL) (kk : gg p l e R s m args below meth c Q cells slots D A nL ws (pc + 1) (lo.set (k : Nat) (some (.ref v))) (st)) : gg p l e R s m args below meth c Q cells slots D A nL ws (pc) lo (.ref v :: st) := fun H locs ls hP hD hS hl => lv_astore_n X.1 X.2.1 hd rfl hl.lv hk rfl (fun ls' h' => kk H locs ls' hP hD hS (hl.set rfl h'))
theorem gg_iinc (X : oc_X p s m args meth c cc nL own D tys A) {k : Nat} {n : Int} {v w : Int32} (hd : decode cc pc = .ok (.iinc k n, 3)) (hv : lo[k]? = some (some (.int v))) (hw : v + Int32.ofInt n = w) (hk : k < nL) (kk : gg p l e R s m args below meth c Q cells slots D A nL ws (pc + 3) (lo.set k (some (.int w))) (st)) : gg p l e R s m args below meth c Q cells slots D A nL ws (pc) lo (st) := by
  intro H locs ls hP hD hS hl
  obtain ⟨i, hi⟩ := oc_has.place hv
  exact lv_iinc X.1 X.2.1 hd hl.lv hi hw hk rfl (fun ls' h' => kk H locs ls' hP hD hS (hl.set rfl h'))
theorem gg_iadd (X : oc_X p s m args meth c cc nL own D tys A) {x y : Int32} (hd : decode cc pc = .ok (.iadd, 1)) (kk : gg p l e R s m args below meth c Q cells slots D A nL ws (pc + 1) lo (.int (x + y) :: st)) : gg p l e R s m args below meth c Q cells slots D A nL ws (pc) lo (.int y :: .int x :: st) := fun H locs ls hP hD hS hl => lv_iadd X.1 X.2.1 hd (kk H locs ls hP hD hS hl)
theorem gg_isub (X : oc_X p s m args meth c cc nL own D tys A) {x y : Int32} (hd : decode cc pc = .ok (.isub, 1)) (kk : gg p l e R s m args below meth c Q cells slots D A nL ws (pc + 1) lo (.int (x - y) :: st)) : gg p l e R s m args below meth c Q cells slots D A nL ws (pc) lo (.int y :: .int x :: st) := fun H locs ls hP hD hS hl => lv_isub X.1 X.2.1 hd (kk H locs ls hP hD hS hl)
theorem gg_imul (X : oc_X p s m args meth c cc nL own D tys A) {x y : Int32} (hd : decode cc pc = .ok (.imul, 1)) (kk : gg p l e R s m args below meth c Q cells slots D A nL ws (pc + 1) lo (.int (x * y) :: st)) : gg p l e R s m args below meth c Q cells slots D A nL ws (pc) lo (.int y :: .int x :: st) := fun H locs ls hP hD hS hl => lv_imul X.1 X.2.1 hd (kk H locs ls hP hD hS hl)
theorem gg_iand (X : oc_X p s m args meth c cc nL own D tys A) {x y : Int32} (hd : decode cc pc = .ok (.iand, 1)) (kk : gg p l e R s m args below meth c Q cells slots D A nL ws (pc + 1) lo (.int (x &&& y) :: st)) : gg p l e R s m args below meth c Q cells slots D A nL ws (pc) lo (.int y :: .int x :: st) := fun H locs ls hP hD hS hl => lv_iand X.1 X.2.1 hd (kk H locs ls hP hD hS hl)
theorem gg_ior (X : oc_X p s m args meth c cc nL own D tys A) {x y : Int32} (hd : decode cc pc = .ok (.ior, 1)) (kk : gg p l e R s m args below meth c Q cells slots D A nL ws (pc + 1) lo (.int (x ||| y) :: st)) : gg p l e R s m args below meth c Q cells slots D A nL ws (pc) lo (.int y :: .int x :: st) := fun H locs ls hP hD hS hl => lv_ior X.1 X.2.1 hd (kk H locs ls hP hD hS hl)
theorem gg_ixor (X : oc_X p s m args meth c cc nL own D tys A) {x y : Int32} (hd : decode cc pc = .ok (.ixor, 1)) (kk : gg p l e R s m args below meth c Q cells slots D A nL ws (pc + 1) lo (.int (x ^^^ y) :: st)) : gg p l e R s m args below meth c Q cells slots D A nL ws (pc) lo (.int y :: .int x :: st) := fun H locs ls hP hD hS hl => lv_ixor X.1 X.2.1 hd (kk H locs ls hP hD hS hl)
theorem gg_ishl (X : oc_X p s m args meth c cc nL own D tys A) {x y : Int32} (hd : decode cc pc = .ok (.ishl, 1)) (kk : gg p l e R s m args below meth c Q cells slots D A nL ws (pc + 1) lo (.int (x <<< (y &&& 31)) :: st)) : gg p l e R s m args below meth c Q cells slots D A nL ws (pc) lo (.int y :: .int x :: st) := fun H locs ls hP hD hS hl => lv_ishl X.1 X.2.1 hd (kk H locs ls hP hD hS hl)
theorem gg_ishr (X : oc_X p s m args meth c cc nL own D tys A) {x y : Int32} (hd : decode cc pc = .ok (.ishr, 1)) (kk : gg p l e R s m args below meth c Q cells slots D A nL ws (pc + 1) lo (.int (x >>> (y &&& 31)) :: st)) : gg p l e R s m args below meth c Q cells slots D A nL ws (pc) lo (.int y :: .int x :: st) := fun H locs ls hP hD hS hl => lv_ishr X.1 X.2.1 hd (kk H locs ls hP hD hS hl)
theorem gg_idiv (X : oc_X p s m args meth c cc nL own D tys A) {x y : Int32} (hd : decode cc pc = .ok (.idiv, 1)) (hne : ¬ y = 0) (kk : gg p l e R s m args below meth c Q cells slots D A nL ws (pc + 1) lo (.int (x / y) :: st)) : gg p l e R s m args below meth c Q cells slots D A nL ws (pc) lo (.int y :: .int x :: st) := fun H locs ls hP hD hS hl => lv_idiv X.1 X.2.1 hd hne (kk H locs ls hP hD hS hl)
theorem gg_irem (X : oc_X p s m args meth c cc nL own D tys A) {x y : Int32} (hd : decode cc pc = .ok (.irem, 1)) (hne : ¬ y = 0) (kk : gg p l e R s m args below meth c Q cells slots D A nL ws (pc + 1) lo (.int (x - x / y * y) :: st)) : gg p l e R s m args below meth c Q cells slots D A nL ws (pc) lo (.int y :: .int x :: st) := fun H locs ls hP hD hS hl => lv_irem X.1 X.2.1 hd hne (kk H locs ls hP hD hS hl)
theorem gg_iaddN (X : oc_X p s m args meth c cc nL own D tys A) {a b : Nat} (hd : decode cc pc = .ok (.iadd, 1))  (kk : gg p l e R s m args below meth c Q cells slots D A nL ws (pc + 1) lo (.int (nI (a + b)) :: st)) : gg p l e R s m args below meth c Q cells slots D A nL ws (pc) lo (.int (nI b) :: .int (nI a) :: st) := gg_iadd X hd (gg_top (nI_add a b) kk)
theorem gg_imulN (X : oc_X p s m args meth c cc nL own D tys A) {a b : Nat} (hd : decode cc pc = .ok (.imul, 1))  (kk : gg p l e R s m args below meth c Q cells slots D A nL ws (pc + 1) lo (.int (nI (a * b)) :: st)) : gg p l e R s m args below meth c Q cells slots D A nL ws (pc) lo (.int (nI b) :: .int (nI a) :: st) := gg_imul X hd (gg_top (pk_mul a b) kk)
theorem gg_isubN (X : oc_X p s m args meth c cc nL own D tys A) {a b : Nat} (hd : decode cc pc = .ok (.isub, 1)) (h : b ≤ a) (kk : gg p l e R s m args below meth c Q cells slots D A nL ws (pc + 1) lo (.int (nI (a - b)) :: st)) : gg p l e R s m args below meth c Q cells slots D A nL ws (pc) lo (.int (nI b) :: .int (nI a) :: st) := gg_isub X hd (gg_top (oc_sub h) kk)
theorem gg_iandN (X : oc_X p s m args meth c cc nL own D tys A) {a b : Nat} (hd : decode cc pc = .ok (.iand, 1))  (kk : gg p l e R s m args below meth c Q cells slots D A nL ws (pc + 1) lo (.int (nI (a &&& b)) :: st)) : gg p l e R s m args below meth c Q cells slots D A nL ws (pc) lo (.int (nI b) :: .int (nI a) :: st) := gg_iand X hd (gg_top (oc_and a b) kk)
theorem gg_iorN (X : oc_X p s m args meth c cc nL own D tys A) {a b : Nat} (hd : decode cc pc = .ok (.ior, 1))  (kk : gg p l e R s m args below meth c Q cells slots D A nL ws (pc + 1) lo (.int (nI (a ||| b)) :: st)) : gg p l e R s m args below meth c Q cells slots D A nL ws (pc) lo (.int (nI b) :: .int (nI a) :: st) := gg_ior X hd (gg_top (oc_or a b) kk)
theorem gg_ixorN (X : oc_X p s m args meth c cc nL own D tys A) {a b : Nat} (hd : decode cc pc = .ok (.ixor, 1))  (kk : gg p l e R s m args below meth c Q cells slots D A nL ws (pc + 1) lo (.int (nI (a ^^^ b)) :: st)) : gg p l e R s m args below meth c Q cells slots D A nL ws (pc) lo (.int (nI b) :: .int (nI a) :: st) := gg_ixor X hd (gg_top (oc_xor a b) kk)
theorem gg_ishlN (X : oc_X p s m args meth c cc nL own D tys A) {a b : Nat} (hd : decode cc pc = .ok (.ishl, 1)) (hb : b < 32) (h : a * 2 ^ b < 4294967296) (kk : gg p l e R s m args below meth c Q cells slots D A nL ws (pc + 1) lo (.int (nI (a * 2 ^ b)) :: st)) : gg p l e R s m args below meth c Q cells slots D A nL ws (pc) lo (.int (nI b) :: .int (nI a) :: st) := gg_ishl X hd (gg_top (oc_shl hb h) kk)
theorem gg_ishrN (X : oc_X p s m args meth c cc nL own D tys A) {a b : Nat} (hd : decode cc pc = .ok (.ishr, 1)) (h : a < 2147483648) (hb : b < 32) (kk : gg p l e R s m args below meth c Q cells slots D A nL ws (pc + 1) lo (.int (nI (a / 2 ^ b)) :: st)) : gg p l e R s m args below meth c Q cells slots D A nL ws (pc) lo (.int (nI b) :: .int (nI a) :: st) := gg_ishr X hd (gg_top (oc_shr h hb) kk)
theorem gg_i2s (X : oc_X p s m args meth c cc nL own D tys A) {x : Int32} (hd : decode cc pc = .ok (.i2s, 1)) (hv : x.toInt16.toInt32 = x) (kk : gg p l e R s m args below meth c Q cells slots D A nL ws (pc + 1) lo (.int x :: st)) : gg p l e R s m args below meth c Q cells slots D A nL ws (pc) lo (.int x :: st) := fun H locs ls hP hD hS hl => lv_i2s X.1 X.2.1 hd hv (kk H locs ls hP hD hS hl)
theorem gg_dup (X : oc_X p s m args meth c cc nL own D tys A) {v : Value} (hd : decode cc pc = .ok (.dup, 1)) (hv : v.category = 1) (kk : gg p l e R s m args below meth c Q cells slots D A nL ws (pc + 1) lo (v :: v :: st)) : gg p l e R s m args below meth c Q cells slots D A nL ws (pc) lo (v :: st) := fun H locs ls hP hD hS hl => lv_dup X.1 X.2.1 hd hv (kk H locs ls hP hD hS hl)
theorem gg_goto (X : oc_X p s m args meth c cc nL own D tys A) {off : Int} {tgt : Nat} (hd : decode cc pc = .ok (.goto off, 3)) (ht : (pc : Int) + off = (tgt : Int)) (kk : gg p l e R s m args below meth c Q cells slots D A nL ws (tgt) lo (st)) : gg p l e R s m args below meth c Q cells slots D A nL ws (pc) lo (st) := fun H locs ls hP hD hS hl => lv_goto X.1 X.2.1 hd ht (kk H locs ls hP hD hS hl)
theorem gg_if_eq (X : oc_X p s m args meth c cc nL own D tys A) {x : Int32} {off : Int} {tgt : Nat} (hd : decode cc pc = .ok (.ifCond .eq off, 3)) (ht : (pc : Int) + off = (tgt : Int)) (kt : x = 0 → gg p l e R s m args below meth c Q cells slots D A nL ws (tgt) lo (st)) (kf : ¬ (x = 0) → gg p l e R s m args below meth c Q cells slots D A nL ws (pc + 3) lo (st)) : gg p l e R s m args below meth c Q cells slots D A nL ws (pc) lo (.int x :: st) := fun H locs ls hP hD hS hl =>  lv_if_eq X.1 X.2.1 hd ht (fun h => kt h H locs ls hP hD hS hl) (fun h => kf h H locs ls hP hD hS hl)
theorem gg_ic_eq (X : oc_X p s m args meth c cc nL own D tys A) {x y : Int32} {off : Int} {tgt : Nat} (hd : decode cc pc = .ok (.if_icmp .eq off, 3)) (ht : (pc : Int) + off = (tgt : Int)) (kt : x = y → gg p l e R s m args below meth c Q cells slots D A nL ws (tgt) lo (st)) (kf : ¬ (x = y) → gg p l e R s m args below meth c Q cells slots D A nL ws (pc + 3) lo (st)) : gg p l e R s m args below meth c Q cells slots D A nL ws (pc) lo (.int y :: .int x :: st) := fun H locs ls hP hD hS hl =>  lv_icmp_eq X.1 X.2.1 hd ht (fun h => kt h H locs ls hP hD hS hl) (fun h => kf h H locs ls hP hD hS hl)
theorem gg_if_ne (X : oc_X p s m args meth c cc nL own D tys A) {x : Int32} {off : Int} {tgt : Nat} (hd : decode cc pc = .ok (.ifCond .ne off, 3)) (ht : (pc : Int) + off = (tgt : Int)) (kt : ¬ x = 0 → gg p l e R s m args below meth c Q cells slots D A nL ws (tgt) lo (st)) (kf : x = 0 → gg p l e R s m args below meth c Q cells slots D A nL ws (pc + 3) lo (st)) : gg p l e R s m args below meth c Q cells slots D A nL ws (pc) lo (.int x :: st) := fun H locs ls hP hD hS hl =>  lv_if_ne X.1 X.2.1 hd ht (fun h => kt h H locs ls hP hD hS hl) (fun h => kf h H locs ls hP hD hS hl)
theorem gg_ic_ne (X : oc_X p s m args meth c cc nL own D tys A) {x y : Int32} {off : Int} {tgt : Nat} (hd : decode cc pc = .ok (.if_icmp .ne off, 3)) (ht : (pc : Int) + off = (tgt : Int)) (kt : ¬ x = y → gg p l e R s m args below meth c Q cells slots D A nL ws (tgt) lo (st)) (kf : x = y → gg p l e R s m args below meth c Q cells slots D A nL ws (pc + 3) lo (st)) : gg p l e R s m args below meth c Q cells slots D A nL ws (pc) lo (.int y :: .int x :: st) := fun H locs ls hP hD hS hl =>  lv_icmp_ne X.1 X.2.1 hd ht (fun h => kt h H locs ls hP hD hS hl) (fun h => kf h H locs ls hP hD hS hl)
theorem gg_if_lt (X : oc_X p s m args meth c cc nL own D tys A) {x : Int32} {off : Int} {tgt : Nat} (hd : decode cc pc = .ok (.ifCond .lt off, 3)) (ht : (pc : Int) + off = (tgt : Int)) (kt : x < 0 → gg p l e R s m args below meth c Q cells slots D A nL ws (tgt) lo (st)) (kf : ¬ (x < 0) → gg p l e R s m args below meth c Q cells slots D A nL ws (pc + 3) lo (st)) : gg p l e R s m args below meth c Q cells slots D A nL ws (pc) lo (.int x :: st) := fun H locs ls hP hD hS hl =>  lv_if_lt X.1 X.2.1 hd ht (fun h => kt h H locs ls hP hD hS hl) (fun h => kf h H locs ls hP hD hS hl)
theorem gg_ic_lt (X : oc_X p s m args meth c cc nL own D tys A) {x y : Int32} {off : Int} {tgt : Nat} (hd : decode cc pc = .ok (.if_icmp .lt off, 3)) (ht : (pc : Int) + off = (tgt : Int)) (kt : x < y → gg p l e R s m args below meth c Q cells slots D A nL ws (tgt) lo (st)) (kf : ¬ (x < y) → gg p l e R s m args below meth c Q cells slots D A nL ws (pc + 3) lo (st)) : gg p l e R s m args below meth c Q cells slots D A nL ws (pc) lo (.int y :: .int x :: st) := fun H locs ls hP hD hS hl =>  lv_icmp_lt X.1 X.2.1 hd ht (fun h => kt h H locs ls hP hD hS hl) (fun h => kf h H locs ls hP hD hS hl)
theorem gg_if_ge (X : oc_X p s m args meth c cc nL own D tys A) {x : Int32} {off : Int} {tgt : Nat} (hd : decode cc pc = .ok (.ifCond .ge off, 3)) (ht : (pc : Int) + off = (tgt : Int)) (kt : 0 ≤ x → gg p l e R s m args below meth c Q cells slots D A nL ws (tgt) lo (st)) (kf : ¬ (0 ≤ x) → gg p l e R s m args below meth c Q cells slots D A nL ws (pc + 3) lo (st)) : gg p l e R s m args below meth c Q cells slots D A nL ws (pc) lo (.int x :: st) := fun H locs ls hP hD hS hl =>  lv_if_ge X.1 X.2.1 hd ht (fun h => kt h H locs ls hP hD hS hl) (fun h => kf h H locs ls hP hD hS hl)
theorem gg_ic_ge (X : oc_X p s m args meth c cc nL own D tys A) {x y : Int32} {off : Int} {tgt : Nat} (hd : decode cc pc = .ok (.if_icmp .ge off, 3)) (ht : (pc : Int) + off = (tgt : Int)) (kt : y ≤ x → gg p l e R s m args below meth c Q cells slots D A nL ws (tgt) lo (st)) (kf : ¬ (y ≤ x) → gg p l e R s m args below meth c Q cells slots D A nL ws (pc + 3) lo (st)) : gg p l e R s m args below meth c Q cells slots D A nL ws (pc) lo (.int y :: .int x :: st) := fun H locs ls hP hD hS hl =>  lv_icmp_ge X.1 X.2.1 hd ht (fun h => kt h H locs ls hP hD hS hl) (fun h => kf h H locs ls hP hD hS hl)
theorem gg_if_gt (X : oc_X p s m args meth c cc nL own D tys A) {x : Int32} {off : Int} {tgt : Nat} (hd : decode cc pc = .ok (.ifCond .gt off, 3)) (ht : (pc : Int) + off = (tgt : Int)) (kt : 0 < x → gg p l e R s m args below meth c Q cells slots D A nL ws (tgt) lo (st)) (kf : ¬ (0 < x) → gg p l e R s m args below meth c Q cells slots D A nL ws (pc + 3) lo (st)) : gg p l e R s m args below meth c Q cells slots D A nL ws (pc) lo (.int x :: st) := fun H locs ls hP hD hS hl =>  lv_if_gt X.1 X.2.1 hd ht (fun h => kt h H locs ls hP hD hS hl) (fun h => kf h H locs ls hP hD hS hl)
theorem gg_ic_gt (X : oc_X p s m args meth c cc nL own D tys A) {x y : Int32} {off : Int} {tgt : Nat} (hd : decode cc pc = .ok (.if_icmp .gt off, 3)) (ht : (pc : Int) + off = (tgt : Int)) (kt : y < x → gg p l e R s m args below meth c Q cells slots D A nL ws (tgt) lo (st)) (kf : ¬ (y < x) → gg p l e R s m args below meth c Q cells slots D A nL ws (pc + 3) lo (st)) : gg p l e R s m args below meth c Q cells slots D A nL ws (pc) lo (.int y :: .int x :: st) := fun H locs ls hP hD hS hl =>  lv_icmp_gt X.1 X.2.1 hd ht (fun h => kt h H locs ls hP hD hS hl) (fun h => kf h H locs ls hP hD hS hl)
theorem gg_if_le (X : oc_X p s m args meth c cc nL own D tys A) {x : Int32} {off : Int} {tgt : Nat} (hd : decode cc pc = .ok (.ifCond .le off, 3)) (ht : (pc : Int) + off = (tgt : Int)) (kt : x ≤ 0 → gg p l e R s m args below meth c Q cells slots D A nL ws (tgt) lo (st)) (kf : ¬ (x ≤ 0) → gg p l e R s m args below meth c Q cells slots D A nL ws (pc + 3) lo (st)) : gg p l e R s m args below meth c Q cells slots D A nL ws (pc) lo (.int x :: st) := fun H locs ls hP hD hS hl =>  lv_if_le X.1 X.2.1 hd ht (fun h => kt h H locs ls hP hD hS hl) (fun h => kf h H locs ls hP hD hS hl)
theorem gg_ic_le (X : oc_X p s m args meth c cc nL own D tys A) {x y : Int32} {off : Int} {tgt : Nat} (hd : decode cc pc = .ok (.if_icmp .le off, 3)) (ht : (pc : Int) + off = (tgt : Int)) (kt : x ≤ y → gg p l e R s m args below meth c Q cells slots D A nL ws (tgt) lo (st)) (kf : ¬ (x ≤ y) → gg p l e R s m args below meth c Q cells slots D A nL ws (pc + 3) lo (st)) : gg p l e R s m args below meth c Q cells slots D A nL ws (pc) lo (.int y :: .int x :: st) := fun H locs ls hP hD hS hl =>  lv_icmp_le X.1 X.2.1 hd ht (fun h => kt h H locs ls hP hD hS hl) (fun h => kf h H locs ls hP hD hS hl)
theorem gg_ic_eqN (X : oc_X p s m args meth c cc nL own D tys A) {a b : Nat} {off : Int} {tgt : Nat} (hd : decode cc pc = .ok (.if_icmp .eq off, 3)) (ht : (pc : Int) + off = (tgt : Int)) (ha : a < 2147483648) (hb : b < 2147483648) (kt : a = b → gg p l e R s m args below meth c Q cells slots D A nL ws (tgt) lo (st)) (kf : a ≠ b → gg p l e R s m args below meth c Q cells slots D A nL ws (pc + 3) lo (st)) : gg p l e R s m args below meth c Q cells slots D A nL ws (pc) lo (.int (nI b) :: .int (nI a) :: st) := by
  have ha : a < 2 ^ 31 := by omega
  have hb : b < 2 ^ 31 := by omega
  have hh := nI_eq ha hb
  exact gg_ic_eq X hd ht (fun h => kt (by first | omega | exact fun q => h (hh.mpr q) | exact hh.mp h)) (fun h => kf (by first | omega | exact fun q => h (hh.mpr q) | exact Nat.not_lt.mp (fun q => h (hh.mpr q)) | exact Nat.not_le.mp (fun q => h (hh.mpr q)) | exact hh.mp h))
theorem gg_ic_neN (X : oc_X p s m args meth c cc nL own D tys A) {a b : Nat} {off : Int} {tgt : Nat} (hd : decode cc pc = .ok (.if_icmp .ne off, 3)) (ht : (pc : Int) + off = (tgt : Int)) (ha : a < 2147483648) (hb : b < 2147483648) (kt : a ≠ b → gg p l e R s m args below meth c Q cells slots D A nL ws (tgt) lo (st)) (kf : a = b → gg p l e R s m args below meth c Q cells slots D A nL ws (pc + 3) lo (st)) : gg p l e R s m args below meth c Q cells slots D A nL ws (pc) lo (.int (nI b) :: .int (nI a) :: st) := by
  have ha : a < 2 ^ 31 := by omega
  have hb : b < 2 ^ 31 := by omega
  have hh := nI_eq ha hb
  exact gg_ic_ne X hd ht (fun h => kt (by first | omega | exact fun q => h (hh.mpr q) | exact hh.mp h)) (fun h => kf (by first | omega | exact fun q => h (hh.mpr q) | exact Nat.not_lt.mp (fun q => h (hh.mpr q)) | exact Nat.not_le.mp (fun q => h (hh.mpr q)) | exact hh.mp h))
theorem gg_ic_ltN (X : oc_X p s m args meth c cc nL own D tys A) {a b : Nat} {off : Int} {tgt : Nat} (hd : decode cc pc = .ok (.if_icmp .lt off, 3)) (ht : (pc : Int) + off = (tgt : Int)) (ha : a < 2147483648) (hb : b < 2147483648) (kt : a < b → gg p l e R s m args below meth c Q cells slots D A nL ws (tgt) lo (st)) (kf : b ≤ a → gg p l e R s m args below meth c Q cells slots D A nL ws (pc + 3) lo (st)) : gg p l e R s m args below meth c Q cells slots D A nL ws (pc) lo (.int (nI b) :: .int (nI a) :: st) := by
  have ha : a < 2 ^ 31 := by omega
  have hb : b < 2 ^ 31 := by omega
  have hh := nI_ltI ha hb
  exact gg_ic_lt X hd ht (fun h => kt (by first | omega | exact fun q => h (hh.mpr q) | exact hh.mp h)) (fun h => kf (by first | omega | exact fun q => h (hh.mpr q) | exact Nat.not_lt.mp (fun q => h (hh.mpr q)) | exact Nat.not_le.mp (fun q => h (hh.mpr q)) | exact hh.mp h))
theorem gg_ic_geN (X : oc_X p s m args meth c cc nL own D tys A) {a b : Nat} {off : Int} {tgt : Nat} (hd : decode cc pc = .ok (.if_icmp .ge off, 3)) (ht : (pc : Int) + off = (tgt : Int)) (ha : a < 2147483648) (hb : b < 2147483648) (kt : b ≤ a → gg p l e R s m args below meth c Q cells slots D A nL ws (tgt) lo (st)) (kf : a < b → gg p l e R s m args below meth c Q cells slots D A nL ws (pc + 3) lo (st)) : gg p l e R s m args below meth c Q cells slots D A nL ws (pc) lo (.int (nI b) :: .int (nI a) :: st) := by
  have ha : a < 2 ^ 31 := by omega
  have hb : b < 2 ^ 31 := by omega
  have hh := nI_leI hb ha
  exact gg_ic_ge X hd ht (fun h => kt (by first | omega | exact fun q => h (hh.mpr q) | exact hh.mp h)) (fun h => kf (by first | omega | exact fun q => h (hh.mpr q) | exact Nat.not_lt.mp (fun q => h (hh.mpr q)) | exact Nat.not_le.mp (fun q => h (hh.mpr q)) | exact hh.mp h))
theorem gg_ic_gtN (X : oc_X p s m args meth c cc nL own D tys A) {a b : Nat} {off : Int} {tgt : Nat} (hd : decode cc pc = .ok (.if_icmp .gt off, 3)) (ht : (pc : Int) + off = (tgt : Int)) (ha : a < 2147483648) (hb : b < 2147483648) (kt : b < a → gg p l e R s m args below meth c Q cells slots D A nL ws (tgt) lo (st)) (kf : a ≤ b → gg p l e R s m args below meth c Q cells slots D A nL ws (pc + 3) lo (st)) : gg p l e R s m args below meth c Q cells slots D A nL ws (pc) lo (.int (nI b) :: .int (nI a) :: st) := by
  have ha : a < 2 ^ 31 := by omega
  have hb : b < 2 ^ 31 := by omega
  have hh := nI_ltI hb ha
  exact gg_ic_gt X hd ht (fun h => kt (by first | omega | exact fun q => h (hh.mpr q) | exact hh.mp h)) (fun h => kf (by first | omega | exact fun q => h (hh.mpr q) | exact Nat.not_lt.mp (fun q => h (hh.mpr q)) | exact Nat.not_le.mp (fun q => h (hh.mpr q)) | exact hh.mp h))
theorem gg_ic_leN (X : oc_X p s m args meth c cc nL own D tys A) {a b : Nat} {off : Int} {tgt : Nat} (hd : decode cc pc = .ok (.if_icmp .le off, 3)) (ht : (pc : Int) + off = (tgt : Int)) (ha : a < 2147483648) (hb : b < 2147483648) (kt : a ≤ b → gg p l e R s m args below meth c Q cells slots D A nL ws (tgt) lo (st)) (kf : b < a → gg p l e R s m args below meth c Q cells slots D A nL ws (pc + 3) lo (st)) : gg p l e R s m args below meth c Q cells slots D A nL ws (pc) lo (.int (nI b) :: .int (nI a) :: st) := by
  have ha : a < 2 ^ 31 := by omega
  have hb : b < 2 ^ 31 := by omega
  have hh := nI_leI ha hb
  exact gg_ic_le X hd ht (fun h => kt (by first | omega | exact fun q => h (hh.mpr q) | exact hh.mp h)) (fun h => kf (by first | omega | exact fun q => h (hh.mpr q) | exact Nat.not_lt.mp (fun q => h (hh.mpr q)) | exact Nat.not_le.mp (fun q => h (hh.mpr q)) | exact hh.mp h))
theorem gg_if_eqN (X : oc_X p s m args meth c cc nL own D tys A) {a : Nat} {off : Int} {tgt : Nat} (hd : decode cc pc = .ok (.ifCond .eq off, 3)) (ht : (pc : Int) + off = (tgt : Int)) (ha : a < 2147483648) (kt : a = 0 → gg p l e R s m args below meth c Q cells slots D A nL ws (tgt) lo (st)) (kf : a ≠ 0 → gg p l e R s m args below meth c Q cells slots D A nL ws (pc + 3) lo (st)) : gg p l e R s m args below meth c Q cells slots D A nL ws (pc) lo (.int (nI a) :: st) := by
  have ha : a < 2 ^ 31 := by omega
  have h0 : nI a = 0 ↔ a = 0 := by rw [← nI_0]; exact nI_eq ha (by omega)
  have h1 : 0 < nI a ↔ 0 < a := by rw [← nI_0]; exact nI_ltI (by omega) ha
  have h2 : nI a ≤ 0 ↔ a = 0 := by rw [← nI_0, nI_leI ha (by omega)]; omega
  by_cases z : a = 0
  · exact gg_if_eq X hd ht (fun _ => kt (by omega)) (fun h => absurd (h0.mpr z) h)
  · exact gg_if_eq X hd ht (fun h => absurd h (fun q => z (h0.mp q))) (fun _ => kf (by omega))
theorem gg_if_neN (X : oc_X p s m args meth c cc nL own D tys A) {a : Nat} {off : Int} {tgt : Nat} (hd : decode cc pc = .ok (.ifCond .ne off, 3)) (ht : (pc : Int) + off = (tgt : Int)) (ha : a < 2147483648) (kt : a ≠ 0 → gg p l e R s m args below meth c Q cells slots D A nL ws (tgt) lo (st)) (kf : a = 0 → gg p l e R s m args below meth c Q cells slots D A nL ws (pc + 3) lo (st)) : gg p l e R s m args below meth c Q cells slots D A nL ws (pc) lo (.int (nI a) :: st) := by
  have ha : a < 2 ^ 31 := by omega
  have h0 : nI a = 0 ↔ a = 0 := by rw [← nI_0]; exact nI_eq ha (by omega)
  have h1 : 0 < nI a ↔ 0 < a := by rw [← nI_0]; exact nI_ltI (by omega) ha
  have h2 : nI a ≤ 0 ↔ a = 0 := by rw [← nI_0, nI_leI ha (by omega)]; omega
  by_cases z : a = 0
  · exact gg_if_ne X hd ht (fun h => absurd h (fun q => q (h0.mpr z))) (fun _ => kf (by omega))
  · exact gg_if_ne X hd ht (fun _ => kt (by omega)) (fun h => absurd (h0.mp h) z)
theorem gg_if_gtN (X : oc_X p s m args meth c cc nL own D tys A) {a : Nat} {off : Int} {tgt : Nat} (hd : decode cc pc = .ok (.ifCond .gt off, 3)) (ht : (pc : Int) + off = (tgt : Int)) (ha : a < 2147483648) (kt : 0 < a → gg p l e R s m args below meth c Q cells slots D A nL ws (tgt) lo (st)) (kf : a = 0 → gg p l e R s m args below meth c Q cells slots D A nL ws (pc + 3) lo (st)) : gg p l e R s m args below meth c Q cells slots D A nL ws (pc) lo (.int (nI a) :: st) := by
  have ha : a < 2 ^ 31 := by omega
  have h0 : nI a = 0 ↔ a = 0 := by rw [← nI_0]; exact nI_eq ha (by omega)
  have h1 : 0 < nI a ↔ 0 < a := by rw [← nI_0]; exact nI_ltI (by omega) ha
  have h2 : nI a ≤ 0 ↔ a = 0 := by rw [← nI_0, nI_leI ha (by omega)]; omega
  by_cases z : a = 0
  · exact gg_if_gt X hd ht (fun h => absurd h (fun q => absurd (h1.mp q) (by omega))) (fun _ => kf (by omega))
  · exact gg_if_gt X hd ht (fun _ => kt (by omega)) (fun h => absurd (h1.mpr (by omega)) h)
theorem gg_if_leN (X : oc_X p s m args meth c cc nL own D tys A) {a : Nat} {off : Int} {tgt : Nat} (hd : decode cc pc = .ok (.ifCond .le off, 3)) (ht : (pc : Int) + off = (tgt : Int)) (ha : a < 2147483648) (kt : a = 0 → gg p l e R s m args below meth c Q cells slots D A nL ws (tgt) lo (st)) (kf : 0 < a → gg p l e R s m args below meth c Q cells slots D A nL ws (pc + 3) lo (st)) : gg p l e R s m args below meth c Q cells slots D A nL ws (pc) lo (.int (nI a) :: st) := by
  have ha : a < 2 ^ 31 := by omega
  have h0 : nI a = 0 ↔ a = 0 := by rw [← nI_0]; exact nI_eq ha (by omega)
  have h1 : 0 < nI a ↔ 0 < a := by rw [← nI_0]; exact nI_ltI (by omega) ha
  have h2 : nI a ≤ 0 ↔ a = 0 := by rw [← nI_0, nI_leI ha (by omega)]; omega
  by_cases z : a = 0
  · exact gg_if_le X hd ht (fun _ => kt (by omega)) (fun h => absurd (h2.mpr z) h)
  · exact gg_if_le X hd ht (fun h => absurd h (fun q => z (h2.mp q))) (fun _ => kf (by omega))
theorem gg_if_ltN (X : oc_X p s m args meth c cc nL own D tys A) {a : Nat} {off : Int} {tgt : Nat} (hd : decode cc pc = .ok (.ifCond .lt off, 3)) (ht : (pc : Int) + off = (tgt : Int)) (ha : a < 2147483648) (kf : gg p l e R s m args below meth c Q cells slots D A nL ws (pc + 3) lo (st)) : gg p l e R s m args below meth c Q cells slots D A nL ws (pc) lo (.int (nI a) :: st) := gg_if_lt X hd ht (fun h => absurd h (nI_pos (by omega))) (fun _ => kf)
end GG
end
section
/-! the objects' worlds: numbers in arrays: s 0 parts, 1 used, 2 heads (+1), 3 chain (+1), 4 seen, 5 roots, 6 eight, 7 small, 8 middle; 9: free, task, left, right, corner, other, put. The model: t 0 in, t 1 made -/
def oc_up (s : Nat → Nat → Nat) (a k x : Nat) : Nat → Nat → Nat := fun b j => if b = a ∧ j = k then x else s b j
theorem oc_up_s (s : Nat → Nat → Nat) (a k x : Nat) : oc_up s a k x a k = x := by simp [oc_up]
theorem oc_up_a (s : Nat → Nat → Nat) {a b : Nat} (k x j : Nat) (h : b ≠ a) : oc_up s a k x b j = s b j := by simp [oc_up, h]
theorem oc_up_k (s : Nat → Nat → Nat) (a b : Nat) {k j : Nat} (x : Nat) (h : j ≠ k) : oc_up s a k x b j = s b j := by simp [oc_up, h]
def oc_xF (ad : Nat → Nat) (s : Nat → Nat → Nat) : List Value := [.ref (ad 1), .ref (ad 2), .ref (ad 3), .ref (ad 4), .int (nI (s 9 0)), .ref (ad 5), .ref (ad 6), .ref (ad 7), .ref (ad 8), .ref (ad 9), .int (nI (s 9 1)), .int (nI (s 9 2)), .int (nI (s 9 3)), .int (nI (s 9 4)), .int (nI (s 9 5)), .int (nI (s 9 6))]
def oc_xW (ad : Nat → Nat) (dS dZ : ClassId) (s : Nat → Nat → Nat) : va_W := [(ad 0, .inr (0, oc_xF ad s)), (ad 1, .inl (dS, 4096, .inl (fun j => nI (s 0 j)))), (ad 2, .inl (dZ, 512, .inl (fun j => nI (s 1 j)))), (ad 3, .inl (dS, 256, .inl (fun j => oc_c (s 2 j)))), (ad 4, .inl (dS, 512, .inl (fun j => oc_c (s 3 j)))), (ad 5, .inl (dZ, 512, .inl (fun j => nI (s 4 j)))), (ad 6, .inl (dS, 4, .inl (fun j => nI (s 5 j)))), (ad 7, .inl (dS, 8, .inl (fun j => nI (s 6 j)))), (ad 8, .inl (dS, 64, .inl (fun j => nI (s 7 j)))), (ad 9, .inl (dS, 8, .inl (fun j => nI (s 8 j))))]
def oc_mW (ad : Nat → Nat) (dZ : ClassId) (t : Nat → Nat → Nat) : va_W := [(ad 0, .inr (1, [.ref (ad 1), .ref (ad 2)])), (ad 1, .inl (dZ, 2048, .inl (fun j => nI (t 0 j)))), (ad 2, .inl (dZ, 512, .inl (fun j => nI (t 1 j))))]
abbrev oc_tx (dS dZ : ClassId) : List (ClassId × FieldType) := [(dS, .short), (dZ, .boolean)]
abbrev oc_tm (dZ : ClassId) : List (ClassId × FieldType) := [(dZ, .boolean)]
theorem oc_upd_n (s : Nat → Nat → Nat) (a k x : Nat) : upd (fun j => nI (s a j)) k (nI x) = fun j => nI (oc_up s a k x a j) := by
  funext j
  by_cases h : j = k <;> simp [upd, oc_up, h]
theorem oc_upd_c (s : Nat → Nat → Nat) (a k x : Nat) : upd (fun j => oc_c (s a j)) k (oc_c x) = fun j => oc_c (oc_up s a k x a j) := by
  funext j
  by_cases h : j = k <;> simp [upd, oc_up, h]
theorem oc_xW_a0 (ad : Nat → Nat) (dS dZ : ClassId) (s : Nat → Nat → Nat) (k x : Nat) : (oc_xW ad dS dZ s).set 1 (ad 1, .inl (dS, 4096, .inl (upd (fun j => nI (s 0 j)) k (nI x)))) = oc_xW ad dS dZ (oc_up s 0 k x) := by
  rw [oc_upd_n]
  rfl
theorem oc_xW_a1 (ad : Nat → Nat) (dS dZ : ClassId) (s : Nat → Nat → Nat) (k x : Nat) : (oc_xW ad dS dZ s).set 2 (ad 2, .inl (dZ, 512, .inl (upd (fun j => nI (s 1 j)) k (nI x)))) = oc_xW ad dS dZ (oc_up s 1 k x) := by
  rw [oc_upd_n]
  rfl
theorem oc_xW_a2 (ad : Nat → Nat) (dS dZ : ClassId) (s : Nat → Nat → Nat) (k x : Nat) : (oc_xW ad dS dZ s).set 3 (ad 3, .inl (dS, 256, .inl (upd (fun j => oc_c (s 2 j)) k (oc_c x)))) = oc_xW ad dS dZ (oc_up s 2 k x) := by
  rw [oc_upd_c]
  rfl
theorem oc_xW_a3 (ad : Nat → Nat) (dS dZ : ClassId) (s : Nat → Nat → Nat) (k x : Nat) : (oc_xW ad dS dZ s).set 4 (ad 4, .inl (dS, 512, .inl (upd (fun j => oc_c (s 3 j)) k (oc_c x)))) = oc_xW ad dS dZ (oc_up s 3 k x) := by
  rw [oc_upd_c]
  rfl
theorem oc_xW_a4 (ad : Nat → Nat) (dS dZ : ClassId) (s : Nat → Nat → Nat) (k x : Nat) : (oc_xW ad dS dZ s).set 5 (ad 5, .inl (dZ, 512, .inl (upd (fun j => nI (s 4 j)) k (nI x)))) = oc_xW ad dS dZ (oc_up s 4 k x) := by
  rw [oc_upd_n]
  rfl
theorem oc_xW_a5 (ad : Nat → Nat) (dS dZ : ClassId) (s : Nat → Nat → Nat) (k x : Nat) : (oc_xW ad dS dZ s).set 6 (ad 6, .inl (dS, 4, .inl (upd (fun j => nI (s 5 j)) k (nI x)))) = oc_xW ad dS dZ (oc_up s 5 k x) := by
  rw [oc_upd_n]
  rfl
theorem oc_xW_a6 (ad : Nat → Nat) (dS dZ : ClassId) (s : Nat → Nat → Nat) (k x : Nat) : (oc_xW ad dS dZ s).set 7 (ad 7, .inl (dS, 8, .inl (upd (fun j => nI (s 6 j)) k (nI x)))) = oc_xW ad dS dZ (oc_up s 6 k x) := by
  rw [oc_upd_n]
  rfl
theorem oc_xW_a7 (ad : Nat → Nat) (dS dZ : ClassId) (s : Nat → Nat → Nat) (k x : Nat) : (oc_xW ad dS dZ s).set 8 (ad 8, .inl (dS, 64, .inl (upd (fun j => nI (s 7 j)) k (nI x)))) = oc_xW ad dS dZ (oc_up s 7 k x) := by
  rw [oc_upd_n]
  rfl
theorem oc_xW_a8 (ad : Nat → Nat) (dS dZ : ClassId) (s : Nat → Nat → Nat) (k x : Nat) : (oc_xW ad dS dZ s).set 9 (ad 9, .inl (dS, 8, .inl (upd (fun j => nI (s 8 j)) k (nI x)))) = oc_xW ad dS dZ (oc_up s 8 k x) := by
  rw [oc_upd_n]
  rfl
theorem oc_xW_i0 (ad : Nat → Nat) (dS dZ : ClassId) (s : Nat → Nat → Nat) (x : Nat) : (oc_xW ad dS dZ s).set 0 (ad 0, .inr (0, (oc_xF ad s).set 4 (.int (nI x)))) = oc_xW ad dS dZ (oc_up s 9 0 x) := rfl
theorem oc_xW_i1 (ad : Nat → Nat) (dS dZ : ClassId) (s : Nat → Nat → Nat) (x : Nat) : (oc_xW ad dS dZ s).set 0 (ad 0, .inr (0, (oc_xF ad s).set 10 (.int (nI x)))) = oc_xW ad dS dZ (oc_up s 9 1 x) := rfl
theorem oc_xW_i2 (ad : Nat → Nat) (dS dZ : ClassId) (s : Nat → Nat → Nat) (x : Nat) : (oc_xW ad dS dZ s).set 0 (ad 0, .inr (0, (oc_xF ad s).set 11 (.int (nI x)))) = oc_xW ad dS dZ (oc_up s 9 2 x) := rfl
theorem oc_xW_i3 (ad : Nat → Nat) (dS dZ : ClassId) (s : Nat → Nat → Nat) (x : Nat) : (oc_xW ad dS dZ s).set 0 (ad 0, .inr (0, (oc_xF ad s).set 12 (.int (nI x)))) = oc_xW ad dS dZ (oc_up s 9 3 x) := rfl
theorem oc_xW_i4 (ad : Nat → Nat) (dS dZ : ClassId) (s : Nat → Nat → Nat) (x : Nat) : (oc_xW ad dS dZ s).set 0 (ad 0, .inr (0, (oc_xF ad s).set 13 (.int (nI x)))) = oc_xW ad dS dZ (oc_up s 9 4 x) := rfl
theorem oc_xW_i5 (ad : Nat → Nat) (dS dZ : ClassId) (s : Nat → Nat → Nat) (x : Nat) : (oc_xW ad dS dZ s).set 0 (ad 0, .inr (0, (oc_xF ad s).set 14 (.int (nI x)))) = oc_xW ad dS dZ (oc_up s 9 5 x) := rfl
theorem oc_xW_i6 (ad : Nat → Nat) (dS dZ : ClassId) (s : Nat → Nat → Nat) (x : Nat) : (oc_xW ad dS dZ s).set 0 (ad 0, .inr (0, (oc_xF ad s).set 15 (.int (nI x)))) = oc_xW ad dS dZ (oc_up s 9 6 x) := rfl
theorem oc_mW_a0 (ad : Nat → Nat) (dZ : ClassId) (s : Nat → Nat → Nat) (k x : Nat) : (oc_mW ad dZ s).set 1 (ad 1, .inl (dZ, 2048, .inl (upd (fun j => nI (s 0 j)) k (nI x)))) = oc_mW ad dZ (oc_up s 0 k x) := by
  rw [oc_upd_n]
  rfl
theorem oc_mW_a1 (ad : Nat → Nat) (dZ : ClassId) (s : Nat → Nat → Nat) (k x : Nat) : (oc_mW ad dZ s).set 2 (ad 2, .inl (dZ, 512, .inl (upd (fun j => nI (s 1 j)) k (nI x)))) = oc_mW ad dZ (oc_up s 1 k x) := by
  rw [oc_upd_n]
  rfl
section GW
variable {p : Program} {l : Launch} {e : Env} {R : Room} {s : State} {m : MethodId} {args : Array Value} {below : List Frame} {meth : Method} {c : Code} {Q : State → Prop} {cells slots : Nat} {D : va_G} {A : Nat → Prop} {nL : Nat} {ws : va_W} {pc : Nat} {lo : List (Option Value)} {st : List Value}
variable {cc : ByteArray} {own : String} {tys : List (ClassId × FieldType)} {ad : Nat → Nat} {dS dZ : ClassId} {v : Nat → Nat → Nat}
theorem gw_sald (X : oc_X p s m args meth c cc nL own D tys A) (q0 t0 : Nat) {a n : Nat} {cA : ClassId} {f : Nat → Int32} (ha : ws[q0]? = some (a, .inl (cA, n, .inl f))) (ht : tys[t0]? = some (cA, .short)) {k : Nat} (hk : k < n) (hn : n < 2147483648) (hd : decode cc pc = .ok (.saload, 1)) (kk : gg p l e R s m args below meth c Q cells slots D A nL (ws) (pc + 1) lo (.int (f k) :: st)) : gg p l e R s m args below meth c Q cells slots D A nL (ws) (pc) lo (.int (nI k) :: .ref a :: st) := by
  intro H locs ls hP hD hS hl
  refine va_sald X.1 X.2.1 X.2.2.2.2.2.1 hP q0 t0 ha ht (vp_in_nI hk (by omega)) hd ?_
  rw [nI_clamp (by omega)]
  exact kk H locs ls hP hD hS hl
theorem gw_zald (X : oc_X p s m args meth c cc nL own D tys A) (q0 t0 : Nat) {a n : Nat} {cA : ClassId} {f : Nat → Int32} (ha : ws[q0]? = some (a, .inl (cA, n, .inl f))) (ht : tys[t0]? = some (cA, .boolean)) {k : Nat} (hk : k < n) (hn : n < 2147483648) (hd : decode cc pc = .ok (.baload, 1)) (kk : gg p l e R s m args below meth c Q cells slots D A nL (ws) (pc + 1) lo (.int (f k) :: st)) : gg p l e R s m args below meth c Q cells slots D A nL (ws) (pc) lo (.int (nI k) :: .ref a :: st) := by
  intro H locs ls hP hD hS hl
  refine va_zald X.1 X.2.1 X.2.2.2.2.2.1 hP q0 t0 ha ht (vp_in_nI hk (by omega)) hd ?_
  rw [nI_clamp (by omega)]
  exact kk H locs ls hP hD hS hl
theorem gw_sast (X : oc_X p s m args meth c cc nL own D tys A) (q0 t0 : Nat) {a n : Nat} {cA : ClassId} {f : Nat → Int32} (ha : ws[q0]? = some (a, .inl (cA, n, .inl f))) (ht : tys[t0]? = some (cA, .short)) {k : Nat} {x : Int32} (hx : vp_nar .short x = x) (hk : k < n) (hn : n < 2147483648) (hd : decode cc pc = .ok (.sastore, 1)) {ws' : va_W} (hw : ws.set q0 (a, .inl (cA, n, .inl (upd f k x))) = ws') (kk : gg p l e R s m args below meth c Q cells slots D A nL (ws') (pc + 1) lo (st)) : gg p l e R s m args below meth c Q cells slots D A nL (ws) (pc) lo (.int x :: .int (nI k) :: .ref a :: st) := by
  intro H locs ls hP hD hS hl
  refine va_sast X.1 X.2.1 X.2.2.2.2.2.1 hP hD hS q0 t0 ha ht (vp_in_nI hk (by omega)) hd (fun H1 locs1 hP hD hS => ?_)
  rw [nI_clamp (by omega), hx, hw] at hP hD
  exact kk H1 locs1 ls hP hD hS hl
theorem gw_zast (X : oc_X p s m args meth c cc nL own D tys A) (q0 t0 : Nat) {a n : Nat} {cA : ClassId} {f : Nat → Int32} (ha : ws[q0]? = some (a, .inl (cA, n, .inl f))) (ht : tys[t0]? = some (cA, .boolean)) {k : Nat} {x : Int32} (hx : vp_nar .boolean x = x) (hk : k < n) (hn : n < 2147483648) (hd : decode cc pc = .ok (.bastore, 1)) {ws' : va_W} (hw : ws.set q0 (a, .inl (cA, n, .inl (upd f k x))) = ws') (kk : gg p l e R s m args below meth c Q cells slots D A nL (ws') (pc + 1) lo (st)) : gg p l e R s m args below meth c Q cells slots D A nL (ws) (pc) lo (.int x :: .int (nI k) :: .ref a :: st) := by
  intro H locs ls hP hD hS hl
  refine va_zast X.1 X.2.1 X.2.2.2.2.2.1 hP hD hS q0 t0 ha ht (vp_in_nI hk (by omega)) hd (fun H1 locs1 hP hD hS => ?_)
  rw [nI_clamp (by omega), hx, hw] at hP hD
  exact kk H1 locs1 ls hP hD hS hl
theorem gx_get (X : oc_X p s m args meth c cc nL RX0 D tys A) (k : Nat) (hk : k < 16) {idx : Nat} (hq : Cond.fieldLink RX0 idx (TX0 k).1 (TX0 k).2.1 (TX0 k).2.2.1 ∈ lw_all) {w : Value} (hv : (oc_xF ad v)[k]? = some w) (hd : decode cc pc = .ok (.getfield idx, 3)) (kk : gg p l e R s m args below meth c Q cells slots D A nL (oc_xW ad dS dZ v) (pc + 3) lo (w :: st)) : gg p l e R s m args below meth c Q cells slots D A nL (oc_xW ad dS dZ v) (pc) lo (.ref (ad 0) :: st) := fun H locs ls hP hD hS hl => va_get (D := D) (ci := 0) (v := w) (C := RX0) (T := TX0) (N := 16) X.1 X.2.1 X.2.2.2.2.1 in_X0 X.2.2.2.1 X.2.2.2.2.2.1 hP 0 rfl rfl k hk (X.2.2.2.2.1 _ hq) (fun _ h9 => h9) hv hd (kk H locs ls hP hD hS hl)
theorem gx_g_parts (X : oc_X p s m args meth c cc nL RX0 D tys A) (hd : decode cc pc = .ok (.getfield 7, 3)) (kk : gg p l e R s m args below meth c Q cells slots D A nL (oc_xW ad dS dZ v) (pc + 3) lo (.ref (ad 1) :: st)) : gg p l e R s m args below meth c Q cells slots D A nL (oc_xW ad dS dZ v) (pc) lo (.ref (ad 0) :: st) := gx_get X 0 (by decide) q37 rfl hd kk
theorem gx_g_used (X : oc_X p s m args meth c cc nL RX0 D tys A) (hd : decode cc pc = .ok (.getfield 13, 3)) (kk : gg p l e R s m args below meth c Q cells slots D A nL (oc_xW ad dS dZ v) (pc + 3) lo (.ref (ad 2) :: st)) : gg p l e R s m args below meth c Q cells slots D A nL (oc_xW ad dS dZ v) (pc) lo (.ref (ad 0) :: st) := gx_get X 1 (by decide) q38 rfl hd kk
theorem gx_g_heads (X : oc_X p s m args meth c cc nL RX0 D tys A) (hd : decode cc pc = .ok (.getfield 17, 3)) (kk : gg p l e R s m args below meth c Q cells slots D A nL (oc_xW ad dS dZ v) (pc + 3) lo (.ref (ad 3) :: st)) : gg p l e R s m args below meth c Q cells slots D A nL (oc_xW ad dS dZ v) (pc) lo (.ref (ad 0) :: st) := gx_get X 2 (by decide) q39 rfl hd kk
theorem gx_g_chain (X : oc_X p s m args meth c cc nL RX0 D tys A) (hd : decode cc pc = .ok (.getfield 20, 3)) (kk : gg p l e R s m args below meth c Q cells slots D A nL (oc_xW ad dS dZ v) (pc + 3) lo (.ref (ad 4) :: st)) : gg p l e R s m args below meth c Q cells slots D A nL (oc_xW ad dS dZ v) (pc) lo (.ref (ad 0) :: st) := gx_get X 3 (by decide) q40 rfl hd kk
theorem gx_g_free (X : oc_X p s m args meth c cc nL RX0 D tys A) (hd : decode cc pc = .ok (.getfield 41, 3)) (kk : gg p l e R s m args below meth c Q cells slots D A nL (oc_xW ad dS dZ v) (pc + 3) lo (.int (nI (v 9 0)) :: st)) : gg p l e R s m args below meth c Q cells slots D A nL (oc_xW ad dS dZ v) (pc) lo (.ref (ad 0) :: st) := gx_get X 4 (by decide) q41 rfl hd kk
theorem gx_g_seen (X : oc_X p s m args meth c cc nL RX0 D tys A) (hd : decode cc pc = .ok (.getfield 23, 3)) (kk : gg p l e R s m args below meth c Q cells slots D A nL (oc_xW ad dS dZ v) (pc + 3) lo (.ref (ad 5) :: st)) : gg p l e R s m args below meth c Q cells slots D A nL (oc_xW ad dS dZ v) (pc) lo (.ref (ad 0) :: st) := gx_get X 5 (by decide) q42 rfl hd kk
theorem gx_g_roots (X : oc_X p s m args meth c cc nL RX0 D tys A) (hd : decode cc pc = .ok (.getfield 26, 3)) (kk : gg p l e R s m args below meth c Q cells slots D A nL (oc_xW ad dS dZ v) (pc + 3) lo (.ref (ad 6) :: st)) : gg p l e R s m args below meth c Q cells slots D A nL (oc_xW ad dS dZ v) (pc) lo (.ref (ad 0) :: st) := gx_get X 6 (by decide) q43 rfl hd kk
theorem gx_g_eight (X : oc_X p s m args meth c cc nL RX0 D tys A) (hd : decode cc pc = .ok (.getfield 29, 3)) (kk : gg p l e R s m args below meth c Q cells slots D A nL (oc_xW ad dS dZ v) (pc + 3) lo (.ref (ad 7) :: st)) : gg p l e R s m args below meth c Q cells slots D A nL (oc_xW ad dS dZ v) (pc) lo (.ref (ad 0) :: st) := gx_get X 7 (by decide) q44 rfl hd kk
theorem gx_g_small (X : oc_X p s m args meth c cc nL RX0 D tys A) (hd : decode cc pc = .ok (.getfield 32, 3)) (kk : gg p l e R s m args below meth c Q cells slots D A nL (oc_xW ad dS dZ v) (pc + 3) lo (.ref (ad 8) :: st)) : gg p l e R s m args below meth c Q cells slots D A nL (oc_xW ad dS dZ v) (pc) lo (.ref (ad 0) :: st) := gx_get X 8 (by decide) q45 rfl hd kk
theorem gx_g_middle (X : oc_X p s m args meth c cc nL RX0 D tys A) (hd : decode cc pc = .ok (.getfield 35, 3)) (kk : gg p l e R s m args below meth c Q cells slots D A nL (oc_xW ad dS dZ v) (pc + 3) lo (.ref (ad 9) :: st)) : gg p l e R s m args below meth c Q cells slots D A nL (oc_xW ad dS dZ v) (pc) lo (.ref (ad 0) :: st) := gx_get X 9 (by decide) q46 rfl hd kk
theorem gx_g_task (X : oc_X p s m args meth c cc nL RX0 D tys A) (hd : decode cc pc = .ok (.getfield 81, 3)) (kk : gg p l e R s m args below meth c Q cells slots D A nL (oc_xW ad dS dZ v) (pc + 3) lo (.int (nI (v 9 1)) :: st)) : gg p l e R s m args below meth c Q cells slots D A nL (oc_xW ad dS dZ v) (pc) lo (.ref (ad 0) :: st) := gx_get X 10 (by decide) q47 rfl hd kk
theorem gx_g_left (X : oc_X p s m args meth c cc nL RX0 D tys A) (hd : decode cc pc = .ok (.getfield 87, 3)) (kk : gg p l e R s m args below meth c Q cells slots D A nL (oc_xW ad dS dZ v) (pc + 3) lo (.int (nI (v 9 2)) :: st)) : gg p l e R s m args below meth c Q cells slots D A nL (oc_xW ad dS dZ v) (pc) lo (.ref (ad 0) :: st) := gx_get X 11 (by decide) q48 rfl hd kk
theorem gx_g_right (X : oc_X p s m args meth c cc nL RX0 D tys A) (hd : decode cc pc = .ok (.getfield 96, 3)) (kk : gg p l e R s m args below meth c Q cells slots D A nL (oc_xW ad dS dZ v) (pc + 3) lo (.int (nI (v 9 3)) :: st)) : gg p l e R s m args below meth c Q cells slots D A nL (oc_xW ad dS dZ v) (pc) lo (.ref (ad 0) :: st) := gx_get X 12 (by decide) q49 rfl hd kk
theorem gx_g_corner (X : oc_X p s m args meth c cc nL RX0 D tys A) (hd : decode cc pc = .ok (.getfield 72, 3)) (kk : gg p l e R s m args below meth c Q cells slots D A nL (oc_xW ad dS dZ v) (pc + 3) lo (.int (nI (v 9 4)) :: st)) : gg p l e R s m args below meth c Q cells slots D A nL (oc_xW ad dS dZ v) (pc) lo (.ref (ad 0) :: st) := gx_get X 13 (by decide) q50 rfl hd kk
theorem gx_g_other (X : oc_X p s m args meth c cc nL RX0 D tys A) (hd : decode cc pc = .ok (.getfield 78, 3)) (kk : gg p l e R s m args below meth c Q cells slots D A nL (oc_xW ad dS dZ v) (pc + 3) lo (.int (nI (v 9 5)) :: st)) : gg p l e R s m args below meth c Q cells slots D A nL (oc_xW ad dS dZ v) (pc) lo (.ref (ad 0) :: st) := gx_get X 14 (by decide) q51 rfl hd kk
theorem gx_g_put (X : oc_X p s m args meth c cc nL RX0 D tys A) (hd : decode cc pc = .ok (.getfield 84, 3)) (kk : gg p l e R s m args below meth c Q cells slots D A nL (oc_xW ad dS dZ v) (pc + 3) lo (.int (nI (v 9 6)) :: st)) : gg p l e R s m args below meth c Q cells slots D A nL (oc_xW ad dS dZ v) (pc) lo (.ref (ad 0) :: st) := gx_get X 15 (by decide) q52 rfl hd kk
theorem gx_put (X : oc_X p s m args meth c cc nL RX0 D tys A) (k : Nat) (hk : k < 16) {idx : Nat} (hq : Cond.fieldLink RX0 idx (TX0 k).1 (TX0 k).2.1 (TX0 k).2.2.1 ∈ lw_all) (hfin : (TX0 k).2.2.2 = false) (hds : parseFieldDescriptor (TX0 k).2.2.1 = some .int) {x : Int32} (hd : decode cc pc = .ok (.putfield idx, 3)) {ws' : va_W} (hw : (oc_xW ad dS dZ v).set 0 (ad 0, .inr (0, (oc_xF ad v).set k (.int x))) = ws') (kk : gg p l e R s m args below meth c Q cells slots D A nL (ws') (pc + 3) lo (st)) : gg p l e R s m args below meth c Q cells slots D A nL (oc_xW ad dS dZ v) (pc) lo (.int x :: .ref (ad 0) :: st) := by
  intro H locs ls hP hD hS hl
  refine va_put (D := D) (ci := 0) (v := .int x) (ty := .int) (C := RX0) (T := TX0) (N := 16) X.1 X.2.1 X.2.2.2.2.1 in_X0 tyX0 tyX0_ok nmX0 X.2.2.2.1 X.2.2.2.2.2.1 hP hD hS 0 rfl rfl k hk (X.2.2.2.2.1 _ hq) (fun _ h9 => h9) hfin hds rfl rfl hk hd (fun H1 locs1 hP hD hS => ?_)
  rw [hw] at hP hD
  exact kk H1 locs1 ls hP hD hS hl
theorem gx_p_free (X : oc_X p s m args meth c cc nL RX0 D tys A) {x : Nat} (hd : decode cc pc = .ok (.putfield 41, 3)) (kk : gg p l e R s m args below meth c Q cells slots D A nL (oc_xW ad dS dZ (oc_up v 9 0 x)) (pc + 3) lo (st)) : gg p l e R s m args below meth c Q cells slots D A nL (oc_xW ad dS dZ v) (pc) lo (.int (nI x) :: .ref (ad 0) :: st) := gx_put X 4 (by decide) q41 rfl (by decide +kernel) hd (oc_xW_i0 ad dS dZ v x) kk
theorem gx_p_task (X : oc_X p s m args meth c cc nL RX0 D tys A) {x : Nat} (hd : decode cc pc = .ok (.putfield 81, 3)) (kk : gg p l e R s m args below meth c Q cells slots D A nL (oc_xW ad dS dZ (oc_up v 9 1 x)) (pc + 3) lo (st)) : gg p l e R s m args below meth c Q cells slots D A nL (oc_xW ad dS dZ v) (pc) lo (.int (nI x) :: .ref (ad 0) :: st) := gx_put X 10 (by decide) q47 rfl (by decide +kernel) hd (oc_xW_i1 ad dS dZ v x) kk
theorem gx_p_left (X : oc_X p s m args meth c cc nL RX0 D tys A) {x : Nat} (hd : decode cc pc = .ok (.putfield 87, 3)) (kk : gg p l e R s m args below meth c Q cells slots D A nL (oc_xW ad dS dZ (oc_up v 9 2 x)) (pc + 3) lo (st)) : gg p l e R s m args below meth c Q cells slots D A nL (oc_xW ad dS dZ v) (pc) lo (.int (nI x) :: .ref (ad 0) :: st) := gx_put X 11 (by decide) q48 rfl (by decide +kernel) hd (oc_xW_i2 ad dS dZ v x) kk
theorem gx_p_right (X : oc_X p s m args meth c cc nL RX0 D tys A) {x : Nat} (hd : decode cc pc = .ok (.putfield 96, 3)) (kk : gg p l e R s m args below meth c Q cells slots D A nL (oc_xW ad dS dZ (oc_up v 9 3 x)) (pc + 3) lo (st)) : gg p l e R s m args below meth c Q cells slots D A nL (oc_xW ad dS dZ v) (pc) lo (.int (nI x) :: .ref (ad 0) :: st) := gx_put X 12 (by decide) q49 rfl (by decide +kernel) hd (oc_xW_i3 ad dS dZ v x) kk
theorem gx_p_corner (X : oc_X p s m args meth c cc nL RX0 D tys A) {x : Nat} (hd : decode cc pc = .ok (.putfield 72, 3)) (kk : gg p l e R s m args below meth c Q cells slots D A nL (oc_xW ad dS dZ (oc_up v 9 4 x)) (pc + 3) lo (st)) : gg p l e R s m args below meth c Q cells slots D A nL (oc_xW ad dS dZ v) (pc) lo (.int (nI x) :: .ref (ad 0) :: st) := gx_put X 13 (by decide) q50 rfl (by decide +kernel) hd (oc_xW_i4 ad dS dZ v x) kk
theorem gx_p_other (X : oc_X p s m args meth c cc nL RX0 D tys A) {x : Nat} (hd : decode cc pc = .ok (.putfield 78, 3)) (kk : gg p l e R s m args below meth c Q cells slots D A nL (oc_xW ad dS dZ (oc_up v 9 5 x)) (pc + 3) lo (st)) : gg p l e R s m args below meth c Q cells slots D A nL (oc_xW ad dS dZ v) (pc) lo (.int (nI x) :: .ref (ad 0) :: st) := gx_put X 14 (by decide) q51 rfl (by decide +kernel) hd (oc_xW_i5 ad dS dZ v x) kk
theorem gx_p_put (X : oc_X p s m args meth c cc nL RX0 D tys A) {x : Nat} (hd : decode cc pc = .ok (.putfield 84, 3)) (kk : gg p l e R s m args below meth c Q cells slots D A nL (oc_xW ad dS dZ (oc_up v 9 6 x)) (pc + 3) lo (st)) : gg p l e R s m args below meth c Q cells slots D A nL (oc_xW ad dS dZ v) (pc) lo (.int (nI x) :: .ref (ad 0) :: st) := gx_put X 15 (by decide) q52 rfl (by decide +kernel) hd (oc_xW_i6 ad dS dZ v x) kk
theorem gx_l_parts (X : oc_X p s m args meth c cc nL RX0 D (oc_tx dS dZ) A) {k : Nat} (hd : decode cc pc = .ok (.saload, 1)) (hk : k < 4096) (kk : gg p l e R s m args below meth c Q cells slots D A nL (oc_xW ad dS dZ v) (pc + 1) lo (.int (nI (v 0 k)) :: st)) : gg p l e R s m args below meth c Q cells slots D A nL (oc_xW ad dS dZ v) (pc) lo (.int (nI k) :: .ref (ad 1) :: st) := gw_sald X 1 0 rfl rfl hk (by decide) hd kk
theorem gx_s_parts (X : oc_X p s m args meth c cc nL RX0 D (oc_tx dS dZ) A) {k x : Nat} (hd : decode cc pc = .ok (.sastore, 1)) (hk : k < 4096) (hx : x < 32768) (kk : gg p l e R s m args below meth c Q cells slots D A nL (oc_xW ad dS dZ (oc_up v 0 k x)) (pc + 1) lo (st)) : gg p l e R s m args below meth c Q cells slots D A nL (oc_xW ad dS dZ v) (pc) lo (.int (nI x) :: .int (nI k) :: .ref (ad 1) :: st) := gw_sast X 1 0 rfl rfl (oc_nar_s hx) hk (by decide) hd (oc_xW_a0 ad dS dZ v k x) kk
theorem gx_l_used (X : oc_X p s m args meth c cc nL RX0 D (oc_tx dS dZ) A) {k : Nat} (hd : decode cc pc = .ok (.baload, 1)) (hk : k < 512) (kk : gg p l e R s m args below meth c Q cells slots D A nL (oc_xW ad dS dZ v) (pc + 1) lo (.int (nI (v 1 k)) :: st)) : gg p l e R s m args below meth c Q cells slots D A nL (oc_xW ad dS dZ v) (pc) lo (.int (nI k) :: .ref (ad 2) :: st) := gw_zald X 2 1 rfl rfl hk (by decide) hd kk
theorem gx_s_used (X : oc_X p s m args meth c cc nL RX0 D (oc_tx dS dZ) A) {k x : Nat} (hd : decode cc pc = .ok (.bastore, 1)) (hk : k < 512) (hx : x < 2) (kk : gg p l e R s m args below meth c Q cells slots D A nL (oc_xW ad dS dZ (oc_up v 1 k x)) (pc + 1) lo (st)) : gg p l e R s m args below meth c Q cells slots D A nL (oc_xW ad dS dZ v) (pc) lo (.int (nI x) :: .int (nI k) :: .ref (ad 2) :: st) := gw_zast X 2 1 rfl rfl (oc_nar_z hx) hk (by decide) hd (oc_xW_a1 ad dS dZ v k x) kk
theorem gx_l_heads (X : oc_X p s m args meth c cc nL RX0 D (oc_tx dS dZ) A) {k : Nat} (hd : decode cc pc = .ok (.saload, 1)) (hk : k < 256) (kk : gg p l e R s m args below meth c Q cells slots D A nL (oc_xW ad dS dZ v) (pc + 1) lo (.int (oc_c (v 2 k)) :: st)) : gg p l e R s m args below meth c Q cells slots D A nL (oc_xW ad dS dZ v) (pc) lo (.int (nI k) :: .ref (ad 3) :: st) := gw_sald X 3 0 rfl rfl hk (by decide) hd kk
theorem gx_s_heads (X : oc_X p s m args meth c cc nL RX0 D (oc_tx dS dZ) A) {k x : Nat} (hd : decode cc pc = .ok (.sastore, 1)) (hk : k < 256) (hx : x < 32768) (kk : gg p l e R s m args below meth c Q cells slots D A nL (oc_xW ad dS dZ (oc_up v 2 k x)) (pc + 1) lo (st)) : gg p l e R s m args below meth c Q cells slots D A nL (oc_xW ad dS dZ v) (pc) lo (.int (oc_c x) :: .int (nI k) :: .ref (ad 3) :: st) := gw_sast X 3 0 rfl rfl (oc_nar_c hx) hk (by decide) hd (oc_xW_a2 ad dS dZ v k x) kk
theorem gx_l_chain (X : oc_X p s m args meth c cc nL RX0 D (oc_tx dS dZ) A) {k : Nat} (hd : decode cc pc = .ok (.saload, 1)) (hk : k < 512) (kk : gg p l e R s m args below meth c Q cells slots D A nL (oc_xW ad dS dZ v) (pc + 1) lo (.int (oc_c (v 3 k)) :: st)) : gg p l e R s m args below meth c Q cells slots D A nL (oc_xW ad dS dZ v) (pc) lo (.int (nI k) :: .ref (ad 4) :: st) := gw_sald X 4 0 rfl rfl hk (by decide) hd kk
theorem gx_s_chain (X : oc_X p s m args meth c cc nL RX0 D (oc_tx dS dZ) A) {k x : Nat} (hd : decode cc pc = .ok (.sastore, 1)) (hk : k < 512) (hx : x < 32768) (kk : gg p l e R s m args below meth c Q cells slots D A nL (oc_xW ad dS dZ (oc_up v 3 k x)) (pc + 1) lo (st)) : gg p l e R s m args below meth c Q cells slots D A nL (oc_xW ad dS dZ v) (pc) lo (.int (oc_c x) :: .int (nI k) :: .ref (ad 4) :: st) := gw_sast X 4 0 rfl rfl (oc_nar_c hx) hk (by decide) hd (oc_xW_a3 ad dS dZ v k x) kk
theorem gx_l_seen (X : oc_X p s m args meth c cc nL RX0 D (oc_tx dS dZ) A) {k : Nat} (hd : decode cc pc = .ok (.baload, 1)) (hk : k < 512) (kk : gg p l e R s m args below meth c Q cells slots D A nL (oc_xW ad dS dZ v) (pc + 1) lo (.int (nI (v 4 k)) :: st)) : gg p l e R s m args below meth c Q cells slots D A nL (oc_xW ad dS dZ v) (pc) lo (.int (nI k) :: .ref (ad 5) :: st) := gw_zald X 5 1 rfl rfl hk (by decide) hd kk
theorem gx_s_seen (X : oc_X p s m args meth c cc nL RX0 D (oc_tx dS dZ) A) {k x : Nat} (hd : decode cc pc = .ok (.bastore, 1)) (hk : k < 512) (hx : x < 2) (kk : gg p l e R s m args below meth c Q cells slots D A nL (oc_xW ad dS dZ (oc_up v 4 k x)) (pc + 1) lo (st)) : gg p l e R s m args below meth c Q cells slots D A nL (oc_xW ad dS dZ v) (pc) lo (.int (nI x) :: .int (nI k) :: .ref (ad 5) :: st) := gw_zast X 5 1 rfl rfl (oc_nar_z hx) hk (by decide) hd (oc_xW_a4 ad dS dZ v k x) kk
theorem gx_l_roots (X : oc_X p s m args meth c cc nL RX0 D (oc_tx dS dZ) A) {k : Nat} (hd : decode cc pc = .ok (.saload, 1)) (hk : k < 4) (kk : gg p l e R s m args below meth c Q cells slots D A nL (oc_xW ad dS dZ v) (pc + 1) lo (.int (nI (v 5 k)) :: st)) : gg p l e R s m args below meth c Q cells slots D A nL (oc_xW ad dS dZ v) (pc) lo (.int (nI k) :: .ref (ad 6) :: st) := gw_sald X 6 0 rfl rfl hk (by decide) hd kk
theorem gx_s_roots (X : oc_X p s m args meth c cc nL RX0 D (oc_tx dS dZ) A) {k x : Nat} (hd : decode cc pc = .ok (.sastore, 1)) (hk : k < 4) (hx : x < 32768) (kk : gg p l e R s m args below meth c Q cells slots D A nL (oc_xW ad dS dZ (oc_up v 5 k x)) (pc + 1) lo (st)) : gg p l e R s m args below meth c Q cells slots D A nL (oc_xW ad dS dZ v) (pc) lo (.int (nI x) :: .int (nI k) :: .ref (ad 6) :: st) := gw_sast X 6 0 rfl rfl (oc_nar_s hx) hk (by decide) hd (oc_xW_a5 ad dS dZ v k x) kk
theorem gx_l_eight (X : oc_X p s m args meth c cc nL RX0 D (oc_tx dS dZ) A) {k : Nat} (hd : decode cc pc = .ok (.saload, 1)) (hk : k < 8) (kk : gg p l e R s m args below meth c Q cells slots D A nL (oc_xW ad dS dZ v) (pc + 1) lo (.int (nI (v 6 k)) :: st)) : gg p l e R s m args below meth c Q cells slots D A nL (oc_xW ad dS dZ v) (pc) lo (.int (nI k) :: .ref (ad 7) :: st) := gw_sald X 7 0 rfl rfl hk (by decide) hd kk
theorem gx_s_eight (X : oc_X p s m args meth c cc nL RX0 D (oc_tx dS dZ) A) {k x : Nat} (hd : decode cc pc = .ok (.sastore, 1)) (hk : k < 8) (hx : x < 32768) (kk : gg p l e R s m args below meth c Q cells slots D A nL (oc_xW ad dS dZ (oc_up v 6 k x)) (pc + 1) lo (st)) : gg p l e R s m args below meth c Q cells slots D A nL (oc_xW ad dS dZ v) (pc) lo (.int (nI x) :: .int (nI k) :: .ref (ad 7) :: st) := gw_sast X 7 0 rfl rfl (oc_nar_s hx) hk (by decide) hd (oc_xW_a6 ad dS dZ v k x) kk
theorem gx_l_small (X : oc_X p s m args meth c cc nL RX0 D (oc_tx dS dZ) A) {k : Nat} (hd : decode cc pc = .ok (.saload, 1)) (hk : k < 64) (kk : gg p l e R s m args below meth c Q cells slots D A nL (oc_xW ad dS dZ v) (pc + 1) lo (.int (nI (v 7 k)) :: st)) : gg p l e R s m args below meth c Q cells slots D A nL (oc_xW ad dS dZ v) (pc) lo (.int (nI k) :: .ref (ad 8) :: st) := gw_sald X 8 0 rfl rfl hk (by decide) hd kk
theorem gx_s_small (X : oc_X p s m args meth c cc nL RX0 D (oc_tx dS dZ) A) {k x : Nat} (hd : decode cc pc = .ok (.sastore, 1)) (hk : k < 64) (hx : x < 32768) (kk : gg p l e R s m args below meth c Q cells slots D A nL (oc_xW ad dS dZ (oc_up v 7 k x)) (pc + 1) lo (st)) : gg p l e R s m args below meth c Q cells slots D A nL (oc_xW ad dS dZ v) (pc) lo (.int (nI x) :: .int (nI k) :: .ref (ad 8) :: st) := gw_sast X 8 0 rfl rfl (oc_nar_s hx) hk (by decide) hd (oc_xW_a7 ad dS dZ v k x) kk
theorem gx_l_middle (X : oc_X p s m args meth c cc nL RX0 D (oc_tx dS dZ) A) {k : Nat} (hd : decode cc pc = .ok (.saload, 1)) (hk : k < 8) (kk : gg p l e R s m args below meth c Q cells slots D A nL (oc_xW ad dS dZ v) (pc + 1) lo (.int (nI (v 8 k)) :: st)) : gg p l e R s m args below meth c Q cells slots D A nL (oc_xW ad dS dZ v) (pc) lo (.int (nI k) :: .ref (ad 9) :: st) := gw_sald X 9 0 rfl rfl hk (by decide) hd kk
theorem gx_s_middle (X : oc_X p s m args meth c cc nL RX0 D (oc_tx dS dZ) A) {k x : Nat} (hd : decode cc pc = .ok (.sastore, 1)) (hk : k < 8) (hx : x < 32768) (kk : gg p l e R s m args below meth c Q cells slots D A nL (oc_xW ad dS dZ (oc_up v 8 k x)) (pc + 1) lo (st)) : gg p l e R s m args below meth c Q cells slots D A nL (oc_xW ad dS dZ v) (pc) lo (.int (nI x) :: .int (nI k) :: .ref (ad 9) :: st) := gw_sast X 9 0 rfl rfl (oc_nar_s hx) hk (by decide) hd (oc_xW_a8 ad dS dZ v k x) kk
theorem gm_get (X : oc_X p s m args meth c cc nL RX1 D tys A) (k : Nat) (hk : k < 2) {idx : Nat} (hq : Cond.fieldLink RX1 idx (TX1 k).1 (TX1 k).2.1 (TX1 k).2.2.1 ∈ lw_all) {w : Value} (hv : ([.ref (ad 1), .ref (ad 2)] : List Value)[k]? = some w) (hd : decode cc pc = .ok (.getfield idx, 3)) (kk : gg p l e R s m args below meth c Q cells slots D A nL (oc_mW ad dZ v) (pc + 3) lo (w :: st)) : gg p l e R s m args below meth c Q cells slots D A nL (oc_mW ad dZ v) (pc) lo (.ref (ad 0) :: st) := fun H locs ls hP hD hS hl => va_get (D := D) (ci := 1) (v := w) (C := RX1) (T := TX1) (N := 2) X.1 X.2.1 X.2.2.2.2.1 in_X1 X.2.2.2.1 X.2.2.2.2.2.1 hP 0 rfl rfl k hk (X.2.2.2.2.1 _ hq) (fun _ h9 => h9) hv hd (kk H locs ls hP hD hS hl)
theorem gm_g_in (X : oc_X p s m args meth c cc nL RX1 D tys A) (hd : decode cc pc = .ok (.getfield 7, 3)) (kk : gg p l e R s m args below meth c Q cells slots D A nL (oc_mW ad dZ v) (pc + 3) lo (.ref (ad 1) :: st)) : gg p l e R s m args below meth c Q cells slots D A nL (oc_mW ad dZ v) (pc) lo (.ref (ad 0) :: st) := gm_get X 0 (by decide) q213 rfl hd kk
theorem gm_l_in (X : oc_X p s m args meth c cc nL RX1 D (oc_tm dZ) A) {k : Nat} (hd : decode cc pc = .ok (.baload, 1)) (hk : k < 2048) (kk : gg p l e R s m args below meth c Q cells slots D A nL (oc_mW ad dZ v) (pc + 1) lo (.int (nI (v 0 k)) :: st)) : gg p l e R s m args below meth c Q cells slots D A nL (oc_mW ad dZ v) (pc) lo (.int (nI k) :: .ref (ad 1) :: st) := gw_zald X 1 0 rfl rfl hk (by decide) hd kk
theorem gm_s_in (X : oc_X p s m args meth c cc nL RX1 D (oc_tm dZ) A) {k x : Nat} (hd : decode cc pc = .ok (.bastore, 1)) (hk : k < 2048) (hx : x < 2) (kk : gg p l e R s m args below meth c Q cells slots D A nL (oc_mW ad dZ (oc_up v 0 k x)) (pc + 1) lo (st)) : gg p l e R s m args below meth c Q cells slots D A nL (oc_mW ad dZ v) (pc) lo (.int (nI x) :: .int (nI k) :: .ref (ad 1) :: st) := gw_zast X 1 0 rfl rfl (oc_nar_z hx) hk (by decide) hd (oc_mW_a0 ad dZ v k x) kk
theorem gm_g_made (X : oc_X p s m args meth c cc nL RX1 D tys A) (hd : decode cc pc = .ok (.getfield 13, 3)) (kk : gg p l e R s m args below meth c Q cells slots D A nL (oc_mW ad dZ v) (pc + 3) lo (.ref (ad 2) :: st)) : gg p l e R s m args below meth c Q cells slots D A nL (oc_mW ad dZ v) (pc) lo (.ref (ad 0) :: st) := gm_get X 1 (by decide) q214 rfl hd kk
theorem gm_l_made (X : oc_X p s m args meth c cc nL RX1 D (oc_tm dZ) A) {k : Nat} (hd : decode cc pc = .ok (.baload, 1)) (hk : k < 512) (kk : gg p l e R s m args below meth c Q cells slots D A nL (oc_mW ad dZ v) (pc + 1) lo (.int (nI (v 1 k)) :: st)) : gg p l e R s m args below meth c Q cells slots D A nL (oc_mW ad dZ v) (pc) lo (.int (nI k) :: .ref (ad 2) :: st) := gw_zald X 2 0 rfl rfl hk (by decide) hd kk
theorem gm_s_made (X : oc_X p s m args meth c cc nL RX1 D (oc_tm dZ) A) {k x : Nat} (hd : decode cc pc = .ok (.bastore, 1)) (hk : k < 512) (hx : x < 2) (kk : gg p l e R s m args below meth c Q cells slots D A nL (oc_mW ad dZ (oc_up v 1 k x)) (pc + 1) lo (st)) : gg p l e R s m args below meth c Q cells slots D A nL (oc_mW ad dZ v) (pc) lo (.int (nI x) :: .int (nI k) :: .ref (ad 2) :: st) := gw_zast X 2 0 rfl rfl (oc_nar_z hx) hk (by decide) hd (oc_mW_a1 ad dZ v k x) kk
end GW
/-! contracts: from the world W0 to a world Wf u -/
def oc_rm (f : Nat) : Room := { frames := f, cells := 0, slots := 0, locals := 28 * f }
def oc_U (D : va_G) (tys : List (ClassId × FieldType)) (W0 : va_W) (sz : Nat) (U : State) : Prop := U.heap.size = sz ∧ va_P D oc_Cl W0 U.heap ∧ va_K D oc_Cl tys U ∧ va_D (fun _ => True) W0
def oc_B {S : Type} (D : va_G) (Wf : S → va_W) (A : Nat → Prop) (u : S) (t : State) : Prop := va_P D oc_Cl (Wf u) t.heap ∧ va_D A (Wf u)
def oc_Mi (l : Launch) (D : va_G) (tys : List (ClassId × FieldType)) (f : Nat) (y : MethodName) (b : ByteArray) (mL : Nat) (ret : Option FieldType) (As : List Value) {S : Type} (Wf : S → va_W) (W0 : va_W) (post : Int32 → S → Prop) : Prop :=
  ∀ sz : Nat, Met l y (ws_ y b mL ret) (oc_rm f) (va_Pc As (oc_U D tys W0 sz)) (va_Qi post (oc_B D Wf (va_A W0 sz)) (va_A W0 sz)) 0 0 (va_A W0 sz)
def oc_Mv (l : Launch) (D : va_G) (tys : List (ClassId × FieldType)) (f : Nat) (y : MethodName) (b : ByteArray) (mL : Nat) (As : List Value) {S : Type} (Wf : S → va_W) (W0 : va_W) (post : S → Prop) : Prop :=
  ∀ sz : Nat, Met l y (ws_ y b mL none) (oc_rm f) (va_Pc As (oc_U D tys W0 sz)) (va_Qv post (oc_B D Wf (va_A W0 sz)) (va_A W0 sz)) 0 0 (va_A W0 sz)
theorem oc_args : ∀ (As : List Value) (k i : Nat) (v : Value), (∀ w ∈ As, w.category = 1) → As[i]? = some v → (k + i, v) ∈ lv_args k As
  | [], k, i, v, _, h => by simp at h
  | a :: As, k, i, v, hc, h => by
    have ha : ¬ a.category = 2 := by have := hc a List.mem_cons_self; omega
    rw [lv_args, if_neg ha]
    cases i with
    | zero =>
      have e : a = v := by simpa using h
      rw [e]
      exact List.mem_cons_self
    | succ i =>
      have h1 := oc_args As (k + 1) i v (fun w hw => hc w (List.mem_cons_of_mem _ hw)) (by simpa using h)
      rw [show k + (i + 1) = k + 1 + i by omega]
      exact List.mem_cons_of_mem _ h1
theorem oc_entry {As : List Value} {n : Nat} {ls : Array Slot} (hl : lv_has ls n (lv_args 0 As)) (hc : ∀ w ∈ As, w.category = 1) {lo : List (Option Value)} (hlo : lo = As.map some ++ List.replicate (n - As.length) none) : oc_has ls n lo := by
  refine ⟨hl.1, hl.2.1, fun i v hi => ?_⟩
  have hA : As[i]? = some v := by
    rw [hlo] at hi
    by_cases h : i < As.length
    · rw [List.getElem?_append_left (by simpa using h), List.getElem?_map] at hi
      cases hx : As[i]? with
      | none => rw [hx] at hi; cases hi
      | some w => rw [hx] at hi; have := Option.some.inj (Option.some.inj hi); rw [this]
    · rw [List.getElem?_append_right (by simpa using h)] at hi
      have := List.eq_of_mem_replicate (List.mem_of_getElem? hi)
      cases this
  refine ⟨hc v (List.mem_of_getElem? hA), ?_⟩
  have := hl.2.2 _ (oc_args As 0 i v hc hA)
  simpa using this
section GR
variable {p : Program} {l : Launch} {e : Env} {R : Room} {s : State} {m : MethodId} {args : Array Value} {below : List Frame} {meth : Method} {c : Code} {Q : State → Prop} {cells slots : Nat} {D : va_G} {A : Nat → Prop} {nL : Nat} {ws : va_W} {pc : Nat} {lo : List (Option Value)} {st : List Value}
variable {cc : ByteArray} {own : String} {tys : List (ClassId × FieldType)}
theorem gg_iret {S : Type} {Wf : S → va_W} {post : Int32 → S → Prop} (X : oc_X p s m args meth c cc nL own D tys A) (hr : meth.sig.returnType = some .int) (u : S) {v : Int32} (hd : decode cc pc = .ok (.ireturn, 1)) (hp : post v u) : gg p l e R s m args below meth c (MQ below (va_Qi post (oc_B D Wf A) A) args s cells slots A) cells slots D A nL (Wf u) pc lo [.int v] :=
  fun H locs ls hP hD hS hl => W.iret (v := v) X.1 X.2.1 hr (fun t ht hW => ⟨⟨v, u, rfl, hp, by rw [ht]; exact hP, hD⟩, hS.F ht⟩) hS.2.2 hd X.2.2.2.2.2.2.1
theorem gg_zret {S : Type} {Wf : S → va_W} {post : Int32 → S → Prop} (X : oc_X p s m args meth c cc nL own D tys A) (hr : meth.sig.returnType = some .boolean) (u : S) {v : Nat} (hd : decode cc pc = .ok (.ireturn, 1)) (hv : v < 2) (hp : post (nI v) u) : gg p l e R s m args below meth c (MQ below (va_Qi post (oc_B D Wf A) A) args s cells slots A) cells slots D A nL (Wf u) pc lo [.int (nI v)] :=
  fun H locs ls hP hD hS hl => W.zret (v := nI v) X.1 X.2.1 hr (oc_nar_zv hv) (fun t ht hW => ⟨⟨nI v, u, rfl, hp, by rw [ht]; exact hP, hD⟩, hS.F ht⟩) hS.2.2 hd X.2.2.2.2.2.2.1
theorem gg_vret {S : Type} {Wf : S → va_W} {post : S → Prop} (X : oc_X p s m args meth c cc nL own D tys A) (hr : meth.sig.returnType = none) (u : S) (hd : decode cc pc = .ok (.return_, 1)) (hp : post u) : gg p l e R s m args below meth c (MQ below (va_Qv post (oc_B D Wf A) A) args s cells slots A) cells slots D A nL (Wf u) pc lo [] :=
  fun H locs ls hP hD hS hl => W.vret X.1 X.2.1 hr (fun t ht hW => ⟨⟨u, rfl, hp, by rw [ht]; exact hP, hD⟩, hS.F ht⟩) hS.2.2 hd X.2.2.2.2.2.2.1
end GR
theorem oc_Mi.ofI {l : Launch} {D : va_G} {tys : List (ClassId × FieldType)} {f : Nat} {y : MethodName} {b : ByteArray} {mL : Nat} {As : List Value} {S : Type} {Wf : S → va_W} {W0 : va_W} {post : Int32 → S → Prop} {own : String} (hy : plainName y.cls = true) (ho : y.cls = own) (hAs : (lg_sl As).length ≤ mL) (hc : ∀ w ∈ As, w.category = 1) (lo : List (Option Value)) (hlo : lo = As.map some ++ List.replicate (mL - As.length) none)
    (body : ∀ (p : Program) (e : Env) (s : State) (m : MethodId) (args : Array Value) (below : List Frame) (meth : Method) (c : Code) (A : Nat → Prop) (Q : State → Prop), oc_X p s m args meth c b mL own D tys A → (∀ (u : S) (v : Int32) (pc : Nat) (lo : List (Option Value)), decode b pc = .ok (.ireturn, 1) → post v u → gg p l e (oc_rm f) s m args below meth c Q 0 0 D A mL (Wf u) pc lo [.int v]) → gg p l e (oc_rm f) s m args below meth c Q 0 0 D A mL W0 0 lo []) : oc_Mi l D tys f y b mL (some .int) As Wf W0 post := by
  intro sz
  refine Met.ofW (cc := b) (maxL := mL) (ret := (some .int)) hy rfl ?_
  intro p e s m args below meth c s₁ B hml hv
  obtain ⟨rfl, hsz, hP, hK, hD0⟩ := hv
  have hts := atoms_spec (ws := ws_ y b mL (some .int)) B.pre
  have hts : ∀ w ∈ lw_all, w.before _ s = true := fun w h => hts w (List.mem_cons_of_mem _ h)
  have hown : s.vm.findClass y.cls = some m.cls := findClass_of_methodNamed B.named
  rw [ho] at hown
  subst hsz
  have hD := hD0.self (sz := s.heap.size)
  have hl := lv_entry As (n := mL) hAs
  rw [lg_entry_eq]
  have X : oc_X p s m As.toArray meth c b mL own D tys (va_A W0 s.heap.size) := ⟨B.exec, B.bytes, hml, hown, hts, hK, B.notSynchronized, fun q h => Or.inr h⟩
  exact body p e s m _ below meth c _ _ X (fun u v pc lo hd hp => gg_iret X B.returns u hd hp) s.heap [] _ hP hD va_S.rf (oc_entry hl hc hlo)
theorem oc_Mi.ofZ {l : Launch} {D : va_G} {tys : List (ClassId × FieldType)} {f : Nat} {y : MethodName} {b : ByteArray} {mL : Nat} {As : List Value} {S : Type} {Wf : S → va_W} {W0 : va_W} {post : Int32 → S → Prop} {own : String} (hy : plainName y.cls = true) (ho : y.cls = own) (hAs : (lg_sl As).length ≤ mL) (hc : ∀ w ∈ As, w.category = 1) (lo : List (Option Value)) (hlo : lo = As.map some ++ List.replicate (mL - As.length) none)
    (body : ∀ (p : Program) (e : Env) (s : State) (m : MethodId) (args : Array Value) (below : List Frame) (meth : Method) (c : Code) (A : Nat → Prop) (Q : State → Prop), oc_X p s m args meth c b mL own D tys A → (∀ (u : S) (v : Nat) (pc : Nat) (lo : List (Option Value)), decode b pc = .ok (.ireturn, 1) → v < 2 → post (nI v) u → gg p l e (oc_rm f) s m args below meth c Q 0 0 D A mL (Wf u) pc lo [.int (nI v)]) → gg p l e (oc_rm f) s m args below meth c Q 0 0 D A mL W0 0 lo []) : oc_Mi l D tys f y b mL (some .boolean) As Wf W0 post := by
  intro sz
  refine Met.ofW (cc := b) (maxL := mL) (ret := (some .boolean)) hy rfl ?_
  intro p e s m args below meth c s₁ B hml hv
  obtain ⟨rfl, hsz, hP, hK, hD0⟩ := hv
  have hts := atoms_spec (ws := ws_ y b mL (some .boolean)) B.pre
  have hts : ∀ w ∈ lw_all, w.before _ s = true := fun w h => hts w (List.mem_cons_of_mem _ h)
  have hown : s.vm.findClass y.cls = some m.cls := findClass_of_methodNamed B.named
  rw [ho] at hown
  subst hsz
  have hD := hD0.self (sz := s.heap.size)
  have hl := lv_entry As (n := mL) hAs
  rw [lg_entry_eq]
  have X : oc_X p s m As.toArray meth c b mL own D tys (va_A W0 s.heap.size) := ⟨B.exec, B.bytes, hml, hown, hts, hK, B.notSynchronized, fun q h => Or.inr h⟩
  exact body p e s m _ below meth c _ _ X (fun u v pc lo hd hv hp => gg_zret X B.returns u hd hv hp) s.heap [] _ hP hD va_S.rf (oc_entry hl hc hlo)
theorem oc_Mv.of {l : Launch} {D : va_G} {tys : List (ClassId × FieldType)} {f : Nat} {y : MethodName} {b : ByteArray} {mL : Nat} {As : List Value} {S : Type} {Wf : S → va_W} {W0 : va_W} {post : S → Prop} {own : String} (hy : plainName y.cls = true) (ho : y.cls = own) (hAs : (lg_sl As).length ≤ mL) (hc : ∀ w ∈ As, w.category = 1) (lo : List (Option Value)) (hlo : lo = As.map some ++ List.replicate (mL - As.length) none)
    (body : ∀ (p : Program) (e : Env) (s : State) (m : MethodId) (args : Array Value) (below : List Frame) (meth : Method) (c : Code) (A : Nat → Prop) (Q : State → Prop), oc_X p s m args meth c b mL own D tys A → (∀ (u : S) (pc : Nat) (lo : List (Option Value)), decode b pc = .ok (.return_, 1) → post u → gg p l e (oc_rm f) s m args below meth c Q 0 0 D A mL (Wf u) pc lo []) → gg p l e (oc_rm f) s m args below meth c Q 0 0 D A mL W0 0 lo []) : oc_Mv l D tys f y b mL As Wf W0 post := by
  intro sz
  refine Met.ofW (cc := b) (maxL := mL) (ret := none) hy rfl ?_
  intro p e s m args below meth c s₁ B hml hv
  obtain ⟨rfl, hsz, hP, hK, hD0⟩ := hv
  have hts := atoms_spec (ws := ws_ y b mL none) B.pre
  have hts : ∀ w ∈ lw_all, w.before _ s = true := fun w h => hts w (List.mem_cons_of_mem _ h)
  have hown : s.vm.findClass y.cls = some m.cls := findClass_of_methodNamed B.named
  rw [ho] at hown
  subst hsz
  have hD := hD0.self (sz := s.heap.size)
  have hl := lv_entry As (n := mL) hAs
  rw [lg_entry_eq]
  have X : oc_X p s m As.toArray meth c b mL own D tys (va_A W0 s.heap.size) := ⟨B.exec, B.bytes, hml, hown, hts, hK, B.notSynchronized, fun q h => Or.inr h⟩
  exact body p e s m _ below meth c _ _ X (fun u pc lo hd hp => gg_vret X B.returns u hd hp) s.heap [] _ hP hD va_S.rf (oc_entry hl hc hlo)
section GC
variable {p : Program} {l : Launch} {e : Env} {R : Room} {s : State} {m : MethodId} {args : Array Value} {below : List Frame} {meth : Method} {c : Code} {Q : State → Prop} {cells slots : Nat} {D : va_G} {A : Nat → Prop} {nL : Nat} {ws : va_W} {pc : Nat} {lo : List (Option Value)} {st : List Value}
variable {cc : ByteArray} {own : String} {tys : List (ClassId × FieldType)}
theorem oc_fb {D : va_G} {tys : List (ClassId × FieldType)} {As : List Value} {W0 : va_W} {sz : Nat} : FrameBlind (va_Pc As (oc_U D tys W0 sz)) := by
  intro a U g mk q
  obtain ⟨q0, q1, qP, qK, qD⟩ := q
  exact ⟨q0, q1, qP, va_K.moved (u := U) (U := U.calling g mk a) (Vm.Alike.refl U.vm) qK, qD⟩
theorem oc_free {ws : va_W} {H0 H : Heap} {locs : List Loc} (hD : va_D A ws) (hS : va_S A H0 H locs) (hA : ∀ q, H0.size ≤ q → A q) : ∀ q, va_A ws H.size q → A q := by
  intro q h
  rcases h with ⟨k, e, h⟩ | h
  · exact hD.2 k (q, e) h
  · exact hA q (Nat.le_trans hS.1 h)
/-- what a call through the object asks of names -/
abbrev oc_cn (own : String) (idx : Nat) (C : String) (y : MethodName) (b : ByteArray) (mL : Nat) (ret : Option FieldType) (n : Nat) : Prop :=
  Cond.methodLink own idx y ∈ lw_all ∧ Cond.instanceMethod y ∈ lw_all ∧ Cond.selects C y y ∈ lw_all ∧ Cond.initialized C ∈ lw_all ∧ Cond.code y b mL ret ∈ lw_all ∧ y.cls = C ∧ y.cls ≠ "java/lang/invoke/MethodHandle" ∧ y.cls ≠ "java/lang/invoke/VarHandle" ∧ (parseMethodDescriptor y.desc).map (fun d => d.parameters.length) = some n
abbrev oc_cs (own : String) (idx : Nat) (y : MethodName) (b : ByteArray) (mL : Nat) (ret : Option FieldType) (n : Nat) : Prop :=
  Cond.methodLink own idx y ∈ lw_all ∧ Cond.static y ∈ lw_all ∧ Cond.initialized y.cls ∈ lw_all ∧ Cond.code y b mL ret ∈ lw_all ∧ y.cls ≠ "java/lang/invoke/MethodHandle" ∧ y.cls ≠ "java/lang/invoke/VarHandle" ∧ (parseMethodDescriptor y.desc).map (fun d => d.parameters.length) = some n
abbrev oc_rr (f mL : Nat) (R : Room) : Prop := (oc_rm f).frames + 1 ≤ R.frames ∧ 8 + (mL + 11) + (oc_rm f).locals ≤ R.locals
theorem gg_calli {S : Type} {Wf : S → va_W} {post : Int32 → S → Prop} {f mL idx a q0 ci n : Nat} {y : MethodName} {b : ByteArray} {ret : Option FieldType} {As stk fs : List Value} {qc : vw_C} (X : oc_X p s m args meth c cc nL own D tys A) (hM : oc_Mi l D tys f y b mL ret (.ref a :: As) Wf ws post) (hN : oc_cn own idx qc.1 y b mL ret n) (hR : oc_rr f mL R) (hcl : cells + 0 ≤ R.cells ∧ slots + 0 ≤ R.slots) (hc : oc_Cl[ci]? = some qc) (he : ws[q0]? = some (a, .inr (ci, fs))) (hn : As.length = n) (hst : stk = As.reverse ++ .ref a :: st) (hrm : (st.map fun v => v.category).sum ≤ 8) (hd : decode cc pc = .ok (.invokevirtual idx, 3))
    (kk : ∀ (r : Int32) (u : S), post r u → gg p l e R s m args below meth c Q cells slots D A nL (Wf u) (pc + 3) lo (.int r :: st)) : gg p l e R s m args below meth c Q cells slots D A nL ws pc lo stk := by
  intro H locs ls hP hD hS hl
  obtain ⟨q1, q2, q3, q4, q5, hds⟩ := hN
  have hF := oc_free hD hS X.2.2.2.2.2.2.2
  refine va_calli (va_runV (As := As) (rest := st) ⟨X.1, X.2.1, X.2.2.1, X.2.2.2.1, X.2.2.2.2.1⟩ (hM H.size) (cwV n X.2.2.2.2.1 (lw_V q1 q2 q3 q4 q5) rfl rfl rfl hds hR) ⟨oc_fb, va_recv X.2.2.2.2.2.1 hP hc he, fun U hU hW => ⟨rfl, by rw [hU], by rw [hU]; exact hP, va_K.moved hW.alike X.2.2.2.2.2.1, hD.weaken (fun _ _ _ _ => trivial)⟩⟩ rfl hn hl.1 hst (lv_room hrm) hd hcl) hS (fun q _ h => hF q h) hF (fun r u t H1 locs1 ht hvm hp hB hz1 hk1 hS1 => ?_)
  obtain ⟨hP1, hD1⟩ := hB
  rw [ht] at hP1
  exact kk r u hp H1 locs1 ls hP1 (hD1.weaken (fun _ q _ h => hF q.1 h)) hS1 hl
theorem gg_callv {S : Type} {Wf : S → va_W} {post : S → Prop} {f mL idx a q0 ci n : Nat} {y : MethodName} {b : ByteArray} {As stk fs : List Value} {qc : vw_C} (X : oc_X p s m args meth c cc nL own D tys A) (hM : oc_Mv l D tys f y b mL (.ref a :: As) Wf ws post) (hN : oc_cn own idx qc.1 y b mL none n) (hR : oc_rr f mL R) (hcl : cells + 0 ≤ R.cells ∧ slots + 0 ≤ R.slots) (hc : oc_Cl[ci]? = some qc) (he : ws[q0]? = some (a, .inr (ci, fs))) (hn : As.length = n) (hst : stk = As.reverse ++ .ref a :: st) (hrm : (st.map fun v => v.category).sum ≤ 8) (hd : decode cc pc = .ok (.invokevirtual idx, 3))
    (kk : ∀ (u : S), post u → gg p l e R s m args below meth c Q cells slots D A nL (Wf u) (pc + 3) lo st) : gg p l e R s m args below meth c Q cells slots D A nL ws pc lo stk := by
  intro H locs ls hP hD hS hl
  obtain ⟨q1, q2, q3, q4, q5, hds⟩ := hN
  have hF := oc_free hD hS X.2.2.2.2.2.2.2
  refine va_callv (va_runV (As := As) (rest := st) ⟨X.1, X.2.1, X.2.2.1, X.2.2.2.1, X.2.2.2.2.1⟩ (hM H.size) (cwV n X.2.2.2.2.1 (lw_V q1 q2 q3 q4 q5) rfl rfl rfl hds hR) ⟨oc_fb, va_recv X.2.2.2.2.2.1 hP hc he, fun U hU hW => ⟨rfl, by rw [hU], by rw [hU]; exact hP, va_K.moved hW.alike X.2.2.2.2.2.1, hD.weaken (fun _ _ _ _ => trivial)⟩⟩ rfl hn hl.1 hst (lv_room hrm) hd hcl) hS (fun q _ h => hF q h) hF (fun u t H1 locs1 ht hvm hp hB hz1 hk1 hS1 => ?_)
  obtain ⟨hP1, hD1⟩ := hB
  rw [ht] at hP1
  exact kk u hp H1 locs1 ls hP1 (hD1.weaken (fun _ q _ h => hF q.1 h)) hS1 hl
/-- a static method: no world -/
abbrev oc_Ms (l : Launch) (D : va_G) (f : Nat) (y : MethodName) (b : ByteArray) (mL : Nat) (ret : Option FieldType) (As : List Value) (post : Int32 → Prop) : Prop := oc_Mi l D [] f y b mL ret As (fun _ : Unit => []) [] (fun r _ => post r)
theorem gg_calls {post : Int32 → Prop} {f mL idx n : Nat} {y : MethodName} {b : ByteArray} {ret : Option FieldType} {As stk : List Value} (X : oc_X p s m args meth c cc nL own D tys A) (hM : oc_Ms l D f y b mL ret As post) (hN : oc_cs own idx y b mL ret n) (hR : oc_rr f mL R) (hcl : cells + 0 ≤ R.cells ∧ slots + 0 ≤ R.slots) (hn : As.length = n) (hst : stk = As.reverse ++ st) (hrm : (st.map fun v => v.category).sum ≤ 8) (hd : decode cc pc = .ok (.invokestatic idx, 3))
    (kk : ∀ (r : Int32), post r → gg p l e R s m args below meth c Q cells slots D A nL ws (pc + 3) lo (.int r :: st)) : gg p l e R s m args below meth c Q cells slots D A nL ws pc lo stk := by
  intro H locs ls hP hD hS hl
  obtain ⟨q1, q2, q3, q4, hds⟩ := hN
  have hF : ∀ q, va_A [] H.size q → A q := by
    intro q h
    rcases h with ⟨k, e, h⟩ | h
    · simp at h
    · exact X.2.2.2.2.2.2.2 q (Nat.le_trans hS.1 h)
  have hK := X.2.2.2.2.2.1.sub (tys' := []) [] rfl
  refine va_calli (va_runS (As := As) (rest := st) ⟨X.1, X.2.1, X.2.2.1, X.2.2.2.1, X.2.2.2.2.1⟩ (hM H.size) (va_cwS n X.2.2.2.2.1 (lw_S q1 q2 q3 q4) rfl rfl rfl hds hR) ⟨oc_fb, fun U hU hW => ⟨rfl, by rw [hU], fun k q h => by simp at h, va_K.moved hW.alike hK, fun i j p q h => by simp at h, fun k q h => by simp at h⟩⟩ rfl hn hl.1 hst (lv_room hrm) hd hcl) hS (fun q _ h => hF q h) hF (fun r u t H1 locs1 ht hvm hp hB hz1 hk1 hS1 => ?_)
  refine kk r hp H1 locs1 ls (hP.kept (fun k q hk => hk1 q.1 ((hP k q hk).lt) (fun h => ?_))) hD hS1 hl
  have hlt := (hP k q hk).lt
  rcases h with ⟨k', e', h'⟩ | h'
  · simp at h'
  · omega
variable {ad : Nat → Nat} {dS dZ : ClassId} {v : Nat → Nat → Nat}
theorem gx_calli {post : Int32 → (Nat → Nat → Nat) → Prop} {f mL idx n : Nat} {y : MethodName} {b : ByteArray} {ret : Option FieldType} {As stk : List Value} (X : oc_X p s m args meth c cc nL RX0 D tys A) (hM : oc_Mi l D tys f y b mL ret (.ref (ad 0) :: As) (oc_xW ad dS dZ) (oc_xW ad dS dZ v) post) (hN : oc_cn RX0 idx RX0 y b mL ret n) (hR : oc_rr f mL R) (hcl : cells + 0 ≤ R.cells ∧ slots + 0 ≤ R.slots) (hn : As.length = n) (hst : stk = As.reverse ++ .ref (ad 0) :: st) (hrm : (st.map fun v => v.category).sum ≤ 8) (hd : decode cc pc = .ok (.invokevirtual idx, 3))
    (kk : ∀ (r : Int32) (u : Nat → Nat → Nat), post r u → gg p l e R s m args below meth c Q cells slots D A nL (oc_xW ad dS dZ u) (pc + 3) lo (.int r :: st)) : gg p l e R s m args below meth c Q cells slots D A nL (oc_xW ad dS dZ v) pc lo stk :=
  gg_calli (qc := (RX0, TX0, 16)) (q0 := 0) (ci := 0) X hM hN hR hcl rfl rfl hn hst hrm hd kk
theorem gx_callv {post : (Nat → Nat → Nat) → Prop} {f mL idx n : Nat} {y : MethodName} {b : ByteArray} {As stk : List Value} (X : oc_X p s m args meth c cc nL RX0 D tys A) (hM : oc_Mv l D tys f y b mL (.ref (ad 0) :: As) (oc_xW ad dS dZ) (oc_xW ad dS dZ v) post) (hN : oc_cn RX0 idx RX0 y b mL none n) (hR : oc_rr f mL R) (hcl : cells + 0 ≤ R.cells ∧ slots + 0 ≤ R.slots) (hn : As.length = n) (hst : stk = As.reverse ++ .ref (ad 0) :: st) (hrm : (st.map fun v => v.category).sum ≤ 8) (hd : decode cc pc = .ok (.invokevirtual idx, 3))
    (kk : ∀ (u : Nat → Nat → Nat), post u → gg p l e R s m args below meth c Q cells slots D A nL (oc_xW ad dS dZ u) (pc + 3) lo st) : gg p l e R s m args below meth c Q cells slots D A nL (oc_xW ad dS dZ v) pc lo stk :=
  gg_callv (qc := (RX0, TX0, 16)) (q0 := 0) (ci := 0) X hM hN hR hcl rfl rfl hn hst hrm hd kk
theorem gm_calli {post : Int32 → (Nat → Nat → Nat) → Prop} {f mL idx n : Nat} {y : MethodName} {b : ByteArray} {ret : Option FieldType} {As stk : List Value} (X : oc_X p s m args meth c cc nL RX1 D tys A) (hM : oc_Mi l D tys f y b mL ret (.ref (ad 0) :: As) (oc_mW ad dZ) (oc_mW ad dZ v) post) (hN : oc_cn RX1 idx RX1 y b mL ret n) (hR : oc_rr f mL R) (hcl : cells + 0 ≤ R.cells ∧ slots + 0 ≤ R.slots) (hn : As.length = n) (hst : stk = As.reverse ++ .ref (ad 0) :: st) (hrm : (st.map fun v => v.category).sum ≤ 8) (hd : decode cc pc = .ok (.invokevirtual idx, 3))
    (kk : ∀ (r : Int32) (u : Nat → Nat → Nat), post r u → gg p l e R s m args below meth c Q cells slots D A nL (oc_mW ad dZ u) (pc + 3) lo (.int r :: st)) : gg p l e R s m args below meth c Q cells slots D A nL (oc_mW ad dZ v) pc lo stk :=
  gg_calli (qc := (RX1, TX1, 2)) (q0 := 0) (ci := 1) X hM hN hR hcl rfl rfl hn hst hrm hd kk
theorem gm_callv {post : (Nat → Nat → Nat) → Prop} {f mL idx n : Nat} {y : MethodName} {b : ByteArray} {As stk : List Value} (X : oc_X p s m args meth c cc nL RX1 D tys A) (hM : oc_Mv l D tys f y b mL (.ref (ad 0) :: As) (oc_mW ad dZ) (oc_mW ad dZ v) post) (hN : oc_cn RX1 idx RX1 y b mL none n) (hR : oc_rr f mL R) (hcl : cells + 0 ≤ R.cells ∧ slots + 0 ≤ R.slots) (hn : As.length = n) (hst : stk = As.reverse ++ .ref (ad 0) :: st) (hrm : (st.map fun v => v.category).sum ≤ 8) (hd : decode cc pc = .ok (.invokevirtual idx, 3))
    (kk : ∀ (u : Nat → Nat → Nat), post u → gg p l e R s m args below meth c Q cells slots D A nL (oc_mW ad dZ u) (pc + 3) lo st) : gg p l e R s m args below meth c Q cells slots D A nL (oc_mW ad dZ v) pc lo stk :=
  gg_callv (qc := (RX1, TX1, 2)) (q0 := 0) (ci := 1) X hM hN hR hcl rfl rfl hn hst hrm hd kk
end GC
end
section
/-! the calls' names -/
set_option maxRecDepth 100000
theorem cn_X0_38 : oc_cn RX0 38 RX0 yX0_clearChains cX0_clearChains 2 none 0 := ⟨q33, q35, qs0, q23, q36, rfl, by decide +kernel, by decide +kernel, by decide +kernel⟩
theorem cn_X0_46 : oc_cs RX0 46 yX0_mix cX0_mix 2 (some .int) 2 := ⟨q114, q115, q23, q116, by decide +kernel, by decide +kernel, by decide +kernel⟩
theorem cn_X0_50 : oc_cn RX0 50 RX0 yX0_hasEight cX0_hasEight 3 (some .boolean) 1 := ⟨q146, q148, qs9, q23, q149, rfl, by decide +kernel, by decide +kernel, by decide +kernel⟩
theorem cn_X0_54 : oc_cn RX0 54 RX0 yX0_create cX0_create 4 (some .int) 1 := ⟨q150, q152, qs10, q23, q153, rfl, by decide +kernel, by decide +kernel, by decide +kernel⟩
theorem cn_X0_58 : oc_cn RX0 58 RX0 yX0_markFrom cX0_markFrom 6 none 1 := ⟨q106, q108, qs3, q23, q109, rfl, by decide +kernel, by decide +kernel, by decide +kernel⟩
theorem cn_X0_62 : oc_cn RX0 62 RX0 yX0_markOf cX0_markOf 4 (some .int) 1 := ⟨q110, q112, qs4, q23, q113, rfl, by decide +kernel, by decide +kernel, by decide +kernel⟩
theorem cn_X0_65 : oc_cs RX0 65 yX0_bit cX0_bit 3 (some .int) 3 := ⟨q132, q133, q23, q134, by decide +kernel, by decide +kernel, by decide +kernel⟩
theorem cn_X0_69 : oc_cs RX0 69 yX0_partOf cX0_partOf 2 (some .int) 2 := ⟨q129, q130, q23, q131, by decide +kernel, by decide +kernel, by decide +kernel⟩
theorem cn_X0_75 : oc_cs RX0 75 yX0_coordinate cX0_coordinate 2 (some .int) 2 := ⟨q139, q140, q23, q141, by decide +kernel, by decide +kernel, by decide +kernel⟩
theorem cn_X0_90 : oc_cn RX0 90 RX0 yX0_cubeAt cX0_cubeAt 7 (some .int) 3 := ⟨q125, q127, qs6, q23, q128, rfl, by decide +kernel, by decide +kernel, by decide +kernel⟩
theorem cn_X0_93 : oc_cn RX0 93 RX0 yX0_inBox cX0_inBox 6 (some .boolean) 1 := ⟨q135, q137, qs7, q23, q138, rfl, by decide +kernel, by decide +kernel, by decide +kernel⟩
theorem cn_X0_99 : oc_cn RX0 99 RX0 yX0_sweep cX0_sweep 3 none 0 := ⟨q102, q104, qs2, q23, q105, rfl, by decide +kernel, by decide +kernel, by decide +kernel⟩
theorem cn_X0_102 : oc_cs RX0 102 yX0_cellAt cX0_cellAt 4 (some .int) 1 := ⟨q118, q119, q23, q120, by decide +kernel, by decide +kernel, by decide +kernel⟩
theorem cn_X0_105 : oc_cn RX0 105 RX0 yX0_cellOf cX0_cellOf 4 (some .int) 1 := ⟨q121, q123, qs5, q23, q124, rfl, by decide +kernel, by decide +kernel, by decide +kernel⟩
theorem cn_X0_108 : oc_cn RX0 108 RX0 yX0_make cX0_make 6 (some .int) 0 := ⟨q142, q144, qs8, q23, q145, rfl, by decide +kernel, by decide +kernel, by decide +kernel⟩
theorem cn_X0_112 : oc_cs RX0 112 yX0_isSolid cX0_isSolid 1 (some .boolean) 1 := ⟨q92, q93, q23, q94, by decide +kernel, by decide +kernel, by decide +kernel⟩
theorem cn_X0_115 : oc_cs RX0 115 yX0_isCell cX0_isCell 1 (some .boolean) 1 := ⟨q95, q96, q23, q97, by decide +kernel, by decide +kernel, by decide +kernel⟩
theorem cn_X0_118 : oc_cn RX0 118 RX0 yX0_build cX0_build 5 none 1 := ⟨q98, q100, qs1, q23, q101, rfl, by decide +kernel, by decide +kernel, by decide +kernel⟩
theorem cn_X0_121 : oc_cn RX0 121 RX0 yX0_orderOf cX0_orderOf 4 (some .int) 2 := ⟨q186, q188, qs11, q23, q189, rfl, by decide +kernel, by decide +kernel, by decide +kernel⟩
theorem cn_X0_124 : oc_cn RX0 124 RX0 yX0_has cX0_has 3 (some .boolean) 2 := ⟨q198, q171, q172, q23, q173, rfl, by decide +kernel, by decide +kernel, by decide +kernel⟩
theorem cn_X1_16 : oc_cn RX1 16 RX1 yX1_part cX1_part 3 (some .int) 2 := ⟨q236, q238, qs15, q24, q239, rfl, by decide +kernel, by decide +kernel, by decide +kernel⟩
theorem cn_X1_20 : oc_cn RX1 20 RX1 yX1_solid cX1_solid 2 (some .boolean) 1 := ⟨q224, q226, qs12, q24, q227, rfl, by decide +kernel, by decide +kernel, by decide +kernel⟩
theorem cn_X1_24 : oc_cn RX1 24 RX1 yX1_cell cX1_cell 2 (some .boolean) 1 := ⟨q228, q230, qs13, q24, q231, rfl, by decide +kernel, by decide +kernel, by decide +kernel⟩
theorem cn_X1_27 : oc_cn RX1 27 RX1 yX1_between cX1_between 8 (some .boolean) 4 := ⟨q232, q234, qs14, q24, q235, rfl, by decide +kernel, by decide +kernel, by decide +kernel⟩
theorem cn_X1_31 : oc_cn RX1 31 RX1 yX1_keep cX1_keep 3 none 1 := ⟨q244, q246, qs16, q24, q247, rfl, by decide +kernel, by decide +kernel, by decide +kernel⟩
theorem cn_X1_35 : oc_cn RX1 35 RX1 yX1_inside cX1_inside 5 (some .boolean) 2 := ⟨q268, q269, q270, q24, q271, rfl, by decide +kernel, by decide +kernel, by decide +kernel⟩
theorem cn_X1_39 : oc_cn RX1 39 RX1 yX1_together cX1_together 4 (some .boolean) 3 := ⟨q285, q287, qs18, q24, q288, rfl, by decide +kernel, by decide +kernel, by decide +kernel⟩
theorem cn_X1_43 : oc_cn RX1 43 RX1 yX1_order cX1_order 4 (some .int) 2 := ⟨q277, q278, q279, q24, q280, rfl, by decide +kernel, by decide +kernel, by decide +kernel⟩
theorem cn_X1_46 : oc_cn RX1 46 RX1 yX1_corner cX1_corner 4 (some .boolean) 2 := ⟨q289, q291, qs19, q24, q292, rfl, by decide +kernel, by decide +kernel, by decide +kernel⟩
theorem cn_X1_49 : oc_cn RX1 49 RX1 yX1_even cX1_even 6 (some .boolean) 3 := ⟨q281, q283, qs17, q24, q284, rfl, by decide +kernel, by decide +kernel, by decide +kernel⟩
theorem cn_X1_52 : oc_cn RX1 52 RX1 yX1_neighbour cX1_neighbour 5 (some .int) 3 := ⟨q298, q300, qs20, q24, q301, rfl, by decide +kernel, by decide +kernel, by decide +kernel⟩
theorem cn_X1_56 : oc_cn RX1 56 RX1 yX1_alike cX1_alike 9 (some .boolean) 4 := ⟨q310, q312, qs21, q24, q313, rfl, by decide +kernel, by decide +kernel, by decide +kernel⟩
end
section
/-! the static methods -/
set_option maxRecDepth 100000
def oc_in (n : Nat) (r : Int32) : Prop := ∃ j : Nat, j < n ∧ r = nI j
/-- the part, of a cube of order k + 1, in which a cell lies -/
def oc_pt (c k : Nat) : Nat := c / 2 ^ k % 2 + 2 * (c / 2 ^ (3 + k) % 2) + 4 * (c / 2 ^ (6 + k) % 2)
theorem oc_in_no {n : Nat} {r : Int32} (hn : n < 2147483648) (h : r < 0 ∨ nI n ≤ r) : ¬ oc_in n r := by
  rintro ⟨j, hj, rfl⟩
  rcases h with h | h
  · exact absurd h (nI_pos (by omega))
  · have := (nI_leI (by omega) (by omega)).mp h
    omega
theorem oc_in_yes {n : Nat} {r : Int32} (hn : n < 2147483648) (h0 : ¬ r < 0) (h : ¬ nI n ≤ r) : oc_in n r := by
  obtain ⟨j, hj, rfl⟩ := nI_of h0
  refine ⟨j, ?_, rfl⟩
  rcases Nat.lt_or_ge j n with q | q
  · exact q
  · exact absurd ((nI_leI (by omega) (by omega)).mpr q) h
theorem mX_isSolid (l : Launch) (D : va_G) (r : Int32) : oc_Ms l D 0 yX0_isSolid cX0_isSolid 1 (some .boolean) [.int r] (fun q => (oc_in 4 r ∧ q = nI 1) ∨ (¬ oc_in 4 r ∧ q = nI 0)) := by
  refine oc_Mi.ofZ (own := RX0) (by decide) rfl (Nat.le_of_ble_eq_true rfl) (by simp [Value.category]) [some (.int r)] rfl ?_
  intro p e s m args below meth cd A Q X hret
  refine gg_ild_n X (pc := 0) dX0_isSolid_0 rfl ?_
  refine gg_if_lt X (pc := 1) (tgt := 13) dX0_isSolid_1 (by decide) (fun h => ?_) (fun h => ?_)
  · refine gg_ic X (pc := 13) dX0_isSolid_13 oc_ic0 ?_
    exact hret () _ 14 _ dX0_isSolid_14 (by omega) (Or.inr ⟨oc_in_no (by decide) (Or.inl h), rfl⟩)
  · refine gg_ild_n X (pc := 4) dX0_isSolid_4 rfl ?_
    refine gg_ic X (pc := 5) dX0_isSolid_5 oc_ic4 ?_
    refine gg_ic_ge X (pc := 6) (tgt := 13) dX0_isSolid_6 (by decide) (fun h2 => ?_) (fun h2 => ?_)
    · refine gg_ic X (pc := 13) dX0_isSolid_13 oc_ic0 ?_
      exact hret () _ 14 _ dX0_isSolid_14 (by omega) (Or.inr ⟨oc_in_no (by decide) (Or.inr h2), rfl⟩)
    · refine gg_ic X (pc := 9) dX0_isSolid_9 oc_ic1 ?_
      refine gg_goto X (pc := 10) (tgt := 14) dX0_isSolid_10 (by decide) ?_
      exact hret () _ 14 _ dX0_isSolid_14 (by omega) (Or.inl ⟨oc_in_yes (by decide) h h2, rfl⟩)
theorem mX_isCell (l : Launch) (D : va_G) (r : Int32) : oc_Ms l D 0 yX0_isCell cX0_isCell 1 (some .boolean) [.int r] (fun q => (oc_in 512 r ∧ q = nI 1) ∨ (¬ oc_in 512 r ∧ q = nI 0)) := by
  refine oc_Mi.ofZ (own := RX0) (by decide) rfl (Nat.le_of_ble_eq_true rfl) (by simp [Value.category]) [some (.int r)] rfl ?_
  intro p e s m args below meth cd A Q X hret
  refine gg_ild_n X (pc := 0) dX0_isCell_0 rfl ?_
  refine gg_if_lt X (pc := 1) (tgt := 15) dX0_isCell_1 (by decide) (fun h => ?_) (fun h => ?_)
  · refine gg_ic X (pc := 15) dX0_isCell_15 oc_ic0 ?_
    exact hret () _ 16 _ dX0_isCell_16 (by omega) (Or.inr ⟨oc_in_no (by decide) (Or.inl h), rfl⟩)
  · refine gg_ild_n X (pc := 4) dX0_isCell_4 rfl ?_
    refine gg_sp X (pc := 5) dX0_isCell_5 oc_sp512 ?_
    refine gg_ic_ge X (pc := 8) (tgt := 15) dX0_isCell_8 (by decide) (fun h2 => ?_) (fun h2 => ?_)
    · refine gg_ic X (pc := 15) dX0_isCell_15 oc_ic0 ?_
      exact hret () _ 16 _ dX0_isCell_16 (by omega) (Or.inr ⟨oc_in_no (by decide) (Or.inr h2), rfl⟩)
    · refine gg_ic X (pc := 11) dX0_isCell_11 oc_ic1 ?_
      refine gg_goto X (pc := 12) (tgt := 16) dX0_isCell_12 (by decide) ?_
      exact hret () _ 16 _ dX0_isCell_16 (by omega) (Or.inl ⟨oc_in_yes (by decide) h h2, rfl⟩)
theorem oc_and_mod (a k : Nat) {b : Nat} (h : b = 2 ^ k - 1) : nI (a &&& b) = nI (a % 2 ^ k) := by rw [h, Nat.and_two_pow_sub_one_eq_mod]
theorem mX_mix (l : Launch) (D : va_G) (a b : Nat) : oc_Ms l D 0 yX0_mix cX0_mix 2 (some .int) [.int (nI a), .int (nI b)] (fun q => q = nI ((a * 31 + b) % 65536)) := by
  refine oc_Mi.ofI (own := RX0) (by decide) rfl (Nat.le_of_ble_eq_true rfl) (by simp [Value.category]) [some (.int (nI a)), some (.int (nI b))] rfl ?_
  intro p e s m args below meth cd A Q X hret
  refine gg_ild_n X (pc := 0) dX0_mix_0 rfl ?_
  refine gg_bp X (pc := 1) dX0_mix_1 oc_bp31 ?_
  refine gg_imulN X (pc := 3) dX0_mix_3 ?_
  refine gg_ild_n X (pc := 4) dX0_mix_4 rfl ?_
  refine gg_iaddN X (pc := 5) dX0_mix_5 ?_
  refine gg_ldc X (pc := 6) dX0_mix_6 q117 ?_
  refine gg_top (show (65535 : Int32) = nI 65535 from rfl) ?_
  refine gg_iandN X (pc := 8) dX0_mix_8 ?_
  refine gg_top (oc_and_mod _ 16 rfl) ?_
  exact hret () _ 9 _ dX0_mix_9 (rfl)
theorem mX_bit (l : Launch) (D : va_G) (c a k : Nat) (hc : c < 512) (ha : a < 3) (hk : k < 3) : oc_Ms l D 0 yX0_bit cX0_bit 3 (some .int) [.int (nI c), .int (nI a), .int (nI k)] (fun q => q = nI (c / 2 ^ (3 * a + k) % 2)) := by
  refine oc_Mi.ofI (own := RX0) (by decide) rfl (Nat.le_of_ble_eq_true rfl) (by simp [Value.category]) [some (.int (nI c)), some (.int (nI a)), some (.int (nI k))] rfl ?_
  intro p e s m args below meth cd A Q X hret
  refine gg_ild_n X (pc := 0) dX0_bit_0 rfl ?_
  refine gg_ic X (pc := 1) dX0_bit_1 oc_ic3 ?_
  refine gg_ild_n X (pc := 2) dX0_bit_2 rfl ?_
  refine gg_imulN X (pc := 3) dX0_bit_3 ?_
  refine gg_ild_n X (pc := 4) dX0_bit_4 rfl ?_
  refine gg_iaddN X (pc := 5) dX0_bit_5 ?_
  refine gg_ishrN X (pc := 6) dX0_bit_6 (by omega) (by omega) ?_
  refine gg_ic X (pc := 7) dX0_bit_7 oc_ic1 ?_
  refine gg_iandN X (pc := 8) dX0_bit_8 ?_
  refine gg_top (oc_and_mod _ 1 rfl) ?_
  exact hret () _ 9 _ dX0_bit_9 (rfl)
theorem mX_partOf (l : Launch) (D : va_G) (c k : Nat) (hc : c < 512) (hk : k < 3) : oc_Ms l D 1 yX0_partOf cX0_partOf 2 (some .int) [.int (nI c), .int (nI k)] (fun q => q = nI (oc_pt c k)) := by
  refine oc_Mi.ofI (own := RX0) (by decide) rfl (Nat.le_of_ble_eq_true rfl) (by simp [Value.category]) [some (.int (nI c)), some (.int (nI k))] rfl ?_
  intro p e s m args below meth cd A Q X hret
  refine gg_ild_n X (pc := 0) dX0_partOf_0 rfl ?_
  refine gg_ic X (pc := 1) dX0_partOf_1 oc_ic0 ?_
  refine gg_ild_n X (pc := 2) dX0_partOf_2 rfl ?_
  refine gg_calls X (pc := 3) (mX_bit l D c 0 k hc (by omega) hk) cn_X0_65 ⟨by decide, by decide⟩ ⟨Nat.le_refl _, Nat.le_refl _⟩ rfl rfl (Nat.le_of_ble_eq_true rfl) dX0_partOf_3 (fun r1 h1 => ?_)
  obtain rfl := h1
  refine gg_ic X (pc := 6) dX0_partOf_6 oc_ic2 ?_
  refine gg_ild_n X (pc := 7) dX0_partOf_7 rfl ?_
  refine gg_ic X (pc := 8) dX0_partOf_8 oc_ic1 ?_
  refine gg_ild_n X (pc := 9) dX0_partOf_9 rfl ?_
  refine gg_calls X (pc := 10) (mX_bit l D c 1 k hc (by omega) hk) cn_X0_65 ⟨by decide, by decide⟩ ⟨Nat.le_refl _, Nat.le_refl _⟩ rfl rfl (Nat.le_of_ble_eq_true rfl) dX0_partOf_10 (fun r2 h2 => ?_)
  obtain rfl := h2
  refine gg_imulN X (pc := 13) dX0_partOf_13 ?_
  refine gg_iaddN X (pc := 14) dX0_partOf_14 ?_
  refine gg_ic X (pc := 15) dX0_partOf_15 oc_ic4 ?_
  refine gg_ild_n X (pc := 16) dX0_partOf_16 rfl ?_
  refine gg_ic X (pc := 17) dX0_partOf_17 oc_ic2 ?_
  refine gg_ild_n X (pc := 18) dX0_partOf_18 rfl ?_
  refine gg_calls X (pc := 19) (mX_bit l D c 2 k hc (by omega) hk) cn_X0_65 ⟨by decide, by decide⟩ ⟨Nat.le_refl _, Nat.le_refl _⟩ rfl rfl (Nat.le_of_ble_eq_true rfl) dX0_partOf_19 (fun r3 h3 => ?_)
  obtain rfl := h3
  refine gg_imulN X (pc := 22) dX0_partOf_22 ?_
  refine gg_iaddN X (pc := 23) dX0_partOf_23 ?_
  exact hret () _ 24 _ dX0_partOf_24 (by simp only [oc_pt, Nat.mul_zero, Nat.zero_add, Nat.mul_one])
theorem mX_coordinate (l : Launch) (D : va_G) (c a : Nat) (hc : c < 512) (ha : a < 3) : oc_Ms l D 0 yX0_coordinate cX0_coordinate 2 (some .int) [.int (nI c), .int (nI a)] (fun q => q = nI (c / 2 ^ (3 * a) % 8)) := by
  refine oc_Mi.ofI (own := RX0) (by decide) rfl (Nat.le_of_ble_eq_true rfl) (by simp [Value.category]) [some (.int (nI c)), some (.int (nI a))] rfl ?_
  intro p e s m args below meth cd A Q X hret
  refine gg_ild_n X (pc := 0) dX0_coordinate_0 rfl ?_
  refine gg_ic X (pc := 1) dX0_coordinate_1 oc_ic3 ?_
  refine gg_ild_n X (pc := 2) dX0_coordinate_2 rfl ?_
  refine gg_imulN X (pc := 3) dX0_coordinate_3 ?_
  refine gg_ishrN X (pc := 4) dX0_coordinate_4 (by omega) (by omega) ?_
  refine gg_bp X (pc := 5) dX0_coordinate_5 oc_bp7 ?_
  refine gg_iandN X (pc := 7) dX0_coordinate_7 ?_
  refine gg_top (oc_and_mod _ 3 rfl) ?_
  exact hret () _ 8 _ dX0_coordinate_8 (rfl)
end
section
/-! cells: cubeAt, cellAt, inBox, cellOf, orderOf -/
set_option maxRecDepth 100000
theorem oc_decn (a : Nat) : nI a + Int32.ofInt (-1) = oc_c a := by
  rw [oc_icm]
  show nI a + (-1) = nI a - 1
  grind
def oc_stp (P : Nat → Nat) (c n k : Nat) : Nat := if n < 2 then n else P (n * 8 + oc_pt c k)
def oc_cub (P : Nat → Nat) (n c : Nat) : Nat → Nat
  | 0 => n
  | t + 1 => oc_stp P c (oc_cub P n c t) (2 - t)
theorem oc_pt_lt (c k : Nat) : oc_pt c k < 8 := by
  unfold oc_pt
  omega
def oc_wf (v : Nat → Nat → Nat) : Prop := ∀ j, j < 4096 → v 0 j < 512
theorem oc_stp_lt {v : Nat → Nat → Nat} (h : oc_wf v) (c : Nat) {n : Nat} (hn : n < 512) (k : Nat) : oc_stp (v 0) c n k < 512 := by
  unfold oc_stp
  split
  · exact hn
  · have := oc_pt_lt c k
    exact h _ (by omega)
theorem oc_cub_lt {v : Nat → Nat → Nat} (h : oc_wf v) {n : Nat} (hn : n < 512) (c t : Nat) : oc_cub (v 0) n c t < 512 := by
  induction t with
  | zero => exact hn
  | succ t ih => exact oc_stp_lt h c ih _
theorem mX_cubeAt (l : Launch) (D : va_G) (dS dZ : ClassId) (ad : Nat → Nat) (v : Nat → Nat → Nat) (n c o : Nat) (hw : oc_wf v) (hn : n < 512) (hc : c < 512) (ho : o ≤ 3) : oc_Mi l D (oc_tx dS dZ) 2 yX0_cubeAt cX0_cubeAt 7 (some .int) [.ref (ad 0), .int (nI n), .int (nI c), .int (nI o)] (oc_xW ad dS dZ) (oc_xW ad dS dZ v) (fun r u => r = nI (oc_cub (v 0) n c (3 - o)) ∧ v = u) := by
  refine oc_Mi.ofI (own := RX0) (by decide) rfl (Nat.le_of_ble_eq_true rfl) (by simp [Value.category]) [some (.ref (ad 0)), some (.int (nI n)), some (.int (nI c)), some (.int (nI o)), none, none, none] rfl ?_
  intro p e s m args below meth cd A Q X hret
  have loop : ∀ (j n' : Nat) (p6 : Option Value), o ≤ j → j ≤ 3 → n' < 512 → n' = oc_cub (v 0) n c (3 - j) → gg p l e (oc_rm 2) s m args below meth cd Q 0 0 D A 7 (oc_xW ad dS dZ v) 6 [some (.ref (ad 0)), some (.int (nI n)), some (.int (nI c)), some (.int (nI o)), some (.int (nI n')), some (.int (oc_c j)), p6] [] := by
    intro j
    induction j with
    | zero =>
      intro n' p6 h1 h2 h3 h4
      refine gg_ild X (pc := 6) dX0_cubeAt_6 rfl ?_
      refine gg_ild_n X (pc := 8) dX0_cubeAt_8 rfl ?_
      refine gg_ic_lt X (pc := 9) (tgt := 47) dX0_cubeAt_9 (by decide) (fun h => ?_) (fun h => ?_)
      · refine gg_ild X (pc := 47) dX0_cubeAt_47 rfl ?_
        exact hret _ _ 49 _ dX0_cubeAt_49 (⟨by rw [h4, show o = 0 by omega], rfl⟩)
      · exact absurd ((oc_clt (by omega) (by omega)).mpr (by omega)) h
    | succ j ih =>
      intro n' p6 h1 h2 h3 h4
      refine gg_ild X (pc := 6) dX0_cubeAt_6 rfl ?_
      refine gg_ild_n X (pc := 8) dX0_cubeAt_8 rfl ?_
      refine gg_ic_lt X (pc := 9) (tgt := 47) dX0_cubeAt_9 (by decide) (fun h => ?_) (fun h => ?_)
      · have h := (oc_clt (by omega) (by omega)).mp h
        refine gg_ild X (pc := 47) dX0_cubeAt_47 rfl ?_
        exact hret _ _ 49 _ dX0_cubeAt_49 (⟨by rw [h4, show o = j + 1 by omega], rfl⟩)
      · have h : ¬ j + 1 ≤ o := fun q => h ((oc_clt (by omega) (by omega)).mpr q)
        have hs : oc_cub (v 0) n c (3 - j) = oc_stp (v 0) c n' j := by
          rw [show 3 - j = (3 - (j + 1)) + 1 by omega]
          show oc_stp (v 0) c (oc_cub (v 0) n c (3 - (j + 1))) (2 - (3 - (j + 1))) = _
          rw [← h4, show 2 - (3 - (j + 1)) = j by omega]
        refine gg_ild X (pc := 12) dX0_cubeAt_12 rfl ?_
        refine gg_ic X (pc := 14) dX0_cubeAt_14 oc_ic2 ?_
        refine gg_ic_ltN X (pc := 15) (tgt := 41) dX0_cubeAt_15 (by decide) (by omega) (by omega) (fun h5 => ?_) (fun h5 => ?_)
        · refine gg_iinc X (pc := 41) dX0_cubeAt_41 rfl (oc_decc _) (by decide) ?_
          refine gg_goto X (pc := 44) (tgt := 6) dX0_cubeAt_44 (by decide) ?_
          exact ih n' _ (by omega) (by omega) h3 (by rw [hs, oc_stp, if_pos h5])
        · refine gg_ild_n X (pc := 18) dX0_cubeAt_18 rfl ?_
          rw [oc_cS]
          refine gg_ild X (pc := 19) dX0_cubeAt_19 rfl ?_
          refine gg_calls X (pc := 21) (mX_partOf l D c j hc (by omega)) cn_X0_69 ⟨by decide, by decide⟩ ⟨Nat.le_refl _, Nat.le_refl _⟩ rfl rfl (Nat.le_of_ble_eq_true rfl) dX0_cubeAt_21 (fun r1 q1 => ?_)
          obtain rfl := q1
          have hp := oc_pt_lt c j
          refine gg_ist X (pc := 24) dX0_cubeAt_24 (by decide) ?_
          refine gg_ald_n X (pc := 26) dX0_cubeAt_26 rfl ?_
          refine gx_g_parts X (pc := 27) dX0_cubeAt_27 ?_
          refine gg_ild X (pc := 30) dX0_cubeAt_30 rfl ?_
          refine gg_bp X (pc := 32) dX0_cubeAt_32 oc_bp8 ?_
          refine gg_imulN X (pc := 34) dX0_cubeAt_34 ?_
          refine gg_ild X (pc := 35) dX0_cubeAt_35 rfl ?_
          refine gg_iaddN X (pc := 37) dX0_cubeAt_37 ?_
          refine gx_l_parts X (pc := 38) dX0_cubeAt_38 (by omega) ?_
          refine gg_ist X (pc := 39) dX0_cubeAt_39 (by decide) ?_
          refine gg_iinc X (pc := 41) dX0_cubeAt_41 rfl (oc_decn _) (by decide) ?_
          refine gg_goto X (pc := 44) (tgt := 6) dX0_cubeAt_44 (by decide) ?_
          exact ih _ _ (by omega) (by omega) (hw _ (by omega)) (by rw [hs, oc_stp, if_neg (by omega)])
  refine gg_ild_n X (pc := 0) dX0_cubeAt_0 rfl ?_
  refine gg_ist X (pc := 1) dX0_cubeAt_1 (by decide) ?_
  refine gg_ic X (pc := 3) dX0_cubeAt_3 oc_ic2 ?_
  refine gg_ist X (pc := 4) dX0_cubeAt_4 (by decide) ?_
  exact loop 3 n _ (by omega) (by omega) hn rfl
end
section
/-! cellAt, inBox, cellOf, orderOf -/
set_option maxRecDepth 100000
def oc_cak (m : Nat) : Nat → Nat
  | 0 => 0
  | k + 1 => oc_cak m k ||| ((m / 2 ^ (3 * k) % 2 ^ 3 % 2 ^ 1 * 2 ^ k ||| m / 2 ^ (3 * k) % 2 ^ 3 / 2 ^ 1 % 2 ^ 1 * 2 ^ (3 + k)) ||| m / 2 ^ (3 * k) % 2 ^ 3 / 2 ^ 2 * 2 ^ (6 + k))
def oc_cat (m : Nat) : Nat := oc_cak m 3
theorem oc_shb {a b : Nat} (ha : a ≤ 7) (hb : b ≤ 8) : a * 2 ^ b < 4294967296 := Nat.lt_of_le_of_lt (Nat.mul_le_mul ha (Nat.pow_le_pow_right (by decide) hb)) (by decide)
theorem oc_dle (a b : Nat) {n : Nat} (h : a ≤ n) : a / b ≤ n := Nat.le_trans (Nat.div_le_self a b) h
theorem mX_cellAt (l : Launch) (D : va_G) (m0 : Nat) (hm : m0 < 512) : oc_Ms l D 0 yX0_cellAt cX0_cellAt 4 (some .int) [.int (nI m0)] (fun q => q = nI (oc_cat m0)) := by
  refine oc_Mi.ofI (own := RX0) (by decide) rfl (Nat.le_of_ble_eq_true rfl) (by simp [Value.category]) [some (.int (nI m0)), none, none, none] rfl ?_
  intro p e s m args below meth cd A Q X hret
  have loop : ∀ (n k : Nat) (p3 : Option Value), k + n = 3 → gg p l e (oc_rm 0) s m args below meth cd Q 0 0 D A 4 ([]) 4 [some (.int (nI m0)), some (.int (nI (oc_cak m0 k))), some (.int (nI k)), p3] [] := by
    intro n
    induction n with
    | zero =>
      intro k p3 hk
      obtain rfl : k = 3 := by omega
      refine gg_ild_n X (pc := 4) dX0_cellAt_4 rfl ?_
      refine gg_ic X (pc := 5) dX0_cellAt_5 oc_ic3 ?_
      refine gg_ic_geN X (pc := 6) (tgt := 51) dX0_cellAt_6 (by decide) (by omega) (by omega) (fun h => ?_) (fun h => ?_)
      · refine gg_ild_n X (pc := 51) dX0_cellAt_51 rfl ?_
        exact hret () _ 52 _ dX0_cellAt_52 (rfl)
      · exact absurd h (by omega)
    | succ n ih =>
      intro k p3 hk
      refine gg_ild_n X (pc := 4) dX0_cellAt_4 rfl ?_
      refine gg_ic X (pc := 5) dX0_cellAt_5 oc_ic3 ?_
      refine gg_ic_geN X (pc := 6) (tgt := 51) dX0_cellAt_6 (by decide) (by omega) (by omega) (fun h => ?_) (fun h => ?_)
      · exact absurd h (by omega)
      · have hq : m0 / 2 ^ (3 * k) % 2 ^ 3 ≤ 7 := by omega
        refine gg_ild_n X (pc := 9) dX0_cellAt_9 rfl ?_
        refine gg_ic X (pc := 10) dX0_cellAt_10 oc_ic3 ?_
        refine gg_ild_n X (pc := 11) dX0_cellAt_11 rfl ?_
        refine gg_imulN X (pc := 12) dX0_cellAt_12 ?_
        refine gg_ishrN X (pc := 13) dX0_cellAt_13 (by omega) (by omega) ?_
        refine gg_bp X (pc := 14) dX0_cellAt_14 oc_bp7 ?_
        refine gg_iandN X (pc := 16) dX0_cellAt_16 ?_
        refine gg_top (oc_and_mod _ 3 rfl) ?_
        refine gg_ist_n X (pc := 17) dX0_cellAt_17 (by decide) ?_
        refine gg_ild_n X (pc := 18) dX0_cellAt_18 rfl ?_
        refine gg_ild_n X (pc := 19) dX0_cellAt_19 rfl ?_
        refine gg_ic X (pc := 20) dX0_cellAt_20 oc_ic1 ?_
        refine gg_iandN X (pc := 21) dX0_cellAt_21 ?_
        refine gg_top (oc_and_mod _ 1 rfl) ?_
        refine gg_ild_n X (pc := 22) dX0_cellAt_22 rfl ?_
        refine gg_ishlN X (pc := 23) dX0_cellAt_23 (by omega) (oc_shb (by omega) (by omega)) ?_
        refine gg_ild_n X (pc := 24) dX0_cellAt_24 rfl ?_
        refine gg_ic X (pc := 25) dX0_cellAt_25 oc_ic1 ?_
        refine gg_ishrN X (pc := 26) dX0_cellAt_26 (by omega) (by omega) ?_
        refine gg_ic X (pc := 27) dX0_cellAt_27 oc_ic1 ?_
        refine gg_iandN X (pc := 28) dX0_cellAt_28 ?_
        refine gg_top (oc_and_mod _ 1 rfl) ?_
        refine gg_ic X (pc := 29) dX0_cellAt_29 oc_ic3 ?_
        refine gg_ild_n X (pc := 30) dX0_cellAt_30 rfl ?_
        refine gg_iaddN X (pc := 31) dX0_cellAt_31 ?_
        refine gg_ishlN X (pc := 32) dX0_cellAt_32 (by omega) (oc_shb (by omega) (by omega)) ?_
        refine gg_iorN X (pc := 33) dX0_cellAt_33 ?_
        refine gg_ild_n X (pc := 34) dX0_cellAt_34 rfl ?_
        refine gg_ic X (pc := 35) dX0_cellAt_35 oc_ic2 ?_
        refine gg_ishrN X (pc := 36) dX0_cellAt_36 (by omega) (by omega) ?_
        refine gg_bp X (pc := 37) dX0_cellAt_37 oc_bp6 ?_
        refine gg_ild_n X (pc := 39) dX0_cellAt_39 rfl ?_
        refine gg_iaddN X (pc := 40) dX0_cellAt_40 ?_
        refine gg_ishlN X (pc := 41) dX0_cellAt_41 (by omega) (oc_shb (oc_dle _ _ hq) (by omega)) ?_
        refine gg_iorN X (pc := 42) dX0_cellAt_42 ?_
        refine gg_iorN X (pc := 43) dX0_cellAt_43 ?_
        refine gg_ist_n X (pc := 44) dX0_cellAt_44 (by decide) ?_
        refine gg_iinc X (pc := 45) dX0_cellAt_45 rfl (oc_inc _) (by decide) ?_
        refine gg_goto X (pc := 48) (tgt := 4) dX0_cellAt_48 (by decide) ?_
        exact ih (k + 1) _ (by omega)
  refine gg_ic X (pc := 0) dX0_cellAt_0 oc_ic0 ?_
  refine gg_ist_n X (pc := 1) dX0_cellAt_1 (by decide) ?_
  refine gg_ic X (pc := 2) dX0_cellAt_2 oc_ic0 ?_
  refine gg_ist_n X (pc := 3) dX0_cellAt_3 (by decide) ?_
  exact loop 3 0 _ (by omega)
def oc_co (c a : Nat) : Nat := c / 2 ^ (3 * a) % 8
/-- a cell's coordinate is between two cells' -/
def oc_btw (c d e a : Nat) : Bool := decide ((oc_co d a ≤ oc_co c a ∧ oc_co c a ≤ oc_co e a) ∨ (oc_co e a ≤ oc_co c a ∧ oc_co c a ≤ oc_co d a))
def oc_box (d e c : Nat) : Bool := oc_btw c d e 0 && oc_btw c d e 1 && oc_btw c d e 2
theorem oc_co_lt (c a : Nat) : oc_co c a < 8 := Nat.mod_lt _ (by decide)
theorem oc_box_f {d e c a : Nat} (ha : a < 3) (h : oc_btw c d e a = false) : oc_box d e c = false := by
  unfold oc_box
  rcases (by omega : a = 0 ∨ a = 1 ∨ a = 2) with rfl | rfl | rfl <;> simp [h]
theorem oc_box_t {d e c : Nat} (h : ∀ a, a < 3 → oc_btw c d e a = true) : oc_box d e c = true := by
  unfold oc_box
  rw [h 0 (by decide), h 1 (by decide), h 2 (by decide)]
  rfl
theorem mX_inBox (l : Launch) (D : va_G) (dS dZ : ClassId) (ad : Nat → Nat) (v : Nat → Nat → Nat) (c : Nat) (hc : c < 512) (h4 : v 9 4 < 512) (h5 : v 9 5 < 512) : oc_Mi l D (oc_tx dS dZ) 1 yX0_inBox cX0_inBox 6 (some .boolean) [.ref (ad 0), .int (nI c)] (oc_xW ad dS dZ) (oc_xW ad dS dZ v) (fun r u => r = nI (oc_box (v 9 4) (v 9 5) c).toNat ∧ v = u) := by
  refine oc_Mi.ofZ (own := RX0) (by decide) rfl (Nat.le_of_ble_eq_true rfl) (by simp [Value.category]) [some (.ref (ad 0)), some (.int (nI c)), none, none, none, none] rfl ?_
  intro p e s m args below meth cd A Q X hret
  have loop : ∀ (n a : Nat) (p3 p4 p5 : Option Value), a + n = 3 → (∀ b, b < a → oc_btw c (v 9 4) (v 9 5) b = true) → gg p l e (oc_rm 1) s m args below meth cd Q 0 0 D A 6 (oc_xW ad dS dZ v) 2 [some (.ref (ad 0)), some (.int (nI c)), some (.int (nI a)), p3, p4, p5] [] := by
    intro n
    induction n with
    | zero =>
      intro a p3 p4 p5 ha hi
      obtain rfl : a = 3 := by omega
      refine gg_ild_n X (pc := 2) dX0_inBox_2 rfl ?_
      refine gg_ic X (pc := 3) dX0_inBox_3 oc_ic3 ?_
      refine gg_ic_geN X (pc := 4) (tgt := 75) dX0_inBox_4 (by decide) (by omega) (by omega) (fun h => ?_) (fun h => ?_)
      · refine gg_ic X (pc := 75) dX0_inBox_75 oc_ic1 ?_
        exact hret _ _ 76 _ dX0_inBox_76 (by omega) (⟨by rw [oc_box_t hi]; rfl, rfl⟩)
      · exact absurd h (by omega)
    | succ n ih =>
      intro a p3 p4 p5 ha hi
      refine gg_ild_n X (pc := 2) dX0_inBox_2 rfl ?_
      refine gg_ic X (pc := 3) dX0_inBox_3 oc_ic3 ?_
      refine gg_ic_geN X (pc := 4) (tgt := 75) dX0_inBox_4 (by decide) (by omega) (by omega) (fun h => ?_) (fun h => ?_)
      · exact absurd h (by omega)
      · refine gg_ald_n X (pc := 7) dX0_inBox_7 rfl ?_
        refine gx_g_corner X (pc := 8) dX0_inBox_8 ?_
        refine gg_ild_n X (pc := 11) dX0_inBox_11 rfl ?_
        refine gg_calls X (pc := 12) (mX_coordinate l D (v 9 4) a h4 h) cn_X0_75 ⟨by decide, by decide⟩ ⟨Nat.le_refl _, Nat.le_refl _⟩ rfl rfl (Nat.le_of_ble_eq_true rfl) dX0_inBox_12 (fun r1 q1 => ?_)
        obtain rfl := q1
        refine gg_ist_n X (pc := 15) dX0_inBox_15 (by decide) ?_
        refine gg_ald_n X (pc := 16) dX0_inBox_16 rfl ?_
        refine gx_g_other X (pc := 17) dX0_inBox_17 ?_
        refine gg_ild_n X (pc := 20) dX0_inBox_20 rfl ?_
        refine gg_calls X (pc := 21) (mX_coordinate l D (v 9 5) a h5 h) cn_X0_75 ⟨by decide, by decide⟩ ⟨Nat.le_refl _, Nat.le_refl _⟩ rfl rfl (Nat.le_of_ble_eq_true rfl) dX0_inBox_21 (fun r1 q1 => ?_)
        obtain rfl := q1
        refine gg_ist X (pc := 24) dX0_inBox_24 (by decide) ?_
        refine gg_ild_n X (pc := 26) dX0_inBox_26 rfl ?_
        refine gg_ild_n X (pc := 27) dX0_inBox_27 rfl ?_
        refine gg_calls X (pc := 28) (mX_coordinate l D c a hc h) cn_X0_75 ⟨by decide, by decide⟩ ⟨Nat.le_refl _, Nat.le_refl _⟩ rfl rfl (Nat.le_of_ble_eq_true rfl) dX0_inBox_28 (fun r1 q1 => ?_)
        obtain rfl := q1
        have e4 := oc_co_lt (v 9 4) a
        have e5 := oc_co_lt (v 9 5) a
        have e0 := oc_co_lt c a
        have d4 : v 9 4 / 2 ^ (3 * a) % 8 = oc_co (v 9 4) a := rfl
        have d5 : v 9 5 / 2 ^ (3 * a) % 8 = oc_co (v 9 5) a := rfl
        have d0 : c / 2 ^ (3 * a) % 8 = oc_co c a := rfl
        rw [d4, d5, d0]
        have fin : ∀ (L : List (Option Value)), ¬ ((oc_co (v 9 4) a ≤ oc_co c a ∧ oc_co c a ≤ oc_co (v 9 5) a) ∨ (oc_co (v 9 5) a ≤ oc_co c a ∧ oc_co c a ≤ oc_co (v 9 4) a)) → gg p l e (oc_rm 1) s m args below meth cd Q 0 0 D A 6 (oc_xW ad dS dZ v) 67 L [] := by
          intro L hx
          refine gg_ic X (pc := 67) dX0_inBox_67 oc_ic0 ?_
          exact hret _ _ 68 _ dX0_inBox_68 (by omega) (⟨by rw [oc_box_f h (show oc_btw c (v 9 4) (v 9 5) a = false from decide_eq_false hx)]; rfl, rfl⟩)
        have nxt : ∀ (p3 p4 p5 : Option Value), ((oc_co (v 9 4) a ≤ oc_co c a ∧ oc_co c a ≤ oc_co (v 9 5) a) ∨ (oc_co (v 9 5) a ≤ oc_co c a ∧ oc_co c a ≤ oc_co (v 9 4) a)) → gg p l e (oc_rm 1) s m args below meth cd Q 0 0 D A 6 (oc_xW ad dS dZ v) 69 [some (.ref (ad 0)), some (.int (nI c)), some (.int (nI a)), p3, p4, p5] [] := by
          intro p3 p4 p5 hx
          refine gg_iinc X (pc := 69) dX0_inBox_69 rfl (oc_inc _) (by decide) ?_
          refine gg_goto X (pc := 72) (tgt := 2) dX0_inBox_72 (by decide) ?_
          exact ih (a + 1) _ _ _ (by omega) (fun b hb => by
            rcases Nat.lt_or_ge b a with q | q
            · exact hi b q
            · rw [show b = a by omega]; exact decide_eq_true hx)
        refine gg_ist X (pc := 31) dX0_inBox_31 (by decide) ?_
        refine gg_ild X (pc := 33) dX0_inBox_33 rfl ?_
        refine gg_ild_n X (pc := 35) dX0_inBox_35 rfl ?_
        refine gg_ild X (pc := 36) dX0_inBox_36 rfl ?_
        refine gg_ic_geN X (pc := 38) (tgt := 45) dX0_inBox_38 (by decide) (by omega) (by omega) (fun k1 => ?_) (fun k1 => ?_)
        · refine gg_ild X (pc := 45) dX0_inBox_45 rfl ?_
          refine gg_ic_ltN X (pc := 47) (tgt := 67) dX0_inBox_47 (by decide) (by omega) (by omega) (fun k2 => ?_) (fun k2 => ?_)
          · exact fin _ (by omega)
          · refine gg_ild X (pc := 50) dX0_inBox_50 rfl ?_
            refine gg_ild_n X (pc := 52) dX0_inBox_52 rfl ?_
            refine gg_ild X (pc := 53) dX0_inBox_53 rfl ?_
            refine gg_ic_geN X (pc := 55) (tgt := 63) dX0_inBox_55 (by decide) (by omega) (by omega) (fun k3 => ?_) (fun k3 => ?_)
            · refine gg_ild_n X (pc := 63) dX0_inBox_63 rfl ?_
              refine gg_ic_leN X (pc := 64) (tgt := 69) dX0_inBox_64 (by decide) (by omega) (by omega) (fun k4 => ?_) (fun k4 => ?_)
              · exact nxt _ _ _ (by omega)
              · exact fin _ (by omega)
            · exact absurd k1 (by omega)
        · refine gg_ild_n X (pc := 41) dX0_inBox_41 rfl ?_
          refine gg_goto X (pc := 42) (tgt := 47) dX0_inBox_42 (by decide) ?_
          refine gg_ic_ltN X (pc := 47) (tgt := 67) dX0_inBox_47 (by decide) (by omega) (by omega) (fun k2 => ?_) (fun k2 => ?_)
          · exact fin _ (by omega)
          · refine gg_ild X (pc := 50) dX0_inBox_50 rfl ?_
            refine gg_ild_n X (pc := 52) dX0_inBox_52 rfl ?_
            refine gg_ild X (pc := 53) dX0_inBox_53 rfl ?_
            refine gg_ic_geN X (pc := 55) (tgt := 63) dX0_inBox_55 (by decide) (by omega) (by omega) (fun k3 => ?_) (fun k3 => ?_)
            · exact absurd k1 (by omega)
            · refine gg_ild X (pc := 58) dX0_inBox_58 rfl ?_
              refine gg_goto X (pc := 60) (tgt := 64) dX0_inBox_60 (by decide) ?_
              refine gg_ic_leN X (pc := 64) (tgt := 69) dX0_inBox_64 (by decide) (by omega) (by omega) (fun k4 => ?_) (fun k4 => ?_)
              · exact nxt _ _ _ (by omega)
              · exact fin _ (by omega)
  refine gg_ic X (pc := 0) dX0_inBox_0 oc_ic0 ?_
  refine gg_ist_n X (pc := 1) dX0_inBox_1 (by decide) ?_
  exact loop 3 0 _ _ _ (by omega) (fun b hb => absurd hb (by omega))
end
section
/-! cellOf, orderOf -/
set_option maxRecDepth 100000
def oc_op (t a b : Nat) : Nat := if t = 0 then a ||| b else if t = 1 then a &&& b else if t = 2 then a &&& (1 - b) else a ^^^ b
def oc_cof (v : Nat → Nat → Nat) (c : Nat) : Nat :=
  if v 9 1 = 6 then oc_cub (v 0) (v 9 2) (c ^^^ 7 * 2 ^ (3 * v 9 6)) 3
  else if v 9 1 = 4 then (if oc_box (v 9 4) (v 9 5) c = true then v 9 6 else oc_cub (v 0) (v 9 2) c 3)
  else if v 9 1 = 5 then 1 - oc_cub (v 0) (v 9 2) c 3
  else oc_op (v 9 1) (oc_cub (v 0) (v 9 2) c 3) (oc_cub (v 0) (v 9 3) c 3)
/-- the question at hand is a fair one -/
def oc_q (v : Nat → Nat → Nat) : Prop := oc_wf v ∧ v 9 2 < 512 ∧ v 9 1 < 7 ∧ (∀ c, c < 512 → oc_cub (v 0) (v 9 2) c 3 < 2) ∧ (v 9 1 < 4 → v 9 3 < 512 ∧ ∀ c, c < 512 → oc_cub (v 0) (v 9 3) c 3 < 2) ∧ (v 9 1 = 6 → v 9 6 < 3) ∧ (v 9 1 = 4 → v 9 4 < 512 ∧ v 9 5 < 512 ∧ v 9 6 < 2)
theorem oc_mir : ∀ c, c < 512 → ∀ a, a < 3 → c ^^^ 7 * 2 ^ (3 * a) < 512 := by decide +kernel
theorem oc_andn {a b : Nat} (ha : a < 2) (hb : b < 2) : nI a &&& (nI b ^^^ -1) = nI (a &&& (1 - b)) := by
  rcases (by omega : a = 0 ∨ a = 1) with rfl | rfl <;> rcases (by omega : b = 0 ∨ b = 1) with rfl | rfl <;> decide +kernel
theorem oc_shb2 {a : Nat} (ha : a < 3) : 7 * 2 ^ (3 * a) < 4294967296 := by
  rcases (by omega : a = 0 ∨ a = 1 ∨ a = 2) with rfl | rfl | rfl <;> decide
theorem mX_cellOf (l : Launch) (D : va_G) (dS dZ : ClassId) (ad : Nat → Nat) (v : Nat → Nat → Nat) (c : Nat) (hc : c < 512) (hq : oc_q v) : oc_Mi l D (oc_tx dS dZ) 3 yX0_cellOf cX0_cellOf 4 (some .int) [.ref (ad 0), .int (nI c)] (oc_xW ad dS dZ) (oc_xW ad dS dZ v) (fun r u => r = nI (oc_cof v c) ∧ v = u) := by
  obtain ⟨hw, h2, h1, hx, hy, h6, h4⟩ := hq
  refine oc_Mi.ofI (own := RX0) (by decide) rfl (Nat.le_of_ble_eq_true rfl) (by simp [Value.category]) [some (.ref (ad 0)), some (.int (nI c)), none, none] rfl ?_
  intro p e s m args below meth cd A Q X hret
  refine gg_ald_n X (pc := 0) dX0_cellOf_0 rfl ?_
  refine gx_g_task X (pc := 1) dX0_cellOf_1 ?_
  refine gg_bp X (pc := 4) dX0_cellOf_4 oc_bp6 ?_
  refine gg_ic_neN X (pc := 6) (tgt := 32) dX0_cellOf_6 (by decide) (by omega) (by omega) (fun k => ?_) (fun k => ?_)
  · refine gg_ald_n X (pc := 32) dX0_cellOf_32 rfl ?_
    refine gg_ald_n X (pc := 33) dX0_cellOf_33 rfl ?_
    refine gx_g_left X (pc := 34) dX0_cellOf_34 ?_
    refine gg_ild_n X (pc := 37) dX0_cellOf_37 rfl ?_
    refine gg_ic X (pc := 38) dX0_cellOf_38 oc_ic0 ?_
    refine gx_calli X (pc := 39) (mX_cubeAt l D dS dZ ad v (v 9 2) c 0 hw h2 hc (by omega)) cn_X0_90 ⟨by decide, by decide⟩ ⟨Nat.le_refl _, Nat.le_refl _⟩ rfl rfl (Nat.le_of_ble_eq_true rfl) dX0_cellOf_39 (fun r1 u1 q1 => ?_)
    obtain ⟨rfl, rfl⟩ := q1
    have hx0 := hx c hc
    rw [show oc_cub (v 0) (v 9 2) c (3 - 0) = oc_cub (v 0) (v 9 2) c 3 from rfl]
    refine gg_ist_n X (pc := 42) dX0_cellOf_42 (by decide) ?_
    refine gg_ald_n X (pc := 43) dX0_cellOf_43 rfl ?_
    refine gx_g_task X (pc := 44) dX0_cellOf_44 ?_
    refine gg_ic X (pc := 47) dX0_cellOf_47 oc_ic4 ?_
    refine gg_ic_neN X (pc := 48) (tgt := 68) dX0_cellOf_48 (by decide) (by omega) (by omega) (fun k2 => ?_) (fun k2 => ?_)
    · refine gg_ald_n X (pc := 68) dX0_cellOf_68 rfl ?_
      refine gx_g_task X (pc := 69) dX0_cellOf_69 ?_
      refine gg_ic X (pc := 72) dX0_cellOf_72 oc_ic5 ?_
      refine gg_ic_neN X (pc := 73) (tgt := 80) dX0_cellOf_73 (by decide) (by omega) (by omega) (fun k3 => ?_) (fun k3 => ?_)
      · obtain ⟨h3, hy⟩ := hy (by omega)
        refine gg_ald_n X (pc := 80) dX0_cellOf_80 rfl ?_
        refine gg_ald_n X (pc := 81) dX0_cellOf_81 rfl ?_
        refine gx_g_right X (pc := 82) dX0_cellOf_82 ?_
        refine gg_ild_n X (pc := 85) dX0_cellOf_85 rfl ?_
        refine gg_ic X (pc := 86) dX0_cellOf_86 oc_ic0 ?_
        refine gx_calli X (pc := 87) (mX_cubeAt l D dS dZ ad v (v 9 3) c 0 hw h3 hc (by omega)) cn_X0_90 ⟨by decide, by decide⟩ ⟨Nat.le_refl _, Nat.le_refl _⟩ rfl rfl (Nat.le_of_ble_eq_true rfl) dX0_cellOf_87 (fun r1 u1 q1 => ?_)
        obtain ⟨rfl, rfl⟩ := q1
        have hy0 := hy c hc
        rw [show oc_cub (v 0) (v 9 3) c (3 - 0) = oc_cub (v 0) (v 9 3) c 3 from rfl]
        refine gg_ist_n X (pc := 90) dX0_cellOf_90 (by decide) ?_
        refine gg_ald_n X (pc := 91) dX0_cellOf_91 rfl ?_
        refine gx_g_task X (pc := 92) dX0_cellOf_92 ?_
        refine gg_if_neN X (pc := 95) (tgt := 102) dX0_cellOf_95 (by decide) (by omega) (fun k4 => ?_) (fun k4 => ?_)
        · refine gg_ald_n X (pc := 102) dX0_cellOf_102 rfl ?_
          refine gx_g_task X (pc := 103) dX0_cellOf_103 ?_
          refine gg_ic X (pc := 106) dX0_cellOf_106 oc_ic1 ?_
          refine gg_ic_neN X (pc := 107) (tgt := 114) dX0_cellOf_107 (by decide) (by omega) (by omega) (fun k5 => ?_) (fun k5 => ?_)
          · refine gg_ald_n X (pc := 114) dX0_cellOf_114 rfl ?_
            refine gx_g_task X (pc := 115) dX0_cellOf_115 ?_
            refine gg_ic X (pc := 118) dX0_cellOf_118 oc_ic2 ?_
            refine gg_ic_neN X (pc := 119) (tgt := 130) dX0_cellOf_119 (by decide) (by omega) (by omega) (fun k6 => ?_) (fun k6 => ?_)
            · refine gg_ild_n X (pc := 130) dX0_cellOf_130 rfl ?_
              refine gg_ild_n X (pc := 131) dX0_cellOf_131 rfl ?_
              refine gg_ixorN X (pc := 132) dX0_cellOf_132 ?_
              exact hret _ _ 133 _ dX0_cellOf_133 (⟨by simp only [oc_cof, oc_op, if_neg k, if_neg k2, if_neg k3, if_neg k4, if_neg k5, if_neg k6], rfl⟩)
            · refine gg_ild_n X (pc := 122) dX0_cellOf_122 rfl ?_
              refine gg_ild_n X (pc := 123) dX0_cellOf_123 rfl ?_
              refine gg_ic X (pc := 124) dX0_cellOf_124 oc_icm ?_
              refine gg_ixor X (pc := 125) dX0_cellOf_125 ?_
              refine gg_iand X (pc := 126) dX0_cellOf_126 ?_
              refine gg_top (oc_andn hx0 hy0) ?_
              refine gg_goto X (pc := 127) (tgt := 133) dX0_cellOf_127 (by decide) ?_
              exact hret _ _ 133 _ dX0_cellOf_133 (⟨by simp only [oc_cof, oc_op, if_neg k, if_neg k2, if_neg k3, if_neg k4, if_neg k5, if_pos k6], rfl⟩)
          · refine gg_ild_n X (pc := 110) dX0_cellOf_110 rfl ?_
            refine gg_ild_n X (pc := 111) dX0_cellOf_111 rfl ?_
            refine gg_iandN X (pc := 112) dX0_cellOf_112 ?_
            exact hret _ _ 113 _ dX0_cellOf_113 (⟨by simp only [oc_cof, oc_op, if_neg k, if_neg k2, if_neg k3, if_neg k4, if_pos k5], rfl⟩)
        · refine gg_ild_n X (pc := 98) dX0_cellOf_98 rfl ?_
          refine gg_ild_n X (pc := 99) dX0_cellOf_99 rfl ?_
          refine gg_iorN X (pc := 100) dX0_cellOf_100 ?_
          exact hret _ _ 101 _ dX0_cellOf_101 (⟨by simp only [oc_cof, oc_op, if_neg k, if_neg k2, if_neg k3, if_pos k4], rfl⟩)
      · refine gg_ic X (pc := 76) dX0_cellOf_76 oc_ic1 ?_
        refine gg_ild_n X (pc := 77) dX0_cellOf_77 rfl ?_
        refine gg_isubN X (pc := 78) dX0_cellOf_78 (by omega) ?_
        exact hret _ _ 79 _ dX0_cellOf_79 (⟨by simp only [oc_cof, if_neg k, if_neg k2, if_pos k3], rfl⟩)
    · obtain ⟨c4, c5, c6⟩ := h4 k2
      refine gg_ald_n X (pc := 51) dX0_cellOf_51 rfl ?_
      refine gg_ild_n X (pc := 52) dX0_cellOf_52 rfl ?_
      refine gx_calli X (pc := 53) (mX_inBox l D dS dZ ad v c hc c4 c5) cn_X0_93 ⟨by decide, by decide⟩ ⟨Nat.le_refl _, Nat.le_refl _⟩ rfl rfl (Nat.le_of_ble_eq_true rfl) dX0_cellOf_53 (fun r1 u1 q1 => ?_)
      obtain ⟨rfl, rfl⟩ := q1
      cases hb : oc_box (v 9 4) (v 9 5) c with
      | true =>
        refine gg_top (show nI (true.toNat) = nI 1 from rfl) ?_
        refine gg_if_eqN X (pc := 56) (tgt := 66) dX0_cellOf_56 (by decide) (by omega) (fun k3 => ?_) (fun k3 => ?_)
        · exact absurd k3 (by omega)
        · refine gg_ald_n X (pc := 59) dX0_cellOf_59 rfl ?_
          refine gx_g_put X (pc := 60) dX0_cellOf_60 ?_
          refine gg_goto X (pc := 63) (tgt := 67) dX0_cellOf_63 (by decide) ?_
          exact hret _ _ 67 _ dX0_cellOf_67 (⟨by simp only [oc_cof, if_neg k, if_pos k2, hb, if_true], rfl⟩)
      | false =>
        refine gg_top (show nI (false.toNat) = nI 0 from rfl) ?_
        refine gg_if_eqN X (pc := 56) (tgt := 66) dX0_cellOf_56 (by decide) (by omega) (fun k3 => ?_) (fun k3 => ?_)
        · refine gg_ild_n X (pc := 66) dX0_cellOf_66 rfl ?_
          exact hret _ _ 67 _ dX0_cellOf_67 (⟨by simp [oc_cof, k2, hb], rfl⟩)
        · exact absurd rfl k3
  · have h6 := h6 k
    have hm := oc_mir c hc (v 9 6) h6
    refine gg_ild_n X (pc := 9) dX0_cellOf_9 rfl ?_
    refine gg_bp X (pc := 10) dX0_cellOf_10 oc_bp7 ?_
    refine gg_ic X (pc := 12) dX0_cellOf_12 oc_ic3 ?_
    refine gg_ald_n X (pc := 13) dX0_cellOf_13 rfl ?_
    refine gx_g_put X (pc := 14) dX0_cellOf_14 ?_
    refine gg_imulN X (pc := 17) dX0_cellOf_17 ?_
    refine gg_ishlN X (pc := 18) dX0_cellOf_18 (by omega) (oc_shb2 h6) ?_
    refine gg_ixorN X (pc := 19) dX0_cellOf_19 ?_
    refine gg_ist_n X (pc := 20) dX0_cellOf_20 (by decide) ?_
    refine gg_ald_n X (pc := 21) dX0_cellOf_21 rfl ?_
    refine gg_ald_n X (pc := 22) dX0_cellOf_22 rfl ?_
    refine gx_g_left X (pc := 23) dX0_cellOf_23 ?_
    refine gg_ild_n X (pc := 26) dX0_cellOf_26 rfl ?_
    refine gg_ic X (pc := 27) dX0_cellOf_27 oc_ic0 ?_
    refine gx_calli X (pc := 28) (mX_cubeAt l D dS dZ ad v (v 9 2) _ 0 hw h2 hm (by omega)) cn_X0_90 ⟨by decide, by decide⟩ ⟨Nat.le_refl _, Nat.le_refl _⟩ rfl rfl (Nat.le_of_ble_eq_true rfl) dX0_cellOf_28 (fun r1 u1 q1 => ?_)
    obtain ⟨rfl, rfl⟩ := q1
    exact hret _ _ 31 _ dX0_cellOf_31 (⟨by simp only [oc_cof, if_pos k], rfl⟩)
def oc_ord (P : Nat → Nat) (n c : Nat) : Nat := if oc_cub P n c 0 < 2 then 3 else if oc_cub P n c 1 < 2 then 2 else if oc_cub P n c 2 < 2 then 1 else 0
theorem oc_ord_of {P : Nat → Nat} {n c o : Nat} (ho : o ≤ 3) (h : ∀ k, o < k → k ≤ 3 → 2 ≤ oc_cub P n c (3 - k)) (h2 : o = 0 ∨ oc_cub P n c (3 - o) < 2) : o = oc_ord P n c := by
  unfold oc_ord
  have a3 := h 3
  have a2 := h 2
  have a1 := h 1
  rcases (by omega : o = 0 ∨ o = 1 ∨ o = 2 ∨ o = 3) with rfl | rfl | rfl | rfl
  · have a3 : 2 ≤ oc_cub P n c 0 := a3 (by omega) (by omega)
    have a2 : 2 ≤ oc_cub P n c 1 := a2 (by omega) (by omega)
    have a1 : 2 ≤ oc_cub P n c 2 := a1 (by omega) (by omega)
    rw [if_neg (by omega), if_neg (by omega), if_neg (by omega)]
  · have a3 : 2 ≤ oc_cub P n c 0 := a3 (by omega) (by omega)
    have a2 : 2 ≤ oc_cub P n c 1 := a2 (by omega) (by omega)
    have a1 : oc_cub P n c 2 < 2 := by rcases h2 with h2 | h2; exact absurd h2 (by omega); exact h2
    rw [if_neg (by omega), if_neg (by omega), if_pos a1]
  · have a3 : 2 ≤ oc_cub P n c 0 := a3 (by omega) (by omega)
    have a2 : oc_cub P n c 1 < 2 := by rcases h2 with h2 | h2; exact absurd h2 (by omega); exact h2
    rw [if_neg (by omega), if_pos a2]
  · have a3 : oc_cub P n c 0 < 2 := by rcases h2 with h2 | h2; exact absurd h2 (by omega); exact h2
    rw [if_pos a3]
theorem mX_orderOf (l : Launch) (D : va_G) (dS dZ : ClassId) (ad : Nat → Nat) (v : Nat → Nat → Nat) (n c : Nat) (hw : oc_wf v) (hn : n < 512) (hc : c < 512) : oc_Mi l D (oc_tx dS dZ) 3 yX0_orderOf cX0_orderOf 4 (some .int) [.ref (ad 0), .int (nI n), .int (nI c)] (oc_xW ad dS dZ) (oc_xW ad dS dZ v) (fun r u => r = nI (oc_ord (v 0) n c) ∧ v = u) := by
  refine oc_Mi.ofI (own := RX0) (by decide) rfl (Nat.le_of_ble_eq_true rfl) (by simp [Value.category]) [some (.ref (ad 0)), some (.int (nI n)), some (.int (nI c)), none] rfl ?_
  intro p e s m args below meth cd A Q X hret
  have loop : ∀ (o : Nat), o ≤ 3 → (∀ k, o < k → k ≤ 3 → 2 ≤ oc_cub (v 0) n c (3 - k)) → gg p l e (oc_rm 3) s m args below meth cd Q 0 0 D A 4 (oc_xW ad dS dZ v) 2 [some (.ref (ad 0)), some (.int (nI n)), some (.int (nI c)), some (.int (nI o))] [] := by
    intro o
    induction o with
    | zero =>
      intro ho hi
      refine gg_ild_n X (pc := 2) dX0_orderOf_2 rfl ?_
      refine gg_if_leN X (pc := 3) (tgt := 23) dX0_orderOf_3 (by decide) (by omega) (fun k => ?_) (fun k => ?_)
      · refine gg_ild_n X (pc := 23) dX0_orderOf_23 rfl ?_
        exact hret _ _ 24 _ dX0_orderOf_24 (⟨by rw [← oc_ord_of ho hi (Or.inl rfl)], rfl⟩)
      · exact absurd k (by omega)
    | succ o ih =>
      intro ho hi
      refine gg_ild_n X (pc := 2) dX0_orderOf_2 rfl ?_
      refine gg_if_leN X (pc := 3) (tgt := 23) dX0_orderOf_3 (by decide) (by omega) (fun k => ?_) (fun k => ?_)
      · exact absurd k (by omega)
      · refine gg_ald_n X (pc := 6) dX0_orderOf_6 rfl ?_
        refine gg_ild_n X (pc := 7) dX0_orderOf_7 rfl ?_
        refine gg_ild_n X (pc := 8) dX0_orderOf_8 rfl ?_
        refine gg_ild_n X (pc := 9) dX0_orderOf_9 rfl ?_
        refine gx_calli X (pc := 10) (mX_cubeAt l D dS dZ ad v n c (o + 1) hw hn hc ho) cn_X0_90 ⟨by decide, by decide⟩ ⟨Nat.le_refl _, Nat.le_refl _⟩ rfl rfl (Nat.le_of_ble_eq_true rfl) dX0_orderOf_10 (fun r1 u1 q1 => ?_)
        obtain ⟨rfl, rfl⟩ := q1
        have hlt := oc_cub_lt hw hn c (3 - (o + 1))
        refine gg_ic X (pc := 13) dX0_orderOf_13 oc_ic2 ?_
        refine gg_ic_ltN X (pc := 14) (tgt := 23) dX0_orderOf_14 (by decide) (by omega) (by omega) (fun k2 => ?_) (fun k2 => ?_)
        · refine gg_ild_n X (pc := 23) dX0_orderOf_23 rfl ?_
          exact hret _ _ 24 _ dX0_orderOf_24 (⟨by rw [← oc_ord_of ho hi (Or.inr k2)], rfl⟩)
        · refine gg_iinc X (pc := 17) dX0_orderOf_17 rfl (oc_dec _) (by decide) ?_
          refine gg_goto X (pc := 20) (tgt := 2) dX0_orderOf_20 (by decide) ?_
          exact ih (by omega) (fun k a b => by
            rcases Nat.lt_or_ge (o + 1) k with q | q
            · exact hi k q b
            · rw [show k = o + 1 by omega]; exact k2)
  refine gg_ic X (pc := 0) dX0_orderOf_0 oc_ic3 ?_
  refine gg_ist_n X (pc := 1) dX0_orderOf_1 (by decide) ?_
  exact loop 3 (by omega) (fun k a b => absurd a (by omega))
end
section
/-! nodes: clearChains, markOf, hasEight, create -/
set_option maxRecDepth 100000
theorem mX_clearChains (l : Launch) (D : va_G) (dS dZ : ClassId) (ad : Nat → Nat) (v : Nat → Nat → Nat) : oc_Mv l D (oc_tx dS dZ) 0 yX0_clearChains cX0_clearChains 2 [.ref (ad 0)] (oc_xW ad dS dZ) (oc_xW ad dS dZ v) (fun u => ∀ a j, u a j = if a = 2 ∧ j < 256 then 0 else v a j) := by
  refine oc_Mv.of (own := RX0) (by decide) rfl (Nat.le_of_ble_eq_true rfl) (by simp [Value.category]) [some (.ref (ad 0)), none] rfl ?_
  intro p e s m args below meth cd A Q X hret
  have loop : ∀ (n i : Nat) (w : Nat → Nat → Nat), i + n = 256 → (∀ a j, w a j = if a = 2 ∧ j < i then 0 else v a j) → gg p l e (oc_rm 0) s m args below meth cd Q 0 0 D A 2 (oc_xW ad dS dZ w) 2 [some (.ref (ad 0)), some (.int (nI i))] [] := by
    intro n
    induction n with
    | zero =>
      intro i w hi hv
      obtain rfl : i = 256 := by omega
      refine gg_ild_n X (pc := 2) dX0_clearChains_2 rfl ?_
      refine gg_sp X (pc := 3) dX0_clearChains_3 oc_sp256 ?_
      refine gg_ic_geN X (pc := 6) (tgt := 22) dX0_clearChains_6 (by decide) (by omega) (by omega) (fun h => ?_) (fun h => ?_)
      · exact hret _ 22 _ dX0_clearChains_22 (hv)
      · exact absurd h (by omega)
    | succ n ih =>
      intro i w hi hv
      refine gg_ild_n X (pc := 2) dX0_clearChains_2 rfl ?_
      refine gg_sp X (pc := 3) dX0_clearChains_3 oc_sp256 ?_
      refine gg_ic_geN X (pc := 6) (tgt := 22) dX0_clearChains_6 (by decide) (by omega) (by omega) (fun h => ?_) (fun h => ?_)
      · exact absurd h (by omega)
      · refine gg_ald_n X (pc := 9) dX0_clearChains_9 rfl ?_
        refine gx_g_heads X (pc := 10) dX0_clearChains_10 ?_
        refine gg_ild_n X (pc := 13) dX0_clearChains_13 rfl ?_
        refine gg_ic X (pc := 14) dX0_clearChains_14 oc_icm ?_
        refine gg_top (oc_c0.symm) ?_
        refine gx_s_heads X (pc := 15) dX0_clearChains_15 (by omega) (by omega) ?_
        refine gg_iinc X (pc := 16) dX0_clearChains_16 rfl (oc_inc _) (by decide) ?_
        refine gg_goto X (pc := 19) (tgt := 2) dX0_clearChains_19 (by decide) ?_
        refine ih (i + 1) _ (by omega) (fun a j => ?_)
        unfold oc_up
        rw [hv a j]
        by_cases ha : a = 2
        · by_cases hj : j = i
          · rw [if_pos ⟨ha, hj⟩, if_pos ⟨ha, by omega⟩]
          · rw [if_neg (fun q => hj q.2)]
            by_cases hk : j < i
            · rw [if_pos ⟨ha, hk⟩, if_pos ⟨ha, by omega⟩]
            · rw [if_neg (fun q => hk q.2), if_neg (fun q => absurd q.2 (by omega))]
        · rw [if_neg (fun q => ha q.1), if_neg (fun q => ha q.1), if_neg (fun q => ha q.1)]
  refine gg_ic X (pc := 0) dX0_clearChains_0 oc_ic0 ?_
  refine gg_ist_n X (pc := 1) dX0_clearChains_1 (by decide) ?_
  exact loop 256 0 v (by omega) (fun a j => by rw [if_neg (fun q => absurd q.2 (by omega))])
/-- the mark of eight parts -/
def oc_mks (e : Nat → Nat) : Nat → Nat
  | 0 => 7
  | i + 1 => (oc_mks e i * 31 + e i) % 65536
def oc_mk (e : Nat → Nat) : Nat := (oc_mks e 8 ^^^ oc_mks e 8 / 2 ^ 8) % 2 ^ 8
theorem oc_mks_lt (e : Nat → Nat) (i : Nat) : oc_mks e i < 65536 := by
  cases i with
  | zero => exact (by decide : (7 : Nat) < 65536)
  | succ i => exact Nat.mod_lt _ (by decide)
theorem oc_mks_eq {e f : Nat → Nat} : ∀ (i : Nat), (∀ j, j < i → e j = f j) → oc_mks e i = oc_mks f i
  | 0, _ => rfl
  | i + 1, h => by
    unfold oc_mks
    rw [oc_mks_eq i (fun j hj => h j (by omega)), h i (by omega)]
theorem oc_mk_eq {e f : Nat → Nat} (h : ∀ j, j < 8 → e j = f j) : oc_mk e = oc_mk f := by
  unfold oc_mk
  rw [oc_mks_eq 8 h]
theorem oc_mk_lt (e : Nat → Nat) : oc_mk e < 256 := Nat.mod_lt _ (by decide)
theorem mX_markOf (l : Launch) (D : va_G) (dS dZ : ClassId) (ad : Nat → Nat) (v : Nat → Nat → Nat) (n : Nat) (hn : n < 512) : oc_Mi l D (oc_tx dS dZ) 1 yX0_markOf cX0_markOf 4 (some .int) [.ref (ad 0), .int (nI n)] (oc_xW ad dS dZ) (oc_xW ad dS dZ v) (fun r u => r = nI (oc_mk (fun i => v 0 (n * 8 + i))) ∧ v = u) := by
  refine oc_Mi.ofI (own := RX0) (by decide) rfl (Nat.le_of_ble_eq_true rfl) (by simp [Value.category]) [some (.ref (ad 0)), some (.int (nI n)), none, none] rfl ?_
  intro p e s m args below meth cd A Q X hret
  have loop : ∀ (k i : Nat), i + k = 8 → gg p l e (oc_rm 1) s m args below meth cd Q 0 0 D A 4 (oc_xW ad dS dZ v) 5 [some (.ref (ad 0)), some (.int (nI n)), some (.int (nI (oc_mks (fun i => v 0 (n * 8 + i)) i))), some (.int (nI i))] [] := by
    intro k
    induction k with
    | zero =>
      intro i hi
      obtain rfl : i = 8 := by omega
      have hlt := oc_mks_lt (fun i => v 0 (n * 8 + i)) 8
      refine gg_ild_n X (pc := 5) dX0_markOf_5 rfl ?_
      refine gg_bp X (pc := 6) dX0_markOf_6 oc_bp8 ?_
      refine gg_ic_geN X (pc := 8) (tgt := 33) dX0_markOf_8 (by decide) (by omega) (by omega) (fun h => ?_) (fun h => ?_)
      · refine gg_ild_n X (pc := 33) dX0_markOf_33 rfl ?_
        refine gg_ild_n X (pc := 34) dX0_markOf_34 rfl ?_
        refine gg_bp X (pc := 35) dX0_markOf_35 oc_bp8 ?_
        refine gg_ishrN X (pc := 37) dX0_markOf_37 (by omega) (by omega) ?_
        refine gg_ixorN X (pc := 38) dX0_markOf_38 ?_
        refine gg_sp X (pc := 39) dX0_markOf_39 oc_sp255 ?_
        refine gg_iandN X (pc := 42) dX0_markOf_42 ?_
        refine gg_top (oc_and_mod _ 8 rfl) ?_
        exact hret _ _ 43 _ dX0_markOf_43 (⟨rfl, rfl⟩)
      · exact absurd h (by omega)
    | succ k ih =>
      intro i hi
      refine gg_ild_n X (pc := 5) dX0_markOf_5 rfl ?_
      refine gg_bp X (pc := 6) dX0_markOf_6 oc_bp8 ?_
      refine gg_ic_geN X (pc := 8) (tgt := 33) dX0_markOf_8 (by decide) (by omega) (by omega) (fun h => ?_) (fun h => ?_)
      · exact absurd h (by omega)
      · refine gg_ild_n X (pc := 11) dX0_markOf_11 rfl ?_
        refine gg_ald_n X (pc := 12) dX0_markOf_12 rfl ?_
        refine gx_g_parts X (pc := 13) dX0_markOf_13 ?_
        refine gg_ild_n X (pc := 16) dX0_markOf_16 rfl ?_
        refine gg_bp X (pc := 17) dX0_markOf_17 oc_bp8 ?_
        refine gg_imulN X (pc := 19) dX0_markOf_19 ?_
        refine gg_ild_n X (pc := 20) dX0_markOf_20 rfl ?_
        refine gg_iaddN X (pc := 21) dX0_markOf_21 ?_
        refine gx_l_parts X (pc := 22) dX0_markOf_22 (by omega) ?_
        refine gg_calls X (pc := 23) (mX_mix l D _ _) cn_X0_46 ⟨by decide, by decide⟩ ⟨Nat.le_refl _, Nat.le_refl _⟩ rfl rfl (Nat.le_of_ble_eq_true rfl) dX0_markOf_23 (fun r1 q1 => ?_)
        obtain rfl := q1
        refine gg_ist_n X (pc := 26) dX0_markOf_26 (by decide) ?_
        refine gg_iinc X (pc := 27) dX0_markOf_27 rfl (oc_inc _) (by decide) ?_
        refine gg_goto X (pc := 30) (tgt := 5) dX0_markOf_30 (by decide) ?_
        exact ih (i + 1) (by omega)
  refine gg_bp X (pc := 0) dX0_markOf_0 oc_bp7 ?_
  refine gg_ist_n X (pc := 2) dX0_markOf_2 (by decide) ?_
  refine gg_ic X (pc := 3) dX0_markOf_3 oc_ic0 ?_
  refine gg_ist_n X (pc := 4) dX0_markOf_4 (by decide) ?_
  exact loop 8 0 (by omega)
theorem mX_hasEight (l : Launch) (D : va_G) (dS dZ : ClassId) (ad : Nat → Nat) (v : Nat → Nat → Nat) (n : Nat) (hn : n < 512) (hw : oc_wf v) (he : ∀ i, i < 8 → v 6 i < 512) : oc_Mi l D (oc_tx dS dZ) 0 yX0_hasEight cX0_hasEight 3 (some .boolean) [.ref (ad 0), .int (nI n)] (oc_xW ad dS dZ) (oc_xW ad dS dZ v) (fun r u => (((∀ i, i < 8 → v 0 (n * 8 + i) = v 6 i) ∧ r = nI 1) ∨ ((¬ ∀ i, i < 8 → v 0 (n * 8 + i) = v 6 i) ∧ r = nI 0)) ∧ v = u) := by
  refine oc_Mi.ofZ (own := RX0) (by decide) rfl (Nat.le_of_ble_eq_true rfl) (by simp [Value.category]) [some (.ref (ad 0)), some (.int (nI n)), none] rfl ?_
  intro p e s m args below meth cd A Q X hret
  have loop : ∀ (k i : Nat), i + k = 8 → (∀ j, j < i → v 0 (n * 8 + j) = v 6 j) → gg p l e (oc_rm 0) s m args below meth cd Q 0 0 D A 3 (oc_xW ad dS dZ v) 2 [some (.ref (ad 0)), some (.int (nI n)), some (.int (nI i))] [] := by
    intro k
    induction k with
    | zero =>
      intro i hi hj
      obtain rfl : i = 8 := by omega
      refine gg_ild_n X (pc := 2) dX0_hasEight_2 rfl ?_
      refine gg_bp X (pc := 3) dX0_hasEight_3 oc_bp8 ?_
      refine gg_ic_geN X (pc := 5) (tgt := 36) dX0_hasEight_5 (by decide) (by omega) (by omega) (fun h => ?_) (fun h => ?_)
      · refine gg_ic X (pc := 36) dX0_hasEight_36 oc_ic1 ?_
        exact hret _ _ 37 _ dX0_hasEight_37 (by omega) (⟨Or.inl ⟨hj, rfl⟩, rfl⟩)
      · exact absurd h (by omega)
    | succ k ih =>
      intro i hi hj
      refine gg_ild_n X (pc := 2) dX0_hasEight_2 rfl ?_
      refine gg_bp X (pc := 3) dX0_hasEight_3 oc_bp8 ?_
      refine gg_ic_geN X (pc := 5) (tgt := 36) dX0_hasEight_5 (by decide) (by omega) (by omega) (fun h => ?_) (fun h => ?_)
      · exact absurd h (by omega)
      · have a1 := hw (n * 8 + i) (by omega)
        have a2 := he i h
        refine gg_ald_n X (pc := 8) dX0_hasEight_8 rfl ?_
        refine gx_g_parts X (pc := 9) dX0_hasEight_9 ?_
        refine gg_ild_n X (pc := 12) dX0_hasEight_12 rfl ?_
        refine gg_bp X (pc := 13) dX0_hasEight_13 oc_bp8 ?_
        refine gg_imulN X (pc := 15) dX0_hasEight_15 ?_
        refine gg_ild_n X (pc := 16) dX0_hasEight_16 rfl ?_
        refine gg_iaddN X (pc := 17) dX0_hasEight_17 ?_
        refine gx_l_parts X (pc := 18) dX0_hasEight_18 (by omega) ?_
        refine gg_ald_n X (pc := 19) dX0_hasEight_19 rfl ?_
        refine gx_g_eight X (pc := 20) dX0_hasEight_20 ?_
        refine gg_ild_n X (pc := 23) dX0_hasEight_23 rfl ?_
        refine gx_l_eight X (pc := 24) dX0_hasEight_24 (by omega) ?_
        refine gg_ic_eqN X (pc := 25) (tgt := 30) dX0_hasEight_25 (by decide) (by omega) (by omega) (fun h2 => ?_) (fun h2 => ?_)
        · refine gg_iinc X (pc := 30) dX0_hasEight_30 rfl (oc_inc _) (by decide) ?_
          refine gg_goto X (pc := 33) (tgt := 2) dX0_hasEight_33 (by decide) ?_
          exact ih (i + 1) (by omega) (fun j q => by
            rcases Nat.lt_or_ge j i with z | z
            · exact hj j z
            · rw [show j = i by omega]; exact h2)
        · refine gg_ic X (pc := 28) dX0_hasEight_28 oc_ic0 ?_
          exact hret _ _ 29 _ dX0_hasEight_29 (by omega) (⟨Or.inr ⟨fun q => h2 (q i h), rfl⟩, rfl⟩)
  refine gg_ic X (pc := 0) dX0_hasEight_0 oc_ic0 ?_
  refine gg_ist_n X (pc := 1) dX0_hasEight_1 (by decide) ?_
  exact loop 8 0 (by omega) (fun j q => absurd q (by omega))
/-- what create makes of the state: node n gets the eight parts at hand, and heads its mark's chain -/
def oc_cre (v : Nat → Nat → Nat) (n k : Nat) : Nat → Nat → Nat := fun a j =>
  if a = 0 ∧ n * 8 ≤ j ∧ j < n * 8 + 8 then v 6 (j - n * 8) else if a = 1 ∧ j = n then 1 else if a = 2 ∧ j = k then n + 1 else if a = 3 ∧ j = n then v 2 k else if a = 9 ∧ j = 0 then n else v a j
theorem mX_create (l : Launch) (D : va_G) (dS dZ : ClassId) (ad : Nat → Nat) (v : Nat → Nat → Nat) (k : Nat) (hk : k < 256) (hf : v 9 0 ≤ 511) (hu : ∀ j, j < 512 → v 1 j < 2) (he : ∀ i, i < 8 → v 6 i < 512) (hh : v 2 k < 1000) : oc_Mi l D (oc_tx dS dZ) 0 yX0_create cX0_create 4 (some .int) [.ref (ad 0), .int (nI k)] (oc_xW ad dS dZ) (oc_xW ad dS dZ v) (fun r u => ∃ n, r = nI n ∧ v 9 0 ≤ n ∧ n ≤ 511 ∧ (∀ g, v 9 0 ≤ g → g < n → v 1 g = 1) ∧ (n = 511 ∨ v 1 n = 0) ∧ ∀ a j, u a j = oc_cre v n k a j) := by
  refine oc_Mi.ofI (own := RX0) (by decide) rfl (Nat.le_of_ble_eq_true rfl) (by simp [Value.category]) [some (.ref (ad 0)), some (.int (nI k)), none, none] rfl ?_
  intro p e s m args below meth cd A Q X hret
  have fill : ∀ (n t i : Nat) (w : Nat → Nat → Nat), n ≤ 511 → i + t = 8 → (∀ a j, w a j = if a = 0 ∧ n * 8 ≤ j ∧ j < n * 8 + i then v 6 (j - n * 8) else if a = 1 ∧ j = n then 1 else if a = 9 ∧ j = 0 then n else v a j) → v 9 0 ≤ n → (∀ g, v 9 0 ≤ g → g < n → v 1 g = 1) → (n = 511 ∨ v 1 n = 0) → gg p l e (oc_rm 0) s m args below meth cd Q 0 0 D A 4 (oc_xW ad dS dZ w) 49 [some (.ref (ad 0)), some (.int (nI k)), some (.int (nI n)), some (.int (nI i))] [] := by
    intro n t
    induction t with
    | zero =>
      intro i w hn hi hv h1 h2 h3
      obtain rfl : i = 8 := by omega
      have e2 : w 2 k = v 2 k := by rw [hv 2 k]; simp
      refine gg_ild_n X (pc := 49) dX0_create_49 rfl ?_
      refine gg_bp X (pc := 50) dX0_create_50 oc_bp8 ?_
      refine gg_ic_geN X (pc := 52) (tgt := 78) dX0_create_52 (by decide) (by omega) (by omega) (fun h => ?_) (fun h => ?_)
      · refine gg_ald_n X (pc := 78) dX0_create_78 rfl ?_
        refine gx_g_chain X (pc := 79) dX0_create_79 ?_
        refine gg_ild_n X (pc := 82) dX0_create_82 rfl ?_
        refine gg_ald_n X (pc := 83) dX0_create_83 rfl ?_
        refine gx_g_heads X (pc := 84) dX0_create_84 ?_
        refine gg_ild_n X (pc := 87) dX0_create_87 rfl ?_
        refine gx_l_heads X (pc := 88) dX0_create_88 (by omega) ?_
        refine gx_s_chain X (pc := 89) dX0_create_89 (by omega) (by omega) ?_
        refine gg_ald_n X (pc := 90) dX0_create_90 rfl ?_
        refine gx_g_heads X (pc := 91) dX0_create_91 ?_
        refine gg_ild_n X (pc := 94) dX0_create_94 rfl ?_
        refine gg_ild_n X (pc := 95) dX0_create_95 rfl ?_
        refine gg_i2s X (pc := 96) dX0_create_96 (oc_i2s (by omega)) ?_
        refine gg_top ((oc_cS n).symm) ?_
        refine gx_s_heads X (pc := 97) dX0_create_97 (by omega) (by omega) ?_
        refine gg_ild_n X (pc := 98) dX0_create_98 rfl ?_
        refine hret _ _ 99 _ dX0_create_99 ⟨n, rfl, h1, hn, h2, h3, fun a j => ?_⟩
        simp only [oc_up, oc_cre, hv, e2]
        by_cases ha : a = 2
        · subst ha
          by_cases hj : j = k
          · simp [hj]
          · simp [hj]
        · by_cases ha3 : a = 3
          · subst ha3
            by_cases hj : j = n
            · simp [hj]
            · simp [hj]
          · simp [ha, ha3]
      · exact absurd h (by omega)
    | succ t ih =>
      intro i w hn hi hv h1 h2 h3
      have e6 : w 6 i = v 6 i := by rw [hv 6 i]; simp
      have hb := he i (by omega)
      refine gg_ild_n X (pc := 49) dX0_create_49 rfl ?_
      refine gg_bp X (pc := 50) dX0_create_50 oc_bp8 ?_
      refine gg_ic_geN X (pc := 52) (tgt := 78) dX0_create_52 (by decide) (by omega) (by omega) (fun h => ?_) (fun h => ?_)
      · exact absurd h (by omega)
      · refine gg_ald_n X (pc := 55) dX0_create_55 rfl ?_
        refine gx_g_parts X (pc := 56) dX0_create_56 ?_
        refine gg_ild_n X (pc := 59) dX0_create_59 rfl ?_
        refine gg_bp X (pc := 60) dX0_create_60 oc_bp8 ?_
        refine gg_imulN X (pc := 62) dX0_create_62 ?_
        refine gg_ild_n X (pc := 63) dX0_create_63 rfl ?_
        refine gg_iaddN X (pc := 64) dX0_create_64 ?_
        refine gg_ald_n X (pc := 65) dX0_create_65 rfl ?_
        refine gx_g_eight X (pc := 66) dX0_create_66 ?_
        refine gg_ild_n X (pc := 69) dX0_create_69 rfl ?_
        refine gx_l_eight X (pc := 70) dX0_create_70 (by omega) ?_
        refine gx_s_parts X (pc := 71) dX0_create_71 (by omega) (by omega) ?_
        refine gg_iinc X (pc := 72) dX0_create_72 rfl (oc_inc _) (by decide) ?_
        refine gg_goto X (pc := 75) (tgt := 49) dX0_create_75 (by decide) ?_
        refine ih (i + 1) _ hn (by omega) (fun a j => ?_) h1 h2 h3
        simp only [oc_up]
        rw [hv a j, e6]
        by_cases hj : j = n * 8 + i
        · subst hj
          rw [show n * 8 + i - n * 8 = i by omega]
          repeat' split
          all_goals first | rfl | omega
        · repeat' split
          all_goals first | rfl | omega
  have seek : ∀ (t n : Nat) (w : Nat → Nat → Nat), n + t = 511 → (∀ a j, w a j = if a = 9 ∧ j = 0 then n else v a j) → v 9 0 ≤ n → (∀ g, v 9 0 ≤ g → g < n → v 1 g = 1) → gg p l e (oc_rm 0) s m args below meth cd Q 0 0 D A 4 (oc_xW ad dS dZ w) 0 [some (.ref (ad 0)), some (.int (nI k)), none, none] [] := by
    have out : ∀ (n : Nat) (w : Nat → Nat → Nat), n ≤ 511 → (∀ a j, w a j = if a = 9 ∧ j = 0 then n else v a j) → v 9 0 ≤ n → (∀ g, v 9 0 ≤ g → g < n → v 1 g = 1) → (n = 511 ∨ v 1 n = 0) → gg p l e (oc_rm 0) s m args below meth cd Q 0 0 D A 4 (oc_xW ad dS dZ w) 35 [some (.ref (ad 0)), some (.int (nI k)), none, none] [] := by
      intro n w hn hv h1 h2 h3
      have e9 : w 9 0 = n := by rw [hv 9 0, if_pos ⟨rfl, rfl⟩]
      refine gg_ald_n X (pc := 35) dX0_create_35 rfl ?_
      refine gx_g_free X (pc := 36) dX0_create_36 ?_
      rw [e9]
      refine gg_ist_n X (pc := 39) dX0_create_39 (by decide) ?_
      refine gg_ald_n X (pc := 40) dX0_create_40 rfl ?_
      refine gx_g_used X (pc := 41) dX0_create_41 ?_
      refine gg_ild_n X (pc := 44) dX0_create_44 rfl ?_
      refine gg_ic X (pc := 45) dX0_create_45 oc_ic1 ?_
      refine gx_s_used X (pc := 46) dX0_create_46 (by omega) (by omega) ?_
      refine gg_ic X (pc := 47) dX0_create_47 oc_ic0 ?_
      refine gg_ist_n X (pc := 48) dX0_create_48 (by decide) ?_
      refine fill n 8 0 _ hn (by omega) (fun a j => ?_) h1 h2 h3
      simp only [oc_up]
      rw [hv a j]
      repeat' split
      all_goals first | rfl | omega
    intro t
    induction t with
    | zero =>
      intro n w hn hv h1 h2
      have e9 : w 9 0 = n := by rw [hv 9 0, if_pos ⟨rfl, rfl⟩]
      refine gg_ald_n X (pc := 0) dX0_create_0 rfl ?_
      refine gx_g_free X (pc := 1) dX0_create_1 ?_
      refine gg_sp X (pc := 4) dX0_create_4 oc_sp511 ?_
      refine gg_ic_geN X (pc := 7) (tgt := 35) dX0_create_7 (by decide) (by omega) (by omega) (fun h => ?_) (fun h => ?_)
      · exact out n w (by omega) hv h1 h2 (Or.inl (by omega))
      · exact absurd h (by omega)
    | succ t ih =>
      intro n w hn hv h1 h2
      have e9 : w 9 0 = n := by rw [hv 9 0, if_pos ⟨rfl, rfl⟩]
      have e1 : w 1 n = v 1 n := by rw [hv 1 n, if_neg (by omega)]
      have hb := hu n (by omega)
      refine gg_ald_n X (pc := 0) dX0_create_0 rfl ?_
      refine gx_g_free X (pc := 1) dX0_create_1 ?_
      refine gg_sp X (pc := 4) dX0_create_4 oc_sp511 ?_
      refine gg_ic_geN X (pc := 7) (tgt := 35) dX0_create_7 (by decide) (by omega) (by omega) (fun h => ?_) (fun h => ?_)
      · exact absurd h (by omega)
      · refine gg_ald_n X (pc := 10) dX0_create_10 rfl ?_
        refine gx_g_used X (pc := 11) dX0_create_11 ?_
        refine gg_ald_n X (pc := 14) dX0_create_14 rfl ?_
        refine gx_g_free X (pc := 15) dX0_create_15 ?_
        rw [e9]
        refine gx_l_used X (pc := 18) dX0_create_18 (by omega) ?_
        refine gg_if_eqN X (pc := 19) (tgt := 35) dX0_create_19 (by decide) (by omega) (fun h3 => ?_) (fun h3 => ?_)
        · exact out n w (by omega) hv h1 h2 (Or.inr (by omega))
        · refine gg_ald_n X (pc := 22) dX0_create_22 rfl ?_
          refine gg_dup X (pc := 23) dX0_create_23 rfl ?_
          refine gx_g_free X (pc := 24) dX0_create_24 ?_
          refine gg_ic X (pc := 27) dX0_create_27 oc_ic1 ?_
          refine gg_iaddN X (pc := 28) dX0_create_28 ?_
          refine gx_p_free X (pc := 29) dX0_create_29 ?_
          refine gg_goto X (pc := 32) (tgt := 0) dX0_create_32 (by decide) ?_
          refine ih (n + 1) _ (by omega) (fun a j => ?_) (by omega) (fun g q1 q2 => ?_)
          · simp only [oc_up]
            rw [hv a j, e9]
            by_cases h9 : a = 9 ∧ j = 0
            · rw [if_pos h9, if_pos h9]
            · rw [if_neg h9, if_neg h9, if_neg h9]
          · rcases Nat.lt_or_ge g n with z | z
            · exact h2 g q1 z
            · rw [show g = n by omega]
              omega
  refine seek (511 - v 9 0) (v 9 0) v (by omega) (fun a j => ?_) (Nat.le_refl _) (fun g q1 q2 => absurd q1 (by omega))
  by_cases h9 : a = 9 ∧ j = 0
  · rw [if_pos h9, h9.1, h9.2]
  · rw [if_neg h9]
end
section
/-! make -/
set_option maxRecDepth 100000
/-- a chain of nodes: h is its first place plus one, 0 its end -/
def oc_lnk (ch : Nat → Nat) : List Nat → Nat → Prop
  | [], h => h = 0
  | n :: t, h => h = n + 1 ∧ oc_lnk ch t (ch n)
def oc_ev (e : Nat → Nat) (i : Nat) : Prop := e 0 ≤ 1 ∧ ∀ j, j < i → e j = e 0
def oc_crp (v : Nat → Nat → Nat) (k : Nat) (r : Int32) (u : Nat → Nat → Nat) : Prop := ∃ n, r = nI n ∧ v 9 0 ≤ n ∧ n ≤ 511 ∧ (∀ g, v 9 0 ≤ g → g < n → v 1 g = 1) ∧ (n = 511 ∨ v 1 n = 0) ∧ ∀ a j, u a j = oc_cre v n k a j
theorem mX_make (l : Launch) (D : va_G) (dS dZ : ClassId) (ad : Nat → Nat) (v : Nat → Nat → Nat) (L : List Nat) (hw : oc_wf v) (he : ∀ i, i < 8 → v 6 i < 512) (hu : ∀ j, j < 512 → v 1 j < 2) (hf : v 9 0 ≤ 511) (hL : oc_lnk (v 3) L (v 2 (oc_mk (v 6)))) (hb : ∀ n ∈ L, n < 512) (hlen : L.length ≤ 512) :
    oc_Mi l D (oc_tx dS dZ) 2 yX0_make cX0_make 6 (some .int) [.ref (ad 0)] (oc_xW ad dS dZ) (oc_xW ad dS dZ v) (fun r u => (oc_ev (v 6) 8 ∧ r = nI (v 6 0) ∧ v = u) ∨ (¬ oc_ev (v 6) 8 ∧ ((∃ n, n ∈ L ∧ (∀ i, i < 8 → v 0 (n * 8 + i) = v 6 i) ∧ r = nI n ∧ v = u) ∨ ((∀ n, n ∈ L → ¬ ∀ i, i < 8 → v 0 (n * 8 + i) = v 6 i) ∧ oc_crp v (oc_mk (v 6)) r u)))) := by
  have hmk := oc_mk_lt (v 6)
  have hh : v 2 (oc_mk (v 6)) < 1000 := by
    cases L with
    | nil => rw [show v 2 (oc_mk (v 6)) = 0 from hL]; decide
    | cons n t =>
      have := hb n List.mem_cons_self
      rw [show v 2 (oc_mk (v 6)) = n + 1 from hL.1]
      omega
  refine oc_Mi.ofI (own := RX0) (by decide) rfl (Nat.le_of_ble_eq_true rfl) (by simp [Value.category]) [some (.ref (ad 0)), none, none, none, none, none] rfl ?_
  intro p e s m args below meth cd A Q X hret
  have chn : ∀ (T : List Nat) (h st : Nat) (p1 p2 : Option Value), oc_lnk (v 3) T h → st + T.length ≤ 512 → (∀ n ∈ T, n ∈ L) → (∀ n, n ∈ L → n ∉ T → ¬ ∀ i, i < 8 → v 0 (n * 8 + i) = v 6 i) → ¬ oc_ev (v 6) 8 → gg p l e (oc_rm 2) s m args below meth cd Q 0 0 D A 6 (oc_xW ad dS dZ v) 102 [some (.ref (ad 0)), p1, p2, some (.int (nI (oc_mk (v 6)))), some (.int (oc_c h)), some (.int (nI st))] [] := by
    have cr : ∀ (p1 p2 p4 p5 : Option Value), (∀ n, n ∈ L → ¬ ∀ i, i < 8 → v 0 (n * 8 + i) = v 6 i) → ¬ oc_ev (v 6) 8 → gg p l e (oc_rm 2) s m args below meth cd Q 0 0 D A 6 (oc_xW ad dS dZ v) 142 [some (.ref (ad 0)), p1, p2, some (.int (nI (oc_mk (v 6)))), p4, p5] [] := by
      intro p1 p2 p4 p5 hno hev
      refine gg_ald_n X (pc := 142) dX0_make_142 rfl ?_
      refine gg_ild_n X (pc := 143) dX0_make_143 rfl ?_
      refine gx_calli X (pc := 144) (mX_create l D dS dZ ad v (oc_mk (v 6)) hmk hf hu he hh) cn_X0_54 ⟨by decide, by decide⟩ ⟨Nat.le_refl _, Nat.le_refl _⟩ rfl rfl (Nat.le_of_ble_eq_true rfl) dX0_make_144 (fun r1 u1 q1 => ?_)
      exact hret _ _ 147 _ dX0_make_147 (Or.inr ⟨hev, Or.inr ⟨hno, q1⟩⟩)
    intro T
    induction T with
    | nil =>
      intro h st p1 p2 hl hs hin hno hev
      obtain rfl : h = 0 := hl
      rw [oc_c0]
      refine gg_ild X (pc := 102) dX0_make_102 rfl ?_
      refine gg_sp X (pc := 104) dX0_make_104 oc_sp512 ?_
      refine gg_ic_geN X (pc := 107) (tgt := 142) dX0_make_107 (by decide) (by simp at hs; omega) (by omega) (fun k => ?_) (fun k => ?_)
      · exact cr _ _ _ _ (fun n hn => hno n hn (by simp)) hev
      · refine gg_ild X (pc := 110) dX0_make_110 rfl ?_
        refine gg_if_lt X (pc := 112) (tgt := 142) dX0_make_112 (by decide) (fun k2 => ?_) (fun k2 => ?_)
        · exact cr _ _ _ _ (fun n hn => hno n hn (by simp)) hev
        · exact absurd (by decide : (-1 : Int32) < 0) k2
    | cons n t ih =>
      intro h st p1 p2 hl hs hin hno hev
      obtain ⟨rfl, hl⟩ := hl
      have hn := hb n (hin n List.mem_cons_self)
      have hs : st + (t.length + 1) ≤ 512 := by simpa using hs
      rw [oc_cS]
      refine gg_ild X (pc := 102) dX0_make_102 rfl ?_
      refine gg_sp X (pc := 104) dX0_make_104 oc_sp512 ?_
      refine gg_ic_geN X (pc := 107) (tgt := 142) dX0_make_107 (by decide) (by omega) (by omega) (fun k => ?_) (fun k => ?_)
      · exact absurd k (by omega)
      · refine gg_ild X (pc := 110) dX0_make_110 rfl ?_
        refine gg_if_ltN X (pc := 112) (tgt := 142) dX0_make_112 (by decide) (by omega) ?_
        refine gg_ald_n X (pc := 115) dX0_make_115 rfl ?_
        refine gg_ild X (pc := 116) dX0_make_116 rfl ?_
        refine gx_calli X (pc := 118) (mX_hasEight l D dS dZ ad v n hn hw he) cn_X0_50 ⟨by decide, by decide⟩ ⟨Nat.le_refl _, Nat.le_refl _⟩ rfl rfl (Nat.le_of_ble_eq_true rfl) dX0_make_118 (fun r1 u1 q1 => ?_)
        obtain ⟨q1, rfl⟩ := q1
        rcases q1 with ⟨q1, rfl⟩ | ⟨q1, rfl⟩
        · refine gg_if_eqN X (pc := 121) (tgt := 127) dX0_make_121 (by decide) (by omega) (fun k3 => ?_) (fun k3 => ?_)
          · exact absurd k3 (by omega)
          · refine gg_ild X (pc := 124) dX0_make_124 rfl ?_
            exact hret _ _ 126 _ dX0_make_126 (Or.inr ⟨hev, Or.inl ⟨n, hin n List.mem_cons_self, q1, rfl, rfl⟩⟩)
        · refine gg_if_eqN X (pc := 121) (tgt := 127) dX0_make_121 (by decide) (by omega) (fun k3 => ?_) (fun k3 => ?_)
          · refine gg_ald_n X (pc := 127) dX0_make_127 rfl ?_
            refine gx_g_chain X (pc := 128) dX0_make_128 ?_
            refine gg_ild X (pc := 131) dX0_make_131 rfl ?_
            refine gx_l_chain X (pc := 133) dX0_make_133 (by omega) ?_
            refine gg_ist X (pc := 134) dX0_make_134 (by decide) ?_
            refine gg_iinc X (pc := 136) dX0_make_136 rfl (oc_inc _) (by decide) ?_
            refine gg_goto X (pc := 139) (tgt := 102) dX0_make_139 (by decide) ?_
            refine ih _ (st + 1) _ _ hl (by omega) (fun x hx => hin x (List.mem_cons_of_mem _ hx)) (fun x hx hx2 => ?_) hev
            by_cases e : x = n
            · rw [e]; exact q1
            · exact hno x hx (fun z => by
                rcases List.mem_cons.mp z with z | z
                · exact e z
                · exact hx2 z)
          · exact absurd rfl k3
  have loop : ∀ (k i b : Nat) (p4 p5 : Option Value), i + k = 8 → (b = 1 ∧ oc_ev (v 6) i ∨ b = 0 ∧ ¬ oc_ev (v 6) i) → gg p l e (oc_rm 2) s m args below meth cd Q 0 0 D A 6 (oc_xW ad dS dZ v) 21 [some (.ref (ad 0)), some (.int (nI (oc_mks (v 6) i))), some (.int (nI b)), some (.int (nI i)), p4, p5] [] := by
    intro k
    induction k with
    | zero =>
      intro i b p4 p5 hi hv
      obtain rfl : i = 8 := by omega
      have hlt := oc_mks_lt (v 6) 8
      refine gg_ild_n X (pc := 21) dX0_make_21 rfl ?_
      refine gg_bp X (pc := 22) dX0_make_22 oc_bp8 ?_
      refine gg_ic_geN X (pc := 24) (tgt := 69) dX0_make_24 (by decide) (by omega) (by omega) (fun h => ?_) (fun h => ?_)
      · rcases hv with ⟨rfl, hv⟩ | ⟨rfl, hv⟩
        · refine gg_ild_n X (pc := 69) dX0_make_69 rfl ?_
          refine gg_if_eqN X (pc := 70) (tgt := 80) dX0_make_70 (by decide) (by omega) (fun k => ?_) (fun k => ?_)
          · exact absurd k (by omega)
          · refine gg_ald_n X (pc := 73) dX0_make_73 rfl ?_
            refine gx_g_eight X (pc := 74) dX0_make_74 ?_
            refine gg_ic X (pc := 77) dX0_make_77 oc_ic0 ?_
            refine gx_l_eight X (pc := 78) dX0_make_78 (by omega) ?_
            exact hret _ _ 79 _ dX0_make_79 (Or.inl ⟨hv, rfl, rfl⟩)
        · refine gg_ild_n X (pc := 69) dX0_make_69 rfl ?_
          refine gg_if_eqN X (pc := 70) (tgt := 80) dX0_make_70 (by decide) (by omega) (fun k => ?_) (fun k => ?_)
          · refine gg_ild_n X (pc := 80) dX0_make_80 rfl ?_
            refine gg_ild_n X (pc := 81) dX0_make_81 rfl ?_
            refine gg_bp X (pc := 82) dX0_make_82 oc_bp8 ?_
            refine gg_ishrN X (pc := 84) dX0_make_84 (by omega) (by omega) ?_
            refine gg_ixorN X (pc := 85) dX0_make_85 ?_
            refine gg_sp X (pc := 86) dX0_make_86 oc_sp255 ?_
            refine gg_iandN X (pc := 89) dX0_make_89 ?_
            refine gg_top (oc_and_mod _ 8 rfl) ?_
            refine gg_ist_n X (pc := 90) dX0_make_90 (by decide) ?_
            refine gg_ald_n X (pc := 91) dX0_make_91 rfl ?_
            refine gx_g_heads X (pc := 92) dX0_make_92 ?_
            refine gg_ild_n X (pc := 95) dX0_make_95 rfl ?_
            refine gx_l_heads X (pc := 96) dX0_make_96 hmk ?_
            refine gg_ist X (pc := 97) dX0_make_97 (by decide) ?_
            refine gg_ic X (pc := 99) dX0_make_99 oc_ic0 ?_
            refine gg_ist X (pc := 100) dX0_make_100 (by decide) ?_
            exact chn L _ 0 _ _ hL (by omega) (fun n hn => hn) (fun n hn hn2 => absurd hn hn2) hv
          · exact absurd rfl k
      · exact absurd h (by omega)
    | succ k ih =>
      intro i b p4 p5 hi hv
      have a0 := he 0 (by omega)
      have ai := he i (by omega)
      have nxt : ∀ (b : Nat), (b = 1 ∧ oc_ev (v 6) (i + 1) ∨ b = 0 ∧ ¬ oc_ev (v 6) (i + 1)) → gg p l e (oc_rm 2) s m args below meth cd Q 0 0 D A 6 (oc_xW ad dS dZ v) 62 [some (.ref (ad 0)), some (.int (nI (oc_mks (v 6) (i + 1)))), none, some (.int (nI i)), p4, p5] [.int (nI b)] := by
        intro b hv
        refine gg_ist_n X (pc := 62) dX0_make_62 (by decide) ?_
        refine gg_iinc X (pc := 63) dX0_make_63 rfl (oc_inc _) (by decide) ?_
        refine gg_goto X (pc := 66) (tgt := 21) dX0_make_66 (by decide) ?_
        exact ih (i + 1) b _ _ (by omega) hv
      refine gg_ild_n X (pc := 21) dX0_make_21 rfl ?_
      refine gg_bp X (pc := 22) dX0_make_22 oc_bp8 ?_
      refine gg_ic_geN X (pc := 24) (tgt := 69) dX0_make_24 (by decide) (by omega) (by omega) (fun h => ?_) (fun h => ?_)
      · exact absurd h (by omega)
      · refine gg_ild_n X (pc := 27) dX0_make_27 rfl ?_
        refine gg_ald_n X (pc := 28) dX0_make_28 rfl ?_
        refine gx_g_eight X (pc := 29) dX0_make_29 ?_
        refine gg_ild_n X (pc := 32) dX0_make_32 rfl ?_
        refine gx_l_eight X (pc := 33) dX0_make_33 (by omega) ?_
        refine gg_calls X (pc := 34) (mX_mix l D _ _) cn_X0_46 ⟨by decide, by decide⟩ ⟨Nat.le_refl _, Nat.le_refl _⟩ rfl rfl (Nat.le_of_ble_eq_true rfl) dX0_make_34 (fun r1 q1 => ?_)
        obtain rfl := q1
        refine gg_ist_n X (pc := 37) dX0_make_37 (by decide) ?_
        refine gg_ild_n X (pc := 38) dX0_make_38 rfl ?_
        rcases hv with ⟨rfl, hv⟩ | ⟨rfl, hv⟩
        · refine gg_if_eqN X (pc := 39) (tgt := 61) dX0_make_39 (by decide) (by omega) (fun k => ?_) (fun k => ?_)
          · exact absurd k (by omega)
          · refine gg_ald_n X (pc := 42) dX0_make_42 rfl ?_
            refine gx_g_eight X (pc := 43) dX0_make_43 ?_
            refine gg_ild_n X (pc := 46) dX0_make_46 rfl ?_
            refine gx_l_eight X (pc := 47) dX0_make_47 (by omega) ?_
            refine gg_ald_n X (pc := 48) dX0_make_48 rfl ?_
            refine gx_g_eight X (pc := 49) dX0_make_49 ?_
            refine gg_ic X (pc := 52) dX0_make_52 oc_ic0 ?_
            refine gx_l_eight X (pc := 53) dX0_make_53 (by omega) ?_
            refine gg_ic_neN X (pc := 54) (tgt := 61) dX0_make_54 (by decide) (by omega) (by omega) (fun k2 => ?_) (fun k2 => ?_)
            · refine gg_ic X (pc := 61) dX0_make_61 oc_ic0 ?_
              refine gg_drop 2 ?_
              exact nxt 0 (Or.inr ⟨rfl, fun q => k2 (q.2 i (by omega))⟩)
            · refine gg_ic X (pc := 57) dX0_make_57 oc_ic1 ?_
              refine gg_goto X (pc := 58) (tgt := 62) dX0_make_58 (by decide) ?_
              refine gg_drop 2 ?_
              exact nxt 1 (Or.inl ⟨rfl, hv.1, fun j hj => by
                rcases Nat.lt_or_ge j i with z | z
                · exact hv.2 j z
                · rw [show j = i by omega]; exact k2⟩)
        · refine gg_if_eqN X (pc := 39) (tgt := 61) dX0_make_39 (by decide) (by omega) (fun k => ?_) (fun k => ?_)
          · refine gg_ic X (pc := 61) dX0_make_61 oc_ic0 ?_
            refine gg_drop 2 ?_
            exact nxt 0 (Or.inr ⟨rfl, fun q => hv ⟨q.1, fun j hj => q.2 j (by omega)⟩⟩)
          · exact absurd rfl k
  have a0 := he 0 (by omega)
  refine gg_bp X (pc := 0) dX0_make_0 oc_bp7 ?_
  refine gg_ist_n X (pc := 2) dX0_make_2 (by decide) ?_
  refine gg_ald_n X (pc := 3) dX0_make_3 rfl ?_
  refine gx_g_eight X (pc := 4) dX0_make_4 ?_
  refine gg_ic X (pc := 7) dX0_make_7 oc_ic0 ?_
  refine gx_l_eight X (pc := 8) dX0_make_8 (by omega) ?_
  refine gg_ic X (pc := 9) dX0_make_9 oc_ic1 ?_
  refine gg_ic_gtN X (pc := 10) (tgt := 17) dX0_make_10 (by decide) (by omega) (by omega) (fun h => ?_) (fun h => ?_)
  · refine gg_ic X (pc := 17) dX0_make_17 oc_ic0 ?_
    refine gg_ist_n X (pc := 18) dX0_make_18 (by decide) ?_
    refine gg_ic X (pc := 19) dX0_make_19 oc_ic0 ?_
    refine gg_ist_n X (pc := 20) dX0_make_20 (by decide) ?_
    exact loop 8 0 0 _ _ (by omega) (Or.inr ⟨rfl, fun q => absurd q.1 (by omega)⟩)
  · refine gg_ic X (pc := 13) dX0_make_13 oc_ic1 ?_
    refine gg_goto X (pc := 14) (tgt := 18) dX0_make_14 (by decide) ?_
    refine gg_ist_n X (pc := 18) dX0_make_18 (by decide) ?_
    refine gg_ic X (pc := 19) dX0_make_19 oc_ic0 ?_
    refine gg_ist_n X (pc := 20) dX0_make_20 (by decide) ?_
    exact loop 8 0 1 _ _ (by omega) (Or.inl ⟨rfl, h, fun j hj => absurd hj (by omega)⟩)
end
section
/-! markFrom -/
set_option maxRecDepth 100000
/-- w is v with the nodes of S marked as used -/
def oc_mkd (v w : Nat → Nat → Nat) (S : Nat → Prop) : Prop := (∀ a j, a ≠ 1 → w a j = v a j) ∧ (∀ j, S j → w 1 j = 1) ∧ (∀ j, ¬ S j → w 1 j = v 1 j)
theorem oc_mkd.iff {v w : Nat → Nat → Nat} {S S' : Nat → Prop} (h : oc_mkd v w S) (e : ∀ j, S j ↔ S' j) : oc_mkd v w S' := ⟨h.1, fun j hj => h.2.1 j ((e j).mpr hj), fun j hj => h.2.2 j (fun q => hj ((e j).mp q))⟩
theorem oc_mkd.add {v w : Nat → Nat → Nat} {S : Nat → Prop} (h : oc_mkd v w S) (n : Nat) : oc_mkd v (oc_up w 1 n 1) (fun j => S j ∨ j = n) := by
  refine ⟨fun a j ha => by rw [oc_up_a _ _ _ _ ha]; exact h.1 a j ha, fun j hj => ?_, fun j hj => ?_⟩
  · by_cases e : j = n
    · rw [e, oc_up_s]
    · rw [oc_up_k _ _ _ _ e]
      exact h.2.1 j (hj.resolve_right e)
  · rw [oc_up_k _ _ _ _ (fun q => hj (Or.inr q))]
    exact h.2.2 j (fun q => hj (Or.inl q))
theorem oc_mkd.same {v w : Nat → Nat → Nat} {S : Nat → Prop} (h : oc_mkd v w S) {n y : Nat} (e : w 1 n = y) : oc_mkd v (oc_up w 1 n y) S := by
  have q : oc_up w 1 n y = w := by
    funext a j
    unfold oc_up
    split
    · next z => rw [z.1, z.2, e]
    · rfl
  rw [q]
  exact h
theorem oc_mkd.lt {v w : Nat → Nat → Nat} {S : Nat → Prop} (h : oc_mkd v w S) {j : Nat} (hj : v 1 j < 2) : w 1 j < 2 := by
  by_cases e : S j
  · rw [h.2.1 j e]; decide
  · rw [h.2.2 j e]; exact hj
def oc_s0 (P : Nat → Nat) (n i j : Nat) : Prop := j = n ∨ ∃ i', i' < i ∧ ((P (n * 8 + i') = j ∧ 2 ≤ j) ∨ (2 ≤ P (n * 8 + i') ∧ ∃ k, k < 8 ∧ P (P (n * 8 + i') * 8 + k) = j ∧ 2 ≤ j))
def oc_s1 (P : Nat → Nat) (n i k j : Nat) : Prop := oc_s0 P n i j ∨ j = P (n * 8 + i) ∨ ∃ k', k' < k ∧ P (P (n * 8 + i) * 8 + k') = j ∧ 2 ≤ j
/-- the nodes of a tree -/
def oc_rch (P : Nat → Nat) (n j : Nat) : Prop := 2 ≤ n ∧ oc_s0 P n 8 j
theorem oc_s0_skip {P : Nat → Nat} {n i : Nat} (h : P (n * 8 + i) < 2) (j : Nat) : oc_s0 P n i j ↔ oc_s0 P n (i + 1) j := by
  unfold oc_s0
  constructor
  · rintro (e | ⟨i', a, b⟩)
    · exact Or.inl e
    · exact Or.inr ⟨i', by omega, b⟩
  · rintro (e | ⟨i', a, b⟩)
    · exact Or.inl e
    · rcases Nat.lt_or_ge i' i with z | z
      · exact Or.inr ⟨i', z, b⟩
      · obtain rfl : i' = i := by omega
        rcases b with ⟨b1, b2⟩ | ⟨b1, -⟩ <;> omega
theorem oc_s1_end {P : Nat → Nat} {n i : Nat} (h : 2 ≤ P (n * 8 + i)) (j : Nat) : oc_s1 P n i 8 j ↔ oc_s0 P n (i + 1) j := by
  unfold oc_s1 oc_s0
  constructor
  · rintro ((e | ⟨i', a, b⟩) | e | ⟨k, a, b⟩)
    · exact Or.inl e
    · exact Or.inr ⟨i', by omega, b⟩
    · exact Or.inr ⟨i, by omega, Or.inl ⟨e.symm, by omega⟩⟩
    · exact Or.inr ⟨i, by omega, Or.inr ⟨h, k, a, b⟩⟩
  · rintro (e | ⟨i', a, b⟩)
    · exact Or.inl (Or.inl e)
    · rcases Nat.lt_or_ge i' i with z | z
      · exact Or.inl (Or.inr ⟨i', z, b⟩)
      · obtain rfl : i' = i := by omega
        rcases b with ⟨b1, b2⟩ | ⟨-, k, a, b⟩
        · exact Or.inr (Or.inl b1.symm)
        · exact Or.inr (Or.inr ⟨k, a, b⟩)
theorem oc_s1_add {P : Nat → Nat} {n i k : Nat} (h : 2 ≤ P (P (n * 8 + i) * 8 + k)) (j : Nat) : (oc_s1 P n i k j ∨ j = P (P (n * 8 + i) * 8 + k)) ↔ oc_s1 P n i (k + 1) j := by
  unfold oc_s1
  constructor
  · rintro ((e | e | ⟨k', a, b⟩) | e)
    · exact Or.inl e
    · exact Or.inr (Or.inl e)
    · exact Or.inr (Or.inr ⟨k', by omega, b⟩)
    · exact Or.inr (Or.inr ⟨k, by omega, e.symm, by omega⟩)
  · rintro (e | e | ⟨k', a, b⟩)
    · exact Or.inl (Or.inl e)
    · exact Or.inl (Or.inr (Or.inl e))
    · rcases Nat.lt_or_ge k' k with z | z
      · exact Or.inl (Or.inr (Or.inr ⟨k', z, b⟩))
      · obtain rfl : k' = k := by omega
        exact Or.inr b.1.symm
theorem oc_s1_skip {P : Nat → Nat} {n i k : Nat} (h : P (P (n * 8 + i) * 8 + k) < 2) (j : Nat) : oc_s1 P n i k j ↔ oc_s1 P n i (k + 1) j := by
  unfold oc_s1
  constructor
  · rintro (e | e | ⟨k', a, b⟩)
    · exact Or.inl e
    · exact Or.inr (Or.inl e)
    · exact Or.inr (Or.inr ⟨k', by omega, b⟩)
  · rintro (e | e | ⟨k', a, b⟩)
    · exact Or.inl e
    · exact Or.inr (Or.inl e)
    · rcases Nat.lt_or_ge k' k with z | z
      · exact Or.inr (Or.inr ⟨k', z, b⟩)
      · obtain rfl : k' = k := by omega
        obtain ⟨b1, b2⟩ := b
        omega
theorem mX_markFrom (l : Launch) (D : va_G) (dS dZ : ClassId) (ad : Nat → Nat) (v : Nat → Nat → Nat) (n : Nat) (hn : n < 512) (hw : oc_wf v) (hu : ∀ j, j < 512 → v 1 j < 2) : oc_Mv l D (oc_tx dS dZ) 0 yX0_markFrom cX0_markFrom 6 [.ref (ad 0), .int (nI n)] (oc_xW ad dS dZ) (oc_xW ad dS dZ v) (fun u => oc_mkd v u (oc_rch (v 0) n)) := by
  refine oc_Mv.of (own := RX0) (by decide) rfl (Nat.le_of_ble_eq_true rfl) (by simp [Value.category]) [some (.ref (ad 0)), some (.int (nI n)), none, none, none, none] rfl ?_
  intro p e s m args below meth cd A Q X hret
  refine gg_ild_n X (pc := 0) dX0_markFrom_0 rfl ?_
  refine gg_ic X (pc := 1) dX0_markFrom_1 oc_ic2 ?_
  refine gg_ic_geN X (pc := 2) (tgt := 6) dX0_markFrom_2 (by decide) (by omega) (by omega) (fun h0 => ?_) (fun h0 => ?_)
  · have outer : ∀ (t i : Nat) (w : Nat → Nat → Nat) (p3 p4 p5 : Option Value), i + t = 8 → oc_mkd v w (oc_s0 (v 0) n i) → gg p l e (oc_rm 0) s m args below meth cd Q 0 0 D A 6 (oc_xW ad dS dZ w) 15 [some (.ref (ad 0)), some (.int (nI n)), some (.int (nI i)), p3, p4, p5] [] := by
      intro t
      induction t with
      | zero =>
        intro i w p3 p4 p5 hi hm
        obtain rfl : i = 8 := by omega
        refine gg_ild_n X (pc := 15) dX0_markFrom_15 rfl ?_
        refine gg_bp X (pc := 16) dX0_markFrom_16 oc_bp8 ?_
        refine gg_ic_geN X (pc := 18) (tgt := 109) dX0_markFrom_18 (by decide) (by omega) (by omega) (fun h => ?_) (fun h => ?_)
        · exact hret _ 109 _ dX0_markFrom_109 (hm.iff (fun j => ⟨fun q => ⟨h0, q⟩, fun q => q.2⟩))
        · exact absurd h (by omega)
      | succ t ih =>
        intro i w p3 p4 p5 hi hm
        have e0 : ∀ k, w 0 k = v 0 k := fun k => hm.1 0 k (by decide)
        have hb := hw (n * 8 + i) (by omega)
        refine gg_ild_n X (pc := 15) dX0_markFrom_15 rfl ?_
        refine gg_bp X (pc := 16) dX0_markFrom_16 oc_bp8 ?_
        refine gg_ic_geN X (pc := 18) (tgt := 109) dX0_markFrom_18 (by decide) (by omega) (by omega) (fun h => ?_) (fun h => ?_)
        · exact absurd h (by omega)
        · refine gg_ald_n X (pc := 21) dX0_markFrom_21 rfl ?_
          refine gx_g_parts X (pc := 22) dX0_markFrom_22 ?_
          refine gg_ild_n X (pc := 25) dX0_markFrom_25 rfl ?_
          refine gg_bp X (pc := 26) dX0_markFrom_26 oc_bp8 ?_
          refine gg_imulN X (pc := 28) dX0_markFrom_28 ?_
          refine gg_ild_n X (pc := 29) dX0_markFrom_29 rfl ?_
          refine gg_iaddN X (pc := 30) dX0_markFrom_30 ?_
          refine gx_l_parts X (pc := 31) dX0_markFrom_31 (by omega) ?_
          rw [e0]
          refine gg_ist_n X (pc := 32) dX0_markFrom_32 (by decide) ?_
          refine gg_ild_n X (pc := 33) dX0_markFrom_33 rfl ?_
          refine gg_ic X (pc := 34) dX0_markFrom_34 oc_ic2 ?_
          refine gg_ic_ltN X (pc := 35) (tgt := 103) dX0_markFrom_35 (by decide) (by omega) (by omega) (fun h2 => ?_) (fun h2 => ?_)
          · refine gg_iinc X (pc := 103) dX0_markFrom_103 rfl (oc_inc _) (by decide) ?_
            refine gg_goto X (pc := 106) (tgt := 15) dX0_markFrom_106 (by decide) ?_
            exact ih (i + 1) w _ _ _ (by omega) (hm.iff (oc_s0_skip h2))
          · have inner : ∀ (t k : Nat) (w : Nat → Nat → Nat) (p5 : Option Value), k + t = 8 → oc_mkd v w (oc_s1 (v 0) n i k) → gg p l e (oc_rm 0) s m args below meth cd Q 0 0 D A 6 (oc_xW ad dS dZ w) 48 [some (.ref (ad 0)), some (.int (nI n)), some (.int (nI i)), some (.int (nI (v 0 (n * 8 + i)))), some (.int (nI k)), p5] [] := by
              intro t
              induction t with
              | zero =>
                intro k w p5 hk hm
                obtain rfl : k = 8 := by omega
                refine gg_ild X (pc := 48) dX0_markFrom_48 rfl ?_
                refine gg_bp X (pc := 50) dX0_markFrom_50 oc_bp8 ?_
                refine gg_ic_geN X (pc := 52) (tgt := 103) dX0_markFrom_52 (by decide) (by omega) (by omega) (fun h3 => ?_) (fun h3 => ?_)
                · refine gg_iinc X (pc := 103) dX0_markFrom_103 rfl (oc_inc _) (by decide) ?_
                  refine gg_goto X (pc := 106) (tgt := 15) dX0_markFrom_106 (by decide) ?_
                  exact ih (i + 1) w _ _ _ (by omega) (hm.iff (oc_s1_end h2))
                · exact absurd h3 (by omega)
              | succ t ih2 =>
                intro k w p5 hk hm
                have e0 : ∀ k, w 0 k = v 0 k := fun k => hm.1 0 k (by decide)
                have hb2 := hw (v 0 (n * 8 + i) * 8 + k) (by omega)
                have hb3 := hm.lt (hu _ hb2)
                refine gg_ild X (pc := 48) dX0_markFrom_48 rfl ?_
                refine gg_bp X (pc := 50) dX0_markFrom_50 oc_bp8 ?_
                refine gg_ic_geN X (pc := 52) (tgt := 103) dX0_markFrom_52 (by decide) (by omega) (by omega) (fun h3 => ?_) (fun h3 => ?_)
                · exact absurd h3 (by omega)
                · refine gg_ald_n X (pc := 55) dX0_markFrom_55 rfl ?_
                  refine gx_g_parts X (pc := 56) dX0_markFrom_56 ?_
                  refine gg_ild_n X (pc := 59) dX0_markFrom_59 rfl ?_
                  refine gg_bp X (pc := 60) dX0_markFrom_60 oc_bp8 ?_
                  refine gg_imulN X (pc := 62) dX0_markFrom_62 ?_
                  refine gg_ild X (pc := 63) dX0_markFrom_63 rfl ?_
                  refine gg_iaddN X (pc := 65) dX0_markFrom_65 ?_
                  refine gx_l_parts X (pc := 66) dX0_markFrom_66 (by omega) ?_
                  rw [e0]
                  refine gg_ist X (pc := 67) dX0_markFrom_67 (by decide) ?_
                  refine gg_ald_n X (pc := 69) dX0_markFrom_69 rfl ?_
                  refine gx_g_used X (pc := 70) dX0_markFrom_70 ?_
                  refine gg_ild X (pc := 73) dX0_markFrom_73 rfl ?_
                  refine gg_ald_n X (pc := 75) dX0_markFrom_75 rfl ?_
                  refine gx_g_used X (pc := 76) dX0_markFrom_76 ?_
                  refine gg_ild X (pc := 79) dX0_markFrom_79 rfl ?_
                  refine gx_l_used X (pc := 81) dX0_markFrom_81 (by omega) ?_
                  refine gg_if_neN X (pc := 82) (tgt := 91) dX0_markFrom_82 (by decide) (by omega) (fun h4 => ?_) (fun h4 => ?_)
                  · refine gg_ic X (pc := 91) dX0_markFrom_91 oc_ic1 ?_
                    refine gg_goto X (pc := 92) (tgt := 96) dX0_markFrom_92 (by decide) ?_
                    refine gx_s_used X (pc := 96) dX0_markFrom_96 (by omega) (by omega) ?_
                    refine gg_iinc X (pc := 97) dX0_markFrom_97 rfl (oc_inc _) (by decide) ?_
                    refine gg_goto X (pc := 100) (tgt := 48) dX0_markFrom_100 (by decide) ?_
                    by_cases h5 : 2 ≤ v 0 (v 0 (n * 8 + i) * 8 + k)
                    · exact ih2 (k + 1) _ _ (by omega) ((hm.add _).iff (oc_s1_add h5))
                    · exact ih2 (k + 1) _ _ (by omega) ((hm.same (by omega)).iff (oc_s1_skip (by omega)))
                  · refine gg_ild X (pc := 85) dX0_markFrom_85 rfl ?_
                    refine gg_ic X (pc := 87) dX0_markFrom_87 oc_ic2 ?_
                    refine gg_ic_ltN X (pc := 88) (tgt := 95) dX0_markFrom_88 (by decide) (by omega) (by omega) (fun h5 => ?_) (fun h5 => ?_)
                    · refine gg_ic X (pc := 95) dX0_markFrom_95 oc_ic0 ?_
                      refine gx_s_used X (pc := 96) dX0_markFrom_96 (by omega) (by omega) ?_
                      refine gg_iinc X (pc := 97) dX0_markFrom_97 rfl (oc_inc _) (by decide) ?_
                      refine gg_goto X (pc := 100) (tgt := 48) dX0_markFrom_100 (by decide) ?_
                      exact ih2 (k + 1) _ _ (by omega) ((hm.same h4).iff (oc_s1_skip h5))
                    · refine gg_ic X (pc := 91) dX0_markFrom_91 oc_ic1 ?_
                      refine gg_goto X (pc := 92) (tgt := 96) dX0_markFrom_92 (by decide) ?_
                      refine gx_s_used X (pc := 96) dX0_markFrom_96 (by omega) (by omega) ?_
                      refine gg_iinc X (pc := 97) dX0_markFrom_97 rfl (oc_inc _) (by decide) ?_
                      refine gg_goto X (pc := 100) (tgt := 48) dX0_markFrom_100 (by decide) ?_
                      exact ih2 (k + 1) _ _ (by omega) ((hm.add _).iff (oc_s1_add h5))
            refine gg_ald_n X (pc := 38) dX0_markFrom_38 rfl ?_
            refine gx_g_used X (pc := 39) dX0_markFrom_39 ?_
            refine gg_ild_n X (pc := 42) dX0_markFrom_42 rfl ?_
            refine gg_ic X (pc := 43) dX0_markFrom_43 oc_ic1 ?_
            refine gx_s_used X (pc := 44) dX0_markFrom_44 (by omega) (by omega) ?_
            refine gg_ic X (pc := 45) dX0_markFrom_45 oc_ic0 ?_
            refine gg_ist X (pc := 46) dX0_markFrom_46 (by decide) ?_
            refine inner 8 0 _ _ (by omega) ((hm.add _).iff (fun j => ?_))
            unfold oc_s1
            constructor
            · rintro (q | q)
              · exact Or.inl q
              · exact Or.inr (Or.inl q)
            · rintro (q | q | ⟨k', a, -⟩)
              · exact Or.inl q
              · exact Or.inr q
              · exact absurd a (by omega)
    refine gg_ald_n X (pc := 6) dX0_markFrom_6 rfl ?_
    refine gx_g_used X (pc := 7) dX0_markFrom_7 ?_
    refine gg_ild_n X (pc := 10) dX0_markFrom_10 rfl ?_
    refine gg_ic X (pc := 11) dX0_markFrom_11 oc_ic1 ?_
    refine gx_s_used X (pc := 12) dX0_markFrom_12 (by omega) (by omega) ?_
    refine gg_ic X (pc := 13) dX0_markFrom_13 oc_ic0 ?_
    refine gg_ist_n X (pc := 14) dX0_markFrom_14 (by decide) ?_
    refine outer 8 0 _ _ _ _ (by omega) ⟨fun a j ha => oc_up_a _ _ _ _ ha, fun j hj => ?_, fun j hj => ?_⟩
    · rcases hj with rfl | ⟨i', a, -⟩
      · exact oc_up_s _ _ _ _
      · exact absurd a (by omega)
    · exact oc_up_k _ _ _ _ (fun q => hj (Or.inl q))
  · exact hret _ 5 _ dX0_markFrom_5 (⟨fun a j _ => rfl, fun j q => absurd q.1 (by omega), fun j _ => rfl⟩)
end
section
/-! sweep -/
set_option maxRecDepth 100000
theorem oc_lnk.eq {ch ch' : Nat → Nat} : ∀ (L : List Nat) (h : Nat), oc_lnk ch L h → (∀ n ∈ L, ch' n = ch n) → oc_lnk ch' L h
  | [], _, h, _ => h
  | n :: t, h, hl, e => by
    refine ⟨hl.1, ?_⟩
    rw [e n List.mem_cons_self]
    exact oc_lnk.eq t _ hl.2 (fun x hx => e x (List.mem_cons_of_mem _ hx))
/-- the chains: for every mark h, a chain of just the nodes x with p x h -/
def oc_chn (ch hd : Nat → Nat) (p : Nat → Nat → Prop) : Prop := ∀ h, h < 256 → ∃ L : List Nat, oc_lnk ch L (hd h) ∧ L.Nodup ∧ ∀ x, x ∈ L ↔ p x h
theorem oc_chn.iff {ch hd : Nat → Nat} {p p' : Nat → Nat → Prop} (c : oc_chn ch hd p) (e : ∀ x h, h < 256 → (p x h ↔ p' x h)) : oc_chn ch hd p' := fun h hh => by
  obtain ⟨L, a, b, d⟩ := c h hh
  exact ⟨L, a, b, fun x => (d x).trans (e x h hh)⟩
theorem oc_chn.ins {ch hd ch' hd' : Nat → Nat} {p : Nat → Nat → Prop} {n k : Nat} (c : oc_chn ch hd p) (hn : ∀ h, ¬ p n h) (e1 : ∀ x, x ≠ n → ch' x = ch x) (e2 : ch' n = hd k) (e3 : ∀ h, h ≠ k → hd' h = hd h) (e4 : hd' k = n + 1) : oc_chn ch' hd' (fun x h => p x h ∨ (x = n ∧ h = k)) := by
  intro h hh
  obtain ⟨L, a, b, d⟩ := c h hh
  have hL : ∀ x ∈ L, ch' x = ch x := fun x hx => e1 x (fun q => hn h ((d n).mp (q ▸ hx)))
  by_cases e : h = k
  · refine ⟨n :: L, ⟨by rw [e, e4], ?_⟩, List.nodup_cons.mpr ⟨fun q => hn h ((d n).mp q), b⟩, fun x => ?_⟩
    · rw [e2, ← e]
      exact oc_lnk.eq L _ a hL
    · rw [List.mem_cons]
      constructor
      · rintro (q | q)
        · exact Or.inr ⟨q, e⟩
        · exact Or.inl ((d x).mp q)
      · rintro (q | q)
        · exact Or.inr ((d x).mpr q)
        · exact Or.inl q.1
  · refine ⟨L, by rw [e3 h e]; exact oc_lnk.eq L _ a hL, b, fun x => ?_⟩
    constructor
    · exact fun q => Or.inl ((d x).mp q)
    · rintro (q | q)
      · exact (d x).mpr q
      · exact absurd q.2 e
def oc_nm (v : Nat → Nat → Nat) (n : Nat) : Nat := oc_mk (fun i => v 0 (n * 8 + i))
def oc_live (v : Nat → Nat → Nat) (j : Nat) : Prop := ∃ r, r < 4 ∧ oc_rch (v 0) (v 5 r) j
/-- what sweep leaves -/
def oc_swp (v u : Nat → Nat → Nat) : Prop := (∀ a j, a ≠ 1 → a ≠ 2 → a ≠ 3 → ¬ (a = 9 ∧ j = 0) → u a j = v a j) ∧ u 9 0 = 2 ∧ (∀ j, oc_live v j → u 1 j = 1) ∧ (∀ j, j < 512 → ¬ oc_live v j → u 1 j = 0) ∧ (∀ h, h < 256 → u 2 h ≤ 512) ∧ oc_chn (u 3) (u 2) (fun x h => 2 ≤ x ∧ x < 512 ∧ u 1 x = 1 ∧ oc_nm u x = h)
theorem mX_sweep (l : Launch) (D : va_G) (dS dZ : ClassId) (ad : Nat → Nat) (v : Nat → Nat → Nat) (hw : oc_wf v) (hr : ∀ r, r < 4 → v 5 r < 512) : oc_Mv l D (oc_tx dS dZ) 2 yX0_sweep cX0_sweep 3 [.ref (ad 0)] (oc_xW ad dS dZ) (oc_xW ad dS dZ v) (fun u => oc_swp v u) := by
  refine oc_Mv.of (own := RX0) (by decide) rfl (Nat.le_of_ble_eq_true rfl) (by simp [Value.category]) [some (.ref (ad 0)), none, none] rfl ?_
  intro p e s m args below meth cd A Q X hret
  have third : ∀ (t n : Nat) (w : Nat → Nat → Nat) (p2 : Option Value), n + t = 512 → 2 ≤ n → (∀ a j, a ≠ 1 → a ≠ 2 → a ≠ 3 → w a j = v a j) → (∀ j, oc_live v j → w 1 j = 1) → (∀ j, j < 512 → ¬ oc_live v j → w 1 j = 0) → (∀ h, h < 256 → w 2 h ≤ n) → oc_chn (w 3) (w 2) (fun x h => 2 ≤ x ∧ x < n ∧ w 1 x = 1 ∧ oc_nm w x = h) → gg p l e (oc_rm 2) s m args below meth cd Q 0 0 D A 3 (oc_xW ad dS dZ w) 51 [some (.ref (ad 0)), some (.int (nI n)), p2] [] := by
    intro t
    induction t with
    | zero =>
      intro n w p2 hn h2 ha hl hd hh hc
      obtain rfl : n = 512 := by omega
      refine gg_ild_n X (pc := 51) dX0_sweep_51 rfl ?_
      refine gg_sp X (pc := 52) dX0_sweep_52 oc_sp512 ?_
      refine gg_ic_geN X (pc := 55) (tgt := 99) dX0_sweep_55 (by decide) (by omega) (by omega) (fun k => ?_) (fun k => ?_)
      · refine gg_ald_n X (pc := 99) dX0_sweep_99 rfl ?_
        refine gg_ic X (pc := 100) dX0_sweep_100 oc_ic2 ?_
        refine gx_p_free X (pc := 101) dX0_sweep_101 ?_
        refine hret _ 104 _ dX0_sweep_104 ⟨fun a j a1 a2 a3 a9 => ?_, oc_up_s _ _ _ _, fun j hj => hl j hj, fun j hj hj2 => hd j hj hj2, fun h q => hh h q, hc⟩
        rw [show oc_up w 9 0 2 a j = w a j from if_neg a9]
        exact ha a j a1 a2 a3
      · exact absurd k (by omega)
    | succ t ih =>
      intro n w p2 hn h2 ha hl hd hh hc
      have h1 : w 1 n = 0 ∨ w 1 n = 1 := by
        by_cases q : oc_live v n
        · exact Or.inr (hl n q)
        · exact Or.inl (hd n (by omega) q)
      refine gg_ild_n X (pc := 51) dX0_sweep_51 rfl ?_
      refine gg_sp X (pc := 52) dX0_sweep_52 oc_sp512 ?_
      refine gg_ic_geN X (pc := 55) (tgt := 99) dX0_sweep_55 (by decide) (by omega) (by omega) (fun k => ?_) (fun k => ?_)
      · exact absurd k (by omega)
      · refine gg_ald_n X (pc := 58) dX0_sweep_58 rfl ?_
        refine gx_g_used X (pc := 59) dX0_sweep_59 ?_
        refine gg_ild_n X (pc := 62) dX0_sweep_62 rfl ?_
        refine gx_l_used X (pc := 63) dX0_sweep_63 (by omega) ?_
        refine gg_if_eqN X (pc := 64) (tgt := 93) dX0_sweep_64 (by decide) (by omega) (fun k2 => ?_) (fun k2 => ?_)
        · refine gg_iinc X (pc := 93) dX0_sweep_93 rfl (oc_inc _) (by decide) ?_
          refine gg_goto X (pc := 96) (tgt := 51) dX0_sweep_96 (by decide) ?_
          refine ih (n + 1) w _ (by omega) (by omega) ha hl hd (fun h q => Nat.le_trans (hh h q) (by omega)) (hc.iff (fun x h _ => ?_))
          constructor
          · rintro ⟨a1, a2, a3⟩
            exact ⟨a1, by omega, a3⟩
          · rintro ⟨a1, a2, a3, a4⟩
            refine ⟨a1, ?_, a3, a4⟩
            rcases Nat.lt_or_ge x n with z | z
            · exact z
            · rw [show x = n by omega] at a3
              omega
        · have h1 : w 1 n = 1 := by omega
          refine gg_ald_n X (pc := 67) dX0_sweep_67 rfl ?_
          refine gg_ild_n X (pc := 68) dX0_sweep_68 rfl ?_
          refine gx_calli X (pc := 69) (mX_markOf l D dS dZ ad w n (by omega)) cn_X0_62 ⟨by decide, by decide⟩ ⟨Nat.le_refl _, Nat.le_refl _⟩ rfl rfl (Nat.le_of_ble_eq_true rfl) dX0_sweep_69 (fun r1 u1 q1 => ?_)
          obtain ⟨rfl, rfl⟩ := q1
          have hm : oc_mk (fun i => w 0 (n * 8 + i)) < 256 := oc_mk_lt _
          have hm2 := hh _ hm
          refine gg_ist_n X (pc := 72) dX0_sweep_72 (by decide) ?_
          refine gg_ald_n X (pc := 73) dX0_sweep_73 rfl ?_
          refine gx_g_chain X (pc := 74) dX0_sweep_74 ?_
          refine gg_ild_n X (pc := 77) dX0_sweep_77 rfl ?_
          refine gg_ald_n X (pc := 78) dX0_sweep_78 rfl ?_
          refine gx_g_heads X (pc := 79) dX0_sweep_79 ?_
          refine gg_ild_n X (pc := 82) dX0_sweep_82 rfl ?_
          refine gx_l_heads X (pc := 83) dX0_sweep_83 (by omega) ?_
          refine gx_s_chain X (pc := 84) dX0_sweep_84 (by omega) (by omega) ?_
          refine gg_ald_n X (pc := 85) dX0_sweep_85 rfl ?_
          refine gx_g_heads X (pc := 86) dX0_sweep_86 ?_
          refine gg_ild_n X (pc := 89) dX0_sweep_89 rfl ?_
          refine gg_ild_n X (pc := 90) dX0_sweep_90 rfl ?_
          refine gg_i2s X (pc := 91) dX0_sweep_91 (oc_i2s (by omega)) ?_
          refine gg_top ((oc_cS n).symm) ?_
          refine gx_s_heads X (pc := 92) dX0_sweep_92 (by omega) (by omega) ?_
          refine gg_iinc X (pc := 93) dX0_sweep_93 rfl (oc_inc _) (by decide) ?_
          refine gg_goto X (pc := 96) (tgt := 51) dX0_sweep_96 (by decide) ?_
          refine ih (n + 1) _ _ (by omega) (by omega) (fun a j a1 a2 a3 => ?_) (fun j hj => ?_) (fun j hj hj2 => ?_) (fun h q => ?_) ((hc.ins (n := n) (k := oc_nm w n) (ch' := oc_up (oc_up w 3 n (w 2 (oc_nm w n))) 2 (oc_nm w n) (n + 1) 3) (hd' := oc_up (oc_up w 3 n (w 2 (oc_nm w n))) 2 (oc_nm w n) (n + 1) 2) (fun h q => absurd q.2.1 (by omega)) (fun x hx => ?_) ?_ (fun h hx => ?_) ?_).iff (fun x h _ => ?_))
          · rw [oc_up_a _ _ _ _ a2, oc_up_a _ _ _ _ a3]
            exact ha a j a1 a2 a3
          · rw [oc_up_a _ _ _ _ (by decide), oc_up_a _ _ _ _ (by decide)]
            exact hl j hj
          · rw [oc_up_a _ _ _ _ (by decide), oc_up_a _ _ _ _ (by decide)]
            exact hd j hj hj2
          · by_cases e : h = oc_mk (fun i => w 0 (n * 8 + i))
            · rw [e, oc_up_s]
              exact Nat.le_refl _
            · rw [oc_up_k _ _ _ _ e, oc_up_a _ _ _ _ (by decide)]
              exact Nat.le_trans (hh h q) (by omega)
          · rw [oc_up_a _ _ _ _ (by decide), oc_up_k _ _ _ _ hx]
          · rw [oc_up_a _ _ _ _ (by decide), oc_up_s]
          · rw [oc_up_k _ _ _ _ hx, oc_up_a _ _ _ _ (by decide)]
          · exact oc_up_s _ _ _ _
          · show (2 ≤ x ∧ x < n ∧ w 1 x = 1 ∧ oc_nm w x = h) ∨ (x = n ∧ h = oc_nm w n) ↔ 2 ≤ x ∧ x < n + 1 ∧ w 1 x = 1 ∧ oc_nm w x = h
            constructor
            · rintro (⟨a1, a2, a3⟩ | ⟨rfl, rfl⟩)
              · exact ⟨a1, by omega, a3⟩
              · exact ⟨h2, by omega, h1, rfl⟩
            · rintro ⟨a1, a2, a3, a4⟩
              rcases Nat.lt_or_ge x n with z | z
              · exact Or.inl ⟨a1, z, a3, a4⟩
              · obtain rfl : x = n := by omega
                exact Or.inr ⟨rfl, a4.symm⟩
  have second : ∀ (t r : Nat) (w : Nat → Nat → Nat) (p2 : Option Value), r + t = 4 → (∀ a j, a ≠ 1 → w a j = v a j) → (∀ j, (∃ r', r' < r ∧ oc_rch (v 0) (v 5 r') j) → w 1 j = 1) → (∀ j, j < 512 → ¬ (∃ r', r' < r ∧ oc_rch (v 0) (v 5 r') j) → w 1 j = 0) → gg p l e (oc_rm 2) s m args below meth cd Q 0 0 D A 3 (oc_xW ad dS dZ w) 24 [some (.ref (ad 0)), some (.int (nI r)), p2] [] := by
    intro t
    induction t with
    | zero =>
      intro r w p2 hk ha hl hd
      obtain rfl : r = 4 := by omega
      refine gg_ild_n X (pc := 24) dX0_sweep_24 rfl ?_
      refine gg_ic X (pc := 25) dX0_sweep_25 oc_ic4 ?_
      refine gg_ic_geN X (pc := 26) (tgt := 45) dX0_sweep_26 (by decide) (by omega) (by omega) (fun k => ?_) (fun k => ?_)
      · refine gg_ald_n X (pc := 45) dX0_sweep_45 rfl ?_
        refine gx_callv X (pc := 46) (mX_clearChains l D dS dZ ad w) cn_X0_38 ⟨by decide, by decide⟩ ⟨Nat.le_refl _, Nat.le_refl _⟩ rfl rfl (Nat.le_of_ble_eq_true rfl) dX0_sweep_46 (fun u1 q1 => ?_)
        refine gg_ic X (pc := 49) dX0_sweep_49 oc_ic2 ?_
        refine gg_ist_n X (pc := 50) dX0_sweep_50 (by decide) ?_
        refine third 510 2 u1 _ (by omega) (by omega) (fun a j a1 a2 a3 => ?_) (fun j hj => ?_) (fun j hj hj2 => ?_) (fun h q => ?_) (fun h q => ⟨[], ?_, List.nodup_nil, fun x => ?_⟩)
        · rw [q1, if_neg (fun z => a2 z.1)]
          exact ha a j a1
        · rw [q1, if_neg (fun z => absurd z.1 (by decide))]
          exact hl j hj
        · rw [q1, if_neg (fun z => absurd z.1 (by decide))]
          exact hd j hj hj2
        · rw [q1, if_pos ⟨rfl, q⟩]
          decide
        · show u1 2 h = 0
          rw [q1, if_pos ⟨rfl, q⟩]
        · constructor
          · intro z
            cases z
          · rintro ⟨a1, a2, -⟩
            exact absurd a1 (by omega)
      · exact absurd k (by omega)
    | succ t ih =>
      intro r w p2 hk ha hl hd
      have e5 : w 5 r = v 5 r := ha 5 r (by decide)
      have e0 : w 0 = v 0 := funext (fun j => ha 0 j (by decide))
      have hr0 := hr r (by omega)
      have hw2 : oc_wf w := fun j hj => by rw [e0]; exact hw j hj
      refine gg_ild_n X (pc := 24) dX0_sweep_24 rfl ?_
      refine gg_ic X (pc := 25) dX0_sweep_25 oc_ic4 ?_
      refine gg_ic_geN X (pc := 26) (tgt := 45) dX0_sweep_26 (by decide) (by omega) (by omega) (fun k => ?_) (fun k => ?_)
      · exact absurd k (by omega)
      · refine gg_ald_n X (pc := 29) dX0_sweep_29 rfl ?_
        refine gg_ald_n X (pc := 30) dX0_sweep_30 rfl ?_
        refine gx_g_roots X (pc := 31) dX0_sweep_31 ?_
        refine gg_ild_n X (pc := 34) dX0_sweep_34 rfl ?_
        refine gx_l_roots X (pc := 35) dX0_sweep_35 (by omega) ?_
        have hu2 : ∀ j, j < 512 → w 1 j < 2 := fun j hj => by
          by_cases q : ∃ r', r' < r ∧ oc_rch (v 0) (v 5 r') j
          · rw [hl j q]; decide
          · rw [hd j hj q]; decide
        refine gx_callv X (pc := 36) (mX_markFrom l D dS dZ ad w (w 5 r) (by omega) hw2 hu2) cn_X0_58 ⟨by decide, by decide⟩ ⟨Nat.le_refl _, Nat.le_refl _⟩ rfl rfl (Nat.le_of_ble_eq_true rfl) dX0_sweep_36 (fun u1 q1 => ?_)
        rw [e0, e5] at q1
        obtain ⟨m1, m2, m3⟩ := q1
        refine gg_iinc X (pc := 39) dX0_sweep_39 rfl (oc_inc _) (by decide) ?_
        refine gg_goto X (pc := 42) (tgt := 24) dX0_sweep_42 (by decide) ?_
        refine ih (r + 1) u1 _ (by omega) (fun a j h1 => by rw [m1 a j h1]; exact ha a j h1) (fun j hj => ?_) (fun j hj hj2 => ?_)
        · by_cases q : oc_rch (v 0) (v 5 r) j
          · exact m2 j q
          · rw [m3 j q]
            obtain ⟨r', a1, a2⟩ := hj
            refine hl j ⟨r', ?_, a2⟩
            rcases Nat.lt_or_ge r' r with z | z
            · exact z
            · rw [show r' = r by omega] at a2
              exact absurd a2 q
        · rw [m3 j (fun q => hj2 ⟨r, by omega, q⟩)]
          exact hd j hj (fun ⟨r', a1, a2⟩ => hj2 ⟨r', by omega, a2⟩)
  have first : ∀ (t n : Nat) (w : Nat → Nat → Nat), n + t = 512 → (∀ a j, a ≠ 1 → w a j = v a j) → (∀ j, j < n → w 1 j = 0) → gg p l e (oc_rm 2) s m args below meth cd Q 0 0 D A 3 (oc_xW ad dS dZ w) 2 [some (.ref (ad 0)), some (.int (nI n)), none] [] := by
    intro t
    induction t with
    | zero =>
      intro n w hk ha hz
      obtain rfl : n = 512 := by omega
      refine gg_ild_n X (pc := 2) dX0_sweep_2 rfl ?_
      refine gg_sp X (pc := 3) dX0_sweep_3 oc_sp512 ?_
      refine gg_ic_geN X (pc := 6) (tgt := 22) dX0_sweep_6 (by decide) (by omega) (by omega) (fun k => ?_) (fun k => ?_)
      · refine gg_ic X (pc := 22) dX0_sweep_22 oc_ic0 ?_
        refine gg_ist_n X (pc := 23) dX0_sweep_23 (by decide) ?_
        exact second 4 0 w _ (by omega) ha (fun j ⟨r', a1, _⟩ => absurd a1 (by omega)) (fun j hj _ => hz j hj)
      · exact absurd k (by omega)
    | succ t ih =>
      intro n w hk ha hz
      refine gg_ild_n X (pc := 2) dX0_sweep_2 rfl ?_
      refine gg_sp X (pc := 3) dX0_sweep_3 oc_sp512 ?_
      refine gg_ic_geN X (pc := 6) (tgt := 22) dX0_sweep_6 (by decide) (by omega) (by omega) (fun k => ?_) (fun k => ?_)
      · exact absurd k (by omega)
      · refine gg_ald_n X (pc := 9) dX0_sweep_9 rfl ?_
        refine gx_g_used X (pc := 10) dX0_sweep_10 ?_
        refine gg_ild_n X (pc := 13) dX0_sweep_13 rfl ?_
        refine gg_ic X (pc := 14) dX0_sweep_14 oc_ic0 ?_
        refine gx_s_used X (pc := 15) dX0_sweep_15 (by omega) (by omega) ?_
        refine gg_iinc X (pc := 16) dX0_sweep_16 rfl (oc_inc _) (by decide) ?_
        refine gg_goto X (pc := 19) (tgt := 2) dX0_sweep_19 (by decide) ?_
        refine ih (n + 1) _ (by omega) (fun a j h1 => by rw [oc_up_a _ _ _ _ h1]; exact ha a j h1) (fun j hj => ?_)
        by_cases e : j = n
        · rw [e, oc_up_s]
        · rw [oc_up_k _ _ _ _ e]
          exact hz j (by omega)
  refine gg_ic X (pc := 0) dX0_sweep_0 oc_ic0 ?_
  refine gg_ist_n X (pc := 1) dX0_sweep_1 (by decide) ?_
  exact first 512 0 v (by omega) (fun _ _ _ => rfl) (fun j hj => absurd hj (by omega))
end
section
/-! trees, counted sets: plain laws -/
set_option maxRecDepth 100000
/-- how many i < n have f -/
def oc_cnt (f : Nat → Bool) : Nat → Nat
  | 0 => 0
  | n + 1 => oc_cnt f n + (f n).toNat
theorem oc_cnt_eq {f g : Nat → Bool} : ∀ (n : Nat), (∀ i, i < n → f i = g i) → oc_cnt f n = oc_cnt g n
  | 0, _ => rfl
  | n + 1, h => by
    unfold oc_cnt
    rw [oc_cnt_eq n (fun i hi => h i (by omega)), h n (by omega)]
theorem oc_toNat_le {a b : Bool} (h : a = true → b = true) : a.toNat ≤ b.toNat := by
  cases a with
  | false => exact Nat.zero_le _
  | true => rw [h rfl]; exact Nat.le_refl _
theorem oc_cnt_mono {f g : Nat → Bool} : ∀ (n : Nat), (∀ i, i < n → f i = true → g i = true) → oc_cnt f n ≤ oc_cnt g n
  | 0, _ => Nat.le_refl _
  | n + 1, h => by
    unfold oc_cnt
    have a := oc_cnt_mono n (fun i hi => h i (by omega))
    have b := oc_toNat_le (h n (by omega))
    omega
theorem oc_toNat_or (a b : Bool) : (a || b).toNat ≤ a.toNat + b.toNat := by cases a <;> cases b <;> decide
theorem oc_cnt_or (f g : Nat → Bool) : ∀ (n : Nat), oc_cnt (fun i => f i || g i) n ≤ oc_cnt f n + oc_cnt g n
  | 0 => Nat.le_refl _
  | n + 1 => by
    unfold oc_cnt
    have a := oc_cnt_or f g n
    have b := oc_toNat_or (f n) (g n)
    show oc_cnt (fun i => f i || g i) n + (f n || g n).toNat ≤ _
    omega
theorem oc_cnt_one (k : Nat) : ∀ (n : Nat), oc_cnt (fun i => i == k) n = if k < n then 1 else 0
  | 0 => rfl
  | n + 1 => by
    unfold oc_cnt
    rw [oc_cnt_one k n]
    by_cases h : n = k
    · subst h
      simp
    · have e : (n == k) = false := by simpa using h
      rw [e]
      by_cases h2 : k < n
      · rw [if_pos h2, if_pos (by omega)]; rfl
      · rw [if_neg h2, if_neg (by omega)]; rfl
theorem oc_cnt_list (n : Nat) : ∀ (L : List Nat), oc_cnt (fun i => L.contains i) n ≤ L.length
  | [] => by
    have e : oc_cnt (fun i => ([] : List Nat).contains i) n = oc_cnt (fun _ => false) n := oc_cnt_eq n (fun i _ => rfl)
    rw [e]
    induction n with
    | zero => exact Nat.le_refl _
    | succ n ih =>
      unfold oc_cnt
      exact ih rfl
  | a :: L => by
    have e : oc_cnt (fun i => (a :: L).contains i) n = oc_cnt (fun i => (i == a) || L.contains i) n := oc_cnt_eq n (fun i _ => by rw [List.contains_cons])
    rw [e]
    have h1 := oc_cnt_or (fun i => i == a) (fun i => L.contains i) n
    have h2 := oc_cnt_list n L
    have h3 := oc_cnt_one a n
    have h4 : oc_cnt (fun i => i == a) n ≤ 1 := by rw [h3]; split <;> decide
    rw [List.length_cons]
    omega
/-- a counted set that a list covers -/
theorem oc_cnt_cover {f : Nat → Bool} {n : Nat} (L : List Nat) (h : ∀ i, i < n → f i = true → i ∈ L) : oc_cnt f n ≤ L.length :=
  Nat.le_trans (oc_cnt_mono n (fun i hi hf => by simpa using h i hi hf)) (oc_cnt_list n L)
theorem oc_cnt_run {f : Nat → Bool} {a : Nat} : ∀ (n : Nat), (∀ g, a ≤ g → g < n → f g = true) → n ≤ oc_cnt f n + a
  | 0, _ => Nat.zero_le _
  | n + 1, h => by
    unfold oc_cnt
    have h1 := oc_cnt_run (f := f) (a := a) n (fun g h1 h2 => h g h1 (by omega))
    by_cases q : a ≤ n
    · rw [h n q (by omega)]
      show n + 1 ≤ oc_cnt f n + 1 + a
      omega
    · omega
theorem oc_cnt_grow {f : Nat → Bool} {n m : Nat} (h : n ≤ m) : oc_cnt f n ≤ oc_cnt f m := by
  induction m with
  | zero => rw [show n = 0 by omega]; exact Nat.le_refl _
  | succ m ih =>
    rcases Nat.lt_or_ge m n with q | q
    · rw [show n = m + 1 by omega]; exact Nat.le_refl _
    · have h1 := ih q
      have h2 : oc_cnt f (m + 1) = oc_cnt f m + (f m).toNat := rfl
      omega
theorem oc_cnt_rm {f : Nat → Bool} {k : Nat} (hk : f k = true) : ∀ (n : Nat), k < n → oc_cnt (fun i => f i && !(i == k)) n + 1 = oc_cnt f n
  | 0, h => absurd h (by omega)
  | n + 1, h => by
    unfold oc_cnt
    by_cases e : n = k
    · subst e
      have e2 : oc_cnt (fun i => f i && !(i == n)) n = oc_cnt f n := oc_cnt_eq n (fun i hi => by
        have : (i == n) = false := by simpa using (by omega : ¬ i = n)
        rw [this]; simp)
      rw [e2, hk]
      simp
    · have ih := oc_cnt_rm hk n (by omega)
      have e3 : (n == k) = false := by simpa using e
      rw [e3]
      simp only [Bool.not_false, Bool.and_true]
      omega
theorem oc_nodup_le {f : Nat → Bool} {n : Nat} : ∀ (L : List Nat), L.Nodup → (∀ i ∈ L, i < n ∧ f i = true) → L.length ≤ oc_cnt f n := by
  intro L
  induction L generalizing f with
  | nil => intro _ _; exact Nat.zero_le _
  | cons a t ih =>
    intro hd h
    obtain ⟨h1, h2⟩ := List.nodup_cons.mp hd
    have ha := h a List.mem_cons_self
    have h3 := ih (f := fun i => f i && !(i == a)) h2 (fun i hi => by
      have q := h i (List.mem_cons_of_mem _ hi)
      refine ⟨q.1, ?_⟩
      have : (i == a) = false := by simpa using (fun e : i = a => h1 (e ▸ hi))
      rw [q.2, this]; rfl)
    have h4 := oc_cnt_rm ha.2 n ha.1
    rw [List.length_cons]
    omega
theorem oc_cnt_le (f : Nat → Bool) : ∀ (n : Nat), oc_cnt f n ≤ n
  | 0 => Nat.le_refl _
  | n + 1 => by
    unfold oc_cnt
    have := oc_cnt_le f n
    cases f n <;> simp <;> omega
/-! trees: n is the node, at order k, of the block of F that begins at b -/
def oc_uni (F : Nat → Bool) (b s : Nat) (x : Bool) : Prop := ∀ j, j < s → F (b + j) = x
def oc_rp (P : Nat → Nat) (U : Nat → Prop) (F : Nat → Bool) : Nat → Nat → Nat → Prop
  | 0, b, n => n = (F b).toNat
  | k + 1, b, n => (∃ x : Bool, n = x.toNat ∧ oc_uni F b (8 ^ (k + 1)) x) ∨ (2 ≤ n ∧ n < 512 ∧ U n ∧ (¬ ∃ x : Bool, oc_uni F b (8 ^ (k + 1)) x) ∧ ∀ i, i < 8 → oc_rp P U F k (b + i * 8 ^ k) (P (n * 8 + i)))
theorem oc_bn (x : Bool) : x.toNat < 2 := by cases x <;> decide
theorem oc_bni {x y : Bool} (h : x.toNat = y.toNat) : x = y := by cases x <;> cases y <;> first | rfl | cases h
theorem oc_p8 (k : Nat) : 0 < 8 ^ k := Nat.pow_pos (by decide)
theorem oc_uni_one {F : Nat → Bool} {b s : Nat} {x y : Bool} (hs : 0 < s) (h1 : oc_uni F b s x) (h2 : oc_uni F b s y) : x = y := (h1 0 hs).symm.trans (h2 0 hs)
section RP
variable {P : Nat → Nat} {U : Nat → Prop} {F G : Nat → Bool}
theorem oc_rp_uni {k b n : Nat} {x : Bool} (h : oc_rp P U F k b n) (hu : oc_uni F b (8 ^ k) x) : n = x.toNat := by
  cases k with
  | zero =>
    rw [show n = (F b).toNat from h]
    have := hu 0 (by decide)
    rw [Nat.add_zero] at this
    rw [this]
  | succ k =>
    rcases h with ⟨y, h1, h2⟩ | ⟨-, -, -, h1, -⟩
    · rw [h1, oc_uni_one (oc_p8 _) h2 hu]
    · exact absurd ⟨x, hu⟩ h1
theorem oc_rp_lt {k b n : Nat} (h : oc_rp P U F k b n) (hn : n < 2) : ∃ x : Bool, n = x.toNat ∧ oc_uni F b (8 ^ k) x := by
  cases k with
  | zero =>
    refine ⟨F b, h, fun j hj => ?_⟩
    rw [show j = 0 by simp at hj; omega]
    rfl
  | succ k =>
    rcases h with h | ⟨h1, -⟩
    · exact h
    · omega
theorem oc_rp_b {k b n : Nat} (h : oc_rp P U F k b n) : n < 512 := by
  cases k with
  | zero =>
    have := oc_bn (F b)
    rw [show n = (F b).toNat from h]
    omega
  | succ k =>
    rcases h with ⟨x, h1, -⟩ | ⟨-, h1, -⟩
    · have := oc_bn x
      omega
    · exact h1
theorem oc_rp_in {k b n : Nat} (h : oc_rp P U F (k + 1) b n) (hn : 2 ≤ n) : U n ∧ (¬ ∃ x : Bool, oc_uni F b (8 ^ (k + 1)) x) ∧ ∀ i, i < 8 → oc_rp P U F k (b + i * 8 ^ k) (P (n * 8 + i)) := by
  rcases h with ⟨x, h1, -⟩ | ⟨-, -, h1, h2, h3⟩
  · have := oc_bn x
    omega
  · exact ⟨h1, h2, h3⟩
theorem oc_rp_of {V : Nat → Prop} {Q : Nat → Nat} {k b n : Nat} (h : oc_rp P U F (k + 1) b n) (hv : 2 ≤ n → V n) (hc : 2 ≤ n → ∀ i, i < 8 → oc_rp Q V F k (b + i * 8 ^ k) (Q (n * 8 + i))) : oc_rp Q V F (k + 1) b n := by
  rcases h with h | ⟨h1, h2, h3, h4, h5⟩
  · exact Or.inl h
  · exact Or.inr ⟨h1, h2, hv h1, h4, hc h1⟩
theorem oc_rp_mono {V : Nat → Prop} {Q : Nat → Nat} (hU : ∀ n, U n → V n) (hP : ∀ n i, U n → i < 8 → Q (n * 8 + i) = P (n * 8 + i)) : ∀ {k b n : Nat}, oc_rp P U F k b n → oc_rp Q V F k b n
  | 0, b, n, h => h
  | k + 1, b, n, h => by
    rcases h with h | ⟨h1, h2, h3, h4, h5⟩
    · exact Or.inl h
    · refine Or.inr ⟨h1, h2, hU n h3, h4, fun i hi => ?_⟩
      rw [hP n i h3 hi]
      exact oc_rp_mono hU hP (h5 i hi)
theorem oc_blk {k i j : Nat} (hi : i < 8) (hj : j < 8 ^ k) : i * 8 ^ k + j < 8 ^ (k + 1) := by
  rw [Nat.pow_succ]
  have : (i + 1) * 8 ^ k ≤ 8 * 8 ^ k := Nat.mul_le_mul_right _ (by omega)
  rw [Nat.add_mul] at this
  omega
theorem oc_unblk {k j : Nat} (hj : j < 8 ^ (k + 1)) : j / 8 ^ k < 8 ∧ j % 8 ^ k < 8 ^ k ∧ j = j / 8 ^ k * 8 ^ k + j % 8 ^ k := by
  have hp := oc_p8 k
  refine ⟨?_, Nat.mod_lt _ hp, ?_⟩
  · rw [Nat.div_lt_iff_lt_mul hp, Nat.mul_comm, ← Nat.pow_succ]
    exact hj
  · rw [Nat.mul_comm]
    exact (Nat.div_add_mod j (8 ^ k)).symm
theorem oc_rp_to : ∀ {k b b' n : Nat}, oc_rp P U F k b n → (∀ j, j < 8 ^ k → F (b + j) = G (b' + j)) → oc_rp P U G k b' n
  | 0, b, b', n, h, e => by
    have := e 0 (by decide)
    rw [Nat.add_zero, Nat.add_zero] at this
    show n = (G b').toNat
    rw [← this]
    exact h
  | k + 1, b, b', n, h, e => by
    have hu : ∀ x, oc_uni F b (8 ^ (k + 1)) x ↔ oc_uni G b' (8 ^ (k + 1)) x := fun x => ⟨fun q j hj => (e j hj).symm.trans (q j hj), fun q j hj => (e j hj).trans (q j hj)⟩
    rcases h with ⟨x, h1, h2⟩ | ⟨h1, h2, h3, h4, h5⟩
    · exact Or.inl ⟨x, h1, (hu x).mp h2⟩
    · refine Or.inr ⟨h1, h2, h3, fun ⟨x, q⟩ => h4 ⟨x, (hu x).mpr q⟩, fun i hi => oc_rp_to (h5 i hi) (fun j hj => ?_)⟩
      rw [Nat.add_assoc, Nat.add_assoc]
      exact e _ (oc_blk hi hj)
/-- the same node: the same block -/
theorem oc_rp_inj : ∀ {k b b' n : Nat}, oc_rp P U F k b n → oc_rp P U G k b' n → ∀ j, j < 8 ^ k → F (b + j) = G (b' + j)
  | 0, b, b', n, h, h', j, hj => by
    rw [show j = 0 by simp at hj; omega]
    exact oc_bni ((show n = (F b).toNat from h).symm.trans (show n = (G b').toNat from h'))
  | k + 1, b, b', n, h, h', j, hj => by
    by_cases hn : n < 2
    · obtain ⟨x, e1, u1⟩ := oc_rp_lt h hn
      obtain ⟨y, e2, u2⟩ := oc_rp_lt h' hn
      rw [u1 j hj, u2 j hj]
      exact oc_bni (e1.symm.trans e2)
    · obtain ⟨-, -, c1⟩ := oc_rp_in h (by omega)
      obtain ⟨-, -, c2⟩ := oc_rp_in h' (by omega)
      obtain ⟨a1, a2, a3⟩ := oc_unblk hj
      have := oc_rp_inj (c1 _ a1) (c2 _ a1) _ a2
      rw [Nat.add_assoc, Nat.add_assoc, ← a3] at this
      exact this
def oc_unq (P : Nat → Nat) (U : Nat → Prop) : Prop := ∀ m n, U m → U n → (∀ i, i < 8 → P (m * 8 + i) = P (n * 8 + i)) → m = n
/-- the same block: the same node -/
theorem oc_rp_det (hq : oc_unq P U) : ∀ {k b n n' : Nat}, oc_rp P U F k b n → oc_rp P U F k b n' → n = n'
  | 0, b, n, n', h, h' => (show n = (F b).toNat from h).trans (show n' = (F b).toNat from h').symm
  | k + 1, b, n, n', h, h' => by
    by_cases hn : ∃ x : Bool, oc_uni F b (8 ^ (k + 1)) x
    · obtain ⟨x, hx⟩ := hn
      rw [oc_rp_uni h hx, oc_rp_uni h' hx]
    · rcases h with ⟨x, -, h⟩ | ⟨h1, h2, h3, h4, h5⟩
      · exact absurd ⟨x, h⟩ hn
      · rcases h' with ⟨x, -, h⟩ | ⟨g1, g2, g3, g4, g5⟩
        · exact absurd ⟨x, h⟩ hn
        · exact hq n n' h3 g3 (fun i hi => oc_rp_det hq (h5 i hi) (g5 i hi))
theorem oc_rp_eq (hq : oc_unq P U) {k b b' n n' : Nat} (h : oc_rp P U F k b n) (h' : oc_rp P U G k b' n') : n = n' ↔ ∀ j, j < 8 ^ k → F (b + j) = G (b' + j) := by
  constructor
  · intro e
    subst e
    exact oc_rp_inj h h'
  · intro e
    exact oc_rp_det hq (oc_rp_to h e) h'
/-- one step down -/
theorem oc_rp_dn {k b n i : Nat} (h : oc_rp P U F (k + 1) b n) (hi : i < 8) : oc_rp P U F k (b + i * 8 ^ k) (if n < 2 then n else P (n * 8 + i)) := by
  by_cases hn : n < 2
  · rw [if_pos hn]
    obtain ⟨x, e, u⟩ := oc_rp_lt h hn
    have hs : oc_uni F (b + i * 8 ^ k) (8 ^ k) x := fun j hj => by
      rw [Nat.add_assoc]
      exact u _ (oc_blk hi hj)
    cases k with
    | zero =>
      show n = (F (b + i * 8 ^ 0)).toNat
      have := hs 0 (by decide)
      rw [Nat.add_zero] at this
      rw [this]
      exact e
    | succ k => exact Or.inl ⟨x, e, hs⟩
  · rw [if_neg hn]
    exact (oc_rp_in h (by omega)).2.2 i hi
/-- eight even parts that are one -/
theorem oc_rp_even {E : Nat → Nat} {k b : Nat} (h : ∀ i, i < 8 → oc_rp P U F k (b + i * 8 ^ k) (E i)) (he : E 0 ≤ 1 ∧ ∀ i, i < 8 → E i = E 0) : oc_rp P U F (k + 1) b (E 0) := by
  obtain ⟨x, e0, -⟩ := oc_rp_lt (h 0 (by decide)) (by omega)
  refine Or.inl ⟨x, e0, fun j hj => ?_⟩
  obtain ⟨a1, a2, a3⟩ := oc_unblk hj
  obtain ⟨y, e1, u1⟩ := oc_rp_lt (h _ a1) (by have := he.2 _ a1; omega)
  have := u1 _ a2
  rw [Nat.add_assoc, ← a3] at this
  rw [this]
  exact oc_bni (by rw [← e1, ← e0]; exact he.2 _ a1)
theorem oc_rp_node {E : Nat → Nat} {k b n : Nat} (h : ∀ i, i < 8 → oc_rp P U F k (b + i * 8 ^ k) (E i)) (he : ¬ (E 0 ≤ 1 ∧ ∀ i, i < 8 → E i = E 0)) (h2 : 2 ≤ n) (hb : n < 512) (hU : U n) (hp : ∀ i, i < 8 → P (n * 8 + i) = E i) : oc_rp P U F (k + 1) b n := by
  refine Or.inr ⟨h2, hb, hU, ?_, fun i hi => by rw [hp i hi]; exact h i hi⟩
  rintro ⟨x, hx⟩
  have key : ∀ i, i < 8 → E i = x.toNat := fun i hi => oc_rp_uni (h i hi) (fun j hj => by
    rw [Nat.add_assoc]
    exact hx _ (oc_blk hi hj))
  refine he ⟨?_, fun i hi => by rw [key i hi, key 0 (by decide)]⟩
  have := oc_bn x
  rw [key 0 (by decide)]
  omega
end RP
end
section
/-! the state between and within calls: plain laws -/
set_option maxRecDepth 100000
def oc_us (v : Nat → Nat → Nat) (j : Nat) : Prop := j < 512 ∧ v 1 j = 1
/-- between the calls: each root is the node of its solid's content (in the order of the parts), equal nodes are one -/
def oc_I (v : Nat → Nat → Nat) (F : Nat → Nat → Bool) : Prop := oc_wf v ∧ (∀ r, r < 4 → oc_rp (v 0) (oc_us v) (F r) 3 0 (v 5 r)) ∧ oc_unq (v 0) (oc_us v)
/-- while a tree is made, k parts made -/
def oc_bi (w : Nat → Nat → Nat) (k : Nat) : Prop := oc_wf w ∧ (∀ j, j < 512 → w 1 j < 2) ∧ (∀ j, j < 512 → w 1 j = 1 → 2 ≤ j) ∧ oc_chn (w 3) (w 2) (fun x h => 2 ≤ x ∧ x < 512 ∧ w 1 x = 1 ∧ oc_nm w x = h) ∧ 2 ≤ w 9 0 ∧ w 9 0 ≤ 511 ∧ (∀ g, 2 ≤ g → g < w 9 0 → w 1 g = 1) ∧ oc_cnt (fun j => decide (w 1 j = 1)) 512 ≤ 292 + k ∧ oc_unq (w 0) (oc_us w)
theorem oc_rch_U {P : Nat → Nat} {U : Nat → Prop} {F : Nat → Bool} {n j : Nat} (h : oc_rp P U F 3 0 n) (hj : oc_rch P n j) : U j ∧ 2 ≤ j := by
  obtain ⟨h2, hj⟩ := hj
  obtain ⟨a1, -, a3⟩ := oc_rp_in h h2
  rcases hj with rfl | ⟨i, hi, ⟨rfl, q⟩ | ⟨q, k, hk, rfl, q2⟩⟩
  · exact ⟨a1, h2⟩
  · exact ⟨(oc_rp_in (a3 i hi) q).1, q⟩
  · exact ⟨(oc_rp_in ((oc_rp_in (a3 i hi) q).2.2 k hk) q2).1, q2⟩
theorem oc_rp_rch {P : Nat → Nat} {U : Nat → Prop} {F : Nat → Bool} {n : Nat} (h : oc_rp P U F 3 0 n) : oc_rp P (fun j => U j ∧ oc_rch P n j) F 3 0 n := by
  refine oc_rp_of h (fun h2 => ⟨(oc_rp_in h h2).1, h2, Or.inl rfl⟩) (fun h2 i hi => ?_)
  have c2 := (oc_rp_in h h2).2.2 i hi
  refine oc_rp_of c2 (fun g2 => ⟨(oc_rp_in c2 g2).1, h2, Or.inr ⟨i, hi, Or.inl ⟨rfl, g2⟩⟩⟩) (fun g2 k hk => ?_)
  have c1 := (oc_rp_in c2 g2).2.2 k hk
  refine oc_rp_of c1 (fun f2 => ⟨(oc_rp_in c1 f2).1, h2, Or.inr ⟨i, hi, Or.inr ⟨g2, k, hk, rfl, f2⟩⟩⟩) (fun f2 m hm => ?_)
  exact (oc_rp_in c1 f2).2.2 m hm
def oc_lst (v : Nat → Nat → Nat) : List Nat := (List.range 4).flatMap (fun r => v 5 r :: (List.range 8).flatMap (fun i => v 0 (v 5 r * 8 + i) :: (List.range 8).map (fun k => v 0 (v 0 (v 5 r * 8 + i) * 8 + k))))
theorem oc_lst_len (v : Nat → Nat → Nat) : (oc_lst v).length = 292 := rfl
theorem oc_lst_mem {v : Nat → Nat → Nat} {j : Nat} (h : oc_live v j) : j ∈ oc_lst v := by
  obtain ⟨r, hr, -, hj⟩ := h
  unfold oc_lst
  refine List.mem_flatMap.mpr ⟨r, List.mem_range.mpr hr, ?_⟩
  rcases hj with rfl | ⟨i, hi, ⟨rfl, -⟩ | ⟨-, k, hk, rfl, -⟩⟩
  · exact List.mem_cons_self
  · exact List.mem_cons_of_mem _ (List.mem_flatMap.mpr ⟨i, List.mem_range.mpr hi, List.mem_cons_self⟩)
  · exact List.mem_cons_of_mem _ (List.mem_flatMap.mpr ⟨i, List.mem_range.mpr hi, List.mem_cons_of_mem _ (List.mem_map.mpr ⟨k, List.mem_range.mpr hk, rfl⟩)⟩)
theorem oc_swp_bi {v u : Nat → Nat → Nat} {F : Nat → Nat → Bool} (hI : oc_I v F) (hs : oc_swp v u) : oc_bi u 0 ∧ ∀ r, r < 4 → oc_rp (u 0) (oc_us u) (F r) 3 0 (u 5 r) := by
  obtain ⟨hw, hr, hq⟩ := hI
  obtain ⟨s1, s2, s3, s4, s5, s6⟩ := hs
  have e0 : ∀ j, u 0 j = v 0 j := fun j => s1 0 j (by decide) (by decide) (by decide) (fun z => absurd z.1 (by decide))
  have e5 : ∀ j, u 5 j = v 5 j := fun j => s1 5 j (by decide) (by decide) (by decide) (fun z => absurd z.1 (by decide))
  have lv : ∀ j, oc_live v j → oc_us v j ∧ 2 ≤ j := fun j ⟨r, h1, h2⟩ => oc_rch_U (hr r h1) h2
  have ul : ∀ j, j < 512 → u 1 j = 1 → oc_live v j := fun j hj h1 => Classical.byContradiction (fun q => by
    rw [s4 j hj q] at h1
    cases h1)
  refine ⟨⟨fun j hj => by rw [e0]; exact hw j hj, fun j hj => ?_, fun j hj h1 => (lv j (ul j hj h1)).2, s6, by rw [s2]; exact Nat.le_refl _, by rw [s2]; decide, fun g g1 g2 => by rw [s2] at g2; omega, ?_, ?_⟩, fun r h => ?_⟩
  · by_cases q : oc_live v j
    · rw [s3 j q]; decide
    · rw [s4 j hj q]; decide
  · have := oc_cnt_cover (f := fun j => decide (u 1 j = 1)) (n := 512) (oc_lst v) (fun i hi hf => oc_lst_mem (ul i hi (of_decide_eq_true hf)))
    rw [oc_lst_len] at this
    exact this
  · intro m n hm hn he
    refine hq m n (lv m (ul m hm.1 hm.2)).1 (lv n (ul n hn.1 hn.2)).1 (fun i hi => ?_)
    rw [← e0, ← e0]
    exact he i hi
  · rw [e5]
    exact oc_rp_mono (fun n hn => ⟨hn.1.1, s3 n ⟨r, h, hn.2⟩⟩) (fun n i _ _ => e0 _) (oc_rp_rch (hr r h))
theorem oc_cre_0 {w : Nat → Nat → Nat} {n k i : Nat} (hi : i < 8) : oc_cre w n k 0 (n * 8 + i) = w 6 i := by
  unfold oc_cre
  rw [if_pos ⟨rfl, by omega, by omega⟩, show n * 8 + i - n * 8 = i by omega]
theorem oc_cre_0' {w : Nat → Nat → Nat} {n k m i : Nat} (hm : m ≠ n) (hi : i < 8) : oc_cre w n k 0 (m * 8 + i) = w 0 (m * 8 + i) := by
  unfold oc_cre
  rw [if_neg (by omega), if_neg (fun q => absurd q.1 (by decide)), if_neg (fun q => absurd q.1 (by decide)), if_neg (fun q => absurd q.1 (by decide)), if_neg (fun q => absurd q.1 (by decide))]
theorem oc_cre_1 {w : Nat → Nat → Nat} {n k : Nat} : oc_cre w n k 1 n = 1 := by
  unfold oc_cre
  rw [if_neg (fun q => absurd q.1 (by decide)), if_pos ⟨rfl, rfl⟩]
theorem oc_cre_1' {w : Nat → Nat → Nat} {n k j : Nat} (h : j ≠ n) : oc_cre w n k 1 j = w 1 j := by
  unfold oc_cre
  rw [if_neg (fun q => absurd q.1 (by decide)), if_neg (fun q => h q.2), if_neg (fun q => absurd q.1 (by decide)), if_neg (fun q => absurd q.1 (by decide)), if_neg (fun q => absurd q.1 (by decide))]
theorem oc_cre_2 {w : Nat → Nat → Nat} {n k : Nat} : oc_cre w n k 2 k = n + 1 := by
  unfold oc_cre
  rw [if_neg (fun q => absurd q.1 (by decide)), if_neg (fun q => absurd q.1 (by decide)), if_pos ⟨rfl, rfl⟩]
theorem oc_cre_2' {w : Nat → Nat → Nat} {n k h : Nat} (hh : h ≠ k) : oc_cre w n k 2 h = w 2 h := by
  unfold oc_cre
  rw [if_neg (fun q => absurd q.1 (by decide)), if_neg (fun q => absurd q.1 (by decide)), if_neg (fun q => hh q.2), if_neg (fun q => absurd q.1 (by decide)), if_neg (fun q => absurd q.1 (by decide))]
theorem oc_cre_3 {w : Nat → Nat → Nat} {n k : Nat} : oc_cre w n k 3 n = w 2 k := by
  unfold oc_cre
  rw [if_neg (fun q => absurd q.1 (by decide)), if_neg (fun q => absurd q.1 (by decide)), if_neg (fun q => absurd q.1 (by decide)), if_pos ⟨rfl, rfl⟩]
theorem oc_cre_3' {w : Nat → Nat → Nat} {n k j : Nat} (h : j ≠ n) : oc_cre w n k 3 j = w 3 j := by
  unfold oc_cre
  rw [if_neg (fun q => absurd q.1 (by decide)), if_neg (fun q => absurd q.1 (by decide)), if_neg (fun q => absurd q.1 (by decide)), if_neg (fun q => h q.2), if_neg (fun q => absurd q.1 (by decide))]
theorem oc_cre_9 {w : Nat → Nat → Nat} {n k : Nat} : oc_cre w n k 9 0 = n := by
  unfold oc_cre
  rw [if_neg (fun q => absurd q.1 (by decide)), if_neg (fun q => absurd q.1 (by decide)), if_neg (fun q => absurd q.1 (by decide)), if_neg (fun q => absurd q.1 (by decide)), if_pos ⟨rfl, rfl⟩]
theorem oc_cre_o {w : Nat → Nat → Nat} {n k a j : Nat} (h0 : a ≠ 0) (h1 : a ≠ 1) (h2 : a ≠ 2) (h3 : a ≠ 3) (h9 : ¬ (a = 9 ∧ j = 0)) : oc_cre w n k a j = w a j := by
  unfold oc_cre
  rw [if_neg (fun q => h0 q.1), if_neg (fun q => h1 q.1), if_neg (fun q => h2 q.1), if_neg (fun q => h3 q.1), if_neg h9]
/-- what one make does, told of trees -/
theorem oc_mk_step {w u : Nat → Nat → Nat} {k : Nat} {r : Int32} {L : List Nat} (hB : oc_bi w k) (hk : k ≤ 80) (he : ∀ i, i < 8 → w 6 i < 512) (hL : ∀ x, x ∈ L ↔ (2 ≤ x ∧ x < 512 ∧ w 1 x = 1 ∧ oc_nm w x = oc_mk (w 6)))
    (hp : (oc_ev (w 6) 8 ∧ r = nI (w 6 0) ∧ w = u) ∨ (¬ oc_ev (w 6) 8 ∧ ((∃ n, n ∈ L ∧ (∀ i, i < 8 → w 0 (n * 8 + i) = w 6 i) ∧ r = nI n ∧ w = u) ∨ ((∀ n, n ∈ L → ¬ ∀ i, i < 8 → w 0 (n * 8 + i) = w 6 i) ∧ oc_crp w (oc_mk (w 6)) r u)))) :
    ∃ n, r = nI n ∧ n < 512 ∧ oc_bi u (k + 1) ∧ (∀ a j, a ≠ 0 → a ≠ 1 → a ≠ 2 → a ≠ 3 → ¬ (a = 9 ∧ j = 0) → u a j = w a j) ∧ (∀ (F : Nat → Bool) (o b x : Nat), oc_rp (w 0) (oc_us w) F o b x → oc_rp (u 0) (oc_us u) F o b x) ∧ (∀ (F : Nat → Bool) (o b : Nat), (∀ i, i < 8 → oc_rp (w 0) (oc_us w) F o (b + i * 8 ^ o) (w 6 i)) → oc_rp (u 0) (oc_us u) F (o + 1) b n) := by
  have keep : oc_bi w (k + 1) := by
    obtain ⟨b1, b2, b3, b4, b5, b6, b7, b8, b9⟩ := hB
    exact ⟨b1, b2, b3, b4, b5, b6, b7, by omega, b9⟩
  rcases hp with ⟨hev, rfl, rfl⟩ | ⟨hev, ⟨n, hn, hpn, rfl, rfl⟩ | ⟨hno, n, rfl, n1, n2, n3, n4, hu⟩⟩
  · exact ⟨w 6 0, rfl, he 0 (by decide), keep, fun _ _ _ _ _ _ _ => rfl, fun _ _ _ _ h => h, fun F o b h => oc_rp_even h hev⟩
  · have q := (hL n).mp hn
    exact ⟨n, rfl, q.2.1, keep, fun _ _ _ _ _ _ _ => rfl, fun _ _ _ _ h => h, fun F o b h => oc_rp_node h hev q.1 q.2.1 ⟨q.2.1, q.2.2.1⟩ hpn⟩
  · obtain ⟨b1, b2, b3, b4, b5, b6, b7, b8, b9⟩ := hB
    obtain rfl : u = oc_cre w n (oc_mk (w 6)) := funext (fun a => funext (fun j => hu a j))
    have run : ∀ g, 2 ≤ g → g < n → w 1 g = 1 := fun g g1 g2 => by
      rcases Nat.lt_or_ge g (w 9 0) with q | q
      · exact b7 g g1 q
      · exact n3 g q g2
    have hn511 : n < 511 := by
      have c1 := oc_cnt_run (f := fun j => decide (w 1 j = 1)) (a := 2) n (fun g g1 g2 => decide_eq_true (run g g1 g2))
      have c2 := oc_cnt_grow (f := fun j => decide (w 1 j = 1)) (show n ≤ 512 by omega)
      omega
    have hz : w 1 n = 0 := by
      rcases n4 with q | q
      · omega
      · exact q
    have h2n : 2 ≤ n := by omega
    have ne : ∀ m, oc_us w m → m ≠ n := fun m hm q => by
      rw [q] at hm
      have := hm.2
      omega
    have mono : ∀ (F : Nat → Bool) (o b x : Nat), oc_rp (w 0) (oc_us w) F o b x → oc_rp (oc_cre w n (oc_mk (w 6)) 0) (oc_us (oc_cre w n (oc_mk (w 6)))) F o b x := fun F o b x h =>
      oc_rp_mono (fun m hm => ⟨hm.1, by rw [oc_cre_1' (ne m hm)]; exact hm.2⟩) (fun m i hm hi => oc_cre_0' (ne m hm) hi) h
    have us' : ∀ m, oc_us (oc_cre w n (oc_mk (w 6))) m → m ≠ n → oc_us w m := fun m hm q => ⟨hm.1, by rw [← oc_cre_1' (w := w) (k := oc_mk (w 6)) q]; exact hm.2⟩
    refine ⟨n, rfl, by omega, ⟨fun j hj => ?_, fun j hj => ?_, fun j hj h1 => ?_, ?_, ?_, ?_, ?_, ?_, ?_⟩, fun a j h0 h1 h2 h3 h9 => oc_cre_o h0 h1 h2 h3 h9, mono, fun F o b h => ?_⟩
    · unfold oc_cre
      split
      · exact he _ (by omega)
      · rw [if_neg (fun q => absurd q.1 (by decide)), if_neg (fun q => absurd q.1 (by decide)), if_neg (fun q => absurd q.1 (by decide)), if_neg (fun q => absurd q.1 (by decide))]
        exact b1 j hj
    · by_cases q : j = n
      · rw [q, oc_cre_1]; decide
      · rw [oc_cre_1' q]; exact b2 j hj
    · by_cases q : j = n
      · omega
      · rw [oc_cre_1' q] at h1
        exact b3 j hj h1
    · refine (b4.ins (n := n) (k := oc_mk (w 6)) (ch' := oc_cre w n (oc_mk (w 6)) 3) (hd' := oc_cre w n (oc_mk (w 6)) 2) (fun h q => by have := q.2.2.1; omega) (fun x hx => oc_cre_3' hx) oc_cre_3 (fun h hh => oc_cre_2' hh) oc_cre_2).iff (fun x h _ => ?_)
      by_cases q : x = n
      · subst q
        have e : oc_nm (oc_cre w x (oc_mk (w 6))) x = oc_mk (w 6) := oc_mk_eq (fun i hi => oc_cre_0 hi)
        rw [e, oc_cre_1]
        constructor
        · rintro (⟨-, -, q, -⟩ | ⟨-, q⟩)
          · omega
          · exact ⟨h2n, by omega, rfl, q.symm⟩
        · rintro ⟨-, -, -, q⟩
          exact Or.inr ⟨rfl, q.symm⟩
      · have e : oc_nm (oc_cre w n (oc_mk (w 6))) x = oc_nm w x := oc_mk_eq (fun i hi => oc_cre_0' q hi)
        rw [e, oc_cre_1' q]
        constructor
        · rintro (z | ⟨z, -⟩)
          · exact z
          · exact absurd z q
        · exact fun z => Or.inl z
    · rw [oc_cre_9]; exact h2n
    · rw [oc_cre_9]; omega
    · intro g g1 g2
      rw [oc_cre_9] at g2
      rw [oc_cre_1' (by omega)]
      exact run g g1 g2
    · have c1 := oc_cnt_or (fun j => decide (w 1 j = 1)) (fun j => j == n) 512
      have c2 := oc_cnt_one n 512
      rw [if_pos (by omega)] at c2
      have c3 : oc_cnt (fun j => decide (oc_cre w n (oc_mk (w 6)) 1 j = 1)) 512 ≤ oc_cnt (fun j => decide (w 1 j = 1) || j == n) 512 := oc_cnt_mono 512 (fun i hi hf => by
        by_cases q : i = n
        · simp [q]
        · rw [oc_cre_1' q] at hf
          rw [hf]
          rfl)
      omega
    · intro m1 m2 h1 h2 e
      by_cases q1 : m1 = n
      · by_cases q2 : m2 = n
        · rw [q1, q2]
        · exfalso
          have z := us' m2 h2 q2
          have e' : ∀ i, i < 8 → w 0 (m2 * 8 + i) = w 6 i := fun i hi => by
            have := e i hi
            rw [q1, oc_cre_0 hi, oc_cre_0' q2 hi] at this
            exact this.symm
          exact hno m2 ((hL m2).mpr ⟨b3 m2 z.1 z.2, z.1, z.2, oc_mk_eq e'⟩) e'
      · have z1 := us' m1 h1 q1
        by_cases q2 : m2 = n
        · exfalso
          have e' : ∀ i, i < 8 → w 0 (m1 * 8 + i) = w 6 i := fun i hi => by
            have := e i hi
            rw [q2, oc_cre_0 hi, oc_cre_0' q1 hi] at this
            exact this
          exact hno m1 ((hL m1).mpr ⟨b3 m1 z1.1 z1.2, z1.1, z1.2, oc_mk_eq e'⟩) e'
        · refine b9 m1 m2 z1 (us' m2 h2 q2) (fun i hi => ?_)
          have := e i hi
          rw [oc_cre_0' q1 hi, oc_cre_0' q2 hi] at this
          exact this
    · exact oc_rp_node (fun i hi => mono F o _ _ (h i hi)) hev h2n (by omega) ⟨by omega, oc_cre_1⟩ (fun i hi => oc_cre_0 hi)
/-- the place of a cell in the order of the parts -/
def oc_mo (c : Nat) : Nat := 64 * oc_pt c 2 + 8 * oc_pt c 1 + oc_pt c 0
theorem oc_cub_1 {P : Nat → Nat} {U : Nat → Prop} {F : Nat → Bool} {n : Nat} (h : oc_rp P U F 3 0 n) (c : Nat) : oc_rp P U F 2 (64 * oc_pt c 2) (oc_cub P n c 1) := by
  have q := oc_rp_dn h (oc_pt_lt c 2)
  rw [show 0 + oc_pt c 2 * 8 ^ 2 = 64 * oc_pt c 2 by omega] at q
  exact q
theorem oc_cub_2 {P : Nat → Nat} {U : Nat → Prop} {F : Nat → Bool} {n : Nat} (h : oc_rp P U F 3 0 n) (c : Nat) : oc_rp P U F 1 (64 * oc_pt c 2 + 8 * oc_pt c 1) (oc_cub P n c 2) := by
  have q := oc_rp_dn (oc_cub_1 h c) (oc_pt_lt c 1)
  rw [show 64 * oc_pt c 2 + oc_pt c 1 * 8 ^ 1 = 64 * oc_pt c 2 + 8 * oc_pt c 1 by omega] at q
  exact q
theorem oc_cub_3 {P : Nat → Nat} {U : Nat → Prop} {F : Nat → Bool} {n : Nat} (h : oc_rp P U F 3 0 n) (c : Nat) : oc_cub P n c 3 = (F (oc_mo c)).toNat := by
  have q := oc_rp_dn (oc_cub_2 h c) (oc_pt_lt c 0)
  rw [show 64 * oc_pt c 2 + 8 * oc_pt c 1 + oc_pt c 0 * 8 ^ 0 = oc_mo c by unfold oc_mo; omega] at q
  exact q
/-- what a cell becomes, told of contents -/
def oc_cofB (t p d e : Nat) (X Y : Nat → Bool) (c : Nat) : Bool :=
  if t = 6 then X (oc_mo (c ^^^ 7 * 2 ^ (3 * p))) else if t = 4 then (if oc_box d e c = true then decide (p = 1) else X (oc_mo c)) else if t = 5 then !(X (oc_mo c)) else if t = 0 then X (oc_mo c) || Y (oc_mo c) else if t = 1 then X (oc_mo c) && Y (oc_mo c) else if t = 2 then X (oc_mo c) && !(Y (oc_mo c)) else X (oc_mo c) ^^ Y (oc_mo c)
theorem oc_cof_B {w : Nat → Nat → Nat} {X Y : Nat → Bool} (c : Nat) (hX : oc_rp (w 0) (oc_us w) X 3 0 (w 9 2)) (hY : w 9 1 < 4 → oc_rp (w 0) (oc_us w) Y 3 0 (w 9 3)) (ht : w 9 1 < 7) (h4 : w 9 1 = 4 → w 9 6 < 2) : oc_cof w c = (oc_cofB (w 9 1) (w 9 6) (w 9 4) (w 9 5) X Y c).toNat := by
  unfold oc_cof oc_cofB
  rw [oc_cub_3 hX, oc_cub_3 hX]
  by_cases k6 : w 9 1 = 6
  · rw [if_pos k6, if_pos k6]
  · rw [if_neg k6, if_neg k6]
    by_cases k4 : w 9 1 = 4
    · rw [if_pos k4, if_pos k4]
      have := h4 k4
      split
      · rcases (by omega : w 9 6 = 0 ∨ w 9 6 = 1) with q | q <;> rw [q] <;> rfl
      · rfl
    · rw [if_neg k4, if_neg k4]
      by_cases k5 : w 9 1 = 5
      · rw [if_pos k5, if_pos k5]
        cases X (oc_mo c) <;> rfl
      · rw [if_neg k5, if_neg k5, oc_cub_3 (hY (by omega))]
        unfold oc_op
        rcases (by omega : w 9 1 = 0 ∨ w 9 1 = 1 ∨ w 9 1 = 2 ∨ w 9 1 = 3) with q | q | q | q <;> rw [q] <;> cases X (oc_mo c) <;> cases Y (oc_mo c) <;> rfl
theorem oc_q_of {w : Nat → Nat → Nat} {X Y : Nat → Bool} (hw : oc_wf w) (hX : oc_rp (w 0) (oc_us w) X 3 0 (w 9 2)) (hY : w 9 1 < 4 → oc_rp (w 0) (oc_us w) Y 3 0 (w 9 3)) (ht : w 9 1 < 7) (h6 : w 9 1 = 6 → w 9 6 < 3) (h4 : w 9 1 = 4 → w 9 4 < 512 ∧ w 9 5 < 512 ∧ w 9 6 < 2) : oc_q w :=
  ⟨hw, oc_rp_b hX, ht, fun c _ => by rw [oc_cub_3 hX]; exact oc_bn _, fun h => ⟨oc_rp_b (hY h), fun c _ => by rw [oc_cub_3 (hY h)]; exact oc_bn _⟩, h6, h4⟩
end
section
/-! build -/
set_option maxRecDepth 100000
theorem oc_us_eq {w w' : Nat → Nat → Nat} (e : w' 1 = w 1) : oc_us w' = oc_us w := by
  funext j
  unfold oc_us
  rw [e]
theorem oc_bi.eq {w w' : Nat → Nat → Nat} {k : Nat} (h : oc_bi w k) (e0 : w' 0 = w 0) (e1 : w' 1 = w 1) (e2 : w' 2 = w 2) (e3 : w' 3 = w 3) (e9 : w' 9 0 = w 9 0) : oc_bi w' k := by
  unfold oc_bi oc_wf oc_nm at h ⊢
  rw [oc_us_eq e1, e0, e1, e2, e3, e9]
  exact h
/-- the work on a tree: k parts made; the question and the old roots are as they were -/
def oc_bs (v : Nat → Nat → Nat) (F : Nat → Nat → Bool) (w : Nat → Nat → Nat) (k : Nat) : Prop := oc_bi w k ∧ (∀ r, r < 4 → oc_rp (w 0) (oc_us w) (F r) 3 0 (v 5 r)) ∧ (∀ j, w 5 j = v 5 j) ∧ (∀ j, j ≠ 0 → w 9 j = v 9 j)
theorem oc_bs.eq {v w w' : Nat → Nat → Nat} {F : Nat → Nat → Bool} {k : Nat} (h : oc_bs v F w k) (e0 : w' 0 = w 0) (e1 : w' 1 = w 1) (e2 : w' 2 = w 2) (e3 : w' 3 = w 3) (e5 : w' 5 = w 5) (e9 : w' 9 = w 9) : oc_bs v F w' k := by
  obtain ⟨h1, h2, h3, h4⟩ := h
  refine ⟨h1.eq e0 e1 e2 e3 (by rw [e9]), fun r hr => ?_, fun j => by rw [e5]; exact h3 j, fun j hj => by rw [e9]; exact h4 j hj⟩
  rw [oc_us_eq e1, e0]
  exact h2 r hr
theorem oc_rp_w {w w' : Nat → Nat → Nat} {F : Nat → Bool} {k b n : Nat} (h : oc_rp (w 0) (oc_us w) F k b n) (e0 : w' 0 = w 0) (e1 : w' 1 = w 1) : oc_rp (w' 0) (oc_us w') F k b n := by
  rw [oc_us_eq e1, e0]
  exact h
theorem oc_cat_ok : ∀ m, m < 512 → oc_cat m < 512 ∧ oc_mo (oc_cat m) = m := by decide +kernel
theorem oc_mo_ok : ∀ c, c < 512 → oc_mo c < 512 ∧ oc_cat (oc_mo c) = c := by decide +kernel
/-- the new content, in the order of the parts -/
def oc_new (v : Nat → Nat → Nat) (X Y : Nat → Bool) (m : Nat) : Bool := oc_cofB (v 9 1) (v 9 6) (v 9 4) (v 9 5) X Y (oc_cat m)
theorem oc_bs.mk {v w u : Nat → Nat → Nat} {F : Nat → Nat → Bool} {k : Nat} (h : oc_bs v F w k) (hb : oc_bi u (k + 1)) (ho : ∀ a j, a ≠ 0 → a ≠ 1 → a ≠ 2 → a ≠ 3 → ¬ (a = 9 ∧ j = 0) → u a j = w a j) (hm : ∀ (F : Nat → Bool) (o b x : Nat), oc_rp (w 0) (oc_us w) F o b x → oc_rp (u 0) (oc_us u) F o b x) : oc_bs v F u (k + 1) := by
  obtain ⟨h1, h2, h3, h4⟩ := h
  refine ⟨hb, fun r hr => hm _ _ _ _ (h2 r hr), fun j => ?_, fun j hj => ?_⟩
  · rw [ho 5 j (by decide) (by decide) (by decide) (by decide) (fun z => absurd z.1 (by decide))]
    exact h3 j
  · rw [ho 9 j (by decide) (by decide) (by decide) (by decide) (fun z => hj z.2)]
    exact h4 j hj
theorem mX_build (l : Launch) (D : va_G) (dS dZ : ClassId) (ad : Nat → Nat) (v : Nat → Nat → Nat) (F : Nat → Nat → Bool) (r a b : Nat) (hr : r < 4) (hI : oc_I v F) (ha : a < 4) (hb : b < 4) (hla : v 9 2 = v 5 a) (hlb : v 9 1 < 4 → v 9 3 = v 5 b) (ht : v 9 1 < 7) (h6' : v 9 1 = 6 → v 9 6 < 3) (h4 : v 9 1 = 4 → v 9 4 < 512 ∧ v 9 5 < 512 ∧ v 9 6 < 2) :
    oc_Mv l D (oc_tx dS dZ) 4 yX0_build cX0_build 5 [.ref (ad 0), .int (nI r)] (oc_xW ad dS dZ) (oc_xW ad dS dZ v) (fun u => oc_I u (fun r' => if r' = r then oc_new v (F a) (F b) else F r')) := by
  refine oc_Mv.of (own := RX0) (by decide) rfl (Nat.le_of_ble_eq_true rfl) (by simp [Value.category]) [some (.ref (ad 0)), some (.int (nI r)), none, none, none] rfl ?_
  intro p e s m args below meth cd A Q X hret
  have mkl : ∀ (w : Nat → Nat → Nat) (k : Nat), oc_bi w k → ∃ L : List Nat, oc_lnk (w 3) L (w 2 (oc_mk (w 6))) ∧ (∀ n ∈ L, n < 512) ∧ L.length ≤ 512 ∧ ∀ x, x ∈ L ↔ (2 ≤ x ∧ x < 512 ∧ w 1 x = 1 ∧ oc_nm w x = oc_mk (w 6)) := by
    intro w k hB
    obtain ⟨L, l1, l2, l3⟩ := hB.2.2.2.1 (oc_mk (w 6)) (oc_mk_lt _)
    refine ⟨L, l1, fun n hn => ((l3 n).mp hn).2.1, ?_, l3⟩
    exact Nat.le_trans (oc_nodup_le (f := fun _ => true) (n := 512) L l2 (fun i hi => ⟨((l3 i).mp hi).2.1, rfl⟩)) (oc_cnt_le _ 512)
  have third : ∀ (t i : Nat) (w : Nat → Nat → Nat) (p3 p4 : Option Value), i + t = 8 → oc_bs v F w 72 → (∀ q, q < 8 → oc_rp (w 0) (oc_us w) (oc_new v (F a) (F b)) 2 (64 * q) (w 8 q)) → (∀ q, q < i → w 6 q = w 8 q) → gg p l e (oc_rm 4) s m args below meth cd Q 0 0 D A 5 (oc_xW ad dS dZ w) 125 [some (.ref (ad 0)), some (.int (nI r)), some (.int (nI i)), p3, p4] [] := by
    intro t
    induction t with
    | zero =>
      intro i w p3 p4 hi hB h8 h6
      obtain rfl : i = 8 := by omega
      have he : ∀ i, i < 8 → w 6 i < 512 := fun i hi => by rw [h6 i hi]; exact oc_rp_b (h8 i hi)
      obtain ⟨L, l1, l2, l3, l4⟩ := mkl w 72 hB.1
      obtain ⟨b1, b2, b3, b4, b5, b6, b7, b8, b9⟩ := id hB.1
      refine gg_ild_n X (pc := 125) dX0_build_125 rfl ?_
      refine gg_bp X (pc := 126) dX0_build_126 oc_bp8 ?_
      refine gg_ic_geN X (pc := 128) (tgt := 149) dX0_build_128 (by decide) (by omega) (by omega) (fun k => ?_) (fun k => ?_)
      · refine gg_ald_n X (pc := 149) dX0_build_149 rfl ?_
        refine gx_g_roots X (pc := 150) dX0_build_150 ?_
        refine gg_ild_n X (pc := 153) dX0_build_153 rfl ?_
        refine gg_ald_n X (pc := 154) dX0_build_154 rfl ?_
        refine gx_calli X (pc := 155) (mX_make l D dS dZ ad w L b1 he b2 b6 l1 l2 l3) cn_X0_108 ⟨by decide, by decide⟩ ⟨Nat.le_refl _, Nat.le_refl _⟩ rfl rfl (Nat.le_of_ble_eq_true rfl) dX0_build_155 (fun r1 u1 q1 => ?_)
        obtain ⟨n, rfl, n1, hBu, ho, hm, hnew⟩ := oc_mk_step hB.1 (by decide) he l4 q1
        have hB2 := hB.mk hBu ho hm
        have hG := hnew (oc_new v (F a) (F b)) 2 0 (fun i hi => by
          rw [h6 i hi, show 0 + i * 8 ^ 2 = 64 * i by omega]
          exact h8 i hi)
        refine gg_i2s X (pc := 158) dX0_build_158 (oc_i2s (by omega)) ?_
        refine gx_s_roots X (pc := 159) dX0_build_159 (by omega) (by omega) ?_
        refine hret _ 160 _ dX0_build_160 ⟨hBu.1, fun r' hr' => ?_, hBu.2.2.2.2.2.2.2.2⟩
        show oc_rp (u1 0) (oc_us u1) (if r' = r then oc_new v (F a) (F b) else F r') 3 0 (oc_up u1 5 r n 5 r')
        by_cases e : r' = r
        · rw [if_pos e, e, oc_up_s]
          exact hG
        · rw [if_neg e, oc_up_k _ _ _ _ e, hB2.2.2.1]
          exact hB2.2.1 r' hr'
      · exact absurd k (by omega)
    | succ t ih =>
      intro i w p3 p4 hi hB h8 h6
      have hx := oc_rp_b (h8 i (by omega))
      refine gg_ild_n X (pc := 125) dX0_build_125 rfl ?_
      refine gg_bp X (pc := 126) dX0_build_126 oc_bp8 ?_
      refine gg_ic_geN X (pc := 128) (tgt := 149) dX0_build_128 (by decide) (by omega) (by omega) (fun k => ?_) (fun k => ?_)
      · exact absurd k (by omega)
      · refine gg_ald_n X (pc := 131) dX0_build_131 rfl ?_
        refine gx_g_eight X (pc := 132) dX0_build_132 ?_
        refine gg_ild_n X (pc := 135) dX0_build_135 rfl ?_
        refine gg_ald_n X (pc := 136) dX0_build_136 rfl ?_
        refine gx_g_middle X (pc := 137) dX0_build_137 ?_
        refine gg_ild_n X (pc := 140) dX0_build_140 rfl ?_
        refine gx_l_middle X (pc := 141) dX0_build_141 (by omega) ?_
        refine gx_s_eight X (pc := 142) dX0_build_142 (by omega) (by omega) ?_
        refine gg_iinc X (pc := 143) dX0_build_143 rfl (oc_inc _) (by decide) ?_
        refine gg_goto X (pc := 146) (tgt := 125) dX0_build_146 (by decide) ?_
        refine ih (i + 1) _ _ _ (by omega) (hB.eq rfl rfl rfl rfl rfl rfl) (fun q hq => oc_rp_w (h8 q hq) rfl rfl) (fun q hq => ?_)
        show oc_up w 6 i (w 8 i) 6 q = w 8 q
        by_cases e : q = i
        · rw [e, oc_up_s]
        · rw [oc_up_k _ _ _ _ e]
          exact h6 q (by omega)
  have second : ∀ (t k : Nat) (w : Nat → Nat → Nat) (p3 p4 : Option Value), k + t = 8 → oc_bs v F w (64 + k) → (∀ q, q < 64 → oc_rp (w 0) (oc_us w) (oc_new v (F a) (F b)) 1 (8 * q) (w 7 q)) → (∀ q, q < k → oc_rp (w 0) (oc_us w) (oc_new v (F a) (F b)) 2 (64 * q) (w 8 q)) → gg p l e (oc_rm 4) s m args below meth cd Q 0 0 D A 5 (oc_xW ad dS dZ w) 69 [some (.ref (ad 0)), some (.int (nI r)), some (.int (nI k)), p3, p4] [] := by
    intro t
    induction t with
    | zero =>
      intro k w p3 p4 hk hB h7 h8
      obtain rfl : k = 8 := by omega
      refine gg_ild_n X (pc := 69) dX0_build_69 rfl ?_
      refine gg_bp X (pc := 70) dX0_build_70 oc_bp8 ?_
      refine gg_ic_geN X (pc := 72) (tgt := 123) dX0_build_72 (by decide) (by omega) (by omega) (fun h => ?_) (fun h => ?_)
      · refine gg_ic X (pc := 123) dX0_build_123 oc_ic0 ?_
        refine gg_ist_n X (pc := 124) dX0_build_124 (by decide) ?_
        exact third 8 0 w _ _ (by omega) hB h8 (fun q hq => absurd hq (by omega))
      · exact absurd h (by omega)
    | succ t ih =>
      intro k w p3 p4 hk hB h7 h8
      refine gg_ild_n X (pc := 69) dX0_build_69 rfl ?_
      refine gg_bp X (pc := 70) dX0_build_70 oc_bp8 ?_
      refine gg_ic_geN X (pc := 72) (tgt := 123) dX0_build_72 (by decide) (by omega) (by omega) (fun h => ?_) (fun h => ?_)
      · exact absurd h (by omega)
      · have inner : ∀ (t i : Nat) (w : Nat → Nat → Nat), i + t = 8 → oc_bs v F w (64 + k) → (∀ q, q < 64 → oc_rp (w 0) (oc_us w) (oc_new v (F a) (F b)) 1 (8 * q) (w 7 q)) → (∀ q, q < k → oc_rp (w 0) (oc_us w) (oc_new v (F a) (F b)) 2 (64 * q) (w 8 q)) → (∀ q, q < i → w 6 q = w 7 (8 * k + q)) → gg p l e (oc_rm 4) s m args below meth cd Q 0 0 D A 5 (oc_xW ad dS dZ w) 77 [some (.ref (ad 0)), some (.int (nI r)), some (.int (nI k)), some (.int (nI i)), p4] [] := by
          intro t
          induction t with
          | zero =>
            intro i w hi hB h7 h8 h6
            obtain rfl : i = 8 := by omega
            have he : ∀ i, i < 8 → w 6 i < 512 := fun i hi => by rw [h6 i hi]; exact oc_rp_b (h7 _ (by omega))
            obtain ⟨L, l1, l2, l3, l4⟩ := mkl w _ hB.1
            obtain ⟨b1, b2, b3, b4, b5, b6, b7, b8, b9⟩ := id hB.1
            refine gg_ild_n X (pc := 77) dX0_build_77 rfl ?_
            refine gg_bp X (pc := 78) dX0_build_78 oc_bp8 ?_
            refine gg_ic_geN X (pc := 80) (tgt := 106) dX0_build_80 (by decide) (by omega) (by omega) (fun z => ?_) (fun z => ?_)
            · refine gg_ald_n X (pc := 106) dX0_build_106 rfl ?_
              refine gx_g_middle X (pc := 107) dX0_build_107 ?_
              refine gg_ild_n X (pc := 110) dX0_build_110 rfl ?_
              refine gg_ald_n X (pc := 111) dX0_build_111 rfl ?_
              refine gx_calli X (pc := 112) (mX_make l D dS dZ ad w L b1 he b2 b6 l1 l2 l3) cn_X0_108 ⟨by decide, by decide⟩ ⟨Nat.le_refl _, Nat.le_refl _⟩ rfl rfl (Nat.le_of_ble_eq_true rfl) dX0_build_112 (fun r1 u1 q1 => ?_)
              obtain ⟨n, rfl, n1, hBu, ho, hm, hnew⟩ := oc_mk_step hB.1 (by omega) he l4 q1
              have hB2 := hB.mk hBu ho hm
              have hG := hnew (oc_new v (F a) (F b)) 1 (64 * k) (fun i hi => by
                rw [h6 i hi, show 64 * k + i * 8 ^ 1 = 8 * (8 * k + i) by omega]
                exact h7 _ (by omega))
              have e7 : ∀ j, u1 7 j = w 7 j := fun j => ho 7 j (by decide) (by decide) (by decide) (by decide) (fun z => absurd z.1 (by decide))
              have e8 : ∀ j, u1 8 j = w 8 j := fun j => ho 8 j (by decide) (by decide) (by decide) (by decide) (fun z => absurd z.1 (by decide))
              refine gg_i2s X (pc := 115) dX0_build_115 (oc_i2s (by omega)) ?_
              refine gx_s_middle X (pc := 116) dX0_build_116 (by omega) (by omega) ?_
              refine gg_iinc X (pc := 117) dX0_build_117 rfl (oc_inc _) (by decide) ?_
              refine gg_goto X (pc := 120) (tgt := 69) dX0_build_120 (by decide) ?_
              refine ih (k + 1) _ _ _ (by omega) (hB2.eq rfl rfl rfl rfl rfl rfl) (fun q hq => ?_) (fun q hq => ?_)
              · show oc_rp (u1 0) (oc_us u1) _ 1 (8 * q) (u1 7 q)
                rw [e7]
                exact hm _ _ _ _ (h7 q hq)
              · show oc_rp (u1 0) (oc_us u1) _ 2 (64 * q) (oc_up u1 8 k n 8 q)
                by_cases e : q = k
                · rw [e, oc_up_s]
                  exact hG
                · rw [oc_up_k _ _ _ _ e, e8]
                  exact hm _ _ _ _ (h8 q (by omega))
            · exact absurd z (by omega)
          | succ t ih2 =>
            intro i w hi hB h7 h8 h6
            have hx := oc_rp_b (h7 (8 * k + i) (by omega))
            refine gg_ild_n X (pc := 77) dX0_build_77 rfl ?_
            refine gg_bp X (pc := 78) dX0_build_78 oc_bp8 ?_
            refine gg_ic_geN X (pc := 80) (tgt := 106) dX0_build_80 (by decide) (by omega) (by omega) (fun z => ?_) (fun z => ?_)
            · exact absurd z (by omega)
            · refine gg_ald_n X (pc := 83) dX0_build_83 rfl ?_
              refine gx_g_eight X (pc := 84) dX0_build_84 ?_
              refine gg_ild_n X (pc := 87) dX0_build_87 rfl ?_
              refine gg_ald_n X (pc := 88) dX0_build_88 rfl ?_
              refine gx_g_small X (pc := 89) dX0_build_89 ?_
              refine gg_bp X (pc := 92) dX0_build_92 oc_bp8 ?_
              refine gg_ild_n X (pc := 94) dX0_build_94 rfl ?_
              refine gg_imulN X (pc := 95) dX0_build_95 ?_
              refine gg_ild_n X (pc := 96) dX0_build_96 rfl ?_
              refine gg_iaddN X (pc := 97) dX0_build_97 ?_
              refine gx_l_small X (pc := 98) dX0_build_98 (by omega) ?_
              refine gx_s_eight X (pc := 99) dX0_build_99 (by omega) (by omega) ?_
              refine gg_iinc X (pc := 100) dX0_build_100 rfl (oc_inc _) (by decide) ?_
              refine gg_goto X (pc := 103) (tgt := 77) dX0_build_103 (by decide) ?_
              refine ih2 (i + 1) _ (by omega) (hB.eq rfl rfl rfl rfl rfl rfl) (fun q hq => oc_rp_w (h7 q hq) rfl rfl) (fun q hq => oc_rp_w (h8 q hq) rfl rfl) (fun q hq => ?_)
              show oc_up w 6 i (w 7 (8 * k + i)) 6 q = w 7 (8 * k + q)
              by_cases e : q = i
              · rw [e, oc_up_s]
              · rw [oc_up_k _ _ _ _ e]
                exact h6 q (by omega)
        refine gg_ic X (pc := 75) dX0_build_75 oc_ic0 ?_
        refine gg_ist_n X (pc := 76) dX0_build_76 (by decide) ?_
        exact inner 8 0 w (by omega) hB h7 h8 (fun q hq => absurd hq (by omega))
  have first : ∀ (t k : Nat) (w : Nat → Nat → Nat) (p3 p4 : Option Value), k + t = 64 → oc_bs v F w k → (∀ q, q < k → oc_rp (w 0) (oc_us w) (oc_new v (F a) (F b)) 1 (8 * q) (w 7 q)) → gg p l e (oc_rm 4) s m args below meth cd Q 0 0 D A 5 (oc_xW ad dS dZ w) 6 [some (.ref (ad 0)), some (.int (nI r)), some (.int (nI k)), p3, p4] [] := by
    intro t
    induction t with
    | zero =>
      intro k w p3 p4 hk hB h7
      obtain rfl : k = 64 := by omega
      refine gg_ild_n X (pc := 6) dX0_build_6 rfl ?_
      refine gg_bp X (pc := 7) dX0_build_7 oc_bp64 ?_
      refine gg_ic_geN X (pc := 9) (tgt := 67) dX0_build_9 (by decide) (by omega) (by omega) (fun h => ?_) (fun h => ?_)
      · refine gg_ic X (pc := 67) dX0_build_67 oc_ic0 ?_
        refine gg_ist_n X (pc := 68) dX0_build_68 (by decide) ?_
        exact second 8 0 w _ _ (by omega) hB h7 (fun q hq => absurd hq (by omega))
      · exact absurd h (by omega)
    | succ t ih =>
      intro k w p3 p4 hk hB h7
      refine gg_ild_n X (pc := 6) dX0_build_6 rfl ?_
      refine gg_bp X (pc := 7) dX0_build_7 oc_bp64 ?_
      refine gg_ic_geN X (pc := 9) (tgt := 67) dX0_build_9 (by decide) (by omega) (by omega) (fun h => ?_) (fun h => ?_)
      · exact absurd h (by omega)
      · have inner : ∀ (t i : Nat) (w : Nat → Nat → Nat) (p4 : Option Value), i + t = 8 → oc_bs v F w k → (∀ q, q < k → oc_rp (w 0) (oc_us w) (oc_new v (F a) (F b)) 1 (8 * q) (w 7 q)) → (∀ q, q < i → w 6 q = (oc_new v (F a) (F b) (8 * k + q)).toNat) → gg p l e (oc_rm 4) s m args below meth cd Q 0 0 D A 5 (oc_xW ad dS dZ w) 14 [some (.ref (ad 0)), some (.int (nI r)), some (.int (nI k)), some (.int (nI i)), p4] [] := by
          intro t
          induction t with
          | zero =>
            intro i w p4 hi hB h7 h6
            obtain rfl : i = 8 := by omega
            have he : ∀ i, i < 8 → w 6 i < 512 := fun i hi => by rw [h6 i hi]; exact Nat.lt_trans (oc_bn _) (by decide)
            obtain ⟨L, l1, l2, l3, l4⟩ := mkl w _ hB.1
            obtain ⟨b1, b2, b3, b4, b5, b6, b7, b8, b9⟩ := id hB.1
            refine gg_ild_n X (pc := 14) dX0_build_14 rfl ?_
            refine gg_bp X (pc := 15) dX0_build_15 oc_bp8 ?_
            refine gg_ic_geN X (pc := 17) (tgt := 50) dX0_build_17 (by decide) (by omega) (by omega) (fun z => ?_) (fun z => ?_)
            · refine gg_ald_n X (pc := 50) dX0_build_50 rfl ?_
              refine gx_g_small X (pc := 51) dX0_build_51 ?_
              refine gg_ild_n X (pc := 54) dX0_build_54 rfl ?_
              refine gg_ald_n X (pc := 55) dX0_build_55 rfl ?_
              refine gx_calli X (pc := 56) (mX_make l D dS dZ ad w L b1 he b2 b6 l1 l2 l3) cn_X0_108 ⟨by decide, by decide⟩ ⟨Nat.le_refl _, Nat.le_refl _⟩ rfl rfl (Nat.le_of_ble_eq_true rfl) dX0_build_56 (fun r1 u1 q1 => ?_)
              obtain ⟨n, rfl, n1, hBu, ho, hm, hnew⟩ := oc_mk_step hB.1 (by omega) he l4 q1
              have hB2 := hB.mk hBu ho hm
              have hG := hnew (oc_new v (F a) (F b)) 0 (8 * k) (fun i hi => by
                rw [h6 i hi, show 8 * k + i * 8 ^ 0 = 8 * k + i by omega]
                rfl)
              have e7 : ∀ j, u1 7 j = w 7 j := fun j => ho 7 j (by decide) (by decide) (by decide) (by decide) (fun z => absurd z.1 (by decide))
              refine gg_i2s X (pc := 59) dX0_build_59 (oc_i2s (by omega)) ?_
              refine gx_s_small X (pc := 60) dX0_build_60 (by omega) (by omega) ?_
              refine gg_iinc X (pc := 61) dX0_build_61 rfl (oc_inc _) (by decide) ?_
              refine gg_goto X (pc := 64) (tgt := 6) dX0_build_64 (by decide) ?_
              refine ih (k + 1) _ _ _ (by omega) (hB2.eq rfl rfl rfl rfl rfl rfl) (fun q hq => ?_)
              show oc_rp (u1 0) (oc_us u1) _ 1 (8 * q) (oc_up u1 7 k n 7 q)
              by_cases e : q = k
              · rw [e, oc_up_s]
                exact hG
              · rw [oc_up_k _ _ _ _ e, e7]
                exact hm _ _ _ _ (h7 q (by omega))
            · exact absurd z (by omega)
          | succ t ih2 =>
            intro i w p4 hi hB h7 h6
            obtain ⟨c1, c2⟩ := oc_cat_ok (8 * k + i) (by omega)
            have w1 : w 9 1 = v 9 1 := hB.2.2.2 1 (by decide)
            have w2 : w 9 2 = v 9 2 := hB.2.2.2 2 (by decide)
            have w3 : w 9 3 = v 9 3 := hB.2.2.2 3 (by decide)
            have w4 : w 9 4 = v 9 4 := hB.2.2.2 4 (by decide)
            have w5 : w 9 5 = v 9 5 := hB.2.2.2 5 (by decide)
            have w6 : w 9 6 = v 9 6 := hB.2.2.2 6 (by decide)
            have rX : oc_rp (w 0) (oc_us w) (F a) 3 0 (w 9 2) := by rw [w2, hla]; exact hB.2.1 a ha
            have rY : w 9 1 < 4 → oc_rp (w 0) (oc_us w) (F b) 3 0 (w 9 3) := fun q => by rw [w3, hlb (by omega)]; exact hB.2.1 b hb
            have hq : oc_q w := oc_q_of hB.1.1 rX rY (by omega) (fun q => by rw [w6]; exact h6' (by omega)) (fun q => by rw [w4, w5, w6]; exact h4 (by omega))
            have hcf := oc_cof_B (oc_cat (8 * k + i)) rX rY (by omega) (fun q => by rw [w6]; exact (h4 (by omega)).2.2)
            rw [w1, w6, w4, w5] at hcf
            have hx := oc_bn (oc_cofB (v 9 1) (v 9 6) (v 9 4) (v 9 5) (F a) (F b) (oc_cat (8 * k + i)))
            refine gg_ild_n X (pc := 14) dX0_build_14 rfl ?_
            refine gg_bp X (pc := 15) dX0_build_15 oc_bp8 ?_
            refine gg_ic_geN X (pc := 17) (tgt := 50) dX0_build_17 (by decide) (by omega) (by omega) (fun z => ?_) (fun z => ?_)
            · exact absurd z (by omega)
            · refine gg_bp X (pc := 20) dX0_build_20 oc_bp8 ?_
              refine gg_ild_n X (pc := 22) dX0_build_22 rfl ?_
              refine gg_imulN X (pc := 23) dX0_build_23 ?_
              refine gg_ild_n X (pc := 24) dX0_build_24 rfl ?_
              refine gg_iaddN X (pc := 25) dX0_build_25 ?_
              refine gg_calls X (pc := 26) (mX_cellAt l D (8 * k + i) (by omega)) cn_X0_102 ⟨by decide, by decide⟩ ⟨Nat.le_refl _, Nat.le_refl _⟩ rfl rfl (Nat.le_of_ble_eq_true rfl) dX0_build_26 (fun r1 q1 => ?_)
              obtain rfl := q1
              refine gg_ist X (pc := 29) dX0_build_29 (by decide) ?_
              refine gg_ald_n X (pc := 31) dX0_build_31 rfl ?_
              refine gx_g_eight X (pc := 32) dX0_build_32 ?_
              refine gg_ild_n X (pc := 35) dX0_build_35 rfl ?_
              refine gg_ald_n X (pc := 36) dX0_build_36 rfl ?_
              refine gg_ild X (pc := 37) dX0_build_37 rfl ?_
              refine gx_calli X (pc := 39) (mX_cellOf l D dS dZ ad w _ c1 hq) cn_X0_105 ⟨by decide, by decide⟩ ⟨Nat.le_refl _, Nat.le_refl _⟩ rfl rfl (Nat.le_of_ble_eq_true rfl) dX0_build_39 (fun r1 u1 q1 => ?_)
              obtain ⟨rfl, rfl⟩ := q1
              refine gg_i2s X (pc := 42) dX0_build_42 (oc_i2s (by omega)) ?_
              refine gx_s_eight X (pc := 43) dX0_build_43 (by omega) (by omega) ?_
              refine gg_iinc X (pc := 44) dX0_build_44 rfl (oc_inc _) (by decide) ?_
              refine gg_goto X (pc := 47) (tgt := 14) dX0_build_47 (by decide) ?_
              refine ih2 (i + 1) _ _ (by omega) (hB.eq rfl rfl rfl rfl rfl rfl) (fun q hq => oc_rp_w (h7 q hq) rfl rfl) (fun q hq => ?_)
              show oc_up w 6 i (oc_cof w (oc_cat (8 * k + i))) 6 q = _
              by_cases e : q = i
              · rw [e, oc_up_s]
                exact hcf
              · rw [oc_up_k _ _ _ _ e]
                exact h6 q (by omega)
        refine gg_ic X (pc := 12) dX0_build_12 oc_ic0 ?_
        refine gg_ist_n X (pc := 13) dX0_build_13 (by decide) ?_
        exact inner 8 0 w _ (by omega) hB h7 (fun q hq => absurd hq (by omega))
  refine gg_ald_n X (pc := 0) dX0_build_0 rfl ?_
  refine gx_callv X (pc := 1) (mX_sweep l D dS dZ ad v hI.1 (fun r hr => oc_rp_b (hI.2.1 r hr))) cn_X0_99 ⟨by decide, by decide⟩ ⟨Nat.le_refl _, Nat.le_refl _⟩ rfl rfl (Nat.le_of_ble_eq_true rfl) dX0_build_1 (fun u1 q1 => ?_)
  obtain ⟨hB, hR⟩ := oc_swp_bi hI q1
  have e5 : ∀ j, u1 5 j = v 5 j := fun j => q1.1 5 j (by decide) (by decide) (by decide) (fun z => absurd z.1 (by decide))
  refine gg_ic X (pc := 4) dX0_build_4 oc_ic0 ?_
  refine gg_ist_n X (pc := 5) dX0_build_5 (by decide) ?_
  exact first 64 0 u1 _ _ (by omega) ⟨hB, fun r hr => by rw [← e5]; exact hR r hr, e5, fun j hj => q1.1 9 j (by decide) (by decide) (by decide) (fun z => hj z.2)⟩ (fun q hq => absurd hq (by omega))
end
section
/-! what the public methods answer, told of contents S r c; box, combine, turn, mirror -/
set_option maxRecDepth 100000
def oc_ok (n : Nat) (r : Int32) : Bool := decide (0 ≤ r.toInt) && decide (r.toInt < (n : Int))
def oc_n (r : Int32) : Nat := r.toNatClampNeg
theorem oc_n_nI {j : Nat} (h : j < 2147483648) : oc_n (nI j) = j := nI_clamp (by omega)
theorem oc_ok_t {n : Nat} {r : Int32} (hn : n < 2147483648) (h : oc_in n r) : oc_ok n r = true := by
  obtain ⟨j, hj, rfl⟩ := h
  unfold oc_ok
  rw [nI_toInt (by omega)]
  simp
  omega
theorem oc_ok_f {n : Nat} {r : Int32} (h : ¬ oc_in n r) : oc_ok n r = false := by
  cases q : oc_ok n r with
  | false => rfl
  | true =>
    unfold oc_ok at q
    simp at q
    refine absurd ⟨r.toInt.toNat, by omega, ?_⟩ h
    apply Int32.toInt_inj.mp
    have h2 : r.toInt < 2 ^ 31 := by have := Int32.toInt_lt r; omega
    rw [nI_toInt (by omega)]
    omega
def oc_set (S : Nat → Nat → Bool) (r : Nat) (f : Nat → Bool) : Nat → Nat → Bool := fun r' => if r' = r then f else S r'
/-- what a cell becomes -/
def oc_nS (t p d e : Nat) (X Y : Nat → Bool) (c : Nat) : Bool :=
  if t = 6 then X (c ^^^ 7 * 2 ^ (3 * p)) else if t = 4 then (if oc_box d e c = true then decide (p = 1) else X c) else if t = 5 then !(X c) else if t = 0 then X c || Y c else if t = 1 then X c && Y c else if t = 2 then X c && !(Y c) else X c ^^ Y c
/-- the octree's state holds the contents S -/
def oc_J (v : Nat → Nat → Nat) (S : Nat → Nat → Bool) : Prop := oc_I v (fun r m => S r (oc_cat m))
theorem oc_J.eq {v u : Nat → Nat → Nat} {S : Nat → Nat → Bool} (h : oc_J v S) (e0 : u 0 = v 0) (e1 : u 1 = v 1) (e5 : u 5 = v 5) : oc_J u S := by
  unfold oc_J oc_I oc_wf at h ⊢
  rw [oc_us_eq e1, e0, e5]
  exact h
theorem oc_J_new {u v : Nat → Nat → Nat} {S : Nat → Nat → Bool} {r a b : Nat} (hp : v 9 1 = 6 → v 9 6 < 3) (h : oc_I u (fun r' => if r' = r then oc_new v (fun m => S a (oc_cat m)) (fun m => S b (oc_cat m)) else fun m => S r' (oc_cat m))) : oc_J u (oc_set S r (oc_nS (v 9 1) (v 9 6) (v 9 4) (v 9 5) (S a) (S b))) := by
  obtain ⟨h1, h2, h3⟩ := h
  refine ⟨h1, fun r' hr' => oc_rp_to (h2 r' hr') (fun j hj => ?_), h3⟩
  have hj : j < 512 := hj
  rw [Nat.zero_add]
  unfold oc_set
  by_cases e : r' = r
  · simp only [if_pos e]
    obtain ⟨c1, c2⟩ := oc_cat_ok j hj
    have m1 := (oc_mo_ok _ c1).2
    unfold oc_new oc_cofB oc_nS
    dsimp only
    rw [m1]
    by_cases k : v 9 1 = 6
    · rw [if_pos k, if_pos k, (oc_mo_ok _ (oc_mir _ c1 _ (hp k))).2]
    · rw [if_neg k, if_neg k]
  · simp only [if_neg e]
/-! the answers -/
def q_box (r c d w : Int32) : Int32 := if oc_ok 4 r && oc_ok 512 c && oc_ok 512 d && oc_ok 2 w then nI 1 else nI 0
def s_box (S : Nat → Nat → Bool) (r c d w : Int32) : Nat → Nat → Bool := if oc_ok 4 r && oc_ok 512 c && oc_ok 512 d && oc_ok 2 w then oc_set S (oc_n r) (oc_nS 4 (oc_n w) (oc_n c) (oc_n d) (S (oc_n r)) (S (oc_n r))) else S
def q_combine (r o a b : Int32) : Int32 := if oc_ok 4 r && oc_ok 4 a && oc_ok 4 b && oc_ok 4 o then nI 1 else nI 0
def s_combine (S : Nat → Nat → Bool) (r o a b : Int32) : Nat → Nat → Bool := if oc_ok 4 r && oc_ok 4 a && oc_ok 4 b && oc_ok 4 o then oc_set S (oc_n r) (oc_nS (oc_n o) 0 0 0 (S (oc_n a)) (S (oc_n b))) else S
def q_turn (r a : Int32) : Int32 := if oc_ok 4 r && oc_ok 4 a then nI 1 else nI 0
def s_turn (S : Nat → Nat → Bool) (r a : Int32) : Nat → Nat → Bool := if oc_ok 4 r && oc_ok 4 a then oc_set S (oc_n r) (oc_nS 5 0 0 0 (S (oc_n a)) (S (oc_n a))) else S
def q_mirror (r a x : Int32) : Int32 := if oc_ok 4 r && oc_ok 4 a && oc_ok 3 x then nI 1 else nI 0
def s_mirror (S : Nat → Nat → Bool) (r a x : Int32) : Nat → Nat → Bool := if oc_ok 4 r && oc_ok 4 a && oc_ok 3 x then oc_set S (oc_n r) (oc_nS 6 (oc_n x) 0 0 (S (oc_n a)) (S (oc_n a))) else S
theorem oc_in_le {n : Nat} {r : Int32} (hn : n < 2147483647) (h0 : ¬ r < 0) (h : r ≤ nI n) : oc_in (n + 1) r := by
  obtain ⟨j, hj, rfl⟩ := nI_of h0
  have := (nI_leI (by omega) (by omega)).mp h
  exact ⟨j, by omega, rfl⟩
theorem oc_in_nle {n : Nat} {r : Int32} (hn : n < 2147483647) (h : ¬ r ≤ nI n) : ¬ oc_in (n + 1) r := by
  rintro ⟨j, hj, rfl⟩
  exact h ((nI_leI (by omega) (by omega)).mpr (by omega))
theorem oc_in_neg {n : Nat} {r : Int32} (hn : n < 2147483648) (h : r < 0) : ¬ oc_in n r := oc_in_no hn (Or.inl h)
theorem oc_nS_o {t : Nat} (h6 : t ≠ 6) (h4 : t ≠ 4) (p d e p' d' e' : Nat) (X Y : Nat → Bool) : oc_nS t p d e X Y = oc_nS t p' d' e' X Y := by
  funext c
  unfold oc_nS
  rw [if_neg h6, if_neg h4, if_neg h6, if_neg h4]
theorem oc_nS_6 (p d e d' e' : Nat) (X Y Y' : Nat → Bool) : oc_nS 6 p d e X Y = oc_nS 6 p d' e' X Y' := rfl
theorem oc_nS_5 (p d e p' d' e' : Nat) (X Y Y' : Nat → Bool) : oc_nS 5 p d e X Y = oc_nS 5 p' d' e' X Y' := rfl
theorem mX_box (l : Launch) (D : va_G) (dS dZ : ClassId) (ad : Nat → Nat) (v : Nat → Nat → Nat) (S : Nat → Nat → Bool) (hJ : oc_J v S) (r c d w : Int32) : oc_Mi l D (oc_tx dS dZ) 5 yX0_box cX0_box 5 (some .boolean) [.ref (ad 0), .int r, .int c, .int d, .int w] (oc_xW ad dS dZ) (oc_xW ad dS dZ v) (fun q u => q = q_box r c d w ∧ oc_J u (s_box S r c d w)) := by
  refine oc_Mi.ofZ (own := RX0) (by decide) rfl (Nat.le_of_ble_eq_true rfl) (by simp [Value.category]) [some (.ref (ad 0)), some (.int r), some (.int c), some (.int d), some (.int w)] rfl ?_
  intro p e s m args below meth cd A Q X hret
  have no : (oc_ok 4 r && oc_ok 512 c && oc_ok 512 d && oc_ok 2 w) = false → gg p l e (oc_rm 5) s m args below meth cd Q 0 0 D A 5 (oc_xW ad dS dZ v) 32 [some (.ref (ad 0)), some (.int r), some (.int c), some (.int d), some (.int w)] [] := by
    intro h
    refine gg_ic X (pc := 32) dX0_box_32 oc_ic0 ?_
    exact hret _ _ 33 _ dX0_box_33 (by omega) (⟨by rw [q_box, h]; rfl, by rw [s_box, h]; exact hJ⟩)
  refine gg_ild_n X (pc := 0) dX0_box_0 rfl ?_
  refine gg_calls X (pc := 1) (mX_isSolid l D r) cn_X0_112 ⟨by decide, by decide⟩ ⟨Nat.le_refl _, Nat.le_refl _⟩ rfl rfl (Nat.le_of_ble_eq_true rfl) dX0_box_1 (fun r1 q1 => ?_)
  rcases q1 with ⟨k1, rfl⟩ | ⟨k1, rfl⟩
  · refine gg_if_eqN X (pc := 4) (tgt := 32) dX0_box_4 (by decide) (by omega) (fun h => ?_) (fun h => ?_)
    · exact absurd h (by omega)
    · refine gg_ild_n X (pc := 7) dX0_box_7 rfl ?_
      refine gg_calls X (pc := 8) (mX_isCell l D c) cn_X0_115 ⟨by decide, by decide⟩ ⟨Nat.le_refl _, Nat.le_refl _⟩ rfl rfl (Nat.le_of_ble_eq_true rfl) dX0_box_8 (fun r1 q1 => ?_)
      rcases q1 with ⟨k2, rfl⟩ | ⟨k2, rfl⟩
      · refine gg_if_eqN X (pc := 11) (tgt := 32) dX0_box_11 (by decide) (by omega) (fun h => ?_) (fun h => ?_)
        · exact absurd h (by omega)
        · refine gg_ild_n X (pc := 14) dX0_box_14 rfl ?_
          refine gg_calls X (pc := 15) (mX_isCell l D d) cn_X0_115 ⟨by decide, by decide⟩ ⟨Nat.le_refl _, Nat.le_refl _⟩ rfl rfl (Nat.le_of_ble_eq_true rfl) dX0_box_15 (fun r1 q1 => ?_)
          rcases q1 with ⟨k3, rfl⟩ | ⟨k3, rfl⟩
          · refine gg_if_eqN X (pc := 18) (tgt := 32) dX0_box_18 (by decide) (by omega) (fun h => ?_) (fun h => ?_)
            · exact absurd h (by omega)
            · refine gg_ild X (pc := 21) dX0_box_21 rfl ?_
              refine gg_if_lt X (pc := 23) (tgt := 32) dX0_box_23 (by decide) (fun h1 => ?_) (fun h1 => ?_)
              · exact no (by rw [oc_ok_f (oc_in_neg (by decide) h1)]; simp)
              · refine gg_ild X (pc := 26) dX0_box_26 rfl ?_
                refine gg_ic X (pc := 28) dX0_box_28 oc_ic1 ?_
                refine gg_ic_le X (pc := 29) (tgt := 34) dX0_box_29 (by decide) (fun h2 => ?_) (fun h2 => ?_)
                · obtain ⟨z, hz, rfl⟩ := oc_in_le (by decide) h1 h2
                  obtain ⟨j, hj, rfl⟩ := k1
                  obtain ⟨x, hx, rfl⟩ := k2
                  obtain ⟨y, hy, rfl⟩ := k3
                  refine gg_ald_n X (pc := 34) dX0_box_34 rfl ?_
                  refine gg_ic X (pc := 35) dX0_box_35 oc_ic4 ?_
                  refine gx_p_task X (pc := 36) dX0_box_36 ?_
                  refine gg_ald_n X (pc := 39) dX0_box_39 rfl ?_
                  refine gg_ald_n X (pc := 40) dX0_box_40 rfl ?_
                  refine gx_g_roots X (pc := 41) dX0_box_41 ?_
                  refine gg_ild_n X (pc := 44) dX0_box_44 rfl ?_
                  refine gx_l_roots X (pc := 45) dX0_box_45 (by omega) ?_
                  refine gx_p_left X (pc := 46) dX0_box_46 ?_
                  refine gg_ald_n X (pc := 49) dX0_box_49 rfl ?_
                  refine gg_ild_n X (pc := 50) dX0_box_50 rfl ?_
                  refine gx_p_corner X (pc := 51) dX0_box_51 ?_
                  refine gg_ald_n X (pc := 54) dX0_box_54 rfl ?_
                  refine gg_ild_n X (pc := 55) dX0_box_55 rfl ?_
                  refine gx_p_other X (pc := 56) dX0_box_56 ?_
                  refine gg_ald_n X (pc := 59) dX0_box_59 rfl ?_
                  refine gg_ild X (pc := 60) dX0_box_60 rfl ?_
                  refine gx_p_put X (pc := 62) dX0_box_62 ?_
                  refine gg_ald_n X (pc := 65) dX0_box_65 rfl ?_
                  refine gg_ild_n X (pc := 66) dX0_box_66 rfl ?_
                  refine gx_callv X (pc := 67) (mX_build l D dS dZ ad _ _ j j j hj (hJ.eq rfl rfl rfl) hj hj rfl (fun h => absurd (show (4 : Nat) < 4 from h) (by decide)) (show (4 : Nat) < 7 by decide) (fun h => absurd (show (4 : Nat) = 6 from h) (by decide)) (fun _ => ⟨hx, hy, hz⟩)) cn_X0_118 ⟨by decide, by decide⟩ ⟨Nat.le_refl _, Nat.le_refl _⟩ rfl rfl (Nat.le_of_ble_eq_true rfl) dX0_box_67 (fun u1 q1 => ?_)
                  have q2 := oc_J_new (fun h => absurd (show (4 : Nat) = 6 from h) (by decide)) q1
                  have ok : (oc_ok 4 (nI j) && oc_ok 512 (nI x) && oc_ok 512 (nI y) && oc_ok 2 (nI z)) = true := by
                    rw [oc_ok_t (by decide) ⟨j, hj, rfl⟩, oc_ok_t (by decide) ⟨x, hx, rfl⟩, oc_ok_t (by decide) ⟨y, hy, rfl⟩, oc_ok_t (by decide) ⟨z, hz, rfl⟩]
                    rfl
                  refine gg_ic X (pc := 70) dX0_box_70 oc_ic1 ?_
                  refine hret _ _ 71 _ dX0_box_71 (by omega) ⟨by rw [q_box, ok]; rfl, ?_⟩
                  rw [s_box, ok, oc_n_nI (by omega), oc_n_nI (by omega), oc_n_nI (by omega), oc_n_nI (by omega)]
                  exact q2
                · exact no (by rw [oc_ok_f (oc_in_nle (n := 1) (by decide) h2)]; simp)
          · refine gg_if_eqN X (pc := 18) (tgt := 32) dX0_box_18 (by decide) (by omega) (fun h => ?_) (fun h => ?_)
            · exact no (by rw [oc_ok_f k3]; simp)
            · exact absurd rfl h
      · refine gg_if_eqN X (pc := 11) (tgt := 32) dX0_box_11 (by decide) (by omega) (fun h => ?_) (fun h => ?_)
        · exact no (by rw [oc_ok_f k2]; simp)
        · exact absurd rfl h
  · refine gg_if_eqN X (pc := 4) (tgt := 32) dX0_box_4 (by decide) (by omega) (fun h => ?_) (fun h => ?_)
    · exact no (by rw [oc_ok_f k1]; simp)
    · exact absurd rfl h
theorem mX_combine (l : Launch) (D : va_G) (dS dZ : ClassId) (ad : Nat → Nat) (v : Nat → Nat → Nat) (S : Nat → Nat → Bool) (hJ : oc_J v S) (r o a b : Int32) : oc_Mi l D (oc_tx dS dZ) 5 yX0_combine cX0_combine 5 (some .boolean) [.ref (ad 0), .int r, .int o, .int a, .int b] (oc_xW ad dS dZ) (oc_xW ad dS dZ v) (fun q u => q = q_combine r o a b ∧ oc_J u (s_combine S r o a b)) := by
  refine oc_Mi.ofZ (own := RX0) (by decide) rfl (Nat.le_of_ble_eq_true rfl) (by simp [Value.category]) [some (.ref (ad 0)), some (.int r), some (.int o), some (.int a), some (.int b)] rfl ?_
  intro p e s m args below meth cd A Q X hret
  have no : (oc_ok 4 r && oc_ok 4 a && oc_ok 4 b && oc_ok 4 o) = false → gg p l e (oc_rm 5) s m args below meth cd Q 0 0 D A 5 (oc_xW ad dS dZ v) 31 [some (.ref (ad 0)), some (.int r), some (.int o), some (.int a), some (.int b)] [] := by
    intro h
    refine gg_ic X (pc := 31) dX0_combine_31 oc_ic0 ?_
    exact hret _ _ 32 _ dX0_combine_32 (by omega) (⟨by rw [q_combine, h]; rfl, by rw [s_combine, h]; exact hJ⟩)
  refine gg_ild_n X (pc := 0) dX0_combine_0 rfl ?_
  refine gg_calls X (pc := 1) (mX_isSolid l D r) cn_X0_112 ⟨by decide, by decide⟩ ⟨Nat.le_refl _, Nat.le_refl _⟩ rfl rfl (Nat.le_of_ble_eq_true rfl) dX0_combine_1 (fun r1 q1 => ?_)
  rcases q1 with ⟨k1, rfl⟩ | ⟨k1, rfl⟩
  · refine gg_if_eqN X (pc := 4) (tgt := 31) dX0_combine_4 (by decide) (by omega) (fun h => ?_) (fun h => ?_)
    · exact absurd h (by omega)
    · refine gg_ild_n X (pc := 7) dX0_combine_7 rfl ?_
      refine gg_calls X (pc := 8) (mX_isSolid l D a) cn_X0_112 ⟨by decide, by decide⟩ ⟨Nat.le_refl _, Nat.le_refl _⟩ rfl rfl (Nat.le_of_ble_eq_true rfl) dX0_combine_8 (fun r1 q1 => ?_)
      rcases q1 with ⟨k2, rfl⟩ | ⟨k2, rfl⟩
      · refine gg_if_eqN X (pc := 11) (tgt := 31) dX0_combine_11 (by decide) (by omega) (fun h => ?_) (fun h => ?_)
        · exact absurd h (by omega)
        · refine gg_ild X (pc := 14) dX0_combine_14 rfl ?_
          refine gg_calls X (pc := 16) (mX_isSolid l D b) cn_X0_112 ⟨by decide, by decide⟩ ⟨Nat.le_refl _, Nat.le_refl _⟩ rfl rfl (Nat.le_of_ble_eq_true rfl) dX0_combine_16 (fun r1 q1 => ?_)
          rcases q1 with ⟨k3, rfl⟩ | ⟨k3, rfl⟩
          · refine gg_if_eqN X (pc := 19) (tgt := 31) dX0_combine_19 (by decide) (by omega) (fun h => ?_) (fun h => ?_)
            · exact absurd h (by omega)
            · refine gg_ild_n X (pc := 22) dX0_combine_22 rfl ?_
              refine gg_if_lt X (pc := 23) (tgt := 31) dX0_combine_23 (by decide) (fun h1 => ?_) (fun h1 => ?_)
              · exact no (by rw [oc_ok_f (oc_in_neg (r := o) (by decide) h1)]; simp)
              · refine gg_ild_n X (pc := 26) dX0_combine_26 rfl ?_
                refine gg_ic X (pc := 27) dX0_combine_27 oc_ic3 ?_
                refine gg_ic_le X (pc := 28) (tgt := 33) dX0_combine_28 (by decide) (fun h2 => ?_) (fun h2 => ?_)
                · obtain ⟨z, hz, rfl⟩ := oc_in_le (by decide) h1 h2
                  obtain ⟨j, hj, rfl⟩ := k1
                  obtain ⟨x, hx, rfl⟩ := k2
                  obtain ⟨y, hy, rfl⟩ := k3
                  refine gg_ald_n X (pc := 33) dX0_combine_33 rfl ?_
                  refine gg_ild_n X (pc := 34) dX0_combine_34 rfl ?_
                  refine gx_p_task X (pc := 35) dX0_combine_35 ?_
                  refine gg_ald_n X (pc := 38) dX0_combine_38 rfl ?_
                  refine gg_ald_n X (pc := 39) dX0_combine_39 rfl ?_
                  refine gx_g_roots X (pc := 40) dX0_combine_40 ?_
                  refine gg_ild_n X (pc := 43) dX0_combine_43 rfl ?_
                  refine gx_l_roots X (pc := 44) dX0_combine_44 (by omega) ?_
                  refine gx_p_left X (pc := 45) dX0_combine_45 ?_
                  refine gg_ald_n X (pc := 48) dX0_combine_48 rfl ?_
                  refine gg_ald_n X (pc := 49) dX0_combine_49 rfl ?_
                  refine gx_g_roots X (pc := 50) dX0_combine_50 ?_
                  refine gg_ild X (pc := 53) dX0_combine_53 rfl ?_
                  refine gx_l_roots X (pc := 55) dX0_combine_55 (by omega) ?_
                  refine gx_p_right X (pc := 56) dX0_combine_56 ?_
                  refine gg_ald_n X (pc := 59) dX0_combine_59 rfl ?_
                  refine gg_ild_n X (pc := 60) dX0_combine_60 rfl ?_
                  refine gx_callv X (pc := 61) (mX_build l D dS dZ ad _ _ j x y hj (hJ.eq rfl rfl rfl) hx hy rfl (fun _ => rfl) (show z < 7 by omega) (fun h => absurd (show z = 6 from h) (by omega)) (fun h => absurd (show z = 4 from h) (by omega))) cn_X0_118 ⟨by decide, by decide⟩ ⟨Nat.le_refl _, Nat.le_refl _⟩ rfl rfl (Nat.le_of_ble_eq_true rfl) dX0_combine_61 (fun u1 q1 => ?_)
                  have q2 := oc_J_new (fun h => absurd (show z = 6 from h) (by omega)) q1
                  have ok : (oc_ok 4 (nI j) && oc_ok 4 (nI x) && oc_ok 4 (nI y) && oc_ok 4 (nI z)) = true := by
                    rw [oc_ok_t (by decide) ⟨j, hj, rfl⟩, oc_ok_t (by decide) ⟨x, hx, rfl⟩, oc_ok_t (by decide) ⟨y, hy, rfl⟩, oc_ok_t (by decide) ⟨z, hz, rfl⟩]
                    rfl
                  refine gg_ic X (pc := 64) dX0_combine_64 oc_ic1 ?_
                  refine hret _ _ 65 _ dX0_combine_65 (by omega) ⟨by rw [q_combine, ok]; rfl, ?_⟩
                  rw [s_combine, ok, oc_n_nI (by omega), oc_n_nI (by omega), oc_n_nI (by omega), oc_n_nI (by omega), if_pos rfl, oc_nS_o (by omega) (by omega) 0 0 0 (v 9 6) (v 9 4) (v 9 5)]
                  exact q2
                · exact no (by rw [oc_ok_f (oc_in_nle (n := 3) (r := o) (by decide) h2)]; simp)
          · refine gg_if_eqN X (pc := 19) (tgt := 31) dX0_combine_19 (by decide) (by omega) (fun h => ?_) (fun h => ?_)
            · exact no (by rw [oc_ok_f k3]; simp)
            · exact absurd rfl h
      · refine gg_if_eqN X (pc := 11) (tgt := 31) dX0_combine_11 (by decide) (by omega) (fun h => ?_) (fun h => ?_)
        · exact no (by rw [oc_ok_f k2]; simp)
        · exact absurd rfl h
  · refine gg_if_eqN X (pc := 4) (tgt := 31) dX0_combine_4 (by decide) (by omega) (fun h => ?_) (fun h => ?_)
    · exact no (by rw [oc_ok_f k1]; simp)
    · exact absurd rfl h
theorem mX_turn (l : Launch) (D : va_G) (dS dZ : ClassId) (ad : Nat → Nat) (v : Nat → Nat → Nat) (S : Nat → Nat → Bool) (hJ : oc_J v S) (r a : Int32) : oc_Mi l D (oc_tx dS dZ) 5 yX0_turn cX0_turn 3 (some .boolean) [.ref (ad 0), .int r, .int a] (oc_xW ad dS dZ) (oc_xW ad dS dZ v) (fun q u => q = q_turn r a ∧ oc_J u (s_turn S r a)) := by
  refine oc_Mi.ofZ (own := RX0) (by decide) rfl (Nat.le_of_ble_eq_true rfl) (by simp [Value.category]) [some (.ref (ad 0)), some (.int r), some (.int a)] rfl ?_
  intro p e s m args below meth cd A Q X hret
  have no : (oc_ok 4 r && oc_ok 4 a) = false → gg p l e (oc_rm 5) s m args below meth cd Q 0 0 D A 3 (oc_xW ad dS dZ v) 14 [some (.ref (ad 0)), some (.int r), some (.int a)] [] := by
    intro h
    refine gg_ic X (pc := 14) dX0_turn_14 oc_ic0 ?_
    exact hret _ _ 15 _ dX0_turn_15 (by omega) (⟨by rw [q_turn, h]; rfl, by rw [s_turn, h]; exact hJ⟩)
  refine gg_ild_n X (pc := 0) dX0_turn_0 rfl ?_
  refine gg_calls X (pc := 1) (mX_isSolid l D r) cn_X0_112 ⟨by decide, by decide⟩ ⟨Nat.le_refl _, Nat.le_refl _⟩ rfl rfl (Nat.le_of_ble_eq_true rfl) dX0_turn_1 (fun r1 q1 => ?_)
  rcases q1 with ⟨k1, rfl⟩ | ⟨k1, rfl⟩
  · refine gg_if_eqN X (pc := 4) (tgt := 14) dX0_turn_4 (by decide) (by omega) (fun h => ?_) (fun h => ?_)
    · exact absurd h (by omega)
    · refine gg_ild_n X (pc := 7) dX0_turn_7 rfl ?_
      refine gg_calls X (pc := 8) (mX_isSolid l D a) cn_X0_112 ⟨by decide, by decide⟩ ⟨Nat.le_refl _, Nat.le_refl _⟩ rfl rfl (Nat.le_of_ble_eq_true rfl) dX0_turn_8 (fun r1 q1 => ?_)
      rcases q1 with ⟨k2, rfl⟩ | ⟨k2, rfl⟩
      · refine gg_if_neN X (pc := 11) (tgt := 16) dX0_turn_11 (by decide) (by omega) (fun h => ?_) (fun h => ?_)
        · obtain ⟨j, hj, rfl⟩ := k1
          obtain ⟨x, hx, rfl⟩ := k2
          refine gg_ald_n X (pc := 16) dX0_turn_16 rfl ?_
          refine gg_ic X (pc := 17) dX0_turn_17 oc_ic5 ?_
          refine gx_p_task X (pc := 18) dX0_turn_18 ?_
          refine gg_ald_n X (pc := 21) dX0_turn_21 rfl ?_
          refine gg_ald_n X (pc := 22) dX0_turn_22 rfl ?_
          refine gx_g_roots X (pc := 23) dX0_turn_23 ?_
          refine gg_ild_n X (pc := 26) dX0_turn_26 rfl ?_
          refine gx_l_roots X (pc := 27) dX0_turn_27 (by omega) ?_
          refine gx_p_left X (pc := 28) dX0_turn_28 ?_
          refine gg_ald_n X (pc := 31) dX0_turn_31 rfl ?_
          refine gg_ild_n X (pc := 32) dX0_turn_32 rfl ?_
          refine gx_callv X (pc := 33) (mX_build l D dS dZ ad _ _ j x x hj (hJ.eq rfl rfl rfl) hx hx rfl (fun h => absurd (show (5 : Nat) < 4 from h) (by decide)) (show (5 : Nat) < 7 by decide) (fun h => absurd (show (5 : Nat) = 6 from h) (by decide)) (fun h => absurd (show (5 : Nat) = 4 from h) (by decide))) cn_X0_118 ⟨by decide, by decide⟩ ⟨Nat.le_refl _, Nat.le_refl _⟩ rfl rfl (Nat.le_of_ble_eq_true rfl) dX0_turn_33 (fun u1 q1 => ?_)
          have q2 := oc_J_new (fun h => absurd (show (5 : Nat) = 6 from h) (by decide)) q1
          have ok : (oc_ok 4 (nI j) && oc_ok 4 (nI x)) = true := by
            rw [oc_ok_t (by decide) ⟨j, hj, rfl⟩, oc_ok_t (by decide) ⟨x, hx, rfl⟩]
            rfl
          refine gg_ic X (pc := 36) dX0_turn_36 oc_ic1 ?_
          refine hret _ _ 37 _ dX0_turn_37 (by omega) ⟨by rw [q_turn, ok]; rfl, ?_⟩
          rw [s_turn, ok, oc_n_nI (by omega), oc_n_nI (by omega)]
          exact q2
        · exact absurd h (by omega)
      · refine gg_if_neN X (pc := 11) (tgt := 16) dX0_turn_11 (by decide) (by omega) (fun h => ?_) (fun h => ?_)
        · exact absurd rfl h
        · exact no (by rw [oc_ok_f k2]; simp)
  · refine gg_if_eqN X (pc := 4) (tgt := 14) dX0_turn_4 (by decide) (by omega) (fun h => ?_) (fun h => ?_)
    · exact no (by rw [oc_ok_f k1]; simp)
    · exact absurd rfl h
theorem mX_mirror (l : Launch) (D : va_G) (dS dZ : ClassId) (ad : Nat → Nat) (v : Nat → Nat → Nat) (S : Nat → Nat → Bool) (hJ : oc_J v S) (r a b : Int32) : oc_Mi l D (oc_tx dS dZ) 5 yX0_mirror cX0_mirror 4 (some .boolean) [.ref (ad 0), .int r, .int a, .int b] (oc_xW ad dS dZ) (oc_xW ad dS dZ v) (fun q u => q = q_mirror r a b ∧ oc_J u (s_mirror S r a b)) := by
  refine oc_Mi.ofZ (own := RX0) (by decide) rfl (Nat.le_of_ble_eq_true rfl) (by simp [Value.category]) [some (.ref (ad 0)), some (.int r), some (.int a), some (.int b)] rfl ?_
  intro p e s m args below meth cd A Q X hret
  have no : (oc_ok 4 r && oc_ok 4 a && oc_ok 3 b) = false → gg p l e (oc_rm 5) s m args below meth cd Q 0 0 D A 4 (oc_xW ad dS dZ v) 23 [some (.ref (ad 0)), some (.int r), some (.int a), some (.int b)] [] := by
    intro h
    refine gg_ic X (pc := 23) dX0_mirror_23 oc_ic0 ?_
    exact hret _ _ 24 _ dX0_mirror_24 (by omega) (⟨by rw [q_mirror, h]; rfl, by rw [s_mirror, h]; exact hJ⟩)
  refine gg_ild_n X (pc := 0) dX0_mirror_0 rfl ?_
  refine gg_calls X (pc := 1) (mX_isSolid l D r) cn_X0_112 ⟨by decide, by decide⟩ ⟨Nat.le_refl _, Nat.le_refl _⟩ rfl rfl (Nat.le_of_ble_eq_true rfl) dX0_mirror_1 (fun r1 q1 => ?_)
  rcases q1 with ⟨k1, rfl⟩ | ⟨k1, rfl⟩
  · refine gg_if_eqN X (pc := 4) (tgt := 23) dX0_mirror_4 (by decide) (by omega) (fun h => ?_) (fun h => ?_)
    · exact absurd h (by omega)
    · refine gg_ild_n X (pc := 7) dX0_mirror_7 rfl ?_
      refine gg_calls X (pc := 8) (mX_isSolid l D a) cn_X0_112 ⟨by decide, by decide⟩ ⟨Nat.le_refl _, Nat.le_refl _⟩ rfl rfl (Nat.le_of_ble_eq_true rfl) dX0_mirror_8 (fun r1 q1 => ?_)
      rcases q1 with ⟨k2, rfl⟩ | ⟨k2, rfl⟩
      · refine gg_if_eqN X (pc := 11) (tgt := 23) dX0_mirror_11 (by decide) (by omega) (fun h => ?_) (fun h => ?_)
        · exact absurd h (by omega)
        · refine gg_ild_n X (pc := 14) dX0_mirror_14 rfl ?_
          refine gg_if_lt X (pc := 15) (tgt := 23) dX0_mirror_15 (by decide) (fun h1 => ?_) (fun h1 => ?_)
          · exact no (by rw [oc_ok_f (oc_in_neg (r := b) (by decide) h1)]; simp)
          · refine gg_ild_n X (pc := 18) dX0_mirror_18 rfl ?_
            refine gg_ic X (pc := 19) dX0_mirror_19 oc_ic2 ?_
            refine gg_ic_le X (pc := 20) (tgt := 25) dX0_mirror_20 (by decide) (fun h2 => ?_) (fun h2 => ?_)
            · obtain ⟨z, hz, rfl⟩ := oc_in_le (by decide) h1 h2
              obtain ⟨j, hj, rfl⟩ := k1
              obtain ⟨x, hx, rfl⟩ := k2
              refine gg_ald_n X (pc := 25) dX0_mirror_25 rfl ?_
              refine gg_bp X (pc := 26) dX0_mirror_26 oc_bp6 ?_
              refine gx_p_task X (pc := 28) dX0_mirror_28 ?_
              refine gg_ald_n X (pc := 31) dX0_mirror_31 rfl ?_
              refine gg_ald_n X (pc := 32) dX0_mirror_32 rfl ?_
              refine gx_g_roots X (pc := 33) dX0_mirror_33 ?_
              refine gg_ild_n X (pc := 36) dX0_mirror_36 rfl ?_
              refine gx_l_roots X (pc := 37) dX0_mirror_37 (by omega) ?_
              refine gx_p_left X (pc := 38) dX0_mirror_38 ?_
              refine gg_ald_n X (pc := 41) dX0_mirror_41 rfl ?_
              refine gg_ild_n X (pc := 42) dX0_mirror_42 rfl ?_
              refine gx_p_put X (pc := 43) dX0_mirror_43 ?_
              refine gg_ald_n X (pc := 46) dX0_mirror_46 rfl ?_
              refine gg_ild_n X (pc := 47) dX0_mirror_47 rfl ?_
              refine gx_callv X (pc := 48) (mX_build l D dS dZ ad _ _ j x x hj (hJ.eq rfl rfl rfl) hx hx rfl (fun h => absurd (show (6 : Nat) < 4 from h) (by decide)) (show (6 : Nat) < 7 by decide) (fun _ => hz) (fun h => absurd (show (6 : Nat) = 4 from h) (by decide))) cn_X0_118 ⟨by decide, by decide⟩ ⟨Nat.le_refl _, Nat.le_refl _⟩ rfl rfl (Nat.le_of_ble_eq_true rfl) dX0_mirror_48 (fun u1 q1 => ?_)
              have q2 := oc_J_new (fun _ => hz) q1
              have ok : (oc_ok 4 (nI j) && oc_ok 4 (nI x) && oc_ok 3 (nI z)) = true := by
                rw [oc_ok_t (by decide) ⟨j, hj, rfl⟩, oc_ok_t (by decide) ⟨x, hx, rfl⟩, oc_ok_t (by decide) ⟨z, hz, rfl⟩]
                rfl
              refine gg_ic X (pc := 51) dX0_mirror_51 oc_ic1 ?_
              refine hret _ _ 52 _ dX0_mirror_52 (by omega) ⟨by rw [q_mirror, ok]; rfl, ?_⟩
              rw [s_mirror, ok, oc_n_nI (by omega), oc_n_nI (by omega), oc_n_nI (by omega)]
              exact q2
            · exact no (by rw [oc_ok_f (oc_in_nle (n := 2) (r := b) (by decide) h2)]; simp)
      · refine gg_if_eqN X (pc := 11) (tgt := 23) dX0_mirror_11 (by decide) (by omega) (fun h => ?_) (fun h => ?_)
        · exact no (by rw [oc_ok_f k2]; simp)
        · exact absurd rfl h
  · refine gg_if_eqN X (pc := 4) (tgt := 23) dX0_mirror_4 (by decide) (by omega) (fun h => ?_) (fun h => ?_)
    · exact no (by rw [oc_ok_f k1]; simp)
    · exact absurd rfl h
end
section
/-! volume, has, same, inside, next -/
set_option maxRecDepth 100000
theorem oc_J_cell {v : Nat → Nat → Nat} {S : Nat → Nat → Bool} (h : oc_J v S) {r c : Nat} (hr : r < 4) (hc : c < 512) : oc_cub (v 0) (v 5 r) c 3 = (S r c).toNat := by
  rw [oc_cub_3 (h.2.1 r hr)]
  show (S r (oc_cat (oc_mo c))).toNat = _
  rw [(oc_mo_ok c hc).2]
theorem oc_J_root {v : Nat → Nat → Nat} {S : Nat → Nat → Bool} (h : oc_J v S) {r : Nat} (hr : r < 4) : v 5 r < 512 := oc_rp_b (h.2.1 r hr)
theorem oc_cnt_range (f : Nat → Bool) : ∀ (n : Nat), oc_cnt f n = (List.range n).countP f
  | 0 => rfl
  | n + 1 => by
    rw [List.range_succ, List.countP_append, ← oc_cnt_range f n]
    show oc_cnt f n + (f n).toNat = _
    cases h : f n <;> simp [h]
theorem oc_cat_perm : ((List.range 512).map oc_cat).Perm (List.range 512) := List.isPerm_iff.mp (by decide +kernel)
/-- counting in the order of the parts -/
theorem oc_cnt_cat (f : Nat → Bool) : oc_cnt (fun m => f (oc_cat m)) 512 = oc_cnt f 512 := by
  rw [oc_cnt_range, oc_cnt_range, ← oc_cat_perm.countP_eq f, List.countP_map]
  rfl
def oc_all (p : Nat → Bool) : Nat → Bool
  | 0 => true
  | n + 1 => oc_all p n && p n
theorem oc_all_t {p : Nat → Bool} : ∀ {n : Nat}, (∀ i, i < n → p i = true) → oc_all p n = true
  | 0, _ => rfl
  | n + 1, h => by
    unfold oc_all
    rw [oc_all_t (fun i hi => h i (by omega)), h n (by omega)]
    rfl
theorem oc_all_i {p : Nat → Bool} : ∀ {n : Nat}, oc_all p n = true → ∀ i, i < n → p i = true
  | 0, _, i, hi => absurd hi (by omega)
  | n + 1, h, i, hi => by
    unfold oc_all at h
    rw [Bool.and_eq_true] at h
    rcases Nat.lt_or_ge i n with q | q
    · exact oc_all_i h.1 i q
    · rw [show i = n by omega]
      exact h.2
theorem oc_all_f {p : Nat → Bool} {n i : Nat} (hi : i < n) (h : p i = false) : oc_all p n = false := by
  cases q : oc_all p n with
  | false => rfl
  | true =>
    rw [oc_all_i q i hi] at h
    cases h
def q_volume (S : Nat → Nat → Bool) (r : Int32) : Int32 := if oc_ok 4 r then nI (oc_cnt (S (oc_n r)) 512) else -1
def q_has (S : Nat → Nat → Bool) (r c : Int32) : Int32 := nI (oc_ok 4 r && oc_ok 512 c && S (oc_n r) (oc_n c)).toNat
def q_same (S : Nat → Nat → Bool) (a b : Int32) : Int32 := nI (oc_ok 4 a && oc_ok 4 b && oc_all (fun c => S (oc_n a) c == S (oc_n b) c) 512).toNat
def q_inside (S : Nat → Nat → Bool) (a b : Int32) : Int32 := nI (oc_ok 4 a && oc_ok 4 b && oc_all (fun c => !(S (oc_n a) c) || S (oc_n b) c) 512).toNat
/-- the first d, from d0 on, of t places that has p -/
def oc_fnd (p : Nat → Bool) : Nat → Nat → Int32
  | 0, _ => -1
  | t + 1, d => if p d = true then nI d else oc_fnd p t (d + 1)
def q_next (S : Nat → Nat → Bool) (r c : Int32) : Int32 := if oc_ok 4 r then oc_fnd (fun d => decide (c ≤ nI d) && S (oc_n r) d) 512 0 else -1
theorem mX_volume (l : Launch) (D : va_G) (dS dZ : ClassId) (ad : Nat → Nat) (v : Nat → Nat → Nat) (S : Nat → Nat → Bool) (hJ : oc_J v S) (r : Int32) : oc_Mi l D (oc_tx dS dZ) 5 yX0_volume cX0_volume 5 (some .int) [.ref (ad 0), .int r] (oc_xW ad dS dZ) (oc_xW ad dS dZ v) (fun q u => q = q_volume S r ∧ oc_J u S) := by
  refine oc_Mi.ofI (own := RX0) (by decide) rfl (Nat.le_of_ble_eq_true rfl) (by simp [Value.category]) [some (.ref (ad 0)), some (.int r), none, none, none] rfl ?_
  intro p e s m args below meth cd A Q X hret
  refine gg_ild_n X (pc := 0) dX0_volume_0 rfl ?_
  refine gg_calls X (pc := 1) (mX_isSolid l D r) cn_X0_112 ⟨by decide, by decide⟩ ⟨Nat.le_refl _, Nat.le_refl _⟩ rfl rfl (Nat.le_of_ble_eq_true rfl) dX0_volume_1 (fun r1 q1 => ?_)
  rcases q1 with ⟨k1, rfl⟩ | ⟨k1, rfl⟩
  · refine gg_if_neN X (pc := 4) (tgt := 9) dX0_volume_4 (by decide) (by omega) (fun h => ?_) (fun h => ?_)
    · obtain ⟨j, hj, rfl⟩ := k1
      have ok := oc_ok_t (n := 4) (by decide) ⟨j, hj, rfl⟩
      have loop : ∀ (t i : Nat) (p4 : Option Value), i + t = 512 → gg p l e (oc_rm 5) s m args below meth cd Q 0 0 D A 5 (oc_xW ad dS dZ v) 13 [some (.ref (ad 0)), some (.int (nI j)), some (.int (nI (oc_cnt (fun m => S j (oc_cat m)) i))), some (.int (nI i)), p4] [] := by
        intro t
        induction t with
        | zero =>
          intro i p4 hi
          obtain rfl : i = 512 := by omega
          refine gg_ild_n X (pc := 13) dX0_volume_13 rfl ?_
          refine gg_sp X (pc := 14) dX0_volume_14 oc_sp512 ?_
          refine gg_ic_geN X (pc := 17) (tgt := 48) dX0_volume_17 (by decide) (by omega) (by omega) (fun h => ?_) (fun h => ?_)
          · refine gg_ild_n X (pc := 48) dX0_volume_48 rfl ?_
            exact hret _ _ 49 _ dX0_volume_49 (⟨by rw [q_volume, ok, oc_n_nI (by omega), oc_cnt_cat]; rfl, hJ⟩)
          · exact absurd h (by omega)
        | succ t ih =>
          intro i p4 hi
          obtain ⟨c1, c2⟩ := oc_cat_ok i (by omega)
          refine gg_ild_n X (pc := 13) dX0_volume_13 rfl ?_
          refine gg_sp X (pc := 14) dX0_volume_14 oc_sp512 ?_
          refine gg_ic_geN X (pc := 17) (tgt := 48) dX0_volume_17 (by decide) (by omega) (by omega) (fun h => ?_) (fun h => ?_)
          · exact absurd h (by omega)
          · refine gg_ild_n X (pc := 20) dX0_volume_20 rfl ?_
            refine gg_calls X (pc := 21) (mX_cellAt l D i h) cn_X0_102 ⟨by decide, by decide⟩ ⟨Nat.le_refl _, Nat.le_refl _⟩ rfl rfl (Nat.le_of_ble_eq_true rfl) dX0_volume_21 (fun r1 q1 => ?_)
            obtain rfl := q1
            refine gg_ist X (pc := 24) dX0_volume_24 (by decide) ?_
            refine gg_ild_n X (pc := 26) dX0_volume_26 rfl ?_
            refine gg_ald_n X (pc := 27) dX0_volume_27 rfl ?_
            refine gg_ald_n X (pc := 28) dX0_volume_28 rfl ?_
            refine gx_g_roots X (pc := 29) dX0_volume_29 ?_
            refine gg_ild_n X (pc := 32) dX0_volume_32 rfl ?_
            refine gx_l_roots X (pc := 33) dX0_volume_33 (by omega) ?_
            refine gg_ild X (pc := 34) dX0_volume_34 rfl ?_
            refine gg_ic X (pc := 36) dX0_volume_36 oc_ic0 ?_
            refine gx_calli X (pc := 37) (mX_cubeAt l D dS dZ ad v _ _ 0 hJ.1 (oc_J_root hJ hj) c1 (by omega)) cn_X0_90 ⟨by decide, by decide⟩ ⟨Nat.le_refl _, Nat.le_refl _⟩ rfl rfl (Nat.le_of_ble_eq_true rfl) dX0_volume_37 (fun r1 u1 q1 => ?_)
            obtain ⟨rfl, rfl⟩ := q1
            rw [show oc_cub (v 0) (v 5 j) (oc_cat i) (3 - 0) = oc_cub (v 0) (v 5 j) (oc_cat i) 3 from rfl, oc_J_cell hJ hj c1]
            refine gg_iaddN X (pc := 40) dX0_volume_40 ?_
            refine gg_ist_n X (pc := 41) dX0_volume_41 (by decide) ?_
            refine gg_iinc X (pc := 42) dX0_volume_42 rfl (oc_inc _) (by decide) ?_
            refine gg_goto X (pc := 45) (tgt := 13) dX0_volume_45 (by decide) ?_
            exact ih (i + 1) _ (by omega)
      refine gg_ic X (pc := 9) dX0_volume_9 oc_ic0 ?_
      refine gg_ist_n X (pc := 10) dX0_volume_10 (by decide) ?_
      refine gg_ic X (pc := 11) dX0_volume_11 oc_ic0 ?_
      refine gg_ist_n X (pc := 12) dX0_volume_12 (by decide) ?_
      exact loop 512 0 _ (by omega)
    · exact absurd h (by omega)
  · refine gg_if_neN X (pc := 4) (tgt := 9) dX0_volume_4 (by decide) (by omega) (fun h => ?_) (fun h => ?_)
    · exact absurd rfl h
    · refine gg_ic X (pc := 7) dX0_volume_7 oc_icm ?_
      exact hret _ _ 8 _ dX0_volume_8 (⟨by rw [q_volume, oc_ok_f k1]; rfl, hJ⟩)
theorem mX_has (l : Launch) (D : va_G) (dS dZ : ClassId) (ad : Nat → Nat) (v : Nat → Nat → Nat) (S : Nat → Nat → Bool) (hJ : oc_J v S) (r c : Int32) : oc_Mi l D (oc_tx dS dZ) 3 yX0_has cX0_has 3 (some .boolean) [.ref (ad 0), .int r, .int c] (oc_xW ad dS dZ) (oc_xW ad dS dZ v) (fun q u => q = q_has S r c ∧ v = u) := by
  refine oc_Mi.ofZ (own := RX0) (by decide) rfl (Nat.le_of_ble_eq_true rfl) (by simp [Value.category]) [some (.ref (ad 0)), some (.int r), some (.int c)] rfl ?_
  intro p e s m args below meth cd A Q X hret
  have no : (oc_ok 4 r && oc_ok 512 c && S (oc_n r) (oc_n c)) = false → gg p l e (oc_rm 3) s m args below meth cd Q 0 0 D A 3 (oc_xW ad dS dZ v) 34 [some (.ref (ad 0)), some (.int r), some (.int c)] [] := by
    intro h
    refine gg_ic X (pc := 34) dX0_has_34 oc_ic0 ?_
    exact hret _ _ 35 _ dX0_has_35 (by omega) (⟨by rw [q_has, h]; rfl, rfl⟩)
  refine gg_ild_n X (pc := 0) dX0_has_0 rfl ?_
  refine gg_calls X (pc := 1) (mX_isSolid l D r) cn_X0_112 ⟨by decide, by decide⟩ ⟨Nat.le_refl _, Nat.le_refl _⟩ rfl rfl (Nat.le_of_ble_eq_true rfl) dX0_has_1 (fun r1 q1 => ?_)
  rcases q1 with ⟨k1, rfl⟩ | ⟨k1, rfl⟩
  · refine gg_if_eqN X (pc := 4) (tgt := 34) dX0_has_4 (by decide) (by omega) (fun h => ?_) (fun h => ?_)
    · exact absurd h (by omega)
    · refine gg_ild_n X (pc := 7) dX0_has_7 rfl ?_
      refine gg_calls X (pc := 8) (mX_isCell l D c) cn_X0_115 ⟨by decide, by decide⟩ ⟨Nat.le_refl _, Nat.le_refl _⟩ rfl rfl (Nat.le_of_ble_eq_true rfl) dX0_has_8 (fun r1 q1 => ?_)
      rcases q1 with ⟨k2, rfl⟩ | ⟨k2, rfl⟩
      · refine gg_if_eqN X (pc := 11) (tgt := 34) dX0_has_11 (by decide) (by omega) (fun h => ?_) (fun h => ?_)
        · exact absurd h (by omega)
        · obtain ⟨j, hj, rfl⟩ := k1
          obtain ⟨x, hx, rfl⟩ := k2
          have ok1 := oc_ok_t (n := 4) (by decide) ⟨j, hj, rfl⟩
          have ok2 := oc_ok_t (n := 512) (by decide) ⟨x, hx, rfl⟩
          have e1 : oc_n (nI j) = j := oc_n_nI (by omega)
          have e2 : oc_n (nI x) = x := oc_n_nI (by omega)
          refine gg_ald_n X (pc := 14) dX0_has_14 rfl ?_
          refine gg_ald_n X (pc := 15) dX0_has_15 rfl ?_
          refine gx_g_roots X (pc := 16) dX0_has_16 ?_
          refine gg_ild_n X (pc := 19) dX0_has_19 rfl ?_
          refine gx_l_roots X (pc := 20) dX0_has_20 (by omega) ?_
          refine gg_ild_n X (pc := 21) dX0_has_21 rfl ?_
          refine gg_ic X (pc := 22) dX0_has_22 oc_ic0 ?_
          refine gx_calli X (pc := 23) (mX_cubeAt l D dS dZ ad v _ _ 0 hJ.1 (oc_J_root hJ hj) hx (by omega)) cn_X0_90 ⟨by decide, by decide⟩ ⟨Nat.le_refl _, Nat.le_refl _⟩ rfl rfl (Nat.le_of_ble_eq_true rfl) dX0_has_23 (fun r1 u1 q1 => ?_)
          obtain ⟨rfl, rfl⟩ := q1
          rw [show oc_cub (v 0) (v 5 j) x (3 - 0) = oc_cub (v 0) (v 5 j) x 3 from rfl, oc_J_cell hJ hj hx]
          cases hb : S j x with
          | true =>
            refine gg_ic X (pc := 26) dX0_has_26 oc_ic1 ?_
            refine gg_ic_neN X (pc := 27) (tgt := 34) dX0_has_27 (by decide) (by decide) (by decide) (fun h => ?_) (fun h => ?_)
            · exact absurd rfl h
            · refine gg_ic X (pc := 30) dX0_has_30 oc_ic1 ?_
              refine gg_goto X (pc := 31) (tgt := 35) dX0_has_31 (by decide) ?_
              exact hret _ _ 35 _ dX0_has_35 (by omega) (⟨by rw [q_has, ok1, ok2, e1, e2, hb]; rfl, rfl⟩)
          | false =>
            refine gg_ic X (pc := 26) dX0_has_26 oc_ic1 ?_
            refine gg_ic_neN X (pc := 27) (tgt := 34) dX0_has_27 (by decide) (by decide) (by decide) (fun h => ?_) (fun h => ?_)
            · exact no (by rw [e1, e2, hb]; simp)
            · exact absurd h (by decide)
      · refine gg_if_eqN X (pc := 11) (tgt := 34) dX0_has_11 (by decide) (by omega) (fun h => ?_) (fun h => ?_)
        · exact no (by rw [oc_ok_f k2]; simp)
        · exact absurd rfl h
  · refine gg_if_eqN X (pc := 4) (tgt := 34) dX0_has_4 (by decide) (by omega) (fun h => ?_) (fun h => ?_)
    · exact no (by rw [oc_ok_f k1]; simp)
    · exact absurd rfl h
theorem mX_same (l : Launch) (D : va_G) (dS dZ : ClassId) (ad : Nat → Nat) (v : Nat → Nat → Nat) (S : Nat → Nat → Bool) (hJ : oc_J v S) (r c : Int32) : oc_Mi l D (oc_tx dS dZ) 5 yX0_same cX0_same 3 (some .boolean) [.ref (ad 0), .int r, .int c] (oc_xW ad dS dZ) (oc_xW ad dS dZ v) (fun q u => q = q_same S r c ∧ oc_J u S) := by
  refine oc_Mi.ofZ (own := RX0) (by decide) rfl (Nat.le_of_ble_eq_true rfl) (by simp [Value.category]) [some (.ref (ad 0)), some (.int r), some (.int c)] rfl ?_
  intro p e s m args below meth cd A Q X hret
  have no : (oc_ok 4 r && oc_ok 4 c && oc_all (fun x => S (oc_n r) x == S (oc_n c) x) 512) = false → gg p l e (oc_rm 5) s m args below meth cd Q 0 0 D A 3 (oc_xW ad dS dZ v) 33 [some (.ref (ad 0)), some (.int r), some (.int c)] [] := by
    intro h
    refine gg_ic X (pc := 33) dX0_same_33 oc_ic0 ?_
    exact hret _ _ 34 _ dX0_same_34 (by omega) (⟨by rw [q_same, h]; rfl, hJ⟩)
  refine gg_ild_n X (pc := 0) dX0_same_0 rfl ?_
  refine gg_calls X (pc := 1) (mX_isSolid l D r) cn_X0_112 ⟨by decide, by decide⟩ ⟨Nat.le_refl _, Nat.le_refl _⟩ rfl rfl (Nat.le_of_ble_eq_true rfl) dX0_same_1 (fun r1 q1 => ?_)
  rcases q1 with ⟨k1, rfl⟩ | ⟨k1, rfl⟩
  · refine gg_if_eqN X (pc := 4) (tgt := 33) dX0_same_4 (by decide) (by omega) (fun h => ?_) (fun h => ?_)
    · exact absurd h (by omega)
    · refine gg_ild_n X (pc := 7) dX0_same_7 rfl ?_
      refine gg_calls X (pc := 8) (mX_isSolid l D c) cn_X0_112 ⟨by decide, by decide⟩ ⟨Nat.le_refl _, Nat.le_refl _⟩ rfl rfl (Nat.le_of_ble_eq_true rfl) dX0_same_8 (fun r1 q1 => ?_)
      rcases q1 with ⟨k2, rfl⟩ | ⟨k2, rfl⟩
      · refine gg_if_eqN X (pc := 11) (tgt := 33) dX0_same_11 (by decide) (by omega) (fun h => ?_) (fun h => ?_)
        · exact absurd h (by omega)
        · obtain ⟨j, hj, rfl⟩ := k1
          obtain ⟨x, hx, rfl⟩ := k2
          have ok1 := oc_ok_t (n := 4) (by decide) ⟨j, hj, rfl⟩
          have ok2 := oc_ok_t (n := 4) (by decide) ⟨x, hx, rfl⟩
          have e1 : oc_n (nI j) = j := oc_n_nI (by omega)
          have e2 : oc_n (nI x) = x := oc_n_nI (by omega)
          have b1 := oc_J_root hJ hj
          have b2 := oc_J_root hJ hx
          have key : v 5 j = v 5 x ↔ ∀ c, c < 512 → S j c = S x c := by
            rw [oc_rp_eq hJ.2.2 (hJ.2.1 j hj) (hJ.2.1 x hx)]
            constructor
            · intro q c hc
              have := q (oc_mo c) (oc_mo_ok c hc).1
              rw [Nat.zero_add] at this
              dsimp only at this
              rw [(oc_mo_ok c hc).2] at this
              exact this
            · intro q m hm
              rw [Nat.zero_add]
              exact q _ (oc_cat_ok m hm).1
          refine gg_ald_n X (pc := 14) dX0_same_14 rfl ?_
          refine gx_g_roots X (pc := 15) dX0_same_15 ?_
          refine gg_ild_n X (pc := 18) dX0_same_18 rfl ?_
          refine gx_l_roots X (pc := 19) dX0_same_19 (by omega) ?_
          refine gg_ald_n X (pc := 20) dX0_same_20 rfl ?_
          refine gx_g_roots X (pc := 21) dX0_same_21 ?_
          refine gg_ild_n X (pc := 24) dX0_same_24 rfl ?_
          refine gx_l_roots X (pc := 25) dX0_same_25 (by omega) ?_
          refine gg_ic_neN X (pc := 26) (tgt := 33) dX0_same_26 (by decide) (by omega) (by omega) (fun h => ?_) (fun h => ?_)
          · have nk : oc_all (fun c => S j c == S x c) 512 = false := by
              cases q : oc_all (fun c => S j c == S x c) 512 with
              | false => rfl
              | true => exact absurd (key.mpr (fun c hc => by simpa using oc_all_i q c hc)) h
            exact no (by rw [e1, e2, nk]; simp)
          · have yk : oc_all (fun c => S j c == S x c) 512 = true := oc_all_t (fun c hc => by simpa using key.mp h c hc)
            refine gg_ic X (pc := 29) dX0_same_29 oc_ic1 ?_
            refine gg_goto X (pc := 30) (tgt := 34) dX0_same_30 (by decide) ?_
            exact hret _ _ 34 _ dX0_same_34 (by omega) (⟨by rw [q_same, ok1, ok2, e1, e2, yk]; rfl, hJ⟩)
      · refine gg_if_eqN X (pc := 11) (tgt := 33) dX0_same_11 (by decide) (by omega) (fun h => ?_) (fun h => ?_)
        · exact no (by rw [oc_ok_f k2]; simp)
        · exact absurd rfl h
  · refine gg_if_eqN X (pc := 4) (tgt := 33) dX0_same_4 (by decide) (by omega) (fun h => ?_) (fun h => ?_)
    · exact no (by rw [oc_ok_f k1]; simp)
    · exact absurd rfl h
theorem mX_inside (l : Launch) (D : va_G) (dS dZ : ClassId) (ad : Nat → Nat) (v : Nat → Nat → Nat) (S : Nat → Nat → Bool) (hJ : oc_J v S) (r c : Int32) : oc_Mi l D (oc_tx dS dZ) 5 yX0_inside cX0_inside 5 (some .boolean) [.ref (ad 0), .int r, .int c] (oc_xW ad dS dZ) (oc_xW ad dS dZ v) (fun q u => q = q_inside S r c ∧ oc_J u S) := by
  refine oc_Mi.ofZ (own := RX0) (by decide) rfl (Nat.le_of_ble_eq_true rfl) (by simp [Value.category]) [some (.ref (ad 0)), some (.int r), some (.int c), none, none] rfl ?_
  intro p e s m args below meth cd A Q X hret
  have no : (oc_ok 4 r && oc_ok 4 c && oc_all (fun x => !(S (oc_n r) x) || S (oc_n c) x) 512) = false → gg p l e (oc_rm 5) s m args below meth cd Q 0 0 D A 5 (oc_xW ad dS dZ v) 14 [some (.ref (ad 0)), some (.int r), some (.int c), none, none] [] := by
    intro h
    refine gg_ic X (pc := 14) dX0_inside_14 oc_ic0 ?_
    exact hret _ _ 15 _ dX0_inside_15 (by omega) (⟨by rw [q_inside, h]; rfl, hJ⟩)
  refine gg_ild_n X (pc := 0) dX0_inside_0 rfl ?_
  refine gg_calls X (pc := 1) (mX_isSolid l D r) cn_X0_112 ⟨by decide, by decide⟩ ⟨Nat.le_refl _, Nat.le_refl _⟩ rfl rfl (Nat.le_of_ble_eq_true rfl) dX0_inside_1 (fun r1 q1 => ?_)
  rcases q1 with ⟨k1, rfl⟩ | ⟨k1, rfl⟩
  · refine gg_if_eqN X (pc := 4) (tgt := 14) dX0_inside_4 (by decide) (by omega) (fun h => ?_) (fun h => ?_)
    · exact absurd h (by omega)
    · refine gg_ild_n X (pc := 7) dX0_inside_7 rfl ?_
      refine gg_calls X (pc := 8) (mX_isSolid l D c) cn_X0_112 ⟨by decide, by decide⟩ ⟨Nat.le_refl _, Nat.le_refl _⟩ rfl rfl (Nat.le_of_ble_eq_true rfl) dX0_inside_8 (fun r1 q1 => ?_)
      rcases q1 with ⟨k2, rfl⟩ | ⟨k2, rfl⟩
      · refine gg_if_neN X (pc := 11) (tgt := 16) dX0_inside_11 (by decide) (by omega) (fun h => ?_) (fun h => ?_)
        · obtain ⟨j, hj, rfl⟩ := k1
          obtain ⟨x, hx, rfl⟩ := k2
          have ok1 := oc_ok_t (n := 4) (by decide) ⟨j, hj, rfl⟩
          have ok2 := oc_ok_t (n := 4) (by decide) ⟨x, hx, rfl⟩
          have e1 : oc_n (nI j) = j := oc_n_nI (by omega)
          have e2 : oc_n (nI x) = x := oc_n_nI (by omega)
          have loop : ∀ (t i : Nat) (p4 : Option Value), i + t = 512 → (∀ c, c < i → S j c = true → S x c = true) → gg p l e (oc_rm 5) s m args below meth cd Q 0 0 D A 5 (oc_xW ad dS dZ v) 18 [some (.ref (ad 0)), some (.int (nI j)), some (.int (nI x)), some (.int (nI i)), p4] [] := by
            intro t
            induction t with
            | zero =>
              intro i p4 hi hv
              obtain rfl : i = 512 := by omega
              refine gg_ild_n X (pc := 18) dX0_inside_18 rfl ?_
              refine gg_sp X (pc := 19) dX0_inside_19 oc_sp512 ?_
              refine gg_ic_geN X (pc := 22) (tgt := 68) dX0_inside_22 (by decide) (by omega) (by omega) (fun h => ?_) (fun h => ?_)
              · refine gg_ic X (pc := 68) dX0_inside_68 oc_ic1 ?_
                exact hret _ _ 69 _ dX0_inside_69 (by omega) (⟨by rw [q_inside, ok1, ok2, e1, e2, oc_all_t (fun c hc => by have := hv c hc; revert this; cases S j c <;> cases S x c <;> simp)]; rfl, hJ⟩)
              · exact absurd h (by omega)
            | succ t ih =>
              intro i p4 hi hv
              have nxt : ∀ (p4 : Option Value), (S j i = true → S x i = true) → gg p l e (oc_rm 5) s m args below meth cd Q 0 0 D A 5 (oc_xW ad dS dZ v) 62 [some (.ref (ad 0)), some (.int (nI j)), some (.int (nI x)), some (.int (nI i)), p4] [] := by
                intro p4 hs
                refine gg_iinc X (pc := 62) dX0_inside_62 rfl (oc_inc _) (by decide) ?_
                refine gg_goto X (pc := 65) (tgt := 18) dX0_inside_65 (by decide) ?_
                exact ih (i + 1) _ (by omega) (fun c hc => by
                  rcases Nat.lt_or_ge c i with q | q
                  · exact hv c q
                  · rw [show c = i by omega]; exact hs)
              refine gg_ild_n X (pc := 18) dX0_inside_18 rfl ?_
              refine gg_sp X (pc := 19) dX0_inside_19 oc_sp512 ?_
              refine gg_ic_geN X (pc := 22) (tgt := 68) dX0_inside_22 (by decide) (by omega) (by omega) (fun h => ?_) (fun h => ?_)
              · exact absurd h (by omega)
              · refine gg_ald_n X (pc := 25) dX0_inside_25 rfl ?_
                refine gg_ald_n X (pc := 26) dX0_inside_26 rfl ?_
                refine gx_g_roots X (pc := 27) dX0_inside_27 ?_
                refine gg_ild_n X (pc := 30) dX0_inside_30 rfl ?_
                refine gx_l_roots X (pc := 31) dX0_inside_31 (by omega) ?_
                refine gg_ild_n X (pc := 32) dX0_inside_32 rfl ?_
                refine gg_ic X (pc := 33) dX0_inside_33 oc_ic0 ?_
                refine gx_calli X (pc := 34) (mX_cubeAt l D dS dZ ad v _ _ 0 hJ.1 (oc_J_root hJ hj) h (by omega)) cn_X0_90 ⟨by decide, by decide⟩ ⟨Nat.le_refl _, Nat.le_refl _⟩ rfl rfl (Nat.le_of_ble_eq_true rfl) dX0_inside_34 (fun r1 u1 q1 => ?_)
                obtain ⟨rfl, rfl⟩ := q1
                rw [show oc_cub (v 0) (v 5 j) i (3 - 0) = oc_cub (v 0) (v 5 j) i 3 from rfl, oc_J_cell hJ hj h]
                have hb1 := oc_bn (S j i)
                refine gg_ist X (pc := 37) dX0_inside_37 (by decide) ?_
                refine gg_ild X (pc := 39) dX0_inside_39 rfl ?_
                refine gg_ic X (pc := 41) dX0_inside_41 oc_ic1 ?_
                refine gg_ic_neN X (pc := 42) (tgt := 62) dX0_inside_42 (by decide) (by omega) (by omega) (fun h2 => ?_) (fun h2 => ?_)
                · exact nxt _ (fun q => absurd (by rw [q]; rfl) h2)
                · refine gg_ald_n X (pc := 45) dX0_inside_45 rfl ?_
                  refine gg_ald_n X (pc := 46) dX0_inside_46 rfl ?_
                  refine gx_g_roots X (pc := 47) dX0_inside_47 ?_
                  refine gg_ild_n X (pc := 50) dX0_inside_50 rfl ?_
                  refine gx_l_roots X (pc := 51) dX0_inside_51 (by omega) ?_
                  refine gg_ild_n X (pc := 52) dX0_inside_52 rfl ?_
                  refine gg_ic X (pc := 53) dX0_inside_53 oc_ic0 ?_
                  refine gx_calli X (pc := 54) (mX_cubeAt l D dS dZ ad v _ _ 0 hJ.1 (oc_J_root hJ hx) h (by omega)) cn_X0_90 ⟨by decide, by decide⟩ ⟨Nat.le_refl _, Nat.le_refl _⟩ rfl rfl (Nat.le_of_ble_eq_true rfl) dX0_inside_54 (fun r1 u1 q1 => ?_)
                  obtain ⟨rfl, rfl⟩ := q1
                  rw [show oc_cub (v 0) (v 5 x) i (3 - 0) = oc_cub (v 0) (v 5 x) i 3 from rfl, oc_J_cell hJ hx h]
                  have hb2 := oc_bn (S x i)
                  refine gg_if_neN X (pc := 57) (tgt := 62) dX0_inside_57 (by decide) (by omega) (fun h3 => ?_) (fun h3 => ?_)
                  · refine nxt _ (fun _ => ?_)
                    cases q : S x i with
                    | true => rfl
                    | false => rw [q] at h3; exact absurd rfl h3
                  · refine gg_ic X (pc := 60) dX0_inside_60 oc_ic0 ?_
                    exact hret _ _ 61 _ dX0_inside_61 (by omega) (⟨by rw [q_inside, e1, e2, oc_all_f h (show (!(S j i) || S x i) = false by rw [oc_bni (y := true) h2, oc_bni (y := false) h3]; rfl)]; simp, hJ⟩)
          refine gg_ic X (pc := 16) dX0_inside_16 oc_ic0 ?_
          refine gg_ist_n X (pc := 17) dX0_inside_17 (by decide) ?_
          exact loop 512 0 _ (by omega) (fun c hc => absurd hc (by omega))
        · exact absurd h (by omega)
      · refine gg_if_neN X (pc := 11) (tgt := 16) dX0_inside_11 (by decide) (by omega) (fun h => ?_) (fun h => ?_)
        · exact absurd rfl h
        · exact no (by rw [oc_ok_f k2]; simp)
  · refine gg_if_eqN X (pc := 4) (tgt := 14) dX0_inside_4 (by decide) (by omega) (fun h => ?_) (fun h => ?_)
    · exact no (by rw [oc_ok_f k1]; simp)
    · exact absurd rfl h
theorem oc_fnd_skip {p : Nat → Bool} : ∀ (k t d : Nat), (∀ i, d ≤ i → i < d + k → p i = false) → oc_fnd p (k + t) d = oc_fnd p t (d + k)
  | 0, t, d, _ => by rw [Nat.zero_add, Nat.add_zero]
  | k + 1, t, d, h => by
    rw [show k + 1 + t = (k + t) + 1 by omega]
    unfold oc_fnd
    rw [h d (by omega) (by omega), oc_fnd_skip k t (d + 1) (fun i h1 h2 => h i (by omega) (by omega)), show d + 1 + k = d + (k + 1) by omega]
    cases t <;> rfl
theorem oc_fnd_none {p : Nat → Bool} : ∀ (t d : Nat), (∀ i, d ≤ i → i < d + t → p i = false) → oc_fnd p t d = -1
  | 0, d, _ => rfl
  | t + 1, d, h => by
    unfold oc_fnd
    rw [h d (by omega) (by omega), oc_fnd_none t (d + 1) (fun i h1 h2 => h i (by omega) (by omega))]
    rfl
theorem mX_next (l : Launch) (D : va_G) (dS dZ : ClassId) (ad : Nat → Nat) (v : Nat → Nat → Nat) (S : Nat → Nat → Bool) (hJ : oc_J v S) (r c : Int32) : oc_Mi l D (oc_tx dS dZ) 5 yX0_next cX0_next 4 (some .int) [.ref (ad 0), .int r, .int c] (oc_xW ad dS dZ) (oc_xW ad dS dZ v) (fun q u => q = q_next S r c ∧ oc_J u S) := by
  refine oc_Mi.ofI (own := RX0) (by decide) rfl (Nat.le_of_ble_eq_true rfl) (by simp [Value.category]) [some (.ref (ad 0)), some (.int r), some (.int c), none] rfl ?_
  intro p e s m args below meth cd A Q X hret
  have bad : ∀ (p3 : Option Value), q_next S r c = -1 → gg p l e (oc_rm 5) s m args below meth cd Q 0 0 D A 4 (oc_xW ad dS dZ v) 41 [some (.ref (ad 0)), some (.int r), some (.int c), p3] [] := by
    intro p3 h
    refine gg_ic X (pc := 41) dX0_next_41 oc_icm ?_
    exact hret _ _ 42 _ dX0_next_42 (⟨h.symm, hJ⟩)
  have loop : ∀ (t i : Nat), i + t = 512 → (∀ d, i ≤ d → d < 512 → c ≤ nI d) → (oc_ok 4 r = true → q_next S r c = oc_fnd (fun d => decide (c ≤ nI d) && S (oc_n r) d) t i) → gg p l e (oc_rm 5) s m args below meth cd Q 0 0 D A 4 (oc_xW ad dS dZ v) 10 [some (.ref (ad 0)), some (.int r), some (.int c), some (.int (nI i))] [] := by
    intro t
    induction t with
    | zero =>
      intro i hi hc hq
      refine gg_ild_n X (pc := 10) dX0_next_10 rfl ?_
      refine gg_sp X (pc := 11) dX0_next_11 oc_sp512 ?_
      refine gg_ic_geN X (pc := 14) (tgt := 41) dX0_next_14 (by decide) (by omega) (by omega) (fun h => ?_) (fun h => ?_)
      · refine bad _ ?_
        cases ok : oc_ok 4 r with
        | true => rw [hq ok]; rfl
        | false => rw [q_next, ok]; rfl
      · exact absurd h (by omega)
    | succ t ih =>
      intro i hi hc hq
      refine gg_ild_n X (pc := 10) dX0_next_10 rfl ?_
      refine gg_sp X (pc := 11) dX0_next_11 oc_sp512 ?_
      refine gg_ic_geN X (pc := 14) (tgt := 41) dX0_next_14 (by decide) (by omega) (by omega) (fun h => ?_) (fun h => ?_)
      · exact absurd h (by omega)
      · refine gg_ild_n X (pc := 17) dX0_next_17 rfl ?_
        refine gg_calls X (pc := 18) (mX_isSolid l D r) cn_X0_112 ⟨by decide, by decide⟩ ⟨Nat.le_refl _, Nat.le_refl _⟩ rfl rfl (Nat.le_of_ble_eq_true rfl) dX0_next_18 (fun r1 q1 => ?_)
        rcases q1 with ⟨k1, rfl⟩ | ⟨k1, rfl⟩
        · refine gg_if_eqN X (pc := 21) (tgt := 41) dX0_next_21 (by decide) (by omega) (fun h2 => ?_) (fun h2 => ?_)
          · exact absurd h2 (by omega)
          · have ok := oc_ok_t (n := 4) (by decide) k1
            have ok2 := oc_ok_t (n := 512) (by decide) (r := nI i) ⟨i, h, rfl⟩
            have e2 : oc_n (nI i) = i := oc_n_nI (by omega)
            have hq := hq ok
            unfold oc_fnd at hq
            rw [decide_eq_true (hc i (Nat.le_refl _) h)] at hq
            refine gg_ald_n X (pc := 24) dX0_next_24 rfl ?_
            refine gg_ild_n X (pc := 25) dX0_next_25 rfl ?_
            refine gg_ild_n X (pc := 26) dX0_next_26 rfl ?_
            refine gx_calli X (pc := 27) (mX_has l D dS dZ ad v S hJ r (nI i)) cn_X0_124 ⟨by decide, by decide⟩ ⟨Nat.le_refl _, Nat.le_refl _⟩ rfl rfl (Nat.le_of_ble_eq_true rfl) dX0_next_27 (fun r1 u1 q1 => ?_)
            obtain ⟨rfl, rfl⟩ := q1
            rw [q_has, ok, ok2, e2]
            cases hb : S (oc_n r) i with
            | true =>
              rw [hb] at hq
              refine gg_top (show nI (true && true && true).toNat = nI 1 from rfl) ?_
              refine gg_if_eqN X (pc := 30) (tgt := 35) dX0_next_30 (by decide) (by omega) (fun h3 => ?_) (fun h3 => ?_)
              · exact absurd h3 (by omega)
              · refine gg_ild_n X (pc := 33) dX0_next_33 rfl ?_
                exact hret _ _ 34 _ dX0_next_34 (⟨hq.symm, hJ⟩)
            | false =>
              rw [hb] at hq
              refine gg_top (show nI (true && true && false).toNat = nI 0 from rfl) ?_
              refine gg_if_eqN X (pc := 30) (tgt := 35) dX0_next_30 (by decide) (by omega) (fun h3 => ?_) (fun h3 => ?_)
              · refine gg_iinc X (pc := 35) dX0_next_35 rfl (oc_inc _) (by decide) ?_
                refine gg_goto X (pc := 38) (tgt := 10) dX0_next_38 (by decide) ?_
                exact ih (i + 1) (by omega) (fun d h1 h2 => hc d (by omega) h2) (fun _ => hq)
              · exact absurd rfl h3
        · refine gg_if_eqN X (pc := 21) (tgt := 41) dX0_next_21 (by decide) (by omega) (fun h2 => ?_) (fun h2 => ?_)
          · exact bad _ (by rw [q_next, oc_ok_f k1]; rfl)
          · exact absurd rfl h2
  refine gg_ild_n X (pc := 0) dX0_next_0 rfl ?_
  refine gg_if_ge X (pc := 1) (tgt := 8) dX0_next_1 (by decide) (fun h => ?_) (fun h => ?_)
  · refine gg_ild_n X (pc := 8) dX0_next_8 rfl ?_
    obtain ⟨j, hj, rfl⟩ := nI_of (show ¬ c < 0 from fun q => by
      have h1 := Int32.lt_iff_toInt_lt.mp q
      have h2 := Int32.le_iff_toInt_le.mp h
      omega)
    rcases Nat.lt_or_ge j 512 with q | q
    · refine gg_ist_n X (pc := 9) dX0_next_9 (by decide) ?_
      refine loop (512 - j) j (by omega) (fun d h1 h2 => (nI_leI (by omega) (by omega)).mpr h1) (fun ok => ?_)
      rw [q_next, if_pos ok]
      have := oc_fnd_skip (p := fun d => decide (nI j ≤ nI d) && S (oc_n r) d) j (512 - j) 0 (fun i h1 h2 => by
        rw [decide_eq_false (fun z => by have := (nI_leI (by omega) (by omega)).mp z; omega)]
        rfl)
      rw [show j + (512 - j) = 512 by omega, Nat.zero_add] at this
      exact this
    · refine gg_ist_n X (pc := 9) dX0_next_9 (by decide) ?_
      refine gg_ild_n X (pc := 10) dX0_next_10 rfl ?_
      refine gg_sp X (pc := 11) dX0_next_11 oc_sp512 ?_
      refine gg_ic_geN X (pc := 14) (tgt := 41) dX0_next_14 (by decide) (by omega) (by omega) (fun h => ?_) (fun h => ?_)
      · refine bad _ ?_
        rw [q_next]
        cases ok : oc_ok 4 r with
        | false => rfl
        | true =>
          rw [if_pos rfl]
          refine oc_fnd_none _ _ (fun i h1 h2 => ?_)
          rw [decide_eq_false (fun z => by have := (nI_leI (by omega) (by omega)).mp z; omega)]
          rfl
      · exact absurd h (by omega)
  · refine gg_ic X (pc := 4) dX0_next_4 oc_ic0 ?_
    refine gg_goto X (pc := 5) (tgt := 9) dX0_next_5 (by decide) ?_
    refine gg_ist_n X (pc := 9) dX0_next_9 (by decide) ?_
    refine loop 512 0 (by omega) (fun d h1 h2 => ?_) (fun ok => by rw [q_next, if_pos ok])
    rw [Int32.le_iff_toInt_le, nI_toInt (by omega)]
    have h1 : ¬ (0 : Int32).toInt ≤ c.toInt := fun q => h (Int32.le_iff_toInt_le.mpr q)
    have h2 : (0 : Int32).toInt = 0 := by decide
    omega
end
section
/-! order, cubes, surface -/
set_option maxRecDepth 100000
def oc_cor (c k : Nat) : Bool := oc_mo c % 8 ^ k == 0
/-- the cube of order k that has c is even -/
def oc_evn (S : Nat → Bool) (c k : Nat) : Bool := oc_all (fun e => !(oc_mo e / 8 ^ k == oc_mo c / 8 ^ k) || (S e == S c)) 512
def oc_ordS (S : Nat → Bool) (c : Nat) : Nat := if oc_evn S c 3 = true then 3 else if oc_evn S c 2 = true then 2 else if oc_evn S c 1 = true then 1 else 0
def q_order (S : Nat → Nat → Bool) (r c : Int32) : Int32 := if oc_ok 4 r && oc_ok 512 c then nI (oc_ordS (S (oc_n r)) (oc_n c)) else -1
def q_cubes (S : Nat → Nat → Bool) (r : Int32) : Int32 := if oc_ok 4 r then nI (oc_cnt (fun c => oc_cor c (oc_ordS (S (oc_n r)) c)) 512) else -1
theorem oc_lt2 {P : Nat → Nat} {U : Nat → Prop} {S : Nat → Bool} {k b n c : Nat} (hk : k ≤ 3) (hc : c < 512) (hb : b = oc_mo c / 8 ^ k * 8 ^ k) (h : oc_rp P U (fun m => S (oc_cat m)) k b n) : n < 2 ↔ oc_evn S c k = true := by
  obtain ⟨m1, m2⟩ := oc_mo_ok c hc
  constructor
  · intro hn
    obtain ⟨x, -, u⟩ := oc_rp_lt h hn
    have key : ∀ e, e < 512 → oc_mo e / 8 ^ k = oc_mo c / 8 ^ k → S e = x := fun e he q => by
      have := u (oc_mo e % 8 ^ k) (Nat.mod_lt _ (oc_p8 k))
      rw [hb, ← q, Nat.mul_comm, Nat.div_add_mod] at this
      dsimp only at this
      rw [(oc_mo_ok e he).2] at this
      exact this
    refine oc_all_t (fun e he => ?_)
    by_cases q : oc_mo e / 8 ^ k = oc_mo c / 8 ^ k
    · rw [key e he q, key c hc rfl]
      simp
    · simp [q]
  · intro q
    have hu : oc_uni (fun m => S (oc_cat m)) b (8 ^ k) (S c) := by
      intro j hj
      have hm : b + j < 512 := by
        rw [hb]
        rcases (by omega : k = 0 ∨ k = 1 ∨ k = 2 ∨ k = 3) with rfl | rfl | rfl | rfl <;> omega
      obtain ⟨c1, c2⟩ := oc_cat_ok (b + j) hm
      have := oc_all_i q (oc_cat (b + j)) c1
      rw [c2] at this
      have e : (b + j) / 8 ^ k = oc_mo c / 8 ^ k := by
        rw [hb, Nat.mul_comm, Nat.mul_add_div (oc_p8 k), Nat.div_eq_of_lt hj, Nat.add_zero]
      rw [e] at this
      simpa using this
    rw [oc_rp_uni h hu]
    exact oc_bn _
theorem oc_ord_S {v : Nat → Nat → Nat} {S : Nat → Nat → Bool} (h : oc_J v S) {r c : Nat} (hr : r < 4) (hc : c < 512) : oc_ord (v 0) (v 5 r) c = oc_ordS (S r) c := by
  have h3 := h.2.1 r hr
  have p0 := oc_pt_lt c 0
  have p1 := oc_pt_lt c 1
  have p2 := oc_pt_lt c 2
  have m1 := (oc_mo_ok c hc).1
  have a3 := oc_lt2 (by decide) hc (show 0 = oc_mo c / 8 ^ 3 * 8 ^ 3 by omega) h3
  have a2 := oc_lt2 (by decide) hc (show 64 * oc_pt c 2 = oc_mo c / 8 ^ 2 * 8 ^ 2 by unfold oc_mo; omega) (oc_cub_1 h3 c)
  have a1 := oc_lt2 (by decide) hc (show 64 * oc_pt c 2 + 8 * oc_pt c 1 = oc_mo c / 8 ^ 1 * 8 ^ 1 by unfold oc_mo; omega) (oc_cub_2 h3 c)
  unfold oc_ord oc_ordS
  rw [show oc_cub (v 0) (v 5 r) c 0 = v 5 r from rfl]
  by_cases k3 : v 5 r < 2
  · rw [if_pos k3, if_pos (a3.mp k3)]
  · rw [if_neg k3, if_neg (fun q => k3 (a3.mpr q))]
    by_cases k2 : oc_cub (v 0) (v 5 r) c 1 < 2
    · rw [if_pos k2, if_pos (a2.mp k2)]
    · rw [if_neg k2, if_neg (fun q => k2 (a2.mpr q))]
      by_cases k1 : oc_cub (v 0) (v 5 r) c 2 < 2
      · rw [if_pos k1, if_pos (a1.mp k1)]
      · rw [if_neg k1, if_neg (fun q => k1 (a1.mpr q))]
theorem oc_ordS_le (S : Nat → Bool) (c : Nat) : oc_ordS S c ≤ 3 := by
  unfold oc_ordS
  repeat' split
  all_goals decide
theorem mX_order (l : Launch) (D : va_G) (dS dZ : ClassId) (ad : Nat → Nat) (v : Nat → Nat → Nat) (S : Nat → Nat → Bool) (hJ : oc_J v S) (r c : Int32) : oc_Mi l D (oc_tx dS dZ) 5 yX0_order cX0_order 3 (some .int) [.ref (ad 0), .int r, .int c] (oc_xW ad dS dZ) (oc_xW ad dS dZ v) (fun q u => q = q_order S r c ∧ oc_J u S) := by
  refine oc_Mi.ofI (own := RX0) (by decide) rfl (Nat.le_of_ble_eq_true rfl) (by simp [Value.category]) [some (.ref (ad 0)), some (.int r), some (.int c)] rfl ?_
  intro p e s m args below meth cd A Q X hret
  have no : (oc_ok 4 r && oc_ok 512 c) = false → gg p l e (oc_rm 5) s m args below meth cd Q 0 0 D A 3 (oc_xW ad dS dZ v) 28 [some (.ref (ad 0)), some (.int r), some (.int c)] [] := by
    intro h
    refine gg_ic X (pc := 28) dX0_order_28 oc_icm ?_
    exact hret _ _ 29 _ dX0_order_29 (⟨by rw [q_order, h]; rfl, hJ⟩)
  refine gg_ild_n X (pc := 0) dX0_order_0 rfl ?_
  refine gg_calls X (pc := 1) (mX_isSolid l D r) cn_X0_112 ⟨by decide, by decide⟩ ⟨Nat.le_refl _, Nat.le_refl _⟩ rfl rfl (Nat.le_of_ble_eq_true rfl) dX0_order_1 (fun r1 q1 => ?_)
  rcases q1 with ⟨k1, rfl⟩ | ⟨k1, rfl⟩
  · refine gg_if_eqN X (pc := 4) (tgt := 28) dX0_order_4 (by decide) (by omega) (fun h => ?_) (fun h => ?_)
    · exact absurd h (by omega)
    · refine gg_ild_n X (pc := 7) dX0_order_7 rfl ?_
      refine gg_calls X (pc := 8) (mX_isCell l D c) cn_X0_115 ⟨by decide, by decide⟩ ⟨Nat.le_refl _, Nat.le_refl _⟩ rfl rfl (Nat.le_of_ble_eq_true rfl) dX0_order_8 (fun r1 q1 => ?_)
      rcases q1 with ⟨k2, rfl⟩ | ⟨k2, rfl⟩
      · refine gg_if_eqN X (pc := 11) (tgt := 28) dX0_order_11 (by decide) (by omega) (fun h => ?_) (fun h => ?_)
        · exact absurd h (by omega)
        · obtain ⟨j, hj, rfl⟩ := k1
          obtain ⟨x, hx, rfl⟩ := k2
          refine gg_ald_n X (pc := 14) dX0_order_14 rfl ?_
          refine gg_ald_n X (pc := 15) dX0_order_15 rfl ?_
          refine gx_g_roots X (pc := 16) dX0_order_16 ?_
          refine gg_ild_n X (pc := 19) dX0_order_19 rfl ?_
          refine gx_l_roots X (pc := 20) dX0_order_20 (by omega) ?_
          refine gg_ild_n X (pc := 21) dX0_order_21 rfl ?_
          refine gx_calli X (pc := 22) (mX_orderOf l D dS dZ ad v _ _ hJ.1 (oc_J_root hJ hj) hx) cn_X0_121 ⟨by decide, by decide⟩ ⟨Nat.le_refl _, Nat.le_refl _⟩ rfl rfl (Nat.le_of_ble_eq_true rfl) dX0_order_22 (fun r1 u1 q1 => ?_)
          obtain ⟨rfl, rfl⟩ := q1
          refine gg_goto X (pc := 25) (tgt := 29) dX0_order_25 (by decide) ?_
          exact hret _ _ 29 _ dX0_order_29 (⟨by rw [q_order, oc_ok_t (by decide) ⟨j, hj, rfl⟩, oc_ok_t (by decide) ⟨x, hx, rfl⟩, oc_n_nI (by omega), oc_n_nI (by omega), oc_ord_S hJ hj hx]; rfl, hJ⟩)
      · refine gg_if_eqN X (pc := 11) (tgt := 28) dX0_order_11 (by decide) (by omega) (fun h => ?_) (fun h => ?_)
        · exact no (by rw [oc_ok_f k2]; simp)
        · exact absurd rfl h
  · refine gg_if_eqN X (pc := 4) (tgt := 28) dX0_order_4 (by decide) (by omega) (fun h => ?_) (fun h => ?_)
    · exact no (by rw [oc_ok_f k1]; simp)
    · exact absurd rfl h
theorem oc_p3 {k : Nat} (hk : k ≤ 3) : 1 ≤ 1 * 2 ^ (3 * k) ∧ 1 * 2 ^ (3 * k) < 4294967296 ∧ 1 * 2 ^ (3 * k) - 1 = 2 ^ (3 * k) - 1 ∧ 2 ^ (3 * k) = 8 ^ k := by
  rcases (by omega : k = 0 ∨ k = 1 ∨ k = 2 ∨ k = 3) with rfl | rfl | rfl | rfl <;> decide
theorem mX_cubes (l : Launch) (D : va_G) (dS dZ : ClassId) (ad : Nat → Nat) (v : Nat → Nat → Nat) (S : Nat → Nat → Bool) (hJ : oc_J v S) (r : Int32) : oc_Mi l D (oc_tx dS dZ) 5 yX0_cubes cX0_cubes 6 (some .int) [.ref (ad 0), .int r] (oc_xW ad dS dZ) (oc_xW ad dS dZ v) (fun q u => q = q_cubes S r ∧ oc_J u S) := by
  refine oc_Mi.ofI (own := RX0) (by decide) rfl (Nat.le_of_ble_eq_true rfl) (by simp [Value.category]) [some (.ref (ad 0)), some (.int r), none, none, none, none] rfl ?_
  intro p e s m args below meth cd A Q X hret
  refine gg_ild_n X (pc := 0) dX0_cubes_0 rfl ?_
  refine gg_calls X (pc := 1) (mX_isSolid l D r) cn_X0_112 ⟨by decide, by decide⟩ ⟨Nat.le_refl _, Nat.le_refl _⟩ rfl rfl (Nat.le_of_ble_eq_true rfl) dX0_cubes_1 (fun r1 q1 => ?_)
  rcases q1 with ⟨k1, rfl⟩ | ⟨k1, rfl⟩
  · refine gg_if_neN X (pc := 4) (tgt := 9) dX0_cubes_4 (by decide) (by omega) (fun h => ?_) (fun h => ?_)
    · obtain ⟨j, hj, rfl⟩ := k1
      have ok := oc_ok_t (n := 4) (by decide) ⟨j, hj, rfl⟩
      have loop : ∀ (t i : Nat) (p4 p5 : Option Value), i + t = 512 → gg p l e (oc_rm 5) s m args below meth cd Q 0 0 D A 6 (oc_xW ad dS dZ v) 13 [some (.ref (ad 0)), some (.int (nI j)), some (.int (nI (oc_cnt (fun m => (fun c => oc_cor c (oc_ordS (S j) c)) (oc_cat m)) i))), some (.int (nI i)), p4, p5] [] := by
        intro t
        induction t with
        | zero =>
          intro i p4 p5 hi
          obtain rfl : i = 512 := by omega
          refine gg_ild_n X (pc := 13) dX0_cubes_13 rfl ?_
          refine gg_sp X (pc := 14) dX0_cubes_14 oc_sp512 ?_
          refine gg_ic_geN X (pc := 17) (tgt := 67) dX0_cubes_17 (by decide) (by omega) (by omega) (fun h => ?_) (fun h => ?_)
          · refine gg_ild_n X (pc := 67) dX0_cubes_67 rfl ?_
            exact hret _ _ 68 _ dX0_cubes_68 (⟨by rw [q_cubes, ok, oc_n_nI (by omega)]; exact (congrArg nI (oc_cnt_cat (fun c => oc_cor c (oc_ordS (S j) c)))).trans (if_pos rfl).symm, hJ⟩)
          · exact absurd h (by omega)
        | succ t ih =>
          intro i p4 p5 hi
          obtain ⟨c1, c2⟩ := oc_cat_ok i (by omega)
          refine gg_ild_n X (pc := 13) dX0_cubes_13 rfl ?_
          refine gg_sp X (pc := 14) dX0_cubes_14 oc_sp512 ?_
          refine gg_ic_geN X (pc := 17) (tgt := 67) dX0_cubes_17 (by decide) (by omega) (by omega) (fun h => ?_) (fun h => ?_)
          · exact absurd h (by omega)
          · refine gg_ild_n X (pc := 20) dX0_cubes_20 rfl ?_
            refine gg_calls X (pc := 21) (mX_cellAt l D i h) cn_X0_102 ⟨by decide, by decide⟩ ⟨Nat.le_refl _, Nat.le_refl _⟩ rfl rfl (Nat.le_of_ble_eq_true rfl) dX0_cubes_21 (fun r1 q1 => ?_)
            obtain rfl := q1
            refine gg_ist X (pc := 24) dX0_cubes_24 (by decide) ?_
            refine gg_ald_n X (pc := 26) dX0_cubes_26 rfl ?_
            refine gg_ald_n X (pc := 27) dX0_cubes_27 rfl ?_
            refine gx_g_roots X (pc := 28) dX0_cubes_28 ?_
            refine gg_ild_n X (pc := 31) dX0_cubes_31 rfl ?_
            refine gx_l_roots X (pc := 32) dX0_cubes_32 (by omega) ?_
            refine gg_ild X (pc := 33) dX0_cubes_33 rfl ?_
            refine gx_calli X (pc := 35) (mX_orderOf l D dS dZ ad v _ _ hJ.1 (oc_J_root hJ hj) c1) cn_X0_121 ⟨by decide, by decide⟩ ⟨Nat.le_refl _, Nat.le_refl _⟩ rfl rfl (Nat.le_of_ble_eq_true rfl) dX0_cubes_35 (fun r1 u1 q1 => ?_)
            obtain ⟨rfl, rfl⟩ := q1
            rw [oc_ord_S hJ hj c1]
            have ho := oc_ordS_le (S j) (oc_cat i)
            obtain ⟨o1, o2, o3, o4⟩ := oc_p3 ho
            have hlt : i % 2 ^ (3 * oc_ordS (S j) (oc_cat i)) < 2147483648 := Nat.lt_of_le_of_lt (Nat.mod_le _ _) (by omega)
            refine gg_ist X (pc := 38) dX0_cubes_38 (by decide) ?_
            refine gg_ild_n X (pc := 40) dX0_cubes_40 rfl ?_
            refine gg_ild_n X (pc := 41) dX0_cubes_41 rfl ?_
            refine gg_ic X (pc := 42) dX0_cubes_42 oc_ic1 ?_
            refine gg_ic X (pc := 43) dX0_cubes_43 oc_ic3 ?_
            refine gg_ild X (pc := 44) dX0_cubes_44 rfl ?_
            refine gg_imulN X (pc := 46) dX0_cubes_46 ?_
            refine gg_ishlN X (pc := 47) dX0_cubes_47 (by omega) o2 ?_
            refine gg_ic X (pc := 48) dX0_cubes_48 oc_ic1 ?_
            refine gg_isubN X (pc := 49) dX0_cubes_49 o1 ?_
            refine gg_iandN X (pc := 50) dX0_cubes_50 ?_
            refine gg_top (oc_and_mod _ _ o3) ?_
            have cor : oc_cor (oc_cat i) (oc_ordS (S j) (oc_cat i)) = (i % 2 ^ (3 * oc_ordS (S j) (oc_cat i)) == 0) := by
              unfold oc_cor
              rw [c2, o4]
            have nxt : ∀ (b : Nat) (p4 p5 : Option Value), b = (oc_cor (oc_cat i) (oc_ordS (S j) (oc_cat i))).toNat → gg p l e (oc_rm 5) s m args below meth cd Q 0 0 D A 6 (oc_xW ad dS dZ v) 59 [some (.ref (ad 0)), some (.int (nI j)), some (.int (nI (oc_cnt (fun m => (fun c => oc_cor c (oc_ordS (S j) c)) (oc_cat m)) i))), some (.int (nI i)), p4, p5] [.int (nI b), .int (nI (oc_cnt (fun m => (fun c => oc_cor c (oc_ordS (S j) c)) (oc_cat m)) i))] := by
              intro b p4 p5 hb
              subst hb
              refine gg_iaddN X (pc := 59) dX0_cubes_59 ?_
              refine gg_ist_n X (pc := 60) dX0_cubes_60 (by decide) ?_
              refine gg_iinc X (pc := 61) dX0_cubes_61 rfl (oc_inc _) (by decide) ?_
              refine gg_goto X (pc := 64) (tgt := 13) dX0_cubes_64 (by decide) ?_
              exact ih (i + 1) _ _ (by omega)
            refine gg_if_neN X (pc := 51) (tgt := 58) dX0_cubes_51 (by decide) hlt (fun h2 => ?_) (fun h2 => ?_)
            · refine gg_ic X (pc := 58) dX0_cubes_58 oc_ic0 ?_
              exact nxt 0 _ _ (by rw [cor, beq_false_of_ne h2]; rfl)
            · refine gg_ic X (pc := 54) dX0_cubes_54 oc_ic1 ?_
              refine gg_goto X (pc := 55) (tgt := 59) dX0_cubes_55 (by decide) ?_
              exact nxt 1 _ _ (by rw [cor, h2]; rfl)
      refine gg_ic X (pc := 9) dX0_cubes_9 oc_ic0 ?_
      refine gg_ist_n X (pc := 10) dX0_cubes_10 (by decide) ?_
      refine gg_ic X (pc := 11) dX0_cubes_11 oc_ic0 ?_
      refine gg_ist_n X (pc := 12) dX0_cubes_12 (by decide) ?_
      exact loop 512 0 _ _ (by omega)
    · exact absurd h (by omega)
  · refine gg_if_neN X (pc := 4) (tgt := 9) dX0_cubes_4 (by decide) (by omega) (fun h => ?_) (fun h => ?_)
    · exact absurd rfl h
    · refine gg_ic X (pc := 7) dX0_cubes_7 oc_icm ?_
      exact hret _ _ 8 _ dX0_cubes_8 (⟨by rw [q_cubes, oc_ok_f k1]; rfl, hJ⟩)
def oc_sum (f : Nat → Nat) : Nat → Nat
  | 0 => 0
  | n + 1 => oc_sum f n + f n
/-- the faces of a cell along an axis that lie bare -/
def oc_fc (S : Nat → Bool) (c a : Nat) : Nat := (oc_co c a == 0 || !(S (c - 1 * 2 ^ (3 * a)))).toNat + (oc_co c a == 7 || !(S (c + 1 * 2 ^ (3 * a)))).toNat
def oc_sc (S : Nat → Bool) (c : Nat) : Nat := if S c = true then oc_sum (oc_fc S c) 3 else 0
def q_surface (S : Nat → Nat → Bool) (r : Int32) : Int32 := if oc_ok 4 r then nI (oc_sum (oc_sc (S (oc_n r))) 512) else -1
theorem q_has_nI {S : Nat → Nat → Bool} {j c : Nat} (hj : j < 4) (hc : c < 512) : q_has S (nI j) (nI c) = nI (S j c).toNat := by
  rw [q_has, oc_ok_t (by decide) ⟨j, hj, rfl⟩, oc_ok_t (by decide) ⟨c, hc, rfl⟩, oc_n_nI (by omega), oc_n_nI (by omega)]
  rfl
theorem oc_low : ∀ c, c < 512 → ∀ a, a < 3 → oc_co c a ≠ 0 → 1 * 2 ^ (3 * a) ≤ c := by decide +kernel
theorem oc_high : ∀ c, c < 512 → ∀ a, a < 3 → oc_co c a ≠ 7 → c + 1 * 2 ^ (3 * a) < 512 := by decide +kernel
theorem mX_surface (l : Launch) (D : va_G) (dS dZ : ClassId) (ad : Nat → Nat) (v : Nat → Nat → Nat) (S : Nat → Nat → Bool) (hJ : oc_J v S) (r : Int32) : oc_Mi l D (oc_tx dS dZ) 5 yX0_surface cX0_surface 7 (some .int) [.ref (ad 0), .int r] (oc_xW ad dS dZ) (oc_xW ad dS dZ v) (fun q u => q = q_surface S r ∧ oc_J u S) := by
  refine oc_Mi.ofI (own := RX0) (by decide) rfl (Nat.le_of_ble_eq_true rfl) (by simp [Value.category]) [some (.ref (ad 0)), some (.int r), none, none, none, none, none] rfl ?_
  intro p e s m args below meth cd A Q X hret
  refine gg_ild_n X (pc := 0) dX0_surface_0 rfl ?_
  refine gg_calls X (pc := 1) (mX_isSolid l D r) cn_X0_112 ⟨by decide, by decide⟩ ⟨Nat.le_refl _, Nat.le_refl _⟩ rfl rfl (Nat.le_of_ble_eq_true rfl) dX0_surface_1 (fun r1 q1 => ?_)
  rcases q1 with ⟨k1, rfl⟩ | ⟨k1, rfl⟩
  · refine gg_if_neN X (pc := 4) (tgt := 9) dX0_surface_4 (by decide) (by omega) (fun h => ?_) (fun h => ?_)
    · obtain ⟨j, hj, rfl⟩ := k1
      have ok := oc_ok_t (n := 4) (by decide) ⟨j, hj, rfl⟩
      have loop : ∀ (t i : Nat) (p4 p5 p6 : Option Value), i + t = 512 → gg p l e (oc_rm 5) s m args below meth cd Q 0 0 D A 7 (oc_xW ad dS dZ v) 13 [some (.ref (ad 0)), some (.int (nI j)), some (.int (nI (oc_sum (oc_sc (S j)) i))), some (.int (nI i)), p4, p5, p6] [] := by
        intro t
        induction t with
        | zero =>
          intro i p4 p5 p6 hi
          obtain rfl : i = 512 := by omega
          refine gg_ild_n X (pc := 13) dX0_surface_13 rfl ?_
          refine gg_sp X (pc := 14) dX0_surface_14 oc_sp512 ?_
          refine gg_ic_geN X (pc := 17) (tgt := 118) dX0_surface_17 (by decide) (by omega) (by omega) (fun h => ?_) (fun h => ?_)
          · refine gg_ild_n X (pc := 118) dX0_surface_118 rfl ?_
            exact hret _ _ 119 _ dX0_surface_119 (⟨by rw [q_surface, ok, oc_n_nI (by omega)]; rfl, hJ⟩)
          · exact absurd h (by omega)
        | succ t ih =>
          intro i p4 p5 p6 hi
          have hc : i < 512 := by omega
          have nxt : ∀ (n : Nat) (p4 p5 p6 : Option Value), n = oc_sc (S j) i → gg p l e (oc_rm 5) s m args below meth cd Q 0 0 D A 7 (oc_xW ad dS dZ v) 112 [some (.ref (ad 0)), some (.int (nI j)), some (.int (nI (oc_sum (oc_sc (S j)) i + n))), some (.int (nI i)), p4, p5, p6] [] := by
            intro n p4 p5 p6 hn
            subst hn
            refine gg_iinc X (pc := 112) dX0_surface_112 rfl (oc_inc _) (by decide) ?_
            refine gg_goto X (pc := 115) (tgt := 13) dX0_surface_115 (by decide) ?_
            exact ih (i + 1) _ _ _ (by omega)
          have inner : ∀ (t a : Nat) (p5 p6 : Option Value), a + t = 3 → gg p l e (oc_rm 5) s m args below meth cd Q 0 0 D A 7 (oc_xW ad dS dZ v) 23 [some (.ref (ad 0)), some (.int (nI j)), some (.int (nI (oc_sum (oc_sc (S j)) i + (if S j i = true then oc_sum (oc_fc (S j) i) a else 0)))), some (.int (nI i)), some (.int (nI a)), p5, p6] [] := by
            intro t
            induction t with
            | zero =>
              intro a p5 p6 ha
              obtain rfl : a = 3 := by omega
              refine gg_ild X (pc := 23) dX0_surface_23 rfl ?_
              refine gg_ic X (pc := 25) dX0_surface_25 oc_ic3 ?_
              refine gg_ic_geN X (pc := 26) (tgt := 112) dX0_surface_26 (by decide) (by omega) (by omega) (fun h => ?_) (fun h => ?_)
              · exact nxt _ _ _ _ rfl
              · exact absurd h (by omega)
            | succ t ih2 =>
              intro a p5 p6 ha
              refine gg_ild X (pc := 23) dX0_surface_23 rfl ?_
              refine gg_ic X (pc := 25) dX0_surface_25 oc_ic3 ?_
              refine gg_ic_geN X (pc := 26) (tgt := 112) dX0_surface_26 (by decide) (by omega) (by omega) (fun h => ?_) (fun h => ?_)
              · exact absurd h (by omega)
              · refine gg_ald_n X (pc := 29) dX0_surface_29 rfl ?_
                refine gg_ild_n X (pc := 30) dX0_surface_30 rfl ?_
                refine gg_ild_n X (pc := 31) dX0_surface_31 rfl ?_
                refine gx_calli X (pc := 32) (mX_has l D dS dZ ad v S hJ (nI j) (nI i)) cn_X0_124 ⟨by decide, by decide⟩ ⟨Nat.le_refl _, Nat.le_refl _⟩ rfl rfl (Nat.le_of_ble_eq_true rfl) dX0_surface_32 (fun r1 u1 q1 => ?_)
                obtain ⟨rfl, rfl⟩ := q1
                rw [q_has_nI hj hc]
                cases hb : S j i with
                | false =>
                  refine gg_top (show nI false.toNat = nI 0 from rfl) ?_
                  refine gg_if_eqN X (pc := 35) (tgt := 112) dX0_surface_35 (by decide) (by omega) (fun h2 => ?_) (fun h2 => ?_)
                  · exact nxt _ _ _ _ (by rw [oc_sc, hb]; rfl)
                  · exact absurd rfl h2
                | true =>
                  rw [hb] at ih2
                  refine gg_top (show nI true.toNat = nI 1 from rfl) ?_
                  refine gg_if_eqN X (pc := 35) (tgt := 112) dX0_surface_35 (by decide) (by omega) (fun h2 => ?_) (fun h2 => ?_)
                  · exact absurd h2 (by omega)
                  · obtain ⟨o1, o2, o3, o4⟩ := oc_p3 (show a ≤ 3 by omega)
                    have hco := oc_co_lt i a
                    refine gg_ild_n X (pc := 38) dX0_surface_38 rfl ?_
                    refine gg_ild X (pc := 39) dX0_surface_39 rfl ?_
                    refine gg_calls X (pc := 41) (mX_coordinate l D i a hc h) cn_X0_75 ⟨by decide, by decide⟩ ⟨Nat.le_refl _, Nat.le_refl _⟩ rfl rfl (Nat.le_of_ble_eq_true rfl) dX0_surface_41 (fun r1 q1 => ?_)
                    obtain rfl := q1
                    rw [show i / 2 ^ (3 * a) % 8 = oc_co i a from rfl]
                    have second : ∀ (b : Nat), b = (oc_co i a == 0 || !(S j (i - 1 * 2 ^ (3 * a)))).toNat → gg p l e (oc_rm 5) s m args below meth cd Q 0 0 D A 7 (oc_xW ad dS dZ v) 77 [some (.ref (ad 0)), some (.int (nI j)), some (.int (nI (oc_sum (oc_sc (S j)) i + (if true = true then oc_sum (oc_fc (S j) i) a else 0)))), some (.int (nI i)), some (.int (nI a)), some (.int (nI (oc_co i a))), some (.int (nI (1 * 2 ^ (3 * a))))] [.int (nI b), .int (nI (oc_sum (oc_sc (S j)) i + (if true = true then oc_sum (oc_fc (S j) i) a else 0)))] := by
                      intro b hbb
                      have third : ∀ (b2 : Nat), b2 = (oc_co i a == 7 || !(S j (i + 1 * 2 ^ (3 * a)))).toNat → gg p l e (oc_rm 5) s m args below meth cd Q 0 0 D A 7 (oc_xW ad dS dZ v) 104 [some (.ref (ad 0)), some (.int (nI j)), some (.int (nI (oc_sum (oc_sc (S j)) i + (if true = true then oc_sum (oc_fc (S j) i) a else 0) + b))), some (.int (nI i)), some (.int (nI a)), some (.int (nI (oc_co i a))), some (.int (nI (1 * 2 ^ (3 * a))))] [.int (nI b2), .int (nI (oc_sum (oc_sc (S j)) i + (if true = true then oc_sum (oc_fc (S j) i) a else 0) + b))] := by
                        intro b2 hb2
                        have es : oc_sum (oc_fc (S j) i) (a + 1) = oc_sum (oc_fc (S j) i) a + ((oc_co i a == 0 || !(S j (i - 1 * 2 ^ (3 * a)))).toNat + (oc_co i a == 7 || !(S j (i + 1 * 2 ^ (3 * a)))).toNat) := rfl
                        refine gg_iaddN X (pc := 104) dX0_surface_104 ?_
                        refine gg_top ((show nI (oc_sum (oc_sc (S j)) i + (if true = true then oc_sum (oc_fc (S j) i) a else 0) + b + b2) = nI (oc_sum (oc_sc (S j)) i + (if true = true then oc_sum (oc_fc (S j) i) (a + 1) else 0)) by rw [hbb, hb2, if_pos rfl, if_pos rfl]; exact congrArg nI (by rw [es]; omega))) ?_
                        refine gg_ist_n X (pc := 105) dX0_surface_105 (by decide) ?_
                        refine gg_iinc X (pc := 106) dX0_surface_106 rfl (oc_inc _) (by decide) ?_
                        refine gg_goto X (pc := 109) (tgt := 23) dX0_surface_109 (by decide) ?_
                        exact ih2 (a + 1) _ _ (by omega)
                      refine gg_iaddN X (pc := 77) dX0_surface_77 ?_
                      refine gg_ist_n X (pc := 78) dX0_surface_78 (by decide) ?_
                      refine gg_ild_n X (pc := 79) dX0_surface_79 rfl ?_
                      refine gg_ild X (pc := 80) dX0_surface_80 rfl ?_
                      refine gg_bp X (pc := 82) dX0_surface_82 oc_bp7 ?_
                      refine gg_ic_eqN X (pc := 84) (tgt := 99) dX0_surface_84 (by decide) (by omega) (by omega) (fun h7 => ?_) (fun h7 => ?_)
                      · refine gg_ic X (pc := 99) dX0_surface_99 oc_ic1 ?_
                        refine gg_goto X (pc := 100) (tgt := 104) dX0_surface_100 (by decide) ?_
                        exact third 1 (by rw [h7]; rfl)
                      · have hh := oc_high i hc a h h7
                        refine gg_ald_n X (pc := 87) dX0_surface_87 rfl ?_
                        refine gg_ild_n X (pc := 88) dX0_surface_88 rfl ?_
                        refine gg_ild_n X (pc := 89) dX0_surface_89 rfl ?_
                        refine gg_ild X (pc := 90) dX0_surface_90 rfl ?_
                        refine gg_iaddN X (pc := 92) dX0_surface_92 ?_
                        refine gx_calli X (pc := 93) (mX_has l D dS dZ ad v S hJ (nI j) (nI (i + 1 * 2 ^ (3 * a)))) cn_X0_124 ⟨by decide, by decide⟩ ⟨Nat.le_refl _, Nat.le_refl _⟩ rfl rfl (Nat.le_of_ble_eq_true rfl) dX0_surface_93 (fun r1 u1 q1 => ?_)
                        obtain ⟨rfl, rfl⟩ := q1
                        rw [q_has_nI hj hh]
                        have e7 : (oc_co i a == 7) = false := beq_false_of_ne h7
                        cases hs : S j (i + 1 * 2 ^ (3 * a)) with
                        | true =>
                          refine gg_top (show nI true.toNat = nI 1 from rfl) ?_
                          refine gg_if_neN X (pc := 96) (tgt := 103) dX0_surface_96 (by decide) (by omega) (fun h8 => ?_) (fun h8 => ?_)
                          · refine gg_ic X (pc := 103) dX0_surface_103 oc_ic0 ?_
                            exact third 0 (by rw [e7, hs]; rfl)
                          · exact absurd h8 (by omega)
                        | false =>
                          refine gg_top (show nI false.toNat = nI 0 from rfl) ?_
                          refine gg_if_neN X (pc := 96) (tgt := 103) dX0_surface_96 (by decide) (by omega) (fun h8 => ?_) (fun h8 => ?_)
                          · exact absurd rfl h8
                          · refine gg_ic X (pc := 99) dX0_surface_99 oc_ic1 ?_
                            refine gg_goto X (pc := 100) (tgt := 104) dX0_surface_100 (by decide) ?_
                            exact third 1 (by rw [e7, hs]; rfl)
                    refine gg_ist X (pc := 44) dX0_surface_44 (by decide) ?_
                    refine gg_ic X (pc := 46) dX0_surface_46 oc_ic1 ?_
                    refine gg_ic X (pc := 47) dX0_surface_47 oc_ic3 ?_
                    refine gg_ild X (pc := 48) dX0_surface_48 rfl ?_
                    refine gg_imulN X (pc := 50) dX0_surface_50 ?_
                    refine gg_ishlN X (pc := 51) dX0_surface_51 (by omega) o2 ?_
                    refine gg_ist X (pc := 52) dX0_surface_52 (by decide) ?_
                    refine gg_ild_n X (pc := 54) dX0_surface_54 rfl ?_
                    refine gg_ild X (pc := 55) dX0_surface_55 rfl ?_
                    refine gg_if_eqN X (pc := 57) (tgt := 72) dX0_surface_57 (by decide) (by omega) (fun h0 => ?_) (fun h0 => ?_)
                    · refine gg_ic X (pc := 72) dX0_surface_72 oc_ic1 ?_
                      refine gg_goto X (pc := 73) (tgt := 77) dX0_surface_73 (by decide) ?_
                      exact second 1 (by rw [h0]; rfl)
                    · have hl := oc_low i hc a h h0
                      refine gg_ald_n X (pc := 60) dX0_surface_60 rfl ?_
                      refine gg_ild_n X (pc := 61) dX0_surface_61 rfl ?_
                      refine gg_ild_n X (pc := 62) dX0_surface_62 rfl ?_
                      refine gg_ild X (pc := 63) dX0_surface_63 rfl ?_
                      refine gg_isubN X (pc := 65) dX0_surface_65 hl ?_
                      refine gx_calli X (pc := 66) (mX_has l D dS dZ ad v S hJ (nI j) (nI (i - 1 * 2 ^ (3 * a)))) cn_X0_124 ⟨by decide, by decide⟩ ⟨Nat.le_refl _, Nat.le_refl _⟩ rfl rfl (Nat.le_of_ble_eq_true rfl) dX0_surface_66 (fun r1 u1 q1 => ?_)
                      obtain ⟨rfl, rfl⟩ := q1
                      rw [q_has_nI hj (by omega)]
                      have e0 : (oc_co i a == 0) = false := beq_false_of_ne h0
                      cases hs : S j (i - 1 * 2 ^ (3 * a)) with
                      | true =>
                        refine gg_top (show nI true.toNat = nI 1 from rfl) ?_
                        refine gg_if_neN X (pc := 69) (tgt := 76) dX0_surface_69 (by decide) (by omega) (fun h8 => ?_) (fun h8 => ?_)
                        · refine gg_ic X (pc := 76) dX0_surface_76 oc_ic0 ?_
                          exact second 0 (by rw [e0, hs]; rfl)
                        · exact absurd h8 (by omega)
                      | false =>
                        refine gg_top (show nI false.toNat = nI 0 from rfl) ?_
                        refine gg_if_neN X (pc := 69) (tgt := 76) dX0_surface_69 (by decide) (by omega) (fun h8 => ?_) (fun h8 => ?_)
                        · exact absurd rfl h8
                        · refine gg_ic X (pc := 72) dX0_surface_72 oc_ic1 ?_
                          refine gg_goto X (pc := 73) (tgt := 77) dX0_surface_73 (by decide) ?_
                          exact second 1 (by rw [e0, hs]; rfl)
          refine gg_ild_n X (pc := 13) dX0_surface_13 rfl ?_
          refine gg_sp X (pc := 14) dX0_surface_14 oc_sp512 ?_
          refine gg_ic_geN X (pc := 17) (tgt := 118) dX0_surface_17 (by decide) (by omega) (by omega) (fun h => ?_) (fun h => ?_)
          · exact absurd h (by omega)
          · refine gg_ic X (pc := 20) dX0_surface_20 oc_ic0 ?_
            refine gg_ist X (pc := 21) dX0_surface_21 (by decide) ?_
            have := inner 3 0 p5 p6 (by omega)
            rw [show (if S j i = true then oc_sum (oc_fc (S j) i) 0 else 0) = 0 by split <;> rfl, Nat.add_zero] at this
            exact this
      refine gg_ic X (pc := 9) dX0_surface_9 oc_ic0 ?_
      refine gg_ist_n X (pc := 10) dX0_surface_10 (by decide) ?_
      refine gg_ic X (pc := 11) dX0_surface_11 oc_ic0 ?_
      refine gg_ist_n X (pc := 12) dX0_surface_12 (by decide) ?_
      exact loop 512 0 _ _ _ (by omega)
    · exact absurd h (by omega)
  · refine gg_if_neN X (pc := 4) (tgt := 9) dX0_surface_4 (by decide) (by omega) (fun h => ?_) (fun h => ?_)
    · exact absurd rfl h
    · refine gg_ic X (pc := 7) dX0_surface_7 oc_icm ?_
      exact hret _ _ 8 _ dX0_surface_8 (⟨by rw [q_surface, oc_ok_f k1]; rfl, hJ⟩)
end
section
/-! kinds -/
set_option maxRecDepth 100000
def oc_any (p : Nat → Bool) : Nat → Bool
  | 0 => false
  | n + 1 => oc_any p n || p n
theorem oc_any_i {p : Nat → Bool} : ∀ {n : Nat}, oc_any p n = true → ∃ i, i < n ∧ p i = true
  | 0, h => by cases h
  | n + 1, h => by
    unfold oc_any at h
    rcases Bool.or_eq_true _ _ ▸ h with q | q
    · obtain ⟨i, h1, h2⟩ := oc_any_i q
      exact ⟨i, by omega, h2⟩
    · exact ⟨n, by omega, q⟩
theorem oc_any_t {p : Nat → Bool} : ∀ {n i : Nat}, i < n → p i = true → oc_any p n = true
  | 0, i, hi, _ => absurd hi (by omega)
  | n + 1, i, hi, h => by
    unfold oc_any
    rcases Nat.lt_or_ge i n with q | q
    · rw [oc_any_t q h]; rfl
    · rw [show n = i by omega, h]; simp
/-- the cubes of order k that begin with c and d are of one kind -/
def oc_alk (S : Nat → Bool) (k c d : Nat) : Bool := oc_all (fun j => S (oc_cat (oc_mo c + j)) == S (oc_cat (oc_mo d + j))) (8 ^ k)
def oc_fr (S : Nat → Bool) (k c : Nat) : Bool := oc_cor c k && oc_all (fun d => !(oc_cor d k && oc_alk S k c d)) c
def q_kinds (S : Nat → Nat → Bool) (r k : Int32) : Int32 := if oc_ok 4 r && oc_ok 4 k then nI (oc_cnt (oc_fr (S (oc_n r)) (oc_n k)) 512) else -1
theorem oc_cnt_add {f : Nat → Bool} {y N : Nat} (hy : y < N) (hf : f y = false) : oc_cnt (fun i => f i || (y == i)) N = oc_cnt f N + 1 := by
  have h := oc_cnt_rm (f := fun i => f i || (y == i)) (k := y) (by simp) N hy
  rw [← h]
  congr 1
  refine oc_cnt_eq N (fun i _ => ?_)
  by_cases e : i = y
  · rw [e, hf]; simp
  · have e1 : (i == y) = false := beq_false_of_ne e
    have e2 : (y == i) = false := beq_false_of_ne (Ne.symm e)
    rw [e1, e2]; simp
theorem oc_cnt_no {f : Nat → Bool} : ∀ (n : Nat), (∀ i, i < n → f i = false) → oc_cnt f n = 0
  | 0, _ => rfl
  | n + 1, h => by
    show oc_cnt f n + (f n).toNat = 0
    rw [oc_cnt_no n (fun i hi => h i (by omega)), h n (by omega)]
    rfl
theorem oc_fr_cnt {S : Nat → Bool} {k : Nat} {K : Nat → Nat} (hK : ∀ c, c < 512 → K c < 512) (hal : ∀ c d, c < 512 → d < 512 → oc_cor c k = true → oc_cor d k = true → (oc_alk S k c d = true ↔ K c = K d)) : ∀ (n : Nat), n ≤ 512 → oc_cnt (oc_fr S k) n = oc_cnt (fun x => oc_any (fun c => oc_cor c k && (K c == x)) n) 512
  | 0, _ => (oc_cnt_no 512 (fun _ _ => rfl)).symm
  | n + 1, hn => by
    have ih := oc_fr_cnt hK hal n (by omega)
    show oc_cnt (oc_fr S k) n + (oc_fr S k n).toNat = oc_cnt (fun x => oc_any (fun c => oc_cor c k && (K c == x)) n || (oc_cor n k && (K n == x))) 512
    cases hc : oc_cor n k with
    | false =>
      have e : oc_fr S k n = false := by unfold oc_fr; rw [hc]; rfl
      rw [e, ih, Bool.toNat_false, Nat.add_zero]
      exact oc_cnt_eq 512 (fun x _ => by rw [Bool.false_and, Bool.or_false])
    | true =>
      cases hs : oc_any (fun c => oc_cor c k && (K c == K n)) n with
      | true =>
        obtain ⟨d, h1, h2⟩ := oc_any_i hs
        rw [Bool.and_eq_true] at h2
        have h3 : K d = K n := by simpa using h2.2
        have e : oc_fr S k n = false := by
          unfold oc_fr
          rw [oc_all_f h1 (by rw [h2.1, (hal n d (by omega) (by omega) hc h2.1).mpr h3.symm]; rfl)]
          simp
        rw [e, ih, Bool.toNat_false, Nat.add_zero]
        refine oc_cnt_eq 512 (fun x _ => ?_)
        by_cases q : K n = x
        · rw [← q, hs]; simp
        · have : (K n == x) = false := beq_false_of_ne q
          rw [this]; simp
      | false =>
        have e : oc_fr S k n = true := by
          unfold oc_fr
          rw [hc, oc_all_t (fun d hd => ?_)]
          · rfl
          · cases h1 : oc_cor d k && oc_alk S k n d with
            | false => rfl
            | true =>
              rw [Bool.and_eq_true] at h1
              have h3 := (hal n d (by omega) (by omega) hc h1.1).mp h1.2
              have h4 := oc_any_t (p := fun c => oc_cor c k && (K c == K n)) hd (by rw [h1.1, h3]; simp)
              rw [hs] at h4
              cases h4
        have h5 := oc_cnt_add (f := fun x => oc_any (fun c => oc_cor c k && (K c == x)) n) (hK n (by omega)) hs
        rw [e, ih, Bool.toNat_true, ← h5]
        exact oc_cnt_eq 512 (fun x _ => by rw [Bool.true_and])
theorem oc_cub_k {P : Nat → Nat} {U : Nat → Prop} {F : Nat → Bool} {n c k : Nat} (h : oc_rp P U F 3 0 n) (hc : c < 512) (hk : k ≤ 3) : oc_rp P U F k (oc_mo c / 8 ^ k * 8 ^ k) (oc_cub P n c (3 - k)) := by
  have p0 := oc_pt_lt c 0
  have p1 := oc_pt_lt c 1
  have p2 := oc_pt_lt c 2
  have m1 := (oc_mo_ok c hc).1
  rcases (by omega : k = 0 ∨ k = 1 ∨ k = 2 ∨ k = 3) with rfl | rfl | rfl | rfl
  · have := oc_cub_3 h c
    rw [show oc_mo c / 8 ^ 0 * 8 ^ 0 = oc_mo c by omega]
    exact this
  · rw [show oc_mo c / 8 ^ 1 * 8 ^ 1 = 64 * oc_pt c 2 + 8 * oc_pt c 1 by unfold oc_mo; omega]
    exact oc_cub_2 h c
  · rw [show oc_mo c / 8 ^ 2 * 8 ^ 2 = 64 * oc_pt c 2 by unfold oc_mo; omega]
    exact oc_cub_1 h c
  · rw [show oc_mo c / 8 ^ 3 * 8 ^ 3 = 0 by omega]
    exact h
theorem oc_alk_K {v : Nat → Nat → Nat} {S : Nat → Nat → Bool} (h : oc_J v S) {r k : Nat} (hr : r < 4) (hk : k ≤ 3) (c d : Nat) (hc : c < 512) (hd : d < 512) (c1 : oc_cor c k = true) (d1 : oc_cor d k = true) : oc_alk (S r) k c d = true ↔ oc_cub (v 0) (v 5 r) c (3 - k) = oc_cub (v 0) (v 5 r) d (3 - k) := by
  have base : ∀ c, oc_cor c k = true → oc_mo c / 8 ^ k * 8 ^ k = oc_mo c := fun c h => by
    have h : oc_mo c % 8 ^ k = 0 := by unfold oc_cor at h; simpa using h
    have := Nat.div_add_mod (oc_mo c) (8 ^ k)
    rw [h, Nat.add_zero, Nat.mul_comm] at this
    exact this
  have hc2 := oc_cub_k (h.2.1 r hr) hc hk
  have hd2 := oc_cub_k (h.2.1 r hr) hd hk
  rw [base c c1] at hc2
  rw [base d d1] at hd2
  rw [oc_rp_eq h.2.2 hc2 hd2]
  constructor
  · intro q j hj
    have := oc_all_i q j hj
    simpa using this
  · intro q
    exact oc_all_t (fun j hj => by have := q j hj; simpa using this)
theorem mX_kinds (l : Launch) (D : va_G) (dS dZ : ClassId) (ad : Nat → Nat) (v : Nat → Nat → Nat) (S : Nat → Nat → Bool) (hJ : oc_J v S) (r k : Int32) : oc_Mi l D (oc_tx dS dZ) 5 yX0_kinds cX0_kinds 8 (some .int) [.ref (ad 0), .int r, .int k] (oc_xW ad dS dZ) (oc_xW ad dS dZ v) (fun q u => q = q_kinds S r k ∧ oc_J u S) := by
  refine oc_Mi.ofI (own := RX0) (by decide) rfl (Nat.le_of_ble_eq_true rfl) (by simp [Value.category]) [some (.ref (ad 0)), some (.int r), some (.int k), none, none, none, none, none] rfl ?_
  intro p e s m args below meth cd A Q X hret
  have no : (oc_ok 4 r && oc_ok 4 k) = false → gg p l e (oc_rm 5) s m args below meth cd Q 0 0 D A 8 (oc_xW ad dS dZ v) 16 [some (.ref (ad 0)), some (.int r), some (.int k), none, none, none, none, none] [] := by
    intro h
    refine gg_ic X (pc := 16) dX0_kinds_16 oc_icm ?_
    exact hret _ _ 17 _ dX0_kinds_17 (⟨by rw [q_kinds, h]; rfl, hJ⟩)
  refine gg_ild_n X (pc := 0) dX0_kinds_0 rfl ?_
  refine gg_calls X (pc := 1) (mX_isSolid l D r) cn_X0_112 ⟨by decide, by decide⟩ ⟨Nat.le_refl _, Nat.le_refl _⟩ rfl rfl (Nat.le_of_ble_eq_true rfl) dX0_kinds_1 (fun r1 q1 => ?_)
  rcases q1 with ⟨k1, rfl⟩ | ⟨k1, rfl⟩
  · refine gg_if_eqN X (pc := 4) (tgt := 16) dX0_kinds_4 (by decide) (by omega) (fun h => ?_) (fun h => ?_)
    · exact absurd h (by omega)
    · refine gg_ild_n X (pc := 7) dX0_kinds_7 rfl ?_
      refine gg_if_lt X (pc := 8) (tgt := 16) dX0_kinds_8 (by decide) (fun h1 => ?_) (fun h1 => ?_)
      · exact no (by rw [oc_ok_f (oc_in_neg (r := k) (by decide) h1)]; simp)
      · refine gg_ild_n X (pc := 11) dX0_kinds_11 rfl ?_
        refine gg_ic X (pc := 12) dX0_kinds_12 oc_ic3 ?_
        refine gg_ic_le X (pc := 13) (tgt := 18) dX0_kinds_13 (by decide) (fun h2 => ?_) (fun h2 => ?_)
        · obtain ⟨z, hz, rfl⟩ := oc_in_le (by decide) h1 h2
          obtain ⟨j, hj, rfl⟩ := k1
          have ok1 := oc_ok_t (n := 4) (by decide) ⟨j, hj, rfl⟩
          have ok2 := oc_ok_t (n := 4) (r := nI z) (by decide) ⟨z, hz, rfl⟩
          have e1 : oc_n (nI j) = j := oc_n_nI (by omega)
          have e2 : oc_n (nI z) = z := oc_n_nI (by omega)
          obtain ⟨o1, o2, o3, o4⟩ := oc_p3 (show z ≤ 3 by omega)
          have loop : ∀ (t i sz : Nat) (w : Nat → Nat → Nat) (p6 p7 : Option Value), sz = 8 ^ z → i + t = 513 → (∀ a, a ≠ 4 → w a = v a) → (∀ y, y < 512 → w 4 y < 2) → (∀ y, y < 512 → w 4 y = 1 → ∃ i', i' < i ∧ oc_cub (v 0) (v 5 j) (oc_cat (i' * sz)) (3 - z) = y) → (∀ i', i' < i → i' * sz < 512 ∧ w 4 (oc_cub (v 0) (v 5 j) (oc_cat (i' * sz)) (3 - z)) = 1) → gg p l e (oc_rm 5) s m args below meth cd Q 0 0 D A 8 (oc_xW ad dS dZ w) 52 [some (.ref (ad 0)), some (.int (nI j)), some (.int (nI z)), some (.int (nI (oc_cnt (fun y => w 4 y == 1) 512))), some (.int (nI sz)), some (.int (nI (i * sz))), p6, p7] [] := by
            intro t
            induction t with
            | zero =>
              intro i sz w p6 p7 hsz hi ha hb hs1 hs2
              exfalso
              have h1 := hs2 512 (by omega)
              have h2 := oc_p8 z
              have : 512 * 1 ≤ 512 * sz := Nat.mul_le_mul_left _ (by omega)
              omega
            | succ t ih =>
              intro i sz w p6 p7 hsz hi ha hb hs1 hs2
              have hs0 : 1 ≤ sz := by rw [hsz]; exact oc_p8 z
              have hs9 : sz ≤ 512 := by
                rw [hsz]
                exact Nat.pow_le_pow_right (n := 8) (by decide) (show z ≤ 3 by omega)
              have hm : i * sz ≤ 513 * 512 := Nat.mul_le_mul (by omega) hs9
              have ew5 : w 5 = v 5 := ha 5 (by decide)
              have ew0 : w 0 = v 0 := ha 0 (by decide)
              have hw2 : oc_wf w := fun q hq => by rw [ew0]; exact hJ.1 q hq
              have hr2 := oc_J_root hJ hj
              refine gg_ild X (pc := 52) dX0_kinds_52 rfl ?_
              refine gg_sp X (pc := 54) dX0_kinds_54 oc_sp512 ?_
              refine gg_ic_geN X (pc := 57) (tgt := 118) dX0_kinds_57 (by decide) (by omega) (by omega) (fun h3 => ?_) (fun h3 => ?_)
              · refine gg_ild_n X (pc := 118) dX0_kinds_118 rfl ?_
                refine hret _ _ 119 _ dX0_kinds_119 ⟨?_, hJ.eq ew0 (ha 1 (by decide)) ew5⟩
                rw [q_kinds, ok1, ok2, e1, e2, oc_fr_cnt (K := fun c => oc_cub (v 0) (v 5 j) c (3 - z)) (fun c _ => oc_cub_lt hJ.1 hr2 c _) (fun c d hc hd => oc_alk_K hJ hj (by omega) c d hc hd) 512 (Nat.le_refl _)]
                refine congrArg nI (oc_cnt_eq 512 (fun y hy => ?_))
                have iff : w 4 y = 1 ↔ oc_any (fun c => oc_cor c z && (oc_cub (v 0) (v 5 j) c (3 - z) == y)) 512 = true := by
                  constructor
                  · intro q
                    obtain ⟨i', a1, a2⟩ := hs1 y hy q
                    obtain ⟨b1, b2⟩ := oc_cat_ok (i' * sz) (hs2 i' a1).1
                    refine oc_any_t b1 ?_
                    rw [a2]
                    unfold oc_cor
                    rw [b2, hsz, Nat.mul_mod_left]
                    simp
                  · intro q
                    obtain ⟨c, c1, c2⟩ := oc_any_i q
                    rw [Bool.and_eq_true] at c2
                    obtain ⟨c3, c4⟩ := c2
                    have c4 : oc_cub (v 0) (v 5 j) c (3 - z) = y := by simpa using c4
                    have c5 : oc_mo c % sz = 0 := by rw [hsz]; unfold oc_cor at c3; simpa using c3
                    obtain ⟨m1, m2⟩ := oc_mo_ok c c1
                    have c6 : oc_mo c / sz * sz = oc_mo c := by
                      have := Nat.div_add_mod (oc_mo c) sz
                      rw [c5, Nat.add_zero, Nat.mul_comm] at this
                      exact this
                    have c7 : oc_mo c / sz < i := by
                      rcases Nat.lt_or_ge (oc_mo c / sz) i with q | q
                      · exact q
                      · have := Nat.mul_le_mul_right sz q
                        omega
                    have := (hs2 _ c7).2
                    rw [c6, m2, c4] at this
                    exact this
                by_cases q : w 4 y = 1
                · rw [iff.mp q, q]; rfl
                · have q2 : (w 4 y == 1) = false := beq_false_of_ne q
                  rw [q2]
                  cases q3 : oc_any (fun c => oc_cor c z && (oc_cub (v 0) (v 5 j) c (3 - z) == y)) 512 with
                  | false => rfl
                  | true => exact absurd (iff.mpr q3) q
              · obtain ⟨b1, b2⟩ := oc_cat_ok (i * sz) h3
                have hkl := oc_cub_lt hJ.1 hr2 (oc_cat (i * sz)) (3 - z)
                have hk2 := hb _ hkl
                refine gg_ild X (pc := 60) dX0_kinds_60 rfl ?_
                refine gg_calls X (pc := 62) (mX_cellAt l D (i * sz) h3) cn_X0_102 ⟨by decide, by decide⟩ ⟨Nat.le_refl _, Nat.le_refl _⟩ rfl rfl (Nat.le_of_ble_eq_true rfl) dX0_kinds_62 (fun r1 q1 => ?_)
                obtain rfl := q1
                refine gg_ist X (pc := 65) dX0_kinds_65 (by decide) ?_
                refine gg_ald_n X (pc := 67) dX0_kinds_67 rfl ?_
                refine gg_ald_n X (pc := 68) dX0_kinds_68 rfl ?_
                refine gx_g_roots X (pc := 69) dX0_kinds_69 ?_
                refine gg_ild_n X (pc := 72) dX0_kinds_72 rfl ?_
                refine gx_l_roots X (pc := 73) dX0_kinds_73 (by omega) ?_
                rw [ew5]
                refine gg_ild X (pc := 74) dX0_kinds_74 rfl ?_
                refine gg_ild_n X (pc := 76) dX0_kinds_76 rfl ?_
                refine gx_calli X (pc := 77) (mX_cubeAt l D dS dZ ad w _ _ z hw2 hr2 b1 (by omega)) cn_X0_90 ⟨by decide, by decide⟩ ⟨Nat.le_refl _, Nat.le_refl _⟩ rfl rfl (Nat.le_of_ble_eq_true rfl) dX0_kinds_77 (fun r1 u1 q1 => ?_)
                obtain ⟨rfl, rfl⟩ := q1
                rw [ew0]
                have fin : ∀ (n : Nat), n = oc_cnt (fun y => oc_up w 4 (oc_cub (v 0) (v 5 j) (oc_cat (i * sz)) (3 - z)) 1 4 y == 1) 512 → gg p l e (oc_rm 5) s m args below meth cd Q 0 0 D A 8 (oc_xW ad dS dZ w) 99 [some (.ref (ad 0)), some (.int (nI j)), some (.int (nI z)), some (.int (nI (oc_cnt (fun y => w 4 y == 1) 512))), some (.int (nI sz)), some (.int (nI (i * sz))), some (.int (nI (oc_cat (i * sz)))), some (.int (nI (oc_cub (v 0) (v 5 j) (oc_cat (i * sz)) (3 - z))))] [.int (nI n)] := by
                  intro n hn
                  subst hn
                  refine gg_ist_n X (pc := 99) dX0_kinds_99 (by decide) ?_
                  refine gg_ald_n X (pc := 100) dX0_kinds_100 rfl ?_
                  refine gx_g_seen X (pc := 101) dX0_kinds_101 ?_
                  refine gg_ild X (pc := 104) dX0_kinds_104 rfl ?_
                  refine gg_ic X (pc := 106) dX0_kinds_106 oc_ic1 ?_
                  refine gx_s_seen X (pc := 107) dX0_kinds_107 (by omega) (by omega) ?_
                  refine gg_ild X (pc := 108) dX0_kinds_108 rfl ?_
                  refine gg_ild X (pc := 110) dX0_kinds_110 rfl ?_
                  refine gg_iaddN X (pc := 112) dX0_kinds_112 ?_
                  refine gg_top ((show nI (i * sz + sz) = nI ((i + 1) * sz) by rw [Nat.add_mul, Nat.one_mul])) ?_
                  refine gg_ist X (pc := 113) dX0_kinds_113 (by decide) ?_
                  refine gg_goto X (pc := 115) (tgt := 52) dX0_kinds_115 (by decide) ?_
                  refine ih (i + 1) sz _ _ _ hsz (by omega) (fun a h => ?_) (fun y hy => ?_) (fun y hy0 hy => ?_) (fun i' hi' => ?_)
                  · rw [← ha a h]
                    funext q
                    exact oc_up_a _ _ _ _ h
                  · by_cases q : y = oc_cub (v 0) (v 5 j) (oc_cat (i * sz)) (3 - z)
                    · rw [q, oc_up_s]; decide
                    · rw [oc_up_k _ _ _ _ q]; exact hb y hy
                  · by_cases q : y = oc_cub (v 0) (v 5 j) (oc_cat (i * sz)) (3 - z)
                    · exact ⟨i, by omega, q.symm⟩
                    · rw [oc_up_k _ _ _ _ q] at hy
                      obtain ⟨i', a1, a2⟩ := hs1 y hy0 hy
                      exact ⟨i', by omega, a2⟩
                  · rcases Nat.lt_or_ge i' i with q | q
                    · refine ⟨(hs2 i' q).1, ?_⟩
                      by_cases q2 : oc_cub (v 0) (v 5 j) (oc_cat (i' * sz)) (3 - z) = oc_cub (v 0) (v 5 j) (oc_cat (i * sz)) (3 - z)
                      · rw [q2, oc_up_s]
                      · rw [oc_up_k _ _ _ _ q2]; exact (hs2 i' q).2
                    · obtain rfl : i' = i := by omega
                      exact ⟨h3, oc_up_s _ _ _ _⟩
                refine gg_ist X (pc := 80) dX0_kinds_80 (by decide) ?_
                refine gg_ild_n X (pc := 82) dX0_kinds_82 rfl ?_
                refine gg_ald_n X (pc := 83) dX0_kinds_83 rfl ?_
                refine gx_g_seen X (pc := 84) dX0_kinds_84 ?_
                refine gg_ild X (pc := 87) dX0_kinds_87 rfl ?_
                refine gx_l_seen X (pc := 89) dX0_kinds_89 (by omega) ?_
                refine gg_if_eqN X (pc := 90) (tgt := 97) dX0_kinds_90 (by decide) (by omega) (fun h4 => ?_) (fun h4 => ?_)
                · refine gg_ic X (pc := 97) dX0_kinds_97 oc_ic1 ?_
                  refine gg_iaddN X (pc := 98) dX0_kinds_98 ?_
                  refine fin _ ?_
                  have := oc_cnt_add (f := fun y => w 4 y == 1) hkl (beq_false_of_ne (by omega))
                  rw [← this]
                  refine oc_cnt_eq 512 (fun y _ => ?_)
                  by_cases q : y = oc_cub (v 0) (v 5 j) (oc_cat (i * sz)) (3 - z)
                  · rw [q, oc_up_s]; simp
                  · have q2 : (oc_cub (v 0) (v 5 j) (oc_cat (i * sz)) (3 - z) == y) = false := beq_false_of_ne (Ne.symm q)
                    rw [oc_up_k _ _ _ _ q, q2]; simp
                · refine gg_ic X (pc := 93) dX0_kinds_93 oc_ic0 ?_
                  refine gg_goto X (pc := 94) (tgt := 98) dX0_kinds_94 (by decide) ?_
                  refine gg_iaddN X (pc := 98) dX0_kinds_98 ?_
                  refine fin _ ?_
                  rw [Nat.add_zero]
                  refine oc_cnt_eq 512 (fun y _ => ?_)
                  by_cases q : y = oc_cub (v 0) (v 5 j) (oc_cat (i * sz)) (3 - z)
                  · rw [q, oc_up_s, show w 4 (oc_cub (v 0) (v 5 j) (oc_cat (i * sz)) (3 - z)) = 1 by omega]
                  · rw [oc_up_k _ _ _ _ q]
          have zero : ∀ (t n : Nat) (w : Nat → Nat → Nat), n + t = 512 → (∀ a, a ≠ 4 → w a = v a) → (∀ y, y < n → w 4 y = 0) → gg p l e (oc_rm 5) s m args below meth cd Q 0 0 D A 8 (oc_xW ad dS dZ w) 20 [some (.ref (ad 0)), some (.int (nI j)), some (.int (nI z)), some (.int (nI n)), none, none, none, none] [] := by
            intro t
            induction t with
            | zero =>
              intro n w hn ha h0
              obtain rfl : n = 512 := by omega
              refine gg_ild_n X (pc := 20) dX0_kinds_20 rfl ?_
              refine gg_sp X (pc := 21) dX0_kinds_21 oc_sp512 ?_
              refine gg_ic_geN X (pc := 24) (tgt := 40) dX0_kinds_24 (by decide) (by omega) (by omega) (fun h3 => ?_) (fun h3 => ?_)
              · refine gg_ic X (pc := 40) dX0_kinds_40 oc_ic0 ?_
                refine gg_ist_n X (pc := 41) dX0_kinds_41 (by decide) ?_
                refine gg_ic X (pc := 42) dX0_kinds_42 oc_ic1 ?_
                refine gg_ic X (pc := 43) dX0_kinds_43 oc_ic3 ?_
                refine gg_ild_n X (pc := 44) dX0_kinds_44 rfl ?_
                refine gg_imulN X (pc := 45) dX0_kinds_45 ?_
                refine gg_ishlN X (pc := 46) dX0_kinds_46 (by omega) o2 ?_
                refine gg_ist X (pc := 47) dX0_kinds_47 (by decide) ?_
                refine gg_ic X (pc := 49) dX0_kinds_49 oc_ic0 ?_
                refine gg_ist X (pc := 50) dX0_kinds_50 (by decide) ?_
                have e0 : oc_cnt (fun y => w 4 y == 1) 512 = 0 := oc_cnt_no 512 (fun y hy => by rw [h0 y hy]; rfl)
                have hgo := loop 513 0 (1 * 2 ^ (3 * z)) w none none (by rw [Nat.one_mul]; exact o4) (by omega) ha (fun y hy => by rw [h0 y hy]; decide) (fun y hy0 hy => by rw [h0 y hy0] at hy; cases hy) (fun i' hi' => absurd hi' (by omega))
                rw [e0, Nat.zero_mul] at hgo
                exact hgo
              · exact absurd h3 (by omega)
            | succ t ih =>
              intro n w hn ha h0
              refine gg_ild_n X (pc := 20) dX0_kinds_20 rfl ?_
              refine gg_sp X (pc := 21) dX0_kinds_21 oc_sp512 ?_
              refine gg_ic_geN X (pc := 24) (tgt := 40) dX0_kinds_24 (by decide) (by omega) (by omega) (fun h3 => ?_) (fun h3 => ?_)
              · exact absurd h3 (by omega)
              · refine gg_ald_n X (pc := 27) dX0_kinds_27 rfl ?_
                refine gx_g_seen X (pc := 28) dX0_kinds_28 ?_
                refine gg_ild_n X (pc := 31) dX0_kinds_31 rfl ?_
                refine gg_ic X (pc := 32) dX0_kinds_32 oc_ic0 ?_
                refine gx_s_seen X (pc := 33) dX0_kinds_33 (by omega) (by omega) ?_
                refine gg_iinc X (pc := 34) dX0_kinds_34 rfl (oc_inc _) (by decide) ?_
                refine gg_goto X (pc := 37) (tgt := 20) dX0_kinds_37 (by decide) ?_
                refine ih (n + 1) _ (by omega) (fun a h => ?_) (fun y hy => ?_)
                · rw [← ha a h]
                  funext q
                  exact oc_up_a _ _ _ _ h
                · by_cases q : y = n
                  · rw [q, oc_up_s]
                  · rw [oc_up_k _ _ _ _ q]; exact h0 y (by omega)
          refine gg_ic X (pc := 18) dX0_kinds_18 oc_ic0 ?_
          refine gg_ist_n X (pc := 19) dX0_kinds_19 (by decide) ?_
          exact zero 512 0 v (by omega) (fun _ _ => rfl) (fun y hy => absurd hy (by omega))
        · exact no (by rw [oc_ok_f (oc_in_nle (n := 3) (r := k) (by decide) h2)]; simp)
  · refine gg_if_eqN X (pc := 4) (tgt := 16) dX0_kinds_4 (by decide) (by omega) (fun h => ?_) (fun h => ?_)
    · exact no (by rw [oc_ok_f k1]; simp)
    · exact absurd rfl h
end
section
/-! the model: solid, cell, part, between, keep, together, corner, neighbour, alike -/
set_option maxRecDepth 100000
theorem mM_solid (l : Launch) (D : va_G) (dZ : ClassId) (ad : Nat → Nat) (v : Nat → Nat → Nat) (r : Int32) : oc_Mi l D (oc_tm dZ) 0 yX1_solid cX1_solid 2 (some .boolean) [.ref (ad 0), .int r] (oc_mW ad dZ) (oc_mW ad dZ v) (fun q u => ((oc_in 4 r ∧ q = nI 1) ∨ (¬ oc_in 4 r ∧ q = nI 0)) ∧ v = u) := by
  refine oc_Mi.ofZ (own := RX1) (by decide) rfl (Nat.le_of_ble_eq_true rfl) (by simp [Value.category]) [some (.ref (ad 0)), some (.int r)] rfl ?_
  intro p e s m args below meth cd A Q X hret
  refine gg_ild_n X (pc := 0) dX1_solid_0 rfl ?_
  refine gg_if_lt X (pc := 1) (tgt := 13) dX1_solid_1 (by decide) (fun h => ?_) (fun h => ?_)
  · refine gg_ic X (pc := 13) dX1_solid_13 oc_ic0 ?_
    exact hret _ _ 14 _ dX1_solid_14 (by omega) (⟨Or.inr ⟨oc_in_neg (by decide) h, rfl⟩, rfl⟩)
  · refine gg_ild_n X (pc := 4) dX1_solid_4 rfl ?_
    refine gg_ic X (pc := 5) dX1_solid_5 oc_ic3 ?_
    refine gg_ic_gt X (pc := 6) (tgt := 13) dX1_solid_6 (by decide) (fun h2 => ?_) (fun h2 => ?_)
    · refine gg_ic X (pc := 13) dX1_solid_13 oc_ic0 ?_
      exact hret _ _ 14 _ dX1_solid_14 (by omega) (⟨Or.inr ⟨oc_in_nle (n := 3) (by decide) (fun q => absurd h2 (by rw [Int32.lt_iff_toInt_lt]; have := Int32.le_iff_toInt_le.mp q; omega)), rfl⟩, rfl⟩)
    · refine gg_ic X (pc := 9) dX1_solid_9 oc_ic1 ?_
      refine gg_goto X (pc := 10) (tgt := 14) dX1_solid_10 (by decide) ?_
      exact hret _ _ 14 _ dX1_solid_14 (by omega) (⟨Or.inl ⟨oc_in_le (n := 3) (by decide) h (by rw [Int32.le_iff_toInt_le]; rw [Int32.lt_iff_toInt_lt] at h2; omega), rfl⟩, rfl⟩)
theorem mM_cell (l : Launch) (D : va_G) (dZ : ClassId) (ad : Nat → Nat) (v : Nat → Nat → Nat) (r : Int32) : oc_Mi l D (oc_tm dZ) 0 yX1_cell cX1_cell 2 (some .boolean) [.ref (ad 0), .int r] (oc_mW ad dZ) (oc_mW ad dZ v) (fun q u => ((oc_in 512 r ∧ q = nI 1) ∨ (¬ oc_in 512 r ∧ q = nI 0)) ∧ v = u) := by
  refine oc_Mi.ofZ (own := RX1) (by decide) rfl (Nat.le_of_ble_eq_true rfl) (by simp [Value.category]) [some (.ref (ad 0)), some (.int r)] rfl ?_
  intro p e s m args below meth cd A Q X hret
  refine gg_ild_n X (pc := 0) dX1_cell_0 rfl ?_
  refine gg_if_lt X (pc := 1) (tgt := 15) dX1_cell_1 (by decide) (fun h => ?_) (fun h => ?_)
  · refine gg_ic X (pc := 15) dX1_cell_15 oc_ic0 ?_
    exact hret _ _ 16 _ dX1_cell_16 (by omega) (⟨Or.inr ⟨oc_in_neg (by decide) h, rfl⟩, rfl⟩)
  · refine gg_ild_n X (pc := 4) dX1_cell_4 rfl ?_
    refine gg_sp X (pc := 5) dX1_cell_5 oc_sp511 ?_
    refine gg_ic_gt X (pc := 8) (tgt := 15) dX1_cell_8 (by decide) (fun h2 => ?_) (fun h2 => ?_)
    · refine gg_ic X (pc := 15) dX1_cell_15 oc_ic0 ?_
      exact hret _ _ 16 _ dX1_cell_16 (by omega) (⟨Or.inr ⟨oc_in_nle (n := 511) (by decide) (fun q => absurd h2 (by rw [Int32.lt_iff_toInt_lt]; have := Int32.le_iff_toInt_le.mp q; omega)), rfl⟩, rfl⟩)
    · refine gg_ic X (pc := 11) dX1_cell_11 oc_ic1 ?_
      refine gg_goto X (pc := 12) (tgt := 16) dX1_cell_12 (by decide) ?_
      exact hret _ _ 16 _ dX1_cell_16 (by omega) (⟨Or.inl ⟨oc_in_le (n := 511) (by decide) h (by rw [Int32.le_iff_toInt_le]; rw [Int32.lt_iff_toInt_lt] at h2; omega), rfl⟩, rfl⟩)
theorem mM_part (l : Launch) (D : va_G) (dZ : ClassId) (ad : Nat → Nat) (v : Nat → Nat → Nat) (c a : Nat) (hc : c < 512) (ha : a < 3) : oc_Mi l D (oc_tm dZ) 0 yX1_part cX1_part 3 (some .int) [.ref (ad 0), .int (nI c), .int (nI a)] (oc_mW ad dZ) (oc_mW ad dZ v) (fun q u => q = nI (oc_co c a) ∧ v = u) := by
  refine oc_Mi.ofI (own := RX1) (by decide) rfl (Nat.le_of_ble_eq_true rfl) (by simp [Value.category]) [some (.ref (ad 0)), some (.int (nI c)), some (.int (nI a))] rfl ?_
  intro p e s m args below meth cd A Q X hret
  refine gg_ild_n X (pc := 0) dX1_part_0 rfl ?_
  refine gg_ic X (pc := 1) dX1_part_1 oc_ic3 ?_
  refine gg_ild_n X (pc := 2) dX1_part_2 rfl ?_
  refine gg_imulN X (pc := 3) dX1_part_3 ?_
  refine gg_ishrN X (pc := 4) dX1_part_4 (by omega) (by omega) ?_
  refine gg_bp X (pc := 5) dX1_part_5 oc_bp7 ?_
  refine gg_iandN X (pc := 7) dX1_part_7 ?_
  refine gg_top (oc_and_mod _ 3 rfl) ?_
  exact hret _ _ 8 _ dX1_part_8 (⟨rfl, rfl⟩)
theorem mM_between (l : Launch) (D : va_G) (dZ : ClassId) (ad : Nat → Nat) (v : Nat → Nat → Nat) (c d f a : Nat) (hc : c < 512) (hd : d < 512) (hf : f < 512) (ha : a < 3) : oc_Mi l D (oc_tm dZ) 1 yX1_between cX1_between 8 (some .boolean) [.ref (ad 0), .int (nI c), .int (nI d), .int (nI f), .int (nI a)] (oc_mW ad dZ) (oc_mW ad dZ v) (fun q u => q = nI (oc_btw c d f a).toNat ∧ v = u) := by
  refine oc_Mi.ofZ (own := RX1) (by decide) rfl (Nat.le_of_ble_eq_true rfl) (by simp [Value.category]) [some (.ref (ad 0)), some (.int (nI c)), some (.int (nI d)), some (.int (nI f)), some (.int (nI a)), none, none, none] rfl ?_
  intro p e s m args below meth cd A Q X hret
  have e0 := oc_co_lt c a
  have e1 := oc_co_lt d a
  have e2 := oc_co_lt f a
  refine gg_ald_n X (pc := 0) dX1_between_0 rfl ?_
  refine gg_ild_n X (pc := 1) dX1_between_1 rfl ?_
  refine gg_ild X (pc := 2) dX1_between_2 rfl ?_
  refine gm_calli X (pc := 4) (mM_part l D dZ ad v c a hc ha) cn_X1_16 ⟨by decide, by decide⟩ ⟨Nat.le_refl _, Nat.le_refl _⟩ rfl rfl (Nat.le_of_ble_eq_true rfl) dX1_between_4 (fun r1 u1 q1 => ?_)
  obtain ⟨rfl, rfl⟩ := q1
  refine gg_ist X (pc := 7) dX1_between_7 (by decide) ?_
  refine gg_ald_n X (pc := 9) dX1_between_9 rfl ?_
  refine gg_ild_n X (pc := 10) dX1_between_10 rfl ?_
  refine gg_ild X (pc := 11) dX1_between_11 rfl ?_
  refine gm_calli X (pc := 13) (mM_part l D dZ ad v d a hd ha) cn_X1_16 ⟨by decide, by decide⟩ ⟨Nat.le_refl _, Nat.le_refl _⟩ rfl rfl (Nat.le_of_ble_eq_true rfl) dX1_between_13 (fun r1 u1 q1 => ?_)
  obtain ⟨rfl, rfl⟩ := q1
  refine gg_ist X (pc := 16) dX1_between_16 (by decide) ?_
  refine gg_ald_n X (pc := 18) dX1_between_18 rfl ?_
  refine gg_ild_n X (pc := 19) dX1_between_19 rfl ?_
  refine gg_ild X (pc := 20) dX1_between_20 rfl ?_
  refine gm_calli X (pc := 22) (mM_part l D dZ ad v f a hf ha) cn_X1_16 ⟨by decide, by decide⟩ ⟨Nat.le_refl _, Nat.le_refl _⟩ rfl rfl (Nat.le_of_ble_eq_true rfl) dX1_between_22 (fun r1 u1 q1 => ?_)
  obtain ⟨rfl, rfl⟩ := q1
  have yes : ∀ (L : List (Option Value)), ((oc_co d a ≤ oc_co c a ∧ oc_co c a ≤ oc_co f a) ∨ (oc_co f a ≤ oc_co c a ∧ oc_co c a ≤ oc_co d a)) → gg p l e (oc_rm 1) s m args below meth cd Q 0 0 D A 8 (oc_mW ad dZ v) 55 L [] := by
    intro L h
    refine gg_ic X (pc := 55) dX1_between_55 oc_ic1 ?_
    refine gg_goto X (pc := 56) (tgt := 60) dX1_between_56 (by decide) ?_
    exact hret _ _ 60 _ dX1_between_60 (by omega) (⟨by rw [oc_btw, decide_eq_true h]; rfl, rfl⟩)
  have no : ∀ (L : List (Option Value)), ¬ ((oc_co d a ≤ oc_co c a ∧ oc_co c a ≤ oc_co f a) ∨ (oc_co f a ≤ oc_co c a ∧ oc_co c a ≤ oc_co d a)) → gg p l e (oc_rm 1) s m args below meth cd Q 0 0 D A 8 (oc_mW ad dZ v) 59 L [] := by
    intro L h
    refine gg_ic X (pc := 59) dX1_between_59 oc_ic0 ?_
    exact hret _ _ 60 _ dX1_between_60 (by omega) (⟨by rw [oc_btw, decide_eq_false h]; rfl, rfl⟩)
  have snd : ¬ (oc_co d a ≤ oc_co c a ∧ oc_co c a ≤ oc_co f a) → gg p l e (oc_rm 1) s m args below meth cd Q 0 0 D A 8 (oc_mW ad dZ v) 41 [some (.ref (ad 0)), some (.int (nI c)), some (.int (nI d)), some (.int (nI f)), some (.int (nI a)), some (.int (nI (oc_co c a))), some (.int (nI (oc_co d a))), some (.int (nI (oc_co f a)))] [] := by
    intro h
    refine gg_ild X (pc := 41) dX1_between_41 rfl ?_
    refine gg_ild X (pc := 43) dX1_between_43 rfl ?_
    refine gg_ic_ltN X (pc := 45) (tgt := 59) dX1_between_45 (by decide) (by omega) (by omega) (fun k => ?_) (fun k => ?_)
    · exact no _ (by omega)
    · refine gg_ild X (pc := 48) dX1_between_48 rfl ?_
      refine gg_ild X (pc := 50) dX1_between_50 rfl ?_
      refine gg_ic_gtN X (pc := 52) (tgt := 59) dX1_between_52 (by decide) (by omega) (by omega) (fun k2 => ?_) (fun k2 => ?_)
      · exact no _ (by omega)
      · exact yes _ (by omega)
  refine gg_ist X (pc := 25) dX1_between_25 (by decide) ?_
  refine gg_ild X (pc := 27) dX1_between_27 rfl ?_
  refine gg_ild X (pc := 29) dX1_between_29 rfl ?_
  refine gg_ic_ltN X (pc := 31) (tgt := 41) dX1_between_31 (by decide) (by omega) (by omega) (fun k => ?_) (fun k => ?_)
  · exact snd (by omega)
  · refine gg_ild X (pc := 34) dX1_between_34 rfl ?_
    refine gg_ild X (pc := 36) dX1_between_36 rfl ?_
    refine gg_ic_leN X (pc := 38) (tgt := 55) dX1_between_38 (by decide) (by omega) (by omega) (fun k2 => ?_) (fun k2 => ?_)
    · exact yes _ (by omega)
    · exact snd (by omega)
/-- the model's arrays hold the contents S -/
def oc_K (v : Nat → Nat → Nat) (S : Nat → Nat → Bool) : Prop := ∀ r c, r < 4 → c < 512 → v 0 (512 * r + c) = (S r c).toNat
theorem oc_K.lt {v : Nat → Nat → Nat} {S : Nat → Nat → Bool} (h : oc_K v S) {r c : Nat} (hr : r < 4) (hc : c < 512) : v 0 (512 * r + c) < 2 := by
  rw [h r c hr hc]
  exact oc_bn _
theorem mM_keep (l : Launch) (D : va_G) (dZ : ClassId) (ad : Nat → Nat) (v : Nat → Nat → Nat) (S : Nat → Nat → Bool) (f : Nat → Bool) (r : Nat) (hr : r < 4) (hK : oc_K v S) (hf : ∀ c, c < 512 → v 1 c = (f c).toNat) : oc_Mv l D (oc_tm dZ) 0 yX1_keep cX1_keep 3 [.ref (ad 0), .int (nI r)] (oc_mW ad dZ) (oc_mW ad dZ v) (fun u => oc_K u (oc_set S r f)) := by
  refine oc_Mv.of (own := RX1) (by decide) rfl (Nat.le_of_ble_eq_true rfl) (by simp [Value.category]) [some (.ref (ad 0)), some (.int (nI r)), none] rfl ?_
  intro p e s m args below meth cd A Q X hret
  have loop : ∀ (t i : Nat) (w : Nat → Nat → Nat), i + t = 512 → w 1 = v 1 → (∀ q c, q < 4 → c < 512 → w 0 (512 * q + c) = if q = r ∧ c < i then (f c).toNat else (S q c).toNat) → gg p l e (oc_rm 0) s m args below meth cd Q 0 0 D A 3 (oc_mW ad dZ w) 2 [some (.ref (ad 0)), some (.int (nI r)), some (.int (nI i))] [] := by
    intro t
    induction t with
    | zero =>
      intro i w hi h1 h0
      obtain rfl : i = 512 := by omega
      refine gg_ild_n X (pc := 2) dX1_keep_2 rfl ?_
      refine gg_sp X (pc := 3) dX1_keep_3 oc_sp512 ?_
      refine gg_ic_geN X (pc := 6) (tgt := 33) dX1_keep_6 (by decide) (by omega) (by omega) (fun h => ?_) (fun h => ?_)
      · refine hret _ 33 _ dX1_keep_33 (fun q c hq hc => ?_)
        rw [h0 q c hq hc]
        unfold oc_set
        by_cases e : q = r
        · rw [if_pos ⟨e, hc⟩, if_pos e]
        · rw [if_neg (fun z => e z.1), if_neg e]
      · exact absurd h (by omega)
    | succ t ih =>
      intro i w hi h1 h0
      have hb : w 1 i < 2 := by rw [h1, hf i (by omega)]; exact oc_bn _
      refine gg_ild_n X (pc := 2) dX1_keep_2 rfl ?_
      refine gg_sp X (pc := 3) dX1_keep_3 oc_sp512 ?_
      refine gg_ic_geN X (pc := 6) (tgt := 33) dX1_keep_6 (by decide) (by omega) (by omega) (fun h => ?_) (fun h => ?_)
      · exact absurd h (by omega)
      · refine gg_ald_n X (pc := 9) dX1_keep_9 rfl ?_
        refine gm_g_in X (pc := 10) dX1_keep_10 ?_
        refine gg_sp X (pc := 13) dX1_keep_13 oc_sp512 ?_
        refine gg_ild_n X (pc := 16) dX1_keep_16 rfl ?_
        refine gg_imulN X (pc := 17) dX1_keep_17 ?_
        refine gg_ild_n X (pc := 18) dX1_keep_18 rfl ?_
        refine gg_iaddN X (pc := 19) dX1_keep_19 ?_
        refine gg_ald_n X (pc := 20) dX1_keep_20 rfl ?_
        refine gm_g_made X (pc := 21) dX1_keep_21 ?_
        refine gg_ild_n X (pc := 24) dX1_keep_24 rfl ?_
        refine gm_l_made X (pc := 25) dX1_keep_25 (by omega) ?_
        refine gm_s_in X (pc := 26) dX1_keep_26 (by omega) (by omega) ?_
        refine gg_iinc X (pc := 27) dX1_keep_27 rfl (oc_inc _) (by decide) ?_
        refine gg_goto X (pc := 30) (tgt := 2) dX1_keep_30 (by decide) ?_
        refine ih (i + 1) _ (by omega) (by rw [← h1]; rfl) (fun q c hq hc => ?_)
        by_cases e : 512 * q + c = 512 * r + i
        · have e1 : q = r := by omega
          have e2 : c = i := by omega
          rw [e, oc_up_s, if_pos ⟨e1, by omega⟩, h1, hf i h, e2]
        · rw [oc_up_k _ _ _ _ e, h0 q c hq hc]
          by_cases e1 : q = r ∧ c < i
          · rw [if_pos e1, if_pos ⟨e1.1, by omega⟩]
          · rw [if_neg e1, if_neg (fun z => e1 ⟨z.1, by omega⟩)]
  refine gg_ic X (pc := 0) dX1_keep_0 oc_ic0 ?_
  refine gg_ist_n X (pc := 1) dX1_keep_1 (by decide) ?_
  exact loop 512 0 v (by omega) rfl (fun q c hq hc => by rw [if_neg (fun z => absurd z.2 (by omega))]; exact hK q c hq hc)
def oc_tog (c d k : Nat) : Bool := (oc_co c 0 / 2 ^ k == oc_co d 0 / 2 ^ k) && (oc_co c 1 / 2 ^ k == oc_co d 1 / 2 ^ k) && (oc_co c 2 / 2 ^ k == oc_co d 2 / 2 ^ k)
theorem oc_mo_div : ∀ c, c < 512 → ∀ k, k < 4 → oc_mo c / 8 ^ k = oc_mo (oc_co c 0 / 2 ^ k + 8 * (oc_co c 1 / 2 ^ k) + 64 * (oc_co c 2 / 2 ^ k)) := by decide +kernel
theorem oc_tog_mo {c d k : Nat} (hc : c < 512) (hd : d < 512) (hk : k < 4) : oc_tog c d k = (oc_mo d / 8 ^ k == oc_mo c / 8 ^ k) := by
  have b : ∀ x a, oc_co x a / 2 ^ k < 8 := fun x a => Nat.lt_of_le_of_lt (Nat.div_le_self _ _) (oc_co_lt x a)
  have c0 := b c 0
  have c1 := b c 1
  have c2 := b c 2
  have d0 := b d 0
  have d1 := b d 1
  have d2 := b d 2
  rw [oc_mo_div c hc k hk, oc_mo_div d hd k hk]
  unfold oc_tog
  generalize oc_co c 0 / 2 ^ k = x0 at *
  generalize oc_co c 1 / 2 ^ k = x1 at *
  generalize oc_co c 2 / 2 ^ k = x2 at *
  generalize oc_co d 0 / 2 ^ k = y0 at *
  generalize oc_co d 1 / 2 ^ k = y1 at *
  generalize oc_co d 2 / 2 ^ k = y2 at *
  by_cases e : x0 = y0 ∧ x1 = y1 ∧ x2 = y2
  · obtain ⟨rfl, rfl, rfl⟩ := e
    simp
  · have h1 : oc_mo (y0 + 8 * y1 + 64 * y2) ≠ oc_mo (x0 + 8 * x1 + 64 * x2) := by
      intro q
      have a1 := (oc_mo_ok (y0 + 8 * y1 + 64 * y2) (by omega)).2
      have a2 := (oc_mo_ok (x0 + 8 * x1 + 64 * x2) (by omega)).2
      rw [q] at a1
      omega
    rw [beq_false_of_ne h1]
    cases q : (x0 == y0 && x1 == y1 && x2 == y2) with
    | false => rfl
    | true =>
      simp at q
      exact absurd ⟨q.1.1, q.1.2, q.2⟩ e
theorem oc_cdl {c a k : Nat} : oc_co c a / 2 ^ k < 2147483648 := Nat.lt_of_le_of_lt (Nat.div_le_self _ _) (Nat.lt_trans (oc_co_lt c a) (by decide))
theorem mM_together (l : Launch) (D : va_G) (dZ : ClassId) (ad : Nat → Nat) (v : Nat → Nat → Nat) (c d k : Nat) (hc : c < 512) (hd : d < 512) (hk : k < 4) : oc_Mi l D (oc_tm dZ) 1 yX1_together cX1_together 4 (some .boolean) [.ref (ad 0), .int (nI c), .int (nI d), .int (nI k)] (oc_mW ad dZ) (oc_mW ad dZ v) (fun q u => q = nI (oc_tog c d k).toNat ∧ v = u) := by
  refine oc_Mi.ofZ (own := RX1) (by decide) rfl (Nat.le_of_ble_eq_true rfl) (by simp [Value.category]) [some (.ref (ad 0)), some (.int (nI c)), some (.int (nI d)), some (.int (nI k))] rfl ?_
  intro p e s m args below meth cd A Q X hret
  have b : ∀ x a, oc_co x a < 2147483648 := fun x a => Nat.lt_trans (oc_co_lt x a) (by decide)
  have no : oc_tog c d k = false → gg p l e (oc_rm 1) s m args below meth cd Q 0 0 D A 4 (oc_mW ad dZ v) 61 [some (.ref (ad 0)), some (.int (nI c)), some (.int (nI d)), some (.int (nI k))] [] := by
    intro h
    refine gg_ic X (pc := 61) dX1_together_61 oc_ic0 ?_
    exact hret _ _ 62 _ dX1_together_62 (by omega) (⟨by rw [h]; rfl, rfl⟩)
  refine gg_ald_n X (pc := 0) dX1_together_0 rfl ?_
  refine gg_ild_n X (pc := 1) dX1_together_1 rfl ?_
  refine gg_ic X (pc := 2) dX1_together_2 oc_ic0 ?_
  refine gm_calli X (pc := 3) (mM_part l D dZ ad v c 0 hc (by omega)) cn_X1_16 ⟨by decide, by decide⟩ ⟨Nat.le_refl _, Nat.le_refl _⟩ rfl rfl (Nat.le_of_ble_eq_true rfl) dX1_together_3 (fun r1 u1 q1 => ?_)
  obtain ⟨rfl, rfl⟩ := q1
  refine gg_ild_n X (pc := 6) dX1_together_6 rfl ?_
  refine gg_ishrN X (pc := 7) dX1_together_7 (b _ _) (by omega) ?_
  refine gg_ald_n X (pc := 8) dX1_together_8 rfl ?_
  refine gg_ild_n X (pc := 9) dX1_together_9 rfl ?_
  refine gg_ic X (pc := 10) dX1_together_10 oc_ic0 ?_
  refine gm_calli X (pc := 11) (mM_part l D dZ ad v d 0 hd (by omega)) cn_X1_16 ⟨by decide, by decide⟩ ⟨Nat.le_refl _, Nat.le_refl _⟩ rfl rfl (Nat.le_of_ble_eq_true rfl) dX1_together_11 (fun r1 u1 q1 => ?_)
  obtain ⟨rfl, rfl⟩ := q1
  refine gg_ild_n X (pc := 14) dX1_together_14 rfl ?_
  refine gg_ishrN X (pc := 15) dX1_together_15 (b _ _) (by omega) ?_
  refine gg_ic_neN X (pc := 16) (tgt := 61) dX1_together_16 (by decide) oc_cdl oc_cdl (fun h => ?_) (fun h => ?_)
  · exact no (by unfold oc_tog; rw [beq_false_of_ne h]; rfl)
  · refine gg_ald_n X (pc := 19) dX1_together_19 rfl ?_
    refine gg_ild_n X (pc := 20) dX1_together_20 rfl ?_
    refine gg_ic X (pc := 21) dX1_together_21 oc_ic1 ?_
    refine gm_calli X (pc := 22) (mM_part l D dZ ad v c 1 hc (by omega)) cn_X1_16 ⟨by decide, by decide⟩ ⟨Nat.le_refl _, Nat.le_refl _⟩ rfl rfl (Nat.le_of_ble_eq_true rfl) dX1_together_22 (fun r1 u1 q1 => ?_)
    obtain ⟨rfl, rfl⟩ := q1
    refine gg_ild_n X (pc := 25) dX1_together_25 rfl ?_
    refine gg_ishrN X (pc := 26) dX1_together_26 (b _ _) (by omega) ?_
    refine gg_ald_n X (pc := 27) dX1_together_27 rfl ?_
    refine gg_ild_n X (pc := 28) dX1_together_28 rfl ?_
    refine gg_ic X (pc := 29) dX1_together_29 oc_ic1 ?_
    refine gm_calli X (pc := 30) (mM_part l D dZ ad v d 1 hd (by omega)) cn_X1_16 ⟨by decide, by decide⟩ ⟨Nat.le_refl _, Nat.le_refl _⟩ rfl rfl (Nat.le_of_ble_eq_true rfl) dX1_together_30 (fun r1 u1 q1 => ?_)
    obtain ⟨rfl, rfl⟩ := q1
    refine gg_ild_n X (pc := 33) dX1_together_33 rfl ?_
    refine gg_ishrN X (pc := 34) dX1_together_34 (b _ _) (by omega) ?_
    refine gg_ic_neN X (pc := 35) (tgt := 61) dX1_together_35 (by decide) oc_cdl oc_cdl (fun h2 => ?_) (fun h2 => ?_)
    · exact no (by unfold oc_tog; rw [beq_false_of_ne h2]; simp)
    · refine gg_ald_n X (pc := 38) dX1_together_38 rfl ?_
      refine gg_ild_n X (pc := 39) dX1_together_39 rfl ?_
      refine gg_ic X (pc := 40) dX1_together_40 oc_ic2 ?_
      refine gm_calli X (pc := 41) (mM_part l D dZ ad v c 2 hc (by omega)) cn_X1_16 ⟨by decide, by decide⟩ ⟨Nat.le_refl _, Nat.le_refl _⟩ rfl rfl (Nat.le_of_ble_eq_true rfl) dX1_together_41 (fun r1 u1 q1 => ?_)
      obtain ⟨rfl, rfl⟩ := q1
      refine gg_ild_n X (pc := 44) dX1_together_44 rfl ?_
      refine gg_ishrN X (pc := 45) dX1_together_45 (b _ _) (by omega) ?_
      refine gg_ald_n X (pc := 46) dX1_together_46 rfl ?_
      refine gg_ild_n X (pc := 47) dX1_together_47 rfl ?_
      refine gg_ic X (pc := 48) dX1_together_48 oc_ic2 ?_
      refine gm_calli X (pc := 49) (mM_part l D dZ ad v d 2 hd (by omega)) cn_X1_16 ⟨by decide, by decide⟩ ⟨Nat.le_refl _, Nat.le_refl _⟩ rfl rfl (Nat.le_of_ble_eq_true rfl) dX1_together_49 (fun r1 u1 q1 => ?_)
      obtain ⟨rfl, rfl⟩ := q1
      refine gg_ild_n X (pc := 52) dX1_together_52 rfl ?_
      refine gg_ishrN X (pc := 53) dX1_together_53 (b _ _) (by omega) ?_
      refine gg_ic_neN X (pc := 54) (tgt := 61) dX1_together_54 (by decide) oc_cdl oc_cdl (fun h3 => ?_) (fun h3 => ?_)
      · exact no (by unfold oc_tog; rw [beq_false_of_ne h3]; simp)
      · refine gg_ic X (pc := 57) dX1_together_57 oc_ic1 ?_
        refine gg_goto X (pc := 58) (tgt := 62) dX1_together_58 (by decide) ?_
        exact hret _ _ 62 _ dX1_together_62 (by omega) (⟨by unfold oc_tog; rw [h, h2, h3]; simp, rfl⟩)
theorem oc_cor_co : ∀ c, c < 512 → ∀ k, k < 4 → oc_cor c k = ((oc_co c 0 % 2 ^ k == 0) && (oc_co c 1 % 2 ^ k == 0) && (oc_co c 2 % 2 ^ k == 0)) := by decide +kernel
theorem oc_p1 {k : Nat} (hk : k < 4) : 1 ≤ 1 * 2 ^ k ∧ 1 * 2 ^ k < 4294967296 ∧ 1 * 2 ^ k - 1 = 2 ^ k - 1 := by
  rcases (by omega : k = 0 ∨ k = 1 ∨ k = 2 ∨ k = 3) with rfl | rfl | rfl | rfl <;> decide
theorem oc_cml {c a k : Nat} : oc_co c a % 2 ^ k < 2147483648 := Nat.lt_of_le_of_lt (Nat.mod_le _ _) (Nat.lt_trans (oc_co_lt c a) (by decide))
theorem mM_corner (l : Launch) (D : va_G) (dZ : ClassId) (ad : Nat → Nat) (v : Nat → Nat → Nat) (c k : Nat) (hc : c < 512) (hk : k < 4) : oc_Mi l D (oc_tm dZ) 1 yX1_corner cX1_corner 4 (some .boolean) [.ref (ad 0), .int (nI c), .int (nI k)] (oc_mW ad dZ) (oc_mW ad dZ v) (fun q u => q = nI (oc_cor c k).toNat ∧ v = u) := by
  refine oc_Mi.ofZ (own := RX1) (by decide) rfl (Nat.le_of_ble_eq_true rfl) (by simp [Value.category]) [some (.ref (ad 0)), some (.int (nI c)), some (.int (nI k)), none] rfl ?_
  intro p e s m args below meth cd A Q X hret
  obtain ⟨o1, o2, o3⟩ := oc_p1 hk
  have no : ∀ (p3 : Option Value), oc_cor c k = false → gg p l e (oc_rm 1) s m args below meth cd Q 0 0 D A 4 (oc_mW ad dZ v) 43 [some (.ref (ad 0)), some (.int (nI c)), some (.int (nI k)), p3] [] := by
    intro p3 h
    refine gg_ic X (pc := 43) dX1_corner_43 oc_ic0 ?_
    exact hret _ _ 44 _ dX1_corner_44 (by omega) (⟨by rw [h]; rfl, rfl⟩)
  rw [oc_cor_co c hc k hk] at no
  rw [oc_cor_co c hc k hk] at hret
  refine gg_ic X (pc := 0) dX1_corner_0 oc_ic1 ?_
  refine gg_ild_n X (pc := 1) dX1_corner_1 rfl ?_
  refine gg_ishlN X (pc := 2) dX1_corner_2 (by omega) o2 ?_
  refine gg_ic X (pc := 3) dX1_corner_3 oc_ic1 ?_
  refine gg_isubN X (pc := 4) dX1_corner_4 o1 ?_
  refine gg_ist_n X (pc := 5) dX1_corner_5 (by decide) ?_
  refine gg_ald_n X (pc := 6) dX1_corner_6 rfl ?_
  refine gg_ild_n X (pc := 7) dX1_corner_7 rfl ?_
  refine gg_ic X (pc := 8) dX1_corner_8 oc_ic0 ?_
  refine gm_calli X (pc := 9) (mM_part l D dZ ad v c 0 hc (by omega)) cn_X1_16 ⟨by decide, by decide⟩ ⟨Nat.le_refl _, Nat.le_refl _⟩ rfl rfl (Nat.le_of_ble_eq_true rfl) dX1_corner_9 (fun r1 u1 q1 => ?_)
  obtain ⟨rfl, rfl⟩ := q1
  refine gg_ild_n X (pc := 12) dX1_corner_12 rfl ?_
  refine gg_iandN X (pc := 13) dX1_corner_13 ?_
  refine gg_top (oc_and_mod _ _ o3) ?_
  refine gg_if_neN X (pc := 14) (tgt := 43) dX1_corner_14 (by decide) oc_cml (fun h => ?_) (fun h => ?_)
  · exact no _ (by rw [beq_false_of_ne h]; rfl)
  · refine gg_ald_n X (pc := 17) dX1_corner_17 rfl ?_
    refine gg_ild_n X (pc := 18) dX1_corner_18 rfl ?_
    refine gg_ic X (pc := 19) dX1_corner_19 oc_ic1 ?_
    refine gm_calli X (pc := 20) (mM_part l D dZ ad v c 1 hc (by omega)) cn_X1_16 ⟨by decide, by decide⟩ ⟨Nat.le_refl _, Nat.le_refl _⟩ rfl rfl (Nat.le_of_ble_eq_true rfl) dX1_corner_20 (fun r1 u1 q1 => ?_)
    obtain ⟨rfl, rfl⟩ := q1
    refine gg_ild_n X (pc := 23) dX1_corner_23 rfl ?_
    refine gg_iandN X (pc := 24) dX1_corner_24 ?_
    refine gg_top (oc_and_mod _ _ o3) ?_
    refine gg_if_neN X (pc := 25) (tgt := 43) dX1_corner_25 (by decide) oc_cml (fun h2 => ?_) (fun h2 => ?_)
    · exact no _ (by rw [beq_false_of_ne h2]; simp)
    · refine gg_ald_n X (pc := 28) dX1_corner_28 rfl ?_
      refine gg_ild_n X (pc := 29) dX1_corner_29 rfl ?_
      refine gg_ic X (pc := 30) dX1_corner_30 oc_ic2 ?_
      refine gm_calli X (pc := 31) (mM_part l D dZ ad v c 2 hc (by omega)) cn_X1_16 ⟨by decide, by decide⟩ ⟨Nat.le_refl _, Nat.le_refl _⟩ rfl rfl (Nat.le_of_ble_eq_true rfl) dX1_corner_31 (fun r1 u1 q1 => ?_)
      obtain ⟨rfl, rfl⟩ := q1
      refine gg_ild_n X (pc := 34) dX1_corner_34 rfl ?_
      refine gg_iandN X (pc := 35) dX1_corner_35 ?_
      refine gg_top (oc_and_mod _ _ o3) ?_
      refine gg_if_neN X (pc := 36) (tgt := 43) dX1_corner_36 (by decide) oc_cml (fun h3 => ?_) (fun h3 => ?_)
      · exact no _ (by rw [beq_false_of_ne h3]; simp)
      · refine gg_ic X (pc := 39) dX1_corner_39 oc_ic1 ?_
        refine gg_goto X (pc := 40) (tgt := 44) dX1_corner_40 (by decide) ?_
        exact hret _ _ 44 _ dX1_corner_44 (by omega) (⟨by rw [h, h2, h3]; rfl, rfl⟩)
theorem oc_nbm {c a : Nat} (ha : a < 3) (h : 1 * 2 ^ (3 * a) ≤ c) : nI c + ((-1) <<< (nI (3 * a) &&& 31)) = nI (c - 1 * 2 ^ (3 * a)) := by
  rw [← oc_sub h, Int32.sub_eq_add_neg]
  congr 1
  rcases (by omega : a = 0 ∨ a = 1 ∨ a = 2) with rfl | rfl | rfl <;> decide +kernel
theorem mM_neighP (l : Launch) (D : va_G) (dZ : ClassId) (ad : Nat → Nat) (v : Nat → Nat → Nat) (c a : Nat) (hc : c < 512) (ha : a < 3) : oc_Mi l D (oc_tm dZ) 1 yX1_neighbour cX1_neighbour 5 (some .int) [.ref (ad 0), .int (nI c), .int (nI a), .int (nI 1)] (oc_mW ad dZ) (oc_mW ad dZ v) (fun q u => ((oc_co c a = 7 ∧ q = -1) ∨ (oc_co c a ≠ 7 ∧ q = nI (c + 1 * 2 ^ (3 * a)))) ∧ v = u) := by
  refine oc_Mi.ofI (own := RX1) (by decide) rfl (Nat.le_of_ble_eq_true rfl) (by simp [Value.category]) [some (.ref (ad 0)), some (.int (nI c)), some (.int (nI a)), some (.int (nI 1)), none] rfl ?_
  intro p e s m args below meth cd A Q X hret
  have e := oc_co_lt c a
  obtain ⟨o1, o2, o3, o4⟩ := oc_p3 (show a ≤ 3 by omega)
  refine gg_ald_n X (pc := 0) dX1_neighbour_0 rfl ?_
  refine gg_ild_n X (pc := 1) dX1_neighbour_1 rfl ?_
  refine gg_ild_n X (pc := 2) dX1_neighbour_2 rfl ?_
  refine gm_calli X (pc := 3) (mM_part l D dZ ad v c a hc ha) cn_X1_16 ⟨by decide, by decide⟩ ⟨Nat.le_refl _, Nat.le_refl _⟩ rfl rfl (Nat.le_of_ble_eq_true rfl) dX1_neighbour_3 (fun r1 u1 q1 => ?_)
  obtain ⟨rfl, rfl⟩ := q1
  refine gg_ild_n X (pc := 6) dX1_neighbour_6 rfl ?_
  refine gg_iaddN X (pc := 7) dX1_neighbour_7 ?_
  refine gg_ist X (pc := 8) dX1_neighbour_8 (by decide) ?_
  refine gg_ild X (pc := 10) dX1_neighbour_10 rfl ?_
  refine gg_if_ltN X (pc := 12) (tgt := 22) dX1_neighbour_12 (by decide) (by omega) ?_
  refine gg_ild X (pc := 15) dX1_neighbour_15 rfl ?_
  refine gg_bp X (pc := 17) dX1_neighbour_17 oc_bp7 ?_
  refine gg_ic_leN X (pc := 19) (tgt := 26) dX1_neighbour_19 (by decide) (by omega) (by omega) (fun h => ?_) (fun h => ?_)
  · refine gg_ild_n X (pc := 26) dX1_neighbour_26 rfl ?_
    refine gg_ild_n X (pc := 27) dX1_neighbour_27 rfl ?_
    refine gg_ic X (pc := 28) dX1_neighbour_28 oc_ic3 ?_
    refine gg_ild_n X (pc := 29) dX1_neighbour_29 rfl ?_
    refine gg_imulN X (pc := 30) dX1_neighbour_30 ?_
    refine gg_ishlN X (pc := 31) dX1_neighbour_31 (by omega) o2 ?_
    refine gg_iaddN X (pc := 32) dX1_neighbour_32 ?_
    exact hret _ _ 33 _ dX1_neighbour_33 (⟨Or.inr ⟨by omega, rfl⟩, rfl⟩)
  · refine gg_ic X (pc := 22) dX1_neighbour_22 oc_icm ?_
    refine gg_goto X (pc := 23) (tgt := 33) dX1_neighbour_23 (by decide) ?_
    exact hret _ _ 33 _ dX1_neighbour_33 (⟨Or.inl ⟨by omega, rfl⟩, rfl⟩)
theorem mM_neighM (l : Launch) (D : va_G) (dZ : ClassId) (ad : Nat → Nat) (v : Nat → Nat → Nat) (c a : Nat) (hc : c < 512) (ha : a < 3) : oc_Mi l D (oc_tm dZ) 1 yX1_neighbour cX1_neighbour 5 (some .int) [.ref (ad 0), .int (nI c), .int (nI a), .int (-1)] (oc_mW ad dZ) (oc_mW ad dZ v) (fun q u => ((oc_co c a = 0 ∧ q = -1) ∨ (oc_co c a ≠ 0 ∧ q = nI (c - 1 * 2 ^ (3 * a)))) ∧ v = u) := by
  refine oc_Mi.ofI (own := RX1) (by decide) rfl (Nat.le_of_ble_eq_true rfl) (by simp [Value.category]) [some (.ref (ad 0)), some (.int (nI c)), some (.int (nI a)), some (.int (-1)), none] rfl ?_
  intro p e s m args below meth cd A Q X hret
  have e := oc_co_lt c a
  refine gg_ald_n X (pc := 0) dX1_neighbour_0 rfl ?_
  refine gg_ild_n X (pc := 1) dX1_neighbour_1 rfl ?_
  refine gg_ild_n X (pc := 2) dX1_neighbour_2 rfl ?_
  refine gm_calli X (pc := 3) (mM_part l D dZ ad v c a hc ha) cn_X1_16 ⟨by decide, by decide⟩ ⟨Nat.le_refl _, Nat.le_refl _⟩ rfl rfl (Nat.le_of_ble_eq_true rfl) dX1_neighbour_3 (fun r1 u1 q1 => ?_)
  obtain ⟨rfl, rfl⟩ := q1
  refine gg_ild_n X (pc := 6) dX1_neighbour_6 rfl ?_
  refine gg_iadd X (pc := 7) dX1_neighbour_7 ?_
  refine gg_top ((show nI (oc_co c a) + (-1) = oc_c (oc_co c a) from oc_decn _)) ?_
  cases h0 : oc_co c a with
  | zero =>
    rw [oc_c0]
    refine gg_ist X (pc := 8) dX1_neighbour_8 (by decide) ?_
    refine gg_ild X (pc := 10) dX1_neighbour_10 rfl ?_
    refine gg_if_lt X (pc := 12) (tgt := 22) dX1_neighbour_12 (by decide) (fun h => ?_) (fun h => ?_)
    · refine gg_ic X (pc := 22) dX1_neighbour_22 oc_icm ?_
      refine gg_goto X (pc := 23) (tgt := 33) dX1_neighbour_23 (by decide) ?_
      exact hret _ _ 33 _ dX1_neighbour_33 (⟨Or.inl ⟨h0, rfl⟩, rfl⟩)
    · exact absurd (by decide : (-1 : Int32) < 0) h
  | succ n =>
    rw [oc_cS]
    have hl := oc_low c hc a ha (by omega)
    refine gg_ist X (pc := 8) dX1_neighbour_8 (by decide) ?_
    refine gg_ild X (pc := 10) dX1_neighbour_10 rfl ?_
    refine gg_if_ltN X (pc := 12) (tgt := 22) dX1_neighbour_12 (by decide) (by omega) ?_
    refine gg_ild X (pc := 15) dX1_neighbour_15 rfl ?_
    refine gg_bp X (pc := 17) dX1_neighbour_17 oc_bp7 ?_
    refine gg_ic_leN X (pc := 19) (tgt := 26) dX1_neighbour_19 (by decide) (by omega) (by omega) (fun h => ?_) (fun h => ?_)
    · refine gg_ild_n X (pc := 26) dX1_neighbour_26 rfl ?_
      refine gg_ild_n X (pc := 27) dX1_neighbour_27 rfl ?_
      refine gg_ic X (pc := 28) dX1_neighbour_28 oc_ic3 ?_
      refine gg_ild_n X (pc := 29) dX1_neighbour_29 rfl ?_
      refine gg_imulN X (pc := 30) dX1_neighbour_30 ?_
      refine gg_ishl X (pc := 31) dX1_neighbour_31 ?_
      refine gg_iadd X (pc := 32) dX1_neighbour_32 ?_
      refine gg_top (oc_nbm ha hl) ?_
      exact hret _ _ 33 _ dX1_neighbour_33 (⟨Or.inr ⟨by omega, rfl⟩, rfl⟩)
    · exact absurd h (by omega)
def oc_at (k i : Nat) : Nat := i % 2 ^ k + 8 * (i / 2 ^ k % 2 ^ k) + 64 * (i / 2 ^ (2 * k))
def oc_ia (k j : Nat) : Nat := oc_cat j % 8 + 2 ^ k * (oc_cat j / 8 % 8) + 2 ^ (2 * k) * (oc_cat j / 64)
theorem oc_at_ok : ∀ k, k < 4 → ∀ c, c < 512 → oc_cor c k = true → ∀ i, i < 8 ^ k → c + oc_at k i < 512 ∧ oc_mo (c + oc_at k i) = oc_mo c + oc_mo (oc_at k i) ∧ oc_mo (oc_at k i) < 8 ^ k := by decide +kernel
theorem oc_ia_ok : ∀ k, k < 4 → ∀ j, j < 8 ^ k → oc_ia k j < 8 ^ k ∧ oc_mo (oc_at k (oc_ia k j)) = j := by decide +kernel
theorem oc_alk_at {S : Nat → Bool} {k c d : Nat} (hk : k < 4) (hc : c < 512) (hd : d < 512) (c1 : oc_cor c k = true) (d1 : oc_cor d k = true) : oc_alk S k c d = oc_all (fun i => S (c + oc_at k i) == S (d + oc_at k i)) (8 ^ k) := by
  have key : ∀ i, i < 8 ^ k → oc_cat (oc_mo c + oc_mo (oc_at k i)) = c + oc_at k i ∧ oc_cat (oc_mo d + oc_mo (oc_at k i)) = d + oc_at k i := fun i hi => by
    obtain ⟨a1, a2, -⟩ := oc_at_ok k hk c hc c1 i hi
    obtain ⟨b1, b2, -⟩ := oc_at_ok k hk d hd d1 i hi
    rw [← a2, ← b2]
    exact ⟨(oc_mo_ok _ a1).2, (oc_mo_ok _ b1).2⟩
  unfold oc_alk
  cases q : oc_all (fun i => S (c + oc_at k i) == S (d + oc_at k i)) (8 ^ k) with
  | true =>
    refine oc_all_t (fun j hj => ?_)
    obtain ⟨i1, i2⟩ := oc_ia_ok k hk j hj
    obtain ⟨k1, k2⟩ := key _ i1
    rw [i2] at k1 k2
    rw [k1, k2]
    exact oc_all_i q _ i1
  | false =>
    cases q2 : oc_all (fun j => S (oc_cat (oc_mo c + j)) == S (oc_cat (oc_mo d + j))) (8 ^ k) with
    | false => rfl
    | true =>
      have : oc_all (fun i => S (c + oc_at k i) == S (d + oc_at k i)) (8 ^ k) = true := oc_all_t (fun i hi => by
        obtain ⟨k1, k2⟩ := key i hi
        have := oc_all_i q2 _ (oc_at_ok k hk c hc c1 i hi).2.2
        rw [k1, k2] at this
        exact this)
      rw [q] at this
      cases this
end
section
/-! the model: alike, box, combine, turn, mirror -/
set_option maxRecDepth 100000
theorem oc_p9 {k : Nat} (hk : k < 4) : 1 * 2 ^ (3 * k) ≤ 512 ∧ 1 * 2 ^ (3 * k) = 8 ^ k ∧ 8 ^ k ≤ 512 := by
  rcases (by omega : k = 0 ∨ k = 1 ∨ k = 2 ∨ k = 3) with rfl | rfl | rfl | rfl <;> decide
theorem mM_alike (l : Launch) (D : va_G) (dZ : ClassId) (ad : Nat → Nat) (v : Nat → Nat → Nat) (S : Nat → Nat → Bool) (hK : oc_K v S) (r c d k : Nat) (hr : r < 4) (hc : c < 512) (hd : d < 512) (hk : k < 4) (c1 : oc_cor c k = true) (d1 : oc_cor d k = true) : oc_Mi l D (oc_tm dZ) 0 yX1_alike cX1_alike 9 (some .boolean) [.ref (ad 0), .int (nI r), .int (nI c), .int (nI d), .int (nI k)] (oc_mW ad dZ) (oc_mW ad dZ v) (fun q u => q = nI (oc_alk (S r) k c d).toNat ∧ v = u) := by
  refine oc_Mi.ofZ (own := RX1) (by decide) rfl (Nat.le_of_ble_eq_true rfl) (by simp [Value.category]) [some (.ref (ad 0)), some (.int (nI r)), some (.int (nI c)), some (.int (nI d)), some (.int (nI k)), none, none, none, none] rfl ?_
  intro p e s m args below meth cd A Q X hret
  obtain ⟨s1, s2, s3⟩ := oc_p9 hk
  obtain ⟨o1, o2, o3⟩ := oc_p1 hk
  have loop : ∀ (t i : Nat) (p7 p8 : Option Value), i + t = 8 ^ k → gg p l e (oc_rm 0) s m args below meth cd Q 0 0 D A 9 (oc_mW ad dZ v) 6 [some (.ref (ad 0)), some (.int (nI r)), some (.int (nI c)), some (.int (nI d)), some (.int (nI k)), some (.int (nI (oc_all (fun i => S r (c + oc_at k i) == S r (d + oc_at k i)) i).toNat)), some (.int (nI i)), p7, p8] [] := by
    intro t
    induction t with
    | zero =>
      intro i p7 p8 hi
      obtain rfl : i = 8 ^ k := by omega
      refine gg_ild X (pc := 6) dX1_alike_6 rfl ?_
      refine gg_ic X (pc := 8) dX1_alike_8 oc_ic1 ?_
      refine gg_ic X (pc := 9) dX1_alike_9 oc_ic3 ?_
      refine gg_ild X (pc := 10) dX1_alike_10 rfl ?_
      refine gg_imulN X (pc := 12) dX1_alike_12 ?_
      refine gg_ishlN X (pc := 13) dX1_alike_13 (by omega) (by omega) ?_
      refine gg_ic_geN X (pc := 14) (tgt := 106) dX1_alike_14 (by decide) (by omega) (by omega) (fun h => ?_) (fun h => ?_)
      · refine gg_ild X (pc := 106) dX1_alike_106 rfl ?_
        refine hret _ _ 108 _ dX1_alike_108 (oc_bn _) ⟨by rw [oc_alk_at hk hc hd c1 d1], rfl⟩
      · exact absurd h (by omega)
    | succ t ih =>
      intro i p7 p8 hi
      have hi8 : i < 8 ^ k := by omega
      have ac := (oc_at_ok k hk c hc c1 i hi8).1
      have ae := (oc_at_ok k hk d hd d1 i hi8).1
      have ba := oc_bn (oc_all (fun i => S r (c + oc_at k i) == S r (d + oc_at k i)) i)
      refine gg_ild X (pc := 6) dX1_alike_6 rfl ?_
      refine gg_ic X (pc := 8) dX1_alike_8 oc_ic1 ?_
      refine gg_ic X (pc := 9) dX1_alike_9 oc_ic3 ?_
      refine gg_ild X (pc := 10) dX1_alike_10 rfl ?_
      refine gg_imulN X (pc := 12) dX1_alike_12 ?_
      refine gg_ishlN X (pc := 13) dX1_alike_13 (by omega) (by omega) ?_
      refine gg_ic_geN X (pc := 14) (tgt := 106) dX1_alike_14 (by decide) (by omega) (by omega) (fun h => ?_) (fun h => ?_)
      · exact absurd h (by omega)
      · refine gg_ic X (pc := 17) dX1_alike_17 oc_ic1 ?_
        refine gg_ild X (pc := 18) dX1_alike_18 rfl ?_
        refine gg_ishlN X (pc := 20) dX1_alike_20 (by omega) o2 ?_
        refine gg_ic X (pc := 21) dX1_alike_21 oc_ic1 ?_
        refine gg_isubN X (pc := 22) dX1_alike_22 o1 ?_
        refine gg_ist X (pc := 23) dX1_alike_23 (by decide) ?_
        refine gg_ild X (pc := 25) dX1_alike_25 rfl ?_
        refine gg_ild X (pc := 27) dX1_alike_27 rfl ?_
        refine gg_iandN X (pc := 29) dX1_alike_29 ?_
        refine gg_top (oc_and_mod _ _ o3) ?_
        refine gg_bp X (pc := 30) dX1_alike_30 oc_bp8 ?_
        refine gg_ild X (pc := 32) dX1_alike_32 rfl ?_
        refine gg_ild X (pc := 34) dX1_alike_34 rfl ?_
        refine gg_ishrN X (pc := 36) dX1_alike_36 (by omega) (by omega) ?_
        refine gg_ild X (pc := 37) dX1_alike_37 rfl ?_
        refine gg_iandN X (pc := 39) dX1_alike_39 ?_
        refine gg_top (oc_and_mod _ _ o3) ?_
        refine gg_imulN X (pc := 40) dX1_alike_40 ?_
        refine gg_iaddN X (pc := 41) dX1_alike_41 ?_
        refine gg_bp X (pc := 42) dX1_alike_42 oc_bp64 ?_
        refine gg_ild X (pc := 44) dX1_alike_44 rfl ?_
        refine gg_ic X (pc := 46) dX1_alike_46 oc_ic2 ?_
        refine gg_ild X (pc := 47) dX1_alike_47 rfl ?_
        refine gg_imulN X (pc := 49) dX1_alike_49 ?_
        refine gg_ishrN X (pc := 50) dX1_alike_50 (by omega) (by omega) ?_
        refine gg_imulN X (pc := 51) dX1_alike_51 ?_
        refine gg_iaddN X (pc := 52) dX1_alike_52 ?_
        refine gg_top (show _ = nI (oc_at k i) from rfl) ?_
        have nxt : ∀ (b : Nat), b = (oc_all (fun i => S r (c + oc_at k i) == S r (d + oc_at k i)) (i + 1)).toNat → gg p l e (oc_rm 0) s m args below meth cd Q 0 0 D A 9 (oc_mW ad dZ v) 98 [some (.ref (ad 0)), some (.int (nI r)), some (.int (nI c)), some (.int (nI d)), some (.int (nI k)), none, some (.int (nI i)), some (.int (nI (1 * 2 ^ k - 1))), some (.int (nI (oc_at k i)))] [.int (nI b)] := by
          intro b hb
          subst hb
          refine gg_ist X (pc := 98) dX1_alike_98 (by decide) ?_
          refine gg_iinc X (pc := 100) dX1_alike_100 rfl (oc_inc _) (by decide) ?_
          refine gg_goto X (pc := 103) (tgt := 6) dX1_alike_103 (by decide) ?_
          exact ih (i + 1) _ _ (by omega)
        refine gg_ist X (pc := 53) dX1_alike_53 (by decide) ?_
        refine gg_ild X (pc := 55) dX1_alike_55 rfl ?_
        refine gg_if_eqN X (pc := 57) (tgt := 97) dX1_alike_57 (by decide) (by omega) (fun h2 => ?_) (fun h2 => ?_)
        · refine gg_ic X (pc := 97) dX1_alike_97 oc_ic0 ?_
          refine gg_drop 5 ?_
          refine nxt 0 ?_
          show 0 = (oc_all (fun i => S r (c + oc_at k i) == S r (d + oc_at k i)) i && (S r (c + oc_at k i) == S r (d + oc_at k i))).toNat
          rw [oc_bni (y := false) h2]
          rfl
        · have h3 : oc_all (fun i => S r (c + oc_at k i) == S r (d + oc_at k i)) i = true := by
            cases q : oc_all (fun i => S r (c + oc_at k i) == S r (d + oc_at k i)) i with
            | true => rfl
            | false => rw [q] at h2; exact absurd rfl h2
          refine gg_ald_n X (pc := 60) dX1_alike_60 rfl ?_
          refine gm_g_in X (pc := 61) dX1_alike_61 ?_
          refine gg_sp X (pc := 64) dX1_alike_64 oc_sp512 ?_
          refine gg_ild_n X (pc := 67) dX1_alike_67 rfl ?_
          refine gg_imulN X (pc := 68) dX1_alike_68 ?_
          refine gg_ild_n X (pc := 69) dX1_alike_69 rfl ?_
          refine gg_iaddN X (pc := 70) dX1_alike_70 ?_
          refine gg_ild X (pc := 71) dX1_alike_71 rfl ?_
          refine gg_iaddN X (pc := 73) dX1_alike_73 ?_
          refine gm_l_in X (pc := 74) dX1_alike_74 (by omega) ?_
          refine gg_top ((show nI (v 0 (512 * r + c + oc_at k i)) = nI (S r (c + oc_at k i)).toNat by rw [Nat.add_assoc, hK r _ hr ac])) ?_
          refine gg_ald_n X (pc := 75) dX1_alike_75 rfl ?_
          refine gm_g_in X (pc := 76) dX1_alike_76 ?_
          refine gg_sp X (pc := 79) dX1_alike_79 oc_sp512 ?_
          refine gg_ild_n X (pc := 82) dX1_alike_82 rfl ?_
          refine gg_imulN X (pc := 83) dX1_alike_83 ?_
          refine gg_ild_n X (pc := 84) dX1_alike_84 rfl ?_
          refine gg_iaddN X (pc := 85) dX1_alike_85 ?_
          refine gg_ild X (pc := 86) dX1_alike_86 rfl ?_
          refine gg_iaddN X (pc := 88) dX1_alike_88 ?_
          refine gm_l_in X (pc := 89) dX1_alike_89 (by omega) ?_
          refine gg_top ((show nI (v 0 (512 * r + d + oc_at k i)) = nI (S r (d + oc_at k i)).toNat by rw [Nat.add_assoc, hK r _ hr ae])) ?_
          have b1 := oc_bn (S r (c + oc_at k i))
          have b2 := oc_bn (S r (d + oc_at k i))
          refine gg_ic_neN X (pc := 90) (tgt := 97) dX1_alike_90 (by decide) (by omega) (by omega) (fun h4 => ?_) (fun h4 => ?_)
          · refine gg_ic X (pc := 97) dX1_alike_97 oc_ic0 ?_
            refine gg_drop 5 ?_
            refine nxt 0 ?_
            show 0 = (oc_all (fun i => S r (c + oc_at k i) == S r (d + oc_at k i)) i && (S r (c + oc_at k i) == S r (d + oc_at k i))).toNat
            rw [beq_false_of_ne (fun q => h4 (by rw [q])), Bool.and_false]
            rfl
          · refine gg_ic X (pc := 93) dX1_alike_93 oc_ic1 ?_
            refine gg_goto X (pc := 94) (tgt := 98) dX1_alike_94 (by decide) ?_
            refine gg_drop 5 ?_
            refine nxt 1 ?_
            show 1 = (oc_all (fun i => S r (c + oc_at k i) == S r (d + oc_at k i)) i && (S r (c + oc_at k i) == S r (d + oc_at k i))).toNat
            rw [h3, oc_bni h4]
            simp
  refine gg_ic X (pc := 0) dX1_alike_0 oc_ic1 ?_
  refine gg_ist X (pc := 1) dX1_alike_1 (by decide) ?_
  refine gg_ic X (pc := 3) dX1_alike_3 oc_ic0 ?_
  refine gg_ist X (pc := 4) dX1_alike_4 (by decide) ?_
  exact loop (8 ^ k) 0 _ _ (by omega)
theorem mM_box (l : Launch) (D : va_G) (dZ : ClassId) (ad : Nat → Nat) (v : Nat → Nat → Nat) (S : Nat → Nat → Bool) (hK : oc_K v S) (r c d w : Int32) : oc_Mi l D (oc_tm dZ) 2 yX1_box cX1_box 7 (some .boolean) [.ref (ad 0), .int r, .int c, .int d, .int w] (oc_mW ad dZ) (oc_mW ad dZ v) (fun q u => q = q_box r c d w ∧ oc_K u (s_box S r c d w)) := by
  refine oc_Mi.ofZ (own := RX1) (by decide) rfl (Nat.le_of_ble_eq_true rfl) (by simp [Value.category]) [some (.ref (ad 0)), some (.int r), some (.int c), some (.int d), some (.int w), none, none] rfl ?_
  intro p e s m args below meth cd A Q X hret
  have no : (oc_ok 4 r && oc_ok 512 c && oc_ok 512 d && oc_ok 2 w) = false → gg p l e (oc_rm 2) s m args below meth cd Q 0 0 D A 7 (oc_mW ad dZ v) 35 [some (.ref (ad 0)), some (.int r), some (.int c), some (.int d), some (.int w), none, none] [] := by
    intro h
    refine gg_ic X (pc := 35) dX1_box_35 oc_ic0 ?_
    exact hret _ _ 36 _ dX1_box_36 (by omega) (⟨by rw [q_box, h]; rfl, by rw [s_box, h]; exact hK⟩)
  have go : ∀ (j x y z : Nat), j < 4 → x < 512 → y < 512 → z < 2 → r = nI j → c = nI x → d = nI y → w = nI z → gg p l e (oc_rm 2) s m args below meth cd Q 0 0 D A 7 (oc_mW ad dZ v) 37 [some (.ref (ad 0)), some (.int r), some (.int c), some (.int d), some (.int w), none, none] [] := by
    intro j x y z hj hx hy hz er ec ed ew
    subst er ec ed ew
    have ok : (oc_ok 4 (nI j) && oc_ok 512 (nI x) && oc_ok 512 (nI y) && oc_ok 2 (nI z)) = true := by
      rw [oc_ok_t (by decide) ⟨j, hj, rfl⟩, oc_ok_t (by decide) ⟨x, hx, rfl⟩, oc_ok_t (by decide) ⟨y, hy, rfl⟩, oc_ok_t (by decide) ⟨z, hz, rfl⟩]
      rfl
    have loop : ∀ (t i : Nat) (u : Nat → Nat → Nat) (p6 : Option Value), i + t = 512 → (∀ q c, q < 4 → c < 512 → u 0 (512 * q + c) = if q = j ∧ c < i then (oc_nS 4 z x y (S j) (S j) c).toNat else (S q c).toNat) → gg p l e (oc_rm 2) s m args below meth cd Q 0 0 D A 7 (oc_mW ad dZ u) 40 [some (.ref (ad 0)), some (.int (nI j)), some (.int (nI x)), some (.int (nI y)), some (.int (nI z)), some (.int (nI i)), p6] [] := by
      intro t
      induction t with
      | zero =>
        intro i u p6 hi h0
        obtain rfl : i = 512 := by omega
        refine gg_ild X (pc := 40) dX1_box_40 rfl ?_
        refine gg_sp X (pc := 42) dX1_box_42 oc_sp512 ?_
        refine gg_ic_geN X (pc := 45) (tgt := 142) dX1_box_45 (by decide) (by omega) (by omega) (fun h => ?_) (fun h => ?_)
        · refine gg_ic X (pc := 142) dX1_box_142 oc_ic1 ?_
          refine hret _ _ 143 _ dX1_box_143 (by omega) ⟨by rw [q_box, ok]; rfl, ?_⟩
          rw [s_box, ok, oc_n_nI (by omega), oc_n_nI (by omega), oc_n_nI (by omega), oc_n_nI (by omega)]
          intro q c hq hc
          rw [h0 q c hq hc]
          show _ = (oc_set S j _ q c).toNat
          unfold oc_set
          by_cases e : q = j
          · rw [if_pos ⟨e, hc⟩, if_pos e]
          · rw [if_neg (fun z => e z.1), if_neg e]
        · exact absurd h (by omega)
      | succ t ih =>
        intro i u p6 hi h0
        have hc : i < 512 := by omega
        have put : ∀ (b : Nat) (p6 : Option Value), b = (oc_nS 4 z x y (S j) (S j) i).toNat → gg p l e (oc_rm 2) s m args below meth cd Q 0 0 D A 7 (oc_mW ad dZ u) 135 [some (.ref (ad 0)), some (.int (nI j)), some (.int (nI x)), some (.int (nI y)), some (.int (nI z)), some (.int (nI i)), p6] [.int (nI b), .int (nI (512 * j + i)), .ref (ad 1)] := by
          intro b p6 hb
          have hb2 : b < 2 := by rw [hb]; exact oc_bn _
          refine gm_s_in X (pc := 135) dX1_box_135 (by omega) (by omega) ?_
          refine gg_iinc X (pc := 136) dX1_box_136 rfl (oc_inc _) (by decide) ?_
          refine gg_goto X (pc := 139) (tgt := 40) dX1_box_139 (by decide) ?_
          refine ih (i + 1) _ _ (by omega) (fun q c hq hc => ?_)
          by_cases e : 512 * q + c = 512 * j + i
          · have e1 : q = j := by omega
            have e2 : c = i := by omega
            rw [e, oc_up_s, if_pos ⟨e1, by omega⟩, hb, e2]
          · rw [oc_up_k _ _ _ _ e, h0 q c hq hc]
            by_cases e1 : q = j ∧ c < i
            · rw [if_pos e1, if_pos ⟨e1.1, by omega⟩]
            · rw [if_neg e1, if_neg (fun z => e1 ⟨z.1, by omega⟩)]
        have st : ∀ (b : Nat) (p6 : Option Value), b = (oc_box x y i).toNat → gg p l e (oc_rm 2) s m args below meth cd Q 0 0 D A 7 (oc_mW ad dZ u) 89 [some (.ref (ad 0)), some (.int (nI j)), some (.int (nI x)), some (.int (nI y)), some (.int (nI z)), some (.int (nI i)), p6] [.int (nI b)] := by
          intro b p6 hb
          subst hb
          have hb2 := oc_bn (oc_box x y i)
          cases hbx : oc_box x y i with
          | true =>
            refine gg_ist X (pc := 89) dX1_box_89 (by decide) ?_
            refine gg_ald_n X (pc := 91) dX1_box_91 rfl ?_
            refine gm_g_in X (pc := 92) dX1_box_92 ?_
            refine gg_sp X (pc := 95) dX1_box_95 oc_sp512 ?_
            refine gg_ild_n X (pc := 98) dX1_box_98 rfl ?_
            refine gg_imulN X (pc := 99) dX1_box_99 ?_
            refine gg_ild X (pc := 100) dX1_box_100 rfl ?_
            refine gg_iaddN X (pc := 102) dX1_box_102 ?_
            refine gg_ild X (pc := 103) dX1_box_103 rfl ?_
            refine gg_if_eqN X (pc := 105) (tgt := 122) dX1_box_105 (by decide) (by decide) (fun k => ?_) (fun k => ?_)
            · exact absurd k (by decide)
            · refine gg_ild X (pc := 108) dX1_box_108 rfl ?_
              refine gg_ic X (pc := 110) dX1_box_110 oc_ic1 ?_
              refine gg_ic_neN X (pc := 111) (tgt := 118) dX1_box_111 (by decide) (by omega) (by omega) (fun k2 => ?_) (fun k2 => ?_)
              · refine gg_ic X (pc := 118) dX1_box_118 oc_ic0 ?_
                refine gg_goto X (pc := 119) (tgt := 135) dX1_box_119 (by decide) ?_
                exact put 0 _ (by simp [oc_nS, hbx, k2])
              · refine gg_ic X (pc := 114) dX1_box_114 oc_ic1 ?_
                refine gg_goto X (pc := 115) (tgt := 135) dX1_box_115 (by decide) ?_
                exact put 1 _ (by simp [oc_nS, hbx, k2])
          | false =>
            refine gg_ist X (pc := 89) dX1_box_89 (by decide) ?_
            refine gg_ald_n X (pc := 91) dX1_box_91 rfl ?_
            refine gm_g_in X (pc := 92) dX1_box_92 ?_
            refine gg_sp X (pc := 95) dX1_box_95 oc_sp512 ?_
            refine gg_ild_n X (pc := 98) dX1_box_98 rfl ?_
            refine gg_imulN X (pc := 99) dX1_box_99 ?_
            refine gg_ild X (pc := 100) dX1_box_100 rfl ?_
            refine gg_iaddN X (pc := 102) dX1_box_102 ?_
            refine gg_ild X (pc := 103) dX1_box_103 rfl ?_
            refine gg_if_eqN X (pc := 105) (tgt := 122) dX1_box_105 (by decide) (by decide) (fun k => ?_) (fun k => ?_)
            · have e : u 0 (512 * j + i) = (S j i).toNat := by rw [h0 j i hj hc, if_neg (fun z => absurd z.2 (by omega))]
              refine gg_ald_n X (pc := 122) dX1_box_122 rfl ?_
              refine gm_g_in X (pc := 123) dX1_box_123 ?_
              refine gg_sp X (pc := 126) dX1_box_126 oc_sp512 ?_
              refine gg_ild_n X (pc := 129) dX1_box_129 rfl ?_
              refine gg_imulN X (pc := 130) dX1_box_130 ?_
              refine gg_ild X (pc := 131) dX1_box_131 rfl ?_
              refine gg_iaddN X (pc := 133) dX1_box_133 ?_
              refine gm_l_in X (pc := 134) dX1_box_134 (by omega) ?_
              exact put _ _ (by rw [e]; simp [oc_nS, hbx])
            · exact absurd rfl k
        have no : ∀ (p6 : Option Value), oc_box x y i = false → gg p l e (oc_rm 2) s m args below meth cd Q 0 0 D A 7 (oc_mW ad dZ u) 88 [some (.ref (ad 0)), some (.int (nI j)), some (.int (nI x)), some (.int (nI y)), some (.int (nI z)), some (.int (nI i)), p6] [] := by
          intro p6 hb
          refine gg_ic X (pc := 88) dX1_box_88 oc_ic0 ?_
          exact st 0 _ (by rw [hb]; rfl)
        refine gg_ild X (pc := 40) dX1_box_40 rfl ?_
        refine gg_sp X (pc := 42) dX1_box_42 oc_sp512 ?_
        refine gg_ic_geN X (pc := 45) (tgt := 142) dX1_box_45 (by decide) (by omega) (by omega) (fun h => ?_) (fun h => ?_)
        · exact absurd h (by omega)
        · refine gg_ald_n X (pc := 48) dX1_box_48 rfl ?_
          refine gg_ild X (pc := 49) dX1_box_49 rfl ?_
          refine gg_ild_n X (pc := 51) dX1_box_51 rfl ?_
          refine gg_ild_n X (pc := 52) dX1_box_52 rfl ?_
          refine gg_ic X (pc := 53) dX1_box_53 oc_ic0 ?_
          refine gm_calli X (pc := 54) (mM_between l D dZ ad u i x y 0 hc hx hy (by omega)) cn_X1_27 ⟨by decide, by decide⟩ ⟨Nat.le_refl _, Nat.le_refl _⟩ rfl rfl (Nat.le_of_ble_eq_true rfl) dX1_box_54 (fun r1 u1 q1 => ?_)
          obtain ⟨rfl, rfl⟩ := q1
          cases b0 : oc_btw i x y 0 with
          | false =>
            refine gg_if_eqN X (pc := 57) (tgt := 88) dX1_box_57 (by decide) (by decide) (fun k => ?_) (fun k => ?_)
            · exact no _ (oc_box_f (by decide) b0)
            · exact absurd rfl k
          | true =>
            refine gg_if_eqN X (pc := 57) (tgt := 88) dX1_box_57 (by decide) (by decide) (fun k => ?_) (fun k => ?_)
            · exact absurd k (by decide)
            · refine gg_ald_n X (pc := 60) dX1_box_60 rfl ?_
              refine gg_ild X (pc := 61) dX1_box_61 rfl ?_
              refine gg_ild_n X (pc := 63) dX1_box_63 rfl ?_
              refine gg_ild_n X (pc := 64) dX1_box_64 rfl ?_
              refine gg_ic X (pc := 65) dX1_box_65 oc_ic1 ?_
              refine gm_calli X (pc := 66) (mM_between l D dZ ad u i x y 1 hc hx hy (by omega)) cn_X1_27 ⟨by decide, by decide⟩ ⟨Nat.le_refl _, Nat.le_refl _⟩ rfl rfl (Nat.le_of_ble_eq_true rfl) dX1_box_66 (fun r1 u1 q1 => ?_)
              obtain ⟨rfl, rfl⟩ := q1
              cases b1 : oc_btw i x y 1 with
              | false =>
                refine gg_if_eqN X (pc := 69) (tgt := 88) dX1_box_69 (by decide) (by decide) (fun k => ?_) (fun k => ?_)
                · exact no _ (oc_box_f (by decide) b1)
                · exact absurd rfl k
              | true =>
                refine gg_if_eqN X (pc := 69) (tgt := 88) dX1_box_69 (by decide) (by decide) (fun k => ?_) (fun k => ?_)
                · exact absurd k (by decide)
                · refine gg_ald_n X (pc := 72) dX1_box_72 rfl ?_
                  refine gg_ild X (pc := 73) dX1_box_73 rfl ?_
                  refine gg_ild_n X (pc := 75) dX1_box_75 rfl ?_
                  refine gg_ild_n X (pc := 76) dX1_box_76 rfl ?_
                  refine gg_ic X (pc := 77) dX1_box_77 oc_ic2 ?_
                  refine gm_calli X (pc := 78) (mM_between l D dZ ad u i x y 2 hc hx hy (by omega)) cn_X1_27 ⟨by decide, by decide⟩ ⟨Nat.le_refl _, Nat.le_refl _⟩ rfl rfl (Nat.le_of_ble_eq_true rfl) dX1_box_78 (fun r1 u1 q1 => ?_)
                  obtain ⟨rfl, rfl⟩ := q1
                  cases b2 : oc_btw i x y 2 with
                  | false =>
                    refine gg_if_eqN X (pc := 81) (tgt := 88) dX1_box_81 (by decide) (by decide) (fun k => ?_) (fun k => ?_)
                    · exact no _ (oc_box_f (by decide) b2)
                    · exact absurd rfl k
                  | true =>
                    refine gg_if_eqN X (pc := 81) (tgt := 88) dX1_box_81 (by decide) (by decide) (fun k => ?_) (fun k => ?_)
                    · exact absurd k (by decide)
                    · refine gg_ic X (pc := 84) dX1_box_84 oc_ic1 ?_
                      refine gg_goto X (pc := 85) (tgt := 89) dX1_box_85 (by decide) ?_
                      exact st 1 _ (by unfold oc_box; rw [b0, b1, b2]; rfl)
    refine gg_ic X (pc := 37) dX1_box_37 oc_ic0 ?_
    refine gg_ist X (pc := 38) dX1_box_38 (by decide) ?_
    exact loop 512 0 v _ (by omega) (fun q c hq hc => by rw [if_neg (fun z => absurd z.2 (by omega))]; exact hK q c hq hc)
  refine gg_ald_n X (pc := 0) dX1_box_0 rfl ?_
  refine gg_ild_n X (pc := 1) dX1_box_1 rfl ?_
  refine gm_calli X (pc := 2) (mM_solid l D dZ ad v r) cn_X1_20 ⟨by decide, by decide⟩ ⟨Nat.le_refl _, Nat.le_refl _⟩ rfl rfl (Nat.le_of_ble_eq_true rfl) dX1_box_2 (fun r1 u1 q1 => ?_)
  obtain ⟨q1, rfl⟩ := q1
  rcases q1 with ⟨k1, rfl⟩ | ⟨k1, rfl⟩
  · refine gg_if_eqN X (pc := 5) (tgt := 35) dX1_box_5 (by decide) (by omega) (fun h => ?_) (fun h => ?_)
    · exact absurd h (by omega)
    · refine gg_ald_n X (pc := 8) dX1_box_8 rfl ?_
      refine gg_ild_n X (pc := 9) dX1_box_9 rfl ?_
      refine gm_calli X (pc := 10) (mM_cell l D dZ ad v c) cn_X1_24 ⟨by decide, by decide⟩ ⟨Nat.le_refl _, Nat.le_refl _⟩ rfl rfl (Nat.le_of_ble_eq_true rfl) dX1_box_10 (fun r1 u1 q1 => ?_)
      obtain ⟨q1, rfl⟩ := q1
      rcases q1 with ⟨k2, rfl⟩ | ⟨k2, rfl⟩
      · refine gg_if_eqN X (pc := 13) (tgt := 35) dX1_box_13 (by decide) (by omega) (fun h => ?_) (fun h => ?_)
        · exact absurd h (by omega)
        · refine gg_ald_n X (pc := 16) dX1_box_16 rfl ?_
          refine gg_ild_n X (pc := 17) dX1_box_17 rfl ?_
          refine gm_calli X (pc := 18) (mM_cell l D dZ ad v d) cn_X1_24 ⟨by decide, by decide⟩ ⟨Nat.le_refl _, Nat.le_refl _⟩ rfl rfl (Nat.le_of_ble_eq_true rfl) dX1_box_18 (fun r1 u1 q1 => ?_)
          obtain ⟨q1, rfl⟩ := q1
          rcases q1 with ⟨k3, rfl⟩ | ⟨k3, rfl⟩
          · refine gg_if_eqN X (pc := 21) (tgt := 35) dX1_box_21 (by decide) (by omega) (fun h => ?_) (fun h => ?_)
            · exact absurd h (by omega)
            · obtain ⟨j, hj, ej⟩ := k1
              obtain ⟨x, hx, ex⟩ := k2
              obtain ⟨y, hy, ey⟩ := k3
              refine gg_ild X (pc := 24) dX1_box_24 rfl ?_
              refine gg_if_eq X (pc := 26) (tgt := 37) dX1_box_26 (by decide) (fun h1 => ?_) (fun h1 => ?_)
              · exact go j x y 0 hj hx hy (by decide) ej ex ey (h1.trans nI_0.symm)
              · refine gg_ild X (pc := 29) dX1_box_29 rfl ?_
                refine gg_ic X (pc := 31) dX1_box_31 oc_ic1 ?_
                refine gg_ic_eq X (pc := 32) (tgt := 37) dX1_box_32 (by decide) (fun h2 => ?_) (fun h2 => ?_)
                · exact go j x y 1 hj hx hy (by decide) ej ex ey h2
                · refine no ?_
                  rw [oc_ok_f (n := 2) (r := w) (fun ⟨z, hz, ez⟩ => ?_)]
                  · simp
                  · rcases (by omega : z = 0 ∨ z = 1) with rfl | rfl
                    · exact h1 (ez.trans nI_0)
                    · exact h2 ez
          · refine gg_if_eqN X (pc := 21) (tgt := 35) dX1_box_21 (by decide) (by omega) (fun h => ?_) (fun h => ?_)
            · exact no (by rw [oc_ok_f k3]; simp)
            · exact absurd rfl h
      · refine gg_if_eqN X (pc := 13) (tgt := 35) dX1_box_13 (by decide) (by omega) (fun h => ?_) (fun h => ?_)
        · exact no (by rw [oc_ok_f k2]; simp)
        · exact absurd rfl h
  · refine gg_if_eqN X (pc := 5) (tgt := 35) dX1_box_5 (by decide) (by omega) (fun h => ?_) (fun h => ?_)
    · exact no (by rw [oc_ok_f k1]; simp)
    · exact absurd rfl h
end
section
/-! the model: combine, turn, mirror -/
set_option maxRecDepth 100000
theorem mM_combine (l : Launch) (D : va_G) (dZ : ClassId) (ad : Nat → Nat) (v : Nat → Nat → Nat) (S : Nat → Nat → Bool) (hK : oc_K v S) (r o a b : Int32) : oc_Mi l D (oc_tm dZ) 2 yX1_combine cX1_combine 8 (some .boolean) [.ref (ad 0), .int r, .int o, .int a, .int b] (oc_mW ad dZ) (oc_mW ad dZ v) (fun q u => q = q_combine r o a b ∧ oc_K u (s_combine S r o a b)) := by
  refine oc_Mi.ofZ (own := RX1) (by decide) rfl (Nat.le_of_ble_eq_true rfl) (by simp [Value.category]) [some (.ref (ad 0)), some (.int r), some (.int o), some (.int a), some (.int b), none, none, none] rfl ?_
  intro p e s m args below meth cd A Q X hret
  have no : (oc_ok 4 r && oc_ok 4 a && oc_ok 4 b && oc_ok 4 o) = false → gg p l e (oc_rm 2) s m args below meth cd Q 0 0 D A 8 (oc_mW ad dZ v) 34 [some (.ref (ad 0)), some (.int r), some (.int o), some (.int a), some (.int b), none, none, none] [] := by
    intro h
    refine gg_ic X (pc := 34) dX1_combine_34 oc_ic0 ?_
    exact hret _ _ 35 _ dX1_combine_35 (by omega) (⟨by rw [q_combine, h]; rfl, by rw [s_combine, h]; exact hK⟩)
  have go : ∀ (j x y z : Nat), j < 4 → x < 4 → y < 4 → z < 4 → r = nI j → a = nI x → b = nI y → o = nI z → gg p l e (oc_rm 2) s m args below meth cd Q 0 0 D A 8 (oc_mW ad dZ v) 36 [some (.ref (ad 0)), some (.int r), some (.int o), some (.int a), some (.int b), none, none, none] [] := by
    intro j x y z hj hx hy hz er ea eb eo
    subst er ea eb eo
    have ok : (oc_ok 4 (nI j) && oc_ok 4 (nI x) && oc_ok 4 (nI y) && oc_ok 4 (nI z)) = true := by
      rw [oc_ok_t (by decide) ⟨j, hj, rfl⟩, oc_ok_t (by decide) ⟨x, hx, rfl⟩, oc_ok_t (by decide) ⟨y, hy, rfl⟩, oc_ok_t (by decide) ⟨z, hz, rfl⟩]
      rfl
    have loop : ∀ (t i : Nat) (u : Nat → Nat → Nat) (p6 p7 : Option Value), i + t = 512 → oc_K u S → (∀ c, c < i → u 1 c = (oc_nS z 0 0 0 (S x) (S y) c).toNat) → gg p l e (oc_rm 2) s m args below meth cd Q 0 0 D A 8 (oc_mW ad dZ u) 39 [some (.ref (ad 0)), some (.int (nI j)), some (.int (nI z)), some (.int (nI x)), some (.int (nI y)), some (.int (nI i)), p6, p7] [] := by
      intro t
      induction t with
      | zero =>
        intro i u p6 p7 hi hK h1
        obtain rfl : i = 512 := by omega
        refine gg_ild X (pc := 39) dX1_combine_39 rfl ?_
        refine gg_sp X (pc := 41) dX1_combine_41 oc_sp512 ?_
        refine gg_ic_geN X (pc := 44) (tgt := 171) dX1_combine_44 (by decide) (by omega) (by omega) (fun h => ?_) (fun h => ?_)
        · refine gg_ald_n X (pc := 171) dX1_combine_171 rfl ?_
          refine gg_ild_n X (pc := 172) dX1_combine_172 rfl ?_
          refine gm_callv X (pc := 173) (mM_keep l D dZ ad u S _ j hj hK h1) cn_X1_31 ⟨by decide, by decide⟩ ⟨Nat.le_refl _, Nat.le_refl _⟩ rfl rfl (Nat.le_of_ble_eq_true rfl) dX1_combine_173 (fun u1 q1 => ?_)
          refine gg_ic X (pc := 176) dX1_combine_176 oc_ic1 ?_
          refine hret _ _ 177 _ dX1_combine_177 (by omega) ⟨by rw [q_combine, ok]; rfl, ?_⟩
          rw [s_combine, ok, oc_n_nI (by omega), oc_n_nI (by omega), oc_n_nI (by omega), oc_n_nI (by omega)]
          exact q1
        · exact absurd h (by omega)
      | succ t ih =>
        intro i u p6 p7 hi hK h1
        have hc : i < 512 := by omega
        have put : ∀ (q : Nat) (p6 p7 : Option Value), q = (oc_nS z 0 0 0 (S x) (S y) i).toNat → gg p l e (oc_rm 2) s m args below meth cd Q 0 0 D A 8 (oc_mW ad dZ u) 164 [some (.ref (ad 0)), some (.int (nI j)), some (.int (nI z)), some (.int (nI x)), some (.int (nI y)), some (.int (nI i)), p6, p7] [.int (nI q), .int (nI i), .ref (ad 2)] := by
          intro q p6 p7 hq
          have hq2 : q < 2 := by rw [hq]; exact oc_bn _
          refine gm_s_made X (pc := 164) dX1_combine_164 (by omega) (by omega) ?_
          refine gg_iinc X (pc := 165) dX1_combine_165 rfl (oc_inc _) (by decide) ?_
          refine gg_goto X (pc := 168) (tgt := 39) dX1_combine_168 (by decide) ?_
          refine ih (i + 1) _ _ _ (by omega) (fun q c hq hc => hK q c hq hc) (fun c hc => ?_)
          by_cases e : c = i
          · rw [e, oc_up_s, hq]
          · rw [oc_up_k _ _ _ _ e]
            exact h1 c (by omega)
        refine gg_ild X (pc := 39) dX1_combine_39 rfl ?_
        refine gg_sp X (pc := 41) dX1_combine_41 oc_sp512 ?_
        refine gg_ic_geN X (pc := 44) (tgt := 171) dX1_combine_44 (by decide) (by omega) (by omega) (fun h => ?_) (fun h => ?_)
        · exact absurd h (by omega)
        · refine gg_ald_n X (pc := 47) dX1_combine_47 rfl ?_
          refine gm_g_in X (pc := 48) dX1_combine_48 ?_
          refine gg_sp X (pc := 51) dX1_combine_51 oc_sp512 ?_
          refine gg_ild_n X (pc := 54) dX1_combine_54 rfl ?_
          refine gg_imulN X (pc := 55) dX1_combine_55 ?_
          refine gg_ild X (pc := 56) dX1_combine_56 rfl ?_
          refine gg_iaddN X (pc := 58) dX1_combine_58 ?_
          refine gm_l_in X (pc := 59) dX1_combine_59 (by omega) ?_
          refine gg_top ((show nI (u 0 (512 * x + i)) = nI (S x i).toNat by rw [hK x i hx hc])) ?_
          refine gg_ist X (pc := 60) dX1_combine_60 (by decide) ?_
          refine gg_ald_n X (pc := 62) dX1_combine_62 rfl ?_
          refine gm_g_in X (pc := 63) dX1_combine_63 ?_
          refine gg_sp X (pc := 66) dX1_combine_66 oc_sp512 ?_
          refine gg_ild X (pc := 69) dX1_combine_69 rfl ?_
          refine gg_imulN X (pc := 71) dX1_combine_71 ?_
          refine gg_ild X (pc := 72) dX1_combine_72 rfl ?_
          refine gg_iaddN X (pc := 74) dX1_combine_74 ?_
          refine gm_l_in X (pc := 75) dX1_combine_75 (by omega) ?_
          refine gg_top ((show nI (u 0 (512 * y + i)) = nI (S y i).toNat by rw [hK y i hy hc])) ?_
          refine gg_ist X (pc := 76) dX1_combine_76 (by decide) ?_
          have bx := oc_bn (S x i)
          have bY := oc_bn (S y i)
          cases hX : S x i with
          | true =>
            cases hY : S y i with
            | true =>
              refine gg_ald_n X (pc := 78) dX1_combine_78 rfl ?_
              refine gm_g_made X (pc := 79) dX1_combine_79 ?_
              refine gg_ild X (pc := 82) dX1_combine_82 rfl ?_
              refine gg_ild_n X (pc := 84) dX1_combine_84 rfl ?_
              refine gg_if_neN X (pc := 85) (tgt := 106) dX1_combine_85 (by decide) (by omega) (fun k => ?_) (fun k => ?_)
              · refine gg_ild_n X (pc := 106) dX1_combine_106 rfl ?_
                refine gg_ic X (pc := 107) dX1_combine_107 oc_ic1 ?_
                refine gg_ic_neN X (pc := 108) (tgt := 129) dX1_combine_108 (by decide) (by omega) (by omega) (fun k1 => ?_) (fun k1 => ?_)
                · refine gg_ild_n X (pc := 129) dX1_combine_129 rfl ?_
                  refine gg_ic X (pc := 130) dX1_combine_130 oc_ic2 ?_
                  refine gg_ic_neN X (pc := 131) (tgt := 152) dX1_combine_131 (by decide) (by omega) (by omega) (fun k2 => ?_) (fun k2 => ?_)
                  · refine gg_ild X (pc := 152) dX1_combine_152 rfl ?_
                    refine gg_ild X (pc := 154) dX1_combine_154 rfl ?_
                    refine gg_ic_eqN X (pc := 156) (tgt := 163) dX1_combine_156 (by decide) (by decide) (by decide) (fun k3 => ?_) (fun k3 => ?_)
                    · refine gg_ic X (pc := 163) dX1_combine_163 oc_ic0 ?_
                      exact put 0 _ _ (by simp [oc_nS, hX, hY, k, k1, k2, show z = 3 by omega])
                    · exact absurd rfl k3
                  · refine gg_ild X (pc := 134) dX1_combine_134 rfl ?_
                    refine gg_if_eqN X (pc := 136) (tgt := 148) dX1_combine_136 (by decide) (by decide) (fun k3 => ?_) (fun k3 => ?_)
                    · exact absurd k3 (by decide)
                    · refine gg_ild X (pc := 139) dX1_combine_139 rfl ?_
                      refine gg_if_neN X (pc := 141) (tgt := 148) dX1_combine_141 (by decide) (by decide) (fun k4 => ?_) (fun k4 => ?_)
                      · refine gg_ic X (pc := 148) dX1_combine_148 oc_ic0 ?_
                        refine gg_goto X (pc := 149) (tgt := 164) dX1_combine_149 (by decide) ?_
                        exact put 0 _ _ (by simp [oc_nS, hX, hY, k2])
                      · exact absurd k4 (by decide)
                · refine gg_ild X (pc := 111) dX1_combine_111 rfl ?_
                  refine gg_if_eqN X (pc := 113) (tgt := 125) dX1_combine_113 (by decide) (by decide) (fun k3 => ?_) (fun k3 => ?_)
                  · exact absurd k3 (by decide)
                  · refine gg_ild X (pc := 116) dX1_combine_116 rfl ?_
                    refine gg_if_eqN X (pc := 118) (tgt := 125) dX1_combine_118 (by decide) (by decide) (fun k4 => ?_) (fun k4 => ?_)
                    · exact absurd k4 (by decide)
                    · refine gg_ic X (pc := 121) dX1_combine_121 oc_ic1 ?_
                      refine gg_goto X (pc := 122) (tgt := 164) dX1_combine_122 (by decide) ?_
                      exact put 1 _ _ (by simp [oc_nS, hX, hY, k1])
              · refine gg_ild X (pc := 88) dX1_combine_88 rfl ?_
                refine gg_if_neN X (pc := 90) (tgt := 98) dX1_combine_90 (by decide) (by decide) (fun k3 => ?_) (fun k3 => ?_)
                · refine gg_ic X (pc := 98) dX1_combine_98 oc_ic1 ?_
                  refine gg_goto X (pc := 99) (tgt := 164) dX1_combine_99 (by decide) ?_
                  exact put 1 _ _ (by simp [oc_nS, hX, hY, k])
                · exact absurd k3 (by decide)
            | false =>
              refine gg_ald_n X (pc := 78) dX1_combine_78 rfl ?_
              refine gm_g_made X (pc := 79) dX1_combine_79 ?_
              refine gg_ild X (pc := 82) dX1_combine_82 rfl ?_
              refine gg_ild_n X (pc := 84) dX1_combine_84 rfl ?_
              refine gg_if_neN X (pc := 85) (tgt := 106) dX1_combine_85 (by decide) (by omega) (fun k => ?_) (fun k => ?_)
              · refine gg_ild_n X (pc := 106) dX1_combine_106 rfl ?_
                refine gg_ic X (pc := 107) dX1_combine_107 oc_ic1 ?_
                refine gg_ic_neN X (pc := 108) (tgt := 129) dX1_combine_108 (by decide) (by omega) (by omega) (fun k1 => ?_) (fun k1 => ?_)
                · refine gg_ild_n X (pc := 129) dX1_combine_129 rfl ?_
                  refine gg_ic X (pc := 130) dX1_combine_130 oc_ic2 ?_
                  refine gg_ic_neN X (pc := 131) (tgt := 152) dX1_combine_131 (by decide) (by omega) (by omega) (fun k2 => ?_) (fun k2 => ?_)
                  · refine gg_ild X (pc := 152) dX1_combine_152 rfl ?_
                    refine gg_ild X (pc := 154) dX1_combine_154 rfl ?_
                    refine gg_ic_eqN X (pc := 156) (tgt := 163) dX1_combine_156 (by decide) (by decide) (by decide) (fun k3 => ?_) (fun k3 => ?_)
                    · exact absurd k3 (by decide)
                    · refine gg_ic X (pc := 159) dX1_combine_159 oc_ic1 ?_
                      refine gg_goto X (pc := 160) (tgt := 164) dX1_combine_160 (by decide) ?_
                      exact put 1 _ _ (by simp [oc_nS, hX, hY, k, k1, k2, show z = 3 by omega])
                  · refine gg_ild X (pc := 134) dX1_combine_134 rfl ?_
                    refine gg_if_eqN X (pc := 136) (tgt := 148) dX1_combine_136 (by decide) (by decide) (fun k3 => ?_) (fun k3 => ?_)
                    · exact absurd k3 (by decide)
                    · refine gg_ild X (pc := 139) dX1_combine_139 rfl ?_
                      refine gg_if_neN X (pc := 141) (tgt := 148) dX1_combine_141 (by decide) (by decide) (fun k4 => ?_) (fun k4 => ?_)
                      · exact absurd rfl k4
                      · refine gg_ic X (pc := 144) dX1_combine_144 oc_ic1 ?_
                        refine gg_goto X (pc := 145) (tgt := 164) dX1_combine_145 (by decide) ?_
                        exact put 1 _ _ (by simp [oc_nS, hX, hY, k2])
                · refine gg_ild X (pc := 111) dX1_combine_111 rfl ?_
                  refine gg_if_eqN X (pc := 113) (tgt := 125) dX1_combine_113 (by decide) (by decide) (fun k3 => ?_) (fun k3 => ?_)
                  · exact absurd k3 (by decide)
                  · refine gg_ild X (pc := 116) dX1_combine_116 rfl ?_
                    refine gg_if_eqN X (pc := 118) (tgt := 125) dX1_combine_118 (by decide) (by decide) (fun k4 => ?_) (fun k4 => ?_)
                    · refine gg_ic X (pc := 125) dX1_combine_125 oc_ic0 ?_
                      refine gg_goto X (pc := 126) (tgt := 164) dX1_combine_126 (by decide) ?_
                      exact put 0 _ _ (by simp [oc_nS, hX, hY, k1])
                    · exact absurd rfl k4
              · refine gg_ild X (pc := 88) dX1_combine_88 rfl ?_
                refine gg_if_neN X (pc := 90) (tgt := 98) dX1_combine_90 (by decide) (by decide) (fun k3 => ?_) (fun k3 => ?_)
                · refine gg_ic X (pc := 98) dX1_combine_98 oc_ic1 ?_
                  refine gg_goto X (pc := 99) (tgt := 164) dX1_combine_99 (by decide) ?_
                  exact put 1 _ _ (by simp [oc_nS, hX, hY, k])
                · exact absurd k3 (by decide)
          | false =>
            cases hY : S y i with
            | true =>
              refine gg_ald_n X (pc := 78) dX1_combine_78 rfl ?_
              refine gm_g_made X (pc := 79) dX1_combine_79 ?_
              refine gg_ild X (pc := 82) dX1_combine_82 rfl ?_
              refine gg_ild_n X (pc := 84) dX1_combine_84 rfl ?_
              refine gg_if_neN X (pc := 85) (tgt := 106) dX1_combine_85 (by decide) (by omega) (fun k => ?_) (fun k => ?_)
              · refine gg_ild_n X (pc := 106) dX1_combine_106 rfl ?_
                refine gg_ic X (pc := 107) dX1_combine_107 oc_ic1 ?_
                refine gg_ic_neN X (pc := 108) (tgt := 129) dX1_combine_108 (by decide) (by omega) (by omega) (fun k1 => ?_) (fun k1 => ?_)
                · refine gg_ild_n X (pc := 129) dX1_combine_129 rfl ?_
                  refine gg_ic X (pc := 130) dX1_combine_130 oc_ic2 ?_
                  refine gg_ic_neN X (pc := 131) (tgt := 152) dX1_combine_131 (by decide) (by omega) (by omega) (fun k2 => ?_) (fun k2 => ?_)
                  · refine gg_ild X (pc := 152) dX1_combine_152 rfl ?_
                    refine gg_ild X (pc := 154) dX1_combine_154 rfl ?_
                    refine gg_ic_eqN X (pc := 156) (tgt := 163) dX1_combine_156 (by decide) (by decide) (by decide) (fun k3 => ?_) (fun k3 => ?_)
                    · exact absurd k3 (by decide)
                    · refine gg_ic X (pc := 159) dX1_combine_159 oc_ic1 ?_
                      refine gg_goto X (pc := 160) (tgt := 164) dX1_combine_160 (by decide) ?_
                      exact put 1 _ _ (by simp [oc_nS, hX, hY, k, k1, k2, show z = 3 by omega])
                  · refine gg_ild X (pc := 134) dX1_combine_134 rfl ?_
                    refine gg_if_eqN X (pc := 136) (tgt := 148) dX1_combine_136 (by decide) (by decide) (fun k3 => ?_) (fun k3 => ?_)
                    · refine gg_ic X (pc := 148) dX1_combine_148 oc_ic0 ?_
                      refine gg_goto X (pc := 149) (tgt := 164) dX1_combine_149 (by decide) ?_
                      exact put 0 _ _ (by simp [oc_nS, hX, hY, k2])
                    · exact absurd rfl k3
                · refine gg_ild X (pc := 111) dX1_combine_111 rfl ?_
                  refine gg_if_eqN X (pc := 113) (tgt := 125) dX1_combine_113 (by decide) (by decide) (fun k3 => ?_) (fun k3 => ?_)
                  · refine gg_ic X (pc := 125) dX1_combine_125 oc_ic0 ?_
                    refine gg_goto X (pc := 126) (tgt := 164) dX1_combine_126 (by decide) ?_
                    exact put 0 _ _ (by simp [oc_nS, hX, hY, k1])
                  · exact absurd rfl k3
              · refine gg_ild X (pc := 88) dX1_combine_88 rfl ?_
                refine gg_if_neN X (pc := 90) (tgt := 98) dX1_combine_90 (by decide) (by decide) (fun k3 => ?_) (fun k3 => ?_)
                · exact absurd rfl k3
                · refine gg_ild X (pc := 93) dX1_combine_93 rfl ?_
                  refine gg_if_eqN X (pc := 95) (tgt := 102) dX1_combine_95 (by decide) (by decide) (fun k4 => ?_) (fun k4 => ?_)
                  · exact absurd k4 (by decide)
                  · refine gg_ic X (pc := 98) dX1_combine_98 oc_ic1 ?_
                    refine gg_goto X (pc := 99) (tgt := 164) dX1_combine_99 (by decide) ?_
                    exact put 1 _ _ (by simp [oc_nS, hX, hY, k])
            | false =>
              refine gg_ald_n X (pc := 78) dX1_combine_78 rfl ?_
              refine gm_g_made X (pc := 79) dX1_combine_79 ?_
              refine gg_ild X (pc := 82) dX1_combine_82 rfl ?_
              refine gg_ild_n X (pc := 84) dX1_combine_84 rfl ?_
              refine gg_if_neN X (pc := 85) (tgt := 106) dX1_combine_85 (by decide) (by omega) (fun k => ?_) (fun k => ?_)
              · refine gg_ild_n X (pc := 106) dX1_combine_106 rfl ?_
                refine gg_ic X (pc := 107) dX1_combine_107 oc_ic1 ?_
                refine gg_ic_neN X (pc := 108) (tgt := 129) dX1_combine_108 (by decide) (by omega) (by omega) (fun k1 => ?_) (fun k1 => ?_)
                · refine gg_ild_n X (pc := 129) dX1_combine_129 rfl ?_
                  refine gg_ic X (pc := 130) dX1_combine_130 oc_ic2 ?_
                  refine gg_ic_neN X (pc := 131) (tgt := 152) dX1_combine_131 (by decide) (by omega) (by omega) (fun k2 => ?_) (fun k2 => ?_)
                  · refine gg_ild X (pc := 152) dX1_combine_152 rfl ?_
                    refine gg_ild X (pc := 154) dX1_combine_154 rfl ?_
                    refine gg_ic_eqN X (pc := 156) (tgt := 163) dX1_combine_156 (by decide) (by decide) (by decide) (fun k3 => ?_) (fun k3 => ?_)
                    · refine gg_ic X (pc := 163) dX1_combine_163 oc_ic0 ?_
                      exact put 0 _ _ (by simp [oc_nS, hX, hY, k, k1, k2, show z = 3 by omega])
                    · exact absurd rfl k3
                  · refine gg_ild X (pc := 134) dX1_combine_134 rfl ?_
                    refine gg_if_eqN X (pc := 136) (tgt := 148) dX1_combine_136 (by decide) (by decide) (fun k3 => ?_) (fun k3 => ?_)
                    · refine gg_ic X (pc := 148) dX1_combine_148 oc_ic0 ?_
                      refine gg_goto X (pc := 149) (tgt := 164) dX1_combine_149 (by decide) ?_
                      exact put 0 _ _ (by simp [oc_nS, hX, hY, k2])
                    · exact absurd rfl k3
                · refine gg_ild X (pc := 111) dX1_combine_111 rfl ?_
                  refine gg_if_eqN X (pc := 113) (tgt := 125) dX1_combine_113 (by decide) (by decide) (fun k3 => ?_) (fun k3 => ?_)
                  · refine gg_ic X (pc := 125) dX1_combine_125 oc_ic0 ?_
                    refine gg_goto X (pc := 126) (tgt := 164) dX1_combine_126 (by decide) ?_
                    exact put 0 _ _ (by simp [oc_nS, hX, hY, k1])
                  · exact absurd rfl k3
              · refine gg_ild X (pc := 88) dX1_combine_88 rfl ?_
                refine gg_if_neN X (pc := 90) (tgt := 98) dX1_combine_90 (by decide) (by decide) (fun k3 => ?_) (fun k3 => ?_)
                · exact absurd rfl k3
                · refine gg_ild X (pc := 93) dX1_combine_93 rfl ?_
                  refine gg_if_eqN X (pc := 95) (tgt := 102) dX1_combine_95 (by decide) (by decide) (fun k4 => ?_) (fun k4 => ?_)
                  · refine gg_ic X (pc := 102) dX1_combine_102 oc_ic0 ?_
                    refine gg_goto X (pc := 103) (tgt := 164) dX1_combine_103 (by decide) ?_
                    exact put 0 _ _ (by simp [oc_nS, hX, hY, k])
                  · exact absurd rfl k4
    refine gg_ic X (pc := 36) dX1_combine_36 oc_ic0 ?_
    refine gg_ist X (pc := 37) dX1_combine_37 (by decide) ?_
    exact loop 512 0 v _ _ (by omega) hK (fun c hc => absurd hc (by omega))
  refine gg_ald_n X (pc := 0) dX1_combine_0 rfl ?_
  refine gg_ild_n X (pc := 1) dX1_combine_1 rfl ?_
  refine gm_calli X (pc := 2) (mM_solid l D dZ ad v r) cn_X1_20 ⟨by decide, by decide⟩ ⟨Nat.le_refl _, Nat.le_refl _⟩ rfl rfl (Nat.le_of_ble_eq_true rfl) dX1_combine_2 (fun r1 u1 q1 => ?_)
  obtain ⟨q1, rfl⟩ := q1
  rcases q1 with ⟨k1, rfl⟩ | ⟨k1, rfl⟩
  · refine gg_if_eqN X (pc := 5) (tgt := 34) dX1_combine_5 (by decide) (by omega) (fun h => ?_) (fun h => ?_)
    · exact absurd h (by omega)
    · refine gg_ald_n X (pc := 8) dX1_combine_8 rfl ?_
      refine gg_ild_n X (pc := 9) dX1_combine_9 rfl ?_
      refine gm_calli X (pc := 10) (mM_solid l D dZ ad v a) cn_X1_20 ⟨by decide, by decide⟩ ⟨Nat.le_refl _, Nat.le_refl _⟩ rfl rfl (Nat.le_of_ble_eq_true rfl) dX1_combine_10 (fun r1 u1 q1 => ?_)
      obtain ⟨q1, rfl⟩ := q1
      rcases q1 with ⟨k2, rfl⟩ | ⟨k2, rfl⟩
      · refine gg_if_eqN X (pc := 13) (tgt := 34) dX1_combine_13 (by decide) (by omega) (fun h => ?_) (fun h => ?_)
        · exact absurd h (by omega)
        · refine gg_ald_n X (pc := 16) dX1_combine_16 rfl ?_
          refine gg_ild X (pc := 17) dX1_combine_17 rfl ?_
          refine gm_calli X (pc := 19) (mM_solid l D dZ ad v b) cn_X1_20 ⟨by decide, by decide⟩ ⟨Nat.le_refl _, Nat.le_refl _⟩ rfl rfl (Nat.le_of_ble_eq_true rfl) dX1_combine_19 (fun r1 u1 q1 => ?_)
          obtain ⟨q1, rfl⟩ := q1
          rcases q1 with ⟨k3, rfl⟩ | ⟨k3, rfl⟩
          · refine gg_if_eqN X (pc := 22) (tgt := 34) dX1_combine_22 (by decide) (by omega) (fun h => ?_) (fun h => ?_)
            · exact absurd h (by omega)
            · refine gg_ild_n X (pc := 25) dX1_combine_25 rfl ?_
              refine gg_if_lt X (pc := 26) (tgt := 34) dX1_combine_26 (by decide) (fun h1 => ?_) (fun h1 => ?_)
              · exact no (by rw [oc_ok_f (oc_in_neg (r := o) (by decide) h1)]; simp)
              · refine gg_ild_n X (pc := 29) dX1_combine_29 rfl ?_
                refine gg_ic X (pc := 30) dX1_combine_30 oc_ic3 ?_
                refine gg_ic_le X (pc := 31) (tgt := 36) dX1_combine_31 (by decide) (fun h2 => ?_) (fun h2 => ?_)
                · obtain ⟨z, hz, ez⟩ := oc_in_le (by decide) h1 h2
                  obtain ⟨j, hj, ej⟩ := k1
                  obtain ⟨x, hx, ex⟩ := k2
                  obtain ⟨y, hy, ey⟩ := k3
                  exact go j x y z hj hx hy hz ej ex ey ez
                · exact no (by rw [oc_ok_f (oc_in_nle (n := 3) (r := o) (by decide) h2)]; simp)
          · refine gg_if_eqN X (pc := 22) (tgt := 34) dX1_combine_22 (by decide) (by omega) (fun h => ?_) (fun h => ?_)
            · exact no (by rw [oc_ok_f k3]; simp)
            · exact absurd rfl h
      · refine gg_if_eqN X (pc := 13) (tgt := 34) dX1_combine_13 (by decide) (by omega) (fun h => ?_) (fun h => ?_)
        · exact no (by rw [oc_ok_f k2]; simp)
        · exact absurd rfl h
  · refine gg_if_eqN X (pc := 5) (tgt := 34) dX1_combine_5 (by decide) (by omega) (fun h => ?_) (fun h => ?_)
    · exact no (by rw [oc_ok_f k1]; simp)
    · exact absurd rfl h
theorem mM_turn (l : Launch) (D : va_G) (dZ : ClassId) (ad : Nat → Nat) (v : Nat → Nat → Nat) (S : Nat → Nat → Bool) (hK : oc_K v S) (r a : Int32) : oc_Mi l D (oc_tm dZ) 2 yX1_turn cX1_turn 4 (some .boolean) [.ref (ad 0), .int r, .int a] (oc_mW ad dZ) (oc_mW ad dZ v) (fun q u => q = q_turn r a ∧ oc_K u (s_turn S r a)) := by
  refine oc_Mi.ofZ (own := RX1) (by decide) rfl (Nat.le_of_ble_eq_true rfl) (by simp [Value.category]) [some (.ref (ad 0)), some (.int r), some (.int a), none] rfl ?_
  intro p e s m args below meth cd A Q X hret
  have no : (oc_ok 4 r && oc_ok 4 a) = false → gg p l e (oc_rm 2) s m args below meth cd Q 0 0 D A 4 (oc_mW ad dZ v) 16 [some (.ref (ad 0)), some (.int r), some (.int a), none] [] := by
    intro h
    refine gg_ic X (pc := 16) dX1_turn_16 oc_ic0 ?_
    exact hret _ _ 17 _ dX1_turn_17 (by omega) (⟨by rw [q_turn, h]; rfl, by rw [s_turn, h]; exact hK⟩)
  refine gg_ald_n X (pc := 0) dX1_turn_0 rfl ?_
  refine gg_ild_n X (pc := 1) dX1_turn_1 rfl ?_
  refine gm_calli X (pc := 2) (mM_solid l D dZ ad v r) cn_X1_20 ⟨by decide, by decide⟩ ⟨Nat.le_refl _, Nat.le_refl _⟩ rfl rfl (Nat.le_of_ble_eq_true rfl) dX1_turn_2 (fun r1 u1 q1 => ?_)
  obtain ⟨q1, rfl⟩ := q1
  rcases q1 with ⟨k1, rfl⟩ | ⟨k1, rfl⟩
  · refine gg_if_eqN X (pc := 5) (tgt := 16) dX1_turn_5 (by decide) (by omega) (fun h => ?_) (fun h => ?_)
    · exact absurd h (by omega)
    · refine gg_ald_n X (pc := 8) dX1_turn_8 rfl ?_
      refine gg_ild_n X (pc := 9) dX1_turn_9 rfl ?_
      refine gm_calli X (pc := 10) (mM_solid l D dZ ad v a) cn_X1_20 ⟨by decide, by decide⟩ ⟨Nat.le_refl _, Nat.le_refl _⟩ rfl rfl (Nat.le_of_ble_eq_true rfl) dX1_turn_10 (fun r1 u1 q1 => ?_)
      obtain ⟨q1, rfl⟩ := q1
      rcases q1 with ⟨k2, rfl⟩ | ⟨k2, rfl⟩
      · refine gg_if_neN X (pc := 13) (tgt := 18) dX1_turn_13 (by decide) (by omega) (fun h => ?_) (fun h => ?_)
        · obtain ⟨j, hj, rfl⟩ := k1
          obtain ⟨x, hx, rfl⟩ := k2
          have ok : (oc_ok 4 (nI j) && oc_ok 4 (nI x)) = true := by
            rw [oc_ok_t (by decide) ⟨j, hj, rfl⟩, oc_ok_t (by decide) ⟨x, hx, rfl⟩]
            rfl
          have loop : ∀ (t i : Nat) (u : Nat → Nat → Nat), i + t = 512 → oc_K u S → (∀ c, c < i → u 1 c = (oc_nS 5 0 0 0 (S x) (S x) c).toNat) → gg p l e (oc_rm 2) s m args below meth cd Q 0 0 D A 4 (oc_mW ad dZ u) 20 [some (.ref (ad 0)), some (.int (nI j)), some (.int (nI x)), some (.int (nI i))] [] := by
            intro t
            induction t with
            | zero =>
              intro i u hi hK h1
              obtain rfl : i = 512 := by omega
              refine gg_ild_n X (pc := 20) dX1_turn_20 rfl ?_
              refine gg_sp X (pc := 21) dX1_turn_21 oc_sp512 ?_
              refine gg_ic_geN X (pc := 24) (tgt := 59) dX1_turn_24 (by decide) (by omega) (by omega) (fun h => ?_) (fun h => ?_)
              · refine gg_ald_n X (pc := 59) dX1_turn_59 rfl ?_
                refine gg_ild_n X (pc := 60) dX1_turn_60 rfl ?_
                refine gm_callv X (pc := 61) (mM_keep l D dZ ad u S _ j hj hK h1) cn_X1_31 ⟨by decide, by decide⟩ ⟨Nat.le_refl _, Nat.le_refl _⟩ rfl rfl (Nat.le_of_ble_eq_true rfl) dX1_turn_61 (fun u1 q1 => ?_)
                refine gg_ic X (pc := 64) dX1_turn_64 oc_ic1 ?_
                refine hret _ _ 65 _ dX1_turn_65 (by omega) ⟨by rw [q_turn, ok]; rfl, ?_⟩
                rw [s_turn, ok, oc_n_nI (by omega), oc_n_nI (by omega)]
                exact q1
              · exact absurd h (by omega)
            | succ t ih =>
              intro i u hi hK h1
              have hc : i < 512 := by omega
              have put : ∀ (q : Nat), q = (oc_nS 5 0 0 0 (S x) (S x) i).toNat → gg p l e (oc_rm 2) s m args below meth cd Q 0 0 D A 4 (oc_mW ad dZ u) 52 [some (.ref (ad 0)), some (.int (nI j)), some (.int (nI x)), some (.int (nI i))] [.int (nI q), .int (nI i), .ref (ad 2)] := by
                intro q hq
                have hq2 : q < 2 := by rw [hq]; exact oc_bn _
                refine gm_s_made X (pc := 52) dX1_turn_52 (by omega) (by omega) ?_
                refine gg_iinc X (pc := 53) dX1_turn_53 rfl (oc_inc _) (by decide) ?_
                refine gg_goto X (pc := 56) (tgt := 20) dX1_turn_56 (by decide) ?_
                refine ih (i + 1) _ (by omega) (fun q c hq hc => hK q c hq hc) (fun c hc => ?_)
                by_cases e : c = i
                · rw [e, oc_up_s, hq]
                · rw [oc_up_k _ _ _ _ e]
                  exact h1 c (by omega)
              refine gg_ild_n X (pc := 20) dX1_turn_20 rfl ?_
              refine gg_sp X (pc := 21) dX1_turn_21 oc_sp512 ?_
              refine gg_ic_geN X (pc := 24) (tgt := 59) dX1_turn_24 (by decide) (by omega) (by omega) (fun h => ?_) (fun h => ?_)
              · exact absurd h (by omega)
              · refine gg_ald_n X (pc := 27) dX1_turn_27 rfl ?_
                refine gm_g_made X (pc := 28) dX1_turn_28 ?_
                refine gg_ild_n X (pc := 31) dX1_turn_31 rfl ?_
                refine gg_ald_n X (pc := 32) dX1_turn_32 rfl ?_
                refine gm_g_in X (pc := 33) dX1_turn_33 ?_
                refine gg_sp X (pc := 36) dX1_turn_36 oc_sp512 ?_
                refine gg_ild_n X (pc := 39) dX1_turn_39 rfl ?_
                refine gg_imulN X (pc := 40) dX1_turn_40 ?_
                refine gg_ild_n X (pc := 41) dX1_turn_41 rfl ?_
                refine gg_iaddN X (pc := 42) dX1_turn_42 ?_
                refine gm_l_in X (pc := 43) dX1_turn_43 (by omega) ?_
                refine gg_top ((show nI (u 0 (512 * x + i)) = nI (S x i).toNat by rw [hK x i hx hc])) ?_
                cases hX : S x i with
                | true =>
                  refine gg_if_neN X (pc := 44) (tgt := 51) dX1_turn_44 (by decide) (by decide) (fun k => ?_) (fun k => ?_)
                  · refine gg_ic X (pc := 51) dX1_turn_51 oc_ic0 ?_
                    exact put 0 (by simp [oc_nS, hX])
                  · exact absurd k (by decide)
                | false =>
                  refine gg_if_neN X (pc := 44) (tgt := 51) dX1_turn_44 (by decide) (by decide) (fun k => ?_) (fun k => ?_)
                  · exact absurd rfl k
                  · refine gg_ic X (pc := 47) dX1_turn_47 oc_ic1 ?_
                    refine gg_goto X (pc := 48) (tgt := 52) dX1_turn_48 (by decide) ?_
                    exact put 1 (by simp [oc_nS, hX])
          refine gg_ic X (pc := 18) dX1_turn_18 oc_ic0 ?_
          refine gg_ist_n X (pc := 19) dX1_turn_19 (by decide) ?_
          exact loop 512 0 v (by omega) hK (fun c hc => absurd hc (by omega))
        · exact absurd h (by omega)
      · refine gg_if_neN X (pc := 13) (tgt := 18) dX1_turn_13 (by decide) (by omega) (fun h => ?_) (fun h => ?_)
        · exact absurd rfl h
        · exact no (by rw [oc_ok_f k2]; simp)
  · refine gg_if_eqN X (pc := 5) (tgt := 16) dX1_turn_5 (by decide) (by omega) (fun h => ?_) (fun h => ?_)
    · exact no (by rw [oc_ok_f k1]; simp)
    · exact absurd rfl h
theorem mM_mirror (l : Launch) (D : va_G) (dZ : ClassId) (ad : Nat → Nat) (v : Nat → Nat → Nat) (S : Nat → Nat → Bool) (hK : oc_K v S) (r a b : Int32) : oc_Mi l D (oc_tm dZ) 2 yX1_mirror cX1_mirror 5 (some .boolean) [.ref (ad 0), .int r, .int a, .int b] (oc_mW ad dZ) (oc_mW ad dZ v) (fun q u => q = q_mirror r a b ∧ oc_K u (s_mirror S r a b)) := by
  refine oc_Mi.ofZ (own := RX1) (by decide) rfl (Nat.le_of_ble_eq_true rfl) (by simp [Value.category]) [some (.ref (ad 0)), some (.int r), some (.int a), some (.int b), none] rfl ?_
  intro p e s m args below meth cd A Q X hret
  have no : (oc_ok 4 r && oc_ok 4 a && oc_ok 3 b) = false → gg p l e (oc_rm 2) s m args below meth cd Q 0 0 D A 5 (oc_mW ad dZ v) 25 [some (.ref (ad 0)), some (.int r), some (.int a), some (.int b), none] [] := by
    intro h
    refine gg_ic X (pc := 25) dX1_mirror_25 oc_ic0 ?_
    exact hret _ _ 26 _ dX1_mirror_26 (by omega) (⟨by rw [q_mirror, h]; rfl, by rw [s_mirror, h]; exact hK⟩)
  refine gg_ald_n X (pc := 0) dX1_mirror_0 rfl ?_
  refine gg_ild_n X (pc := 1) dX1_mirror_1 rfl ?_
  refine gm_calli X (pc := 2) (mM_solid l D dZ ad v r) cn_X1_20 ⟨by decide, by decide⟩ ⟨Nat.le_refl _, Nat.le_refl _⟩ rfl rfl (Nat.le_of_ble_eq_true rfl) dX1_mirror_2 (fun r1 u1 q1 => ?_)
  obtain ⟨q1, rfl⟩ := q1
  rcases q1 with ⟨k1, rfl⟩ | ⟨k1, rfl⟩
  · refine gg_if_eqN X (pc := 5) (tgt := 25) dX1_mirror_5 (by decide) (by omega) (fun h => ?_) (fun h => ?_)
    · exact absurd h (by omega)
    · refine gg_ald_n X (pc := 8) dX1_mirror_8 rfl ?_
      refine gg_ild_n X (pc := 9) dX1_mirror_9 rfl ?_
      refine gm_calli X (pc := 10) (mM_solid l D dZ ad v a) cn_X1_20 ⟨by decide, by decide⟩ ⟨Nat.le_refl _, Nat.le_refl _⟩ rfl rfl (Nat.le_of_ble_eq_true rfl) dX1_mirror_10 (fun r1 u1 q1 => ?_)
      obtain ⟨q1, rfl⟩ := q1
      rcases q1 with ⟨k2, rfl⟩ | ⟨k2, rfl⟩
      · refine gg_if_eqN X (pc := 13) (tgt := 25) dX1_mirror_13 (by decide) (by omega) (fun h => ?_) (fun h => ?_)
        · exact absurd h (by omega)
        · refine gg_ild_n X (pc := 16) dX1_mirror_16 rfl ?_
          refine gg_if_lt X (pc := 17) (tgt := 25) dX1_mirror_17 (by decide) (fun h1 => ?_) (fun h1 => ?_)
          · exact no (by rw [oc_ok_f (oc_in_neg (r := b) (by decide) h1)]; simp)
          · refine gg_ild_n X (pc := 20) dX1_mirror_20 rfl ?_
            refine gg_ic X (pc := 21) dX1_mirror_21 oc_ic2 ?_
            refine gg_ic_le X (pc := 22) (tgt := 27) dX1_mirror_22 (by decide) (fun h2 => ?_) (fun h2 => ?_)
            · obtain ⟨z, hz, rfl⟩ := oc_in_le (by decide) h1 h2
              obtain ⟨j, hj, rfl⟩ := k1
              obtain ⟨x, hx, rfl⟩ := k2
              have ok : (oc_ok 4 (nI j) && oc_ok 4 (nI x) && oc_ok 3 (nI z)) = true := by
                rw [oc_ok_t (by decide) ⟨j, hj, rfl⟩, oc_ok_t (by decide) ⟨x, hx, rfl⟩, oc_ok_t (by decide) ⟨z, hz, rfl⟩]
                rfl
              have loop : ∀ (t i : Nat) (u : Nat → Nat → Nat), i + t = 512 → oc_K u S → (∀ c, c < i → u 1 c = (oc_nS 6 z 0 0 (S x) (S x) c).toNat) → gg p l e (oc_rm 2) s m args below meth cd Q 0 0 D A 5 (oc_mW ad dZ u) 30 [some (.ref (ad 0)), some (.int (nI j)), some (.int (nI x)), some (.int (nI z)), some (.int (nI i))] [] := by
                intro t
                induction t with
                | zero =>
                  intro i u hi hK h1
                  obtain rfl : i = 512 := by omega
                  refine gg_ild X (pc := 30) dX1_mirror_30 rfl ?_
                  refine gg_sp X (pc := 32) dX1_mirror_32 oc_sp512 ?_
                  refine gg_ic_geN X (pc := 35) (tgt := 71) dX1_mirror_35 (by decide) (by omega) (by omega) (fun h => ?_) (fun h => ?_)
                  · refine gg_ald_n X (pc := 71) dX1_mirror_71 rfl ?_
                    refine gg_ild_n X (pc := 72) dX1_mirror_72 rfl ?_
                    refine gm_callv X (pc := 73) (mM_keep l D dZ ad u S _ j hj hK h1) cn_X1_31 ⟨by decide, by decide⟩ ⟨Nat.le_refl _, Nat.le_refl _⟩ rfl rfl (Nat.le_of_ble_eq_true rfl) dX1_mirror_73 (fun u1 q1 => ?_)
                    refine gg_ic X (pc := 76) dX1_mirror_76 oc_ic1 ?_
                    refine hret _ _ 77 _ dX1_mirror_77 (by omega) ⟨by rw [q_mirror, ok]; rfl, ?_⟩
                    rw [s_mirror, ok, oc_n_nI (by omega), oc_n_nI (by omega), oc_n_nI (by omega)]
                    exact q1
                  · exact absurd h (by omega)
                | succ t ih =>
                  intro i u hi hK h1
                  have hc : i < 512 := by omega
                  have hm := oc_mir i hc z hz
                  have hb2 := oc_bn (S x (i ^^^ 7 * 2 ^ (3 * z)))
                  refine gg_ild X (pc := 30) dX1_mirror_30 rfl ?_
                  refine gg_sp X (pc := 32) dX1_mirror_32 oc_sp512 ?_
                  refine gg_ic_geN X (pc := 35) (tgt := 71) dX1_mirror_35 (by decide) (by omega) (by omega) (fun h => ?_) (fun h => ?_)
                  · exact absurd h (by omega)
                  · refine gg_ald_n X (pc := 38) dX1_mirror_38 rfl ?_
                    refine gm_g_made X (pc := 39) dX1_mirror_39 ?_
                    refine gg_ild X (pc := 42) dX1_mirror_42 rfl ?_
                    refine gg_ald_n X (pc := 44) dX1_mirror_44 rfl ?_
                    refine gm_g_in X (pc := 45) dX1_mirror_45 ?_
                    refine gg_sp X (pc := 48) dX1_mirror_48 oc_sp512 ?_
                    refine gg_ild_n X (pc := 51) dX1_mirror_51 rfl ?_
                    refine gg_imulN X (pc := 52) dX1_mirror_52 ?_
                    refine gg_ild X (pc := 53) dX1_mirror_53 rfl ?_
                    refine gg_bp X (pc := 55) dX1_mirror_55 oc_bp7 ?_
                    refine gg_ic X (pc := 57) dX1_mirror_57 oc_ic3 ?_
                    refine gg_ild_n X (pc := 58) dX1_mirror_58 rfl ?_
                    refine gg_imulN X (pc := 59) dX1_mirror_59 ?_
                    refine gg_ishlN X (pc := 60) dX1_mirror_60 (by omega) (oc_shb2 hz) ?_
                    refine gg_ixorN X (pc := 61) dX1_mirror_61 ?_
                    refine gg_iaddN X (pc := 62) dX1_mirror_62 ?_
                    refine gm_l_in X (pc := 63) dX1_mirror_63 (by omega) ?_
                    refine gg_top ((show nI (u 0 (512 * x + (i ^^^ 7 * 2 ^ (3 * z)))) = nI (S x (i ^^^ 7 * 2 ^ (3 * z))).toNat by rw [hK x _ hx hm])) ?_
                    refine gm_s_made X (pc := 64) dX1_mirror_64 (by omega) (by omega) ?_
                    refine gg_iinc X (pc := 65) dX1_mirror_65 rfl (oc_inc _) (by decide) ?_
                    refine gg_goto X (pc := 68) (tgt := 30) dX1_mirror_68 (by decide) ?_
                    refine ih (i + 1) _ (by omega) (fun q c hq hc => hK q c hq hc) (fun c hc => ?_)
                    by_cases e : c = i
                    · rw [e, oc_up_s]
                      rfl
                    · rw [oc_up_k _ _ _ _ e]
                      exact h1 c (by omega)
              refine gg_ic X (pc := 27) dX1_mirror_27 oc_ic0 ?_
              refine gg_ist X (pc := 28) dX1_mirror_28 (by decide) ?_
              exact loop 512 0 v (by omega) hK (fun c hc => absurd hc (by omega))
            · exact no (by rw [oc_ok_f (oc_in_nle (n := 2) (r := b) (by decide) h2)]; simp)
      · refine gg_if_eqN X (pc := 13) (tgt := 25) dX1_mirror_13 (by decide) (by omega) (fun h => ?_) (fun h => ?_)
        · exact no (by rw [oc_ok_f k2]; simp)
        · exact absurd rfl h
  · refine gg_if_eqN X (pc := 5) (tgt := 25) dX1_mirror_5 (by decide) (by omega) (fun h => ?_) (fun h => ?_)
    · exact no (by rw [oc_ok_f k1]; simp)
    · exact absurd rfl h
end
section
/-! the model: volume, has, inside, same, next -/
set_option maxRecDepth 100000
theorem oc_cnt_s1 {f : Nat → Bool} {n : Nat} (h : f n = true) : oc_cnt f (n + 1) = oc_cnt f n + 1 := by
  show oc_cnt f n + (f n).toNat = _
  rw [h]
  rfl
theorem oc_cnt_s0 {f : Nat → Bool} {n : Nat} (h : f n = false) : oc_cnt f (n + 1) = oc_cnt f n := by
  show oc_cnt f n + (f n).toNat = _
  rw [h]
  rfl
theorem mM_volume (l : Launch) (D : va_G) (dZ : ClassId) (ad : Nat → Nat) (v : Nat → Nat → Nat) (S : Nat → Nat → Bool) (hK : oc_K v S) (r : Int32) : oc_Mi l D (oc_tm dZ) 2 yX1_volume cX1_volume 4 (some .int) [.ref (ad 0), .int r] (oc_mW ad dZ) (oc_mW ad dZ v) (fun q u => q = q_volume S r ∧ v = u) := by
  refine oc_Mi.ofI (own := RX1) (by decide) rfl (Nat.le_of_ble_eq_true rfl) (by simp [Value.category]) [some (.ref (ad 0)), some (.int r), none, none] rfl ?_
  intro p e s m args below meth cd A Q X hret
  have fin : ∀ (n : Nat) (p3 : Option Value), (oc_ok 4 r = true → n = oc_cnt (S (oc_n r)) 512) → gg p l e (oc_rm 2) s m args below meth cd Q 0 0 D A 4 (oc_mW ad dZ v) 48 [some (.ref (ad 0)), some (.int r), some (.int (nI n)), p3] [] := by
    intro n p3 hn
    refine gg_ald_n X (pc := 48) dX1_volume_48 rfl ?_
    refine gg_ild_n X (pc := 49) dX1_volume_49 rfl ?_
    refine gm_calli X (pc := 50) (mM_solid l D dZ ad v r) cn_X1_20 ⟨by decide, by decide⟩ ⟨Nat.le_refl _, Nat.le_refl _⟩ rfl rfl (Nat.le_of_ble_eq_true rfl) dX1_volume_50 (fun r1 u1 q1 => ?_)
    obtain ⟨q1, rfl⟩ := q1
    rcases q1 with ⟨k1, rfl⟩ | ⟨k1, rfl⟩
    · have ok := oc_ok_t (n := 4) (by decide) k1
      refine gg_if_eqN X (pc := 53) (tgt := 60) dX1_volume_53 (by decide) (by omega) (fun h => ?_) (fun h => ?_)
      · exact absurd h (by omega)
      · refine gg_ild_n X (pc := 56) dX1_volume_56 rfl ?_
        refine gg_goto X (pc := 57) (tgt := 61) dX1_volume_57 (by decide) ?_
        exact hret _ _ 61 _ dX1_volume_61 (⟨by rw [q_volume, ok, hn ok]; rfl, rfl⟩)
    · refine gg_if_eqN X (pc := 53) (tgt := 60) dX1_volume_53 (by decide) (by omega) (fun h => ?_) (fun h => ?_)
      · refine gg_ic X (pc := 60) dX1_volume_60 oc_icm ?_
        exact hret _ _ 61 _ dX1_volume_61 (⟨by rw [q_volume, oc_ok_f k1]; rfl, rfl⟩)
      · exact absurd rfl h
  refine gg_ic X (pc := 0) dX1_volume_0 oc_ic0 ?_
  refine gg_ist_n X (pc := 1) dX1_volume_1 (by decide) ?_
  refine gg_ic X (pc := 2) dX1_volume_2 oc_ic0 ?_
  refine gg_ist_n X (pc := 3) dX1_volume_3 (by decide) ?_
  by_cases k1 : oc_in 4 r
  · obtain ⟨j, hj, rfl⟩ := k1
    have e1 : oc_n (nI j) = j := oc_n_nI (by omega)
    have loop : ∀ (t i : Nat), i + t = 512 → gg p l e (oc_rm 2) s m args below meth cd Q 0 0 D A 4 (oc_mW ad dZ v) 4 [some (.ref (ad 0)), some (.int (nI j)), some (.int (nI (oc_cnt (S j) i))), some (.int (nI i))] [] := by
      intro t
      induction t with
      | zero =>
        intro i hi
        obtain rfl : i = 512 := by omega
        refine gg_ild_n X (pc := 4) dX1_volume_4 rfl ?_
        refine gg_sp X (pc := 5) dX1_volume_5 oc_sp512 ?_
        refine gg_ic_geN X (pc := 8) (tgt := 48) dX1_volume_8 (by decide) (by omega) (by omega) (fun h => ?_) (fun h => ?_)
        · exact fin _ _ (fun _ => by rw [e1])
        · exact absurd h (by omega)
      | succ t ih =>
        intro i hi
        have hc : i < 512 := by omega
        refine gg_ild_n X (pc := 4) dX1_volume_4 rfl ?_
        refine gg_sp X (pc := 5) dX1_volume_5 oc_sp512 ?_
        refine gg_ic_geN X (pc := 8) (tgt := 48) dX1_volume_8 (by decide) (by omega) (by omega) (fun h => ?_) (fun h => ?_)
        · exact absurd h (by omega)
        · refine gg_ald_n X (pc := 11) dX1_volume_11 rfl ?_
          refine gg_ild_n X (pc := 12) dX1_volume_12 rfl ?_
          refine gm_calli X (pc := 13) (mM_solid l D dZ ad v (nI j)) cn_X1_20 ⟨by decide, by decide⟩ ⟨Nat.le_refl _, Nat.le_refl _⟩ rfl rfl (Nat.le_of_ble_eq_true rfl) dX1_volume_13 (fun r1 u1 q1 => ?_)
          obtain ⟨q1, rfl⟩ := q1
          rcases q1 with ⟨k1, rfl⟩ | ⟨k1, rfl⟩
          · refine gg_if_eqN X (pc := 16) (tgt := 48) dX1_volume_16 (by decide) (by omega) (fun h2 => ?_) (fun h2 => ?_)
            · exact absurd h2 (by omega)
            · refine gg_ald_n X (pc := 19) dX1_volume_19 rfl ?_
              refine gm_g_in X (pc := 20) dX1_volume_20 ?_
              refine gg_sp X (pc := 23) dX1_volume_23 oc_sp512 ?_
              refine gg_ild_n X (pc := 26) dX1_volume_26 rfl ?_
              refine gg_imulN X (pc := 27) dX1_volume_27 ?_
              refine gg_ild_n X (pc := 28) dX1_volume_28 rfl ?_
              refine gg_iaddN X (pc := 29) dX1_volume_29 ?_
              refine gm_l_in X (pc := 30) dX1_volume_30 (by omega) ?_
              refine gg_top ((show nI (v 0 (512 * j + i)) = nI (S j i).toNat by rw [hK j i hj hc])) ?_
              cases hX : S j i with
              | true =>
                refine gg_if_eqN X (pc := 31) (tgt := 40) dX1_volume_31 (by decide) (by decide) (fun k => ?_) (fun k => ?_)
                · exact absurd k (by decide)
                · refine gg_ild_n X (pc := 34) dX1_volume_34 rfl ?_
                  refine gg_ic X (pc := 35) dX1_volume_35 oc_ic1 ?_
                  refine gg_iaddN X (pc := 36) dX1_volume_36 ?_
                  refine gg_goto X (pc := 37) (tgt := 41) dX1_volume_37 (by decide) ?_
                  refine gg_ist_n X (pc := 41) dX1_volume_41 (by decide) ?_
                  refine gg_iinc X (pc := 42) dX1_volume_42 rfl (oc_inc _) (by decide) ?_
                  refine gg_goto X (pc := 45) (tgt := 4) dX1_volume_45 (by decide) ?_
                  have g := ih (i + 1) (by omega)
                  rw [oc_cnt_s1 hX] at g
                  exact g
              | false =>
                refine gg_if_eqN X (pc := 31) (tgt := 40) dX1_volume_31 (by decide) (by decide) (fun k => ?_) (fun k => ?_)
                · refine gg_ild_n X (pc := 40) dX1_volume_40 rfl ?_
                  refine gg_ist_n X (pc := 41) dX1_volume_41 (by decide) ?_
                  refine gg_iinc X (pc := 42) dX1_volume_42 rfl (oc_inc _) (by decide) ?_
                  refine gg_goto X (pc := 45) (tgt := 4) dX1_volume_45 (by decide) ?_
                  have g := ih (i + 1) (by omega)
                  rw [oc_cnt_s0 hX] at g
                  exact g
                · exact absurd rfl k
          · exact absurd ⟨j, hj, rfl⟩ k1
    exact loop 512 0 (by omega)
  · refine gg_ild_n X (pc := 4) dX1_volume_4 rfl ?_
    refine gg_sp X (pc := 5) dX1_volume_5 oc_sp512 ?_
    refine gg_ic_geN X (pc := 8) (tgt := 48) dX1_volume_8 (by decide) (by omega) (by omega) (fun h => ?_) (fun h => ?_)
    · exact absurd h (by omega)
    · refine gg_ald_n X (pc := 11) dX1_volume_11 rfl ?_
      refine gg_ild_n X (pc := 12) dX1_volume_12 rfl ?_
      refine gm_calli X (pc := 13) (mM_solid l D dZ ad v r) cn_X1_20 ⟨by decide, by decide⟩ ⟨Nat.le_refl _, Nat.le_refl _⟩ rfl rfl (Nat.le_of_ble_eq_true rfl) dX1_volume_13 (fun r1 u1 q1 => ?_)
      obtain ⟨q1, rfl⟩ := q1
      rcases q1 with ⟨k2, rfl⟩ | ⟨k2, rfl⟩
      · exact absurd k2 k1
      · refine gg_if_eqN X (pc := 16) (tgt := 48) dX1_volume_16 (by decide) (by omega) (fun h2 => ?_) (fun h2 => ?_)
        · exact fin _ _ (fun ok => by rw [oc_ok_f k1] at ok; cases ok)
        · exact absurd rfl h2
theorem mM_has (l : Launch) (D : va_G) (dZ : ClassId) (ad : Nat → Nat) (v : Nat → Nat → Nat) (S : Nat → Nat → Bool) (hK : oc_K v S) (r c : Int32) : oc_Mi l D (oc_tm dZ) 2 yX1_has cX1_has 3 (some .boolean) [.ref (ad 0), .int r, .int c] (oc_mW ad dZ) (oc_mW ad dZ v) (fun q u => q = q_has S r c ∧ v = u) := by
  refine oc_Mi.ofZ (own := RX1) (by decide) rfl (Nat.le_of_ble_eq_true rfl) (by simp [Value.category]) [some (.ref (ad 0)), some (.int r), some (.int c)] rfl ?_
  intro p e s m args below meth cd A Q X hret
  have no : (oc_ok 4 r && oc_ok 512 c && S (oc_n r) (oc_n c)) = false → gg p l e (oc_rm 2) s m args below meth cd Q 0 0 D A 3 (oc_mW ad dZ v) 35 [some (.ref (ad 0)), some (.int r), some (.int c)] [] := by
    intro h
    refine gg_ic X (pc := 35) dX1_has_35 oc_ic0 ?_
    exact hret _ _ 36 _ dX1_has_36 (by omega) (⟨by rw [q_has, h]; rfl, rfl⟩)
  refine gg_ald_n X (pc := 0) dX1_has_0 rfl ?_
  refine gg_ild_n X (pc := 1) dX1_has_1 rfl ?_
  refine gm_calli X (pc := 2) (mM_solid l D dZ ad v r) cn_X1_20 ⟨by decide, by decide⟩ ⟨Nat.le_refl _, Nat.le_refl _⟩ rfl rfl (Nat.le_of_ble_eq_true rfl) dX1_has_2 (fun r1 u1 q1 => ?_)
  obtain ⟨q1, rfl⟩ := q1
  rcases q1 with ⟨k1, rfl⟩ | ⟨k1, rfl⟩
  · refine gg_if_eqN X (pc := 5) (tgt := 35) dX1_has_5 (by decide) (by omega) (fun h => ?_) (fun h => ?_)
    · exact absurd h (by omega)
    · refine gg_ald_n X (pc := 8) dX1_has_8 rfl ?_
      refine gg_ild_n X (pc := 9) dX1_has_9 rfl ?_
      refine gm_calli X (pc := 10) (mM_cell l D dZ ad v c) cn_X1_24 ⟨by decide, by decide⟩ ⟨Nat.le_refl _, Nat.le_refl _⟩ rfl rfl (Nat.le_of_ble_eq_true rfl) dX1_has_10 (fun r1 u1 q1 => ?_)
      obtain ⟨q1, rfl⟩ := q1
      rcases q1 with ⟨k2, rfl⟩ | ⟨k2, rfl⟩
      · refine gg_if_eqN X (pc := 13) (tgt := 35) dX1_has_13 (by decide) (by omega) (fun h => ?_) (fun h => ?_)
        · exact absurd h (by omega)
        · obtain ⟨j, hj, rfl⟩ := k1
          obtain ⟨x, hx, rfl⟩ := k2
          have ok1 := oc_ok_t (n := 4) (by decide) ⟨j, hj, rfl⟩
          have ok2 := oc_ok_t (n := 512) (by decide) ⟨x, hx, rfl⟩
          have e1 : oc_n (nI j) = j := oc_n_nI (by omega)
          have e2 : oc_n (nI x) = x := oc_n_nI (by omega)
          refine gg_ald_n X (pc := 16) dX1_has_16 rfl ?_
          refine gm_g_in X (pc := 17) dX1_has_17 ?_
          refine gg_sp X (pc := 20) dX1_has_20 oc_sp512 ?_
          refine gg_ild_n X (pc := 23) dX1_has_23 rfl ?_
          refine gg_imulN X (pc := 24) dX1_has_24 ?_
          refine gg_ild_n X (pc := 25) dX1_has_25 rfl ?_
          refine gg_iaddN X (pc := 26) dX1_has_26 ?_
          refine gm_l_in X (pc := 27) dX1_has_27 (by omega) ?_
          refine gg_top ((show nI (v 0 (512 * j + x)) = nI (S j x).toNat by rw [hK j x hj hx])) ?_
          cases hX : S j x with
          | true =>
            refine gg_if_eqN X (pc := 28) (tgt := 35) dX1_has_28 (by decide) (by decide) (fun k => ?_) (fun k => ?_)
            · exact absurd k (by decide)
            · refine gg_ic X (pc := 31) dX1_has_31 oc_ic1 ?_
              refine gg_goto X (pc := 32) (tgt := 36) dX1_has_32 (by decide) ?_
              exact hret _ _ 36 _ dX1_has_36 (by omega) (⟨by rw [q_has, ok1, ok2, e1, e2, hX]; rfl, rfl⟩)
          | false =>
            refine gg_if_eqN X (pc := 28) (tgt := 35) dX1_has_28 (by decide) (by decide) (fun k => ?_) (fun k => ?_)
            · exact no (by rw [e1, e2, hX]; simp)
            · exact absurd rfl k
      · refine gg_if_eqN X (pc := 13) (tgt := 35) dX1_has_13 (by decide) (by omega) (fun h => ?_) (fun h => ?_)
        · exact no (by rw [oc_ok_f k2]; simp)
        · exact absurd rfl h
  · refine gg_if_eqN X (pc := 5) (tgt := 35) dX1_has_5 (by decide) (by omega) (fun h => ?_) (fun h => ?_)
    · exact no (by rw [oc_ok_f k1]; simp)
    · exact absurd rfl h
theorem mM_inside (l : Launch) (D : va_G) (dZ : ClassId) (ad : Nat → Nat) (v : Nat → Nat → Nat) (S : Nat → Nat → Bool) (hK : oc_K v S) (r c : Int32) : oc_Mi l D (oc_tm dZ) 2 yX1_inside cX1_inside 5 (some .boolean) [.ref (ad 0), .int r, .int c] (oc_mW ad dZ) (oc_mW ad dZ v) (fun q u => q = q_inside S r c ∧ v = u) := by
  refine oc_Mi.ofZ (own := RX1) (by decide) rfl (Nat.le_of_ble_eq_true rfl) (by simp [Value.category]) [some (.ref (ad 0)), some (.int r), some (.int c), none, none] rfl ?_
  intro p e s m args below meth cd A Q X hret
  have out : ∀ (i : Nat), i ≤ 512 → q_inside S r c = nI 0 → gg p l e (oc_rm 2) s m args below meth cd Q 0 0 D A 5 (oc_mW ad dZ v) 25 [some (.ref (ad 0)), some (.int r), some (.int c), some (.int (nI 0)), some (.int (nI i))] [] := by
    intro i hi hf
    refine gg_ild X (pc := 25) dX1_inside_25 rfl ?_
    refine gg_sp X (pc := 27) dX1_inside_27 oc_sp512 ?_
    refine gg_ic_geN X (pc := 30) (tgt := 81) dX1_inside_30 (by decide) (by omega) (by omega) (fun h => ?_) (fun h => ?_)
    · refine gg_ild_n X (pc := 81) dX1_inside_81 rfl ?_
      exact hret _ _ 82 _ dX1_inside_82 (by omega) (⟨hf.symm, rfl⟩)
    · refine gg_ild_n X (pc := 33) dX1_inside_33 rfl ?_
      refine gg_if_eqN X (pc := 34) (tgt := 81) dX1_inside_34 (by decide) (by omega) (fun h2 => ?_) (fun h2 => ?_)
      · refine gg_ild_n X (pc := 81) dX1_inside_81 rfl ?_
        exact hret _ _ 82 _ dX1_inside_82 (by omega) (⟨hf.symm, rfl⟩)
      · exact absurd rfl h2
  have no : q_inside S r c = nI 0 → gg p l e (oc_rm 2) s m args below meth cd Q 0 0 D A 5 (oc_mW ad dZ v) 20 [some (.ref (ad 0)), some (.int r), some (.int c), none, none] [] := by
    intro hf
    refine gg_ic X (pc := 20) dX1_inside_20 oc_ic0 ?_
    refine gg_ist_n X (pc := 21) dX1_inside_21 (by decide) ?_
    refine gg_ic X (pc := 22) dX1_inside_22 oc_ic0 ?_
    refine gg_ist X (pc := 23) dX1_inside_23 (by decide) ?_
    exact out 0 (by omega) hf
  refine gg_ald_n X (pc := 0) dX1_inside_0 rfl ?_
  refine gg_ild_n X (pc := 1) dX1_inside_1 rfl ?_
  refine gm_calli X (pc := 2) (mM_solid l D dZ ad v r) cn_X1_20 ⟨by decide, by decide⟩ ⟨Nat.le_refl _, Nat.le_refl _⟩ rfl rfl (Nat.le_of_ble_eq_true rfl) dX1_inside_2 (fun r1 u1 q1 => ?_)
  obtain ⟨q1, rfl⟩ := q1
  rcases q1 with ⟨k1, rfl⟩ | ⟨k1, rfl⟩
  · refine gg_if_eqN X (pc := 5) (tgt := 20) dX1_inside_5 (by decide) (by omega) (fun h => ?_) (fun h => ?_)
    · exact absurd h (by omega)
    · refine gg_ald_n X (pc := 8) dX1_inside_8 rfl ?_
      refine gg_ild_n X (pc := 9) dX1_inside_9 rfl ?_
      refine gm_calli X (pc := 10) (mM_solid l D dZ ad v c) cn_X1_20 ⟨by decide, by decide⟩ ⟨Nat.le_refl _, Nat.le_refl _⟩ rfl rfl (Nat.le_of_ble_eq_true rfl) dX1_inside_10 (fun r1 u1 q1 => ?_)
      obtain ⟨q1, rfl⟩ := q1
      rcases q1 with ⟨k2, rfl⟩ | ⟨k2, rfl⟩
      · refine gg_if_eqN X (pc := 13) (tgt := 20) dX1_inside_13 (by decide) (by omega) (fun h => ?_) (fun h => ?_)
        · exact absurd h (by omega)
        · obtain ⟨j, hj, rfl⟩ := k1
          obtain ⟨x, hx, rfl⟩ := k2
          have ok1 := oc_ok_t (n := 4) (by decide) ⟨j, hj, rfl⟩
          have ok2 := oc_ok_t (n := 4) (by decide) ⟨x, hx, rfl⟩
          have e1 : oc_n (nI j) = j := oc_n_nI (by omega)
          have e2 : oc_n (nI x) = x := oc_n_nI (by omega)
          have loop : ∀ (t i : Nat), i + t = 512 → (∀ c, c < i → S j c = true → S x c = true) → gg p l e (oc_rm 2) s m args below meth cd Q 0 0 D A 5 (oc_mW ad dZ v) 25 [some (.ref (ad 0)), some (.int (nI j)), some (.int (nI x)), some (.int (nI 1)), some (.int (nI i))] [] := by
            intro t
            induction t with
            | zero =>
              intro i hi hv
              obtain rfl : i = 512 := by omega
              refine gg_ild X (pc := 25) dX1_inside_25 rfl ?_
              refine gg_sp X (pc := 27) dX1_inside_27 oc_sp512 ?_
              refine gg_ic_geN X (pc := 30) (tgt := 81) dX1_inside_30 (by decide) (by omega) (by omega) (fun h => ?_) (fun h => ?_)
              · refine gg_ild_n X (pc := 81) dX1_inside_81 rfl ?_
                exact hret _ _ 82 _ dX1_inside_82 (by omega) (⟨by rw [q_inside, ok1, ok2, e1, e2, oc_all_t (fun c hc => by have := hv c hc; revert this; cases S j c <;> cases S x c <;> simp)]; rfl, rfl⟩)
              · exact absurd h (by omega)
            | succ t ih =>
              intro i hi hv
              have hc : i < 512 := by omega
              have nxt : (S j i = true → S x i = true) → gg p l e (oc_rm 2) s m args below meth cd Q 0 0 D A 5 (oc_mW ad dZ v) 69 [some (.ref (ad 0)), some (.int (nI j)), some (.int (nI x)), some (.int (nI 1)), some (.int (nI i))] [] := by
                intro hs
                refine gg_ic X (pc := 69) dX1_inside_69 oc_ic1 ?_
                refine gg_goto X (pc := 70) (tgt := 74) dX1_inside_70 (by decide) ?_
                refine gg_ist_n X (pc := 74) dX1_inside_74 (by decide) ?_
                refine gg_iinc X (pc := 75) dX1_inside_75 rfl (oc_inc _) (by decide) ?_
                refine gg_goto X (pc := 78) (tgt := 25) dX1_inside_78 (by decide) ?_
                exact ih (i + 1) (by omega) (fun c hc => by
                  rcases Nat.lt_or_ge c i with q | q
                  · exact hv c q
                  · rw [show c = i by omega]; exact hs)
              refine gg_ild X (pc := 25) dX1_inside_25 rfl ?_
              refine gg_sp X (pc := 27) dX1_inside_27 oc_sp512 ?_
              refine gg_ic_geN X (pc := 30) (tgt := 81) dX1_inside_30 (by decide) (by omega) (by omega) (fun h => ?_) (fun h => ?_)
              · exact absurd h (by omega)
              · refine gg_ild_n X (pc := 33) dX1_inside_33 rfl ?_
                refine gg_if_eqN X (pc := 34) (tgt := 81) dX1_inside_34 (by decide) (by omega) (fun h2 => ?_) (fun h2 => ?_)
                · exact absurd h2 (by omega)
                · refine gg_ald_n X (pc := 37) dX1_inside_37 rfl ?_
                  refine gm_g_in X (pc := 38) dX1_inside_38 ?_
                  refine gg_sp X (pc := 41) dX1_inside_41 oc_sp512 ?_
                  refine gg_ild_n X (pc := 44) dX1_inside_44 rfl ?_
                  refine gg_imulN X (pc := 45) dX1_inside_45 ?_
                  refine gg_ild X (pc := 46) dX1_inside_46 rfl ?_
                  refine gg_iaddN X (pc := 48) dX1_inside_48 ?_
                  refine gm_l_in X (pc := 49) dX1_inside_49 (by omega) ?_
                  refine gg_top ((show nI (v 0 (512 * j + i)) = nI (S j i).toNat by rw [hK j i hj hc])) ?_
                  cases hX : S j i with
                  | false =>
                    refine gg_if_eqN X (pc := 50) (tgt := 69) dX1_inside_50 (by decide) (by decide) (fun k => ?_) (fun k => ?_)
                    · exact nxt (fun q => by rw [hX] at q; cases q)
                    · exact absurd rfl k
                  | true =>
                    refine gg_if_eqN X (pc := 50) (tgt := 69) dX1_inside_50 (by decide) (by decide) (fun k => ?_) (fun k => ?_)
                    · exact absurd k (by decide)
                    · refine gg_ald_n X (pc := 53) dX1_inside_53 rfl ?_
                      refine gm_g_in X (pc := 54) dX1_inside_54 ?_
                      refine gg_sp X (pc := 57) dX1_inside_57 oc_sp512 ?_
                      refine gg_ild_n X (pc := 60) dX1_inside_60 rfl ?_
                      refine gg_imulN X (pc := 61) dX1_inside_61 ?_
                      refine gg_ild X (pc := 62) dX1_inside_62 rfl ?_
                      refine gg_iaddN X (pc := 64) dX1_inside_64 ?_
                      refine gm_l_in X (pc := 65) dX1_inside_65 (by omega) ?_
                      refine gg_top ((show nI (v 0 (512 * x + i)) = nI (S x i).toNat by rw [hK x i hx hc])) ?_
                      cases hY : S x i with
                      | true =>
                        refine gg_if_eqN X (pc := 66) (tgt := 73) dX1_inside_66 (by decide) (by decide) (fun k2 => ?_) (fun k2 => ?_)
                        · exact absurd k2 (by decide)
                        · exact nxt (fun _ => hY)
                      | false =>
                        refine gg_if_eqN X (pc := 66) (tgt := 73) dX1_inside_66 (by decide) (by decide) (fun k2 => ?_) (fun k2 => ?_)
                        · refine gg_ic X (pc := 73) dX1_inside_73 oc_ic0 ?_
                          refine gg_ist_n X (pc := 74) dX1_inside_74 (by decide) ?_
                          refine gg_iinc X (pc := 75) dX1_inside_75 rfl (oc_inc _) (by decide) ?_
                          refine gg_goto X (pc := 78) (tgt := 25) dX1_inside_78 (by decide) ?_
                          refine out (i + 1) (by omega) ?_
                          rw [q_inside, e1, e2, oc_all_f hc (show (!(S j i) || S x i) = false by rw [hX, hY]; rfl), Bool.and_false]
                          rfl
                        · exact absurd rfl k2
          refine gg_ic X (pc := 16) dX1_inside_16 oc_ic1 ?_
          refine gg_goto X (pc := 17) (tgt := 21) dX1_inside_17 (by decide) ?_
          refine gg_ist_n X (pc := 21) dX1_inside_21 (by decide) ?_
          refine gg_ic X (pc := 22) dX1_inside_22 oc_ic0 ?_
          refine gg_ist X (pc := 23) dX1_inside_23 (by decide) ?_
          exact loop 512 0 (by omega) (fun c hc => absurd hc (by omega))
      · refine gg_if_eqN X (pc := 13) (tgt := 20) dX1_inside_13 (by decide) (by omega) (fun h => ?_) (fun h => ?_)
        · exact no (by rw [q_inside, oc_ok_f k2, Bool.and_false]; rfl)
        · exact absurd rfl h
  · refine gg_if_eqN X (pc := 5) (tgt := 20) dX1_inside_5 (by decide) (by omega) (fun h => ?_) (fun h => ?_)
    · exact no (by rw [q_inside, oc_ok_f k1]; rfl)
    · exact absurd rfl h
theorem oc_all_and (p q : Nat → Bool) : ∀ (n : Nat), (oc_all p n && oc_all q n) = oc_all (fun i => p i && q i) n
  | 0 => rfl
  | n + 1 => by
    show ((oc_all p n && p n) && (oc_all q n && q n)) = (oc_all (fun i => p i && q i) n && (p n && q n))
    rw [← oc_all_and p q n]
    cases oc_all p n <;> cases p n <;> cases oc_all q n <;> cases q n <;> rfl
def oc_inB (S : Nat → Nat → Bool) (a b : Int32) : Bool := oc_ok 4 a && oc_ok 4 b && oc_all (fun c => !(S (oc_n a) c) || S (oc_n b) c) 512
theorem oc_same_in (S : Nat → Nat → Bool) (a b : Int32) : q_same S a b = nI (oc_inB S a b && oc_inB S b a).toNat := by
  have e : (fun c => S (oc_n a) c == S (oc_n b) c) = fun c => (!(S (oc_n a) c) || S (oc_n b) c) && (!(S (oc_n b) c) || S (oc_n a) c) := by
    funext c
    cases S (oc_n a) c <;> cases S (oc_n b) c <;> rfl
  unfold q_same oc_inB
  rw [e, ← oc_all_and]
  cases oc_ok 4 a <;> cases oc_ok 4 b <;> simp
theorem mM_same (l : Launch) (D : va_G) (dZ : ClassId) (ad : Nat → Nat) (v : Nat → Nat → Nat) (S : Nat → Nat → Bool) (hK : oc_K v S) (r c : Int32) : oc_Mi l D (oc_tm dZ) 3 yX1_same cX1_same 3 (some .boolean) [.ref (ad 0), .int r, .int c] (oc_mW ad dZ) (oc_mW ad dZ v) (fun q u => q = q_same S r c ∧ v = u) := by
  refine oc_Mi.ofZ (own := RX1) (by decide) rfl (Nat.le_of_ble_eq_true rfl) (by simp [Value.category]) [some (.ref (ad 0)), some (.int r), some (.int c)] rfl ?_
  intro p e s m args below meth cd A Q X hret
  have no : q_same S r c = nI 0 → gg p l e (oc_rm 3) s m args below meth cd Q 0 0 D A 3 (oc_mW ad dZ v) 22 [some (.ref (ad 0)), some (.int r), some (.int c)] [] := by
    intro h
    refine gg_ic X (pc := 22) dX1_same_22 oc_ic0 ?_
    exact hret _ _ 23 _ dX1_same_23 (by omega) (⟨h.symm, rfl⟩)
  rw [oc_same_in] at no
  rw [oc_same_in] at hret
  refine gg_ald_n X (pc := 0) dX1_same_0 rfl ?_
  refine gg_ild_n X (pc := 1) dX1_same_1 rfl ?_
  refine gg_ild_n X (pc := 2) dX1_same_2 rfl ?_
  refine gm_calli X (pc := 3) (mM_inside l D dZ ad v S hK r c) cn_X1_35 ⟨by decide, by decide⟩ ⟨Nat.le_refl _, Nat.le_refl _⟩ rfl rfl (Nat.le_of_ble_eq_true rfl) dX1_same_3 (fun r1 u1 q1 => ?_)
  obtain ⟨rfl, rfl⟩ := q1
  refine gg_top (show q_inside S r c = nI (oc_inB S r c).toNat from rfl) ?_
  cases b1 : oc_inB S r c with
  | false =>
    refine gg_if_eqN X (pc := 6) (tgt := 22) dX1_same_6 (by decide) (by decide) (fun k => ?_) (fun k => ?_)
    · exact no (by rw [b1]; rfl)
    · exact absurd rfl k
  | true =>
    refine gg_if_eqN X (pc := 6) (tgt := 22) dX1_same_6 (by decide) (by decide) (fun k => ?_) (fun k => ?_)
    · exact absurd k (by decide)
    · refine gg_ald_n X (pc := 9) dX1_same_9 rfl ?_
      refine gg_ild_n X (pc := 10) dX1_same_10 rfl ?_
      refine gg_ild_n X (pc := 11) dX1_same_11 rfl ?_
      refine gm_calli X (pc := 12) (mM_inside l D dZ ad v S hK c r) cn_X1_35 ⟨by decide, by decide⟩ ⟨Nat.le_refl _, Nat.le_refl _⟩ rfl rfl (Nat.le_of_ble_eq_true rfl) dX1_same_12 (fun r1 u1 q1 => ?_)
      obtain ⟨rfl, rfl⟩ := q1
      refine gg_top (show q_inside S c r = nI (oc_inB S c r).toNat from rfl) ?_
      cases b2 : oc_inB S c r with
      | false =>
        refine gg_if_eqN X (pc := 15) (tgt := 22) dX1_same_15 (by decide) (by decide) (fun k => ?_) (fun k => ?_)
        · exact no (by rw [b1, b2]; rfl)
        · exact absurd rfl k
      | true =>
        refine gg_if_eqN X (pc := 15) (tgt := 22) dX1_same_15 (by decide) (by decide) (fun k => ?_) (fun k => ?_)
        · exact absurd k (by decide)
        · refine gg_ic X (pc := 18) dX1_same_18 oc_ic1 ?_
          refine gg_goto X (pc := 19) (tgt := 23) dX1_same_19 (by decide) ?_
          exact hret _ _ 23 _ dX1_same_23 (by omega) (⟨by rw [b1, b2]; rfl, rfl⟩)
theorem mM_next (l : Launch) (D : va_G) (dZ : ClassId) (ad : Nat → Nat) (v : Nat → Nat → Nat) (S : Nat → Nat → Bool) (hK : oc_K v S) (r c : Int32) : oc_Mi l D (oc_tm dZ) 2 yX1_next cX1_next 4 (some .int) [.ref (ad 0), .int r, .int c] (oc_mW ad dZ) (oc_mW ad dZ v) (fun q u => q = q_next S r c ∧ v = u) := by
  refine oc_Mi.ofI (own := RX1) (by decide) rfl (Nat.le_of_ble_eq_true rfl) (by simp [Value.category]) [some (.ref (ad 0)), some (.int r), some (.int c), none] rfl ?_
  intro p e s m args below meth cd A Q X hret
  have bad : ∀ (p3 : Option Value), q_next S r c = -1 → gg p l e (oc_rm 2) s m args below meth cd Q 0 0 D A 4 (oc_mW ad dZ v) 45 [some (.ref (ad 0)), some (.int r), some (.int c), p3] [] := by
    intro p3 h
    refine gg_ic X (pc := 45) dX1_next_45 oc_icm ?_
    exact hret _ _ 46 _ dX1_next_46 (⟨h.symm, rfl⟩)
  refine gg_ic X (pc := 0) dX1_next_0 oc_ic0 ?_
  refine gg_ist_n X (pc := 1) dX1_next_1 (by decide) ?_
  by_cases k1 : oc_in 4 r
  · obtain ⟨j, hj, rfl⟩ := k1
    have e1 : oc_n (nI j) = j := oc_n_nI (by omega)
    have ok1 := oc_ok_t (n := 4) (by decide) ⟨j, hj, rfl⟩
    have loop : ∀ (t i : Nat), i + t = 512 → q_next S (nI j) c = oc_fnd (fun d => decide (c ≤ nI d) && S j d) t i → gg p l e (oc_rm 2) s m args below meth cd Q 0 0 D A 4 (oc_mW ad dZ v) 2 [some (.ref (ad 0)), some (.int (nI j)), some (.int c), some (.int (nI i))] [] := by
      intro t
      induction t with
      | zero =>
        intro i hi hq
        obtain rfl : i = 512 := by omega
        refine gg_ild_n X (pc := 2) dX1_next_2 rfl ?_
        refine gg_sp X (pc := 3) dX1_next_3 oc_sp512 ?_
        refine gg_ic_geN X (pc := 6) (tgt := 45) dX1_next_6 (by decide) (by omega) (by omega) (fun h => ?_) (fun h => ?_)
        · exact bad _ hq
        · exact absurd h (by omega)
      | succ t ih =>
        intro i hi hq
        have hc : i < 512 := by omega
        have nxt : (decide (c ≤ nI i) && S j i) = false → gg p l e (oc_rm 2) s m args below meth cd Q 0 0 D A 4 (oc_mW ad dZ v) 39 [some (.ref (ad 0)), some (.int (nI j)), some (.int c), some (.int (nI i))] [] := by
          intro hf
          refine gg_iinc X (pc := 39) dX1_next_39 rfl (oc_inc _) (by decide) ?_
          refine gg_goto X (pc := 42) (tgt := 2) dX1_next_42 (by decide) ?_
          refine ih (i + 1) (by omega) ?_
          rw [hq]
          unfold oc_fnd
          rw [hf]
          cases t <;> rfl
        refine gg_ild_n X (pc := 2) dX1_next_2 rfl ?_
        refine gg_sp X (pc := 3) dX1_next_3 oc_sp512 ?_
        refine gg_ic_geN X (pc := 6) (tgt := 45) dX1_next_6 (by decide) (by omega) (by omega) (fun h => ?_) (fun h => ?_)
        · exact absurd h (by omega)
        · refine gg_ald_n X (pc := 9) dX1_next_9 rfl ?_
          refine gg_ild_n X (pc := 10) dX1_next_10 rfl ?_
          refine gm_calli X (pc := 11) (mM_solid l D dZ ad v (nI j)) cn_X1_20 ⟨by decide, by decide⟩ ⟨Nat.le_refl _, Nat.le_refl _⟩ rfl rfl (Nat.le_of_ble_eq_true rfl) dX1_next_11 (fun r1 u1 q1 => ?_)
          obtain ⟨q1, rfl⟩ := q1
          rcases q1 with ⟨k1, rfl⟩ | ⟨k1, rfl⟩
          · refine gg_if_eqN X (pc := 14) (tgt := 45) dX1_next_14 (by decide) (by omega) (fun h2 => ?_) (fun h2 => ?_)
            · exact absurd h2 (by omega)
            · refine gg_ild_n X (pc := 17) dX1_next_17 rfl ?_
              refine gg_ild_n X (pc := 18) dX1_next_18 rfl ?_
              refine gg_ic_lt X (pc := 19) (tgt := 39) dX1_next_19 (by decide) (fun h3 => ?_) (fun h3 => ?_)
              · refine nxt ?_
                rw [decide_eq_false (fun q => absurd h3 (by rw [Int32.lt_iff_toInt_lt]; have := Int32.le_iff_toInt_le.mp q; omega))]
                rfl
              · have h4 : c ≤ nI i := by
                  rw [Int32.le_iff_toInt_le]
                  rw [Int32.lt_iff_toInt_lt] at h3
                  omega
                refine gg_ald_n X (pc := 22) dX1_next_22 rfl ?_
                refine gm_g_in X (pc := 23) dX1_next_23 ?_
                refine gg_sp X (pc := 26) dX1_next_26 oc_sp512 ?_
                refine gg_ild_n X (pc := 29) dX1_next_29 rfl ?_
                refine gg_imulN X (pc := 30) dX1_next_30 ?_
                refine gg_ild_n X (pc := 31) dX1_next_31 rfl ?_
                refine gg_iaddN X (pc := 32) dX1_next_32 ?_
                refine gm_l_in X (pc := 33) dX1_next_33 (by omega) ?_
                refine gg_top ((show nI (v 0 (512 * j + i)) = nI (S j i).toNat by rw [hK j i hj hc])) ?_
                cases hX : S j i with
                | true =>
                  refine gg_if_eqN X (pc := 34) (tgt := 39) dX1_next_34 (by decide) (by decide) (fun k => ?_) (fun k => ?_)
                  · exact absurd k (by decide)
                  · refine gg_ild_n X (pc := 37) dX1_next_37 rfl ?_
                    refine hret _ _ 38 _ dX1_next_38 ⟨?_, rfl⟩
                    rw [hq]
                    unfold oc_fnd
                    rw [decide_eq_true h4, hX]
                    rfl
                | false =>
                  refine gg_if_eqN X (pc := 34) (tgt := 39) dX1_next_34 (by decide) (by decide) (fun k => ?_) (fun k => ?_)
                  · exact nxt (by rw [hX, Bool.and_false])
                  · exact absurd rfl k
          · exact absurd ⟨j, hj, rfl⟩ k1
    exact loop 512 0 (by omega) (by rw [q_next, ok1, e1]; rfl)
  · refine gg_ild_n X (pc := 2) dX1_next_2 rfl ?_
    refine gg_sp X (pc := 3) dX1_next_3 oc_sp512 ?_
    refine gg_ic_geN X (pc := 6) (tgt := 45) dX1_next_6 (by decide) (by omega) (by omega) (fun h => ?_) (fun h => ?_)
    · exact absurd h (by omega)
    · refine gg_ald_n X (pc := 9) dX1_next_9 rfl ?_
      refine gg_ild_n X (pc := 10) dX1_next_10 rfl ?_
      refine gm_calli X (pc := 11) (mM_solid l D dZ ad v r) cn_X1_20 ⟨by decide, by decide⟩ ⟨Nat.le_refl _, Nat.le_refl _⟩ rfl rfl (Nat.le_of_ble_eq_true rfl) dX1_next_11 (fun r1 u1 q1 => ?_)
      obtain ⟨q1, rfl⟩ := q1
      rcases q1 with ⟨k2, rfl⟩ | ⟨k2, rfl⟩
      · exact absurd k2 k1
      · refine gg_if_eqN X (pc := 14) (tgt := 45) dX1_next_14 (by decide) (by omega) (fun h2 => ?_) (fun h2 => ?_)
        · exact bad _ (by rw [q_next, oc_ok_f k1]; rfl)
        · exact absurd rfl h2
end
section
/-! the model: even, order, cubes, surface, kinds -/
set_option maxRecDepth 100000
theorem oc_all_eq {p q : Nat → Bool} : ∀ (n : Nat), (∀ i, i < n → p i = q i) → oc_all p n = oc_all q n
  | 0, _ => rfl
  | n + 1, h => by
    unfold oc_all
    rw [oc_all_eq n (fun i hi => h i (by omega)), h n (by omega)]
theorem oc_all_n {p : Nat → Bool} {n m : Nat} (h : n ≤ m) (hf : oc_all p n = false) : oc_all p m = false := by
  cases q : oc_all p m with
  | false => rfl
  | true =>
    have := oc_all_t (p := p) (n := n) (fun i hi => oc_all_i q i (by omega))
    rw [hf] at this
    cases this
/-- what the model's even asks of a cell e -/
def oc_evt (S : Nat → Bool) (c k e : Nat) : Bool := !(oc_tog c e k) || (S e == S c)
theorem oc_evn_tog {S : Nat → Bool} {c k : Nat} (hc : c < 512) (hk : k < 4) : oc_evn S c k = oc_all (oc_evt S c k) 512 := by
  unfold oc_evn
  refine oc_all_eq 512 (fun e he => ?_)
  unfold oc_evt
  rw [oc_tog_mo hc he hk]
theorem mM_even (l : Launch) (D : va_G) (dZ : ClassId) (ad : Nat → Nat) (v : Nat → Nat → Nat) (S : Nat → Nat → Bool) (hK : oc_K v S) (r c k : Nat) (hr : r < 4) (hc : c < 512) (hk : k < 4) : oc_Mi l D (oc_tm dZ) 2 yX1_even cX1_even 6 (some .boolean) [.ref (ad 0), .int (nI r), .int (nI c), .int (nI k)] (oc_mW ad dZ) (oc_mW ad dZ v) (fun q u => q = nI (oc_evn (S r) c k).toNat ∧ v = u) := by
  refine oc_Mi.ofZ (own := RX1) (by decide) rfl (Nat.le_of_ble_eq_true rfl) (by simp [Value.category]) [some (.ref (ad 0)), some (.int (nI r)), some (.int (nI c)), some (.int (nI k)), none, none] rfl ?_
  intro p e s m args below meth cd A Q X hret
  have loop : ∀ (t i : Nat), i + t = 512 → gg p l e (oc_rm 2) s m args below meth cd Q 0 0 D A 6 (oc_mW ad dZ v) 6 [some (.ref (ad 0)), some (.int (nI r)), some (.int (nI c)), some (.int (nI k)), some (.int (nI (oc_all (oc_evt (S r) c k) i).toNat)), some (.int (nI i))] [] := by
    intro t
    induction t with
    | zero =>
      intro i hi
      obtain rfl : i = 512 := by omega
      refine gg_ild X (pc := 6) dX1_even_6 rfl ?_
      refine gg_sp X (pc := 8) dX1_even_8 oc_sp512 ?_
      refine gg_ic_geN X (pc := 11) (tgt := 71) dX1_even_11 (by decide) (by omega) (by omega) (fun h => ?_) (fun h => ?_)
      · refine gg_ild X (pc := 71) dX1_even_71 rfl ?_
        refine hret _ _ 73 _ dX1_even_73 (oc_bn _) ⟨by rw [oc_evn_tog hc hk], rfl⟩
      · exact absurd h (by omega)
    | succ t ih =>
      intro i hi
      have hi5 : i < 512 := by omega
      have es : oc_all (oc_evt (S r) c k) (i + 1) = (oc_all (oc_evt (S r) c k) i && oc_evt (S r) c k i) := rfl
      have nxt : ∀ (b : Bool) (p4 : Option Value), b = oc_all (oc_evt (S r) c k) (i + 1) → gg p l e (oc_rm 2) s m args below meth cd Q 0 0 D A 6 (oc_mW ad dZ v) 63 [some (.ref (ad 0)), some (.int (nI r)), some (.int (nI c)), some (.int (nI k)), p4, some (.int (nI i))] [.int (nI b.toNat)] := by
        intro b p4 hb
        subst hb
        refine gg_ist X (pc := 63) dX1_even_63 (by decide) ?_
        refine gg_iinc X (pc := 65) dX1_even_65 rfl (oc_inc _) (by decide) ?_
        refine gg_goto X (pc := 68) (tgt := 6) dX1_even_68 (by decide) ?_
        exact ih (i + 1) (by omega)
      refine gg_ild X (pc := 6) dX1_even_6 rfl ?_
      refine gg_sp X (pc := 8) dX1_even_8 oc_sp512 ?_
      refine gg_ic_geN X (pc := 11) (tgt := 71) dX1_even_11 (by decide) (by omega) (by omega) (fun h => ?_) (fun h => ?_)
      · exact absurd h (by omega)
      · refine gg_ild X (pc := 14) dX1_even_14 rfl ?_
        cases hA : oc_all (oc_evt (S r) c k) i with
        | false =>
          refine gg_if_eqN X (pc := 16) (tgt := 62) dX1_even_16 (by decide) (by decide) (fun k1 => ?_) (fun k1 => ?_)
          · refine gg_ic X (pc := 62) dX1_even_62 oc_ic0 ?_
            exact nxt false _ (by rw [es, hA]; rfl)
          · exact absurd rfl k1
        | true =>
          refine gg_if_eqN X (pc := 16) (tgt := 62) dX1_even_16 (by decide) (by decide) (fun k1 => ?_) (fun k1 => ?_)
          · exact absurd k1 (by decide)
          · refine gg_ald_n X (pc := 19) dX1_even_19 rfl ?_
            refine gg_ild_n X (pc := 20) dX1_even_20 rfl ?_
            refine gg_ild X (pc := 21) dX1_even_21 rfl ?_
            refine gg_ild_n X (pc := 23) dX1_even_23 rfl ?_
            refine gm_calli X (pc := 24) (mM_together l D dZ ad v c i k hc hi5 hk) cn_X1_39 ⟨by decide, by decide⟩ ⟨Nat.le_refl _, Nat.le_refl _⟩ rfl rfl (Nat.le_of_ble_eq_true rfl) dX1_even_24 (fun r1 u1 q1 => ?_)
            obtain ⟨rfl, rfl⟩ := q1
            cases hT : oc_tog c i k with
            | false =>
              refine gg_if_eqN X (pc := 27) (tgt := 58) dX1_even_27 (by decide) (by decide) (fun k2 => ?_) (fun k2 => ?_)
              · refine gg_ic X (pc := 58) dX1_even_58 oc_ic1 ?_
                refine gg_goto X (pc := 59) (tgt := 63) dX1_even_59 (by decide) ?_
                exact nxt true _ (by rw [es, hA, oc_evt, hT]; rfl)
              · exact absurd rfl k2
            | true =>
              refine gg_if_eqN X (pc := 27) (tgt := 58) dX1_even_27 (by decide) (by decide) (fun k2 => ?_) (fun k2 => ?_)
              · exact absurd k2 (by decide)
              · have b1 := oc_bn (S r i)
                have b2 := oc_bn (S r c)
                refine gg_ald_n X (pc := 30) dX1_even_30 rfl ?_
                refine gm_g_in X (pc := 31) dX1_even_31 ?_
                refine gg_sp X (pc := 34) dX1_even_34 oc_sp512 ?_
                refine gg_ild_n X (pc := 37) dX1_even_37 rfl ?_
                refine gg_imulN X (pc := 38) dX1_even_38 ?_
                refine gg_ild X (pc := 39) dX1_even_39 rfl ?_
                refine gg_iaddN X (pc := 41) dX1_even_41 ?_
                refine gm_l_in X (pc := 42) dX1_even_42 (by omega) ?_
                refine gg_top ((show nI (v 0 (512 * r + i)) = nI (S r i).toNat by rw [hK r i hr hi5])) ?_
                refine gg_ald_n X (pc := 43) dX1_even_43 rfl ?_
                refine gm_g_in X (pc := 44) dX1_even_44 ?_
                refine gg_sp X (pc := 47) dX1_even_47 oc_sp512 ?_
                refine gg_ild_n X (pc := 50) dX1_even_50 rfl ?_
                refine gg_imulN X (pc := 51) dX1_even_51 ?_
                refine gg_ild_n X (pc := 52) dX1_even_52 rfl ?_
                refine gg_iaddN X (pc := 53) dX1_even_53 ?_
                refine gm_l_in X (pc := 54) dX1_even_54 (by omega) ?_
                refine gg_top ((show nI (v 0 (512 * r + c)) = nI (S r c).toNat by rw [hK r c hr hc])) ?_
                refine gg_ic_neN X (pc := 55) (tgt := 62) dX1_even_55 (by decide) (by omega) (by omega) (fun k3 => ?_) (fun k3 => ?_)
                · refine gg_ic X (pc := 62) dX1_even_62 oc_ic0 ?_
                  exact nxt false _ (by rw [es, hA, oc_evt, hT, beq_false_of_ne (fun q => k3 (by rw [q]))]; rfl)
                · refine gg_ic X (pc := 58) dX1_even_58 oc_ic1 ?_
                  refine gg_goto X (pc := 59) (tgt := 63) dX1_even_59 (by decide) ?_
                  exact nxt true _ (by rw [es, hA, oc_evt, hT, oc_bni k3]; simp)
  refine gg_ic X (pc := 0) dX1_even_0 oc_ic1 ?_
  refine gg_ist X (pc := 1) dX1_even_1 (by decide) ?_
  refine gg_ic X (pc := 3) dX1_even_3 oc_ic0 ?_
  refine gg_ist X (pc := 4) dX1_even_4 (by decide) ?_
  exact loop 512 0 (by omega)
theorem oc_ordS_is {S : Nat → Bool} {c k : Nat} (hk : k ≤ 3) (hab : ∀ k', k < k' → k' ≤ 3 → oc_evn S c k' = false) (h : k = 0 ∨ oc_evn S c k = true) : oc_ordS S c = k := by
  unfold oc_ordS
  rcases (by omega : k = 3 ∨ k = 2 ∨ k = 1 ∨ k = 0) with rfl | rfl | rfl | rfl
  · rcases h with h | h
    · cases h
    · rw [if_pos h]
  · rcases h with h | h
    · cases h
    · rw [if_neg (by rw [hab 3 (by decide) (by decide)]; decide), if_pos h]
  · rcases h with h | h
    · cases h
    · rw [if_neg (by rw [hab 3 (by decide) (by decide)]; decide), if_neg (by rw [hab 2 (by decide) (by decide)]; decide), if_pos h]
  · rw [if_neg (by rw [hab 3 (by decide) (by decide)]; decide), if_neg (by rw [hab 2 (by decide) (by decide)]; decide), if_neg (by rw [hab 1 (by decide) (by decide)]; decide)]
theorem q_order_nI {S : Nat → Nat → Bool} {j c : Nat} (hj : j < 4) (hc : c < 512) : q_order S (nI j) (nI c) = nI (oc_ordS (S j) c) := by
  rw [q_order, oc_ok_t (by decide) ⟨j, hj, rfl⟩, oc_ok_t (by decide) ⟨c, hc, rfl⟩, oc_n_nI (by omega), oc_n_nI (by omega)]
  rfl
theorem mM_order (l : Launch) (D : va_G) (dZ : ClassId) (ad : Nat → Nat) (v : Nat → Nat → Nat) (S : Nat → Nat → Bool) (hK : oc_K v S) (r c : Int32) : oc_Mi l D (oc_tm dZ) 3 yX1_order cX1_order 4 (some .int) [.ref (ad 0), .int r, .int c] (oc_mW ad dZ) (oc_mW ad dZ v) (fun q u => q = q_order S r c ∧ v = u) := by
  refine oc_Mi.ofI (own := RX1) (by decide) rfl (Nat.le_of_ble_eq_true rfl) (by simp [Value.category]) [some (.ref (ad 0)), some (.int r), some (.int c), none] rfl ?_
  intro p e s m args below meth cd A Q X hret
  have no : q_order S r c = -1 → gg p l e (oc_rm 3) s m args below meth cd Q 0 0 D A 4 (oc_mW ad dZ v) 16 [some (.ref (ad 0)), some (.int r), some (.int c), none] [] := by
    intro h
    refine gg_ic X (pc := 16) dX1_order_16 oc_icm ?_
    exact hret _ _ 17 _ dX1_order_17 (⟨h.symm, rfl⟩)
  refine gg_ald_n X (pc := 0) dX1_order_0 rfl ?_
  refine gg_ild_n X (pc := 1) dX1_order_1 rfl ?_
  refine gm_calli X (pc := 2) (mM_solid l D dZ ad v r) cn_X1_20 ⟨by decide, by decide⟩ ⟨Nat.le_refl _, Nat.le_refl _⟩ rfl rfl (Nat.le_of_ble_eq_true rfl) dX1_order_2 (fun r1 u1 q1 => ?_)
  obtain ⟨q1, rfl⟩ := q1
  rcases q1 with ⟨k1, rfl⟩ | ⟨k1, rfl⟩
  · refine gg_if_eqN X (pc := 5) (tgt := 16) dX1_order_5 (by decide) (by omega) (fun h => ?_) (fun h => ?_)
    · exact absurd h (by omega)
    · refine gg_ald_n X (pc := 8) dX1_order_8 rfl ?_
      refine gg_ild_n X (pc := 9) dX1_order_9 rfl ?_
      refine gm_calli X (pc := 10) (mM_cell l D dZ ad v c) cn_X1_24 ⟨by decide, by decide⟩ ⟨Nat.le_refl _, Nat.le_refl _⟩ rfl rfl (Nat.le_of_ble_eq_true rfl) dX1_order_10 (fun r1 u1 q1 => ?_)
      obtain ⟨q1, rfl⟩ := q1
      rcases q1 with ⟨k2, rfl⟩ | ⟨k2, rfl⟩
      · refine gg_if_neN X (pc := 13) (tgt := 18) dX1_order_13 (by decide) (by omega) (fun h => ?_) (fun h => ?_)
        · obtain ⟨j, hj, rfl⟩ := k1
          obtain ⟨x, hx, rfl⟩ := k2
          rw [q_order_nI hj hx] at hret
          have loop : ∀ (k : Nat), k ≤ 3 → (∀ k', k < k' → k' ≤ 3 → oc_evn (S j) x k' = false) → gg p l e (oc_rm 3) s m args below meth cd Q 0 0 D A 4 (oc_mW ad dZ v) 20 [some (.ref (ad 0)), some (.int (nI j)), some (.int (nI x)), some (.int (nI k))] [] := by
            intro k
            induction k with
            | zero =>
              intro hk hab
              refine gg_ild_n X (pc := 20) dX1_order_20 rfl ?_
              refine gg_if_leN X (pc := 21) (tgt := 40) dX1_order_21 (by decide) (by omega) (fun h => ?_) (fun h => ?_)
              · refine gg_ild_n X (pc := 40) dX1_order_40 rfl ?_
                exact hret _ _ 41 _ dX1_order_41 (⟨by rw [oc_ordS_is hk hab (Or.inl rfl)], rfl⟩)
              · exact absurd h (by omega)
            | succ k ih =>
              intro hk hab
              refine gg_ild_n X (pc := 20) dX1_order_20 rfl ?_
              refine gg_if_leN X (pc := 21) (tgt := 40) dX1_order_21 (by decide) (by omega) (fun h => ?_) (fun h => ?_)
              · exact absurd h (by omega)
              · refine gg_ald_n X (pc := 24) dX1_order_24 rfl ?_
                refine gg_ild_n X (pc := 25) dX1_order_25 rfl ?_
                refine gg_ild_n X (pc := 26) dX1_order_26 rfl ?_
                refine gg_ild_n X (pc := 27) dX1_order_27 rfl ?_
                refine gm_calli X (pc := 28) (mM_even l D dZ ad v S hK j x (k + 1) hj hx (by omega)) cn_X1_49 ⟨by decide, by decide⟩ ⟨Nat.le_refl _, Nat.le_refl _⟩ rfl rfl (Nat.le_of_ble_eq_true rfl) dX1_order_28 (fun r1 u1 q1 => ?_)
                obtain ⟨rfl, rfl⟩ := q1
                cases hE : oc_evn (S j) x (k + 1) with
                | true =>
                  refine gg_if_neN X (pc := 31) (tgt := 40) dX1_order_31 (by decide) (by decide) (fun h2 => ?_) (fun h2 => ?_)
                  · refine gg_ild_n X (pc := 40) dX1_order_40 rfl ?_
                    exact hret _ _ 41 _ dX1_order_41 (⟨by rw [oc_ordS_is hk hab (Or.inr hE)], rfl⟩)
                  · exact absurd h2 (by decide)
                | false =>
                  refine gg_if_neN X (pc := 31) (tgt := 40) dX1_order_31 (by decide) (by decide) (fun h2 => ?_) (fun h2 => ?_)
                  · exact absurd rfl h2
                  · refine gg_iinc X (pc := 34) dX1_order_34 rfl (oc_dec _) (by decide) ?_
                    refine gg_goto X (pc := 37) (tgt := 20) dX1_order_37 (by decide) ?_
                    refine ih (by omega) (fun k' h1 h2 => ?_)
                    rcases Nat.lt_or_ge (k + 1) k' with q | q
                    · exact hab k' q h2
                    · rw [show k' = k + 1 by omega]
                      exact hE
          refine gg_ic X (pc := 18) dX1_order_18 oc_ic3 ?_
          refine gg_ist_n X (pc := 19) dX1_order_19 (by decide) ?_
          exact loop 3 (by omega) (fun k' h1 h2 => absurd h1 (by omega))
        · exact absurd h (by omega)
      · refine gg_if_neN X (pc := 13) (tgt := 18) dX1_order_13 (by decide) (by omega) (fun h => ?_) (fun h => ?_)
        · exact absurd rfl h
        · exact no (by rw [q_order, oc_ok_f k2, Bool.and_false]; rfl)
  · refine gg_if_eqN X (pc := 5) (tgt := 16) dX1_order_5 (by decide) (by omega) (fun h => ?_) (fun h => ?_)
    · exact no (by rw [q_order, oc_ok_f k1]; rfl)
    · exact absurd rfl h
theorem mM_cubes (l : Launch) (D : va_G) (dZ : ClassId) (ad : Nat → Nat) (v : Nat → Nat → Nat) (S : Nat → Nat → Bool) (hK : oc_K v S) (r : Int32) : oc_Mi l D (oc_tm dZ) 4 yX1_cubes cX1_cubes 5 (some .int) [.ref (ad 0), .int r] (oc_mW ad dZ) (oc_mW ad dZ v) (fun q u => q = q_cubes S r ∧ v = u) := by
  refine oc_Mi.ofI (own := RX1) (by decide) rfl (Nat.le_of_ble_eq_true rfl) (by simp [Value.category]) [some (.ref (ad 0)), some (.int r), none, none, none] rfl ?_
  intro p e s m args below meth cd A Q X hret
  have fin : ∀ (n : Nat) (p3 p4 : Option Value), (oc_ok 4 r = true → n = oc_cnt (fun c => oc_cor c (oc_ordS (S (oc_n r)) c)) 512) → gg p l e (oc_rm 4) s m args below meth cd Q 0 0 D A 5 (oc_mW ad dZ v) 51 [some (.ref (ad 0)), some (.int r), some (.int (nI n)), p3, p4] [] := by
    intro n p3 p4 hn
    refine gg_ald_n X (pc := 51) dX1_cubes_51 rfl ?_
    refine gg_ild_n X (pc := 52) dX1_cubes_52 rfl ?_
    refine gm_calli X (pc := 53) (mM_solid l D dZ ad v r) cn_X1_20 ⟨by decide, by decide⟩ ⟨Nat.le_refl _, Nat.le_refl _⟩ rfl rfl (Nat.le_of_ble_eq_true rfl) dX1_cubes_53 (fun r1 u1 q1 => ?_)
    obtain ⟨q1, rfl⟩ := q1
    rcases q1 with ⟨k1, rfl⟩ | ⟨k1, rfl⟩
    · have ok := oc_ok_t (n := 4) (by decide) k1
      refine gg_if_eqN X (pc := 56) (tgt := 63) dX1_cubes_56 (by decide) (by omega) (fun h => ?_) (fun h => ?_)
      · exact absurd h (by omega)
      · refine gg_ild_n X (pc := 59) dX1_cubes_59 rfl ?_
        refine gg_goto X (pc := 60) (tgt := 64) dX1_cubes_60 (by decide) ?_
        exact hret _ _ 64 _ dX1_cubes_64 (⟨by rw [q_cubes, ok, hn ok]; rfl, rfl⟩)
    · refine gg_if_eqN X (pc := 56) (tgt := 63) dX1_cubes_56 (by decide) (by omega) (fun h => ?_) (fun h => ?_)
      · refine gg_ic X (pc := 63) dX1_cubes_63 oc_icm ?_
        exact hret _ _ 64 _ dX1_cubes_64 (⟨by rw [q_cubes, oc_ok_f k1]; rfl, rfl⟩)
      · exact absurd rfl h
  refine gg_ic X (pc := 0) dX1_cubes_0 oc_ic0 ?_
  refine gg_ist_n X (pc := 1) dX1_cubes_1 (by decide) ?_
  refine gg_ic X (pc := 2) dX1_cubes_2 oc_ic0 ?_
  refine gg_ist_n X (pc := 3) dX1_cubes_3 (by decide) ?_
  by_cases k1 : oc_in 4 r
  · obtain ⟨j, hj, rfl⟩ := k1
    have e1 : oc_n (nI j) = j := oc_n_nI (by omega)
    have loop : ∀ (t i : Nat) (p4 : Option Value), i + t = 512 → gg p l e (oc_rm 4) s m args below meth cd Q 0 0 D A 5 (oc_mW ad dZ v) 4 [some (.ref (ad 0)), some (.int (nI j)), some (.int (nI (oc_cnt (fun c => oc_cor c (oc_ordS (S j) c)) i))), some (.int (nI i)), p4] [] := by
      intro t
      induction t with
      | zero =>
        intro i p4 hi
        obtain rfl : i = 512 := by omega
        refine gg_ild_n X (pc := 4) dX1_cubes_4 rfl ?_
        refine gg_sp X (pc := 5) dX1_cubes_5 oc_sp512 ?_
        refine gg_ic_geN X (pc := 8) (tgt := 51) dX1_cubes_8 (by decide) (by omega) (by omega) (fun h => ?_) (fun h => ?_)
        · exact fin _ _ _ (fun _ => by rw [e1])
        · exact absurd h (by omega)
      | succ t ih =>
        intro i p4 hi
        have hc : i < 512 := by omega
        refine gg_ild_n X (pc := 4) dX1_cubes_4 rfl ?_
        refine gg_sp X (pc := 5) dX1_cubes_5 oc_sp512 ?_
        refine gg_ic_geN X (pc := 8) (tgt := 51) dX1_cubes_8 (by decide) (by omega) (by omega) (fun h => ?_) (fun h => ?_)
        · exact absurd h (by omega)
        · refine gg_ald_n X (pc := 11) dX1_cubes_11 rfl ?_
          refine gg_ild_n X (pc := 12) dX1_cubes_12 rfl ?_
          refine gm_calli X (pc := 13) (mM_solid l D dZ ad v (nI j)) cn_X1_20 ⟨by decide, by decide⟩ ⟨Nat.le_refl _, Nat.le_refl _⟩ rfl rfl (Nat.le_of_ble_eq_true rfl) dX1_cubes_13 (fun r1 u1 q1 => ?_)
          obtain ⟨q1, rfl⟩ := q1
          rcases q1 with ⟨k1, rfl⟩ | ⟨k1, rfl⟩
          · refine gg_if_eqN X (pc := 16) (tgt := 51) dX1_cubes_16 (by decide) (by omega) (fun h2 => ?_) (fun h2 => ?_)
            · exact absurd h2 (by omega)
            · refine gg_ald_n X (pc := 19) dX1_cubes_19 rfl ?_
              refine gg_ild_n X (pc := 20) dX1_cubes_20 rfl ?_
              refine gg_ild_n X (pc := 21) dX1_cubes_21 rfl ?_
              refine gm_calli X (pc := 22) (mM_order l D dZ ad v S hK (nI j) (nI i)) cn_X1_43 ⟨by decide, by decide⟩ ⟨Nat.le_refl _, Nat.le_refl _⟩ rfl rfl (Nat.le_of_ble_eq_true rfl) dX1_cubes_22 (fun r1 u1 q1 => ?_)
              obtain ⟨rfl, rfl⟩ := q1
              rw [q_order_nI hj hc]
              have ho := oc_ordS_le (S j) i
              refine gg_ist X (pc := 25) dX1_cubes_25 (by decide) ?_
              refine gg_ald_n X (pc := 27) dX1_cubes_27 rfl ?_
              refine gg_ild_n X (pc := 28) dX1_cubes_28 rfl ?_
              refine gg_ild X (pc := 29) dX1_cubes_29 rfl ?_
              refine gm_calli X (pc := 31) (mM_corner l D dZ ad v i (oc_ordS (S j) i) hc (by omega)) cn_X1_46 ⟨by decide, by decide⟩ ⟨Nat.le_refl _, Nat.le_refl _⟩ rfl rfl (Nat.le_of_ble_eq_true rfl) dX1_cubes_31 (fun r1 u1 q1 => ?_)
              obtain ⟨rfl, rfl⟩ := q1
              cases hX : oc_cor i (oc_ordS (S j) i) with
              | true =>
                refine gg_if_eqN X (pc := 34) (tgt := 43) dX1_cubes_34 (by decide) (by decide) (fun k => ?_) (fun k => ?_)
                · exact absurd k (by decide)
                · refine gg_ild_n X (pc := 37) dX1_cubes_37 rfl ?_
                  refine gg_ic X (pc := 38) dX1_cubes_38 oc_ic1 ?_
                  refine gg_iaddN X (pc := 39) dX1_cubes_39 ?_
                  refine gg_goto X (pc := 40) (tgt := 44) dX1_cubes_40 (by decide) ?_
                  refine gg_ist_n X (pc := 44) dX1_cubes_44 (by decide) ?_
                  refine gg_iinc X (pc := 45) dX1_cubes_45 rfl (oc_inc _) (by decide) ?_
                  refine gg_goto X (pc := 48) (tgt := 4) dX1_cubes_48 (by decide) ?_
                  have g := ih (i + 1) (some (.int (nI (oc_ordS (S j) i)))) (by omega)
                  rw [oc_cnt_s1 (f := fun c => oc_cor c (oc_ordS (S j) c)) hX] at g
                  exact g
              | false =>
                refine gg_if_eqN X (pc := 34) (tgt := 43) dX1_cubes_34 (by decide) (by decide) (fun k => ?_) (fun k => ?_)
                · refine gg_ild_n X (pc := 43) dX1_cubes_43 rfl ?_
                  refine gg_ist_n X (pc := 44) dX1_cubes_44 (by decide) ?_
                  refine gg_iinc X (pc := 45) dX1_cubes_45 rfl (oc_inc _) (by decide) ?_
                  refine gg_goto X (pc := 48) (tgt := 4) dX1_cubes_48 (by decide) ?_
                  have g := ih (i + 1) (some (.int (nI (oc_ordS (S j) i)))) (by omega)
                  rw [oc_cnt_s0 (f := fun c => oc_cor c (oc_ordS (S j) c)) hX] at g
                  exact g
                · exact absurd rfl k
          · exact absurd ⟨j, hj, rfl⟩ k1
    exact loop 512 0 _ (by omega)
  · refine gg_ild_n X (pc := 4) dX1_cubes_4 rfl ?_
    refine gg_sp X (pc := 5) dX1_cubes_5 oc_sp512 ?_
    refine gg_ic_geN X (pc := 8) (tgt := 51) dX1_cubes_8 (by decide) (by omega) (by omega) (fun h => ?_) (fun h => ?_)
    · exact absurd h (by omega)
    · refine gg_ald_n X (pc := 11) dX1_cubes_11 rfl ?_
      refine gg_ild_n X (pc := 12) dX1_cubes_12 rfl ?_
      refine gm_calli X (pc := 13) (mM_solid l D dZ ad v r) cn_X1_20 ⟨by decide, by decide⟩ ⟨Nat.le_refl _, Nat.le_refl _⟩ rfl rfl (Nat.le_of_ble_eq_true rfl) dX1_cubes_13 (fun r1 u1 q1 => ?_)
      obtain ⟨q1, rfl⟩ := q1
      rcases q1 with ⟨k2, rfl⟩ | ⟨k2, rfl⟩
      · exact absurd k2 k1
      · refine gg_if_eqN X (pc := 16) (tgt := 51) dX1_cubes_16 (by decide) (by omega) (fun h2 => ?_) (fun h2 => ?_)
        · exact fin _ _ _ (fun ok => by rw [oc_ok_f k1] at ok; cases ok)
        · exact absurd rfl h2
end
section
/-! the model: surface, kinds -/
set_option maxRecDepth 100000
theorem oc_div2 : ∀ k, k < 6 → nI k / nI 2 = nI (k / 2) := by decide +kernel
theorem oc_rem2 : ∀ k, k < 6 → nI k - nI k / nI 2 * nI 2 = nI (k % 2) := by decide +kernel
/-- whether the k-th face of a cell lies bare -/
def oc_g (S : Nat → Bool) (c k : Nat) : Bool := if k % 2 = 0 then (oc_co c (k / 2) == 7 || !(S (c + 1 * 2 ^ (3 * (k / 2))))) else (oc_co c (k / 2) == 0 || !(S (c - 1 * 2 ^ (3 * (k / 2)))))
theorem oc_g_sum (S : Nat → Bool) (c : Nat) : oc_sum (fun k => (oc_g S c k).toNat) 6 = oc_sum (oc_fc S c) 3 := by
  have e0 : oc_fc S c 0 = (oc_g S c 1).toNat + (oc_g S c 0).toNat := rfl
  have e1 : oc_fc S c 1 = (oc_g S c 3).toNat + (oc_g S c 2).toNat := rfl
  have e2 : oc_fc S c 2 = (oc_g S c 5).toNat + (oc_g S c 4).toNat := rfl
  show 0 + (oc_g S c 0).toNat + (oc_g S c 1).toNat + (oc_g S c 2).toNat + (oc_g S c 3).toNat + (oc_g S c 4).toNat + (oc_g S c 5).toNat = 0 + oc_fc S c 0 + oc_fc S c 1 + oc_fc S c 2
  rw [e0, e1, e2]
  omega
theorem mM_surface (l : Launch) (D : va_G) (dZ : ClassId) (ad : Nat → Nat) (v : Nat → Nat → Nat) (S : Nat → Nat → Bool) (hK : oc_K v S) (r : Int32) : oc_Mi l D (oc_tm dZ) 2 yX1_surface cX1_surface 6 (some .int) [.ref (ad 0), .int r] (oc_mW ad dZ) (oc_mW ad dZ v) (fun q u => q = q_surface S r ∧ v = u) := by
  refine oc_Mi.ofI (own := RX1) (by decide) rfl (Nat.le_of_ble_eq_true rfl) (by simp [Value.category]) [some (.ref (ad 0)), some (.int r), none, none, none, none] rfl ?_
  intro p e s m args below meth cd A Q X hret
  have fin : ∀ (n : Nat) (p3 p4 p5 : Option Value), (oc_ok 4 r = true → n = oc_sum (oc_sc (S (oc_n r))) 512) → gg p l e (oc_rm 2) s m args below meth cd Q 0 0 D A 6 (oc_mW ad dZ v) 108 [some (.ref (ad 0)), some (.int r), some (.int (nI n)), p3, p4, p5] [] := by
    intro n p3 p4 p5 hn
    refine gg_ald_n X (pc := 108) dX1_surface_108 rfl ?_
    refine gg_ild_n X (pc := 109) dX1_surface_109 rfl ?_
    refine gm_calli X (pc := 110) (mM_solid l D dZ ad v r) cn_X1_20 ⟨by decide, by decide⟩ ⟨Nat.le_refl _, Nat.le_refl _⟩ rfl rfl (Nat.le_of_ble_eq_true rfl) dX1_surface_110 (fun r1 u1 q1 => ?_)
    obtain ⟨q1, rfl⟩ := q1
    rcases q1 with ⟨k1, rfl⟩ | ⟨k1, rfl⟩
    · have ok := oc_ok_t (n := 4) (by decide) k1
      refine gg_if_eqN X (pc := 113) (tgt := 120) dX1_surface_113 (by decide) (by omega) (fun h => ?_) (fun h => ?_)
      · exact absurd h (by omega)
      · refine gg_ild_n X (pc := 116) dX1_surface_116 rfl ?_
        refine gg_goto X (pc := 117) (tgt := 121) dX1_surface_117 (by decide) ?_
        exact hret _ _ 121 _ dX1_surface_121 (⟨by rw [q_surface, ok, hn ok]; rfl, rfl⟩)
    · refine gg_if_eqN X (pc := 113) (tgt := 120) dX1_surface_113 (by decide) (by omega) (fun h => ?_) (fun h => ?_)
      · refine gg_ic X (pc := 120) dX1_surface_120 oc_icm ?_
        exact hret _ _ 121 _ dX1_surface_121 (⟨by rw [q_surface, oc_ok_f k1]; rfl, rfl⟩)
      · exact absurd rfl h
  refine gg_ic X (pc := 0) dX1_surface_0 oc_ic0 ?_
  refine gg_ist_n X (pc := 1) dX1_surface_1 (by decide) ?_
  refine gg_ic X (pc := 2) dX1_surface_2 oc_ic0 ?_
  refine gg_ist_n X (pc := 3) dX1_surface_3 (by decide) ?_
  by_cases k1 : oc_in 4 r
  · obtain ⟨j, hj, rfl⟩ := k1
    have e1 : oc_n (nI j) = j := oc_n_nI (by omega)
    have loop : ∀ (t i : Nat) (p4 p5 : Option Value), i + t = 512 → gg p l e (oc_rm 2) s m args below meth cd Q 0 0 D A 6 (oc_mW ad dZ v) 4 [some (.ref (ad 0)), some (.int (nI j)), some (.int (nI (oc_sum (oc_sc (S j)) i))), some (.int (nI i)), p4, p5] [] := by
      intro t
      induction t with
      | zero =>
        intro i p4 p5 hi
        obtain rfl : i = 512 := by omega
        refine gg_ild_n X (pc := 4) dX1_surface_4 rfl ?_
        refine gg_sp X (pc := 5) dX1_surface_5 oc_sp512 ?_
        refine gg_ic_geN X (pc := 8) (tgt := 108) dX1_surface_8 (by decide) (by omega) (by omega) (fun h => ?_) (fun h => ?_)
        · exact fin _ _ _ _ (fun _ => by rw [e1])
        · exact absurd h (by omega)
      | succ t ih =>
        intro i p4 p5 hi
        have hc : i < 512 := by omega
        have inner : ∀ (t k n : Nat) (p5 : Option Value), k + t = 6 → n = oc_sum (oc_sc (S j)) i + (if S j i = true then oc_sum (fun k => (oc_g (S j) i k).toNat) k else 0) → gg p l e (oc_rm 2) s m args below meth cd Q 0 0 D A 6 (oc_mW ad dZ v) 22 [some (.ref (ad 0)), some (.int (nI j)), some (.int (nI n)), some (.int (nI i)), some (.int (nI k)), p5] [] := by
          intro t
          induction t with
          | zero =>
            intro k n p5 hk hn
            obtain rfl : k = 6 := by omega
            refine gg_ild X (pc := 22) dX1_surface_22 rfl ?_
            refine gg_bp X (pc := 24) dX1_surface_24 oc_bp6 ?_
            refine gg_ic_geN X (pc := 26) (tgt := 102) dX1_surface_26 (by decide) (by omega) (by omega) (fun h => ?_) (fun h => ?_)
            · refine gg_iinc X (pc := 102) dX1_surface_102 rfl (oc_inc _) (by decide) ?_
              refine gg_goto X (pc := 105) (tgt := 4) dX1_surface_105 (by decide) ?_
              have g := ih (i + 1) (some (.int (nI 6))) p5 (by omega)
              have es : oc_sum (oc_sc (S j)) (i + 1) = n := by
                show oc_sum (oc_sc (S j)) i + oc_sc (S j) i = n
                rw [hn, oc_sc, oc_g_sum]
              rw [es] at g
              exact g
            · exact absurd h (by omega)
          | succ t ih2 =>
            intro k n p5 hk hn
            have hk6 : k < 6 := by omega
            have es : oc_sum (fun k => (oc_g (S j) i k).toNat) (k + 1) = oc_sum (fun k => (oc_g (S j) i k).toNat) k + (oc_g (S j) i k).toNat := rfl
            have more : ∀ (p5 : Option Value), S j i = true → oc_g (S j) i k = true → gg p l e (oc_rm 2) s m args below meth cd Q 0 0 D A 6 (oc_mW ad dZ v) 88 [some (.ref (ad 0)), some (.int (nI j)), some (.int (nI n)), some (.int (nI i)), some (.int (nI k)), p5] [] := by
              intro p5 s1 s2
              refine gg_ild_n X (pc := 88) dX1_surface_88 rfl ?_
              refine gg_ic X (pc := 89) dX1_surface_89 oc_ic1 ?_
              refine gg_iaddN X (pc := 90) dX1_surface_90 ?_
              refine gg_goto X (pc := 91) (tgt := 95) dX1_surface_91 (by decide) ?_
              refine gg_ist_n X (pc := 95) dX1_surface_95 (by decide) ?_
              refine gg_iinc X (pc := 96) dX1_surface_96 rfl (oc_inc _) (by decide) ?_
              refine gg_goto X (pc := 99) (tgt := 22) dX1_surface_99 (by decide) ?_
              refine ih2 (k + 1) (n + 1) _ (by omega) ?_
              rw [hn, if_pos s1, if_pos s1, es, s2]
              rfl
            have less : ∀ (p5 : Option Value), (S j i = true → oc_g (S j) i k = false) → gg p l e (oc_rm 2) s m args below meth cd Q 0 0 D A 6 (oc_mW ad dZ v) 94 [some (.ref (ad 0)), some (.int (nI j)), some (.int (nI n)), some (.int (nI i)), some (.int (nI k)), p5] [] := by
              intro p5 s1
              refine gg_ild_n X (pc := 94) dX1_surface_94 rfl ?_
              refine gg_ist_n X (pc := 95) dX1_surface_95 (by decide) ?_
              refine gg_iinc X (pc := 96) dX1_surface_96 rfl (oc_inc _) (by decide) ?_
              refine gg_goto X (pc := 99) (tgt := 22) dX1_surface_99 (by decide) ?_
              refine ih2 (k + 1) n _ (by omega) ?_
              rw [hn]
              by_cases s2 : S j i = true
              · rw [if_pos s2, if_pos s2, es, s1 s2]
                rfl
              · rw [if_neg s2, if_neg s2]
            have cont : ∀ (d : Int32) (p5 : Option Value), ((d = -1 ∧ oc_g (S j) i k = true) ∨ (∃ y, y < 512 ∧ d = nI y ∧ oc_g (S j) i k = !(S j y))) → gg p l e (oc_rm 2) s m args below meth cd Q 0 0 D A 6 (oc_mW ad dZ v) 50 [some (.ref (ad 0)), some (.int (nI j)), some (.int (nI n)), some (.int (nI i)), some (.int (nI k)), p5] [.int d] := by
              intro d p5 hd
              refine gg_ist X (pc := 50) dX1_surface_50 (by decide) ?_
              refine gg_ald_n X (pc := 52) dX1_surface_52 rfl ?_
              refine gm_g_in X (pc := 53) dX1_surface_53 ?_
              refine gg_sp X (pc := 56) dX1_surface_56 oc_sp512 ?_
              refine gg_ild_n X (pc := 59) dX1_surface_59 rfl ?_
              refine gg_imulN X (pc := 60) dX1_surface_60 ?_
              refine gg_ild_n X (pc := 61) dX1_surface_61 rfl ?_
              refine gg_iaddN X (pc := 62) dX1_surface_62 ?_
              refine gm_l_in X (pc := 63) dX1_surface_63 (by omega) ?_
              refine gg_top ((show nI (v 0 (512 * j + i)) = nI (S j i).toNat by rw [hK j i hj hc])) ?_
              cases hX : S j i with
              | false =>
                refine gg_if_eqN X (pc := 64) (tgt := 94) dX1_surface_64 (by decide) (by decide) (fun k1 => ?_) (fun k1 => ?_)
                · exact less _ (fun q => by rw [hX] at q; cases q)
                · exact absurd rfl k1
              | true =>
                refine gg_if_eqN X (pc := 64) (tgt := 94) dX1_surface_64 (by decide) (by decide) (fun k1 => ?_) (fun k1 => ?_)
                · exact absurd k1 (by decide)
                · refine gg_ild X (pc := 67) dX1_surface_67 rfl ?_
                  rcases hd with ⟨rfl, hg⟩ | ⟨y, hy, rfl, hg⟩
                  · refine gg_if_lt X (pc := 69) (tgt := 88) dX1_surface_69 (by decide) (fun k2 => ?_) (fun k2 => ?_)
                    · exact more _ hX hg
                    · exact absurd (by decide : (-1 : Int32) < 0) k2
                  · refine gg_if_ltN X (pc := 69) (tgt := 88) dX1_surface_69 (by decide) (by omega) ?_
                    refine gg_ald_n X (pc := 72) dX1_surface_72 rfl ?_
                    refine gm_g_in X (pc := 73) dX1_surface_73 ?_
                    refine gg_sp X (pc := 76) dX1_surface_76 oc_sp512 ?_
                    refine gg_ild_n X (pc := 79) dX1_surface_79 rfl ?_
                    refine gg_imulN X (pc := 80) dX1_surface_80 ?_
                    refine gg_ild X (pc := 81) dX1_surface_81 rfl ?_
                    refine gg_iaddN X (pc := 83) dX1_surface_83 ?_
                    refine gm_l_in X (pc := 84) dX1_surface_84 (by omega) ?_
                    refine gg_top ((show nI (v 0 (512 * j + y)) = nI (S j y).toNat by rw [hK j y hj hy])) ?_
                    cases hY : S j y with
                    | true =>
                      refine gg_if_neN X (pc := 85) (tgt := 94) dX1_surface_85 (by decide) (by decide) (fun k3 => ?_) (fun k3 => ?_)
                      · exact less _ (fun _ => by rw [hg, hY]; rfl)
                      · exact absurd k3 (by decide)
                    | false =>
                      refine gg_if_neN X (pc := 85) (tgt := 94) dX1_surface_85 (by decide) (by decide) (fun k3 => ?_) (fun k3 => ?_)
                      · exact absurd rfl k3
                      · exact more _ hX (by rw [hg, hY]; rfl)
            refine gg_ild X (pc := 22) dX1_surface_22 rfl ?_
            refine gg_bp X (pc := 24) dX1_surface_24 oc_bp6 ?_
            refine gg_ic_geN X (pc := 26) (tgt := 102) dX1_surface_26 (by decide) (by omega) (by omega) (fun h => ?_) (fun h => ?_)
            · exact absurd h (by omega)
            · refine gg_ald_n X (pc := 29) dX1_surface_29 rfl ?_
              refine gg_ild_n X (pc := 30) dX1_surface_30 rfl ?_
              refine gg_ild X (pc := 31) dX1_surface_31 rfl ?_
              refine gg_ic X (pc := 33) dX1_surface_33 oc_ic2 ?_
              refine gg_idiv X (pc := 34) dX1_surface_34 (by decide) ?_
              refine gg_top (oc_div2 k hk6) ?_
              refine gg_ild X (pc := 35) dX1_surface_35 rfl ?_
              refine gg_ic X (pc := 37) dX1_surface_37 oc_ic2 ?_
              refine gg_irem X (pc := 38) dX1_surface_38 (by decide) ?_
              refine gg_top (oc_rem2 k hk6) ?_
              refine gg_if_neN X (pc := 39) (tgt := 46) dX1_surface_39 (by decide) (by omega) (fun h2 => ?_) (fun h2 => ?_)
              · refine gg_ic X (pc := 46) dX1_surface_46 oc_icm ?_
                refine gm_calli X (pc := 47) (mM_neighM l D dZ ad v i (k / 2) hc (by omega)) cn_X1_52 ⟨by decide, by decide⟩ ⟨Nat.le_refl _, Nat.le_refl _⟩ rfl rfl (Nat.le_of_ble_eq_true rfl) dX1_surface_47 (fun r1 u1 q1 => ?_)
                obtain ⟨q1, rfl⟩ := q1
                refine cont r1 _ ?_
                rcases q1 with ⟨h3, rfl⟩ | ⟨h3, rfl⟩
                · exact Or.inl ⟨rfl, by rw [oc_g, if_neg h2, h3]; rfl⟩
                · exact Or.inr ⟨_, by omega, rfl, by rw [oc_g, if_neg h2, beq_false_of_ne h3]; rfl⟩
              · refine gg_ic X (pc := 42) dX1_surface_42 oc_ic1 ?_
                refine gg_goto X (pc := 43) (tgt := 47) dX1_surface_43 (by decide) ?_
                refine gm_calli X (pc := 47) (mM_neighP l D dZ ad v i (k / 2) hc (by omega)) cn_X1_52 ⟨by decide, by decide⟩ ⟨Nat.le_refl _, Nat.le_refl _⟩ rfl rfl (Nat.le_of_ble_eq_true rfl) dX1_surface_47 (fun r1 u1 q1 => ?_)
                obtain ⟨q1, rfl⟩ := q1
                refine cont r1 _ ?_
                rcases q1 with ⟨h3, rfl⟩ | ⟨h3, rfl⟩
                · exact Or.inl ⟨rfl, by rw [oc_g, if_pos h2, h3]; rfl⟩
                · exact Or.inr ⟨_, oc_high i hc (k / 2) (by omega) h3, rfl, by rw [oc_g, if_pos h2, beq_false_of_ne h3]; rfl⟩
        refine gg_ild_n X (pc := 4) dX1_surface_4 rfl ?_
        refine gg_sp X (pc := 5) dX1_surface_5 oc_sp512 ?_
        refine gg_ic_geN X (pc := 8) (tgt := 108) dX1_surface_8 (by decide) (by omega) (by omega) (fun h => ?_) (fun h => ?_)
        · exact absurd h (by omega)
        · refine gg_ald_n X (pc := 11) dX1_surface_11 rfl ?_
          refine gg_ild_n X (pc := 12) dX1_surface_12 rfl ?_
          refine gm_calli X (pc := 13) (mM_solid l D dZ ad v (nI j)) cn_X1_20 ⟨by decide, by decide⟩ ⟨Nat.le_refl _, Nat.le_refl _⟩ rfl rfl (Nat.le_of_ble_eq_true rfl) dX1_surface_13 (fun r1 u1 q1 => ?_)
          obtain ⟨q1, rfl⟩ := q1
          rcases q1 with ⟨k1, rfl⟩ | ⟨k1, rfl⟩
          · refine gg_if_eqN X (pc := 16) (tgt := 108) dX1_surface_16 (by decide) (by omega) (fun h2 => ?_) (fun h2 => ?_)
            · exact absurd h2 (by omega)
            · refine gg_ic X (pc := 19) dX1_surface_19 oc_ic0 ?_
              refine gg_ist X (pc := 20) dX1_surface_20 (by decide) ?_
              exact inner 6 0 _ _ (by omega) (by split <;> rfl)
          · exact absurd ⟨j, hj, rfl⟩ k1
    exact loop 512 0 _ _ (by omega)
  · refine gg_ild_n X (pc := 4) dX1_surface_4 rfl ?_
    refine gg_sp X (pc := 5) dX1_surface_5 oc_sp512 ?_
    refine gg_ic_geN X (pc := 8) (tgt := 108) dX1_surface_8 (by decide) (by omega) (by omega) (fun h => ?_) (fun h => ?_)
    · exact absurd h (by omega)
    · refine gg_ald_n X (pc := 11) dX1_surface_11 rfl ?_
      refine gg_ild_n X (pc := 12) dX1_surface_12 rfl ?_
      refine gm_calli X (pc := 13) (mM_solid l D dZ ad v r) cn_X1_20 ⟨by decide, by decide⟩ ⟨Nat.le_refl _, Nat.le_refl _⟩ rfl rfl (Nat.le_of_ble_eq_true rfl) dX1_surface_13 (fun r1 u1 q1 => ?_)
      obtain ⟨q1, rfl⟩ := q1
      rcases q1 with ⟨k2, rfl⟩ | ⟨k2, rfl⟩
      · exact absurd k2 k1
      · refine gg_if_eqN X (pc := 16) (tgt := 108) dX1_surface_16 (by decide) (by omega) (fun h2 => ?_) (fun h2 => ?_)
        · exact fin _ _ _ _ (fun ok => by rw [oc_ok_f k1] at ok; cases ok)
        · exact absurd rfl h2
def oc_kp (S : Nat → Bool) (k c d : Nat) : Bool := !(oc_cor d k && oc_alk S k c d)
theorem oc_fr_kp (S : Nat → Bool) (k c : Nat) : oc_fr S k c = (oc_cor c k && oc_all (oc_kp S k c) c) := rfl
theorem mM_kinds (l : Launch) (D : va_G) (dZ : ClassId) (ad : Nat → Nat) (v : Nat → Nat → Nat) (S : Nat → Nat → Bool) (hK : oc_K v S) (r k : Int32) : oc_Mi l D (oc_tm dZ) 2 yX1_kinds cX1_kinds 7 (some .int) [.ref (ad 0), .int r, .int k] (oc_mW ad dZ) (oc_mW ad dZ v) (fun q u => q = q_kinds S r k ∧ v = u) := by
  refine oc_Mi.ofI (own := RX1) (by decide) rfl (Nat.le_of_ble_eq_true rfl) (by simp [Value.category]) [some (.ref (ad 0)), some (.int r), some (.int k), none, none, none, none] rfl ?_
  intro p e s m args below meth cd A Q X hret
  have no : (oc_ok 4 r && oc_ok 4 k) = false → gg p l e (oc_rm 2) s m args below meth cd Q 0 0 D A 7 (oc_mW ad dZ v) 17 [some (.ref (ad 0)), some (.int r), some (.int k), none, none, none, none] [] := by
    intro h
    refine gg_ic X (pc := 17) dX1_kinds_17 oc_icm ?_
    exact hret _ _ 18 _ dX1_kinds_18 (⟨by rw [q_kinds, h]; rfl, rfl⟩)
  refine gg_ald_n X (pc := 0) dX1_kinds_0 rfl ?_
  refine gg_ild_n X (pc := 1) dX1_kinds_1 rfl ?_
  refine gm_calli X (pc := 2) (mM_solid l D dZ ad v r) cn_X1_20 ⟨by decide, by decide⟩ ⟨Nat.le_refl _, Nat.le_refl _⟩ rfl rfl (Nat.le_of_ble_eq_true rfl) dX1_kinds_2 (fun r1 u1 q1 => ?_)
  obtain ⟨q1, rfl⟩ := q1
  rcases q1 with ⟨k1, rfl⟩ | ⟨k1, rfl⟩
  · refine gg_if_eqN X (pc := 5) (tgt := 17) dX1_kinds_5 (by decide) (by omega) (fun h => ?_) (fun h => ?_)
    · exact absurd h (by omega)
    · refine gg_ild_n X (pc := 8) dX1_kinds_8 rfl ?_
      refine gg_if_lt X (pc := 9) (tgt := 17) dX1_kinds_9 (by decide) (fun h1 => ?_) (fun h1 => ?_)
      · exact no (by rw [oc_ok_f (oc_in_neg (r := k) (by decide) h1)]; simp)
      · refine gg_ild_n X (pc := 12) dX1_kinds_12 rfl ?_
        refine gg_ic X (pc := 13) dX1_kinds_13 oc_ic3 ?_
        refine gg_ic_le X (pc := 14) (tgt := 19) dX1_kinds_14 (by decide) (fun h2 => ?_) (fun h2 => ?_)
        · obtain ⟨z, hz, rfl⟩ := oc_in_le (by decide) h1 h2
          obtain ⟨j, hj, rfl⟩ := k1
          have ok1 := oc_ok_t (n := 4) (by decide) ⟨j, hj, rfl⟩
          have ok2 := oc_ok_t (n := 4) (r := nI z) (by decide) ⟨z, hz, rfl⟩
          have e1 : oc_n (nI j) = j := oc_n_nI (by omega)
          have e2 : oc_n (nI z) = z := oc_n_nI (by omega)
          have loop : ∀ (t i : Nat) (p5 p6 : Option Value), i + t = 512 → gg p l e (oc_rm 2) s m args below meth cd Q 0 0 D A 7 (oc_mW ad dZ v) 24 [some (.ref (ad 0)), some (.int (nI j)), some (.int (nI z)), some (.int (nI (oc_cnt (oc_fr (S j) z) i))), some (.int (nI i)), p5, p6] [] := by
            intro t
            induction t with
            | zero =>
              intro i p5 p6 hi
              obtain rfl : i = 512 := by omega
              refine gg_ild X (pc := 24) dX1_kinds_24 rfl ?_
              refine gg_sp X (pc := 26) dX1_kinds_26 oc_sp512 ?_
              refine gg_ic_geN X (pc := 29) (tgt := 111) dX1_kinds_29 (by decide) (by omega) (by omega) (fun h => ?_) (fun h => ?_)
              · refine gg_ild_n X (pc := 111) dX1_kinds_111 rfl ?_
                exact hret _ _ 112 _ dX1_kinds_112 (⟨by rw [q_kinds, ok1, ok2, e1, e2]; rfl, rfl⟩)
              · exact absurd h (by omega)
            | succ t ih =>
              intro i p5 p6 hi
              have hc : i < 512 := by omega
              have fin : ∀ (b : Bool) (p6 : Option Value), b = oc_fr (S j) z i → gg p l e (oc_rm 2) s m args below meth cd Q 0 0 D A 7 (oc_mW ad dZ v) 92 [some (.ref (ad 0)), some (.int (nI j)), some (.int (nI z)), some (.int (nI (oc_cnt (oc_fr (S j) z) i))), some (.int (nI i)), some (.int (nI b.toNat)), p6] [] := by
                intro b p6 hb
                refine gg_ild X (pc := 92) dX1_kinds_92 rfl ?_
                cases b with
                | true =>
                  refine gg_if_eqN X (pc := 94) (tgt := 103) dX1_kinds_94 (by decide) (by decide) (fun k => ?_) (fun k => ?_)
                  · exact absurd k (by decide)
                  · refine gg_ild_n X (pc := 97) dX1_kinds_97 rfl ?_
                    refine gg_ic X (pc := 98) dX1_kinds_98 oc_ic1 ?_
                    refine gg_iaddN X (pc := 99) dX1_kinds_99 ?_
                    refine gg_goto X (pc := 100) (tgt := 104) dX1_kinds_100 (by decide) ?_
                    refine gg_ist_n X (pc := 104) dX1_kinds_104 (by decide) ?_
                    refine gg_iinc X (pc := 105) dX1_kinds_105 rfl (oc_inc _) (by decide) ?_
                    refine gg_goto X (pc := 108) (tgt := 24) dX1_kinds_108 (by decide) ?_
                    have g := ih (i + 1) (some (.int (nI true.toNat))) p6 (by omega)
                    rw [oc_cnt_s1 hb.symm] at g
                    exact g
                | false =>
                  refine gg_if_eqN X (pc := 94) (tgt := 103) dX1_kinds_94 (by decide) (by decide) (fun k => ?_) (fun k => ?_)
                  · refine gg_ild_n X (pc := 103) dX1_kinds_103 rfl ?_
                    refine gg_ist_n X (pc := 104) dX1_kinds_104 (by decide) ?_
                    refine gg_iinc X (pc := 105) dX1_kinds_105 rfl (oc_inc _) (by decide) ?_
                    refine gg_goto X (pc := 108) (tgt := 24) dX1_kinds_108 (by decide) ?_
                    have g := ih (i + 1) (some (.int (nI false.toNat))) p6 (by omega)
                    rw [oc_cnt_s0 hb.symm] at g
                    exact g
                  · exact absurd rfl k
              have inner : ∀ (t d : Nat) (b : Bool), d + t = i → b = (oc_cor i z && oc_all (oc_kp (S j) z i) d) → gg p l e (oc_rm 2) s m args below meth cd Q 0 0 D A 7 (oc_mW ad dZ v) 44 [some (.ref (ad 0)), some (.int (nI j)), some (.int (nI z)), some (.int (nI (oc_cnt (oc_fr (S j) z) i))), some (.int (nI i)), some (.int (nI b.toNat)), some (.int (nI d))] [] := by
                intro t
                induction t with
                | zero =>
                  intro d b hd hb
                  obtain rfl : d = i := by omega
                  refine gg_ild X (pc := 44) dX1_kinds_44 rfl ?_
                  refine gg_ild X (pc := 46) dX1_kinds_46 rfl ?_
                  refine gg_ic_geN X (pc := 48) (tgt := 92) dX1_kinds_48 (by decide) (by omega) (by omega) (fun h => ?_) (fun h => ?_)
                  · exact fin b _ hb
                  · exact absurd h (by omega)
                | succ t ih2 =>
                  intro d b hd hb
                  have hd5 : d < 512 := by omega
                  have es : oc_all (oc_kp (S j) z i) (d + 1) = (oc_all (oc_kp (S j) z i) d && oc_kp (S j) z i d) := rfl
                  refine gg_ild X (pc := 44) dX1_kinds_44 rfl ?_
                  refine gg_ild X (pc := 46) dX1_kinds_46 rfl ?_
                  refine gg_ic_geN X (pc := 48) (tgt := 92) dX1_kinds_48 (by decide) (by omega) (by omega) (fun h => ?_) (fun h => ?_)
                  · exact absurd h (by omega)
                  · refine gg_ild X (pc := 51) dX1_kinds_51 rfl ?_
                    cases b with
                    | false =>
                      refine gg_if_eqN X (pc := 53) (tgt := 92) dX1_kinds_53 (by decide) (by decide) (fun k1 => ?_) (fun k1 => ?_)
                      · refine fin false _ ?_
                        rw [oc_fr_kp]
                        cases q : oc_cor i z with
                        | false => rfl
                        | true =>
                          rw [q, Bool.true_and] at hb
                          rw [Bool.true_and, oc_all_n (show d ≤ i by omega) hb.symm]
                      · exact absurd rfl k1
                    | true =>
                      have c1 : oc_cor i z = true := by
                        cases q : oc_cor i z with
                        | true => rfl
                        | false => rw [q] at hb; cases hb
                      rw [c1, Bool.true_and] at hb
                      refine gg_if_eqN X (pc := 53) (tgt := 92) dX1_kinds_53 (by decide) (by decide) (fun k1 => ?_) (fun k1 => ?_)
                      · exact absurd k1 (by decide)
                      · refine gg_ald_n X (pc := 56) dX1_kinds_56 rfl ?_
                        refine gg_ild X (pc := 57) dX1_kinds_57 rfl ?_
                        refine gg_ild_n X (pc := 59) dX1_kinds_59 rfl ?_
                        refine gm_calli X (pc := 60) (mM_corner l D dZ ad v d z hd5 hz) cn_X1_46 ⟨by decide, by decide⟩ ⟨Nat.le_refl _, Nat.le_refl _⟩ rfl rfl (Nat.le_of_ble_eq_true rfl) dX1_kinds_60 (fun r1 u1 q1 => ?_)
                        obtain ⟨rfl, rfl⟩ := q1
                        cases hT : oc_cor d z with
                        | false =>
                          refine gg_if_eqN X (pc := 63) (tgt := 79) dX1_kinds_63 (by decide) (by decide) (fun k2 => ?_) (fun k2 => ?_)
                          · refine gg_ic X (pc := 79) dX1_kinds_79 oc_ic1 ?_
                            refine gg_goto X (pc := 80) (tgt := 84) dX1_kinds_80 (by decide) ?_
                            refine gg_ist X (pc := 84) dX1_kinds_84 (by decide) ?_
                            refine gg_iinc X (pc := 86) dX1_kinds_86 rfl (oc_inc _) (by decide) ?_
                            refine gg_goto X (pc := 89) (tgt := 44) dX1_kinds_89 (by decide) ?_
                            exact ih2 (d + 1) true (by omega) (by rw [c1, es, ← hb, oc_kp, hT]; rfl)
                          · exact absurd rfl k2
                        | true =>
                          refine gg_if_eqN X (pc := 63) (tgt := 79) dX1_kinds_63 (by decide) (by decide) (fun k2 => ?_) (fun k2 => ?_)
                          · exact absurd k2 (by decide)
                          · refine gg_ald_n X (pc := 66) dX1_kinds_66 rfl ?_
                            refine gg_ild_n X (pc := 67) dX1_kinds_67 rfl ?_
                            refine gg_ild X (pc := 68) dX1_kinds_68 rfl ?_
                            refine gg_ild X (pc := 70) dX1_kinds_70 rfl ?_
                            refine gg_ild_n X (pc := 72) dX1_kinds_72 rfl ?_
                            refine gm_calli X (pc := 73) (mM_alike l D dZ ad v S hK j i d z hj hc hd5 hz c1 hT) cn_X1_56 ⟨by decide, by decide⟩ ⟨Nat.le_refl _, Nat.le_refl _⟩ rfl rfl (Nat.le_of_ble_eq_true rfl) dX1_kinds_73 (fun r1 u1 q1 => ?_)
                            obtain ⟨rfl, rfl⟩ := q1
                            cases hL : oc_alk (S j) z i d with
                            | true =>
                              refine gg_if_neN X (pc := 76) (tgt := 83) dX1_kinds_76 (by decide) (by decide) (fun k3 => ?_) (fun k3 => ?_)
                              · refine gg_ic X (pc := 83) dX1_kinds_83 oc_ic0 ?_
                                refine gg_ist X (pc := 84) dX1_kinds_84 (by decide) ?_
                                refine gg_iinc X (pc := 86) dX1_kinds_86 rfl (oc_inc _) (by decide) ?_
                                refine gg_goto X (pc := 89) (tgt := 44) dX1_kinds_89 (by decide) ?_
                                exact ih2 (d + 1) false (by omega) (by rw [c1, es, ← hb, oc_kp, hT, hL]; rfl)
                              · exact absurd k3 (by decide)
                            | false =>
                              refine gg_if_neN X (pc := 76) (tgt := 83) dX1_kinds_76 (by decide) (by decide) (fun k3 => ?_) (fun k3 => ?_)
                              · exact absurd rfl k3
                              · refine gg_ic X (pc := 79) dX1_kinds_79 oc_ic1 ?_
                                refine gg_goto X (pc := 80) (tgt := 84) dX1_kinds_80 (by decide) ?_
                                refine gg_ist X (pc := 84) dX1_kinds_84 (by decide) ?_
                                refine gg_iinc X (pc := 86) dX1_kinds_86 rfl (oc_inc _) (by decide) ?_
                                refine gg_goto X (pc := 89) (tgt := 44) dX1_kinds_89 (by decide) ?_
                                exact ih2 (d + 1) true (by omega) (by rw [c1, es, ← hb, oc_kp, hT, hL]; rfl)
              refine gg_ild X (pc := 24) dX1_kinds_24 rfl ?_
              refine gg_sp X (pc := 26) dX1_kinds_26 oc_sp512 ?_
              refine gg_ic_geN X (pc := 29) (tgt := 111) dX1_kinds_29 (by decide) (by omega) (by omega) (fun h => ?_) (fun h => ?_)
              · exact absurd h (by omega)
              · refine gg_ald_n X (pc := 32) dX1_kinds_32 rfl ?_
                refine gg_ild X (pc := 33) dX1_kinds_33 rfl ?_
                refine gg_ild_n X (pc := 35) dX1_kinds_35 rfl ?_
                refine gm_calli X (pc := 36) (mM_corner l D dZ ad v i z hc hz) cn_X1_46 ⟨by decide, by decide⟩ ⟨Nat.le_refl _, Nat.le_refl _⟩ rfl rfl (Nat.le_of_ble_eq_true rfl) dX1_kinds_36 (fun r1 u1 q1 => ?_)
                obtain ⟨rfl, rfl⟩ := q1
                refine gg_ist X (pc := 39) dX1_kinds_39 (by decide) ?_
                refine gg_ic X (pc := 41) dX1_kinds_41 oc_ic0 ?_
                refine gg_ist X (pc := 42) dX1_kinds_42 (by decide) ?_
                exact inner i 0 _ (by omega) (by rw [show oc_all (oc_kp (S j) z i) 0 = true from rfl, Bool.and_true])
          refine gg_ic X (pc := 19) dX1_kinds_19 oc_ic0 ?_
          refine gg_ist_n X (pc := 20) dX1_kinds_20 (by decide) ?_
          refine gg_ic X (pc := 21) dX1_kinds_21 oc_ic0 ?_
          refine gg_ist X (pc := 22) dX1_kinds_22 (by decide) ?_
          exact loop 512 0 _ _ (by omega)
        · exact no (by rw [oc_ok_f (oc_in_nle (n := 3) (r := k) (by decide) h2)]; simp)
  · refine gg_if_eqN X (pc := 5) (tgt := 17) dX1_kinds_5 (by decide) (by omega) (fun h => ?_) (fun h => ?_)
    · exact no (by rw [oc_ok_f k1]; simp)
    · exact absurd rfl h
end
section
/-! the constructors -/
set_option maxRecDepth 100000
section GI
variable {p : Program} {l : Launch} {e : Env} {R : Room} {s : State} {m : MethodId} {args : Array Value} {below : List Frame} {meth : Method} {c : Code} {Q : State → Prop} {cells slots : Nat} {D : va_G} {A : Nat → Prop} {nL : Nat} {ws : va_W} {pc : Nat} {lo : List (Option Value)} {st : List Value}
variable {cc : ByteArray} {own : String} {tys : List (ClassId × FieldType)}
theorem gg_objInit (X : oc_X p s m args meth c cc nL own D tys A) {idx a : Nat} (hq : Cond.methodLink own idx ({ cls := "java/lang/Object", name := "<init>", desc := "()V" } : MethodName) ∈ lw_all) (hd : decode cc pc = .ok (.invokespecial idx, 3)) (hf : 1 ≤ R.frames) (hr : 12 ≤ R.locals) (kk : gg p l e R s m args below meth c Q (cells) (slots) D A nL (ws) (pc + 3) lo ([])) : gg p l e R s m args below meth c Q (cells) (slots) D A nL (ws) (pc) lo ([.ref a]) := by
  intro H locs ls hP hD hS hl
  refine W.objInit X.1 X.2.1 X.2.2.2.1 (X.2.2.2.2.1 _ hq) (X.2.2.2.2.1 _ q31) (X.2.2.2.2.1 _ q32) rfl (by rw [X.2.2.1]; exact hl.1) rfl hd hf (Nat.le_trans (Nat.le_of_ble_eq_true rfl) hr) ?_
  exact kk H locs ls hP hD hS hl
theorem gg_newS (X : oc_X p s m args meth c cc nL own D tys A) {t0 : Nat} {cA : ClassId} (ht : tys[t0]? = some (cA, .short)) {N : Nat} (x0 : Int32) (hx : x0 = 0) (hN : N < 2147483648) (hb : N * componentBytes .short ≤ 536870912) (hc : cells + 1 ≤ R.cells) (hs : slots + N ≤ R.slots) (hd : decode cc pc = .ok (.newarray .short, 2)) (kk : ∀ q : Nat, gg p l e R s m args below meth c Q (cells + 1) (slots + N) D A nL (ws ++ [(q, .inl (cA, N, .inl (fun _ => x0)))]) (pc + 2) lo (.ref q :: st)) : gg p l e R s m args below meth c Q (cells) (slots) D A nL (ws) (pc) lo (.int (nI N) :: st) := by
  intro H locs ls hP hD hS hl
  have h0 : ¬ nI N < 0 := nI_pos (by omega)
  refine va_newa (atype := .short) (ty := .short) (a0 := (N, .inl (fun _ => x0))) X.1 X.2.1 (X.2.2.2.2.1 _ q86) rfl X.2.2.2.2.2.1 hP hD hS X.2.2.2.2.2.2.2 (fun cA => by rw [hx]; rfl) h0 (nI_clamp (by omega)) hb hc hs hd (fun q cB H1 hK1 hP1 hD1 hS1 => ?_)
  have e1 : s.vm.findClass ("[" ++ (FieldType.short).toString) = some cB := (hK1.2 tys.length (cB, .short) (by simp)).2
  have e2 : s.vm.findClass ("[" ++ (FieldType.short).toString) = some cA := (X.2.2.2.2.2.1.2 t0 _ ht).2
  obtain rfl : cB = cA := Option.some.inj (e1.symm.trans e2)
  exact kk q H1 locs ls hP1 hD1 hS1 hl
theorem gg_newZ (X : oc_X p s m args meth c cc nL own D tys A) {t0 : Nat} {cA : ClassId} (ht : tys[t0]? = some (cA, .boolean)) {N : Nat} (x0 : Int32) (hx : x0 = 0) (hN : N < 2147483648) (hb : N * componentBytes .boolean ≤ 536870912) (hc : cells + 1 ≤ R.cells) (hs : slots + N ≤ R.slots) (hd : decode cc pc = .ok (.newarray .boolean, 2)) (kk : ∀ q : Nat, gg p l e R s m args below meth c Q (cells + 1) (slots + N) D A nL (ws ++ [(q, .inl (cA, N, .inl (fun _ => x0)))]) (pc + 2) lo (.ref q :: st)) : gg p l e R s m args below meth c Q (cells) (slots) D A nL (ws) (pc) lo (.int (nI N) :: st) := by
  intro H locs ls hP hD hS hl
  have h0 : ¬ nI N < 0 := nI_pos (by omega)
  refine va_newa (atype := .boolean) (ty := .boolean) (a0 := (N, .inl (fun _ => x0))) X.1 X.2.1 (X.2.2.2.2.1 _ q87) rfl X.2.2.2.2.2.1 hP hD hS X.2.2.2.2.2.2.2 (fun cA => by rw [hx]; rfl) h0 (nI_clamp (by omega)) hb hc hs hd (fun q cB H1 hK1 hP1 hD1 hS1 => ?_)
  have e1 : s.vm.findClass ("[" ++ (FieldType.boolean).toString) = some cB := (hK1.2 tys.length (cB, .boolean) (by simp)).2
  have e2 : s.vm.findClass ("[" ++ (FieldType.boolean).toString) = some cA := (X.2.2.2.2.2.1.2 t0 _ ht).2
  obtain rfl : cB = cA := Option.some.inj (e1.symm.trans e2)
  exact kk q H1 locs ls hP1 hD1 hS1 hl
theorem gx_putF (X : oc_X p s m args meth c cc nL RX0 D tys A) (hin : meth.name = "<init>") (k : Nat) (hk : k < 16) {idx : Nat} (hq : Cond.fieldLink RX0 idx (TX0 k).1 (TX0 k).2.1 (TX0 k).2.2.1 ∈ lw_all) (hfin : (TX0 k).2.2.2 = true) (hdc : (TX0 k).1 = RX0) {ty : FieldType} (hds : parseFieldDescriptor (TX0 k).2.2.1 = some ty) {w : Value} (hn : narrow ty w = w) (hfit : fits ty w = true) {a : Nat} {fs : List Value} (he : ws[0]? = some (a, .inr (0, fs))) (hlen : k < fs.length) (hd : decode cc pc = .ok (.putfield idx, 3)) {ws' : va_W} (hw : ws.set 0 (a, .inr (0, fs.set k w)) = ws') (kk : gg p l e R s m args below meth c Q (cells) (slots) D A nL (ws') (pc + 3) lo (st)) : gg p l e R s m args below meth c Q (cells) (slots) D A nL (ws) (pc) lo (w :: .ref a :: st) := by
  intro H locs ls hP hD hS hl
  refine va_putF (D := D) (ci := 0) (v := w) (ty := ty) (C := RX0) (T := TX0) (N := 16) X.1 X.2.1 X.2.2.2.2.1 in_X0 tyX0 tyX0_ok nmX0 X.2.2.2.1 X.2.2.2.2.2.1 hP hD hS 0 he rfl k hk (X.2.2.2.2.1 _ hq) (fun _ h9 => h9) hfin hin hdc hds hn hfit hlen hd (fun H1 locs1 hP hD hS => ?_)
  rw [hw] at hP hD
  exact kk H1 locs1 ls hP hD hS hl
theorem gm_put (X : oc_X p s m args meth c cc nL RX1 D tys A) (k : Nat) (hk : k < 2) {idx : Nat} (hq : Cond.fieldLink RX1 idx (TX1 k).1 (TX1 k).2.1 (TX1 k).2.2.1 ∈ lw_all) (hfin : (TX1 k).2.2.2 = false) {ty : FieldType} (hds : parseFieldDescriptor (TX1 k).2.2.1 = some ty) {w : Value} (hn : narrow ty w = w) (hfit : fits ty w = true) {a : Nat} {fs : List Value} (he : ws[0]? = some (a, .inr (1, fs))) (hlen : k < fs.length) (hd : decode cc pc = .ok (.putfield idx, 3)) {ws' : va_W} (hw : ws.set 0 (a, .inr (1, fs.set k w)) = ws') (kk : gg p l e R s m args below meth c Q (cells) (slots) D A nL (ws') (pc + 3) lo (st)) : gg p l e R s m args below meth c Q (cells) (slots) D A nL (ws) (pc) lo (w :: .ref a :: st) := by
  intro H locs ls hP hD hS hl
  refine va_put (D := D) (ci := 1) (v := w) (ty := ty) (C := RX1) (T := TX1) (N := 2) X.1 X.2.1 X.2.2.2.2.1 in_X1 tyX1 tyX1_ok nmX1 X.2.2.2.1 X.2.2.2.2.2.1 hP hD hS 0 he rfl k hk (X.2.2.2.2.1 _ hq) (fun _ h9 => h9) hfin hds hn hfit hlen hd (fun H1 locs1 hP hD hS => ?_)
  rw [hw] at hP hD
  exact kk H1 locs1 ls hP hD hS hl
end GI
/-- a constructor: mc cells of ms slots come -/
def oc_rn (mc ms : Nat) : Room := { frames := 1, cells := mc, slots := ms, locals := 28 }
def oc_Mn (l : Launch) (D : va_G) (tys : List (ClassId × FieldType)) (mc ms : Nat) (y : MethodName) (b : ByteArray) (As : List Value) {S : Type} (Wf : S → va_W) (W0 : va_W) (post : S → Prop) : Prop :=
  ∀ sz : Nat, Met l y (ws_ y b 1 none) (oc_rn mc ms) (va_Pc As (oc_U D tys W0 sz)) (va_Qv post (oc_B D Wf (va_A W0 sz)) (va_A W0 sz)) mc ms (va_A W0 sz)
theorem oc_Mn.of {l : Launch} {D : va_G} {tys : List (ClassId × FieldType)} {mc ms : Nat} {y : MethodName} {b : ByteArray} {As : List Value} {S : Type} {Wf : S → va_W} {W0 : va_W} {post : S → Prop} {own : String} (hy : plainName y.cls = true) (ho : y.cls = own) (hi : y.name = "<init>") (hAs : (lg_sl As).length ≤ 1) (hc : ∀ w ∈ As, w.category = 1) (lo : List (Option Value)) (hlo : lo = As.map some ++ List.replicate (1 - As.length) none)
    (body : ∀ (p : Program) (e : Env) (s : State) (m : MethodId) (args : Array Value) (below : List Frame) (meth : Method) (c : Code) (A : Nat → Prop) (Q : State → Prop), oc_X p s m args meth c b 1 own D tys A → meth.name = "<init>" → (∀ (u : S) (pc : Nat) (lo : List (Option Value)), decode b pc = .ok (.return_, 1) → post u → gg p l e (oc_rn mc ms) s m args below meth c Q mc ms D A 1 (Wf u) pc lo []) → gg p l e (oc_rn mc ms) s m args below meth c Q 0 0 D A 1 W0 0 lo []) : oc_Mn l D tys mc ms y b As Wf W0 post := by
  intro sz
  refine Met.ofW (cc := b) (maxL := 1) (ret := none) hy rfl ?_
  intro p e s m args below meth c s₁ B hml hv
  obtain ⟨rfl, hsz, hP, hK, hD0⟩ := hv
  have hts := atoms_spec (ws := ws_ y b 1 none) B.pre
  have hts : ∀ w ∈ lw_all, w.before _ s = true := fun w h => hts w (List.mem_cons_of_mem _ h)
  have hown : s.vm.findClass y.cls = some m.cls := findClass_of_methodNamed B.named
  have hin : meth.name = "<init>" := (name_of_methodNamed B.named B.method).1.trans hi
  rw [ho] at hown
  subst hsz
  have hD := hD0.self (sz := s.heap.size)
  have hl := lv_entry As (n := 1) hAs
  rw [lg_entry_eq]
  have X : oc_X p s m As.toArray meth c b 1 own D tys (va_A W0 s.heap.size) := ⟨B.exec, B.bytes, hml, hown, hts, hK, B.notSynchronized, fun q h => Or.inr h⟩
  exact body p e s m _ below meth c _ _ X hin (fun u pc lo hd hp => gg_vret X B.returns u hd hp) s.heap [] _ hP hD va_S.rf (oc_entry hl hc hlo)
def oc_f0 : List Value := [.null, .null, .null, .null, .int (nI 0), .null, .null, .null, .null, .null, .int (nI 0), .int (nI 0), .int (nI 0), .int (nI 0), .int (nI 0), .int (nI 0)]
def oc_z (a : Nat) (_ : Nat) : Nat := match a with
  | 2 => 1
  | 3 => 1
  | _ => 0
def oc_ad (a q1 q2 q3 q4 q5 q6 q7 q8 q9 : Nat) (i : Nat) : Nat := match i with
  | 0 => a
  | 1 => q1
  | 2 => q2
  | 3 => q3
  | 4 => q4
  | 5 => q5
  | 6 => q6
  | 7 => q7
  | 8 => q8
  | _ => q9
def oc_am (a q1 q2 : Nat) (i : Nat) : Nat := match i with
  | 0 => a
  | 1 => q1
  | _ => q2
theorem oc_J0 {v : Nat → Nat → Nat} (h0 : ∀ j, v 0 j = 0) (h1 : ∀ j, v 1 j = 0) (h5 : ∀ j, v 5 j = 0) : oc_J v (fun _ _ => false) := by
  refine ⟨fun j _ => by rw [h0]; decide, fun r _ => ?_, fun m n hm _ _ => ?_⟩
  · rw [h5]
    exact Or.inl ⟨false, rfl, fun _ _ => rfl⟩
  · have := hm.2
    rw [h1] at this
    cases this
theorem oc_K0 : oc_K (fun _ _ => 0) (fun _ _ => false) := fun _ _ _ _ => rfl
theorem mX_init (l : Launch) (D : va_G) (dS dZ : ClassId) (a0 : Nat) : oc_Mn l D (oc_tx dS dZ) 9 5972 yX0_init cX0_init [.ref a0] (fun u : (Nat → Nat) × (Nat → Nat → Nat) => oc_xW u.1 dS dZ u.2) [(a0, .inr (0, oc_f0))] (fun u => u.1 0 = a0 ∧ oc_J u.2 (fun _ _ => false)) := by
  refine oc_Mn.of (own := RX0) (by decide) rfl rfl (Nat.le_of_ble_eq_true rfl) (by simp [Value.category]) [some (.ref a0)] rfl ?_
  intro p e s m args below meth cd A Q X hin hret
  refine gg_ald_n X (pc := 0) dX0_init_0 rfl ?_
  refine gg_objInit X (pc := 1) q30 dX0_init_1 (by decide) (by decide) ?_
  refine gg_ald_n X (pc := 4) dX0_init_4 rfl ?_
  refine gg_sp X (pc := 5) dX0_init_5 oc_sp4096 ?_
  refine gg_newS X (pc := 8) (t0 := 0) rfl (nI 0) (by decide +kernel) (by decide) (by decide) (by decide) (by decide) dX0_init_8 (fun q1 => ?_)
  refine gx_putF X hin (pc := 10) 0 (by decide) q37 rfl rfl (show _ = some (.array .short) by decide +kernel) rfl rfl rfl (Nat.le_of_ble_eq_true rfl) dX0_init_10 (ws' := [(a0, .inr (0, [.ref q1, .null, .null, .null, .int (nI 0), .null, .null, .null, .null, .null, .int (nI 0), .int (nI 0), .int (nI 0), .int (nI 0), .int (nI 0), .int (nI 0)])), (q1, .inl (dS, 4096, .inl (fun _ => nI 0)))]) rfl ?_
  refine gg_ald_n X (pc := 13) dX0_init_13 rfl ?_
  refine gg_sp X (pc := 14) dX0_init_14 oc_sp512 ?_
  refine gg_newZ X (pc := 17) (t0 := 1) rfl (nI 0) (by decide +kernel) (by decide) (by decide) (by decide) (by decide) dX0_init_17 (fun q2 => ?_)
  refine gx_putF X hin (pc := 19) 1 (by decide) q38 rfl rfl (show _ = some (.array .boolean) by decide +kernel) rfl rfl rfl (Nat.le_of_ble_eq_true rfl) dX0_init_19 (ws' := [(a0, .inr (0, [.ref q1, .ref q2, .null, .null, .int (nI 0), .null, .null, .null, .null, .null, .int (nI 0), .int (nI 0), .int (nI 0), .int (nI 0), .int (nI 0), .int (nI 0)])), (q1, .inl (dS, 4096, .inl (fun _ => nI 0))), (q2, .inl (dZ, 512, .inl (fun _ => nI 0)))]) rfl ?_
  refine gg_ald_n X (pc := 22) dX0_init_22 rfl ?_
  refine gg_sp X (pc := 23) dX0_init_23 oc_sp256 ?_
  refine gg_newS X (pc := 26) (t0 := 0) rfl (oc_c 1) (by decide +kernel) (by decide) (by decide) (by decide) (by decide) dX0_init_26 (fun q3 => ?_)
  refine gx_putF X hin (pc := 28) 2 (by decide) q39 rfl rfl (show _ = some (.array .short) by decide +kernel) rfl rfl rfl (Nat.le_of_ble_eq_true rfl) dX0_init_28 (ws' := [(a0, .inr (0, [.ref q1, .ref q2, .ref q3, .null, .int (nI 0), .null, .null, .null, .null, .null, .int (nI 0), .int (nI 0), .int (nI 0), .int (nI 0), .int (nI 0), .int (nI 0)])), (q1, .inl (dS, 4096, .inl (fun _ => nI 0))), (q2, .inl (dZ, 512, .inl (fun _ => nI 0))), (q3, .inl (dS, 256, .inl (fun _ => oc_c 1)))]) rfl ?_
  refine gg_ald_n X (pc := 31) dX0_init_31 rfl ?_
  refine gg_sp X (pc := 32) dX0_init_32 oc_sp512 ?_
  refine gg_newS X (pc := 35) (t0 := 0) rfl (oc_c 1) (by decide +kernel) (by decide) (by decide) (by decide) (by decide) dX0_init_35 (fun q4 => ?_)
  refine gx_putF X hin (pc := 37) 3 (by decide) q40 rfl rfl (show _ = some (.array .short) by decide +kernel) rfl rfl rfl (Nat.le_of_ble_eq_true rfl) dX0_init_37 (ws' := [(a0, .inr (0, [.ref q1, .ref q2, .ref q3, .ref q4, .int (nI 0), .null, .null, .null, .null, .null, .int (nI 0), .int (nI 0), .int (nI 0), .int (nI 0), .int (nI 0), .int (nI 0)])), (q1, .inl (dS, 4096, .inl (fun _ => nI 0))), (q2, .inl (dZ, 512, .inl (fun _ => nI 0))), (q3, .inl (dS, 256, .inl (fun _ => oc_c 1))), (q4, .inl (dS, 512, .inl (fun _ => oc_c 1)))]) rfl ?_
  refine gg_ald_n X (pc := 40) dX0_init_40 rfl ?_
  refine gg_sp X (pc := 41) dX0_init_41 oc_sp512 ?_
  refine gg_newZ X (pc := 44) (t0 := 1) rfl (nI 0) (by decide +kernel) (by decide) (by decide) (by decide) (by decide) dX0_init_44 (fun q5 => ?_)
  refine gx_putF X hin (pc := 46) 5 (by decide) q42 rfl rfl (show _ = some (.array .boolean) by decide +kernel) rfl rfl rfl (Nat.le_of_ble_eq_true rfl) dX0_init_46 (ws' := [(a0, .inr (0, [.ref q1, .ref q2, .ref q3, .ref q4, .int (nI 0), .ref q5, .null, .null, .null, .null, .int (nI 0), .int (nI 0), .int (nI 0), .int (nI 0), .int (nI 0), .int (nI 0)])), (q1, .inl (dS, 4096, .inl (fun _ => nI 0))), (q2, .inl (dZ, 512, .inl (fun _ => nI 0))), (q3, .inl (dS, 256, .inl (fun _ => oc_c 1))), (q4, .inl (dS, 512, .inl (fun _ => oc_c 1))), (q5, .inl (dZ, 512, .inl (fun _ => nI 0)))]) rfl ?_
  refine gg_ald_n X (pc := 49) dX0_init_49 rfl ?_
  refine gg_ic X (pc := 50) dX0_init_50 oc_ic4 ?_
  refine gg_newS X (pc := 51) (t0 := 0) rfl (nI 0) (by decide +kernel) (by decide) (by decide) (by decide) (by decide) dX0_init_51 (fun q6 => ?_)
  refine gx_putF X hin (pc := 53) 6 (by decide) q43 rfl rfl (show _ = some (.array .short) by decide +kernel) rfl rfl rfl (Nat.le_of_ble_eq_true rfl) dX0_init_53 (ws' := [(a0, .inr (0, [.ref q1, .ref q2, .ref q3, .ref q4, .int (nI 0), .ref q5, .ref q6, .null, .null, .null, .int (nI 0), .int (nI 0), .int (nI 0), .int (nI 0), .int (nI 0), .int (nI 0)])), (q1, .inl (dS, 4096, .inl (fun _ => nI 0))), (q2, .inl (dZ, 512, .inl (fun _ => nI 0))), (q3, .inl (dS, 256, .inl (fun _ => oc_c 1))), (q4, .inl (dS, 512, .inl (fun _ => oc_c 1))), (q5, .inl (dZ, 512, .inl (fun _ => nI 0))), (q6, .inl (dS, 4, .inl (fun _ => nI 0)))]) rfl ?_
  refine gg_ald_n X (pc := 56) dX0_init_56 rfl ?_
  refine gg_bp X (pc := 57) dX0_init_57 oc_bp8 ?_
  refine gg_newS X (pc := 59) (t0 := 0) rfl (nI 0) (by decide +kernel) (by decide) (by decide) (by decide) (by decide) dX0_init_59 (fun q7 => ?_)
  refine gx_putF X hin (pc := 61) 7 (by decide) q44 rfl rfl (show _ = some (.array .short) by decide +kernel) rfl rfl rfl (Nat.le_of_ble_eq_true rfl) dX0_init_61 (ws' := [(a0, .inr (0, [.ref q1, .ref q2, .ref q3, .ref q4, .int (nI 0), .ref q5, .ref q6, .ref q7, .null, .null, .int (nI 0), .int (nI 0), .int (nI 0), .int (nI 0), .int (nI 0), .int (nI 0)])), (q1, .inl (dS, 4096, .inl (fun _ => nI 0))), (q2, .inl (dZ, 512, .inl (fun _ => nI 0))), (q3, .inl (dS, 256, .inl (fun _ => oc_c 1))), (q4, .inl (dS, 512, .inl (fun _ => oc_c 1))), (q5, .inl (dZ, 512, .inl (fun _ => nI 0))), (q6, .inl (dS, 4, .inl (fun _ => nI 0))), (q7, .inl (dS, 8, .inl (fun _ => nI 0)))]) rfl ?_
  refine gg_ald_n X (pc := 64) dX0_init_64 rfl ?_
  refine gg_bp X (pc := 65) dX0_init_65 oc_bp64 ?_
  refine gg_newS X (pc := 67) (t0 := 0) rfl (nI 0) (by decide +kernel) (by decide) (by decide) (by decide) (by decide) dX0_init_67 (fun q8 => ?_)
  refine gx_putF X hin (pc := 69) 8 (by decide) q45 rfl rfl (show _ = some (.array .short) by decide +kernel) rfl rfl rfl (Nat.le_of_ble_eq_true rfl) dX0_init_69 (ws' := [(a0, .inr (0, [.ref q1, .ref q2, .ref q3, .ref q4, .int (nI 0), .ref q5, .ref q6, .ref q7, .ref q8, .null, .int (nI 0), .int (nI 0), .int (nI 0), .int (nI 0), .int (nI 0), .int (nI 0)])), (q1, .inl (dS, 4096, .inl (fun _ => nI 0))), (q2, .inl (dZ, 512, .inl (fun _ => nI 0))), (q3, .inl (dS, 256, .inl (fun _ => oc_c 1))), (q4, .inl (dS, 512, .inl (fun _ => oc_c 1))), (q5, .inl (dZ, 512, .inl (fun _ => nI 0))), (q6, .inl (dS, 4, .inl (fun _ => nI 0))), (q7, .inl (dS, 8, .inl (fun _ => nI 0))), (q8, .inl (dS, 64, .inl (fun _ => nI 0)))]) rfl ?_
  refine gg_ald_n X (pc := 72) dX0_init_72 rfl ?_
  refine gg_bp X (pc := 73) dX0_init_73 oc_bp8 ?_
  refine gg_newS X (pc := 75) (t0 := 0) rfl (nI 0) (by decide +kernel) (by decide) (by decide) (by decide) (by decide) dX0_init_75 (fun q9 => ?_)
  refine gx_putF X hin (pc := 77) 9 (by decide) q46 rfl rfl (show _ = some (.array .short) by decide +kernel) rfl rfl rfl (Nat.le_of_ble_eq_true rfl) dX0_init_77 (ws' := [(a0, .inr (0, [.ref q1, .ref q2, .ref q3, .ref q4, .int (nI 0), .ref q5, .ref q6, .ref q7, .ref q8, .ref q9, .int (nI 0), .int (nI 0), .int (nI 0), .int (nI 0), .int (nI 0), .int (nI 0)])), (q1, .inl (dS, 4096, .inl (fun _ => nI 0))), (q2, .inl (dZ, 512, .inl (fun _ => nI 0))), (q3, .inl (dS, 256, .inl (fun _ => oc_c 1))), (q4, .inl (dS, 512, .inl (fun _ => oc_c 1))), (q5, .inl (dZ, 512, .inl (fun _ => nI 0))), (q6, .inl (dS, 4, .inl (fun _ => nI 0))), (q7, .inl (dS, 8, .inl (fun _ => nI 0))), (q8, .inl (dS, 64, .inl (fun _ => nI 0))), (q9, .inl (dS, 8, .inl (fun _ => nI 0)))]) rfl ?_
  refine gg_ws (ws' := oc_xW (oc_ad a0 q1 q2 q3 q4 q5 q6 q7 q8 q9) dS dZ oc_z) rfl ?_
  refine gg_ald_n X (pc := 80) dX0_init_80 rfl ?_
  refine gx_callv X (pc := 81) (mX_clearChains l D dS dZ (oc_ad a0 q1 q2 q3 q4 q5 q6 q7 q8 q9) oc_z) cn_X0_38 ⟨by decide, by decide⟩ ⟨by decide, by decide⟩ rfl rfl (Nat.le_of_ble_eq_true rfl) dX0_init_81 (fun u1 k1 => ?_)
  refine gg_ald_n X (pc := 84) dX0_init_84 rfl ?_
  refine gg_ic X (pc := 85) dX0_init_85 oc_ic2 ?_
  refine gx_p_free X (pc := 86) dX0_init_86 ?_
  have z0 : ∀ j, oc_up u1 9 0 2 0 j = 0 := fun j => by rw [oc_up_a _ _ _ _ (by decide), k1, if_neg (fun q => absurd q.1 (by decide))]; rfl
  have z1 : ∀ j, oc_up u1 9 0 2 1 j = 0 := fun j => by rw [oc_up_a _ _ _ _ (by decide), k1, if_neg (fun q => absurd q.1 (by decide))]; rfl
  have z5 : ∀ j, oc_up u1 9 0 2 5 j = 0 := fun j => by rw [oc_up_a _ _ _ _ (by decide), k1, if_neg (fun q => absurd q.1 (by decide))]; rfl
  exact hret (oc_ad a0 q1 q2 q3 q4 q5 q6 q7 q8 q9, oc_up u1 9 0 2) 89 _ dX0_init_89 ⟨rfl, oc_J0 z0 z1 z5⟩
theorem mM_init (l : Launch) (D : va_G) (dZ : ClassId) (a0 : Nat) : oc_Mn l D (oc_tm dZ) 2 2560 yX1_init cX1_init [.ref a0] (fun u : (Nat → Nat) × (Nat → Nat → Nat) => oc_mW u.1 dZ u.2) [(a0, .inr (1, [.null, .null]))] (fun u => u.1 0 = a0 ∧ oc_K u.2 (fun _ _ => false)) := by
  refine oc_Mn.of (own := RX1) (by decide) rfl rfl (Nat.le_of_ble_eq_true rfl) (by simp [Value.category]) [some (.ref a0)] rfl ?_
  intro p e s m args below meth cd A Q X hin hret
  refine gg_ald_n X (pc := 0) dX1_init_0 rfl ?_
  refine gg_objInit X (pc := 1) q212 dX1_init_1 (by decide) (by decide) ?_
  refine gg_ald_n X (pc := 4) dX1_init_4 rfl ?_
  refine gg_sp X (pc := 5) dX1_init_5 oc_sp2048 ?_
  refine gg_newZ X (pc := 8) (t0 := 0) rfl (nI 0) (by decide +kernel) (by decide) (by decide) (by decide) (by decide) dX1_init_8 (fun q1 => ?_)
  refine gm_put X (pc := 10) 0 (by decide) q213 rfl (show _ = some (.array .boolean) by decide +kernel) rfl rfl rfl (Nat.le_of_ble_eq_true rfl) dX1_init_10 (ws' := [(a0, .inr (1, [.ref q1, .null])), (q1, .inl (dZ, 2048, .inl (fun _ => nI 0)))]) rfl ?_
  refine gg_ald_n X (pc := 13) dX1_init_13 rfl ?_
  refine gg_sp X (pc := 14) dX1_init_14 oc_sp512 ?_
  refine gg_newZ X (pc := 17) (t0 := 0) rfl (nI 0) (by decide +kernel) (by decide) (by decide) (by decide) (by decide) dX1_init_17 (fun q2 => ?_)
  refine gm_put X (pc := 19) 1 (by decide) q214 rfl (show _ = some (.array .boolean) by decide +kernel) rfl rfl rfl (Nat.le_of_ble_eq_true rfl) dX1_init_19 (ws' := [(a0, .inr (1, [.ref q1, .ref q2])), (q1, .inl (dZ, 2048, .inl (fun _ => nI 0))), (q2, .inl (dZ, 512, .inl (fun _ => nI 0)))]) rfl ?_
  exact hret (oc_am a0 q1 q2, fun _ _ => 0) 22 _ dX1_init_22 ⟨rfl, oc_K0⟩
end
section
set_option maxRecDepth 100000
theorem dL_law_0 : decode cL_law 0 = .ok (.new 7, 3) := by decide +kernel
theorem dL_law_3 : decode cL_law 3 = .ok (.dup, 1) := by decide +kernel
theorem dL_law_4 : decode cL_law 4 = .ok (.invokespecial 9, 3) := by decide +kernel
theorem dL_law_7 : decode cL_law 7 = .ok (.astore_n 1, 1) := by decide +kernel
theorem dL_law_8 : decode cL_law 8 = .ok (.new 10, 3) := by decide +kernel
theorem dL_law_11 : decode cL_law 11 = .ok (.dup, 1) := by decide +kernel
theorem dL_law_12 : decode cL_law 12 = .ok (.invokespecial 12, 3) := by decide +kernel
theorem dL_law_15 : decode cL_law 15 = .ok (.astore_n 2, 1) := by decide +kernel
theorem dL_law_16 : decode cL_law 16 = .ok (.iconst 0, 1) := by decide +kernel
theorem dL_law_17 : decode cL_law 17 = .ok (.istore_n 3, 1) := by decide +kernel
theorem dL_law_18 : decode cL_law 18 = .ok (.iload_n 3, 1) := by decide +kernel
theorem dL_law_19 : decode cL_law 19 = .ok (.aload_n 0, 1) := by decide +kernel
theorem dL_law_20 : decode cL_law 20 = .ok (.arraylength, 1) := by decide +kernel
theorem dL_law_21 : decode cL_law 21 = .ok (.iconst 5, 1) := by decide +kernel
theorem dL_law_22 : decode cL_law 22 = .ok (.isub, 1) := by decide +kernel
theorem dL_law_23 : decode cL_law 23 = .ok (.if_icmp .gt 532, 3) := by decide +kernel
theorem dL_law_26 : decode cL_law 26 = .ok (.aload_n 0, 1) := by decide +kernel
theorem dL_law_27 : decode cL_law 27 = .ok (.iload_n 3, 1) := by decide +kernel
theorem dL_law_28 : decode cL_law 28 = .ok (.iaload, 1) := by decide +kernel
theorem dL_law_29 : decode cL_law 29 = .ok (.bipush 15, 2) := by decide +kernel
theorem dL_law_31 : decode cL_law 31 = .ok (.iand, 1) := by decide +kernel
theorem dL_law_32 : decode cL_law 32 = .ok (.tableswitch 517 0 12 #[68, 121, 174, 207, 250, 273, 306, 339, 372, 395, 428, 451, 484], 68) := by decide +kernel
theorem dL_law_100 : decode cL_law 100 = .ok (.aload_n 1, 1) := by decide +kernel
theorem dL_law_101 : decode cL_law 101 = .ok (.aload_n 0, 1) := by decide +kernel
theorem dL_law_102 : decode cL_law 102 = .ok (.iload_n 3, 1) := by decide +kernel
theorem dL_law_103 : decode cL_law 103 = .ok (.iconst 1, 1) := by decide +kernel
theorem dL_law_104 : decode cL_law 104 = .ok (.iadd, 1) := by decide +kernel
theorem dL_law_105 : decode cL_law 105 = .ok (.iaload, 1) := by decide +kernel
theorem dL_law_106 : decode cL_law 106 = .ok (.aload_n 0, 1) := by decide +kernel
theorem dL_law_107 : decode cL_law 107 = .ok (.iload_n 3, 1) := by decide +kernel
theorem dL_law_108 : decode cL_law 108 = .ok (.iconst 2, 1) := by decide +kernel
theorem dL_law_109 : decode cL_law 109 = .ok (.iadd, 1) := by decide +kernel
theorem dL_law_110 : decode cL_law 110 = .ok (.iaload, 1) := by decide +kernel
theorem dL_law_111 : decode cL_law 111 = .ok (.aload_n 0, 1) := by decide +kernel
theorem dL_law_112 : decode cL_law 112 = .ok (.iload_n 3, 1) := by decide +kernel
theorem dL_law_113 : decode cL_law 113 = .ok (.iconst 3, 1) := by decide +kernel
theorem dL_law_114 : decode cL_law 114 = .ok (.iadd, 1) := by decide +kernel
theorem dL_law_115 : decode cL_law 115 = .ok (.iaload, 1) := by decide +kernel
theorem dL_law_116 : decode cL_law 116 = .ok (.aload_n 0, 1) := by decide +kernel
theorem dL_law_117 : decode cL_law 117 = .ok (.iload_n 3, 1) := by decide +kernel
theorem dL_law_118 : decode cL_law 118 = .ok (.iconst 4, 1) := by decide +kernel
theorem dL_law_119 : decode cL_law 119 = .ok (.iadd, 1) := by decide +kernel
theorem dL_law_120 : decode cL_law 120 = .ok (.iaload, 1) := by decide +kernel
theorem dL_law_121 : decode cL_law 121 = .ok (.invokevirtual 13, 3) := by decide +kernel
theorem dL_law_124 : decode cL_law 124 = .ok (.aload_n 2, 1) := by decide +kernel
theorem dL_law_125 : decode cL_law 125 = .ok (.aload_n 0, 1) := by decide +kernel
theorem dL_law_126 : decode cL_law 126 = .ok (.iload_n 3, 1) := by decide +kernel
theorem dL_law_127 : decode cL_law 127 = .ok (.iconst 1, 1) := by decide +kernel
theorem dL_law_128 : decode cL_law 128 = .ok (.iadd, 1) := by decide +kernel
theorem dL_law_129 : decode cL_law 129 = .ok (.iaload, 1) := by decide +kernel
theorem dL_law_130 : decode cL_law 130 = .ok (.aload_n 0, 1) := by decide +kernel
theorem dL_law_131 : decode cL_law 131 = .ok (.iload_n 3, 1) := by decide +kernel
theorem dL_law_132 : decode cL_law 132 = .ok (.iconst 2, 1) := by decide +kernel
theorem dL_law_133 : decode cL_law 133 = .ok (.iadd, 1) := by decide +kernel
theorem dL_law_134 : decode cL_law 134 = .ok (.iaload, 1) := by decide +kernel
theorem dL_law_135 : decode cL_law 135 = .ok (.aload_n 0, 1) := by decide +kernel
theorem dL_law_136 : decode cL_law 136 = .ok (.iload_n 3, 1) := by decide +kernel
theorem dL_law_137 : decode cL_law 137 = .ok (.iconst 3, 1) := by decide +kernel
theorem dL_law_138 : decode cL_law 138 = .ok (.iadd, 1) := by decide +kernel
theorem dL_law_139 : decode cL_law 139 = .ok (.iaload, 1) := by decide +kernel
theorem dL_law_140 : decode cL_law 140 = .ok (.aload_n 0, 1) := by decide +kernel
theorem dL_law_141 : decode cL_law 141 = .ok (.iload_n 3, 1) := by decide +kernel
theorem dL_law_142 : decode cL_law 142 = .ok (.iconst 4, 1) := by decide +kernel
theorem dL_law_143 : decode cL_law 143 = .ok (.iadd, 1) := by decide +kernel
theorem dL_law_144 : decode cL_law 144 = .ok (.iaload, 1) := by decide +kernel
theorem dL_law_145 : decode cL_law 145 = .ok (.invokevirtual 17, 3) := by decide +kernel
theorem dL_law_148 : decode cL_law 148 = .ok (.if_icmp .eq 401, 3) := by decide +kernel
theorem dL_law_151 : decode cL_law 151 = .ok (.iconst 0, 1) := by decide +kernel
theorem dL_law_152 : decode cL_law 152 = .ok (.ireturn, 1) := by decide +kernel
theorem dL_law_153 : decode cL_law 153 = .ok (.aload_n 1, 1) := by decide +kernel
theorem dL_law_154 : decode cL_law 154 = .ok (.aload_n 0, 1) := by decide +kernel
theorem dL_law_155 : decode cL_law 155 = .ok (.iload_n 3, 1) := by decide +kernel
theorem dL_law_156 : decode cL_law 156 = .ok (.iconst 1, 1) := by decide +kernel
theorem dL_law_157 : decode cL_law 157 = .ok (.iadd, 1) := by decide +kernel
theorem dL_law_158 : decode cL_law 158 = .ok (.iaload, 1) := by decide +kernel
theorem dL_law_159 : decode cL_law 159 = .ok (.aload_n 0, 1) := by decide +kernel
theorem dL_law_160 : decode cL_law 160 = .ok (.iload_n 3, 1) := by decide +kernel
theorem dL_law_161 : decode cL_law 161 = .ok (.iconst 2, 1) := by decide +kernel
theorem dL_law_162 : decode cL_law 162 = .ok (.iadd, 1) := by decide +kernel
theorem dL_law_163 : decode cL_law 163 = .ok (.iaload, 1) := by decide +kernel
theorem dL_law_164 : decode cL_law 164 = .ok (.aload_n 0, 1) := by decide +kernel
theorem dL_law_165 : decode cL_law 165 = .ok (.iload_n 3, 1) := by decide +kernel
theorem dL_law_166 : decode cL_law 166 = .ok (.iconst 3, 1) := by decide +kernel
theorem dL_law_167 : decode cL_law 167 = .ok (.iadd, 1) := by decide +kernel
theorem dL_law_168 : decode cL_law 168 = .ok (.iaload, 1) := by decide +kernel
theorem dL_law_169 : decode cL_law 169 = .ok (.aload_n 0, 1) := by decide +kernel
theorem dL_law_170 : decode cL_law 170 = .ok (.iload_n 3, 1) := by decide +kernel
theorem dL_law_171 : decode cL_law 171 = .ok (.iconst 4, 1) := by decide +kernel
theorem dL_law_172 : decode cL_law 172 = .ok (.iadd, 1) := by decide +kernel
theorem dL_law_173 : decode cL_law 173 = .ok (.iaload, 1) := by decide +kernel
theorem dL_law_174 : decode cL_law 174 = .ok (.invokevirtual 18, 3) := by decide +kernel
theorem dL_law_177 : decode cL_law 177 = .ok (.aload_n 2, 1) := by decide +kernel
theorem dL_law_178 : decode cL_law 178 = .ok (.aload_n 0, 1) := by decide +kernel
theorem dL_law_179 : decode cL_law 179 = .ok (.iload_n 3, 1) := by decide +kernel
theorem dL_law_180 : decode cL_law 180 = .ok (.iconst 1, 1) := by decide +kernel
theorem dL_law_181 : decode cL_law 181 = .ok (.iadd, 1) := by decide +kernel
theorem dL_law_182 : decode cL_law 182 = .ok (.iaload, 1) := by decide +kernel
theorem dL_law_183 : decode cL_law 183 = .ok (.aload_n 0, 1) := by decide +kernel
theorem dL_law_184 : decode cL_law 184 = .ok (.iload_n 3, 1) := by decide +kernel
theorem dL_law_185 : decode cL_law 185 = .ok (.iconst 2, 1) := by decide +kernel
end
section
set_option maxRecDepth 100000
theorem dL_law_186 : decode cL_law 186 = .ok (.iadd, 1) := by decide +kernel
theorem dL_law_187 : decode cL_law 187 = .ok (.iaload, 1) := by decide +kernel
theorem dL_law_188 : decode cL_law 188 = .ok (.aload_n 0, 1) := by decide +kernel
theorem dL_law_189 : decode cL_law 189 = .ok (.iload_n 3, 1) := by decide +kernel
theorem dL_law_190 : decode cL_law 190 = .ok (.iconst 3, 1) := by decide +kernel
theorem dL_law_191 : decode cL_law 191 = .ok (.iadd, 1) := by decide +kernel
theorem dL_law_192 : decode cL_law 192 = .ok (.iaload, 1) := by decide +kernel
theorem dL_law_193 : decode cL_law 193 = .ok (.aload_n 0, 1) := by decide +kernel
theorem dL_law_194 : decode cL_law 194 = .ok (.iload_n 3, 1) := by decide +kernel
theorem dL_law_195 : decode cL_law 195 = .ok (.iconst 4, 1) := by decide +kernel
theorem dL_law_196 : decode cL_law 196 = .ok (.iadd, 1) := by decide +kernel
theorem dL_law_197 : decode cL_law 197 = .ok (.iaload, 1) := by decide +kernel
theorem dL_law_198 : decode cL_law 198 = .ok (.invokevirtual 21, 3) := by decide +kernel
theorem dL_law_201 : decode cL_law 201 = .ok (.if_icmp .eq 348, 3) := by decide +kernel
theorem dL_law_204 : decode cL_law 204 = .ok (.iconst 0, 1) := by decide +kernel
theorem dL_law_205 : decode cL_law 205 = .ok (.ireturn, 1) := by decide +kernel
theorem dL_law_206 : decode cL_law 206 = .ok (.aload_n 1, 1) := by decide +kernel
theorem dL_law_207 : decode cL_law 207 = .ok (.aload_n 0, 1) := by decide +kernel
theorem dL_law_208 : decode cL_law 208 = .ok (.iload_n 3, 1) := by decide +kernel
theorem dL_law_209 : decode cL_law 209 = .ok (.iconst 1, 1) := by decide +kernel
theorem dL_law_210 : decode cL_law 210 = .ok (.iadd, 1) := by decide +kernel
theorem dL_law_211 : decode cL_law 211 = .ok (.iaload, 1) := by decide +kernel
theorem dL_law_212 : decode cL_law 212 = .ok (.aload_n 0, 1) := by decide +kernel
theorem dL_law_213 : decode cL_law 213 = .ok (.iload_n 3, 1) := by decide +kernel
theorem dL_law_214 : decode cL_law 214 = .ok (.iconst 2, 1) := by decide +kernel
theorem dL_law_215 : decode cL_law 215 = .ok (.iadd, 1) := by decide +kernel
theorem dL_law_216 : decode cL_law 216 = .ok (.iaload, 1) := by decide +kernel
theorem dL_law_217 : decode cL_law 217 = .ok (.invokevirtual 22, 3) := by decide +kernel
theorem dL_law_220 : decode cL_law 220 = .ok (.aload_n 2, 1) := by decide +kernel
theorem dL_law_221 : decode cL_law 221 = .ok (.aload_n 0, 1) := by decide +kernel
theorem dL_law_222 : decode cL_law 222 = .ok (.iload_n 3, 1) := by decide +kernel
theorem dL_law_223 : decode cL_law 223 = .ok (.iconst 1, 1) := by decide +kernel
theorem dL_law_224 : decode cL_law 224 = .ok (.iadd, 1) := by decide +kernel
theorem dL_law_225 : decode cL_law 225 = .ok (.iaload, 1) := by decide +kernel
theorem dL_law_226 : decode cL_law 226 = .ok (.aload_n 0, 1) := by decide +kernel
theorem dL_law_227 : decode cL_law 227 = .ok (.iload_n 3, 1) := by decide +kernel
theorem dL_law_228 : decode cL_law 228 = .ok (.iconst 2, 1) := by decide +kernel
theorem dL_law_229 : decode cL_law 229 = .ok (.iadd, 1) := by decide +kernel
theorem dL_law_230 : decode cL_law 230 = .ok (.iaload, 1) := by decide +kernel
theorem dL_law_231 : decode cL_law 231 = .ok (.invokevirtual 26, 3) := by decide +kernel
theorem dL_law_234 : decode cL_law 234 = .ok (.if_icmp .eq 315, 3) := by decide +kernel
theorem dL_law_237 : decode cL_law 237 = .ok (.iconst 0, 1) := by decide +kernel
theorem dL_law_238 : decode cL_law 238 = .ok (.ireturn, 1) := by decide +kernel
theorem dL_law_239 : decode cL_law 239 = .ok (.aload_n 1, 1) := by decide +kernel
theorem dL_law_240 : decode cL_law 240 = .ok (.aload_n 0, 1) := by decide +kernel
theorem dL_law_241 : decode cL_law 241 = .ok (.iload_n 3, 1) := by decide +kernel
theorem dL_law_242 : decode cL_law 242 = .ok (.iconst 1, 1) := by decide +kernel
theorem dL_law_243 : decode cL_law 243 = .ok (.iadd, 1) := by decide +kernel
theorem dL_law_244 : decode cL_law 244 = .ok (.iaload, 1) := by decide +kernel
theorem dL_law_245 : decode cL_law 245 = .ok (.aload_n 0, 1) := by decide +kernel
theorem dL_law_246 : decode cL_law 246 = .ok (.iload_n 3, 1) := by decide +kernel
theorem dL_law_247 : decode cL_law 247 = .ok (.iconst 2, 1) := by decide +kernel
theorem dL_law_248 : decode cL_law 248 = .ok (.iadd, 1) := by decide +kernel
theorem dL_law_249 : decode cL_law 249 = .ok (.iaload, 1) := by decide +kernel
theorem dL_law_250 : decode cL_law 250 = .ok (.aload_n 0, 1) := by decide +kernel
theorem dL_law_251 : decode cL_law 251 = .ok (.iload_n 3, 1) := by decide +kernel
theorem dL_law_252 : decode cL_law 252 = .ok (.iconst 3, 1) := by decide +kernel
theorem dL_law_253 : decode cL_law 253 = .ok (.iadd, 1) := by decide +kernel
theorem dL_law_254 : decode cL_law 254 = .ok (.iaload, 1) := by decide +kernel
theorem dL_law_255 : decode cL_law 255 = .ok (.invokevirtual 27, 3) := by decide +kernel
theorem dL_law_258 : decode cL_law 258 = .ok (.aload_n 2, 1) := by decide +kernel
theorem dL_law_259 : decode cL_law 259 = .ok (.aload_n 0, 1) := by decide +kernel
theorem dL_law_260 : decode cL_law 260 = .ok (.iload_n 3, 1) := by decide +kernel
theorem dL_law_261 : decode cL_law 261 = .ok (.iconst 1, 1) := by decide +kernel
theorem dL_law_262 : decode cL_law 262 = .ok (.iadd, 1) := by decide +kernel
theorem dL_law_263 : decode cL_law 263 = .ok (.iaload, 1) := by decide +kernel
theorem dL_law_264 : decode cL_law 264 = .ok (.aload_n 0, 1) := by decide +kernel
theorem dL_law_265 : decode cL_law 265 = .ok (.iload_n 3, 1) := by decide +kernel
theorem dL_law_266 : decode cL_law 266 = .ok (.iconst 2, 1) := by decide +kernel
theorem dL_law_267 : decode cL_law 267 = .ok (.iadd, 1) := by decide +kernel
theorem dL_law_268 : decode cL_law 268 = .ok (.iaload, 1) := by decide +kernel
theorem dL_law_269 : decode cL_law 269 = .ok (.aload_n 0, 1) := by decide +kernel
theorem dL_law_270 : decode cL_law 270 = .ok (.iload_n 3, 1) := by decide +kernel
theorem dL_law_271 : decode cL_law 271 = .ok (.iconst 3, 1) := by decide +kernel
theorem dL_law_272 : decode cL_law 272 = .ok (.iadd, 1) := by decide +kernel
theorem dL_law_273 : decode cL_law 273 = .ok (.iaload, 1) := by decide +kernel
theorem dL_law_274 : decode cL_law 274 = .ok (.invokevirtual 31, 3) := by decide +kernel
theorem dL_law_277 : decode cL_law 277 = .ok (.if_icmp .eq 272, 3) := by decide +kernel
theorem dL_law_280 : decode cL_law 280 = .ok (.iconst 0, 1) := by decide +kernel
theorem dL_law_281 : decode cL_law 281 = .ok (.ireturn, 1) := by decide +kernel
theorem dL_law_282 : decode cL_law 282 = .ok (.aload_n 1, 1) := by decide +kernel
theorem dL_law_283 : decode cL_law 283 = .ok (.aload_n 0, 1) := by decide +kernel
theorem dL_law_284 : decode cL_law 284 = .ok (.iload_n 3, 1) := by decide +kernel
theorem dL_law_285 : decode cL_law 285 = .ok (.iconst 1, 1) := by decide +kernel
theorem dL_law_286 : decode cL_law 286 = .ok (.iadd, 1) := by decide +kernel
theorem dL_law_287 : decode cL_law 287 = .ok (.iaload, 1) := by decide +kernel
theorem dL_law_288 : decode cL_law 288 = .ok (.invokevirtual 32, 3) := by decide +kernel
theorem dL_law_291 : decode cL_law 291 = .ok (.aload_n 2, 1) := by decide +kernel
theorem dL_law_292 : decode cL_law 292 = .ok (.aload_n 0, 1) := by decide +kernel
theorem dL_law_293 : decode cL_law 293 = .ok (.iload_n 3, 1) := by decide +kernel
theorem dL_law_294 : decode cL_law 294 = .ok (.iconst 1, 1) := by decide +kernel
theorem dL_law_295 : decode cL_law 295 = .ok (.iadd, 1) := by decide +kernel
theorem dL_law_296 : decode cL_law 296 = .ok (.iaload, 1) := by decide +kernel
theorem dL_law_297 : decode cL_law 297 = .ok (.invokevirtual 36, 3) := by decide +kernel
theorem dL_law_300 : decode cL_law 300 = .ok (.if_icmp .eq 249, 3) := by decide +kernel
theorem dL_law_303 : decode cL_law 303 = .ok (.iconst 0, 1) := by decide +kernel
theorem dL_law_304 : decode cL_law 304 = .ok (.ireturn, 1) := by decide +kernel
theorem dL_law_305 : decode cL_law 305 = .ok (.aload_n 1, 1) := by decide +kernel
theorem dL_law_306 : decode cL_law 306 = .ok (.aload_n 0, 1) := by decide +kernel
theorem dL_law_307 : decode cL_law 307 = .ok (.iload_n 3, 1) := by decide +kernel
end
section
set_option maxRecDepth 100000
theorem dL_law_308 : decode cL_law 308 = .ok (.iconst 1, 1) := by decide +kernel
theorem dL_law_309 : decode cL_law 309 = .ok (.iadd, 1) := by decide +kernel
theorem dL_law_310 : decode cL_law 310 = .ok (.iaload, 1) := by decide +kernel
theorem dL_law_311 : decode cL_law 311 = .ok (.aload_n 0, 1) := by decide +kernel
theorem dL_law_312 : decode cL_law 312 = .ok (.iload_n 3, 1) := by decide +kernel
theorem dL_law_313 : decode cL_law 313 = .ok (.iconst 2, 1) := by decide +kernel
theorem dL_law_314 : decode cL_law 314 = .ok (.iadd, 1) := by decide +kernel
theorem dL_law_315 : decode cL_law 315 = .ok (.iaload, 1) := by decide +kernel
theorem dL_law_316 : decode cL_law 316 = .ok (.invokevirtual 37, 3) := by decide +kernel
theorem dL_law_319 : decode cL_law 319 = .ok (.aload_n 2, 1) := by decide +kernel
theorem dL_law_320 : decode cL_law 320 = .ok (.aload_n 0, 1) := by decide +kernel
theorem dL_law_321 : decode cL_law 321 = .ok (.iload_n 3, 1) := by decide +kernel
theorem dL_law_322 : decode cL_law 322 = .ok (.iconst 1, 1) := by decide +kernel
theorem dL_law_323 : decode cL_law 323 = .ok (.iadd, 1) := by decide +kernel
theorem dL_law_324 : decode cL_law 324 = .ok (.iaload, 1) := by decide +kernel
theorem dL_law_325 : decode cL_law 325 = .ok (.aload_n 0, 1) := by decide +kernel
theorem dL_law_326 : decode cL_law 326 = .ok (.iload_n 3, 1) := by decide +kernel
theorem dL_law_327 : decode cL_law 327 = .ok (.iconst 2, 1) := by decide +kernel
theorem dL_law_328 : decode cL_law 328 = .ok (.iadd, 1) := by decide +kernel
theorem dL_law_329 : decode cL_law 329 = .ok (.iaload, 1) := by decide +kernel
theorem dL_law_330 : decode cL_law 330 = .ok (.invokevirtual 40, 3) := by decide +kernel
theorem dL_law_333 : decode cL_law 333 = .ok (.if_icmp .eq 216, 3) := by decide +kernel
theorem dL_law_336 : decode cL_law 336 = .ok (.iconst 0, 1) := by decide +kernel
theorem dL_law_337 : decode cL_law 337 = .ok (.ireturn, 1) := by decide +kernel
theorem dL_law_338 : decode cL_law 338 = .ok (.aload_n 1, 1) := by decide +kernel
theorem dL_law_339 : decode cL_law 339 = .ok (.aload_n 0, 1) := by decide +kernel
theorem dL_law_340 : decode cL_law 340 = .ok (.iload_n 3, 1) := by decide +kernel
theorem dL_law_341 : decode cL_law 341 = .ok (.iconst 1, 1) := by decide +kernel
theorem dL_law_342 : decode cL_law 342 = .ok (.iadd, 1) := by decide +kernel
theorem dL_law_343 : decode cL_law 343 = .ok (.iaload, 1) := by decide +kernel
theorem dL_law_344 : decode cL_law 344 = .ok (.aload_n 0, 1) := by decide +kernel
theorem dL_law_345 : decode cL_law 345 = .ok (.iload_n 3, 1) := by decide +kernel
theorem dL_law_346 : decode cL_law 346 = .ok (.iconst 2, 1) := by decide +kernel
theorem dL_law_347 : decode cL_law 347 = .ok (.iadd, 1) := by decide +kernel
theorem dL_law_348 : decode cL_law 348 = .ok (.iaload, 1) := by decide +kernel
theorem dL_law_349 : decode cL_law 349 = .ok (.invokevirtual 41, 3) := by decide +kernel
theorem dL_law_352 : decode cL_law 352 = .ok (.aload_n 2, 1) := by decide +kernel
theorem dL_law_353 : decode cL_law 353 = .ok (.aload_n 0, 1) := by decide +kernel
theorem dL_law_354 : decode cL_law 354 = .ok (.iload_n 3, 1) := by decide +kernel
theorem dL_law_355 : decode cL_law 355 = .ok (.iconst 1, 1) := by decide +kernel
theorem dL_law_356 : decode cL_law 356 = .ok (.iadd, 1) := by decide +kernel
theorem dL_law_357 : decode cL_law 357 = .ok (.iaload, 1) := by decide +kernel
theorem dL_law_358 : decode cL_law 358 = .ok (.aload_n 0, 1) := by decide +kernel
theorem dL_law_359 : decode cL_law 359 = .ok (.iload_n 3, 1) := by decide +kernel
theorem dL_law_360 : decode cL_law 360 = .ok (.iconst 2, 1) := by decide +kernel
theorem dL_law_361 : decode cL_law 361 = .ok (.iadd, 1) := by decide +kernel
theorem dL_law_362 : decode cL_law 362 = .ok (.iaload, 1) := by decide +kernel
theorem dL_law_363 : decode cL_law 363 = .ok (.invokevirtual 44, 3) := by decide +kernel
theorem dL_law_366 : decode cL_law 366 = .ok (.if_icmp .eq 183, 3) := by decide +kernel
theorem dL_law_369 : decode cL_law 369 = .ok (.iconst 0, 1) := by decide +kernel
theorem dL_law_370 : decode cL_law 370 = .ok (.ireturn, 1) := by decide +kernel
theorem dL_law_371 : decode cL_law 371 = .ok (.aload_n 1, 1) := by decide +kernel
theorem dL_law_372 : decode cL_law 372 = .ok (.aload_n 0, 1) := by decide +kernel
theorem dL_law_373 : decode cL_law 373 = .ok (.iload_n 3, 1) := by decide +kernel
theorem dL_law_374 : decode cL_law 374 = .ok (.iconst 1, 1) := by decide +kernel
theorem dL_law_375 : decode cL_law 375 = .ok (.iadd, 1) := by decide +kernel
theorem dL_law_376 : decode cL_law 376 = .ok (.iaload, 1) := by decide +kernel
theorem dL_law_377 : decode cL_law 377 = .ok (.aload_n 0, 1) := by decide +kernel
theorem dL_law_378 : decode cL_law 378 = .ok (.iload_n 3, 1) := by decide +kernel
theorem dL_law_379 : decode cL_law 379 = .ok (.iconst 2, 1) := by decide +kernel
theorem dL_law_380 : decode cL_law 380 = .ok (.iadd, 1) := by decide +kernel
theorem dL_law_381 : decode cL_law 381 = .ok (.iaload, 1) := by decide +kernel
theorem dL_law_382 : decode cL_law 382 = .ok (.invokevirtual 45, 3) := by decide +kernel
theorem dL_law_385 : decode cL_law 385 = .ok (.aload_n 2, 1) := by decide +kernel
theorem dL_law_386 : decode cL_law 386 = .ok (.aload_n 0, 1) := by decide +kernel
theorem dL_law_387 : decode cL_law 387 = .ok (.iload_n 3, 1) := by decide +kernel
theorem dL_law_388 : decode cL_law 388 = .ok (.iconst 1, 1) := by decide +kernel
theorem dL_law_389 : decode cL_law 389 = .ok (.iadd, 1) := by decide +kernel
theorem dL_law_390 : decode cL_law 390 = .ok (.iaload, 1) := by decide +kernel
theorem dL_law_391 : decode cL_law 391 = .ok (.aload_n 0, 1) := by decide +kernel
theorem dL_law_392 : decode cL_law 392 = .ok (.iload_n 3, 1) := by decide +kernel
theorem dL_law_393 : decode cL_law 393 = .ok (.iconst 2, 1) := by decide +kernel
theorem dL_law_394 : decode cL_law 394 = .ok (.iadd, 1) := by decide +kernel
theorem dL_law_395 : decode cL_law 395 = .ok (.iaload, 1) := by decide +kernel
theorem dL_law_396 : decode cL_law 396 = .ok (.invokevirtual 48, 3) := by decide +kernel
theorem dL_law_399 : decode cL_law 399 = .ok (.if_icmp .eq 150, 3) := by decide +kernel
theorem dL_law_402 : decode cL_law 402 = .ok (.iconst 0, 1) := by decide +kernel
theorem dL_law_403 : decode cL_law 403 = .ok (.ireturn, 1) := by decide +kernel
theorem dL_law_404 : decode cL_law 404 = .ok (.aload_n 1, 1) := by decide +kernel
theorem dL_law_405 : decode cL_law 405 = .ok (.aload_n 0, 1) := by decide +kernel
theorem dL_law_406 : decode cL_law 406 = .ok (.iload_n 3, 1) := by decide +kernel
theorem dL_law_407 : decode cL_law 407 = .ok (.iconst 1, 1) := by decide +kernel
theorem dL_law_408 : decode cL_law 408 = .ok (.iadd, 1) := by decide +kernel
theorem dL_law_409 : decode cL_law 409 = .ok (.iaload, 1) := by decide +kernel
theorem dL_law_410 : decode cL_law 410 = .ok (.invokevirtual 49, 3) := by decide +kernel
theorem dL_law_413 : decode cL_law 413 = .ok (.aload_n 2, 1) := by decide +kernel
theorem dL_law_414 : decode cL_law 414 = .ok (.aload_n 0, 1) := by decide +kernel
theorem dL_law_415 : decode cL_law 415 = .ok (.iload_n 3, 1) := by decide +kernel
theorem dL_law_416 : decode cL_law 416 = .ok (.iconst 1, 1) := by decide +kernel
theorem dL_law_417 : decode cL_law 417 = .ok (.iadd, 1) := by decide +kernel
theorem dL_law_418 : decode cL_law 418 = .ok (.iaload, 1) := by decide +kernel
theorem dL_law_419 : decode cL_law 419 = .ok (.invokevirtual 52, 3) := by decide +kernel
theorem dL_law_422 : decode cL_law 422 = .ok (.if_icmp .eq 127, 3) := by decide +kernel
theorem dL_law_425 : decode cL_law 425 = .ok (.iconst 0, 1) := by decide +kernel
theorem dL_law_426 : decode cL_law 426 = .ok (.ireturn, 1) := by decide +kernel
theorem dL_law_427 : decode cL_law 427 = .ok (.aload_n 1, 1) := by decide +kernel
theorem dL_law_428 : decode cL_law 428 = .ok (.aload_n 0, 1) := by decide +kernel
theorem dL_law_429 : decode cL_law 429 = .ok (.iload_n 3, 1) := by decide +kernel
theorem dL_law_430 : decode cL_law 430 = .ok (.iconst 1, 1) := by decide +kernel
theorem dL_law_431 : decode cL_law 431 = .ok (.iadd, 1) := by decide +kernel
end
section
set_option maxRecDepth 100000
theorem dL_law_432 : decode cL_law 432 = .ok (.iaload, 1) := by decide +kernel
theorem dL_law_433 : decode cL_law 433 = .ok (.aload_n 0, 1) := by decide +kernel
theorem dL_law_434 : decode cL_law 434 = .ok (.iload_n 3, 1) := by decide +kernel
theorem dL_law_435 : decode cL_law 435 = .ok (.iconst 2, 1) := by decide +kernel
theorem dL_law_436 : decode cL_law 436 = .ok (.iadd, 1) := by decide +kernel
theorem dL_law_437 : decode cL_law 437 = .ok (.iaload, 1) := by decide +kernel
theorem dL_law_438 : decode cL_law 438 = .ok (.invokevirtual 53, 3) := by decide +kernel
theorem dL_law_441 : decode cL_law 441 = .ok (.aload_n 2, 1) := by decide +kernel
theorem dL_law_442 : decode cL_law 442 = .ok (.aload_n 0, 1) := by decide +kernel
theorem dL_law_443 : decode cL_law 443 = .ok (.iload_n 3, 1) := by decide +kernel
theorem dL_law_444 : decode cL_law 444 = .ok (.iconst 1, 1) := by decide +kernel
theorem dL_law_445 : decode cL_law 445 = .ok (.iadd, 1) := by decide +kernel
theorem dL_law_446 : decode cL_law 446 = .ok (.iaload, 1) := by decide +kernel
theorem dL_law_447 : decode cL_law 447 = .ok (.aload_n 0, 1) := by decide +kernel
theorem dL_law_448 : decode cL_law 448 = .ok (.iload_n 3, 1) := by decide +kernel
theorem dL_law_449 : decode cL_law 449 = .ok (.iconst 2, 1) := by decide +kernel
theorem dL_law_450 : decode cL_law 450 = .ok (.iadd, 1) := by decide +kernel
theorem dL_law_451 : decode cL_law 451 = .ok (.iaload, 1) := by decide +kernel
theorem dL_law_452 : decode cL_law 452 = .ok (.invokevirtual 57, 3) := by decide +kernel
theorem dL_law_455 : decode cL_law 455 = .ok (.if_icmp .eq 94, 3) := by decide +kernel
theorem dL_law_458 : decode cL_law 458 = .ok (.iconst 0, 1) := by decide +kernel
theorem dL_law_459 : decode cL_law 459 = .ok (.ireturn, 1) := by decide +kernel
theorem dL_law_460 : decode cL_law 460 = .ok (.aload_n 1, 1) := by decide +kernel
theorem dL_law_461 : decode cL_law 461 = .ok (.aload_n 0, 1) := by decide +kernel
theorem dL_law_462 : decode cL_law 462 = .ok (.iload_n 3, 1) := by decide +kernel
theorem dL_law_463 : decode cL_law 463 = .ok (.iconst 1, 1) := by decide +kernel
theorem dL_law_464 : decode cL_law 464 = .ok (.iadd, 1) := by decide +kernel
theorem dL_law_465 : decode cL_law 465 = .ok (.iaload, 1) := by decide +kernel
theorem dL_law_466 : decode cL_law 466 = .ok (.invokevirtual 58, 3) := by decide +kernel
theorem dL_law_469 : decode cL_law 469 = .ok (.aload_n 2, 1) := by decide +kernel
theorem dL_law_470 : decode cL_law 470 = .ok (.aload_n 0, 1) := by decide +kernel
theorem dL_law_471 : decode cL_law 471 = .ok (.iload_n 3, 1) := by decide +kernel
theorem dL_law_472 : decode cL_law 472 = .ok (.iconst 1, 1) := by decide +kernel
theorem dL_law_473 : decode cL_law 473 = .ok (.iadd, 1) := by decide +kernel
theorem dL_law_474 : decode cL_law 474 = .ok (.iaload, 1) := by decide +kernel
theorem dL_law_475 : decode cL_law 475 = .ok (.invokevirtual 61, 3) := by decide +kernel
theorem dL_law_478 : decode cL_law 478 = .ok (.if_icmp .eq 71, 3) := by decide +kernel
theorem dL_law_481 : decode cL_law 481 = .ok (.iconst 0, 1) := by decide +kernel
theorem dL_law_482 : decode cL_law 482 = .ok (.ireturn, 1) := by decide +kernel
theorem dL_law_483 : decode cL_law 483 = .ok (.aload_n 1, 1) := by decide +kernel
theorem dL_law_484 : decode cL_law 484 = .ok (.aload_n 0, 1) := by decide +kernel
theorem dL_law_485 : decode cL_law 485 = .ok (.iload_n 3, 1) := by decide +kernel
theorem dL_law_486 : decode cL_law 486 = .ok (.iconst 1, 1) := by decide +kernel
theorem dL_law_487 : decode cL_law 487 = .ok (.iadd, 1) := by decide +kernel
theorem dL_law_488 : decode cL_law 488 = .ok (.iaload, 1) := by decide +kernel
theorem dL_law_489 : decode cL_law 489 = .ok (.aload_n 0, 1) := by decide +kernel
theorem dL_law_490 : decode cL_law 490 = .ok (.iload_n 3, 1) := by decide +kernel
theorem dL_law_491 : decode cL_law 491 = .ok (.iconst 2, 1) := by decide +kernel
theorem dL_law_492 : decode cL_law 492 = .ok (.iadd, 1) := by decide +kernel
theorem dL_law_493 : decode cL_law 493 = .ok (.iaload, 1) := by decide +kernel
theorem dL_law_494 : decode cL_law 494 = .ok (.invokevirtual 62, 3) := by decide +kernel
theorem dL_law_497 : decode cL_law 497 = .ok (.aload_n 2, 1) := by decide +kernel
theorem dL_law_498 : decode cL_law 498 = .ok (.aload_n 0, 1) := by decide +kernel
theorem dL_law_499 : decode cL_law 499 = .ok (.iload_n 3, 1) := by decide +kernel
theorem dL_law_500 : decode cL_law 500 = .ok (.iconst 1, 1) := by decide +kernel
theorem dL_law_501 : decode cL_law 501 = .ok (.iadd, 1) := by decide +kernel
theorem dL_law_502 : decode cL_law 502 = .ok (.iaload, 1) := by decide +kernel
theorem dL_law_503 : decode cL_law 503 = .ok (.aload_n 0, 1) := by decide +kernel
theorem dL_law_504 : decode cL_law 504 = .ok (.iload_n 3, 1) := by decide +kernel
theorem dL_law_505 : decode cL_law 505 = .ok (.iconst 2, 1) := by decide +kernel
theorem dL_law_506 : decode cL_law 506 = .ok (.iadd, 1) := by decide +kernel
theorem dL_law_507 : decode cL_law 507 = .ok (.iaload, 1) := by decide +kernel
theorem dL_law_508 : decode cL_law 508 = .ok (.invokevirtual 65, 3) := by decide +kernel
theorem dL_law_511 : decode cL_law 511 = .ok (.if_icmp .eq 38, 3) := by decide +kernel
theorem dL_law_514 : decode cL_law 514 = .ok (.iconst 0, 1) := by decide +kernel
theorem dL_law_515 : decode cL_law 515 = .ok (.ireturn, 1) := by decide +kernel
theorem dL_law_516 : decode cL_law 516 = .ok (.aload_n 1, 1) := by decide +kernel
theorem dL_law_517 : decode cL_law 517 = .ok (.aload_n 0, 1) := by decide +kernel
theorem dL_law_518 : decode cL_law 518 = .ok (.iload_n 3, 1) := by decide +kernel
theorem dL_law_519 : decode cL_law 519 = .ok (.iconst 1, 1) := by decide +kernel
theorem dL_law_520 : decode cL_law 520 = .ok (.iadd, 1) := by decide +kernel
theorem dL_law_521 : decode cL_law 521 = .ok (.iaload, 1) := by decide +kernel
theorem dL_law_522 : decode cL_law 522 = .ok (.aload_n 0, 1) := by decide +kernel
theorem dL_law_523 : decode cL_law 523 = .ok (.iload_n 3, 1) := by decide +kernel
theorem dL_law_524 : decode cL_law 524 = .ok (.iconst 2, 1) := by decide +kernel
theorem dL_law_525 : decode cL_law 525 = .ok (.iadd, 1) := by decide +kernel
theorem dL_law_526 : decode cL_law 526 = .ok (.iaload, 1) := by decide +kernel
theorem dL_law_527 : decode cL_law 527 = .ok (.invokevirtual 66, 3) := by decide +kernel
theorem dL_law_530 : decode cL_law 530 = .ok (.aload_n 2, 1) := by decide +kernel
theorem dL_law_531 : decode cL_law 531 = .ok (.aload_n 0, 1) := by decide +kernel
theorem dL_law_532 : decode cL_law 532 = .ok (.iload_n 3, 1) := by decide +kernel
theorem dL_law_533 : decode cL_law 533 = .ok (.iconst 1, 1) := by decide +kernel
theorem dL_law_534 : decode cL_law 534 = .ok (.iadd, 1) := by decide +kernel
theorem dL_law_535 : decode cL_law 535 = .ok (.iaload, 1) := by decide +kernel
theorem dL_law_536 : decode cL_law 536 = .ok (.aload_n 0, 1) := by decide +kernel
theorem dL_law_537 : decode cL_law 537 = .ok (.iload_n 3, 1) := by decide +kernel
theorem dL_law_538 : decode cL_law 538 = .ok (.iconst 2, 1) := by decide +kernel
theorem dL_law_539 : decode cL_law 539 = .ok (.iadd, 1) := by decide +kernel
theorem dL_law_540 : decode cL_law 540 = .ok (.iaload, 1) := by decide +kernel
theorem dL_law_541 : decode cL_law 541 = .ok (.invokevirtual 69, 3) := by decide +kernel
theorem dL_law_544 : decode cL_law 544 = .ok (.if_icmp .eq 5, 3) := by decide +kernel
theorem dL_law_547 : decode cL_law 547 = .ok (.iconst 0, 1) := by decide +kernel
theorem dL_law_548 : decode cL_law 548 = .ok (.ireturn, 1) := by decide +kernel
theorem dL_law_549 : decode cL_law 549 = .ok (.iinc 3 5, 3) := by decide +kernel
theorem dL_law_552 : decode cL_law 552 = .ok (.goto (-534), 3) := by decide +kernel
theorem dL_law_555 : decode cL_law 555 = .ok (.iconst 1, 1) := by decide +kernel
theorem dL_law_556 : decode cL_law 556 = .ok (.ireturn, 1) := by decide +kernel
end
section
/-! THE CLAIM OUT OF ONE WALK OF THE LAW'S BODY. Your part is whole_start (and what it stands on); all else here is the same for every law, but numbers. -/
def R_law : String := "OctreeSolidLaw"
def lw_P (b : Addr) (xs : List Int32) (args : Array Value) (s : State) : Prop := args = #[.ref b] ∧ s.IntsAt b xs ∧ xs.length ≤ 320 ∧ (Jvm.Cond.and given_1 narrow_1).before args s = true
def lw_Q (_ : Array Value) (s : State) (o : Outcome) (t : State) : Prop := o = .returned (some (.int 1)) ∧ Framed s o t [] 600000 7290000
def lw_Z (below : List Frame) (a : Array Value) (s : State) : State → Prop := fun t => ∃ o, t.status = .running ∧ Ended t below o ∧ lw_Q a s o t
/-- the law's own end, with 1 on the stack, nothing written that was there before, its room as the claim has it -/
theorem lw_ret {p : Program} {l : Launch} {e : Env} {s : State} {m : MethodId} {below : List Frame} {meth : Method} {c : Code} {b : Nat} (hx : p.tables.exec = Jvm.exec) (hb : c.code = code) (hr : meth.sig.returnType = ret) (hlocks : meth.locks = false) {pc : Nat} {H : Heap} {ls : Array Slot} (hdg : decode code pc = .ok (.ireturn, 1)) : W p l e room_1 s m #[Value.ref b] below meth c H [] 600000 7290000 (lw_Z below #[Value.ref b] s) (F0 m pc ls [.int 1]) := by
  intro T hT X
  obtain ⟨fs, hret, hrun, hended, hW, hframe⟩ := X.leave (v := some (.int 1)) (hlocks := hlocks) (fun h => by rw [hr] at h; cases h)
  have hmeth' : T.vm.method? m = some meth := X.method'
  refine ⟨T.setFrames fs, ?_, .returned (some (.int 1)), hrun, hended, rfl, ⟨_, rfl⟩, hW, hframe⟩
  jvm_step X.here [X.here.top, hx, hb, hdg, hmeth', hr, ret, narrow_b1]
  (try refine ⟨rfl, ?_⟩); (try refine ⟨rfl, ?_⟩)
  first | (intro acts; rw [hret _ acts rfl rfl rfl]) | rw [hret _ _ rfl rfl rfl]
  exact Steps.refl _
/-- what holds at the law's entry: the machine, the code, the tables' words (any of lw_tbl by 'hts w (by decide +kernel)'), the script of L ints xs at the cell b, what the Statement gives of the start (any of its parts by flat_of_before) -/
def lw_At (p : Program) (s : State) (m : MethodId) (meth : Method) (c : Code) (b L : Nat) (xs : Nat → Int32) : Prop :=
  p.tables.exec = Jvm.exec ∧ c.code = code ∧ meth.sig.returnType = ret ∧ c.maxLocals = 4 ∧ s.vm.findClass R_law = some m.cls ∧ (∀ w ∈ lw_tbl, w.before #[Value.ref b] s = true) ∧ va_X b L xs s s.heap ∧ b < s.heap.size ∧ meth.locks = false ∧ (Jvm.Cond.and given_1 narrow_1).before #[Value.ref b] s = true
end
section
/-! the law: rows of its walk, names of its calls -/
set_option maxRecDepth 100000
theorem cn_L_13 : oc_cn R_law 13 RX0 yX0_box cX0_box 5 (some .boolean) 4 := ⟨q88, q89, q90, q23, q91, rfl, by decide +kernel, by decide +kernel, by decide +kernel⟩
theorem cn_L_17 : oc_cn R_law 17 RX1 yX1_box cX1_box 7 (some .boolean) 4 := ⟨q220, q221, q222, q24, q223, rfl, by decide +kernel, by decide +kernel, by decide +kernel⟩
theorem cn_L_18 : oc_cn R_law 18 RX0 yX0_combine cX0_combine 5 (some .boolean) 4 := ⟨q154, q155, q156, q23, q157, rfl, by decide +kernel, by decide +kernel, by decide +kernel⟩
theorem cn_L_21 : oc_cn R_law 21 RX1 yX1_combine cX1_combine 8 (some .boolean) 4 := ⟨q240, q241, q242, q24, q243, rfl, by decide +kernel, by decide +kernel, by decide +kernel⟩
theorem cn_L_22 : oc_cn R_law 22 RX0 yX0_turn cX0_turn 3 (some .boolean) 2 := ⟨q158, q159, q160, q23, q161, rfl, by decide +kernel, by decide +kernel, by decide +kernel⟩
theorem cn_L_26 : oc_cn R_law 26 RX1 yX1_turn cX1_turn 4 (some .boolean) 2 := ⟨q248, q249, q250, q24, q251, rfl, by decide +kernel, by decide +kernel, by decide +kernel⟩
theorem cn_L_27 : oc_cn R_law 27 RX0 yX0_mirror cX0_mirror 4 (some .boolean) 3 := ⟨q162, q163, q164, q23, q165, rfl, by decide +kernel, by decide +kernel, by decide +kernel⟩
theorem cn_L_31 : oc_cn R_law 31 RX1 yX1_mirror cX1_mirror 5 (some .boolean) 3 := ⟨q252, q253, q254, q24, q255, rfl, by decide +kernel, by decide +kernel, by decide +kernel⟩
theorem cn_L_32 : oc_cn R_law 32 RX0 yX0_volume cX0_volume 5 (some .int) 1 := ⟨q166, q167, q168, q23, q169, rfl, by decide +kernel, by decide +kernel, by decide +kernel⟩
theorem cn_L_36 : oc_cn R_law 36 RX1 yX1_volume cX1_volume 4 (some .int) 1 := ⟨q256, q257, q258, q24, q259, rfl, by decide +kernel, by decide +kernel, by decide +kernel⟩
theorem cn_L_37 : oc_cn R_law 37 RX0 yX0_has cX0_has 3 (some .boolean) 2 := ⟨q170, q171, q172, q23, q173, rfl, by decide +kernel, by decide +kernel, by decide +kernel⟩
theorem cn_L_40 : oc_cn R_law 40 RX1 yX1_has cX1_has 3 (some .boolean) 2 := ⟨q260, q261, q262, q24, q263, rfl, by decide +kernel, by decide +kernel, by decide +kernel⟩
theorem cn_L_41 : oc_cn R_law 41 RX0 yX0_same cX0_same 3 (some .boolean) 2 := ⟨q174, q175, q176, q23, q177, rfl, by decide +kernel, by decide +kernel, by decide +kernel⟩
theorem cn_L_44 : oc_cn R_law 44 RX1 yX1_same cX1_same 3 (some .boolean) 2 := ⟨q264, q265, q266, q24, q267, rfl, by decide +kernel, by decide +kernel, by decide +kernel⟩
theorem cn_L_45 : oc_cn R_law 45 RX0 yX0_inside cX0_inside 5 (some .boolean) 2 := ⟨q178, q179, q180, q23, q181, rfl, by decide +kernel, by decide +kernel, by decide +kernel⟩
theorem cn_L_48 : oc_cn R_law 48 RX1 yX1_inside cX1_inside 5 (some .boolean) 2 := ⟨q272, q269, q270, q24, q271, rfl, by decide +kernel, by decide +kernel, by decide +kernel⟩
theorem cn_L_49 : oc_cn R_law 49 RX0 yX0_cubes cX0_cubes 6 (some .int) 1 := ⟨q182, q183, q184, q23, q185, rfl, by decide +kernel, by decide +kernel, by decide +kernel⟩
theorem cn_L_52 : oc_cn R_law 52 RX1 yX1_cubes cX1_cubes 5 (some .int) 1 := ⟨q273, q274, q275, q24, q276, rfl, by decide +kernel, by decide +kernel, by decide +kernel⟩
theorem cn_L_53 : oc_cn R_law 53 RX0 yX0_order cX0_order 3 (some .int) 2 := ⟨q190, q191, q192, q23, q193, rfl, by decide +kernel, by decide +kernel, by decide +kernel⟩
theorem cn_L_57 : oc_cn R_law 57 RX1 yX1_order cX1_order 4 (some .int) 2 := ⟨q293, q278, q279, q24, q280, rfl, by decide +kernel, by decide +kernel, by decide +kernel⟩
theorem cn_L_58 : oc_cn R_law 58 RX0 yX0_surface cX0_surface 7 (some .int) 1 := ⟨q194, q195, q196, q23, q197, rfl, by decide +kernel, by decide +kernel, by decide +kernel⟩
theorem cn_L_61 : oc_cn R_law 61 RX1 yX1_surface cX1_surface 6 (some .int) 1 := ⟨q294, q295, q296, q24, q297, rfl, by decide +kernel, by decide +kernel, by decide +kernel⟩
theorem cn_L_62 : oc_cn R_law 62 RX0 yX0_next cX0_next 4 (some .int) 2 := ⟨q199, q200, q201, q23, q202, rfl, by decide +kernel, by decide +kernel, by decide +kernel⟩
theorem cn_L_65 : oc_cn R_law 65 RX1 yX1_next cX1_next 4 (some .int) 2 := ⟨q302, q303, q304, q24, q305, rfl, by decide +kernel, by decide +kernel, by decide +kernel⟩
theorem cn_L_66 : oc_cn R_law 66 RX0 yX0_kinds cX0_kinds 8 (some .int) 2 := ⟨q203, q204, q205, q23, q206, rfl, by decide +kernel, by decide +kernel, by decide +kernel⟩
theorem cn_L_69 : oc_cn R_law 69 RX1 yX1_kinds cX1_kinds 7 (some .int) 2 := ⟨q306, q307, q308, q24, q309, rfl, by decide +kernel, by decide +kernel, by decide +kernel⟩
section GL
variable {p : Program} {l : Launch} {e : Env} {R : Room} {s : State} {m : MethodId} {args : Array Value} {below : List Frame} {meth : Method} {c : Code} {Q : State → Prop} {cells slots : Nat} {D : va_G} {A : Nat → Prop} {nL : Nat} {ws : va_W} {pc : Nat} {lo : List (Option Value)} {st : List Value}
variable {cc : ByteArray} {own : String} {tys : List (ClassId × FieldType)} {ad ae : Nat → Nat} {dS dZ : ClassId} {v t : Nat → Nat → Nat} {b L : Nat} {xs : Nat → Int32}
theorem gl_sld (X : oc_X p s m args meth c cc nL own D tys A) (hX : va_X b L xs s s.heap) (hbl : b < s.heap.size) (hbA : ¬ A b) {k : Nat} (hk : k < L) (hL : L ≤ 320) (hd : decode cc pc = .ok (.iaload, 1)) (kk : gg p l e R s m args below meth c Q (cells) (slots) D A nL (ws) (pc + 1) lo (.int (xs k) :: st)) : gg p l e R s m args below meth c Q (cells) (slots) D A nL (ws) (pc) lo (.int (nI k) :: .ref b :: st) := by
  intro H locs ls hP hD hS hl
  refine va_sld X.1 X.2.1 hX hbl hbA hS (vp_in_nI hk (by omega)) hd ?_
  rw [nI_clamp (by omega)]
  exact kk H locs ls hP hD hS hl
theorem gl_slen (X : oc_X p s m args meth c cc nL own D tys A) (hX : va_X b L xs s s.heap) (hbl : b < s.heap.size) (hbA : ¬ A b) (hd : decode cc pc = .ok (.arraylength, 1)) (kk : gg p l e R s m args below meth c Q (cells) (slots) D A nL (ws) (pc + 1) lo (.int (nI L) :: st)) : gg p l e R s m args below meth c Q (cells) (slots) D A nL (ws) (pc) lo (.ref b :: st) := fun H locs ls hP hD hS hl => va_slen X.1 X.2.1 hX hbl hbA hS hd (kk H locs ls hP hD hS hl)
theorem gl_tin (X : oc_X p s m args meth c cc nL own D tys A) {dflt lw hi : Int} {offs : Array Int} {len : Nat} {x : Int32} {off : Int} {tgt : Nat} (hd : decode cc pc = .ok (.tableswitch dflt lw hi offs, len)) (h1 : ¬ x.toInt < lw) (h2 : ¬ hi < x.toInt) (ho : offs[(x.toInt - lw).toNat]? = some off) (ht : (pc : Int) + off = (tgt : Int)) (kk : gg p l e R s m args below meth c Q (cells) (slots) D A nL (ws) (tgt) lo (st)) : gg p l e R s m args below meth c Q (cells) (slots) D A nL (ws) (pc) lo (.int x :: st) := fun H locs ls hP hD hS hl => lv_tableIn X.1 X.2.1 hd h1 h2 ho ht (kk H locs ls hP hD hS hl)
theorem gl_tout (X : oc_X p s m args meth c cc nL own D tys A) {dflt lw hi : Int} {offs : Array Int} {len : Nat} {x : Int32} {tgt : Nat} (hd : decode cc pc = .ok (.tableswitch dflt lw hi offs, len)) (h : x.toInt < lw ∨ hi < x.toInt) (ht : (pc : Int) + dflt = (tgt : Int)) (kk : gg p l e R s m args below meth c Q (cells) (slots) D A nL (ws) (tgt) lo (st)) : gg p l e R s m args below meth c Q (cells) (slots) D A nL (ws) (pc) lo (.int x :: st) := fun H locs ls hP hD hS hl => lv_tableOut X.1 X.2.1 hd h ht (kk H locs ls hP hD hS hl)
theorem gl_callx {post : Int32 → (Nat → Nat → Nat) → Prop} {f mL idx n : Nat} {y : MethodName} {b : ByteArray} {ret : Option FieldType} {As stk : List Value} (X : oc_X p s m args meth c cc nL own D (oc_tx dS dZ) A) (hM : oc_Mi l D (oc_tx dS dZ) f y b mL ret (.ref (ad 0) :: As) (oc_xW ad dS dZ) (oc_xW ad dS dZ v) post) (hN : oc_cn own idx RX0 y b mL ret n) (hR : oc_rr f mL R) (hcl : cells + 0 ≤ R.cells ∧ slots + 0 ≤ R.slots) (hn : As.length = n) (hst : stk = As.reverse ++ .ref (ad 0) :: st) (hrm : (st.map fun v => v.category).sum ≤ 8) (hd : decode cc pc = .ok (.invokevirtual idx, 3))
    (kk : ∀ (r : Int32) (u : Nat → Nat → Nat), post r u → gg p l e R s m args below meth c Q (cells) (slots) D A nL (oc_xW ad dS dZ u ++ oc_mW ae dZ t) (pc + 3) lo (.int r :: st)) : gg p l e R s m args below meth c Q (cells) (slots) D A nL (oc_xW ad dS dZ v ++ oc_mW ae dZ t) (pc) lo (stk) := by
  intro H locs ls hP hD hS hl
  obtain ⟨q1, q2, q3, q4, q5, hds⟩ := hN
  have hK : va_K D oc_Cl (oc_tx dS dZ) s := X.2.2.2.2.2.1.sub [0, 1] rfl
  have hPc : va_P D oc_Cl (oc_xW ad dS dZ v) H := hP.sub [0, 1, 2, 3, 4, 5, 6, 7, 8, 9] rfl
  have hDc : va_D A (oc_xW ad dS dZ v) := hD.sub [0, 1, 2, 3, 4, 5, 6, 7, 8, 9] (by decide) rfl
  have hF := va_free (wc := oc_xW ad dS dZ v) hD hS X.2.2.2.2.2.2.2 [0, 1, 2, 3, 4, 5, 6, 7, 8, 9] rfl
  refine va_calli (va_runV (As := As) (rest := st) ⟨X.1, X.2.1, X.2.2.1, X.2.2.2.1, X.2.2.2.2.1⟩ (hM H.size) (cwV n X.2.2.2.2.1 (lw_V q1 q2 q3 q4 q5) rfl rfl rfl hds hR) ⟨oc_fb, va_recv (q := (RX0, TX0, 16)) (q0 := 0) (ci := 0) hK hPc rfl rfl, fun U hU hW => ⟨rfl, by rw [hU], by rw [hU]; exact hPc, va_K.moved hW.alike hK, hDc.weaken (fun _ _ _ _ => trivial)⟩⟩ rfl hn hl.1 hst (lv_room hrm) hd hcl) hS (fun q _ h => hF q h) hF (fun r u t1 H1 locs1 ht hvm hp hB hz1 hk1 hS1 => ?_)
  obtain ⟨hP1, hD1⟩ := hB
  rw [ht] at hP1
  obtain ⟨hP2, hD2⟩ := va_join (wr := oc_mW ae dZ t) hP hD [0, 1, 2, 3, 4, 5, 6, 7, 8, 9] [10, 11, 12] rfl rfl (by decide) (by decide) hk1 hF hP1 hD1
  exact kk r u hp H1 locs1 ls (hP2.sub [3, 4, 5, 6, 7, 8, 9, 10, 11, 12, 0, 1, 2] rfl) (hD2.sub [3, 4, 5, 6, 7, 8, 9, 10, 11, 12, 0, 1, 2] (by decide) rfl) hS1 hl
theorem gl_callm {post : Int32 → (Nat → Nat → Nat) → Prop} {f mL idx n : Nat} {y : MethodName} {b : ByteArray} {ret : Option FieldType} {As stk : List Value} (X : oc_X p s m args meth c cc nL own D (oc_tx dS dZ) A) (hM : oc_Mi l D (oc_tm dZ) f y b mL ret (.ref (ae 0) :: As) (oc_mW ae dZ) (oc_mW ae dZ t) post) (hN : oc_cn own idx RX1 y b mL ret n) (hR : oc_rr f mL R) (hcl : cells + 0 ≤ R.cells ∧ slots + 0 ≤ R.slots) (hn : As.length = n) (hst : stk = As.reverse ++ .ref (ae 0) :: st) (hrm : (st.map fun v => v.category).sum ≤ 8) (hd : decode cc pc = .ok (.invokevirtual idx, 3))
    (kk : ∀ (r : Int32) (u : Nat → Nat → Nat), post r u → gg p l e R s m args below meth c Q (cells) (slots) D A nL (oc_xW ad dS dZ v ++ oc_mW ae dZ u) (pc + 3) lo (.int r :: st)) : gg p l e R s m args below meth c Q (cells) (slots) D A nL (oc_xW ad dS dZ v ++ oc_mW ae dZ t) (pc) lo (stk) := by
  intro H locs ls hP hD hS hl
  obtain ⟨q1, q2, q3, q4, q5, hds⟩ := hN
  have hK : va_K D oc_Cl (oc_tm dZ) s := X.2.2.2.2.2.1.sub [1] rfl
  have hPc : va_P D oc_Cl (oc_mW ae dZ t) H := hP.sub [10, 11, 12] rfl
  have hDc : va_D A (oc_mW ae dZ t) := hD.sub [10, 11, 12] (by decide) rfl
  have hF := va_free (wc := oc_mW ae dZ t) hD hS X.2.2.2.2.2.2.2 [10, 11, 12] rfl
  refine va_calli (va_runV (As := As) (rest := st) ⟨X.1, X.2.1, X.2.2.1, X.2.2.2.1, X.2.2.2.2.1⟩ (hM H.size) (cwV n X.2.2.2.2.1 (lw_V q1 q2 q3 q4 q5) rfl rfl rfl hds hR) ⟨oc_fb, va_recv (q := (RX1, TX1, 2)) (q0 := 0) (ci := 1) hK hPc rfl rfl, fun U hU hW => ⟨rfl, by rw [hU], by rw [hU]; exact hPc, va_K.moved hW.alike hK, hDc.weaken (fun _ _ _ _ => trivial)⟩⟩ rfl hn hl.1 hst (lv_room hrm) hd hcl) hS (fun q _ h => hF q h) hF (fun r u t1 H1 locs1 ht hvm hp hB hz1 hk1 hS1 => ?_)
  obtain ⟨hP1, hD1⟩ := hB
  rw [ht] at hP1
  obtain ⟨hP2, hD2⟩ := va_join (wr := oc_xW ad dS dZ v) hP hD [10, 11, 12] [0, 1, 2, 3, 4, 5, 6, 7, 8, 9] rfl rfl (by decide) (by decide) hk1 hF hP1 hD1
  exact kk r u hp H1 locs1 ls (hP2.sub [0, 1, 2, 3, 4, 5, 6, 7, 8, 9, 10, 11, 12] rfl) (hD2.sub [0, 1, 2, 3, 4, 5, 6, 7, 8, 9, 10, 11, 12] (by decide) rfl) hS1 hl
theorem gl_new (X : oc_X p s m args meth c cc nL own D tys A) {C : String} {T : u_T} {N ci idx : Nat} (hin : ∀ w ∈ u_ws C T N, w ∈ lw_all) (ty : Nat → FieldType) (hty : ∀ k, k < N → parseFieldDescriptor (T k).2.2.1 = some (ty k)) (q1 : Cond.classLink own idx C ∈ lw_all) (q2 : Cond.instantiable C N ∈ lw_all) (q3 : Cond.initialized C ∈ lw_all) (hc : oc_Cl[ci]? = some (C, T, N)) {fs : List Value} (hfs : ∀ j, j < N → defaultValue (ty j) = vp_V fs j) (hcl : cells + 1 ≤ R.cells) (hsl : slots + N ≤ R.slots) (hd : decode cc pc = .ok (.new idx, 3)) (kk : ∀ q : Nat, gg p l e R s m args below meth c Q (cells + 1) (slots + N) D A nL (ws ++ [(q, .inr (ci, fs))]) (pc + 3) lo (.ref q :: st)) : gg p l e R s m args below meth c Q (cells) (slots) D A nL (ws) (pc) lo (st) := by
  intro H locs ls hP hD hS hl
  exact va_new (ci := ci) (fs := fs) X.1 X.2.1 X.2.2.2.2.1 hin ty hty X.2.2.2.1 (X.2.2.2.2.1 _ q1) (X.2.2.2.2.1 _ q2) (X.2.2.2.2.1 _ q3) X.2.2.2.2.2.1 hP hD hS X.2.2.2.2.2.2.2 hc hfs hcl hsl hd (fun q H1 hP1 hD1 hS1 => kk q H1 locs ls hP1 hD1 hS1 hl)
theorem gl_init {S : Type} {Wf : S → va_W} {W0 wr : va_W} {post : S → Prop} {tys' : List (ClassId × FieldType)} {mc ms idx a : Nat} {y : MethodName} {b : ByteArray} (X : oc_X p s m args meth c cc nL own D tys A) (hM : oc_Mn l D tys' mc ms y b [.ref a] Wf W0 post) (is : List Nat) (htys : is.filterMap (fun i => tys[i]?) = tys') (q1 : Cond.methodLink own idx y ∈ lw_all) (q2 : Cond.instanceMethod y ∈ lw_all) (q3 : Cond.initialized y.cls ∈ lw_all) (q4 : Cond.code y b 1 none ∈ lw_all) (hy : y.name = "<init>") (hds : y.cls ≠ "java/lang/invoke/MethodHandle" ∧ y.cls ≠ "java/lang/invoke/VarHandle" ∧ (parseMethodDescriptor y.desc).map (fun d => d.parameters.length) = some 0) (isC isR : List Nat) (hC : isC.map (fun i => ws[i]?) = W0.map some) (hR : isR.map (fun i => ws[i]?) = wr.map some) (hnd : va_nd isC = true) (hn : va_nd isR = true) (hdis : ∀ i ∈ isR, i ∉ isC) (hrm : (oc_rn mc ms).frames + 1 ≤ R.frames ∧ 8 + (1 + 11) + (oc_rn mc ms).locals ≤ R.locals) (hcl : cells + mc ≤ R.cells ∧ slots + ms ≤ R.slots) (hst : (st.map fun v => v.category).sum ≤ 8) (hd : decode cc pc = .ok (.invokespecial idx, 3))
    (kk : ∀ u : S, post u → gg p l e R s m args below meth c Q (cells + mc) (slots + ms) D A nL (wr ++ Wf u) (pc + 3) lo (st)) : gg p l e R s m args below meth c Q (cells) (slots) D A nL (ws) (pc) lo (.ref a :: st) := by
  intro H locs ls hP hD hS hl
  have hK := X.2.2.2.2.2.1.sub is htys
  have hDc : va_D A W0 := hD.sub isC hnd hC
  have hPc : va_P D oc_Cl W0 H := by
    intro k q hk
    have h1 : (isC.map (fun i => ws[i]?))[k]? = some (some q) := by rw [hC, List.getElem?_map, hk]; rfl
    rw [List.getElem?_map] at h1
    cases hi : isC[k]? with
    | none => rw [hi] at h1; cases h1
    | some i => rw [hi] at h1; exact hP i q (Option.some.inj h1)
  have hF := va_free (wc := W0) hD hS X.2.2.2.2.2.2.2 isC hC
  refine va_callv (va_runI (As := []) (rest := st) ⟨X.1, X.2.1, X.2.2.1, X.2.2.2.1, X.2.2.2.2.1⟩ (hM H.size) (cwI 0 X.2.2.2.2.1 (lw_meth q4) rfl rfl rfl (X.2.2.2.2.1 _ q3) (X.2.2.2.2.1 _ q1) (X.2.2.2.2.1 _ q2) hy hds hrm) ⟨oc_fb, fun U hU hW => ⟨rfl, by rw [hU], by rw [hU]; exact hPc, va_K.moved hW.alike hK, hDc.weaken (fun _ _ _ _ => trivial)⟩⟩ rfl rfl hl.1 rfl (lv_room hst) hd hcl) hS (fun q _ h => hF q h) hF (fun u t1 H1 locs1 ht hvm hp hB hz1 hk1 hS1 => ?_)
  obtain ⟨hP1, hD1⟩ := hB
  rw [ht] at hP1
  obtain ⟨hP2, hD2⟩ := va_join (wr := wr) hP hD isC isR hC hR hn hdis hk1 hF hP1 hD1
  exact kk u hp H1 locs1 ls hP2 hD2 hS1 hl
end GL
theorem oc_and15 (x : Int32) : ∃ k : Nat, k < 16 ∧ x &&& nI 15 = nI k := by
  refine ⟨(x.toBitVec &&& 15#32).toNat, ?_, ?_⟩
  · rw [BitVec.toNat_and]
    exact Nat.lt_of_le_of_lt Nat.and_le_right (by decide)
  · apply Int32.toBitVec_inj.1
    show x.toBitVec &&& BitVec.ofNat 32 15 = BitVec.ofNat 32 (x.toBitVec &&& 15#32).toNat
    rw [BitVec.ofNat_toNat, BitVec.setWidth_eq]
theorem oc_len5 {L i : Nat} (hL : L ≤ 320) (hi : i ≤ 330) : nI L - nI 5 < nI i ↔ L < i + 5 := by
  rw [Int32.lt_iff_toInt_lt, Int32.toInt_sub, nI_toInt (by omega), nI_toInt (by omega), nI_toInt (by omega), Int.bmod_eq_of_le (by omega) (by omega)]
  omega
end
section
/-! the law: the cases of its switch -/
set_option maxRecDepth 100000
section LC
variable {p : Program} {l : Launch} {e : Env} {s : State} {m : MethodId} {args : Array Value} {below : List Frame} {meth : Method} {c : Code} {Q : State → Prop} {cells slots : Nat} {D : va_G} {A : Nat → Prop}
variable {ad ae : Nat → Nat} {dS dZ : ClassId} {v t : Nat → Nat → Nat} {S : Nat → Nat → Bool} {b L i : Nat} {xs : Nat → Int32}
theorem lc_0 (X : oc_X p s m args meth c cL_law 4 R_law D (oc_tx dS dZ) A) (hX : va_X b L xs s s.heap) (hbl : b < s.heap.size) (hbA : ¬ A b) (hL : L ≤ 320) (hi : i + 5 ≤ L) (hcl : cells + 0 ≤ room_1.cells ∧ slots + 0 ≤ room_1.slots) (hJ : oc_J v S) (hK : oc_K t S) (nxt : ∀ (v t : Nat → Nat → Nat) (S : Nat → Nat → Bool), oc_J v S → oc_K t S → gg p l e room_1 s m args below meth c Q cells slots D A 4 (oc_xW ad dS dZ v ++ oc_mW ae dZ t) 549 [some (.ref b), some (.ref (ad 0)), some (.ref (ae 0)), some (.int (nI i))] []) : gg p l e room_1 s m args below meth c Q cells slots D A 4 (oc_xW ad dS dZ v ++ oc_mW ae dZ t) 100 [some (.ref b), some (.ref (ad 0)), some (.ref (ae 0)), some (.int (nI i))] [] := by
  refine gg_ald_n X (pc := 100) dL_law_100 rfl ?_
  refine gg_ald_n X (pc := 101) dL_law_101 rfl ?_
  refine gg_ild_n X (pc := 102) dL_law_102 rfl ?_
  refine gg_ic X (pc := 103) dL_law_103 oc_ic1 ?_
  refine gg_iaddN X (pc := 104) dL_law_104 ?_
  refine gl_sld X hX hbl hbA (show i + 1 < L by omega) hL (pc := 105) dL_law_105 ?_
  refine gg_ald_n X (pc := 106) dL_law_106 rfl ?_
  refine gg_ild_n X (pc := 107) dL_law_107 rfl ?_
  refine gg_ic X (pc := 108) dL_law_108 oc_ic2 ?_
  refine gg_iaddN X (pc := 109) dL_law_109 ?_
  refine gl_sld X hX hbl hbA (show i + 2 < L by omega) hL (pc := 110) dL_law_110 ?_
  refine gg_ald_n X (pc := 111) dL_law_111 rfl ?_
  refine gg_ild_n X (pc := 112) dL_law_112 rfl ?_
  refine gg_ic X (pc := 113) dL_law_113 oc_ic3 ?_
  refine gg_iaddN X (pc := 114) dL_law_114 ?_
  refine gl_sld X hX hbl hbA (show i + 3 < L by omega) hL (pc := 115) dL_law_115 ?_
  refine gg_ald_n X (pc := 116) dL_law_116 rfl ?_
  refine gg_ild_n X (pc := 117) dL_law_117 rfl ?_
  refine gg_ic X (pc := 118) dL_law_118 oc_ic4 ?_
  refine gg_iaddN X (pc := 119) dL_law_119 ?_
  refine gl_sld X hX hbl hbA (show i + 4 < L by omega) hL (pc := 120) dL_law_120 ?_
  refine gl_callx X (pc := 121) (mX_box l D dS dZ ad v S hJ (xs (i + 1)) (xs (i + 2)) (xs (i + 3)) (xs (i + 4))) cn_L_13 ⟨by decide, by decide⟩ hcl rfl rfl (Nat.le_of_ble_eq_true rfl) dL_law_121 (fun r1 u1 k1 => ?_)
  obtain ⟨rfl, hJ1⟩ := k1
  refine gg_ald_n X (pc := 124) dL_law_124 rfl ?_
  refine gg_ald_n X (pc := 125) dL_law_125 rfl ?_
  refine gg_ild_n X (pc := 126) dL_law_126 rfl ?_
  refine gg_ic X (pc := 127) dL_law_127 oc_ic1 ?_
  refine gg_iaddN X (pc := 128) dL_law_128 ?_
  refine gl_sld X hX hbl hbA (show i + 1 < L by omega) hL (pc := 129) dL_law_129 ?_
  refine gg_ald_n X (pc := 130) dL_law_130 rfl ?_
  refine gg_ild_n X (pc := 131) dL_law_131 rfl ?_
  refine gg_ic X (pc := 132) dL_law_132 oc_ic2 ?_
  refine gg_iaddN X (pc := 133) dL_law_133 ?_
  refine gl_sld X hX hbl hbA (show i + 2 < L by omega) hL (pc := 134) dL_law_134 ?_
  refine gg_ald_n X (pc := 135) dL_law_135 rfl ?_
  refine gg_ild_n X (pc := 136) dL_law_136 rfl ?_
  refine gg_ic X (pc := 137) dL_law_137 oc_ic3 ?_
  refine gg_iaddN X (pc := 138) dL_law_138 ?_
  refine gl_sld X hX hbl hbA (show i + 3 < L by omega) hL (pc := 139) dL_law_139 ?_
  refine gg_ald_n X (pc := 140) dL_law_140 rfl ?_
  refine gg_ild_n X (pc := 141) dL_law_141 rfl ?_
  refine gg_ic X (pc := 142) dL_law_142 oc_ic4 ?_
  refine gg_iaddN X (pc := 143) dL_law_143 ?_
  refine gl_sld X hX hbl hbA (show i + 4 < L by omega) hL (pc := 144) dL_law_144 ?_
  refine gl_callm X (pc := 145) (mM_box l D dZ ae t S hK (xs (i + 1)) (xs (i + 2)) (xs (i + 3)) (xs (i + 4))) cn_L_17 ⟨by decide, by decide⟩ hcl rfl rfl (Nat.le_of_ble_eq_true rfl) dL_law_145 (fun r2 u2 k2 => ?_)
  obtain ⟨rfl, hK1⟩ := k2
  refine gg_ic_eq X (pc := 148) (tgt := 549) dL_law_148 (by decide) (fun _ => ?_) (fun h => absurd rfl h)
  exact nxt _ _ _ hJ1 hK1
theorem lc_1 (X : oc_X p s m args meth c cL_law 4 R_law D (oc_tx dS dZ) A) (hX : va_X b L xs s s.heap) (hbl : b < s.heap.size) (hbA : ¬ A b) (hL : L ≤ 320) (hi : i + 5 ≤ L) (hcl : cells + 0 ≤ room_1.cells ∧ slots + 0 ≤ room_1.slots) (hJ : oc_J v S) (hK : oc_K t S) (nxt : ∀ (v t : Nat → Nat → Nat) (S : Nat → Nat → Bool), oc_J v S → oc_K t S → gg p l e room_1 s m args below meth c Q cells slots D A 4 (oc_xW ad dS dZ v ++ oc_mW ae dZ t) 549 [some (.ref b), some (.ref (ad 0)), some (.ref (ae 0)), some (.int (nI i))] []) : gg p l e room_1 s m args below meth c Q cells slots D A 4 (oc_xW ad dS dZ v ++ oc_mW ae dZ t) 153 [some (.ref b), some (.ref (ad 0)), some (.ref (ae 0)), some (.int (nI i))] [] := by
  refine gg_ald_n X (pc := 153) dL_law_153 rfl ?_
  refine gg_ald_n X (pc := 154) dL_law_154 rfl ?_
  refine gg_ild_n X (pc := 155) dL_law_155 rfl ?_
  refine gg_ic X (pc := 156) dL_law_156 oc_ic1 ?_
  refine gg_iaddN X (pc := 157) dL_law_157 ?_
  refine gl_sld X hX hbl hbA (show i + 1 < L by omega) hL (pc := 158) dL_law_158 ?_
  refine gg_ald_n X (pc := 159) dL_law_159 rfl ?_
  refine gg_ild_n X (pc := 160) dL_law_160 rfl ?_
  refine gg_ic X (pc := 161) dL_law_161 oc_ic2 ?_
  refine gg_iaddN X (pc := 162) dL_law_162 ?_
  refine gl_sld X hX hbl hbA (show i + 2 < L by omega) hL (pc := 163) dL_law_163 ?_
  refine gg_ald_n X (pc := 164) dL_law_164 rfl ?_
  refine gg_ild_n X (pc := 165) dL_law_165 rfl ?_
  refine gg_ic X (pc := 166) dL_law_166 oc_ic3 ?_
  refine gg_iaddN X (pc := 167) dL_law_167 ?_
  refine gl_sld X hX hbl hbA (show i + 3 < L by omega) hL (pc := 168) dL_law_168 ?_
  refine gg_ald_n X (pc := 169) dL_law_169 rfl ?_
  refine gg_ild_n X (pc := 170) dL_law_170 rfl ?_
  refine gg_ic X (pc := 171) dL_law_171 oc_ic4 ?_
  refine gg_iaddN X (pc := 172) dL_law_172 ?_
  refine gl_sld X hX hbl hbA (show i + 4 < L by omega) hL (pc := 173) dL_law_173 ?_
  refine gl_callx X (pc := 174) (mX_combine l D dS dZ ad v S hJ (xs (i + 1)) (xs (i + 2)) (xs (i + 3)) (xs (i + 4))) cn_L_18 ⟨by decide, by decide⟩ hcl rfl rfl (Nat.le_of_ble_eq_true rfl) dL_law_174 (fun r1 u1 k1 => ?_)
  obtain ⟨rfl, hJ1⟩ := k1
  refine gg_ald_n X (pc := 177) dL_law_177 rfl ?_
  refine gg_ald_n X (pc := 178) dL_law_178 rfl ?_
  refine gg_ild_n X (pc := 179) dL_law_179 rfl ?_
  refine gg_ic X (pc := 180) dL_law_180 oc_ic1 ?_
  refine gg_iaddN X (pc := 181) dL_law_181 ?_
  refine gl_sld X hX hbl hbA (show i + 1 < L by omega) hL (pc := 182) dL_law_182 ?_
  refine gg_ald_n X (pc := 183) dL_law_183 rfl ?_
  refine gg_ild_n X (pc := 184) dL_law_184 rfl ?_
  refine gg_ic X (pc := 185) dL_law_185 oc_ic2 ?_
  refine gg_iaddN X (pc := 186) dL_law_186 ?_
  refine gl_sld X hX hbl hbA (show i + 2 < L by omega) hL (pc := 187) dL_law_187 ?_
  refine gg_ald_n X (pc := 188) dL_law_188 rfl ?_
  refine gg_ild_n X (pc := 189) dL_law_189 rfl ?_
  refine gg_ic X (pc := 190) dL_law_190 oc_ic3 ?_
  refine gg_iaddN X (pc := 191) dL_law_191 ?_
  refine gl_sld X hX hbl hbA (show i + 3 < L by omega) hL (pc := 192) dL_law_192 ?_
  refine gg_ald_n X (pc := 193) dL_law_193 rfl ?_
  refine gg_ild_n X (pc := 194) dL_law_194 rfl ?_
  refine gg_ic X (pc := 195) dL_law_195 oc_ic4 ?_
  refine gg_iaddN X (pc := 196) dL_law_196 ?_
  refine gl_sld X hX hbl hbA (show i + 4 < L by omega) hL (pc := 197) dL_law_197 ?_
  refine gl_callm X (pc := 198) (mM_combine l D dZ ae t S hK (xs (i + 1)) (xs (i + 2)) (xs (i + 3)) (xs (i + 4))) cn_L_21 ⟨by decide, by decide⟩ hcl rfl rfl (Nat.le_of_ble_eq_true rfl) dL_law_198 (fun r2 u2 k2 => ?_)
  obtain ⟨rfl, hK1⟩ := k2
  refine gg_ic_eq X (pc := 201) (tgt := 549) dL_law_201 (by decide) (fun _ => ?_) (fun h => absurd rfl h)
  exact nxt _ _ _ hJ1 hK1
theorem lc_2 (X : oc_X p s m args meth c cL_law 4 R_law D (oc_tx dS dZ) A) (hX : va_X b L xs s s.heap) (hbl : b < s.heap.size) (hbA : ¬ A b) (hL : L ≤ 320) (hi : i + 5 ≤ L) (hcl : cells + 0 ≤ room_1.cells ∧ slots + 0 ≤ room_1.slots) (hJ : oc_J v S) (hK : oc_K t S) (nxt : ∀ (v t : Nat → Nat → Nat) (S : Nat → Nat → Bool), oc_J v S → oc_K t S → gg p l e room_1 s m args below meth c Q cells slots D A 4 (oc_xW ad dS dZ v ++ oc_mW ae dZ t) 549 [some (.ref b), some (.ref (ad 0)), some (.ref (ae 0)), some (.int (nI i))] []) : gg p l e room_1 s m args below meth c Q cells slots D A 4 (oc_xW ad dS dZ v ++ oc_mW ae dZ t) 206 [some (.ref b), some (.ref (ad 0)), some (.ref (ae 0)), some (.int (nI i))] [] := by
  refine gg_ald_n X (pc := 206) dL_law_206 rfl ?_
  refine gg_ald_n X (pc := 207) dL_law_207 rfl ?_
  refine gg_ild_n X (pc := 208) dL_law_208 rfl ?_
  refine gg_ic X (pc := 209) dL_law_209 oc_ic1 ?_
  refine gg_iaddN X (pc := 210) dL_law_210 ?_
  refine gl_sld X hX hbl hbA (show i + 1 < L by omega) hL (pc := 211) dL_law_211 ?_
  refine gg_ald_n X (pc := 212) dL_law_212 rfl ?_
  refine gg_ild_n X (pc := 213) dL_law_213 rfl ?_
  refine gg_ic X (pc := 214) dL_law_214 oc_ic2 ?_
  refine gg_iaddN X (pc := 215) dL_law_215 ?_
  refine gl_sld X hX hbl hbA (show i + 2 < L by omega) hL (pc := 216) dL_law_216 ?_
  refine gl_callx X (pc := 217) (mX_turn l D dS dZ ad v S hJ (xs (i + 1)) (xs (i + 2))) cn_L_22 ⟨by decide, by decide⟩ hcl rfl rfl (Nat.le_of_ble_eq_true rfl) dL_law_217 (fun r1 u1 k1 => ?_)
  obtain ⟨rfl, hJ1⟩ := k1
  refine gg_ald_n X (pc := 220) dL_law_220 rfl ?_
  refine gg_ald_n X (pc := 221) dL_law_221 rfl ?_
  refine gg_ild_n X (pc := 222) dL_law_222 rfl ?_
  refine gg_ic X (pc := 223) dL_law_223 oc_ic1 ?_
  refine gg_iaddN X (pc := 224) dL_law_224 ?_
  refine gl_sld X hX hbl hbA (show i + 1 < L by omega) hL (pc := 225) dL_law_225 ?_
  refine gg_ald_n X (pc := 226) dL_law_226 rfl ?_
  refine gg_ild_n X (pc := 227) dL_law_227 rfl ?_
  refine gg_ic X (pc := 228) dL_law_228 oc_ic2 ?_
  refine gg_iaddN X (pc := 229) dL_law_229 ?_
  refine gl_sld X hX hbl hbA (show i + 2 < L by omega) hL (pc := 230) dL_law_230 ?_
  refine gl_callm X (pc := 231) (mM_turn l D dZ ae t S hK (xs (i + 1)) (xs (i + 2))) cn_L_26 ⟨by decide, by decide⟩ hcl rfl rfl (Nat.le_of_ble_eq_true rfl) dL_law_231 (fun r2 u2 k2 => ?_)
  obtain ⟨rfl, hK1⟩ := k2
  refine gg_ic_eq X (pc := 234) (tgt := 549) dL_law_234 (by decide) (fun _ => ?_) (fun h => absurd rfl h)
  exact nxt _ _ _ hJ1 hK1
theorem lc_3 (X : oc_X p s m args meth c cL_law 4 R_law D (oc_tx dS dZ) A) (hX : va_X b L xs s s.heap) (hbl : b < s.heap.size) (hbA : ¬ A b) (hL : L ≤ 320) (hi : i + 5 ≤ L) (hcl : cells + 0 ≤ room_1.cells ∧ slots + 0 ≤ room_1.slots) (hJ : oc_J v S) (hK : oc_K t S) (nxt : ∀ (v t : Nat → Nat → Nat) (S : Nat → Nat → Bool), oc_J v S → oc_K t S → gg p l e room_1 s m args below meth c Q cells slots D A 4 (oc_xW ad dS dZ v ++ oc_mW ae dZ t) 549 [some (.ref b), some (.ref (ad 0)), some (.ref (ae 0)), some (.int (nI i))] []) : gg p l e room_1 s m args below meth c Q cells slots D A 4 (oc_xW ad dS dZ v ++ oc_mW ae dZ t) 239 [some (.ref b), some (.ref (ad 0)), some (.ref (ae 0)), some (.int (nI i))] [] := by
  refine gg_ald_n X (pc := 239) dL_law_239 rfl ?_
  refine gg_ald_n X (pc := 240) dL_law_240 rfl ?_
  refine gg_ild_n X (pc := 241) dL_law_241 rfl ?_
  refine gg_ic X (pc := 242) dL_law_242 oc_ic1 ?_
  refine gg_iaddN X (pc := 243) dL_law_243 ?_
  refine gl_sld X hX hbl hbA (show i + 1 < L by omega) hL (pc := 244) dL_law_244 ?_
  refine gg_ald_n X (pc := 245) dL_law_245 rfl ?_
  refine gg_ild_n X (pc := 246) dL_law_246 rfl ?_
  refine gg_ic X (pc := 247) dL_law_247 oc_ic2 ?_
  refine gg_iaddN X (pc := 248) dL_law_248 ?_
  refine gl_sld X hX hbl hbA (show i + 2 < L by omega) hL (pc := 249) dL_law_249 ?_
  refine gg_ald_n X (pc := 250) dL_law_250 rfl ?_
  refine gg_ild_n X (pc := 251) dL_law_251 rfl ?_
  refine gg_ic X (pc := 252) dL_law_252 oc_ic3 ?_
  refine gg_iaddN X (pc := 253) dL_law_253 ?_
  refine gl_sld X hX hbl hbA (show i + 3 < L by omega) hL (pc := 254) dL_law_254 ?_
  refine gl_callx X (pc := 255) (mX_mirror l D dS dZ ad v S hJ (xs (i + 1)) (xs (i + 2)) (xs (i + 3))) cn_L_27 ⟨by decide, by decide⟩ hcl rfl rfl (Nat.le_of_ble_eq_true rfl) dL_law_255 (fun r1 u1 k1 => ?_)
  obtain ⟨rfl, hJ1⟩ := k1
  refine gg_ald_n X (pc := 258) dL_law_258 rfl ?_
  refine gg_ald_n X (pc := 259) dL_law_259 rfl ?_
  refine gg_ild_n X (pc := 260) dL_law_260 rfl ?_
  refine gg_ic X (pc := 261) dL_law_261 oc_ic1 ?_
  refine gg_iaddN X (pc := 262) dL_law_262 ?_
  refine gl_sld X hX hbl hbA (show i + 1 < L by omega) hL (pc := 263) dL_law_263 ?_
  refine gg_ald_n X (pc := 264) dL_law_264 rfl ?_
  refine gg_ild_n X (pc := 265) dL_law_265 rfl ?_
  refine gg_ic X (pc := 266) dL_law_266 oc_ic2 ?_
  refine gg_iaddN X (pc := 267) dL_law_267 ?_
  refine gl_sld X hX hbl hbA (show i + 2 < L by omega) hL (pc := 268) dL_law_268 ?_
  refine gg_ald_n X (pc := 269) dL_law_269 rfl ?_
  refine gg_ild_n X (pc := 270) dL_law_270 rfl ?_
  refine gg_ic X (pc := 271) dL_law_271 oc_ic3 ?_
  refine gg_iaddN X (pc := 272) dL_law_272 ?_
  refine gl_sld X hX hbl hbA (show i + 3 < L by omega) hL (pc := 273) dL_law_273 ?_
  refine gl_callm X (pc := 274) (mM_mirror l D dZ ae t S hK (xs (i + 1)) (xs (i + 2)) (xs (i + 3))) cn_L_31 ⟨by decide, by decide⟩ hcl rfl rfl (Nat.le_of_ble_eq_true rfl) dL_law_274 (fun r2 u2 k2 => ?_)
  obtain ⟨rfl, hK1⟩ := k2
  refine gg_ic_eq X (pc := 277) (tgt := 549) dL_law_277 (by decide) (fun _ => ?_) (fun h => absurd rfl h)
  exact nxt _ _ _ hJ1 hK1
theorem lc_4 (X : oc_X p s m args meth c cL_law 4 R_law D (oc_tx dS dZ) A) (hX : va_X b L xs s s.heap) (hbl : b < s.heap.size) (hbA : ¬ A b) (hL : L ≤ 320) (hi : i + 5 ≤ L) (hcl : cells + 0 ≤ room_1.cells ∧ slots + 0 ≤ room_1.slots) (hJ : oc_J v S) (hK : oc_K t S) (nxt : ∀ (v t : Nat → Nat → Nat) (S : Nat → Nat → Bool), oc_J v S → oc_K t S → gg p l e room_1 s m args below meth c Q cells slots D A 4 (oc_xW ad dS dZ v ++ oc_mW ae dZ t) 549 [some (.ref b), some (.ref (ad 0)), some (.ref (ae 0)), some (.int (nI i))] []) : gg p l e room_1 s m args below meth c Q cells slots D A 4 (oc_xW ad dS dZ v ++ oc_mW ae dZ t) 282 [some (.ref b), some (.ref (ad 0)), some (.ref (ae 0)), some (.int (nI i))] [] := by
  refine gg_ald_n X (pc := 282) dL_law_282 rfl ?_
  refine gg_ald_n X (pc := 283) dL_law_283 rfl ?_
  refine gg_ild_n X (pc := 284) dL_law_284 rfl ?_
  refine gg_ic X (pc := 285) dL_law_285 oc_ic1 ?_
  refine gg_iaddN X (pc := 286) dL_law_286 ?_
  refine gl_sld X hX hbl hbA (show i + 1 < L by omega) hL (pc := 287) dL_law_287 ?_
  refine gl_callx X (pc := 288) (mX_volume l D dS dZ ad v S hJ (xs (i + 1))) cn_L_32 ⟨by decide, by decide⟩ hcl rfl rfl (Nat.le_of_ble_eq_true rfl) dL_law_288 (fun r1 u1 k1 => ?_)
  obtain ⟨rfl, hJ1⟩ := k1
  refine gg_ald_n X (pc := 291) dL_law_291 rfl ?_
  refine gg_ald_n X (pc := 292) dL_law_292 rfl ?_
  refine gg_ild_n X (pc := 293) dL_law_293 rfl ?_
  refine gg_ic X (pc := 294) dL_law_294 oc_ic1 ?_
  refine gg_iaddN X (pc := 295) dL_law_295 ?_
  refine gl_sld X hX hbl hbA (show i + 1 < L by omega) hL (pc := 296) dL_law_296 ?_
  refine gl_callm X (pc := 297) (mM_volume l D dZ ae t S hK (xs (i + 1))) cn_L_36 ⟨by decide, by decide⟩ hcl rfl rfl (Nat.le_of_ble_eq_true rfl) dL_law_297 (fun r2 u2 k2 => ?_)
  obtain ⟨rfl, rfl⟩ := k2
  refine gg_ic_eq X (pc := 300) (tgt := 549) dL_law_300 (by decide) (fun _ => ?_) (fun h => absurd rfl h)
  exact nxt _ _ _ hJ1 hK
theorem lc_5 (X : oc_X p s m args meth c cL_law 4 R_law D (oc_tx dS dZ) A) (hX : va_X b L xs s s.heap) (hbl : b < s.heap.size) (hbA : ¬ A b) (hL : L ≤ 320) (hi : i + 5 ≤ L) (hcl : cells + 0 ≤ room_1.cells ∧ slots + 0 ≤ room_1.slots) (hJ : oc_J v S) (hK : oc_K t S) (nxt : ∀ (v t : Nat → Nat → Nat) (S : Nat → Nat → Bool), oc_J v S → oc_K t S → gg p l e room_1 s m args below meth c Q cells slots D A 4 (oc_xW ad dS dZ v ++ oc_mW ae dZ t) 549 [some (.ref b), some (.ref (ad 0)), some (.ref (ae 0)), some (.int (nI i))] []) : gg p l e room_1 s m args below meth c Q cells slots D A 4 (oc_xW ad dS dZ v ++ oc_mW ae dZ t) 305 [some (.ref b), some (.ref (ad 0)), some (.ref (ae 0)), some (.int (nI i))] [] := by
  refine gg_ald_n X (pc := 305) dL_law_305 rfl ?_
  refine gg_ald_n X (pc := 306) dL_law_306 rfl ?_
  refine gg_ild_n X (pc := 307) dL_law_307 rfl ?_
  refine gg_ic X (pc := 308) dL_law_308 oc_ic1 ?_
  refine gg_iaddN X (pc := 309) dL_law_309 ?_
  refine gl_sld X hX hbl hbA (show i + 1 < L by omega) hL (pc := 310) dL_law_310 ?_
  refine gg_ald_n X (pc := 311) dL_law_311 rfl ?_
  refine gg_ild_n X (pc := 312) dL_law_312 rfl ?_
  refine gg_ic X (pc := 313) dL_law_313 oc_ic2 ?_
  refine gg_iaddN X (pc := 314) dL_law_314 ?_
  refine gl_sld X hX hbl hbA (show i + 2 < L by omega) hL (pc := 315) dL_law_315 ?_
  refine gl_callx X (pc := 316) (mX_has l D dS dZ ad v S hJ (xs (i + 1)) (xs (i + 2))) cn_L_37 ⟨by decide, by decide⟩ hcl rfl rfl (Nat.le_of_ble_eq_true rfl) dL_law_316 (fun r1 u1 k1 => ?_)
  obtain ⟨rfl, rfl⟩ := k1
  refine gg_ald_n X (pc := 319) dL_law_319 rfl ?_
  refine gg_ald_n X (pc := 320) dL_law_320 rfl ?_
  refine gg_ild_n X (pc := 321) dL_law_321 rfl ?_
  refine gg_ic X (pc := 322) dL_law_322 oc_ic1 ?_
  refine gg_iaddN X (pc := 323) dL_law_323 ?_
  refine gl_sld X hX hbl hbA (show i + 1 < L by omega) hL (pc := 324) dL_law_324 ?_
  refine gg_ald_n X (pc := 325) dL_law_325 rfl ?_
  refine gg_ild_n X (pc := 326) dL_law_326 rfl ?_
  refine gg_ic X (pc := 327) dL_law_327 oc_ic2 ?_
  refine gg_iaddN X (pc := 328) dL_law_328 ?_
  refine gl_sld X hX hbl hbA (show i + 2 < L by omega) hL (pc := 329) dL_law_329 ?_
  refine gl_callm X (pc := 330) (mM_has l D dZ ae t S hK (xs (i + 1)) (xs (i + 2))) cn_L_40 ⟨by decide, by decide⟩ hcl rfl rfl (Nat.le_of_ble_eq_true rfl) dL_law_330 (fun r2 u2 k2 => ?_)
  obtain ⟨rfl, rfl⟩ := k2
  refine gg_ic_eq X (pc := 333) (tgt := 549) dL_law_333 (by decide) (fun _ => ?_) (fun h => absurd rfl h)
  exact nxt _ _ _ hJ hK
theorem lc_6 (X : oc_X p s m args meth c cL_law 4 R_law D (oc_tx dS dZ) A) (hX : va_X b L xs s s.heap) (hbl : b < s.heap.size) (hbA : ¬ A b) (hL : L ≤ 320) (hi : i + 5 ≤ L) (hcl : cells + 0 ≤ room_1.cells ∧ slots + 0 ≤ room_1.slots) (hJ : oc_J v S) (hK : oc_K t S) (nxt : ∀ (v t : Nat → Nat → Nat) (S : Nat → Nat → Bool), oc_J v S → oc_K t S → gg p l e room_1 s m args below meth c Q cells slots D A 4 (oc_xW ad dS dZ v ++ oc_mW ae dZ t) 549 [some (.ref b), some (.ref (ad 0)), some (.ref (ae 0)), some (.int (nI i))] []) : gg p l e room_1 s m args below meth c Q cells slots D A 4 (oc_xW ad dS dZ v ++ oc_mW ae dZ t) 338 [some (.ref b), some (.ref (ad 0)), some (.ref (ae 0)), some (.int (nI i))] [] := by
  refine gg_ald_n X (pc := 338) dL_law_338 rfl ?_
  refine gg_ald_n X (pc := 339) dL_law_339 rfl ?_
  refine gg_ild_n X (pc := 340) dL_law_340 rfl ?_
  refine gg_ic X (pc := 341) dL_law_341 oc_ic1 ?_
  refine gg_iaddN X (pc := 342) dL_law_342 ?_
  refine gl_sld X hX hbl hbA (show i + 1 < L by omega) hL (pc := 343) dL_law_343 ?_
  refine gg_ald_n X (pc := 344) dL_law_344 rfl ?_
  refine gg_ild_n X (pc := 345) dL_law_345 rfl ?_
  refine gg_ic X (pc := 346) dL_law_346 oc_ic2 ?_
  refine gg_iaddN X (pc := 347) dL_law_347 ?_
  refine gl_sld X hX hbl hbA (show i + 2 < L by omega) hL (pc := 348) dL_law_348 ?_
  refine gl_callx X (pc := 349) (mX_same l D dS dZ ad v S hJ (xs (i + 1)) (xs (i + 2))) cn_L_41 ⟨by decide, by decide⟩ hcl rfl rfl (Nat.le_of_ble_eq_true rfl) dL_law_349 (fun r1 u1 k1 => ?_)
  obtain ⟨rfl, hJ1⟩ := k1
  refine gg_ald_n X (pc := 352) dL_law_352 rfl ?_
  refine gg_ald_n X (pc := 353) dL_law_353 rfl ?_
  refine gg_ild_n X (pc := 354) dL_law_354 rfl ?_
  refine gg_ic X (pc := 355) dL_law_355 oc_ic1 ?_
  refine gg_iaddN X (pc := 356) dL_law_356 ?_
  refine gl_sld X hX hbl hbA (show i + 1 < L by omega) hL (pc := 357) dL_law_357 ?_
  refine gg_ald_n X (pc := 358) dL_law_358 rfl ?_
  refine gg_ild_n X (pc := 359) dL_law_359 rfl ?_
  refine gg_ic X (pc := 360) dL_law_360 oc_ic2 ?_
  refine gg_iaddN X (pc := 361) dL_law_361 ?_
  refine gl_sld X hX hbl hbA (show i + 2 < L by omega) hL (pc := 362) dL_law_362 ?_
  refine gl_callm X (pc := 363) (mM_same l D dZ ae t S hK (xs (i + 1)) (xs (i + 2))) cn_L_44 ⟨by decide, by decide⟩ hcl rfl rfl (Nat.le_of_ble_eq_true rfl) dL_law_363 (fun r2 u2 k2 => ?_)
  obtain ⟨rfl, rfl⟩ := k2
  refine gg_ic_eq X (pc := 366) (tgt := 549) dL_law_366 (by decide) (fun _ => ?_) (fun h => absurd rfl h)
  exact nxt _ _ _ hJ1 hK
theorem lc_7 (X : oc_X p s m args meth c cL_law 4 R_law D (oc_tx dS dZ) A) (hX : va_X b L xs s s.heap) (hbl : b < s.heap.size) (hbA : ¬ A b) (hL : L ≤ 320) (hi : i + 5 ≤ L) (hcl : cells + 0 ≤ room_1.cells ∧ slots + 0 ≤ room_1.slots) (hJ : oc_J v S) (hK : oc_K t S) (nxt : ∀ (v t : Nat → Nat → Nat) (S : Nat → Nat → Bool), oc_J v S → oc_K t S → gg p l e room_1 s m args below meth c Q cells slots D A 4 (oc_xW ad dS dZ v ++ oc_mW ae dZ t) 549 [some (.ref b), some (.ref (ad 0)), some (.ref (ae 0)), some (.int (nI i))] []) : gg p l e room_1 s m args below meth c Q cells slots D A 4 (oc_xW ad dS dZ v ++ oc_mW ae dZ t) 371 [some (.ref b), some (.ref (ad 0)), some (.ref (ae 0)), some (.int (nI i))] [] := by
  refine gg_ald_n X (pc := 371) dL_law_371 rfl ?_
  refine gg_ald_n X (pc := 372) dL_law_372 rfl ?_
  refine gg_ild_n X (pc := 373) dL_law_373 rfl ?_
  refine gg_ic X (pc := 374) dL_law_374 oc_ic1 ?_
  refine gg_iaddN X (pc := 375) dL_law_375 ?_
  refine gl_sld X hX hbl hbA (show i + 1 < L by omega) hL (pc := 376) dL_law_376 ?_
  refine gg_ald_n X (pc := 377) dL_law_377 rfl ?_
  refine gg_ild_n X (pc := 378) dL_law_378 rfl ?_
  refine gg_ic X (pc := 379) dL_law_379 oc_ic2 ?_
  refine gg_iaddN X (pc := 380) dL_law_380 ?_
  refine gl_sld X hX hbl hbA (show i + 2 < L by omega) hL (pc := 381) dL_law_381 ?_
  refine gl_callx X (pc := 382) (mX_inside l D dS dZ ad v S hJ (xs (i + 1)) (xs (i + 2))) cn_L_45 ⟨by decide, by decide⟩ hcl rfl rfl (Nat.le_of_ble_eq_true rfl) dL_law_382 (fun r1 u1 k1 => ?_)
  obtain ⟨rfl, hJ1⟩ := k1
  refine gg_ald_n X (pc := 385) dL_law_385 rfl ?_
  refine gg_ald_n X (pc := 386) dL_law_386 rfl ?_
  refine gg_ild_n X (pc := 387) dL_law_387 rfl ?_
  refine gg_ic X (pc := 388) dL_law_388 oc_ic1 ?_
  refine gg_iaddN X (pc := 389) dL_law_389 ?_
  refine gl_sld X hX hbl hbA (show i + 1 < L by omega) hL (pc := 390) dL_law_390 ?_
  refine gg_ald_n X (pc := 391) dL_law_391 rfl ?_
  refine gg_ild_n X (pc := 392) dL_law_392 rfl ?_
  refine gg_ic X (pc := 393) dL_law_393 oc_ic2 ?_
  refine gg_iaddN X (pc := 394) dL_law_394 ?_
  refine gl_sld X hX hbl hbA (show i + 2 < L by omega) hL (pc := 395) dL_law_395 ?_
  refine gl_callm X (pc := 396) (mM_inside l D dZ ae t S hK (xs (i + 1)) (xs (i + 2))) cn_L_48 ⟨by decide, by decide⟩ hcl rfl rfl (Nat.le_of_ble_eq_true rfl) dL_law_396 (fun r2 u2 k2 => ?_)
  obtain ⟨rfl, rfl⟩ := k2
  refine gg_ic_eq X (pc := 399) (tgt := 549) dL_law_399 (by decide) (fun _ => ?_) (fun h => absurd rfl h)
  exact nxt _ _ _ hJ1 hK
theorem lc_8 (X : oc_X p s m args meth c cL_law 4 R_law D (oc_tx dS dZ) A) (hX : va_X b L xs s s.heap) (hbl : b < s.heap.size) (hbA : ¬ A b) (hL : L ≤ 320) (hi : i + 5 ≤ L) (hcl : cells + 0 ≤ room_1.cells ∧ slots + 0 ≤ room_1.slots) (hJ : oc_J v S) (hK : oc_K t S) (nxt : ∀ (v t : Nat → Nat → Nat) (S : Nat → Nat → Bool), oc_J v S → oc_K t S → gg p l e room_1 s m args below meth c Q cells slots D A 4 (oc_xW ad dS dZ v ++ oc_mW ae dZ t) 549 [some (.ref b), some (.ref (ad 0)), some (.ref (ae 0)), some (.int (nI i))] []) : gg p l e room_1 s m args below meth c Q cells slots D A 4 (oc_xW ad dS dZ v ++ oc_mW ae dZ t) 404 [some (.ref b), some (.ref (ad 0)), some (.ref (ae 0)), some (.int (nI i))] [] := by
  refine gg_ald_n X (pc := 404) dL_law_404 rfl ?_
  refine gg_ald_n X (pc := 405) dL_law_405 rfl ?_
  refine gg_ild_n X (pc := 406) dL_law_406 rfl ?_
  refine gg_ic X (pc := 407) dL_law_407 oc_ic1 ?_
  refine gg_iaddN X (pc := 408) dL_law_408 ?_
  refine gl_sld X hX hbl hbA (show i + 1 < L by omega) hL (pc := 409) dL_law_409 ?_
  refine gl_callx X (pc := 410) (mX_cubes l D dS dZ ad v S hJ (xs (i + 1))) cn_L_49 ⟨by decide, by decide⟩ hcl rfl rfl (Nat.le_of_ble_eq_true rfl) dL_law_410 (fun r1 u1 k1 => ?_)
  obtain ⟨rfl, hJ1⟩ := k1
  refine gg_ald_n X (pc := 413) dL_law_413 rfl ?_
  refine gg_ald_n X (pc := 414) dL_law_414 rfl ?_
  refine gg_ild_n X (pc := 415) dL_law_415 rfl ?_
  refine gg_ic X (pc := 416) dL_law_416 oc_ic1 ?_
  refine gg_iaddN X (pc := 417) dL_law_417 ?_
  refine gl_sld X hX hbl hbA (show i + 1 < L by omega) hL (pc := 418) dL_law_418 ?_
  refine gl_callm X (pc := 419) (mM_cubes l D dZ ae t S hK (xs (i + 1))) cn_L_52 ⟨by decide, by decide⟩ hcl rfl rfl (Nat.le_of_ble_eq_true rfl) dL_law_419 (fun r2 u2 k2 => ?_)
  obtain ⟨rfl, rfl⟩ := k2
  refine gg_ic_eq X (pc := 422) (tgt := 549) dL_law_422 (by decide) (fun _ => ?_) (fun h => absurd rfl h)
  exact nxt _ _ _ hJ1 hK
theorem lc_9 (X : oc_X p s m args meth c cL_law 4 R_law D (oc_tx dS dZ) A) (hX : va_X b L xs s s.heap) (hbl : b < s.heap.size) (hbA : ¬ A b) (hL : L ≤ 320) (hi : i + 5 ≤ L) (hcl : cells + 0 ≤ room_1.cells ∧ slots + 0 ≤ room_1.slots) (hJ : oc_J v S) (hK : oc_K t S) (nxt : ∀ (v t : Nat → Nat → Nat) (S : Nat → Nat → Bool), oc_J v S → oc_K t S → gg p l e room_1 s m args below meth c Q cells slots D A 4 (oc_xW ad dS dZ v ++ oc_mW ae dZ t) 549 [some (.ref b), some (.ref (ad 0)), some (.ref (ae 0)), some (.int (nI i))] []) : gg p l e room_1 s m args below meth c Q cells slots D A 4 (oc_xW ad dS dZ v ++ oc_mW ae dZ t) 427 [some (.ref b), some (.ref (ad 0)), some (.ref (ae 0)), some (.int (nI i))] [] := by
  refine gg_ald_n X (pc := 427) dL_law_427 rfl ?_
  refine gg_ald_n X (pc := 428) dL_law_428 rfl ?_
  refine gg_ild_n X (pc := 429) dL_law_429 rfl ?_
  refine gg_ic X (pc := 430) dL_law_430 oc_ic1 ?_
  refine gg_iaddN X (pc := 431) dL_law_431 ?_
  refine gl_sld X hX hbl hbA (show i + 1 < L by omega) hL (pc := 432) dL_law_432 ?_
  refine gg_ald_n X (pc := 433) dL_law_433 rfl ?_
  refine gg_ild_n X (pc := 434) dL_law_434 rfl ?_
  refine gg_ic X (pc := 435) dL_law_435 oc_ic2 ?_
  refine gg_iaddN X (pc := 436) dL_law_436 ?_
  refine gl_sld X hX hbl hbA (show i + 2 < L by omega) hL (pc := 437) dL_law_437 ?_
  refine gl_callx X (pc := 438) (mX_order l D dS dZ ad v S hJ (xs (i + 1)) (xs (i + 2))) cn_L_53 ⟨by decide, by decide⟩ hcl rfl rfl (Nat.le_of_ble_eq_true rfl) dL_law_438 (fun r1 u1 k1 => ?_)
  obtain ⟨rfl, hJ1⟩ := k1
  refine gg_ald_n X (pc := 441) dL_law_441 rfl ?_
  refine gg_ald_n X (pc := 442) dL_law_442 rfl ?_
  refine gg_ild_n X (pc := 443) dL_law_443 rfl ?_
  refine gg_ic X (pc := 444) dL_law_444 oc_ic1 ?_
  refine gg_iaddN X (pc := 445) dL_law_445 ?_
  refine gl_sld X hX hbl hbA (show i + 1 < L by omega) hL (pc := 446) dL_law_446 ?_
  refine gg_ald_n X (pc := 447) dL_law_447 rfl ?_
  refine gg_ild_n X (pc := 448) dL_law_448 rfl ?_
  refine gg_ic X (pc := 449) dL_law_449 oc_ic2 ?_
  refine gg_iaddN X (pc := 450) dL_law_450 ?_
  refine gl_sld X hX hbl hbA (show i + 2 < L by omega) hL (pc := 451) dL_law_451 ?_
  refine gl_callm X (pc := 452) (mM_order l D dZ ae t S hK (xs (i + 1)) (xs (i + 2))) cn_L_57 ⟨by decide, by decide⟩ hcl rfl rfl (Nat.le_of_ble_eq_true rfl) dL_law_452 (fun r2 u2 k2 => ?_)
  obtain ⟨rfl, rfl⟩ := k2
  refine gg_ic_eq X (pc := 455) (tgt := 549) dL_law_455 (by decide) (fun _ => ?_) (fun h => absurd rfl h)
  exact nxt _ _ _ hJ1 hK
theorem lc_10 (X : oc_X p s m args meth c cL_law 4 R_law D (oc_tx dS dZ) A) (hX : va_X b L xs s s.heap) (hbl : b < s.heap.size) (hbA : ¬ A b) (hL : L ≤ 320) (hi : i + 5 ≤ L) (hcl : cells + 0 ≤ room_1.cells ∧ slots + 0 ≤ room_1.slots) (hJ : oc_J v S) (hK : oc_K t S) (nxt : ∀ (v t : Nat → Nat → Nat) (S : Nat → Nat → Bool), oc_J v S → oc_K t S → gg p l e room_1 s m args below meth c Q cells slots D A 4 (oc_xW ad dS dZ v ++ oc_mW ae dZ t) 549 [some (.ref b), some (.ref (ad 0)), some (.ref (ae 0)), some (.int (nI i))] []) : gg p l e room_1 s m args below meth c Q cells slots D A 4 (oc_xW ad dS dZ v ++ oc_mW ae dZ t) 460 [some (.ref b), some (.ref (ad 0)), some (.ref (ae 0)), some (.int (nI i))] [] := by
  refine gg_ald_n X (pc := 460) dL_law_460 rfl ?_
  refine gg_ald_n X (pc := 461) dL_law_461 rfl ?_
  refine gg_ild_n X (pc := 462) dL_law_462 rfl ?_
  refine gg_ic X (pc := 463) dL_law_463 oc_ic1 ?_
  refine gg_iaddN X (pc := 464) dL_law_464 ?_
  refine gl_sld X hX hbl hbA (show i + 1 < L by omega) hL (pc := 465) dL_law_465 ?_
  refine gl_callx X (pc := 466) (mX_surface l D dS dZ ad v S hJ (xs (i + 1))) cn_L_58 ⟨by decide, by decide⟩ hcl rfl rfl (Nat.le_of_ble_eq_true rfl) dL_law_466 (fun r1 u1 k1 => ?_)
  obtain ⟨rfl, hJ1⟩ := k1
  refine gg_ald_n X (pc := 469) dL_law_469 rfl ?_
  refine gg_ald_n X (pc := 470) dL_law_470 rfl ?_
  refine gg_ild_n X (pc := 471) dL_law_471 rfl ?_
  refine gg_ic X (pc := 472) dL_law_472 oc_ic1 ?_
  refine gg_iaddN X (pc := 473) dL_law_473 ?_
  refine gl_sld X hX hbl hbA (show i + 1 < L by omega) hL (pc := 474) dL_law_474 ?_
  refine gl_callm X (pc := 475) (mM_surface l D dZ ae t S hK (xs (i + 1))) cn_L_61 ⟨by decide, by decide⟩ hcl rfl rfl (Nat.le_of_ble_eq_true rfl) dL_law_475 (fun r2 u2 k2 => ?_)
  obtain ⟨rfl, rfl⟩ := k2
  refine gg_ic_eq X (pc := 478) (tgt := 549) dL_law_478 (by decide) (fun _ => ?_) (fun h => absurd rfl h)
  exact nxt _ _ _ hJ1 hK
theorem lc_11 (X : oc_X p s m args meth c cL_law 4 R_law D (oc_tx dS dZ) A) (hX : va_X b L xs s s.heap) (hbl : b < s.heap.size) (hbA : ¬ A b) (hL : L ≤ 320) (hi : i + 5 ≤ L) (hcl : cells + 0 ≤ room_1.cells ∧ slots + 0 ≤ room_1.slots) (hJ : oc_J v S) (hK : oc_K t S) (nxt : ∀ (v t : Nat → Nat → Nat) (S : Nat → Nat → Bool), oc_J v S → oc_K t S → gg p l e room_1 s m args below meth c Q cells slots D A 4 (oc_xW ad dS dZ v ++ oc_mW ae dZ t) 549 [some (.ref b), some (.ref (ad 0)), some (.ref (ae 0)), some (.int (nI i))] []) : gg p l e room_1 s m args below meth c Q cells slots D A 4 (oc_xW ad dS dZ v ++ oc_mW ae dZ t) 483 [some (.ref b), some (.ref (ad 0)), some (.ref (ae 0)), some (.int (nI i))] [] := by
  refine gg_ald_n X (pc := 483) dL_law_483 rfl ?_
  refine gg_ald_n X (pc := 484) dL_law_484 rfl ?_
  refine gg_ild_n X (pc := 485) dL_law_485 rfl ?_
  refine gg_ic X (pc := 486) dL_law_486 oc_ic1 ?_
  refine gg_iaddN X (pc := 487) dL_law_487 ?_
  refine gl_sld X hX hbl hbA (show i + 1 < L by omega) hL (pc := 488) dL_law_488 ?_
  refine gg_ald_n X (pc := 489) dL_law_489 rfl ?_
  refine gg_ild_n X (pc := 490) dL_law_490 rfl ?_
  refine gg_ic X (pc := 491) dL_law_491 oc_ic2 ?_
  refine gg_iaddN X (pc := 492) dL_law_492 ?_
  refine gl_sld X hX hbl hbA (show i + 2 < L by omega) hL (pc := 493) dL_law_493 ?_
  refine gl_callx X (pc := 494) (mX_next l D dS dZ ad v S hJ (xs (i + 1)) (xs (i + 2))) cn_L_62 ⟨by decide, by decide⟩ hcl rfl rfl (Nat.le_of_ble_eq_true rfl) dL_law_494 (fun r1 u1 k1 => ?_)
  obtain ⟨rfl, hJ1⟩ := k1
  refine gg_ald_n X (pc := 497) dL_law_497 rfl ?_
  refine gg_ald_n X (pc := 498) dL_law_498 rfl ?_
  refine gg_ild_n X (pc := 499) dL_law_499 rfl ?_
  refine gg_ic X (pc := 500) dL_law_500 oc_ic1 ?_
  refine gg_iaddN X (pc := 501) dL_law_501 ?_
  refine gl_sld X hX hbl hbA (show i + 1 < L by omega) hL (pc := 502) dL_law_502 ?_
  refine gg_ald_n X (pc := 503) dL_law_503 rfl ?_
  refine gg_ild_n X (pc := 504) dL_law_504 rfl ?_
  refine gg_ic X (pc := 505) dL_law_505 oc_ic2 ?_
  refine gg_iaddN X (pc := 506) dL_law_506 ?_
  refine gl_sld X hX hbl hbA (show i + 2 < L by omega) hL (pc := 507) dL_law_507 ?_
  refine gl_callm X (pc := 508) (mM_next l D dZ ae t S hK (xs (i + 1)) (xs (i + 2))) cn_L_65 ⟨by decide, by decide⟩ hcl rfl rfl (Nat.le_of_ble_eq_true rfl) dL_law_508 (fun r2 u2 k2 => ?_)
  obtain ⟨rfl, rfl⟩ := k2
  refine gg_ic_eq X (pc := 511) (tgt := 549) dL_law_511 (by decide) (fun _ => ?_) (fun h => absurd rfl h)
  exact nxt _ _ _ hJ1 hK
theorem lc_12 (X : oc_X p s m args meth c cL_law 4 R_law D (oc_tx dS dZ) A) (hX : va_X b L xs s s.heap) (hbl : b < s.heap.size) (hbA : ¬ A b) (hL : L ≤ 320) (hi : i + 5 ≤ L) (hcl : cells + 0 ≤ room_1.cells ∧ slots + 0 ≤ room_1.slots) (hJ : oc_J v S) (hK : oc_K t S) (nxt : ∀ (v t : Nat → Nat → Nat) (S : Nat → Nat → Bool), oc_J v S → oc_K t S → gg p l e room_1 s m args below meth c Q cells slots D A 4 (oc_xW ad dS dZ v ++ oc_mW ae dZ t) 549 [some (.ref b), some (.ref (ad 0)), some (.ref (ae 0)), some (.int (nI i))] []) : gg p l e room_1 s m args below meth c Q cells slots D A 4 (oc_xW ad dS dZ v ++ oc_mW ae dZ t) 516 [some (.ref b), some (.ref (ad 0)), some (.ref (ae 0)), some (.int (nI i))] [] := by
  refine gg_ald_n X (pc := 516) dL_law_516 rfl ?_
  refine gg_ald_n X (pc := 517) dL_law_517 rfl ?_
  refine gg_ild_n X (pc := 518) dL_law_518 rfl ?_
  refine gg_ic X (pc := 519) dL_law_519 oc_ic1 ?_
  refine gg_iaddN X (pc := 520) dL_law_520 ?_
  refine gl_sld X hX hbl hbA (show i + 1 < L by omega) hL (pc := 521) dL_law_521 ?_
  refine gg_ald_n X (pc := 522) dL_law_522 rfl ?_
  refine gg_ild_n X (pc := 523) dL_law_523 rfl ?_
  refine gg_ic X (pc := 524) dL_law_524 oc_ic2 ?_
  refine gg_iaddN X (pc := 525) dL_law_525 ?_
  refine gl_sld X hX hbl hbA (show i + 2 < L by omega) hL (pc := 526) dL_law_526 ?_
  refine gl_callx X (pc := 527) (mX_kinds l D dS dZ ad v S hJ (xs (i + 1)) (xs (i + 2))) cn_L_66 ⟨by decide, by decide⟩ hcl rfl rfl (Nat.le_of_ble_eq_true rfl) dL_law_527 (fun r1 u1 k1 => ?_)
  obtain ⟨rfl, hJ1⟩ := k1
  refine gg_ald_n X (pc := 530) dL_law_530 rfl ?_
  refine gg_ald_n X (pc := 531) dL_law_531 rfl ?_
  refine gg_ild_n X (pc := 532) dL_law_532 rfl ?_
  refine gg_ic X (pc := 533) dL_law_533 oc_ic1 ?_
  refine gg_iaddN X (pc := 534) dL_law_534 ?_
  refine gl_sld X hX hbl hbA (show i + 1 < L by omega) hL (pc := 535) dL_law_535 ?_
  refine gg_ald_n X (pc := 536) dL_law_536 rfl ?_
  refine gg_ild_n X (pc := 537) dL_law_537 rfl ?_
  refine gg_ic X (pc := 538) dL_law_538 oc_ic2 ?_
  refine gg_iaddN X (pc := 539) dL_law_539 ?_
  refine gl_sld X hX hbl hbA (show i + 2 < L by omega) hL (pc := 540) dL_law_540 ?_
  refine gl_callm X (pc := 541) (mM_kinds l D dZ ae t S hK (xs (i + 1)) (xs (i + 2))) cn_L_69 ⟨by decide, by decide⟩ hcl rfl rfl (Nat.le_of_ble_eq_true rfl) dL_law_541 (fun r2 u2 k2 => ?_)
  obtain ⟨rfl, rfl⟩ := k2
  refine gg_ic_eq X (pc := 544) (tgt := 549) dL_law_544 (by decide) (fun _ => ?_) (fun h => absurd rfl h)
  exact nxt _ _ _ hJ1 hK
end LC
end
section
/-! the law: its loop -/
set_option maxRecDepth 100000
theorem law_loop {p : Program} {l : Launch} {e : Env} {s : State} {m : MethodId} {below : List Frame} {meth : Method} {c : Code} {cells slots : Nat} {D : va_G} {ad ae : Nat → Nat} {dS dZ : ClassId} {b L : Nat} {xs : Nat → Int32} (X : oc_X p s m #[Value.ref b] meth c cL_law 4 R_law D (oc_tx dS dZ) (fun q : Nat => s.heap.size ≤ q)) (hr : meth.sig.returnType = ret) (hX : va_X b L xs s s.heap) (hbl : b < s.heap.size) (hL : L ≤ 320) (hcl : cells + 0 ≤ room_1.cells ∧ slots + 0 ≤ room_1.slots) (hc1 : cells ≤ 600000) (hs1 : slots ≤ 7290000) : ∀ (n i : Nat) (v t : Nat → Nat → Nat) (S : Nat → Nat → Bool), oc_J v S → oc_K t S → i ≤ L → L < i + 5 * n + 5 → gg p l e room_1 s m #[Value.ref b] below meth c (lw_Z below #[Value.ref b] s) cells slots D (fun q : Nat => s.heap.size ≤ q) 4 (oc_xW ad dS dZ v ++ oc_mW ae dZ t) 18 [some (.ref b), some (.ref (ad 0)), some (.ref (ae 0)), some (.int (nI i))] [] := by
  have hbA : ¬ (fun q : Nat => s.heap.size ≤ q) b := Nat.not_le.mpr hbl
  have fin : ∀ (v t : Nat → Nat → Nat) (lo : List (Option Value)), gg p l e room_1 s m #[Value.ref b] below meth c (lw_Z below #[Value.ref b] s) cells slots D (fun q : Nat => s.heap.size ≤ q) 4 (oc_xW ad dS dZ v ++ oc_mW ae dZ t) 555 lo [] := by
    intro v t lo
    refine gg_ic X (pc := 555) dL_law_555 oc_ic1 ?_
    refine gg_top (show nI 1 = 1 by decide +kernel) ?_
    intro H locs ls hP hD hS hl
    exact va_forget hS.2.2 (W.widen hc1 hs1 (lw_ret X.1 X.2.1 hr X.2.2.2.2.2.2.1 dL_law_556))
  intro n
  induction n with
  | zero =>
    intro i v t S hJ hK hi hn
    refine gg_ild_n X (pc := 18) dL_law_18 rfl ?_
    refine gg_ald_n X (pc := 19) dL_law_19 rfl ?_
    refine gl_slen X hX hbl hbA (pc := 20) dL_law_20 ?_
    refine gg_ic X (pc := 21) dL_law_21 oc_ic5 ?_
    refine gg_isub X (pc := 22) dL_law_22 ?_
    refine gg_ic_gt X (pc := 23) (tgt := 555) dL_law_23 (by decide) (fun h => ?_) (fun h => ?_)
    · exact fin _ _ _
    · exact absurd ((oc_len5 hL (by omega)).mpr (by omega)) h
  | succ n ih =>
    intro i v t S hJ hK hi hn
    refine gg_ild_n X (pc := 18) dL_law_18 rfl ?_
    refine gg_ald_n X (pc := 19) dL_law_19 rfl ?_
    refine gl_slen X hX hbl hbA (pc := 20) dL_law_20 ?_
    refine gg_ic X (pc := 21) dL_law_21 oc_ic5 ?_
    refine gg_isub X (pc := 22) dL_law_22 ?_
    refine gg_ic_gt X (pc := 23) (tgt := 555) dL_law_23 (by decide) (fun h => ?_) (fun h => ?_)
    · exact fin _ _ _
    · have hi5 : i + 5 ≤ L := by
        rcases Nat.lt_or_ge L (i + 5) with q | q
        · exact absurd ((oc_len5 hL (by omega)).mpr q) h
        · exact q
      have nxt : ∀ (v t : Nat → Nat → Nat) (S : Nat → Nat → Bool), oc_J v S → oc_K t S → gg p l e room_1 s m #[Value.ref b] below meth c (lw_Z below #[Value.ref b] s) cells slots D (fun q : Nat => s.heap.size ≤ q) 4 (oc_xW ad dS dZ v ++ oc_mW ae dZ t) 549 [some (.ref b), some (.ref (ad 0)), some (.ref (ae 0)), some (.int (nI i))] [] := by
        intro v t S hJ hK
        refine gg_iinc X (pc := 549) dL_law_549 rfl (show nI i + Int32.ofInt 5 = nI (i + 5) by rw [oc_ic5]; exact nI_add i 5) (by decide) ?_
        refine gg_goto X (pc := 552) (tgt := 18) dL_law_552 (by decide) ?_
        exact ih (i + 5) v t S hJ hK (by omega) (by omega)
      refine gg_ald_n X (pc := 26) dL_law_26 rfl ?_
      refine gg_ild_n X (pc := 27) dL_law_27 rfl ?_
      refine gl_sld X hX hbl hbA (show i < L by omega) hL (pc := 28) dL_law_28 ?_
      refine gg_bp X (pc := 29) dL_law_29 oc_bp15 ?_
      refine gg_iand X (pc := 31) dL_law_31 ?_
      obtain ⟨k, hk, ek⟩ := oc_and15 (xs i)
      refine gg_top ek ?_
      rcases (by omega : k = 0 ∨ k = 1 ∨ k = 2 ∨ k = 3 ∨ k = 4 ∨ k = 5 ∨ k = 6 ∨ k = 7 ∨ k = 8 ∨ k = 9 ∨ k = 10 ∨ k = 11 ∨ k = 12 ∨ 13 ≤ k) with rfl | rfl | rfl | rfl | rfl | rfl | rfl | rfl | rfl | rfl | rfl | rfl | rfl | h13
      · refine gl_tin X (pc := 32) (off := 68) (tgt := 100) dL_law_32 (by decide +kernel) (by decide +kernel) (by decide +kernel) (by decide) ?_
        exact lc_0 X hX hbl hbA hL hi5 hcl hJ hK nxt
      · refine gl_tin X (pc := 32) (off := 121) (tgt := 153) dL_law_32 (by decide +kernel) (by decide +kernel) (by decide +kernel) (by decide) ?_
        exact lc_1 X hX hbl hbA hL hi5 hcl hJ hK nxt
      · refine gl_tin X (pc := 32) (off := 174) (tgt := 206) dL_law_32 (by decide +kernel) (by decide +kernel) (by decide +kernel) (by decide) ?_
        exact lc_2 X hX hbl hbA hL hi5 hcl hJ hK nxt
      · refine gl_tin X (pc := 32) (off := 207) (tgt := 239) dL_law_32 (by decide +kernel) (by decide +kernel) (by decide +kernel) (by decide) ?_
        exact lc_3 X hX hbl hbA hL hi5 hcl hJ hK nxt
      · refine gl_tin X (pc := 32) (off := 250) (tgt := 282) dL_law_32 (by decide +kernel) (by decide +kernel) (by decide +kernel) (by decide) ?_
        exact lc_4 X hX hbl hbA hL hi5 hcl hJ hK nxt
      · refine gl_tin X (pc := 32) (off := 273) (tgt := 305) dL_law_32 (by decide +kernel) (by decide +kernel) (by decide +kernel) (by decide) ?_
        exact lc_5 X hX hbl hbA hL hi5 hcl hJ hK nxt
      · refine gl_tin X (pc := 32) (off := 306) (tgt := 338) dL_law_32 (by decide +kernel) (by decide +kernel) (by decide +kernel) (by decide) ?_
        exact lc_6 X hX hbl hbA hL hi5 hcl hJ hK nxt
      · refine gl_tin X (pc := 32) (off := 339) (tgt := 371) dL_law_32 (by decide +kernel) (by decide +kernel) (by decide +kernel) (by decide) ?_
        exact lc_7 X hX hbl hbA hL hi5 hcl hJ hK nxt
      · refine gl_tin X (pc := 32) (off := 372) (tgt := 404) dL_law_32 (by decide +kernel) (by decide +kernel) (by decide +kernel) (by decide) ?_
        exact lc_8 X hX hbl hbA hL hi5 hcl hJ hK nxt
      · refine gl_tin X (pc := 32) (off := 395) (tgt := 427) dL_law_32 (by decide +kernel) (by decide +kernel) (by decide +kernel) (by decide) ?_
        exact lc_9 X hX hbl hbA hL hi5 hcl hJ hK nxt
      · refine gl_tin X (pc := 32) (off := 428) (tgt := 460) dL_law_32 (by decide +kernel) (by decide +kernel) (by decide +kernel) (by decide) ?_
        exact lc_10 X hX hbl hbA hL hi5 hcl hJ hK nxt
      · refine gl_tin X (pc := 32) (off := 451) (tgt := 483) dL_law_32 (by decide +kernel) (by decide +kernel) (by decide +kernel) (by decide) ?_
        exact lc_11 X hX hbl hbA hL hi5 hcl hJ hK nxt
      · refine gl_tin X (pc := 32) (off := 484) (tgt := 516) dL_law_32 (by decide +kernel) (by decide +kernel) (by decide +kernel) (by decide) ?_
        exact lc_12 X hX hbl hbA hL hi5 hcl hJ hK nxt
      · refine gl_tout X (pc := 32) (tgt := 549) dL_law_32 (Or.inr (by rw [nI_toInt (by omega)]; omega)) (by decide) ?_
        exact nxt v t S hJ hK
end
section
set_option maxRecDepth 100000
theorem oc_arr {s : State} {args : Array Value} {ty : FieldType} (h : (Cond.arrayClass ty).before args s = true) : ∃ cA : ClassId, ArrOfT s cA ty ∧ s.vm.findClass ("[" ++ ty.toString) = some cA := by
  obtain ⟨cA, kA, comp, h1, h2, h3⟩ := Cond.arrayClass_spec h
  exact ⟨cA, fun n z => ⟨fun k h => (by cases h), kA, h2, comp, h3⟩, h1⟩
theorem whole_start {p : Program} {e : Env} {s : State} {m : MethodId} {below : List Frame} {meth : Method} {c : Code} (l : Launch) {b L : Nat} {xs : Nat → Int32} (hL : L ≤ 320) (C0 : lw_At p s m meth c b L xs) : W p l e room_1 s m #[Value.ref b] below meth c s.heap [] 0 0 (lw_Z below #[Value.ref b] s) (entryFrame m ([Value.ref b] : List Value).toArray 4) := by
  obtain ⟨hx, hb, hr, hml, hown, hts0, hX, hbl, hlocks, hgv⟩ := id C0
  have hts : ∀ w ∈ lw_all, w.before #[Value.ref b] s = true := fun w h => hts0 w (lw_all_tbl h)
  obtain ⟨c0, iS0, hKn0⟩ := u_known (C := RX0) (T := TX0) (N := 16) (n := 16) hts in_X0 (hts _ q26)
  obtain ⟨c1, iS1, hKn1⟩ := u_known (C := RX1) (T := TX1) (N := 2) (n := 2) hts in_X1 (hts _ q208)
  obtain ⟨dS, hS1, hS2⟩ := oc_arr (hts _ q86)
  obtain ⟨dZ, hZ1, hZ2⟩ := oc_arr (hts _ q87)
  obtain ⟨D, hKc⟩ : ∃ D : va_G, ∀ (k : Nat) (q : vw_C), oc_Cl[k]? = some q → u_Kn s q.1 q.2.1 q.2.2 (D.1 k) (D.2 k) := by
    refine ⟨(fun k => if k = 0 then c0 else c1, fun k => if k = 0 then iS0 else iS1), ?_⟩
    intro k q hq
    match k, hq with
    | 0, hq => cases hq; exact hKn0
    | 1, hq => cases hq; exact hKn1
    | k + 2, hq => simp at hq
  have hK : va_K D oc_Cl (oc_tx dS dZ) s := by
    refine ⟨hKc, fun k q hq => ?_⟩
    match k, hq with
    | 0, hq => cases hq; exact ⟨hS1, hS2⟩
    | 1, hq => cases hq; exact ⟨hZ1, hZ2⟩
    | k + 2, hq => simp at hq
  have X : oc_X p s m #[Value.ref b] meth c cL_law 4 R_law D (oc_tx dS dZ) (fun q : Nat => s.heap.size ≤ q) := ⟨hx, hb, hml, hown, hts, hK, hlocks, fun _ h => h⟩
  have hP : va_P D oc_Cl [] s.heap := fun k q h => by simp at h
  have hD : va_D (fun q : Nat => s.heap.size ≤ q) [] := ⟨fun i j p q h => by simp at h, fun k q h => by simp at h⟩
  have hl := lv_entry ([.ref b]) (n := 4) (Nat.le_of_ble_eq_true rfl)
  rw [lg_entry_eq]
  have body : gg p l e room_1 s m #[Value.ref b] below meth c (lw_Z below #[Value.ref b] s) 0 0 D (fun q : Nat => s.heap.size ≤ q) 4 ([]) 0 [some (.ref b), none, none, none] [] := by
    refine gl_new X (pc := 0) in_X0 tyX0 tyX0_ok q25 q26 q23 (ci := 0) rfl (fs := oc_f0) (fun j hj => ?_) (by decide) (by decide) dL_law_0 (fun a0 => ?_)
    · rcases (by omega : j = 0 ∨ j = 1 ∨ j = 2 ∨ j = 3 ∨ j = 4 ∨ j = 5 ∨ j = 6 ∨ j = 7 ∨ j = 8 ∨ j = 9 ∨ j = 10 ∨ j = 11 ∨ j = 12 ∨ j = 13 ∨ j = 14 ∨ j = 15) with rfl | rfl | rfl | rfl | rfl | rfl | rfl | rfl | rfl | rfl | rfl | rfl | rfl | rfl | rfl | rfl <;> rfl
    refine gg_dup X (pc := 3) dL_law_3 rfl ?_
    refine gl_init X (mX_init l D dS dZ a0) [0, 1] rfl q27 q28 q23 q29 rfl (by decide +kernel) [0] [] rfl (wr := []) rfl (by decide) (by decide) (by decide) ⟨by decide, by decide⟩ ⟨by decide, by decide⟩ (Nat.le_of_ble_eq_true rfl) (pc := 4) dL_law_4 (fun u hu => ?_)
    obtain ⟨ad, v⟩ := u
    obtain ⟨e0, hJ⟩ := hu
    have e0 : ad 0 = a0 := e0
    have hJ : oc_J v (fun _ _ => false) := hJ
    subst e0
    refine gg_ws (ws' := oc_xW ad dS dZ v) rfl ?_
    refine gg_ast_n X (pc := 7) dL_law_7 (by decide) ?_
    refine gl_new X (pc := 8) in_X1 tyX1 tyX1_ok q207 q208 q24 (ci := 1) rfl (fs := [.null, .null]) (fun j hj => ?_) (by decide) (by decide) dL_law_8 (fun a1 => ?_)
    · rcases (by omega : j = 0 ∨ j = 1) with rfl | rfl <;> rfl
    refine gg_dup X (pc := 11) dL_law_11 rfl ?_
    refine gl_init X (mM_init l D dZ a1) [1] rfl q209 q210 q24 q211 rfl (by decide +kernel) [10] [0, 1, 2, 3, 4, 5, 6, 7, 8, 9] rfl (wr := oc_xW ad dS dZ v) rfl (by decide) (by decide) (by decide) ⟨by decide, by decide⟩ ⟨by decide, by decide⟩ (Nat.le_of_ble_eq_true rfl) (pc := 12) dL_law_12 (fun u hu => ?_)
    obtain ⟨ae, t⟩ := u
    obtain ⟨e1, hK2⟩ := hu
    have e1 : ae 0 = a1 := e1
    have hK2 : oc_K t (fun _ _ => false) := hK2
    subst e1
    refine gg_ast_n X (pc := 15) dL_law_15 (by decide) ?_
    refine gg_ic X (pc := 16) dL_law_16 oc_ic0 ?_
    refine gg_ist_n X (pc := 17) dL_law_17 (by decide) ?_
    exact law_loop X hr hX hbl hL ⟨by decide, by decide⟩ (by decide) (by decide) (L + 1) 0 v t _ hJ hK2 (Nat.zero_le _) (by omega)
  exact body s.heap [] _ hP hD va_S.rf (oc_entry hl (by simp [Value.category]) rfl)
end
section
set_option maxHeartbeats 4000000 in
theorem lw_walk (l : Launch) (b : Addr) (xs : List Int32) : MetFree l x (headSpec (Jvm.Cond.code x code maxLocals ret :: tables_1) room_1) (lw_P b xs) (fun _ _ _ _ _ => True) lw_Q := by
  refine MetFree.of_bodyS (code := code) (maxLocals := maxLocals) (ret := ret) (by decide) ?_ ?_
  · intro args s m h hn
    obtain ⟨meth, c, h1, h2, h3, h4, h5, h6, -, -⟩ := Cond.code_spec hn (atoms_spec (ws := Jvm.Cond.code x code maxLocals ret :: tables_1) h _ List.mem_cons_self)
    exact ⟨meth, c, h1, h2, h3, h4, h5, h6⟩
  · intro p e s m args below meth c s₁ B hml0 hP _
    obtain ⟨rfl, hx, hbd, hgv⟩ := hP
    obtain ⟨scr, harrAt, hlist, hof, hsmall⟩ := hx
    obtain ⟨hcb, hkn, -, -⟩ := State.arrayAt?_spec harrAt
    have hown : s.vm.findClass R_law = some m.cls := findClass_of_methodNamed B.named
    have hts0 : ∀ c ∈ (Jvm.Cond.code x code maxLocals ret :: tables_1), c.before #[Value.ref b] s = true := atoms_spec (ws := Jvm.Cond.code x code maxLocals ret :: tables_1) B.pre
    have hts : ∀ w ∈ lw_tbl, w.before #[Value.ref b] s = true := k2_hts_sels lw_privs (fun w hw => hts0 w (List.mem_cons_of_mem _ hw)) lw_privs_ok
    have hml : c.maxLocals = 4 := B.maxLocals_eq (hts0 _ List.mem_cons_self)
    have X₀ : Stand p l e room_1 s m #[Value.ref b] below meth c s₁ [] 0 0 := Stand.of_body B
    have hh0 : s₁.heap = s.heap := by rw [B.state]; rfl
    have hsz : scr.slots.size = xs.length := by rw [← Array.length_toList, hlist, List.length_map]
    have hval : ∀ j : Nat, j < xs.length → scr.slots[j]? = some (.int (xs.getD j 0)) := fun j hj => by
      rw [← Array.getElem?_toList, hlist]
      simp [hj]
    have hbl : b < s.heap.size := (Array.getElem?_eq_some_iff.mp hcb).1
    have hX : va_X b xs.length (fun j => xs.getD j 0) s s.heap := ⟨scr, hcb, hof, hkn, hsz, hval⟩
    have K : W p l e room_1 s m #[Value.ref b] below meth c s₁.heap [] 0 0 (lw_Z below #[Value.ref b] s) (entryFrame m ([Value.ref b] : List Value).toArray 4) := by
      rw [hh0]
      exact whole_start l hbd ⟨B.exec, B.bytes, B.returns, hml, hown, hts, hX, hbl, B.notSynchronized, hgv⟩
    obtain ⟨t, a1, o, b1, b2, b3⟩ := K s₁ rfl X₀
    exact ⟨t, o, a1, b1, b2, b3⟩
theorem lw_pre_spec {args : Array Value} {s : State} (h : (Jvm.Cond.and given_1 narrow_1).before args s = true) (hr : rest_1_c.before args s = true) : ∃ (b : Addr) (xs : List Int32), lw_P b xs args s := by
  have hs := flat_of_before _ h
  have hq := flat_of_before _ hr
  have hc : (Cond.count 1).before args s = true := hs _ (by decide +kernel)
  have harr : (Cond.arrayOf (.arg 0) .int).before args s = true := hs _ (by decide +kernel)
  have hle : (Cond.le (.length (.arg 0)) (.int 320)).before args s = true := hs _ (by decide +kernel)
  have hlen : (Cond.isInt (.length (.arg 0))).before args s = true := hq _ (by decide +kernel)
  have hall : (Cond.all (.arg 0) (.isInt (.elem (.arg 0) (.index 0)))).before args s = true := hq _ (by decide +kernel)
  obtain ⟨b, xs, hb, hx⟩ := State.ints_of_pre rfl harr hlen hall
  have hsm : xs.length < 2 ^ 31 := hx.choose_spec.2.2.2
  have hev : (Term.length (.arg 0)).eval args s none [] s = some (.int xs.length.toInt32) := hx.length_eval hb
  have hv := Cond.le_ints hev (show (Term.int 320).eval args s none [] s = some (.int 320) from rfl)
  have hd : xs.length.toInt32 ≤ 320 := by
    simpa [Cond.before, Cond.holds, hv] using hle
  have hN : xs.length ≤ 320 := (Int32.ofNat_le_ofNat hsm (by decide)).mp (show Int32.ofNat xs.length ≤ Int32.ofNat 320 from hd)
  exact ⟨b, xs, Cond.one_arg hc (show args[0]? = some (.ref b) from hb), hx, hN, h⟩
theorem lw_comes (l : Launch) : Comes l x (Jvm.Cond.code x code maxLocals ret :: tables_1) room_1 (fun tb e args s => Calls_1 tb e args s ∧ rest_1 tb e args s ∧ Pre_1 tb e args s)
    (fun _ _ args s o t => lw_Q args s o t) := by
  intro p e ha hc hk s m args below hf hfit hheap happ hpre
  obtain ⟨b, xs, hP⟩ := lw_pre_spec hpre.2.2 hpre.2.1
  obtain ⟨k, o, h1, h2, h3, hQ⟩ := lw_walk l b xs p e ha hc hk s m args below hf ((Spec.applies_iff_loose hf).mp happ).1 hP trivial
  exact ⟨k, o, h1, h2, h3, hQ⟩
theorem lw_frame {s t : State} {o : Outcome} {args : Array Value} (h : Framed s o t [] 600000 7290000) :
    Framed s o t (fieldLocs frame_1_writes args s ++ arrayLocs frame_1_arrays args s ++ staticLocs frame_1_statics s) 600000 7290000 := h
theorem lw_limb (L : Cond) (hL : ∀ (args : Array Value) (s t : State), L.after args s (.returned (some (.int 1))) t = true) :
    ArmFor flags0 classFile x code maxLocals ret World_1 tables_1 room_1 Calls_1 rest_1 Pre_1
      (fun tb e a s o t => postC L tb e a s o t ∧ Framed s o t (fieldLocs frame_1_writes a s ++ arrayLocs frame_1_arrays a s ++ staticLocs frame_1_statics s) 600000 7290000) := by
  intro l _ _ _ p e ha hc hk s m args below hf hfit hheap happ hpre
  obtain ⟨k, o, h1, h2, h3, rfl, hF⟩ := lw_comes l p e ha hc hk s m args below hf hfit hheap happ hpre
  exact ⟨k, _, h1, h2, h3, hL args s _, lw_frame hF⟩
theorem i_vc : Claimed_1_1 ∧ Claimed_1_2 := ⟨lw_limb limb_1_1 (fun args s t => by simp [limb_1_1, Cond.after, Cond.holds, Cond.value]), lw_limb limb_1_2 (fun args s t => Cond.after_iff.mpr (by
  first | (rw [show limb_1_2 = Cond.eq .result (.int 1) from rfl, Cond.eq_ints (x := 1) (y := 1) rfl rfl]; simp; done) | (simp [limb_1_2, Cond.value, Term.eval]; done)))⟩
end
