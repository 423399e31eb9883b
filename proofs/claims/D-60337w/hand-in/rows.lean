section
-- ===== PART A: goes FIRST, ahead of the names: the tables' words, and 'selects' of the private methods out of them =====
/-- a private method of a class that the tables say can be made, by its rows of tables_1 -/
def lw_okq (q : MethodName × Nat) : Prop := (q.1.cls ≠ "java/lang/invoke/MethodHandle" ∧ q.1.cls ≠ "java/lang/invoke/VarHandle") ∧ Cond.instantiable q.1.cls q.2 ∈ tables_1 ∧ Cond.privateMethod q.1 ∈ tables_1 ∧ Cond.instanceMethod q.1 ∈ tables_1
set_option maxRecDepth 100000
theorem lw_t1 {w : Cond} (h : w ∈ tables_1_1) : w ∈ tables_1 := List.mem_append_left _ h
theorem lw_t2 {w : Cond} (h : w ∈ tables_1_2) : w ∈ tables_1 := List.mem_append_right _ h
theorem lw_p0 : lw_okq (⟨"TraceFrontEnd", "forgetTraces", "()V"⟩, 30) := ⟨⟨by decide +kernel, by decide +kernel⟩, lw_t1 (List.mem_of_getElem? (i := 4) rfl), lw_t1 (List.mem_of_getElem? (i := 12) rfl), lw_t1 (List.mem_of_getElem? (i := 13) rfl)⟩
theorem lw_p1 : lw_okq (⟨"TraceFrontEnd", "squash", "()V"⟩, 30) := ⟨⟨by decide +kernel, by decide +kernel⟩, lw_t1 (List.mem_of_getElem? (i := 4) rfl), lw_t1 (List.mem_of_getElem? (i := 16) rfl), lw_t1 (List.mem_of_getElem? (i := 17) rfl)⟩
theorem lw_p2 : lw_okq (⟨"TraceFrontEnd", "isRegister", "(I)Z"⟩, 30) := ⟨⟨by decide +kernel, by decide +kernel⟩, lw_t1 (List.mem_of_getElem? (i := 4) rfl), lw_t1 (List.mem_of_getElem? (i := 118) rfl), lw_t1 (List.mem_of_getElem? (i := 119) rfl)⟩
theorem lw_p3 : lw_okq (⟨"TraceFrontEnd", "isTarget", "(I)Z"⟩, 30) := ⟨⟨by decide +kernel, by decide +kernel⟩, lw_t1 (List.mem_of_getElem? (i := 4) rfl), lw_t1 (List.mem_of_getElem? (i := 122) rfl), lw_t1 (List.mem_of_getElem? (i := 123) rfl)⟩
theorem lw_p4 : lw_okq (⟨"TraceFrontEnd", "retire", "()V"⟩, 30) := ⟨⟨by decide +kernel, by decide +kernel⟩, lw_t1 (List.mem_of_getElem? (i := 4) rfl), lw_t1 (List.mem_of_getElem? (i := 138) rfl), lw_t1 (List.mem_of_getElem? (i := 139) rfl)⟩
theorem lw_p5 : lw_okq (⟨"TraceFrontEnd", "placeAfter", "(I)I"⟩, 30) := ⟨⟨by decide +kernel, by decide +kernel⟩, lw_t1 (List.mem_of_getElem? (i := 4) rfl), lw_t1 (List.mem_of_getElem? (i := 142) rfl), lw_t1 (List.mem_of_getElem? (i := 143) rfl)⟩
theorem lw_p6 : lw_okq (⟨"TraceFrontEnd", "fillTrace", "(I)V"⟩, 30) := ⟨⟨by decide +kernel, by decide +kernel⟩, lw_t1 (List.mem_of_getElem? (i := 4) rfl), lw_t1 (List.mem_of_getElem? (i := 146) rfl), lw_t1 (List.mem_of_getElem? (i := 147) rfl)⟩
theorem lw_p7 : lw_okq (⟨"TraceFrontEnd", "executeSome", "()V"⟩, 30) := ⟨⟨by decide +kernel, by decide +kernel⟩, lw_t1 (List.mem_of_getElem? (i := 4) rfl), lw_t1 (List.mem_of_getElem? (i := 150) rfl), lw_t1 (List.mem_of_getElem? (i := 151) rfl)⟩
theorem lw_p8 : lw_okq (⟨"TraceFrontEnd", "execute", "(II)Z"⟩, 30) := ⟨⟨by decide +kernel, by decide +kernel⟩, lw_t1 (List.mem_of_getElem? (i := 4) rfl), lw_t1 (List.mem_of_getElem? (i := 154) rfl), lw_t1 (List.mem_of_getElem? (i := 155) rfl)⟩
theorem lw_p9 : lw_okq (⟨"TraceFrontEnd", "mayLoad", "(II)Z"⟩, 30) := ⟨⟨by decide +kernel, by decide +kernel⟩, lw_t1 (List.mem_of_getElem? (i := 4) rfl), lw_t1 (List.mem_of_getElem? (i := 158) rfl), lw_t1 (List.mem_of_getElem? (i := 159) rfl)⟩
theorem lw_p10 : lw_okq (⟨"TraceFrontEnd", "loadedBy", "(II)I"⟩, 30) := ⟨⟨by decide +kernel, by decide +kernel⟩, lw_t1 (List.mem_of_getElem? (i := 4) rfl), lw_t1 (List.mem_of_getElem? (i := 162) rfl), lw_t1 (List.mem_of_getElem? (i := 163) rfl)⟩
theorem lw_p11 : lw_okq (⟨"TraceFrontEnd", "compute", "(III)I"⟩, 30) := ⟨⟨by decide +kernel, by decide +kernel⟩, lw_t1 (List.mem_of_getElem? (i := 4) rfl), lw_t1 (List.mem_of_getElem? (i := 166) rfl), lw_t1 (List.mem_of_getElem? (i := 167) rfl)⟩
theorem lw_p12 : lw_okq (⟨"TraceFrontEnd", "announce", "(I)V"⟩, 30) := ⟨⟨by decide +kernel, by decide +kernel⟩, lw_t1 (List.mem_of_getElem? (i := 4) rfl), lw_t1 (List.mem_of_getElem? (i := 170) rfl), lw_t1 (List.mem_of_getElem? (i := 171) rfl)⟩
theorem lw_p13 : lw_okq (⟨"TraceFrontEnd", "fetch", "()V"⟩, 30) := ⟨⟨by decide +kernel, by decide +kernel⟩, lw_t1 (List.mem_of_getElem? (i := 4) rfl), lw_t1 (List.mem_of_getElem? (i := 174) rfl), lw_t1 (List.mem_of_getElem? (i := 175) rfl)⟩
theorem lw_p14 : lw_okq (⟨"TraceFrontEnd", "agrees", "(II)Z"⟩, 30) := ⟨⟨by decide +kernel, by decide +kernel⟩, lw_t1 (List.mem_of_getElem? (i := 4) rfl), lw_t1 (List.mem_of_getElem? (i := 178) rfl), lw_t1 (List.mem_of_getElem? (i := 179) rfl)⟩
theorem lw_p15 : lw_okq (⟨"TraceFrontEnd", "predictedAfter", "(I)I"⟩, 30) := ⟨⟨by decide +kernel, by decide +kernel⟩, lw_t1 (List.mem_of_getElem? (i := 4) rfl), lw_t1 (List.mem_of_getElem? (i := 182) rfl), lw_t1 (List.mem_of_getElem? (i := 183) rfl)⟩
def lw_privs_1 : List (MethodName × Nat) := [(⟨"TraceFrontEnd", "forgetTraces", "()V"⟩, 30), (⟨"TraceFrontEnd", "squash", "()V"⟩, 30), (⟨"TraceFrontEnd", "isRegister", "(I)Z"⟩, 30), (⟨"TraceFrontEnd", "isTarget", "(I)Z"⟩, 30), (⟨"TraceFrontEnd", "retire", "()V"⟩, 30), (⟨"TraceFrontEnd", "placeAfter", "(I)I"⟩, 30), (⟨"TraceFrontEnd", "fillTrace", "(I)V"⟩, 30), (⟨"TraceFrontEnd", "executeSome", "()V"⟩, 30), (⟨"TraceFrontEnd", "execute", "(II)Z"⟩, 30), (⟨"TraceFrontEnd", "mayLoad", "(II)Z"⟩, 30), (⟨"TraceFrontEnd", "loadedBy", "(II)I"⟩, 30), (⟨"TraceFrontEnd", "compute", "(III)I"⟩, 30), (⟨"TraceFrontEnd", "announce", "(I)V"⟩, 30), (⟨"TraceFrontEnd", "fetch", "()V"⟩, 30), (⟨"TraceFrontEnd", "agrees", "(II)Z"⟩, 30), (⟨"TraceFrontEnd", "predictedAfter", "(I)I"⟩, 30)]
theorem lw_r1 : ∀ q ∈ lw_privs_1, lw_okq q := List.forall_mem_cons.mpr ⟨lw_p0, List.forall_mem_cons.mpr ⟨lw_p1, List.forall_mem_cons.mpr ⟨lw_p2, List.forall_mem_cons.mpr ⟨lw_p3, List.forall_mem_cons.mpr ⟨lw_p4, List.forall_mem_cons.mpr ⟨lw_p5, List.forall_mem_cons.mpr ⟨lw_p6, List.forall_mem_cons.mpr ⟨lw_p7, List.forall_mem_cons.mpr ⟨lw_p8, List.forall_mem_cons.mpr ⟨lw_p9, List.forall_mem_cons.mpr ⟨lw_p10, List.forall_mem_cons.mpr ⟨lw_p11, List.forall_mem_cons.mpr ⟨lw_p12, List.forall_mem_cons.mpr ⟨lw_p13, List.forall_mem_cons.mpr ⟨lw_p14, List.forall_mem_cons.mpr ⟨lw_p15, fun _ h => absurd h List.not_mem_nil⟩⟩⟩⟩⟩⟩⟩⟩⟩⟩⟩⟩⟩⟩⟩⟩
theorem lw_p16 : lw_okq (⟨"TraceFrontEnd", "enter", "(II)V"⟩, 30) := ⟨⟨by decide +kernel, by decide +kernel⟩, lw_t1 (List.mem_of_getElem? (i := 4) rfl), lw_t1 (List.mem_of_getElem? (i := 186) rfl), lw_t1 (List.mem_of_getElem? (i := 187) rfl)⟩
theorem lw_p17 : lw_okq (⟨"TraceFrontEnd", "bindLeft", "(II)V"⟩, 30) := ⟨⟨by decide +kernel, by decide +kernel⟩, lw_t1 (List.mem_of_getElem? (i := 4) rfl), lw_t1 (List.mem_of_getElem? (i := 190) rfl), lw_t1 (List.mem_of_getElem? (i := 191) rfl)⟩
theorem lw_p18 : lw_okq (⟨"TraceFrontEnd", "bindRight", "(II)V"⟩, 30) := ⟨⟨by decide +kernel, by decide +kernel⟩, lw_t1 (List.mem_of_getElem? (i := 4) rfl), lw_t1 (List.mem_of_getElem? (i := 194) rfl), lw_t1 (List.mem_of_getElem? (i := 195) rfl)⟩
theorem lw_p19 : lw_okq (⟨"TraceFrontEndModel", "fits", "(IIII)Z"⟩, 9) := ⟨⟨by decide +kernel, by decide +kernel⟩, lw_t1 (List.mem_of_getElem? (i := 227) rfl), lw_t2 (List.mem_of_getElem? (i := 25) rfl), lw_t2 (List.mem_of_getElem? (i := 26) rfl)⟩
theorem lw_p20 : lw_okq (⟨"TraceFrontEndModel", "isPlace", "(I)Z"⟩, 9) := ⟨⟨by decide +kernel, by decide +kernel⟩, lw_t1 (List.mem_of_getElem? (i := 227) rfl), lw_t2 (List.mem_of_getElem? (i := 29) rfl), lw_t2 (List.mem_of_getElem? (i := 30) rfl)⟩
theorem lw_p21 : lw_okq (⟨"TraceFrontEndModel", "isRegister", "(I)Z"⟩, 9) := ⟨⟨by decide +kernel, by decide +kernel⟩, lw_t1 (List.mem_of_getElem? (i := 227) rfl), lw_t2 (List.mem_of_getElem? (i := 33) rfl), lw_t2 (List.mem_of_getElem? (i := 34) rfl)⟩
theorem lw_p22 : lw_okq (⟨"TraceFrontEndModel", "execute", "(I)V"⟩, 9) := ⟨⟨by decide +kernel, by decide +kernel⟩, lw_t1 (List.mem_of_getElem? (i := 227) rfl), lw_t2 (List.mem_of_getElem? (i := 49) rfl), lw_t2 (List.mem_of_getElem? (i := 50) rfl)⟩
def lw_privs_2 : List (MethodName × Nat) := [(⟨"TraceFrontEnd", "enter", "(II)V"⟩, 30), (⟨"TraceFrontEnd", "bindLeft", "(II)V"⟩, 30), (⟨"TraceFrontEnd", "bindRight", "(II)V"⟩, 30), (⟨"TraceFrontEndModel", "fits", "(IIII)Z"⟩, 9), (⟨"TraceFrontEndModel", "isPlace", "(I)Z"⟩, 9), (⟨"TraceFrontEndModel", "isRegister", "(I)Z"⟩, 9), (⟨"TraceFrontEndModel", "execute", "(I)V"⟩, 9)]
theorem lw_r2 : ∀ q ∈ lw_privs_2, lw_okq q := List.forall_mem_cons.mpr ⟨lw_p16, List.forall_mem_cons.mpr ⟨lw_p17, List.forall_mem_cons.mpr ⟨lw_p18, List.forall_mem_cons.mpr ⟨lw_p19, List.forall_mem_cons.mpr ⟨lw_p20, List.forall_mem_cons.mpr ⟨lw_p21, List.forall_mem_cons.mpr ⟨lw_p22, fun _ h => absurd h List.not_mem_nil⟩⟩⟩⟩⟩⟩⟩
def lw_privs : List (MethodName × Nat) := lw_privs_1 ++ (lw_privs_2)
def lw_tbl : List Cond := k2_sels lw_privs ++ tables_1
theorem lw_privs_ok : ∀ q ∈ lw_privs, lw_okq q := by
  show ∀ q ∈ lw_privs_1 ++ (lw_privs_2), lw_okq q
  exact List.forall_mem_append.mpr ⟨lw_r1, lw_r2⟩
-- ===== ONE list of words for every method: the tables' words that hold all through a run =====
def lw_all : List Cond := lw_tbl.filter goodWord
/-- a word of the tables by its place: claim/WORDS.tsv -/
theorem lw_w {w : Cond} (i : Nat) (h : lw_tbl[i]? = some w) (g : goodWord w = true) : w ∈ lw_all := List.mem_filter.mpr ⟨List.mem_of_getElem? h, g⟩
theorem lw_all_tbl {w : Cond} (h : w ∈ lw_all) : w ∈ lw_tbl := (List.mem_filter.mp h).1
theorem lw_self : GoodIn lw_all lw_all := fun w h => ⟨h, good_of_word (List.mem_filter.mp h).2⟩
/-- a class's field words, by their places -/
theorem lw_in (ws : List Cond) (ps : List Nat) (hp : ws = ps.filterMap (fun i => lw_tbl[i]?)) (hg : ws.all goodWord = true) : ∀ w ∈ ws, w ∈ lw_all := by
  intro w h
  have h1 := List.all_eq_true.mp hg w h
  rw [hp] at h
  obtain ⟨i, -, hi⟩ := List.mem_filterMap.mp h
  exact lw_w i hi h1
/-- the words of a contract for the method y with code b, L locals, answer r -/
abbrev ws_ (y : MethodName) (b : ByteArray) (L : Nat) (r : Option FieldType) : List Cond := Cond.code y b L r :: lw_all
theorem lw_meth {y : MethodName} {b : ByteArray} {L : Nat} {r : Option FieldType} (h : Cond.code y b L r ∈ lw_all) : GoodIn lw_all (ws_ y b L r) := by
  intro w hw
  rcases List.mem_cons.mp hw with e | e
  · rw [e]
    exact lw_self _ h
  · exact lw_self _ e
theorem lw_app {a c : List Cond} (ha : ∀ w ∈ a, w ∈ lw_all) (hc : GoodIn lw_all c) : GoodIn lw_all (a ++ c) := by
  intro w hw
  rcases List.mem_append.mp hw with e | e
  · exact lw_self w (ha w e)
  · exact hc w e
/-- what a call through an object asks: cwV n hts (lw_V ..) -/
theorem lw_V {own : String} {idx : Nat} {C : String} {y : MethodName} {b : ByteArray} {L : Nat} {r : Option FieldType} (h1 : Cond.methodLink own idx y ∈ lw_all) (h2 : Cond.instanceMethod y ∈ lw_all) (h3 : Cond.selects C y y ∈ lw_all) (h4 : Cond.initialized C ∈ lw_all) (h5 : Cond.code y b L r ∈ lw_all) : GoodIn lw_all (wsV own idx C y (ws_ y b L r)) := by
  refine lw_app ?_ (lw_meth h5)
  intro w hw
  simp only [List.mem_cons, List.not_mem_nil, or_false] at hw
  rcases hw with e | e | e | e
  · rw [e]; exact h1
  · rw [e]; exact h2
  · rw [e]; exact h3
  · rw [e]; exact h4
/-- what a static call asks: va_cwS n hts (lw_S ..) -/
theorem lw_S {own : String} {idx : Nat} {y : MethodName} {b : ByteArray} {L : Nat} {r : Option FieldType} (h1 : Cond.methodLink own idx y ∈ lw_all) (h2 : Cond.static y ∈ lw_all) (h3 : Cond.initialized y.cls ∈ lw_all) (h4 : Cond.code y b L r ∈ lw_all) : GoodIn lw_all (va_wsS own idx y (ws_ y b L r)) := by
  refine lw_app ?_ (lw_meth h4)
  intro w hw
  simp only [List.mem_cons, List.not_mem_nil, or_false] at hw
  rcases hw with e | e | e
  · rw [e]; exact h1
  · rw [e]; exact h2
  · rw [e]; exact h3
/-- the words of a contract for a method WITH HANDLERS (hh: its table) -/
abbrev wsW_ (y : MethodName) (b : ByteArray) (L : Nat) (r : Option FieldType) (hh : List (Nat × Nat × Nat × Nat)) : List Cond := Cond.codeWith y b L r hh :: lw_all
theorem lw_methW {y : MethodName} {b : ByteArray} {L : Nat} {r : Option FieldType} {hh : List (Nat × Nat × Nat × Nat)} (h : Cond.codeWith y b L r hh ∈ lw_all) : GoodIn lw_all (wsW_ y b L r hh) := by
  intro w hw
  rcases List.mem_cons.mp hw with e | e
  · rw [e]
    exact lw_self _ h
  · exact lw_self _ e
/-- any list of words by their places (lw_in), good -/
theorem lw_good {ws : List Cond} (h : ∀ w ∈ ws, w ∈ lw_all) : GoodIn lw_all ws := fun w hw => lw_self w (h w hw)
/-- what a call of a method with handlers asks: vx_cwVW n hts (lw_VW ..), vx_cwSW n hts (lw_SW ..) -/
theorem lw_VW {own : String} {idx : Nat} {C : String} {y : MethodName} {b : ByteArray} {L : Nat} {r : Option FieldType} {hh : List (Nat × Nat × Nat × Nat)} (h1 : Cond.methodLink own idx y ∈ lw_all) (h2 : Cond.instanceMethod y ∈ lw_all) (h3 : Cond.selects C y y ∈ lw_all) (h4 : Cond.initialized C ∈ lw_all) (h5 : Cond.codeWith y b L r hh ∈ lw_all) : GoodIn lw_all (wsV own idx C y (wsW_ y b L r hh)) := by
  refine lw_app ?_ (lw_methW h5)
  intro w hw
  simp only [List.mem_cons, List.not_mem_nil, or_false] at hw
  rcases hw with e | e | e | e
  · rw [e]; exact h1
  · rw [e]; exact h2
  · rw [e]; exact h3
  · rw [e]; exact h4
theorem lw_SW {own : String} {idx : Nat} {y : MethodName} {b : ByteArray} {L : Nat} {r : Option FieldType} {hh : List (Nat × Nat × Nat × Nat)} (h1 : Cond.methodLink own idx y ∈ lw_all) (h2 : Cond.static y ∈ lw_all) (h3 : Cond.initialized y.cls ∈ lw_all) (h4 : Cond.codeWith y b L r hh ∈ lw_all) : GoodIn lw_all (va_wsS own idx y (wsW_ y b L r hh)) := by
  refine lw_app ?_ (lw_methW h4)
  intro w hw
  simp only [List.mem_cons, List.not_mem_nil, or_false] at hw
  rcases hw with e | e | e
  · rw [e]; exact h1
  · rw [e]; exact h2
  · rw [e]; exact h3
/-- a word by its place in its run of the tables -/
theorem lw_at {r : List Cond} (hr : ∀ w ∈ r, w ∈ lw_tbl) {w : Cond} (i : Nat) (h : r[i]? = some w) : w ∈ lw_tbl := hr w (List.mem_of_getElem? h)
theorem lw_g {w : Cond} (h : w ∈ lw_tbl) (g : goodWord w = true) : w ∈ lw_all := List.mem_filter.mpr ⟨h, g⟩
theorem lw_ms : ∀ w ∈ k2_sels lw_privs, w ∈ lw_tbl := fun w h => show w ∈ k2_sels lw_privs ++ tables_1 from List.mem_append_left _ h
theorem lw_m1 : ∀ w ∈ tables_1_1, w ∈ lw_tbl := fun w h => show w ∈ k2_sels lw_privs ++ tables_1 from List.mem_append_right (k2_sels lw_privs) (show w ∈ tables_1 from List.mem_append_left _ h)
theorem lw_m2 : ∀ w ∈ tables_1_2, w ∈ lw_tbl := fun w h => show w ∈ k2_sels lw_privs ++ tables_1 from List.mem_append_right (k2_sels lw_privs) (show w ∈ tables_1 from List.mem_append_right _ h)
theorem qs0 : (Cond.selects "TraceFrontEnd" ⟨"TraceFrontEnd", "forgetTraces", "()V"⟩ ⟨"TraceFrontEnd", "forgetTraces", "()V"⟩) ∈ lw_all := lw_g (lw_at lw_ms 0 rfl) rfl
theorem qs1 : (Cond.selects "TraceFrontEnd" ⟨"TraceFrontEnd", "squash", "()V"⟩ ⟨"TraceFrontEnd", "squash", "()V"⟩) ∈ lw_all := lw_g (lw_at lw_ms 1 rfl) rfl
theorem qs2 : (Cond.selects "TraceFrontEnd" ⟨"TraceFrontEnd", "isRegister", "(I)Z"⟩ ⟨"TraceFrontEnd", "isRegister", "(I)Z"⟩) ∈ lw_all := lw_g (lw_at lw_ms 2 rfl) rfl
theorem qs3 : (Cond.selects "TraceFrontEnd" ⟨"TraceFrontEnd", "isTarget", "(I)Z"⟩ ⟨"TraceFrontEnd", "isTarget", "(I)Z"⟩) ∈ lw_all := lw_g (lw_at lw_ms 3 rfl) rfl
theorem qs4 : (Cond.selects "TraceFrontEnd" ⟨"TraceFrontEnd", "retire", "()V"⟩ ⟨"TraceFrontEnd", "retire", "()V"⟩) ∈ lw_all := lw_g (lw_at lw_ms 4 rfl) rfl
theorem qs5 : (Cond.selects "TraceFrontEnd" ⟨"TraceFrontEnd", "placeAfter", "(I)I"⟩ ⟨"TraceFrontEnd", "placeAfter", "(I)I"⟩) ∈ lw_all := lw_g (lw_at lw_ms 5 rfl) rfl
theorem qs6 : (Cond.selects "TraceFrontEnd" ⟨"TraceFrontEnd", "fillTrace", "(I)V"⟩ ⟨"TraceFrontEnd", "fillTrace", "(I)V"⟩) ∈ lw_all := lw_g (lw_at lw_ms 6 rfl) rfl
theorem qs7 : (Cond.selects "TraceFrontEnd" ⟨"TraceFrontEnd", "executeSome", "()V"⟩ ⟨"TraceFrontEnd", "executeSome", "()V"⟩) ∈ lw_all := lw_g (lw_at lw_ms 7 rfl) rfl
theorem qs8 : (Cond.selects "TraceFrontEnd" ⟨"TraceFrontEnd", "execute", "(II)Z"⟩ ⟨"TraceFrontEnd", "execute", "(II)Z"⟩) ∈ lw_all := lw_g (lw_at lw_ms 8 rfl) rfl
theorem qs9 : (Cond.selects "TraceFrontEnd" ⟨"TraceFrontEnd", "mayLoad", "(II)Z"⟩ ⟨"TraceFrontEnd", "mayLoad", "(II)Z"⟩) ∈ lw_all := lw_g (lw_at lw_ms 9 rfl) rfl
theorem qs10 : (Cond.selects "TraceFrontEnd" ⟨"TraceFrontEnd", "loadedBy", "(II)I"⟩ ⟨"TraceFrontEnd", "loadedBy", "(II)I"⟩) ∈ lw_all := lw_g (lw_at lw_ms 10 rfl) rfl
theorem qs11 : (Cond.selects "TraceFrontEnd" ⟨"TraceFrontEnd", "compute", "(III)I"⟩ ⟨"TraceFrontEnd", "compute", "(III)I"⟩) ∈ lw_all := lw_g (lw_at lw_ms 11 rfl) rfl
theorem qs12 : (Cond.selects "TraceFrontEnd" ⟨"TraceFrontEnd", "announce", "(I)V"⟩ ⟨"TraceFrontEnd", "announce", "(I)V"⟩) ∈ lw_all := lw_g (lw_at lw_ms 12 rfl) rfl
theorem qs13 : (Cond.selects "TraceFrontEnd" ⟨"TraceFrontEnd", "fetch", "()V"⟩ ⟨"TraceFrontEnd", "fetch", "()V"⟩) ∈ lw_all := lw_g (lw_at lw_ms 13 rfl) rfl
theorem qs14 : (Cond.selects "TraceFrontEnd" ⟨"TraceFrontEnd", "agrees", "(II)Z"⟩ ⟨"TraceFrontEnd", "agrees", "(II)Z"⟩) ∈ lw_all := lw_g (lw_at lw_ms 14 rfl) rfl
theorem qs15 : (Cond.selects "TraceFrontEnd" ⟨"TraceFrontEnd", "predictedAfter", "(I)I"⟩ ⟨"TraceFrontEnd", "predictedAfter", "(I)I"⟩) ∈ lw_all := lw_g (lw_at lw_ms 15 rfl) rfl
theorem qs16 : (Cond.selects "TraceFrontEnd" ⟨"TraceFrontEnd", "enter", "(II)V"⟩ ⟨"TraceFrontEnd", "enter", "(II)V"⟩) ∈ lw_all := lw_g (lw_at lw_ms 16 rfl) rfl
theorem qs17 : (Cond.selects "TraceFrontEnd" ⟨"TraceFrontEnd", "bindLeft", "(II)V"⟩ ⟨"TraceFrontEnd", "bindLeft", "(II)V"⟩) ∈ lw_all := lw_g (lw_at lw_ms 17 rfl) rfl
theorem qs18 : (Cond.selects "TraceFrontEnd" ⟨"TraceFrontEnd", "bindRight", "(II)V"⟩ ⟨"TraceFrontEnd", "bindRight", "(II)V"⟩) ∈ lw_all := lw_g (lw_at lw_ms 18 rfl) rfl
theorem qs19 : (Cond.selects "TraceFrontEndModel" ⟨"TraceFrontEndModel", "fits", "(IIII)Z"⟩ ⟨"TraceFrontEndModel", "fits", "(IIII)Z"⟩) ∈ lw_all := lw_g (lw_at lw_ms 19 rfl) rfl
theorem qs20 : (Cond.selects "TraceFrontEndModel" ⟨"TraceFrontEndModel", "isPlace", "(I)Z"⟩ ⟨"TraceFrontEndModel", "isPlace", "(I)Z"⟩) ∈ lw_all := lw_g (lw_at lw_ms 20 rfl) rfl
theorem qs21 : (Cond.selects "TraceFrontEndModel" ⟨"TraceFrontEndModel", "isRegister", "(I)Z"⟩ ⟨"TraceFrontEndModel", "isRegister", "(I)Z"⟩) ∈ lw_all := lw_g (lw_at lw_ms 21 rfl) rfl
theorem qs22 : (Cond.selects "TraceFrontEndModel" ⟨"TraceFrontEndModel", "execute", "(I)V"⟩ ⟨"TraceFrontEndModel", "execute", "(I)V"⟩) ∈ lw_all := lw_g (lw_at lw_ms 22 rfl) rfl
end
section
/-! TraceFrontEnd -/
set_option maxRecDepth 100000
def RX0 : String := "TraceFrontEnd"
def TX0 : u_T := fun k => match k with
  | 0 => ("TraceFrontEnd", "length", "I", false)
  | 1 => ("TraceFrontEnd", "opcode", "[B", true)
  | 2 => ("TraceFrontEnd", "fieldX", "[B", true)
  | 3 => ("TraceFrontEnd", "fieldY", "[B", true)
  | 4 => ("TraceFrontEnd", "fieldZ", "[I", true)
  | 5 => ("TraceFrontEnd", "registers", "[I", true)
  | 6 => ("TraceFrontEnd", "cells", "[I", true)
  | 7 => ("TraceFrontEnd", "pc", "I", false)
  | 8 => ("TraceFrontEnd", "status", "I", false)
  | 9 => ("TraceFrontEnd", "counter", "[B", true)
  | 10 => ("TraceFrontEnd", "traceLength", "[B", true)
  | 11 => ("TraceFrontEnd", "tracePlace", "[B", true)
  | 12 => ("TraceFrontEnd", "filling", "[B", true)
  | 13 => ("TraceFrontEnd", "filled", "I", false)
  | 14 => ("TraceFrontEnd", "head", "I", false)
  | 15 => ("TraceFrontEnd", "entries", "I", false)
  | 16 => ("TraceFrontEnd", "entryPlace", "[B", true)
  | 17 => ("TraceFrontEnd", "entryOp", "[B", true)
  | 18 => ("TraceFrontEnd", "entryNext", "[B", true)
  | 19 => ("TraceFrontEnd", "leftSource", "[B", true)
  | 20 => ("TraceFrontEnd", "leftValue", "[I", true)
  | 21 => ("TraceFrontEnd", "rightSource", "[B", true)
  | 22 => ("TraceFrontEnd", "rightValue", "[I", true)
  | 23 => ("TraceFrontEnd", "addressed", "[Z", true)
  | 24 => ("TraceFrontEnd", "address", "[B", true)
  | 25 => ("TraceFrontEnd", "done", "[Z", true)
  | 26 => ("TraceFrontEnd", "result", "[I", true)
  | 27 => ("TraceFrontEnd", "newest", "[B", true)
  | 28 => ("TraceFrontEnd", "fetchPlace", "I", false)
  | _ => ("TraceFrontEnd", "retired", "I", false)
def tyX0 : Nat → FieldType := fun k => match k with
  | 0 => .int
  | 1 => .array .byte
  | 2 => .array .byte
  | 3 => .array .byte
  | 4 => .array .int
  | 5 => .array .int
  | 6 => .array .int
  | 7 => .int
  | 8 => .int
  | 9 => .array .byte
  | 10 => .array .byte
  | 11 => .array .byte
  | 12 => .array .byte
  | 13 => .int
  | 14 => .int
  | 15 => .int
  | 16 => .array .byte
  | 17 => .array .byte
  | 18 => .array .byte
  | 19 => .array .byte
  | 20 => .array .int
  | 21 => .array .byte
  | 22 => .array .int
  | 23 => .array .boolean
  | 24 => .array .byte
  | 25 => .array .boolean
  | 26 => .array .int
  | 27 => .array .byte
  | 28 => .int
  | _ => .int
abbrev wsX00 : List Cond := u_ws RX0 TX0 30
set_option maxRecDepth 100000 in
theorem nmX0 : ∀ a, a < 30 → ∀ b, b < 30 → a ≠ b → (TX0 a).2.1 ≠ (TX0 b).2.1 := by decide +kernel
set_option maxRecDepth 100000 in
theorem tyX0_ok : ∀ k, k < 30 → parseFieldDescriptor (TX0 k).2.2.1 = some (tyX0 k) := by decide +kernel
abbrev cX0_init : ByteArray := prog_1_method_1_code
def yX0_init : MethodName := ⟨RX0, "<init>", "()V"⟩
theorem dX0_init_0 : decode cX0_init 0 = .ok (.aload_n 0, 1) := by decide +kernel
theorem dX0_init_1 : decode cX0_init 1 = .ok (.invokespecial 1, 3) := by decide +kernel
theorem dX0_init_4 : decode cX0_init 4 = .ok (.aload_n 0, 1) := by decide +kernel
theorem dX0_init_5 : decode cX0_init 5 = .ok (.bipush 24, 2) := by decide +kernel
theorem dX0_init_7 : decode cX0_init 7 = .ok (.newarray .byte, 2) := by decide +kernel
theorem dX0_init_9 : decode cX0_init 9 = .ok (.putfield 7, 3) := by decide +kernel
theorem dX0_init_12 : decode cX0_init 12 = .ok (.aload_n 0, 1) := by decide +kernel
theorem dX0_init_13 : decode cX0_init 13 = .ok (.bipush 24, 2) := by decide +kernel
theorem dX0_init_15 : decode cX0_init 15 = .ok (.newarray .byte, 2) := by decide +kernel
theorem dX0_init_17 : decode cX0_init 17 = .ok (.putfield 13, 3) := by decide +kernel
theorem dX0_init_20 : decode cX0_init 20 = .ok (.aload_n 0, 1) := by decide +kernel
theorem dX0_init_21 : decode cX0_init 21 = .ok (.bipush 24, 2) := by decide +kernel
theorem dX0_init_23 : decode cX0_init 23 = .ok (.newarray .byte, 2) := by decide +kernel
theorem dX0_init_25 : decode cX0_init 25 = .ok (.putfield 16, 3) := by decide +kernel
theorem dX0_init_28 : decode cX0_init 28 = .ok (.aload_n 0, 1) := by decide +kernel
theorem dX0_init_29 : decode cX0_init 29 = .ok (.bipush 24, 2) := by decide +kernel
theorem dX0_init_31 : decode cX0_init 31 = .ok (.newarray .int, 2) := by decide +kernel
theorem dX0_init_33 : decode cX0_init 33 = .ok (.putfield 19, 3) := by decide +kernel
theorem dX0_init_36 : decode cX0_init 36 = .ok (.aload_n 0, 1) := by decide +kernel
theorem dX0_init_37 : decode cX0_init 37 = .ok (.bipush 8, 2) := by decide +kernel
theorem dX0_init_39 : decode cX0_init 39 = .ok (.newarray .int, 2) := by decide +kernel
theorem dX0_init_41 : decode cX0_init 41 = .ok (.putfield 23, 3) := by decide +kernel
theorem dX0_init_44 : decode cX0_init 44 = .ok (.aload_n 0, 1) := by decide +kernel
theorem dX0_init_45 : decode cX0_init 45 = .ok (.bipush 16, 2) := by decide +kernel
theorem dX0_init_47 : decode cX0_init 47 = .ok (.newarray .int, 2) := by decide +kernel
theorem dX0_init_49 : decode cX0_init 49 = .ok (.putfield 26, 3) := by decide +kernel
theorem dX0_init_52 : decode cX0_init 52 = .ok (.aload_n 0, 1) := by decide +kernel
theorem dX0_init_53 : decode cX0_init 53 = .ok (.bipush 24, 2) := by decide +kernel
theorem dX0_init_55 : decode cX0_init 55 = .ok (.newarray .byte, 2) := by decide +kernel
theorem dX0_init_57 : decode cX0_init 57 = .ok (.putfield 29, 3) := by decide +kernel
theorem dX0_init_60 : decode cX0_init 60 = .ok (.aload_n 0, 1) := by decide +kernel
theorem dX0_init_61 : decode cX0_init 61 = .ok (.bipush 8, 2) := by decide +kernel
theorem dX0_init_63 : decode cX0_init 63 = .ok (.newarray .byte, 2) := by decide +kernel
theorem dX0_init_65 : decode cX0_init 65 = .ok (.putfield 32, 3) := by decide +kernel
theorem dX0_init_68 : decode cX0_init 68 = .ok (.aload_n 0, 1) := by decide +kernel
theorem dX0_init_69 : decode cX0_init 69 = .ok (.bipush 24, 2) := by decide +kernel
theorem dX0_init_71 : decode cX0_init 71 = .ok (.newarray .byte, 2) := by decide +kernel
theorem dX0_init_73 : decode cX0_init 73 = .ok (.putfield 35, 3) := by decide +kernel
theorem dX0_init_76 : decode cX0_init 76 = .ok (.aload_n 0, 1) := by decide +kernel
theorem dX0_init_77 : decode cX0_init 77 = .ok (.iconst 3, 1) := by decide +kernel
theorem dX0_init_78 : decode cX0_init 78 = .ok (.newarray .byte, 2) := by decide +kernel
theorem dX0_init_80 : decode cX0_init 80 = .ok (.putfield 38, 3) := by decide +kernel
theorem dX0_init_83 : decode cX0_init 83 = .ok (.aload_n 0, 1) := by decide +kernel
theorem dX0_init_84 : decode cX0_init 84 = .ok (.bipush 8, 2) := by decide +kernel
theorem dX0_init_86 : decode cX0_init 86 = .ok (.newarray .byte, 2) := by decide +kernel
theorem dX0_init_88 : decode cX0_init 88 = .ok (.putfield 41, 3) := by decide +kernel
theorem dX0_init_91 : decode cX0_init 91 = .ok (.aload_n 0, 1) := by decide +kernel
theorem dX0_init_92 : decode cX0_init 92 = .ok (.bipush 8, 2) := by decide +kernel
theorem dX0_init_94 : decode cX0_init 94 = .ok (.newarray .byte, 2) := by decide +kernel
theorem dX0_init_96 : decode cX0_init 96 = .ok (.putfield 44, 3) := by decide +kernel
theorem dX0_init_99 : decode cX0_init 99 = .ok (.aload_n 0, 1) := by decide +kernel
theorem dX0_init_100 : decode cX0_init 100 = .ok (.bipush 8, 2) := by decide +kernel
theorem dX0_init_102 : decode cX0_init 102 = .ok (.newarray .byte, 2) := by decide +kernel
theorem dX0_init_104 : decode cX0_init 104 = .ok (.putfield 47, 3) := by decide +kernel
theorem dX0_init_107 : decode cX0_init 107 = .ok (.aload_n 0, 1) := by decide +kernel
theorem dX0_init_108 : decode cX0_init 108 = .ok (.bipush 8, 2) := by decide +kernel
theorem dX0_init_110 : decode cX0_init 110 = .ok (.newarray .byte, 2) := by decide +kernel
theorem dX0_init_112 : decode cX0_init 112 = .ok (.putfield 50, 3) := by decide +kernel
theorem dX0_init_115 : decode cX0_init 115 = .ok (.aload_n 0, 1) := by decide +kernel
theorem dX0_init_116 : decode cX0_init 116 = .ok (.bipush 8, 2) := by decide +kernel
theorem dX0_init_118 : decode cX0_init 118 = .ok (.newarray .int, 2) := by decide +kernel
theorem dX0_init_120 : decode cX0_init 120 = .ok (.putfield 53, 3) := by decide +kernel
theorem dX0_init_123 : decode cX0_init 123 = .ok (.aload_n 0, 1) := by decide +kernel
theorem dX0_init_124 : decode cX0_init 124 = .ok (.bipush 8, 2) := by decide +kernel
theorem dX0_init_126 : decode cX0_init 126 = .ok (.newarray .byte, 2) := by decide +kernel
theorem dX0_init_128 : decode cX0_init 128 = .ok (.putfield 56, 3) := by decide +kernel
theorem dX0_init_131 : decode cX0_init 131 = .ok (.aload_n 0, 1) := by decide +kernel
theorem dX0_init_132 : decode cX0_init 132 = .ok (.bipush 8, 2) := by decide +kernel
theorem dX0_init_134 : decode cX0_init 134 = .ok (.newarray .int, 2) := by decide +kernel
theorem dX0_init_136 : decode cX0_init 136 = .ok (.putfield 59, 3) := by decide +kernel
theorem dX0_init_139 : decode cX0_init 139 = .ok (.aload_n 0, 1) := by decide +kernel
theorem dX0_init_140 : decode cX0_init 140 = .ok (.bipush 8, 2) := by decide +kernel
theorem dX0_init_142 : decode cX0_init 142 = .ok (.newarray .boolean, 2) := by decide +kernel
theorem dX0_init_144 : decode cX0_init 144 = .ok (.putfield 62, 3) := by decide +kernel
theorem dX0_init_147 : decode cX0_init 147 = .ok (.aload_n 0, 1) := by decide +kernel
theorem dX0_init_148 : decode cX0_init 148 = .ok (.bipush 8, 2) := by decide +kernel
theorem dX0_init_150 : decode cX0_init 150 = .ok (.newarray .byte, 2) := by decide +kernel
theorem dX0_init_152 : decode cX0_init 152 = .ok (.putfield 66, 3) := by decide +kernel
theorem dX0_init_155 : decode cX0_init 155 = .ok (.aload_n 0, 1) := by decide +kernel
theorem dX0_init_156 : decode cX0_init 156 = .ok (.bipush 8, 2) := by decide +kernel
theorem dX0_init_158 : decode cX0_init 158 = .ok (.newarray .boolean, 2) := by decide +kernel
theorem dX0_init_160 : decode cX0_init 160 = .ok (.putfield 69, 3) := by decide +kernel
theorem dX0_init_163 : decode cX0_init 163 = .ok (.aload_n 0, 1) := by decide +kernel
theorem dX0_init_164 : decode cX0_init 164 = .ok (.bipush 8, 2) := by decide +kernel
theorem dX0_init_166 : decode cX0_init 166 = .ok (.newarray .int, 2) := by decide +kernel
theorem dX0_init_168 : decode cX0_init 168 = .ok (.putfield 72, 3) := by decide +kernel
theorem dX0_init_171 : decode cX0_init 171 = .ok (.aload_n 0, 1) := by decide +kernel
theorem dX0_init_172 : decode cX0_init 172 = .ok (.bipush 8, 2) := by decide +kernel
theorem dX0_init_174 : decode cX0_init 174 = .ok (.newarray .byte, 2) := by decide +kernel
theorem dX0_init_176 : decode cX0_init 176 = .ok (.putfield 75, 3) := by decide +kernel
theorem dX0_init_179 : decode cX0_init 179 = .ok (.aload_n 0, 1) := by decide +kernel
theorem dX0_init_180 : decode cX0_init 180 = .ok (.invokevirtual 78, 3) := by decide +kernel
theorem dX0_init_183 : decode cX0_init 183 = .ok (.aload_n 0, 1) := by decide +kernel
theorem dX0_init_184 : decode cX0_init 184 = .ok (.invokevirtual 81, 3) := by decide +kernel
theorem dX0_init_187 : decode cX0_init 187 = .ok (.return_, 1) := by decide +kernel
abbrev cX0_forgetTraces : ByteArray := prog_1_method_15_code
def yX0_forgetTraces : MethodName := ⟨RX0, "forgetTraces", "()V"⟩
theorem dX0_forgetTraces_0 : decode cX0_forgetTraces 0 = .ok (.iconst 0, 1) := by decide +kernel
theorem dX0_forgetTraces_1 : decode cX0_forgetTraces 1 = .ok (.istore_n 1, 1) := by decide +kernel
theorem dX0_forgetTraces_2 : decode cX0_forgetTraces 2 = .ok (.iload_n 1, 1) := by decide +kernel
theorem dX0_forgetTraces_3 : decode cX0_forgetTraces 3 = .ok (.bipush 8, 2) := by decide +kernel
theorem dX0_forgetTraces_5 : decode cX0_forgetTraces 5 = .ok (.if_icmp .ge 16, 3) := by decide +kernel
theorem dX0_forgetTraces_8 : decode cX0_forgetTraces 8 = .ok (.aload_n 0, 1) := by decide +kernel
theorem dX0_forgetTraces_9 : decode cX0_forgetTraces 9 = .ok (.getfield 32, 3) := by decide +kernel
theorem dX0_forgetTraces_12 : decode cX0_forgetTraces 12 = .ok (.iload_n 1, 1) := by decide +kernel
theorem dX0_forgetTraces_13 : decode cX0_forgetTraces 13 = .ok (.iconst 0, 1) := by decide +kernel
theorem dX0_forgetTraces_14 : decode cX0_forgetTraces 14 = .ok (.bastore, 1) := by decide +kernel
theorem dX0_forgetTraces_15 : decode cX0_forgetTraces 15 = .ok (.iinc 1 1, 3) := by decide +kernel
theorem dX0_forgetTraces_18 : decode cX0_forgetTraces 18 = .ok (.goto (-16), 3) := by decide +kernel
theorem dX0_forgetTraces_21 : decode cX0_forgetTraces 21 = .ok (.aload_n 0, 1) := by decide +kernel
theorem dX0_forgetTraces_22 : decode cX0_forgetTraces 22 = .ok (.iconst 0, 1) := by decide +kernel
theorem dX0_forgetTraces_23 : decode cX0_forgetTraces 23 = .ok (.putfield 122, 3) := by decide +kernel
theorem dX0_forgetTraces_26 : decode cX0_forgetTraces 26 = .ok (.return_, 1) := by decide +kernel
abbrev cX0_squash : ByteArray := prog_1_method_16_code
def yX0_squash : MethodName := ⟨RX0, "squash", "()V"⟩
theorem dX0_squash_0 : decode cX0_squash 0 = .ok (.aload_n 0, 1) := by decide +kernel
theorem dX0_squash_1 : decode cX0_squash 1 = .ok (.iconst 0, 1) := by decide +kernel
theorem dX0_squash_2 : decode cX0_squash 2 = .ok (.putfield 104, 3) := by decide +kernel
theorem dX0_squash_5 : decode cX0_squash 5 = .ok (.aload_n 0, 1) := by decide +kernel
theorem dX0_squash_6 : decode cX0_squash 6 = .ok (.aload_n 0, 1) := by decide +kernel
theorem dX0_squash_7 : decode cX0_squash 7 = .ok (.getfield 95, 3) := by decide +kernel
theorem dX0_squash_10 : decode cX0_squash 10 = .ok (.putfield 125, 3) := by decide +kernel
theorem dX0_squash_13 : decode cX0_squash 13 = .ok (.iconst 0, 1) := by decide +kernel
theorem dX0_squash_14 : decode cX0_squash 14 = .ok (.istore_n 1, 1) := by decide +kernel
theorem dX0_squash_15 : decode cX0_squash 15 = .ok (.iload_n 1, 1) := by decide +kernel
theorem dX0_squash_16 : decode cX0_squash 16 = .ok (.bipush 8, 2) := by decide +kernel
theorem dX0_squash_18 : decode cX0_squash 18 = .ok (.if_icmp .ge 16, 3) := by decide +kernel
theorem dX0_squash_21 : decode cX0_squash 21 = .ok (.aload_n 0, 1) := by decide +kernel
theorem dX0_squash_22 : decode cX0_squash 22 = .ok (.getfield 75, 3) := by decide +kernel
theorem dX0_squash_25 : decode cX0_squash 25 = .ok (.iload_n 1, 1) := by decide +kernel
theorem dX0_squash_26 : decode cX0_squash 26 = .ok (.iconst (-1), 1) := by decide +kernel
theorem dX0_squash_27 : decode cX0_squash 27 = .ok (.bastore, 1) := by decide +kernel
theorem dX0_squash_28 : decode cX0_squash 28 = .ok (.iinc 1 1, 3) := by decide +kernel
theorem dX0_squash_31 : decode cX0_squash 31 = .ok (.goto (-16), 3) := by decide +kernel
theorem dX0_squash_34 : decode cX0_squash 34 = .ok (.return_, 1) := by decide +kernel
abbrev cX0_emit : ByteArray := prog_1_method_2_code
def yX0_emit : MethodName := ⟨RX0, "emit", "(IIII)I"⟩
theorem dX0_emit_0 : decode cX0_emit 0 = .ok (.aload_n 0, 1) := by decide +kernel
theorem dX0_emit_1 : decode cX0_emit 1 = .ok (.getfield 84, 3) := by decide +kernel
theorem dX0_emit_4 : decode cX0_emit 4 = .ok (.bipush 24, 2) := by decide +kernel
theorem dX0_emit_6 : decode cX0_emit 6 = .ok (.if_icmp .lt 6, 3) := by decide +kernel
theorem dX0_emit_9 : decode cX0_emit 9 = .ok (.bipush (-2), 2) := by decide +kernel
theorem dX0_emit_11 : decode cX0_emit 11 = .ok (.ireturn, 1) := by decide +kernel
theorem dX0_emit_12 : decode cX0_emit 12 = .ok (.iload_n 1, 1) := by decide +kernel
theorem dX0_emit_13 : decode cX0_emit 13 = .ok (.ifCond .lt 9, 3) := by decide +kernel
theorem dX0_emit_16 : decode cX0_emit 16 = .ok (.iload_n 1, 1) := by decide +kernel
theorem dX0_emit_17 : decode cX0_emit 17 = .ok (.bipush 10, 2) := by decide +kernel
theorem dX0_emit_19 : decode cX0_emit 19 = .ok (.if_icmp .le 5, 3) := by decide +kernel
theorem dX0_emit_22 : decode cX0_emit 22 = .ok (.iconst (-1), 1) := by decide +kernel
theorem dX0_emit_23 : decode cX0_emit 23 = .ok (.ireturn, 1) := by decide +kernel
theorem dX0_emit_24 : decode cX0_emit 24 = .ok (.iload_n 1, 1) := by decide +kernel
theorem dX0_emit_25 : decode cX0_emit 25 = .ok (.bipush 8, 2) := by decide +kernel
theorem dX0_emit_27 : decode cX0_emit 27 = .ok (.if_icmp .gt 13, 3) := by decide +kernel
theorem dX0_emit_30 : decode cX0_emit 30 = .ok (.aload_n 0, 1) := by decide +kernel
theorem dX0_emit_31 : decode cX0_emit 31 = .ok (.iload_n 2, 1) := by decide +kernel
theorem dX0_emit_32 : decode cX0_emit 32 = .ok (.invokevirtual 88, 3) := by decide +kernel
theorem dX0_emit_35 : decode cX0_emit 35 = .ok (.ifCond .ne 5, 3) := by decide +kernel
theorem dX0_emit_38 : decode cX0_emit 38 = .ok (.iconst (-1), 1) := by decide +kernel
theorem dX0_emit_39 : decode cX0_emit 39 = .ok (.ireturn, 1) := by decide +kernel
theorem dX0_emit_40 : decode cX0_emit 40 = .ok (.iload_n 1, 1) := by decide +kernel
theorem dX0_emit_41 : decode cX0_emit 41 = .ok (.bipush 6, 2) := by decide +kernel
theorem dX0_emit_43 : decode cX0_emit 43 = .ok (.if_icmp .gt 13, 3) := by decide +kernel
theorem dX0_emit_46 : decode cX0_emit 46 = .ok (.aload_n 0, 1) := by decide +kernel
theorem dX0_emit_47 : decode cX0_emit 47 = .ok (.iload_n 3, 1) := by decide +kernel
theorem dX0_emit_48 : decode cX0_emit 48 = .ok (.invokevirtual 88, 3) := by decide +kernel
theorem dX0_emit_51 : decode cX0_emit 51 = .ok (.ifCond .ne 5, 3) := by decide +kernel
theorem dX0_emit_54 : decode cX0_emit 54 = .ok (.iconst (-1), 1) := by decide +kernel
theorem dX0_emit_55 : decode cX0_emit 55 = .ok (.ireturn, 1) := by decide +kernel
theorem dX0_emit_56 : decode cX0_emit 56 = .ok (.iload_n 1, 1) := by decide +kernel
theorem dX0_emit_57 : decode cX0_emit 57 = .ok (.iconst 3, 1) := by decide +kernel
theorem dX0_emit_58 : decode cX0_emit 58 = .ok (.if_icmp .gt 14, 3) := by decide +kernel
theorem dX0_emit_61 : decode cX0_emit 61 = .ok (.aload_n 0, 1) := by decide +kernel
theorem dX0_emit_62 : decode cX0_emit 62 = .ok (.iload 4, 2) := by decide +kernel
theorem dX0_emit_64 : decode cX0_emit 64 = .ok (.invokevirtual 88, 3) := by decide +kernel
theorem dX0_emit_67 : decode cX0_emit 67 = .ok (.ifCond .ne 5, 3) := by decide +kernel
theorem dX0_emit_70 : decode cX0_emit 70 = .ok (.iconst (-1), 1) := by decide +kernel
theorem dX0_emit_71 : decode cX0_emit 71 = .ok (.ireturn, 1) := by decide +kernel
theorem dX0_emit_72 : decode cX0_emit 72 = .ok (.iload_n 1, 1) := by decide +kernel
theorem dX0_emit_73 : decode cX0_emit 73 = .ok (.bipush 7, 2) := by decide +kernel
theorem dX0_emit_75 : decode cX0_emit 75 = .ok (.if_icmp .eq 9, 3) := by decide +kernel
theorem dX0_emit_78 : decode cX0_emit 78 = .ok (.iload_n 1, 1) := by decide +kernel
theorem dX0_emit_79 : decode cX0_emit 79 = .ok (.bipush 8, 2) := by decide +kernel
theorem dX0_emit_81 : decode cX0_emit 81 = .ok (.if_icmp .ne 13, 3) := by decide +kernel
theorem dX0_emit_84 : decode cX0_emit 84 = .ok (.aload_n 0, 1) := by decide +kernel
theorem dX0_emit_85 : decode cX0_emit 85 = .ok (.iload_n 3, 1) := by decide +kernel
theorem dX0_emit_86 : decode cX0_emit 86 = .ok (.invokevirtual 92, 3) := by decide +kernel
theorem dX0_emit_89 : decode cX0_emit 89 = .ok (.ifCond .ne 5, 3) := by decide +kernel
theorem dX0_emit_92 : decode cX0_emit 92 = .ok (.iconst (-1), 1) := by decide +kernel
theorem dX0_emit_93 : decode cX0_emit 93 = .ok (.ireturn, 1) := by decide +kernel
theorem dX0_emit_94 : decode cX0_emit 94 = .ok (.iload_n 1, 1) := by decide +kernel
theorem dX0_emit_95 : decode cX0_emit 95 = .ok (.bipush 9, 2) := by decide +kernel
theorem dX0_emit_97 : decode cX0_emit 97 = .ok (.if_icmp .ne 13, 3) := by decide +kernel
theorem dX0_emit_100 : decode cX0_emit 100 = .ok (.aload_n 0, 1) := by decide +kernel
theorem dX0_emit_101 : decode cX0_emit 101 = .ok (.iload_n 2, 1) := by decide +kernel
theorem dX0_emit_102 : decode cX0_emit 102 = .ok (.invokevirtual 92, 3) := by decide +kernel
theorem dX0_emit_105 : decode cX0_emit 105 = .ok (.ifCond .ne 5, 3) := by decide +kernel
theorem dX0_emit_108 : decode cX0_emit 108 = .ok (.iconst (-1), 1) := by decide +kernel
theorem dX0_emit_109 : decode cX0_emit 109 = .ok (.ireturn, 1) := by decide +kernel
theorem dX0_emit_110 : decode cX0_emit 110 = .ok (.aload_n 0, 1) := by decide +kernel
theorem dX0_emit_111 : decode cX0_emit 111 = .ok (.getfield 7, 3) := by decide +kernel
theorem dX0_emit_114 : decode cX0_emit 114 = .ok (.aload_n 0, 1) := by decide +kernel
theorem dX0_emit_115 : decode cX0_emit 115 = .ok (.getfield 84, 3) := by decide +kernel
theorem dX0_emit_118 : decode cX0_emit 118 = .ok (.iload_n 1, 1) := by decide +kernel
theorem dX0_emit_119 : decode cX0_emit 119 = .ok (.i2b, 1) := by decide +kernel
theorem dX0_emit_120 : decode cX0_emit 120 = .ok (.bastore, 1) := by decide +kernel
theorem dX0_emit_121 : decode cX0_emit 121 = .ok (.aload_n 0, 1) := by decide +kernel
theorem dX0_emit_122 : decode cX0_emit 122 = .ok (.getfield 13, 3) := by decide +kernel
theorem dX0_emit_125 : decode cX0_emit 125 = .ok (.aload_n 0, 1) := by decide +kernel
theorem dX0_emit_126 : decode cX0_emit 126 = .ok (.getfield 84, 3) := by decide +kernel
theorem dX0_emit_129 : decode cX0_emit 129 = .ok (.iload_n 2, 1) := by decide +kernel
theorem dX0_emit_130 : decode cX0_emit 130 = .ok (.i2b, 1) := by decide +kernel
theorem dX0_emit_131 : decode cX0_emit 131 = .ok (.bastore, 1) := by decide +kernel
theorem dX0_emit_132 : decode cX0_emit 132 = .ok (.aload_n 0, 1) := by decide +kernel
theorem dX0_emit_133 : decode cX0_emit 133 = .ok (.getfield 16, 3) := by decide +kernel
theorem dX0_emit_136 : decode cX0_emit 136 = .ok (.aload_n 0, 1) := by decide +kernel
theorem dX0_emit_137 : decode cX0_emit 137 = .ok (.getfield 84, 3) := by decide +kernel
theorem dX0_emit_140 : decode cX0_emit 140 = .ok (.iload_n 3, 1) := by decide +kernel
theorem dX0_emit_141 : decode cX0_emit 141 = .ok (.i2b, 1) := by decide +kernel
theorem dX0_emit_142 : decode cX0_emit 142 = .ok (.bastore, 1) := by decide +kernel
theorem dX0_emit_143 : decode cX0_emit 143 = .ok (.aload_n 0, 1) := by decide +kernel
theorem dX0_emit_144 : decode cX0_emit 144 = .ok (.getfield 19, 3) := by decide +kernel
theorem dX0_emit_147 : decode cX0_emit 147 = .ok (.aload_n 0, 1) := by decide +kernel
theorem dX0_emit_148 : decode cX0_emit 148 = .ok (.getfield 84, 3) := by decide +kernel
theorem dX0_emit_151 : decode cX0_emit 151 = .ok (.iload_n 1, 1) := by decide +kernel
theorem dX0_emit_152 : decode cX0_emit 152 = .ok (.bipush 9, 2) := by decide +kernel
theorem dX0_emit_154 : decode cX0_emit 154 = .ok (.if_icmp .ne 7, 3) := by decide +kernel
theorem dX0_emit_157 : decode cX0_emit 157 = .ok (.iload_n 2, 1) := by decide +kernel
theorem dX0_emit_158 : decode cX0_emit 158 = .ok (.goto 15, 3) := by decide +kernel
theorem dX0_emit_161 : decode cX0_emit 161 = .ok (.iload_n 1, 1) := by decide +kernel
theorem dX0_emit_162 : decode cX0_emit 162 = .ok (.bipush 7, 2) := by decide +kernel
theorem dX0_emit_164 : decode cX0_emit 164 = .ok (.if_icmp .lt 7, 3) := by decide +kernel
theorem dX0_emit_167 : decode cX0_emit 167 = .ok (.iload_n 3, 1) := by decide +kernel
theorem dX0_emit_168 : decode cX0_emit 168 = .ok (.goto 5, 3) := by decide +kernel
theorem dX0_emit_171 : decode cX0_emit 171 = .ok (.iload 4, 2) := by decide +kernel
theorem dX0_emit_173 : decode cX0_emit 173 = .ok (.iastore, 1) := by decide +kernel
theorem dX0_emit_174 : decode cX0_emit 174 = .ok (.aload_n 0, 1) := by decide +kernel
theorem dX0_emit_175 : decode cX0_emit 175 = .ok (.getfield 29, 3) := by decide +kernel
theorem dX0_emit_178 : decode cX0_emit 178 = .ok (.aload_n 0, 1) := by decide +kernel
theorem dX0_emit_179 : decode cX0_emit 179 = .ok (.getfield 84, 3) := by decide +kernel
theorem dX0_emit_182 : decode cX0_emit 182 = .ok (.iconst 1, 1) := by decide +kernel
theorem dX0_emit_183 : decode cX0_emit 183 = .ok (.bastore, 1) := by decide +kernel
theorem dX0_emit_184 : decode cX0_emit 184 = .ok (.aload_n 0, 1) := by decide +kernel
theorem dX0_emit_185 : decode cX0_emit 185 = .ok (.dup, 1) := by decide +kernel
theorem dX0_emit_186 : decode cX0_emit 186 = .ok (.getfield 84, 3) := by decide +kernel
theorem dX0_emit_189 : decode cX0_emit 189 = .ok (.iconst 1, 1) := by decide +kernel
theorem dX0_emit_190 : decode cX0_emit 190 = .ok (.iadd, 1) := by decide +kernel
theorem dX0_emit_191 : decode cX0_emit 191 = .ok (.putfield 84, 3) := by decide +kernel
theorem dX0_emit_194 : decode cX0_emit 194 = .ok (.aload_n 0, 1) := by decide +kernel
theorem dX0_emit_195 : decode cX0_emit 195 = .ok (.invokevirtual 78, 3) := by decide +kernel
theorem dX0_emit_198 : decode cX0_emit 198 = .ok (.aload_n 0, 1) := by decide +kernel
theorem dX0_emit_199 : decode cX0_emit 199 = .ok (.getfield 84, 3) := by decide +kernel
theorem dX0_emit_202 : decode cX0_emit 202 = .ok (.ireturn, 1) := by decide +kernel
abbrev cX0_isRegister : ByteArray := prog_1_method_13_code
def yX0_isRegister : MethodName := ⟨RX0, "isRegister", "(I)Z"⟩
theorem dX0_isRegister_0 : decode cX0_isRegister 0 = .ok (.iload_n 1, 1) := by decide +kernel
theorem dX0_isRegister_1 : decode cX0_isRegister 1 = .ok (.ifCond .lt 13, 3) := by decide +kernel
theorem dX0_isRegister_4 : decode cX0_isRegister 4 = .ok (.iload_n 1, 1) := by decide +kernel
theorem dX0_isRegister_5 : decode cX0_isRegister 5 = .ok (.bipush 7, 2) := by decide +kernel
theorem dX0_isRegister_7 : decode cX0_isRegister 7 = .ok (.if_icmp .gt 7, 3) := by decide +kernel
theorem dX0_isRegister_10 : decode cX0_isRegister 10 = .ok (.iconst 1, 1) := by decide +kernel
theorem dX0_isRegister_11 : decode cX0_isRegister 11 = .ok (.goto 4, 3) := by decide +kernel
theorem dX0_isRegister_14 : decode cX0_isRegister 14 = .ok (.iconst 0, 1) := by decide +kernel
theorem dX0_isRegister_15 : decode cX0_isRegister 15 = .ok (.ireturn, 1) := by decide +kernel
abbrev cX0_isTarget : ByteArray := prog_1_method_14_code
def yX0_isTarget : MethodName := ⟨RX0, "isTarget", "(I)Z"⟩
theorem dX0_isTarget_0 : decode cX0_isTarget 0 = .ok (.iload_n 1, 1) := by decide +kernel
theorem dX0_isTarget_1 : decode cX0_isTarget 1 = .ok (.ifCond .lt 13, 3) := by decide +kernel
theorem dX0_isTarget_4 : decode cX0_isTarget 4 = .ok (.iload_n 1, 1) := by decide +kernel
theorem dX0_isTarget_5 : decode cX0_isTarget 5 = .ok (.bipush 23, 2) := by decide +kernel
theorem dX0_isTarget_7 : decode cX0_isTarget 7 = .ok (.if_icmp .gt 7, 3) := by decide +kernel
theorem dX0_isTarget_10 : decode cX0_isTarget 10 = .ok (.iconst 1, 1) := by decide +kernel
theorem dX0_isTarget_11 : decode cX0_isTarget 11 = .ok (.goto 4, 3) := by decide +kernel
theorem dX0_isTarget_14 : decode cX0_isTarget 14 = .ok (.iconst 0, 1) := by decide +kernel
theorem dX0_isTarget_15 : decode cX0_isTarget 15 = .ok (.ireturn, 1) := by decide +kernel
abbrev cX0_amend : ByteArray := prog_1_method_3_code
def yX0_amend : MethodName := ⟨RX0, "amend", "(II)I"⟩
theorem dX0_amend_0 : decode cX0_amend 0 = .ok (.iload_n 1, 1) := by decide +kernel
theorem dX0_amend_1 : decode cX0_amend 1 = .ok (.ifCond .lt 11, 3) := by decide +kernel
theorem dX0_amend_4 : decode cX0_amend 4 = .ok (.iload_n 1, 1) := by decide +kernel
theorem dX0_amend_5 : decode cX0_amend 5 = .ok (.aload_n 0, 1) := by decide +kernel
theorem dX0_amend_6 : decode cX0_amend 6 = .ok (.getfield 84, 3) := by decide +kernel
theorem dX0_amend_9 : decode cX0_amend 9 = .ok (.if_icmp .lt 5, 3) := by decide +kernel
theorem dX0_amend_12 : decode cX0_amend 12 = .ok (.iconst (-1), 1) := by decide +kernel
theorem dX0_amend_13 : decode cX0_amend 13 = .ok (.ireturn, 1) := by decide +kernel
theorem dX0_amend_14 : decode cX0_amend 14 = .ok (.aload_n 0, 1) := by decide +kernel
theorem dX0_amend_15 : decode cX0_amend 15 = .ok (.getfield 7, 3) := by decide +kernel
theorem dX0_amend_18 : decode cX0_amend 18 = .ok (.iload_n 1, 1) := by decide +kernel
theorem dX0_amend_19 : decode cX0_amend 19 = .ok (.baload, 1) := by decide +kernel
theorem dX0_amend_20 : decode cX0_amend 20 = .ok (.istore_n 3, 1) := by decide +kernel
theorem dX0_amend_21 : decode cX0_amend 21 = .ok (.iload_n 3, 1) := by decide +kernel
theorem dX0_amend_22 : decode cX0_amend 22 = .ok (.iconst 4, 1) := by decide +kernel
theorem dX0_amend_23 : decode cX0_amend 23 = .ok (.if_icmp .lt 9, 3) := by decide +kernel
theorem dX0_amend_26 : decode cX0_amend 26 = .ok (.iload_n 3, 1) := by decide +kernel
theorem dX0_amend_27 : decode cX0_amend 27 = .ok (.bipush 10, 2) := by decide +kernel
theorem dX0_amend_29 : decode cX0_amend 29 = .ok (.if_icmp .ne 5, 3) := by decide +kernel
theorem dX0_amend_32 : decode cX0_amend 32 = .ok (.iconst (-1), 1) := by decide +kernel
theorem dX0_amend_33 : decode cX0_amend 33 = .ok (.ireturn, 1) := by decide +kernel
theorem dX0_amend_34 : decode cX0_amend 34 = .ok (.iload_n 3, 1) := by decide +kernel
theorem dX0_amend_35 : decode cX0_amend 35 = .ok (.bipush 7, 2) := by decide +kernel
theorem dX0_amend_37 : decode cX0_amend 37 = .ok (.if_icmp .lt 13, 3) := by decide +kernel
theorem dX0_amend_40 : decode cX0_amend 40 = .ok (.aload_n 0, 1) := by decide +kernel
theorem dX0_amend_41 : decode cX0_amend 41 = .ok (.iload_n 2, 1) := by decide +kernel
theorem dX0_amend_42 : decode cX0_amend 42 = .ok (.invokevirtual 92, 3) := by decide +kernel
theorem dX0_amend_45 : decode cX0_amend 45 = .ok (.ifCond .ne 5, 3) := by decide +kernel
theorem dX0_amend_48 : decode cX0_amend 48 = .ok (.iconst (-1), 1) := by decide +kernel
theorem dX0_amend_49 : decode cX0_amend 49 = .ok (.ireturn, 1) := by decide +kernel
theorem dX0_amend_50 : decode cX0_amend 50 = .ok (.aload_n 0, 1) := by decide +kernel
theorem dX0_amend_51 : decode cX0_amend 51 = .ok (.getfield 19, 3) := by decide +kernel
theorem dX0_amend_54 : decode cX0_amend 54 = .ok (.iload_n 1, 1) := by decide +kernel
theorem dX0_amend_55 : decode cX0_amend 55 = .ok (.iload_n 2, 1) := by decide +kernel
theorem dX0_amend_56 : decode cX0_amend 56 = .ok (.iastore, 1) := by decide +kernel
theorem dX0_amend_57 : decode cX0_amend 57 = .ok (.aload_n 0, 1) := by decide +kernel
theorem dX0_amend_58 : decode cX0_amend 58 = .ok (.invokevirtual 78, 3) := by decide +kernel
theorem dX0_amend_61 : decode cX0_amend 61 = .ok (.iload_n 1, 1) := by decide +kernel
theorem dX0_amend_62 : decode cX0_amend 62 = .ok (.ireturn, 1) := by decide +kernel
end
section
set_option maxRecDepth 100000
abbrev cX0_restart : ByteArray := prog_1_method_4_code
def yX0_restart : MethodName := ⟨RX0, "restart", "()V"⟩
theorem dX0_restart_0 : decode cX0_restart 0 = .ok (.aload_n 0, 1) := by decide +kernel
theorem dX0_restart_1 : decode cX0_restart 1 = .ok (.iconst 0, 1) := by decide +kernel
theorem dX0_restart_2 : decode cX0_restart 2 = .ok (.putfield 95, 3) := by decide +kernel
theorem dX0_restart_5 : decode cX0_restart 5 = .ok (.aload_n 0, 1) := by decide +kernel
theorem dX0_restart_6 : decode cX0_restart 6 = .ok (.iconst 0, 1) := by decide +kernel
theorem dX0_restart_7 : decode cX0_restart 7 = .ok (.putfield 98, 3) := by decide +kernel
theorem dX0_restart_10 : decode cX0_restart 10 = .ok (.return_, 1) := by decide +kernel
abbrev cX0_run : ByteArray := prog_1_method_5_code
def yX0_run : MethodName := ⟨RX0, "run", "(I)I"⟩
theorem dX0_run_0 : decode cX0_run 0 = .ok (.iload_n 1, 1) := by decide +kernel
theorem dX0_run_1 : decode cX0_run 1 = .ok (.ifCond .ge 7, 3) := by decide +kernel
theorem dX0_run_4 : decode cX0_run 4 = .ok (.iconst 0, 1) := by decide +kernel
theorem dX0_run_5 : decode cX0_run 5 = .ok (.goto 17, 3) := by decide +kernel
theorem dX0_run_8 : decode cX0_run 8 = .ok (.iload_n 1, 1) := by decide +kernel
theorem dX0_run_9 : decode cX0_run 9 = .ok (.sipush 150, 3) := by decide +kernel
theorem dX0_run_12 : decode cX0_run 12 = .ok (.if_icmp .le 9, 3) := by decide +kernel
theorem dX0_run_15 : decode cX0_run 15 = .ok (.sipush 150, 3) := by decide +kernel
theorem dX0_run_18 : decode cX0_run 18 = .ok (.goto 4, 3) := by decide +kernel
theorem dX0_run_21 : decode cX0_run 21 = .ok (.iload_n 1, 1) := by decide +kernel
theorem dX0_run_22 : decode cX0_run 22 = .ok (.istore_n 2, 1) := by decide +kernel
theorem dX0_run_23 : decode cX0_run 23 = .ok (.aload_n 0, 1) := by decide +kernel
theorem dX0_run_24 : decode cX0_run 24 = .ok (.iconst 0, 1) := by decide +kernel
theorem dX0_run_25 : decode cX0_run 25 = .ok (.putfield 101, 3) := by decide +kernel
theorem dX0_run_28 : decode cX0_run 28 = .ok (.iconst 0, 1) := by decide +kernel
theorem dX0_run_29 : decode cX0_run 29 = .ok (.istore_n 3, 1) := by decide +kernel
theorem dX0_run_30 : decode cX0_run 30 = .ok (.aload_n 0, 1) := by decide +kernel
theorem dX0_run_31 : decode cX0_run 31 = .ok (.invokevirtual 81, 3) := by decide +kernel
theorem dX0_run_34 : decode cX0_run 34 = .ok (.iconst 0, 1) := by decide +kernel
theorem dX0_run_35 : decode cX0_run 35 = .ok (.istore 4, 2) := by decide +kernel
theorem dX0_run_37 : decode cX0_run 37 = .ok (.iload 4, 2) := by decide +kernel
theorem dX0_run_39 : decode cX0_run 39 = .ok (.sipush 2000, 3) := by decide +kernel
theorem dX0_run_42 : decode cX0_run 42 = .ok (.if_icmp .ge 82, 3) := by decide +kernel
theorem dX0_run_45 : decode cX0_run 45 = .ok (.iload_n 3, 1) := by decide +kernel
theorem dX0_run_46 : decode cX0_run 46 = .ok (.iload_n 2, 1) := by decide +kernel
theorem dX0_run_47 : decode cX0_run 47 = .ok (.if_icmp .ge 77, 3) := by decide +kernel
theorem dX0_run_50 : decode cX0_run 50 = .ok (.aload_n 0, 1) := by decide +kernel
theorem dX0_run_51 : decode cX0_run 51 = .ok (.getfield 98, 3) := by decide +kernel
theorem dX0_run_54 : decode cX0_run 54 = .ok (.ifCond .ne 70, 3) := by decide +kernel
theorem dX0_run_57 : decode cX0_run 57 = .ok (.iconst 0, 1) := by decide +kernel
theorem dX0_run_58 : decode cX0_run 58 = .ok (.istore 5, 2) := by decide +kernel
theorem dX0_run_60 : decode cX0_run 60 = .ok (.iload 5, 2) := by decide +kernel
theorem dX0_run_62 : decode cX0_run 62 = .ok (.iconst 2, 1) := by decide +kernel
theorem dX0_run_63 : decode cX0_run 63 = .ok (.if_icmp .ge 47, 3) := by decide +kernel
theorem dX0_run_66 : decode cX0_run 66 = .ok (.iload_n 3, 1) := by decide +kernel
theorem dX0_run_67 : decode cX0_run 67 = .ok (.iload_n 2, 1) := by decide +kernel
theorem dX0_run_68 : decode cX0_run 68 = .ok (.if_icmp .ge 42, 3) := by decide +kernel
theorem dX0_run_71 : decode cX0_run 71 = .ok (.aload_n 0, 1) := by decide +kernel
theorem dX0_run_72 : decode cX0_run 72 = .ok (.getfield 98, 3) := by decide +kernel
theorem dX0_run_75 : decode cX0_run 75 = .ok (.ifCond .ne 35, 3) := by decide +kernel
theorem dX0_run_78 : decode cX0_run 78 = .ok (.aload_n 0, 1) := by decide +kernel
theorem dX0_run_79 : decode cX0_run 79 = .ok (.getfield 104, 3) := by decide +kernel
theorem dX0_run_82 : decode cX0_run 82 = .ok (.ifCond .le 22, 3) := by decide +kernel
theorem dX0_run_85 : decode cX0_run 85 = .ok (.aload_n 0, 1) := by decide +kernel
theorem dX0_run_86 : decode cX0_run 86 = .ok (.getfield 69, 3) := by decide +kernel
theorem dX0_run_89 : decode cX0_run 89 = .ok (.aload_n 0, 1) := by decide +kernel
theorem dX0_run_90 : decode cX0_run 90 = .ok (.getfield 107, 3) := by decide +kernel
theorem dX0_run_93 : decode cX0_run 93 = .ok (.baload, 1) := by decide +kernel
theorem dX0_run_94 : decode cX0_run 94 = .ok (.ifCond .eq 10, 3) := by decide +kernel
theorem dX0_run_97 : decode cX0_run 97 = .ok (.aload_n 0, 1) := by decide +kernel
theorem dX0_run_98 : decode cX0_run 98 = .ok (.invokevirtual 110, 3) := by decide +kernel
theorem dX0_run_101 : decode cX0_run 101 = .ok (.iinc 3 1, 3) := by decide +kernel
theorem dX0_run_104 : decode cX0_run 104 = .ok (.iinc 5 1, 3) := by decide +kernel
theorem dX0_run_107 : decode cX0_run 107 = .ok (.goto (-47), 3) := by decide +kernel
theorem dX0_run_110 : decode cX0_run 110 = .ok (.aload_n 0, 1) := by decide +kernel
theorem dX0_run_111 : decode cX0_run 111 = .ok (.invokevirtual 113, 3) := by decide +kernel
theorem dX0_run_114 : decode cX0_run 114 = .ok (.aload_n 0, 1) := by decide +kernel
theorem dX0_run_115 : decode cX0_run 115 = .ok (.invokevirtual 116, 3) := by decide +kernel
theorem dX0_run_118 : decode cX0_run 118 = .ok (.iinc 4 1, 3) := by decide +kernel
theorem dX0_run_121 : decode cX0_run 121 = .ok (.goto (-84), 3) := by decide +kernel
theorem dX0_run_124 : decode cX0_run 124 = .ok (.aload_n 0, 1) := by decide +kernel
theorem dX0_run_125 : decode cX0_run 125 = .ok (.getfield 101, 3) := by decide +kernel
theorem dX0_run_128 : decode cX0_run 128 = .ok (.ireturn, 1) := by decide +kernel
abbrev cX0_retire : ByteArray := prog_1_method_29_code
def yX0_retire : MethodName := ⟨RX0, "retire", "()V"⟩
theorem dX0_retire_0 : decode cX0_retire 0 = .ok (.aload_n 0, 1) := by decide +kernel
theorem dX0_retire_1 : decode cX0_retire 1 = .ok (.getfield 107, 3) := by decide +kernel
theorem dX0_retire_4 : decode cX0_retire 4 = .ok (.istore_n 1, 1) := by decide +kernel
theorem dX0_retire_5 : decode cX0_retire 5 = .ok (.aload_n 0, 1) := by decide +kernel
theorem dX0_retire_6 : decode cX0_retire 6 = .ok (.getfield 44, 3) := by decide +kernel
theorem dX0_retire_9 : decode cX0_retire 9 = .ok (.iload_n 1, 1) := by decide +kernel
theorem dX0_retire_10 : decode cX0_retire 10 = .ok (.baload, 1) := by decide +kernel
theorem dX0_retire_11 : decode cX0_retire 11 = .ok (.istore_n 2, 1) := by decide +kernel
theorem dX0_retire_12 : decode cX0_retire 12 = .ok (.aload_n 0, 1) := by decide +kernel
theorem dX0_retire_13 : decode cX0_retire 13 = .ok (.getfield 41, 3) := by decide +kernel
theorem dX0_retire_16 : decode cX0_retire 16 = .ok (.iload_n 1, 1) := by decide +kernel
theorem dX0_retire_17 : decode cX0_retire 17 = .ok (.baload, 1) := by decide +kernel
theorem dX0_retire_18 : decode cX0_retire 18 = .ok (.istore_n 3, 1) := by decide +kernel
theorem dX0_retire_19 : decode cX0_retire 19 = .ok (.iload_n 2, 1) := by decide +kernel
theorem dX0_retire_20 : decode cX0_retire 20 = .ok (.bipush 11, 2) := by decide +kernel
theorem dX0_retire_22 : decode cX0_retire 22 = .ok (.if_icmp .ne 9, 3) := by decide +kernel
theorem dX0_retire_25 : decode cX0_retire 25 = .ok (.aload_n 0, 1) := by decide +kernel
theorem dX0_retire_26 : decode cX0_retire 26 = .ok (.iconst 2, 1) := by decide +kernel
theorem dX0_retire_27 : decode cX0_retire 27 = .ok (.putfield 98, 3) := by decide +kernel
theorem dX0_retire_30 : decode cX0_retire 30 = .ok (.return_, 1) := by decide +kernel
theorem dX0_retire_31 : decode cX0_retire 31 = .ok (.aload_n 0, 1) := by decide +kernel
theorem dX0_retire_32 : decode cX0_retire 32 = .ok (.dup, 1) := by decide +kernel
theorem dX0_retire_33 : decode cX0_retire 33 = .ok (.getfield 101, 3) := by decide +kernel
theorem dX0_retire_36 : decode cX0_retire 36 = .ok (.iconst 1, 1) := by decide +kernel
theorem dX0_retire_37 : decode cX0_retire 37 = .ok (.iadd, 1) := by decide +kernel
theorem dX0_retire_38 : decode cX0_retire 38 = .ok (.putfield 101, 3) := by decide +kernel
theorem dX0_retire_41 : decode cX0_retire 41 = .ok (.aload_n 0, 1) := by decide +kernel
theorem dX0_retire_42 : decode cX0_retire 42 = .ok (.aload_n 0, 1) := by decide +kernel
theorem dX0_retire_43 : decode cX0_retire 43 = .ok (.getfield 107, 3) := by decide +kernel
theorem dX0_retire_46 : decode cX0_retire 46 = .ok (.iconst 1, 1) := by decide +kernel
theorem dX0_retire_47 : decode cX0_retire 47 = .ok (.iadd, 1) := by decide +kernel
theorem dX0_retire_48 : decode cX0_retire 48 = .ok (.bipush 7, 2) := by decide +kernel
theorem dX0_retire_50 : decode cX0_retire 50 = .ok (.iand, 1) := by decide +kernel
theorem dX0_retire_51 : decode cX0_retire 51 = .ok (.putfield 107, 3) := by decide +kernel
theorem dX0_retire_54 : decode cX0_retire 54 = .ok (.aload_n 0, 1) := by decide +kernel
theorem dX0_retire_55 : decode cX0_retire 55 = .ok (.dup, 1) := by decide +kernel
theorem dX0_retire_56 : decode cX0_retire 56 = .ok (.getfield 104, 3) := by decide +kernel
theorem dX0_retire_59 : decode cX0_retire 59 = .ok (.iconst 1, 1) := by decide +kernel
theorem dX0_retire_60 : decode cX0_retire 60 = .ok (.isub, 1) := by decide +kernel
theorem dX0_retire_61 : decode cX0_retire 61 = .ok (.putfield 104, 3) := by decide +kernel
theorem dX0_retire_64 : decode cX0_retire 64 = .ok (.iload_n 2, 1) := by decide +kernel
theorem dX0_retire_65 : decode cX0_retire 65 = .ok (.bipush 10, 2) := by decide +kernel
theorem dX0_retire_67 : decode cX0_retire 67 = .ok (.if_icmp .ne 9, 3) := by decide +kernel
theorem dX0_retire_70 : decode cX0_retire 70 = .ok (.aload_n 0, 1) := by decide +kernel
theorem dX0_retire_71 : decode cX0_retire 71 = .ok (.iconst 1, 1) := by decide +kernel
theorem dX0_retire_72 : decode cX0_retire 72 = .ok (.putfield 98, 3) := by decide +kernel
theorem dX0_retire_75 : decode cX0_retire 75 = .ok (.return_, 1) := by decide +kernel
theorem dX0_retire_76 : decode cX0_retire 76 = .ok (.iload_n 2, 1) := by decide +kernel
theorem dX0_retire_77 : decode cX0_retire 77 = .ok (.iconst 5, 1) := by decide +kernel
theorem dX0_retire_78 : decode cX0_retire 78 = .ok (.if_icmp .gt 47, 3) := by decide +kernel
theorem dX0_retire_81 : decode cX0_retire 81 = .ok (.aload_n 0, 1) := by decide +kernel
theorem dX0_retire_82 : decode cX0_retire 82 = .ok (.getfield 23, 3) := by decide +kernel
theorem dX0_retire_85 : decode cX0_retire 85 = .ok (.aload_n 0, 1) := by decide +kernel
theorem dX0_retire_86 : decode cX0_retire 86 = .ok (.getfield 13, 3) := by decide +kernel
theorem dX0_retire_89 : decode cX0_retire 89 = .ok (.iload_n 3, 1) := by decide +kernel
theorem dX0_retire_90 : decode cX0_retire 90 = .ok (.baload, 1) := by decide +kernel
theorem dX0_retire_91 : decode cX0_retire 91 = .ok (.aload_n 0, 1) := by decide +kernel
theorem dX0_retire_92 : decode cX0_retire 92 = .ok (.getfield 72, 3) := by decide +kernel
theorem dX0_retire_95 : decode cX0_retire 95 = .ok (.iload_n 1, 1) := by decide +kernel
theorem dX0_retire_96 : decode cX0_retire 96 = .ok (.iaload, 1) := by decide +kernel
theorem dX0_retire_97 : decode cX0_retire 97 = .ok (.iastore, 1) := by decide +kernel
theorem dX0_retire_98 : decode cX0_retire 98 = .ok (.aload_n 0, 1) := by decide +kernel
theorem dX0_retire_99 : decode cX0_retire 99 = .ok (.getfield 75, 3) := by decide +kernel
theorem dX0_retire_102 : decode cX0_retire 102 = .ok (.aload_n 0, 1) := by decide +kernel
theorem dX0_retire_103 : decode cX0_retire 103 = .ok (.getfield 13, 3) := by decide +kernel
theorem dX0_retire_106 : decode cX0_retire 106 = .ok (.iload_n 3, 1) := by decide +kernel
theorem dX0_retire_107 : decode cX0_retire 107 = .ok (.baload, 1) := by decide +kernel
theorem dX0_retire_108 : decode cX0_retire 108 = .ok (.baload, 1) := by decide +kernel
theorem dX0_retire_109 : decode cX0_retire 109 = .ok (.iload_n 1, 1) := by decide +kernel
theorem dX0_retire_110 : decode cX0_retire 110 = .ok (.if_icmp .ne 15, 3) := by decide +kernel
theorem dX0_retire_113 : decode cX0_retire 113 = .ok (.aload_n 0, 1) := by decide +kernel
theorem dX0_retire_114 : decode cX0_retire 114 = .ok (.getfield 75, 3) := by decide +kernel
theorem dX0_retire_117 : decode cX0_retire 117 = .ok (.aload_n 0, 1) := by decide +kernel
theorem dX0_retire_118 : decode cX0_retire 118 = .ok (.getfield 13, 3) := by decide +kernel
theorem dX0_retire_121 : decode cX0_retire 121 = .ok (.iload_n 3, 1) := by decide +kernel
theorem dX0_retire_122 : decode cX0_retire 122 = .ok (.baload, 1) := by decide +kernel
theorem dX0_retire_123 : decode cX0_retire 123 = .ok (.iconst (-1), 1) := by decide +kernel
theorem dX0_retire_124 : decode cX0_retire 124 = .ok (.bastore, 1) := by decide +kernel
theorem dX0_retire_125 : decode cX0_retire 125 = .ok (.iload_n 2, 1) := by decide +kernel
theorem dX0_retire_126 : decode cX0_retire 126 = .ok (.bipush 6, 2) := by decide +kernel
theorem dX0_retire_128 : decode cX0_retire 128 = .ok (.if_icmp .ne 20, 3) := by decide +kernel
theorem dX0_retire_131 : decode cX0_retire 131 = .ok (.aload_n 0, 1) := by decide +kernel
theorem dX0_retire_132 : decode cX0_retire 132 = .ok (.getfield 26, 3) := by decide +kernel
theorem dX0_retire_135 : decode cX0_retire 135 = .ok (.aload_n 0, 1) := by decide +kernel
theorem dX0_retire_136 : decode cX0_retire 136 = .ok (.getfield 66, 3) := by decide +kernel
theorem dX0_retire_139 : decode cX0_retire 139 = .ok (.iload_n 1, 1) := by decide +kernel
theorem dX0_retire_140 : decode cX0_retire 140 = .ok (.baload, 1) := by decide +kernel
theorem dX0_retire_141 : decode cX0_retire 141 = .ok (.aload_n 0, 1) := by decide +kernel
theorem dX0_retire_142 : decode cX0_retire 142 = .ok (.getfield 72, 3) := by decide +kernel
theorem dX0_retire_145 : decode cX0_retire 145 = .ok (.iload_n 1, 1) := by decide +kernel
theorem dX0_retire_146 : decode cX0_retire 146 = .ok (.iaload, 1) := by decide +kernel
theorem dX0_retire_147 : decode cX0_retire 147 = .ok (.iastore, 1) := by decide +kernel
theorem dX0_retire_148 : decode cX0_retire 148 = .ok (.aload_n 0, 1) := by decide +kernel
theorem dX0_retire_149 : decode cX0_retire 149 = .ok (.aload_n 0, 1) := by decide +kernel
theorem dX0_retire_150 : decode cX0_retire 150 = .ok (.iload_n 1, 1) := by decide +kernel
theorem dX0_retire_151 : decode cX0_retire 151 = .ok (.invokevirtual 164, 3) := by decide +kernel
theorem dX0_retire_154 : decode cX0_retire 154 = .ok (.putfield 95, 3) := by decide +kernel
theorem dX0_retire_157 : decode cX0_retire 157 = .ok (.aload_n 0, 1) := by decide +kernel
theorem dX0_retire_158 : decode cX0_retire 158 = .ok (.iload_n 3, 1) := by decide +kernel
theorem dX0_retire_159 : decode cX0_retire 159 = .ok (.invokevirtual 167, 3) := by decide +kernel
theorem dX0_retire_162 : decode cX0_retire 162 = .ok (.aload_n 0, 1) := by decide +kernel
theorem dX0_retire_163 : decode cX0_retire 163 = .ok (.getfield 95, 3) := by decide +kernel
theorem dX0_retire_166 : decode cX0_retire 166 = .ok (.aload_n 0, 1) := by decide +kernel
theorem dX0_retire_167 : decode cX0_retire 167 = .ok (.getfield 47, 3) := by decide +kernel
theorem dX0_retire_170 : decode cX0_retire 170 = .ok (.iload_n 1, 1) := by decide +kernel
theorem dX0_retire_171 : decode cX0_retire 171 = .ok (.baload, 1) := by decide +kernel
theorem dX0_retire_172 : decode cX0_retire 172 = .ok (.if_icmp .eq 7, 3) := by decide +kernel
theorem dX0_retire_175 : decode cX0_retire 175 = .ok (.aload_n 0, 1) := by decide +kernel
theorem dX0_retire_176 : decode cX0_retire 176 = .ok (.invokevirtual 81, 3) := by decide +kernel
theorem dX0_retire_179 : decode cX0_retire 179 = .ok (.return_, 1) := by decide +kernel
abbrev cX0_placeAfter : ByteArray := prog_1_method_30_code
def yX0_placeAfter : MethodName := ⟨RX0, "placeAfter", "(I)I"⟩
theorem dX0_placeAfter_0 : decode cX0_placeAfter 0 = .ok (.aload_n 0, 1) := by decide +kernel
theorem dX0_placeAfter_1 : decode cX0_placeAfter 1 = .ok (.getfield 44, 3) := by decide +kernel
theorem dX0_placeAfter_4 : decode cX0_placeAfter 4 = .ok (.iload_n 1, 1) := by decide +kernel
theorem dX0_placeAfter_5 : decode cX0_placeAfter 5 = .ok (.baload, 1) := by decide +kernel
theorem dX0_placeAfter_6 : decode cX0_placeAfter 6 = .ok (.istore_n 2, 1) := by decide +kernel
theorem dX0_placeAfter_7 : decode cX0_placeAfter 7 = .ok (.aload_n 0, 1) := by decide +kernel
theorem dX0_placeAfter_8 : decode cX0_placeAfter 8 = .ok (.getfield 41, 3) := by decide +kernel
theorem dX0_placeAfter_11 : decode cX0_placeAfter 11 = .ok (.iload_n 1, 1) := by decide +kernel
theorem dX0_placeAfter_12 : decode cX0_placeAfter 12 = .ok (.baload, 1) := by decide +kernel
theorem dX0_placeAfter_13 : decode cX0_placeAfter 13 = .ok (.istore_n 3, 1) := by decide +kernel
theorem dX0_placeAfter_14 : decode cX0_placeAfter 14 = .ok (.iload_n 2, 1) := by decide +kernel
theorem dX0_placeAfter_15 : decode cX0_placeAfter 15 = .ok (.bipush 9, 2) := by decide +kernel
theorem dX0_placeAfter_17 : decode cX0_placeAfter 17 = .ok (.if_icmp .ne 10, 3) := by decide +kernel
theorem dX0_placeAfter_20 : decode cX0_placeAfter 20 = .ok (.aload_n 0, 1) := by decide +kernel
theorem dX0_placeAfter_21 : decode cX0_placeAfter 21 = .ok (.getfield 19, 3) := by decide +kernel
theorem dX0_placeAfter_24 : decode cX0_placeAfter 24 = .ok (.iload_n 3, 1) := by decide +kernel
theorem dX0_placeAfter_25 : decode cX0_placeAfter 25 = .ok (.iaload, 1) := by decide +kernel
theorem dX0_placeAfter_26 : decode cX0_placeAfter 26 = .ok (.ireturn, 1) := by decide +kernel
theorem dX0_placeAfter_27 : decode cX0_placeAfter 27 = .ok (.iload_n 2, 1) := by decide +kernel
theorem dX0_placeAfter_28 : decode cX0_placeAfter 28 = .ok (.bipush 7, 2) := by decide +kernel
theorem dX0_placeAfter_30 : decode cX0_placeAfter 30 = .ok (.if_icmp .eq 13, 3) := by decide +kernel
theorem dX0_placeAfter_33 : decode cX0_placeAfter 33 = .ok (.iload_n 2, 1) := by decide +kernel
theorem dX0_placeAfter_34 : decode cX0_placeAfter 34 = .ok (.bipush 8, 2) := by decide +kernel
theorem dX0_placeAfter_36 : decode cX0_placeAfter 36 = .ok (.if_icmp .eq 7, 3) := by decide +kernel
theorem dX0_placeAfter_39 : decode cX0_placeAfter 39 = .ok (.iload_n 3, 1) := by decide +kernel
theorem dX0_placeAfter_40 : decode cX0_placeAfter 40 = .ok (.iconst 1, 1) := by decide +kernel
theorem dX0_placeAfter_41 : decode cX0_placeAfter 41 = .ok (.iadd, 1) := by decide +kernel
theorem dX0_placeAfter_42 : decode cX0_placeAfter 42 = .ok (.ireturn, 1) := by decide +kernel
theorem dX0_placeAfter_43 : decode cX0_placeAfter 43 = .ok (.iload_n 2, 1) := by decide +kernel
theorem dX0_placeAfter_44 : decode cX0_placeAfter 44 = .ok (.bipush 7, 2) := by decide +kernel
theorem dX0_placeAfter_46 : decode cX0_placeAfter 46 = .ok (.if_icmp .ne 20, 3) := by decide +kernel
theorem dX0_placeAfter_49 : decode cX0_placeAfter 49 = .ok (.aload_n 0, 1) := by decide +kernel
theorem dX0_placeAfter_50 : decode cX0_placeAfter 50 = .ok (.getfield 72, 3) := by decide +kernel
theorem dX0_placeAfter_53 : decode cX0_placeAfter 53 = .ok (.iload_n 1, 1) := by decide +kernel
theorem dX0_placeAfter_54 : decode cX0_placeAfter 54 = .ok (.iaload, 1) := by decide +kernel
theorem dX0_placeAfter_55 : decode cX0_placeAfter 55 = .ok (.ifCond .ne 7, 3) := by decide +kernel
theorem dX0_placeAfter_58 : decode cX0_placeAfter 58 = .ok (.iconst 1, 1) := by decide +kernel
theorem dX0_placeAfter_59 : decode cX0_placeAfter 59 = .ok (.goto 21, 3) := by decide +kernel
theorem dX0_placeAfter_62 : decode cX0_placeAfter 62 = .ok (.iconst 0, 1) := by decide +kernel
theorem dX0_placeAfter_63 : decode cX0_placeAfter 63 = .ok (.goto 17, 3) := by decide +kernel
theorem dX0_placeAfter_66 : decode cX0_placeAfter 66 = .ok (.aload_n 0, 1) := by decide +kernel
theorem dX0_placeAfter_67 : decode cX0_placeAfter 67 = .ok (.getfield 72, 3) := by decide +kernel
theorem dX0_placeAfter_70 : decode cX0_placeAfter 70 = .ok (.iload_n 1, 1) := by decide +kernel
theorem dX0_placeAfter_71 : decode cX0_placeAfter 71 = .ok (.iaload, 1) := by decide +kernel
theorem dX0_placeAfter_72 : decode cX0_placeAfter 72 = .ok (.ifCond .ge 7, 3) := by decide +kernel
theorem dX0_placeAfter_75 : decode cX0_placeAfter 75 = .ok (.iconst 1, 1) := by decide +kernel
theorem dX0_placeAfter_76 : decode cX0_placeAfter 76 = .ok (.goto 4, 3) := by decide +kernel
theorem dX0_placeAfter_79 : decode cX0_placeAfter 79 = .ok (.iconst 0, 1) := by decide +kernel
theorem dX0_placeAfter_80 : decode cX0_placeAfter 80 = .ok (.istore 4, 2) := by decide +kernel
theorem dX0_placeAfter_82 : decode cX0_placeAfter 82 = .ok (.iload 4, 2) := by decide +kernel
theorem dX0_placeAfter_84 : decode cX0_placeAfter 84 = .ok (.ifCond .eq 24, 3) := by decide +kernel
theorem dX0_placeAfter_87 : decode cX0_placeAfter 87 = .ok (.aload_n 0, 1) := by decide +kernel
theorem dX0_placeAfter_88 : decode cX0_placeAfter 88 = .ok (.getfield 29, 3) := by decide +kernel
theorem dX0_placeAfter_91 : decode cX0_placeAfter 91 = .ok (.iload_n 3, 1) := by decide +kernel
theorem dX0_placeAfter_92 : decode cX0_placeAfter 92 = .ok (.baload, 1) := by decide +kernel
theorem dX0_placeAfter_93 : decode cX0_placeAfter 93 = .ok (.iconst 3, 1) := by decide +kernel
theorem dX0_placeAfter_94 : decode cX0_placeAfter 94 = .ok (.if_icmp .ge 14, 3) := by decide +kernel
theorem dX0_placeAfter_97 : decode cX0_placeAfter 97 = .ok (.aload_n 0, 1) := by decide +kernel
theorem dX0_placeAfter_98 : decode cX0_placeAfter 98 = .ok (.getfield 29, 3) := by decide +kernel
theorem dX0_placeAfter_101 : decode cX0_placeAfter 101 = .ok (.iload_n 3, 1) := by decide +kernel
theorem dX0_placeAfter_102 : decode cX0_placeAfter 102 = .ok (.dup2, 1) := by decide +kernel
theorem dX0_placeAfter_103 : decode cX0_placeAfter 103 = .ok (.baload, 1) := by decide +kernel
theorem dX0_placeAfter_104 : decode cX0_placeAfter 104 = .ok (.iconst 1, 1) := by decide +kernel
theorem dX0_placeAfter_105 : decode cX0_placeAfter 105 = .ok (.iadd, 1) := by decide +kernel
theorem dX0_placeAfter_106 : decode cX0_placeAfter 106 = .ok (.i2b, 1) := by decide +kernel
theorem dX0_placeAfter_107 : decode cX0_placeAfter 107 = .ok (.bastore, 1) := by decide +kernel
theorem dX0_placeAfter_108 : decode cX0_placeAfter 108 = .ok (.iload 4, 2) := by decide +kernel
theorem dX0_placeAfter_110 : decode cX0_placeAfter 110 = .ok (.ifCond .ne 23, 3) := by decide +kernel
theorem dX0_placeAfter_113 : decode cX0_placeAfter 113 = .ok (.aload_n 0, 1) := by decide +kernel
theorem dX0_placeAfter_114 : decode cX0_placeAfter 114 = .ok (.getfield 29, 3) := by decide +kernel
theorem dX0_placeAfter_117 : decode cX0_placeAfter 117 = .ok (.iload_n 3, 1) := by decide +kernel
theorem dX0_placeAfter_118 : decode cX0_placeAfter 118 = .ok (.baload, 1) := by decide +kernel
theorem dX0_placeAfter_119 : decode cX0_placeAfter 119 = .ok (.ifCond .le 14, 3) := by decide +kernel
theorem dX0_placeAfter_122 : decode cX0_placeAfter 122 = .ok (.aload_n 0, 1) := by decide +kernel
theorem dX0_placeAfter_123 : decode cX0_placeAfter 123 = .ok (.getfield 29, 3) := by decide +kernel
theorem dX0_placeAfter_126 : decode cX0_placeAfter 126 = .ok (.iload_n 3, 1) := by decide +kernel
theorem dX0_placeAfter_127 : decode cX0_placeAfter 127 = .ok (.dup2, 1) := by decide +kernel
theorem dX0_placeAfter_128 : decode cX0_placeAfter 128 = .ok (.baload, 1) := by decide +kernel
theorem dX0_placeAfter_129 : decode cX0_placeAfter 129 = .ok (.iconst 1, 1) := by decide +kernel
theorem dX0_placeAfter_130 : decode cX0_placeAfter 130 = .ok (.isub, 1) := by decide +kernel
theorem dX0_placeAfter_131 : decode cX0_placeAfter 131 = .ok (.i2b, 1) := by decide +kernel
theorem dX0_placeAfter_132 : decode cX0_placeAfter 132 = .ok (.bastore, 1) := by decide +kernel
theorem dX0_placeAfter_133 : decode cX0_placeAfter 133 = .ok (.iload 4, 2) := by decide +kernel
theorem dX0_placeAfter_135 : decode cX0_placeAfter 135 = .ok (.ifCond .eq 12, 3) := by decide +kernel
theorem dX0_placeAfter_138 : decode cX0_placeAfter 138 = .ok (.aload_n 0, 1) := by decide +kernel
theorem dX0_placeAfter_139 : decode cX0_placeAfter 139 = .ok (.getfield 19, 3) := by decide +kernel
theorem dX0_placeAfter_142 : decode cX0_placeAfter 142 = .ok (.iload_n 3, 1) := by decide +kernel
theorem dX0_placeAfter_143 : decode cX0_placeAfter 143 = .ok (.iaload, 1) := by decide +kernel
theorem dX0_placeAfter_144 : decode cX0_placeAfter 144 = .ok (.goto 6, 3) := by decide +kernel
theorem dX0_placeAfter_147 : decode cX0_placeAfter 147 = .ok (.iload_n 3, 1) := by decide +kernel
theorem dX0_placeAfter_148 : decode cX0_placeAfter 148 = .ok (.iconst 1, 1) := by decide +kernel
theorem dX0_placeAfter_149 : decode cX0_placeAfter 149 = .ok (.iadd, 1) := by decide +kernel
theorem dX0_placeAfter_150 : decode cX0_placeAfter 150 = .ok (.ireturn, 1) := by decide +kernel
abbrev cX0_fillTrace : ByteArray := prog_1_method_31_code
def yX0_fillTrace : MethodName := ⟨RX0, "fillTrace", "(I)V"⟩
theorem dX0_fillTrace_0 : decode cX0_fillTrace 0 = .ok (.aload_n 0, 1) := by decide +kernel
theorem dX0_fillTrace_1 : decode cX0_fillTrace 1 = .ok (.getfield 38, 3) := by decide +kernel
theorem dX0_fillTrace_4 : decode cX0_fillTrace 4 = .ok (.aload_n 0, 1) := by decide +kernel
theorem dX0_fillTrace_5 : decode cX0_fillTrace 5 = .ok (.getfield 122, 3) := by decide +kernel
theorem dX0_fillTrace_8 : decode cX0_fillTrace 8 = .ok (.iload_n 1, 1) := by decide +kernel
theorem dX0_fillTrace_9 : decode cX0_fillTrace 9 = .ok (.i2b, 1) := by decide +kernel
theorem dX0_fillTrace_10 : decode cX0_fillTrace 10 = .ok (.bastore, 1) := by decide +kernel
theorem dX0_fillTrace_11 : decode cX0_fillTrace 11 = .ok (.aload_n 0, 1) := by decide +kernel
theorem dX0_fillTrace_12 : decode cX0_fillTrace 12 = .ok (.dup, 1) := by decide +kernel
theorem dX0_fillTrace_13 : decode cX0_fillTrace 13 = .ok (.getfield 122, 3) := by decide +kernel
theorem dX0_fillTrace_16 : decode cX0_fillTrace 16 = .ok (.iconst 1, 1) := by decide +kernel
theorem dX0_fillTrace_17 : decode cX0_fillTrace 17 = .ok (.iadd, 1) := by decide +kernel
theorem dX0_fillTrace_18 : decode cX0_fillTrace 18 = .ok (.putfield 122, 3) := by decide +kernel
theorem dX0_fillTrace_21 : decode cX0_fillTrace 21 = .ok (.aload_n 0, 1) := by decide +kernel
theorem dX0_fillTrace_22 : decode cX0_fillTrace 22 = .ok (.getfield 122, 3) := by decide +kernel
theorem dX0_fillTrace_25 : decode cX0_fillTrace 25 = .ok (.iconst 3, 1) := by decide +kernel
theorem dX0_fillTrace_26 : decode cX0_fillTrace 26 = .ok (.if_icmp .ge 4, 3) := by decide +kernel
theorem dX0_fillTrace_29 : decode cX0_fillTrace 29 = .ok (.return_, 1) := by decide +kernel
theorem dX0_fillTrace_30 : decode cX0_fillTrace 30 = .ok (.aload_n 0, 1) := by decide +kernel
theorem dX0_fillTrace_31 : decode cX0_fillTrace 31 = .ok (.getfield 38, 3) := by decide +kernel
theorem dX0_fillTrace_34 : decode cX0_fillTrace 34 = .ok (.iconst 0, 1) := by decide +kernel
theorem dX0_fillTrace_35 : decode cX0_fillTrace 35 = .ok (.baload, 1) := by decide +kernel
theorem dX0_fillTrace_36 : decode cX0_fillTrace 36 = .ok (.bipush 7, 2) := by decide +kernel
theorem dX0_fillTrace_38 : decode cX0_fillTrace 38 = .ok (.iand, 1) := by decide +kernel
theorem dX0_fillTrace_39 : decode cX0_fillTrace 39 = .ok (.istore_n 2, 1) := by decide +kernel
theorem dX0_fillTrace_40 : decode cX0_fillTrace 40 = .ok (.iconst 0, 1) := by decide +kernel
theorem dX0_fillTrace_41 : decode cX0_fillTrace 41 = .ok (.istore_n 3, 1) := by decide +kernel
theorem dX0_fillTrace_42 : decode cX0_fillTrace 42 = .ok (.iload_n 3, 1) := by decide +kernel
theorem dX0_fillTrace_43 : decode cX0_fillTrace 43 = .ok (.iconst 3, 1) := by decide +kernel
theorem dX0_fillTrace_44 : decode cX0_fillTrace 44 = .ok (.if_icmp .ge 25, 3) := by decide +kernel
theorem dX0_fillTrace_47 : decode cX0_fillTrace 47 = .ok (.aload_n 0, 1) := by decide +kernel
theorem dX0_fillTrace_48 : decode cX0_fillTrace 48 = .ok (.getfield 35, 3) := by decide +kernel
theorem dX0_fillTrace_51 : decode cX0_fillTrace 51 = .ok (.iconst 3, 1) := by decide +kernel
theorem dX0_fillTrace_52 : decode cX0_fillTrace 52 = .ok (.iload_n 2, 1) := by decide +kernel
theorem dX0_fillTrace_53 : decode cX0_fillTrace 53 = .ok (.imul, 1) := by decide +kernel
theorem dX0_fillTrace_54 : decode cX0_fillTrace 54 = .ok (.iload_n 3, 1) := by decide +kernel
theorem dX0_fillTrace_55 : decode cX0_fillTrace 55 = .ok (.iadd, 1) := by decide +kernel
theorem dX0_fillTrace_56 : decode cX0_fillTrace 56 = .ok (.aload_n 0, 1) := by decide +kernel
theorem dX0_fillTrace_57 : decode cX0_fillTrace 57 = .ok (.getfield 38, 3) := by decide +kernel
theorem dX0_fillTrace_60 : decode cX0_fillTrace 60 = .ok (.iload_n 3, 1) := by decide +kernel
theorem dX0_fillTrace_61 : decode cX0_fillTrace 61 = .ok (.baload, 1) := by decide +kernel
theorem dX0_fillTrace_62 : decode cX0_fillTrace 62 = .ok (.bastore, 1) := by decide +kernel
theorem dX0_fillTrace_63 : decode cX0_fillTrace 63 = .ok (.iinc 3 1, 3) := by decide +kernel
theorem dX0_fillTrace_66 : decode cX0_fillTrace 66 = .ok (.goto (-24), 3) := by decide +kernel
theorem dX0_fillTrace_69 : decode cX0_fillTrace 69 = .ok (.aload_n 0, 1) := by decide +kernel
theorem dX0_fillTrace_70 : decode cX0_fillTrace 70 = .ok (.getfield 32, 3) := by decide +kernel
theorem dX0_fillTrace_73 : decode cX0_fillTrace 73 = .ok (.iload_n 2, 1) := by decide +kernel
theorem dX0_fillTrace_74 : decode cX0_fillTrace 74 = .ok (.iconst 3, 1) := by decide +kernel
theorem dX0_fillTrace_75 : decode cX0_fillTrace 75 = .ok (.bastore, 1) := by decide +kernel
theorem dX0_fillTrace_76 : decode cX0_fillTrace 76 = .ok (.aload_n 0, 1) := by decide +kernel
theorem dX0_fillTrace_77 : decode cX0_fillTrace 77 = .ok (.iconst 0, 1) := by decide +kernel
theorem dX0_fillTrace_78 : decode cX0_fillTrace 78 = .ok (.putfield 122, 3) := by decide +kernel
theorem dX0_fillTrace_81 : decode cX0_fillTrace 81 = .ok (.return_, 1) := by decide +kernel
abbrev cX0_executeSome : ByteArray := prog_1_method_23_code
def yX0_executeSome : MethodName := ⟨RX0, "executeSome", "()V"⟩
theorem dX0_executeSome_0 : decode cX0_executeSome 0 = .ok (.iconst 0, 1) := by decide +kernel
theorem dX0_executeSome_1 : decode cX0_executeSome 1 = .ok (.istore_n 1, 1) := by decide +kernel
theorem dX0_executeSome_2 : decode cX0_executeSome 2 = .ok (.iconst 0, 1) := by decide +kernel
theorem dX0_executeSome_3 : decode cX0_executeSome 3 = .ok (.istore_n 2, 1) := by decide +kernel
theorem dX0_executeSome_4 : decode cX0_executeSome 4 = .ok (.iload_n 2, 1) := by decide +kernel
theorem dX0_executeSome_5 : decode cX0_executeSome 5 = .ok (.aload_n 0, 1) := by decide +kernel
theorem dX0_executeSome_6 : decode cX0_executeSome 6 = .ok (.getfield 104, 3) := by decide +kernel
theorem dX0_executeSome_9 : decode cX0_executeSome 9 = .ok (.if_icmp .ge 66, 3) := by decide +kernel
theorem dX0_executeSome_12 : decode cX0_executeSome 12 = .ok (.iload_n 1, 1) := by decide +kernel
theorem dX0_executeSome_13 : decode cX0_executeSome 13 = .ok (.iconst 2, 1) := by decide +kernel
theorem dX0_executeSome_14 : decode cX0_executeSome 14 = .ok (.if_icmp .ge 61, 3) := by decide +kernel
theorem dX0_executeSome_17 : decode cX0_executeSome 17 = .ok (.aload_n 0, 1) := by decide +kernel
theorem dX0_executeSome_18 : decode cX0_executeSome 18 = .ok (.getfield 107, 3) := by decide +kernel
theorem dX0_executeSome_21 : decode cX0_executeSome 21 = .ok (.iload_n 2, 1) := by decide +kernel
theorem dX0_executeSome_22 : decode cX0_executeSome 22 = .ok (.iadd, 1) := by decide +kernel
theorem dX0_executeSome_23 : decode cX0_executeSome 23 = .ok (.bipush 7, 2) := by decide +kernel
theorem dX0_executeSome_25 : decode cX0_executeSome 25 = .ok (.iand, 1) := by decide +kernel
theorem dX0_executeSome_26 : decode cX0_executeSome 26 = .ok (.istore_n 3, 1) := by decide +kernel
theorem dX0_executeSome_27 : decode cX0_executeSome 27 = .ok (.aload_n 0, 1) := by decide +kernel
theorem dX0_executeSome_28 : decode cX0_executeSome 28 = .ok (.getfield 69, 3) := by decide +kernel
theorem dX0_executeSome_31 : decode cX0_executeSome 31 = .ok (.iload_n 3, 1) := by decide +kernel
theorem dX0_executeSome_32 : decode cX0_executeSome 32 = .ok (.baload, 1) := by decide +kernel
theorem dX0_executeSome_33 : decode cX0_executeSome 33 = .ok (.ifCond .ne 36, 3) := by decide +kernel
theorem dX0_executeSome_36 : decode cX0_executeSome 36 = .ok (.aload_n 0, 1) := by decide +kernel
theorem dX0_executeSome_37 : decode cX0_executeSome 37 = .ok (.getfield 50, 3) := by decide +kernel
theorem dX0_executeSome_40 : decode cX0_executeSome 40 = .ok (.iload_n 3, 1) := by decide +kernel
theorem dX0_executeSome_41 : decode cX0_executeSome 41 = .ok (.baload, 1) := by decide +kernel
theorem dX0_executeSome_42 : decode cX0_executeSome 42 = .ok (.ifCond .ge 27, 3) := by decide +kernel
theorem dX0_executeSome_45 : decode cX0_executeSome 45 = .ok (.aload_n 0, 1) := by decide +kernel
theorem dX0_executeSome_46 : decode cX0_executeSome 46 = .ok (.getfield 56, 3) := by decide +kernel
theorem dX0_executeSome_49 : decode cX0_executeSome 49 = .ok (.iload_n 3, 1) := by decide +kernel
theorem dX0_executeSome_50 : decode cX0_executeSome 50 = .ok (.baload, 1) := by decide +kernel
theorem dX0_executeSome_51 : decode cX0_executeSome 51 = .ok (.ifCond .lt 6, 3) := by decide +kernel
theorem dX0_executeSome_54 : decode cX0_executeSome 54 = .ok (.goto 15, 3) := by decide +kernel
theorem dX0_executeSome_57 : decode cX0_executeSome 57 = .ok (.aload_n 0, 1) := by decide +kernel
theorem dX0_executeSome_58 : decode cX0_executeSome 58 = .ok (.iload_n 3, 1) := by decide +kernel
theorem dX0_executeSome_59 : decode cX0_executeSome 59 = .ok (.iload_n 2, 1) := by decide +kernel
theorem dX0_executeSome_60 : decode cX0_executeSome 60 = .ok (.invokevirtual 146, 3) := by decide +kernel
theorem dX0_executeSome_63 : decode cX0_executeSome 63 = .ok (.ifCond .eq 6, 3) := by decide +kernel
theorem dX0_executeSome_66 : decode cX0_executeSome 66 = .ok (.iinc 1 1, 3) := by decide +kernel
theorem dX0_executeSome_69 : decode cX0_executeSome 69 = .ok (.iinc 2 1, 3) := by decide +kernel
theorem dX0_executeSome_72 : decode cX0_executeSome 72 = .ok (.goto (-68), 3) := by decide +kernel
theorem dX0_executeSome_75 : decode cX0_executeSome 75 = .ok (.return_, 1) := by decide +kernel
end
section
set_option maxRecDepth 100000
abbrev cX0_execute : ByteArray := prog_1_method_24_code
def yX0_execute : MethodName := ⟨RX0, "execute", "(II)Z"⟩
theorem dX0_execute_0 : decode cX0_execute 0 = .ok (.aload_n 0, 1) := by decide +kernel
theorem dX0_execute_1 : decode cX0_execute 1 = .ok (.getfield 44, 3) := by decide +kernel
theorem dX0_execute_4 : decode cX0_execute 4 = .ok (.iload_n 1, 1) := by decide +kernel
theorem dX0_execute_5 : decode cX0_execute 5 = .ok (.baload, 1) := by decide +kernel
theorem dX0_execute_6 : decode cX0_execute 6 = .ok (.istore_n 3, 1) := by decide +kernel
theorem dX0_execute_7 : decode cX0_execute 7 = .ok (.aload_n 0, 1) := by decide +kernel
theorem dX0_execute_8 : decode cX0_execute 8 = .ok (.getfield 19, 3) := by decide +kernel
theorem dX0_execute_11 : decode cX0_execute 11 = .ok (.aload_n 0, 1) := by decide +kernel
theorem dX0_execute_12 : decode cX0_execute 12 = .ok (.getfield 41, 3) := by decide +kernel
theorem dX0_execute_15 : decode cX0_execute 15 = .ok (.iload_n 1, 1) := by decide +kernel
theorem dX0_execute_16 : decode cX0_execute 16 = .ok (.baload, 1) := by decide +kernel
theorem dX0_execute_17 : decode cX0_execute 17 = .ok (.iaload, 1) := by decide +kernel
theorem dX0_execute_18 : decode cX0_execute 18 = .ok (.istore 4, 2) := by decide +kernel
theorem dX0_execute_20 : decode cX0_execute 20 = .ok (.aload_n 0, 1) := by decide +kernel
theorem dX0_execute_21 : decode cX0_execute 21 = .ok (.getfield 53, 3) := by decide +kernel
theorem dX0_execute_24 : decode cX0_execute 24 = .ok (.iload_n 1, 1) := by decide +kernel
theorem dX0_execute_25 : decode cX0_execute 25 = .ok (.iaload, 1) := by decide +kernel
theorem dX0_execute_26 : decode cX0_execute 26 = .ok (.istore 5, 2) := by decide +kernel
theorem dX0_execute_28 : decode cX0_execute 28 = .ok (.iload 5, 2) := by decide +kernel
theorem dX0_execute_30 : decode cX0_execute 30 = .ok (.istore 6, 2) := by decide +kernel
theorem dX0_execute_32 : decode cX0_execute 32 = .ok (.iload_n 3, 1) := by decide +kernel
theorem dX0_execute_33 : decode cX0_execute 33 = .ok (.iconst 5, 1) := by decide +kernel
theorem dX0_execute_34 : decode cX0_execute 34 = .ok (.if_icmp .eq 9, 3) := by decide +kernel
theorem dX0_execute_37 : decode cX0_execute 37 = .ok (.iload_n 3, 1) := by decide +kernel
theorem dX0_execute_38 : decode cX0_execute 38 = .ok (.bipush 6, 2) := by decide +kernel
theorem dX0_execute_40 : decode cX0_execute 40 = .ok (.if_icmp .ne 66, 3) := by decide +kernel
theorem dX0_execute_43 : decode cX0_execute 43 = .ok (.aload_n 0, 1) := by decide +kernel
theorem dX0_execute_44 : decode cX0_execute 44 = .ok (.getfield 66, 3) := by decide +kernel
theorem dX0_execute_47 : decode cX0_execute 47 = .ok (.iload_n 1, 1) := by decide +kernel
theorem dX0_execute_48 : decode cX0_execute 48 = .ok (.iload 5, 2) := by decide +kernel
theorem dX0_execute_50 : decode cX0_execute 50 = .ok (.iload 4, 2) := by decide +kernel
theorem dX0_execute_52 : decode cX0_execute 52 = .ok (.iadd, 1) := by decide +kernel
theorem dX0_execute_53 : decode cX0_execute 53 = .ok (.bipush 15, 2) := by decide +kernel
theorem dX0_execute_55 : decode cX0_execute 55 = .ok (.iand, 1) := by decide +kernel
theorem dX0_execute_56 : decode cX0_execute 56 = .ok (.i2b, 1) := by decide +kernel
theorem dX0_execute_57 : decode cX0_execute 57 = .ok (.bastore, 1) := by decide +kernel
theorem dX0_execute_58 : decode cX0_execute 58 = .ok (.aload_n 0, 1) := by decide +kernel
theorem dX0_execute_59 : decode cX0_execute 59 = .ok (.getfield 62, 3) := by decide +kernel
theorem dX0_execute_62 : decode cX0_execute 62 = .ok (.iload_n 1, 1) := by decide +kernel
theorem dX0_execute_63 : decode cX0_execute 63 = .ok (.iconst 1, 1) := by decide +kernel
theorem dX0_execute_64 : decode cX0_execute 64 = .ok (.bastore, 1) := by decide +kernel
theorem dX0_execute_65 : decode cX0_execute 65 = .ok (.iload_n 3, 1) := by decide +kernel
theorem dX0_execute_66 : decode cX0_execute 66 = .ok (.iconst 5, 1) := by decide +kernel
theorem dX0_execute_67 : decode cX0_execute 67 = .ok (.if_icmp .ne 14, 3) := by decide +kernel
theorem dX0_execute_70 : decode cX0_execute 70 = .ok (.aload_n 0, 1) := by decide +kernel
theorem dX0_execute_71 : decode cX0_execute 71 = .ok (.iload_n 1, 1) := by decide +kernel
theorem dX0_execute_72 : decode cX0_execute 72 = .ok (.iload_n 2, 1) := by decide +kernel
theorem dX0_execute_73 : decode cX0_execute 73 = .ok (.invokevirtual 149, 3) := by decide +kernel
theorem dX0_execute_76 : decode cX0_execute 76 = .ok (.ifCond .ne 5, 3) := by decide +kernel
theorem dX0_execute_79 : decode cX0_execute 79 = .ok (.iconst 0, 1) := by decide +kernel
theorem dX0_execute_80 : decode cX0_execute 80 = .ok (.ireturn, 1) := by decide +kernel
theorem dX0_execute_81 : decode cX0_execute 81 = .ok (.iload_n 3, 1) := by decide +kernel
theorem dX0_execute_82 : decode cX0_execute 82 = .ok (.iconst 5, 1) := by decide +kernel
theorem dX0_execute_83 : decode cX0_execute 83 = .ok (.if_icmp .ne 12, 3) := by decide +kernel
theorem dX0_execute_86 : decode cX0_execute 86 = .ok (.aload_n 0, 1) := by decide +kernel
theorem dX0_execute_87 : decode cX0_execute 87 = .ok (.iload_n 1, 1) := by decide +kernel
theorem dX0_execute_88 : decode cX0_execute 88 = .ok (.iload_n 2, 1) := by decide +kernel
theorem dX0_execute_89 : decode cX0_execute 89 = .ok (.invokevirtual 152, 3) := by decide +kernel
theorem dX0_execute_92 : decode cX0_execute 92 = .ok (.goto 9, 3) := by decide +kernel
theorem dX0_execute_95 : decode cX0_execute 95 = .ok (.aload_n 0, 1) := by decide +kernel
theorem dX0_execute_96 : decode cX0_execute 96 = .ok (.getfield 59, 3) := by decide +kernel
theorem dX0_execute_99 : decode cX0_execute 99 = .ok (.iload_n 1, 1) := by decide +kernel
theorem dX0_execute_100 : decode cX0_execute 100 = .ok (.iaload, 1) := by decide +kernel
theorem dX0_execute_101 : decode cX0_execute 101 = .ok (.istore 6, 2) := by decide +kernel
theorem dX0_execute_103 : decode cX0_execute 103 = .ok (.goto 33, 3) := by decide +kernel
theorem dX0_execute_106 : decode cX0_execute 106 = .ok (.iload_n 3, 1) := by decide +kernel
theorem dX0_execute_107 : decode cX0_execute 107 = .ok (.iconst 4, 1) := by decide +kernel
theorem dX0_execute_108 : decode cX0_execute 108 = .ok (.if_icmp .gt 28, 3) := by decide +kernel
theorem dX0_execute_111 : decode cX0_execute 111 = .ok (.aload_n 0, 1) := by decide +kernel
theorem dX0_execute_112 : decode cX0_execute 112 = .ok (.iload_n 3, 1) := by decide +kernel
theorem dX0_execute_113 : decode cX0_execute 113 = .ok (.iload 5, 2) := by decide +kernel
theorem dX0_execute_115 : decode cX0_execute 115 = .ok (.iload_n 3, 1) := by decide +kernel
theorem dX0_execute_116 : decode cX0_execute 116 = .ok (.iconst 4, 1) := by decide +kernel
theorem dX0_execute_117 : decode cX0_execute 117 = .ok (.if_icmp .ne 8, 3) := by decide +kernel
theorem dX0_execute_120 : decode cX0_execute 120 = .ok (.iload 4, 2) := by decide +kernel
theorem dX0_execute_122 : decode cX0_execute 122 = .ok (.goto 9, 3) := by decide +kernel
theorem dX0_execute_125 : decode cX0_execute 125 = .ok (.aload_n 0, 1) := by decide +kernel
theorem dX0_execute_126 : decode cX0_execute 126 = .ok (.getfield 59, 3) := by decide +kernel
theorem dX0_execute_129 : decode cX0_execute 129 = .ok (.iload_n 1, 1) := by decide +kernel
theorem dX0_execute_130 : decode cX0_execute 130 = .ok (.iaload, 1) := by decide +kernel
theorem dX0_execute_131 : decode cX0_execute 131 = .ok (.invokevirtual 156, 3) := by decide +kernel
theorem dX0_execute_134 : decode cX0_execute 134 = .ok (.istore 6, 2) := by decide +kernel
theorem dX0_execute_136 : decode cX0_execute 136 = .ok (.aload_n 0, 1) := by decide +kernel
theorem dX0_execute_137 : decode cX0_execute 137 = .ok (.getfield 72, 3) := by decide +kernel
theorem dX0_execute_140 : decode cX0_execute 140 = .ok (.iload_n 1, 1) := by decide +kernel
theorem dX0_execute_141 : decode cX0_execute 141 = .ok (.iload 6, 2) := by decide +kernel
theorem dX0_execute_143 : decode cX0_execute 143 = .ok (.iastore, 1) := by decide +kernel
theorem dX0_execute_144 : decode cX0_execute 144 = .ok (.aload_n 0, 1) := by decide +kernel
theorem dX0_execute_145 : decode cX0_execute 145 = .ok (.getfield 69, 3) := by decide +kernel
theorem dX0_execute_148 : decode cX0_execute 148 = .ok (.iload_n 1, 1) := by decide +kernel
theorem dX0_execute_149 : decode cX0_execute 149 = .ok (.iconst 1, 1) := by decide +kernel
theorem dX0_execute_150 : decode cX0_execute 150 = .ok (.bastore, 1) := by decide +kernel
theorem dX0_execute_151 : decode cX0_execute 151 = .ok (.aload_n 0, 1) := by decide +kernel
theorem dX0_execute_152 : decode cX0_execute 152 = .ok (.iload_n 1, 1) := by decide +kernel
theorem dX0_execute_153 : decode cX0_execute 153 = .ok (.invokevirtual 160, 3) := by decide +kernel
theorem dX0_execute_156 : decode cX0_execute 156 = .ok (.iconst 1, 1) := by decide +kernel
theorem dX0_execute_157 : decode cX0_execute 157 = .ok (.ireturn, 1) := by decide +kernel
abbrev cX0_mayLoad : ByteArray := prog_1_method_26_code
def yX0_mayLoad : MethodName := ⟨RX0, "mayLoad", "(II)Z"⟩
theorem dX0_mayLoad_0 : decode cX0_mayLoad 0 = .ok (.iconst 0, 1) := by decide +kernel
theorem dX0_mayLoad_1 : decode cX0_mayLoad 1 = .ok (.istore_n 3, 1) := by decide +kernel
theorem dX0_mayLoad_2 : decode cX0_mayLoad 2 = .ok (.iload_n 3, 1) := by decide +kernel
theorem dX0_mayLoad_3 : decode cX0_mayLoad 3 = .ok (.iload_n 2, 1) := by decide +kernel
theorem dX0_mayLoad_4 : decode cX0_mayLoad 4 = .ok (.if_icmp .ge 73, 3) := by decide +kernel
theorem dX0_mayLoad_7 : decode cX0_mayLoad 7 = .ok (.aload_n 0, 1) := by decide +kernel
theorem dX0_mayLoad_8 : decode cX0_mayLoad 8 = .ok (.getfield 107, 3) := by decide +kernel
theorem dX0_mayLoad_11 : decode cX0_mayLoad 11 = .ok (.iload_n 3, 1) := by decide +kernel
theorem dX0_mayLoad_12 : decode cX0_mayLoad 12 = .ok (.iadd, 1) := by decide +kernel
theorem dX0_mayLoad_13 : decode cX0_mayLoad 13 = .ok (.bipush 7, 2) := by decide +kernel
theorem dX0_mayLoad_15 : decode cX0_mayLoad 15 = .ok (.iand, 1) := by decide +kernel
theorem dX0_mayLoad_16 : decode cX0_mayLoad 16 = .ok (.istore 4, 2) := by decide +kernel
theorem dX0_mayLoad_18 : decode cX0_mayLoad 18 = .ok (.aload_n 0, 1) := by decide +kernel
theorem dX0_mayLoad_19 : decode cX0_mayLoad 19 = .ok (.getfield 44, 3) := by decide +kernel
theorem dX0_mayLoad_22 : decode cX0_mayLoad 22 = .ok (.iload 4, 2) := by decide +kernel
theorem dX0_mayLoad_24 : decode cX0_mayLoad 24 = .ok (.baload, 1) := by decide +kernel
theorem dX0_mayLoad_25 : decode cX0_mayLoad 25 = .ok (.bipush 6, 2) := by decide +kernel
theorem dX0_mayLoad_27 : decode cX0_mayLoad 27 = .ok (.if_icmp .eq 6, 3) := by decide +kernel
theorem dX0_mayLoad_30 : decode cX0_mayLoad 30 = .ok (.goto 41, 3) := by decide +kernel
theorem dX0_mayLoad_33 : decode cX0_mayLoad 33 = .ok (.aload_n 0, 1) := by decide +kernel
theorem dX0_mayLoad_34 : decode cX0_mayLoad 34 = .ok (.getfield 62, 3) := by decide +kernel
theorem dX0_mayLoad_37 : decode cX0_mayLoad 37 = .ok (.iload 4, 2) := by decide +kernel
theorem dX0_mayLoad_39 : decode cX0_mayLoad 39 = .ok (.baload, 1) := by decide +kernel
theorem dX0_mayLoad_40 : decode cX0_mayLoad 40 = .ok (.ifCond .eq 29, 3) := by decide +kernel
theorem dX0_mayLoad_43 : decode cX0_mayLoad 43 = .ok (.aload_n 0, 1) := by decide +kernel
theorem dX0_mayLoad_44 : decode cX0_mayLoad 44 = .ok (.getfield 66, 3) := by decide +kernel
theorem dX0_mayLoad_47 : decode cX0_mayLoad 47 = .ok (.iload 4, 2) := by decide +kernel
theorem dX0_mayLoad_49 : decode cX0_mayLoad 49 = .ok (.baload, 1) := by decide +kernel
theorem dX0_mayLoad_50 : decode cX0_mayLoad 50 = .ok (.aload_n 0, 1) := by decide +kernel
theorem dX0_mayLoad_51 : decode cX0_mayLoad 51 = .ok (.getfield 66, 3) := by decide +kernel
theorem dX0_mayLoad_54 : decode cX0_mayLoad 54 = .ok (.iload_n 1, 1) := by decide +kernel
theorem dX0_mayLoad_55 : decode cX0_mayLoad 55 = .ok (.baload, 1) := by decide +kernel
theorem dX0_mayLoad_56 : decode cX0_mayLoad 56 = .ok (.if_icmp .ne 15, 3) := by decide +kernel
theorem dX0_mayLoad_59 : decode cX0_mayLoad 59 = .ok (.aload_n 0, 1) := by decide +kernel
theorem dX0_mayLoad_60 : decode cX0_mayLoad 60 = .ok (.getfield 69, 3) := by decide +kernel
theorem dX0_mayLoad_63 : decode cX0_mayLoad 63 = .ok (.iload 4, 2) := by decide +kernel
theorem dX0_mayLoad_65 : decode cX0_mayLoad 65 = .ok (.baload, 1) := by decide +kernel
theorem dX0_mayLoad_66 : decode cX0_mayLoad 66 = .ok (.ifCond .ne 5, 3) := by decide +kernel
theorem dX0_mayLoad_69 : decode cX0_mayLoad 69 = .ok (.iconst 0, 1) := by decide +kernel
theorem dX0_mayLoad_70 : decode cX0_mayLoad 70 = .ok (.ireturn, 1) := by decide +kernel
theorem dX0_mayLoad_71 : decode cX0_mayLoad 71 = .ok (.iinc 3 1, 3) := by decide +kernel
theorem dX0_mayLoad_74 : decode cX0_mayLoad 74 = .ok (.goto (-72), 3) := by decide +kernel
theorem dX0_mayLoad_77 : decode cX0_mayLoad 77 = .ok (.iconst 1, 1) := by decide +kernel
theorem dX0_mayLoad_78 : decode cX0_mayLoad 78 = .ok (.ireturn, 1) := by decide +kernel
abbrev cX0_loadedBy : ByteArray := prog_1_method_27_code
def yX0_loadedBy : MethodName := ⟨RX0, "loadedBy", "(II)I"⟩
theorem dX0_loadedBy_0 : decode cX0_loadedBy 0 = .ok (.aload_n 0, 1) := by decide +kernel
theorem dX0_loadedBy_1 : decode cX0_loadedBy 1 = .ok (.getfield 26, 3) := by decide +kernel
theorem dX0_loadedBy_4 : decode cX0_loadedBy 4 = .ok (.aload_n 0, 1) := by decide +kernel
theorem dX0_loadedBy_5 : decode cX0_loadedBy 5 = .ok (.getfield 66, 3) := by decide +kernel
theorem dX0_loadedBy_8 : decode cX0_loadedBy 8 = .ok (.iload_n 1, 1) := by decide +kernel
theorem dX0_loadedBy_9 : decode cX0_loadedBy 9 = .ok (.baload, 1) := by decide +kernel
theorem dX0_loadedBy_10 : decode cX0_loadedBy 10 = .ok (.iaload, 1) := by decide +kernel
theorem dX0_loadedBy_11 : decode cX0_loadedBy 11 = .ok (.istore_n 3, 1) := by decide +kernel
theorem dX0_loadedBy_12 : decode cX0_loadedBy 12 = .ok (.iconst 0, 1) := by decide +kernel
theorem dX0_loadedBy_13 : decode cX0_loadedBy 13 = .ok (.istore 4, 2) := by decide +kernel
theorem dX0_loadedBy_15 : decode cX0_loadedBy 15 = .ok (.iload 4, 2) := by decide +kernel
theorem dX0_loadedBy_17 : decode cX0_loadedBy 17 = .ok (.iload_n 2, 1) := by decide +kernel
theorem dX0_loadedBy_18 : decode cX0_loadedBy 18 = .ok (.if_icmp .ge 57, 3) := by decide +kernel
theorem dX0_loadedBy_21 : decode cX0_loadedBy 21 = .ok (.aload_n 0, 1) := by decide +kernel
theorem dX0_loadedBy_22 : decode cX0_loadedBy 22 = .ok (.getfield 107, 3) := by decide +kernel
theorem dX0_loadedBy_25 : decode cX0_loadedBy 25 = .ok (.iload 4, 2) := by decide +kernel
theorem dX0_loadedBy_27 : decode cX0_loadedBy 27 = .ok (.iadd, 1) := by decide +kernel
theorem dX0_loadedBy_28 : decode cX0_loadedBy 28 = .ok (.bipush 7, 2) := by decide +kernel
theorem dX0_loadedBy_30 : decode cX0_loadedBy 30 = .ok (.iand, 1) := by decide +kernel
theorem dX0_loadedBy_31 : decode cX0_loadedBy 31 = .ok (.istore 5, 2) := by decide +kernel
theorem dX0_loadedBy_33 : decode cX0_loadedBy 33 = .ok (.aload_n 0, 1) := by decide +kernel
theorem dX0_loadedBy_34 : decode cX0_loadedBy 34 = .ok (.getfield 44, 3) := by decide +kernel
theorem dX0_loadedBy_37 : decode cX0_loadedBy 37 = .ok (.iload 5, 2) := by decide +kernel
theorem dX0_loadedBy_39 : decode cX0_loadedBy 39 = .ok (.baload, 1) := by decide +kernel
theorem dX0_loadedBy_40 : decode cX0_loadedBy 40 = .ok (.bipush 6, 2) := by decide +kernel
theorem dX0_loadedBy_42 : decode cX0_loadedBy 42 = .ok (.if_icmp .ne 27, 3) := by decide +kernel
theorem dX0_loadedBy_45 : decode cX0_loadedBy 45 = .ok (.aload_n 0, 1) := by decide +kernel
theorem dX0_loadedBy_46 : decode cX0_loadedBy 46 = .ok (.getfield 66, 3) := by decide +kernel
theorem dX0_loadedBy_49 : decode cX0_loadedBy 49 = .ok (.iload 5, 2) := by decide +kernel
theorem dX0_loadedBy_51 : decode cX0_loadedBy 51 = .ok (.baload, 1) := by decide +kernel
theorem dX0_loadedBy_52 : decode cX0_loadedBy 52 = .ok (.aload_n 0, 1) := by decide +kernel
theorem dX0_loadedBy_53 : decode cX0_loadedBy 53 = .ok (.getfield 66, 3) := by decide +kernel
theorem dX0_loadedBy_56 : decode cX0_loadedBy 56 = .ok (.iload_n 1, 1) := by decide +kernel
theorem dX0_loadedBy_57 : decode cX0_loadedBy 57 = .ok (.baload, 1) := by decide +kernel
theorem dX0_loadedBy_58 : decode cX0_loadedBy 58 = .ok (.if_icmp .ne 11, 3) := by decide +kernel
theorem dX0_loadedBy_61 : decode cX0_loadedBy 61 = .ok (.aload_n 0, 1) := by decide +kernel
theorem dX0_loadedBy_62 : decode cX0_loadedBy 62 = .ok (.getfield 72, 3) := by decide +kernel
theorem dX0_loadedBy_65 : decode cX0_loadedBy 65 = .ok (.iload 5, 2) := by decide +kernel
theorem dX0_loadedBy_67 : decode cX0_loadedBy 67 = .ok (.iaload, 1) := by decide +kernel
theorem dX0_loadedBy_68 : decode cX0_loadedBy 68 = .ok (.istore_n 3, 1) := by decide +kernel
theorem dX0_loadedBy_69 : decode cX0_loadedBy 69 = .ok (.iinc 4 1, 3) := by decide +kernel
theorem dX0_loadedBy_72 : decode cX0_loadedBy 72 = .ok (.goto (-57), 3) := by decide +kernel
theorem dX0_loadedBy_75 : decode cX0_loadedBy 75 = .ok (.iload_n 3, 1) := by decide +kernel
theorem dX0_loadedBy_76 : decode cX0_loadedBy 76 = .ok (.ireturn, 1) := by decide +kernel
abbrev cX0_compute : ByteArray := prog_1_method_25_code
def yX0_compute : MethodName := ⟨RX0, "compute", "(III)I"⟩
theorem dX0_compute_0 : decode cX0_compute 0 = .ok (.iload_n 1, 1) := by decide +kernel
theorem dX0_compute_1 : decode cX0_compute 1 = .ok (.iconst 1, 1) := by decide +kernel
theorem dX0_compute_2 : decode cX0_compute 2 = .ok (.if_icmp .ne 7, 3) := by decide +kernel
theorem dX0_compute_5 : decode cX0_compute 5 = .ok (.iload_n 2, 1) := by decide +kernel
theorem dX0_compute_6 : decode cX0_compute 6 = .ok (.iload_n 3, 1) := by decide +kernel
theorem dX0_compute_7 : decode cX0_compute 7 = .ok (.isub, 1) := by decide +kernel
theorem dX0_compute_8 : decode cX0_compute 8 = .ok (.ireturn, 1) := by decide +kernel
theorem dX0_compute_9 : decode cX0_compute 9 = .ok (.iload_n 1, 1) := by decide +kernel
theorem dX0_compute_10 : decode cX0_compute 10 = .ok (.iconst 2, 1) := by decide +kernel
theorem dX0_compute_11 : decode cX0_compute 11 = .ok (.if_icmp .ne 7, 3) := by decide +kernel
theorem dX0_compute_14 : decode cX0_compute 14 = .ok (.iload_n 2, 1) := by decide +kernel
theorem dX0_compute_15 : decode cX0_compute 15 = .ok (.iload_n 3, 1) := by decide +kernel
theorem dX0_compute_16 : decode cX0_compute 16 = .ok (.ixor, 1) := by decide +kernel
theorem dX0_compute_17 : decode cX0_compute 17 = .ok (.ireturn, 1) := by decide +kernel
theorem dX0_compute_18 : decode cX0_compute 18 = .ok (.iload_n 1, 1) := by decide +kernel
theorem dX0_compute_19 : decode cX0_compute 19 = .ok (.iconst 3, 1) := by decide +kernel
theorem dX0_compute_20 : decode cX0_compute 20 = .ok (.if_icmp .ne 14, 3) := by decide +kernel
theorem dX0_compute_23 : decode cX0_compute 23 = .ok (.iload_n 2, 1) := by decide +kernel
theorem dX0_compute_24 : decode cX0_compute 24 = .ok (.iload_n 3, 1) := by decide +kernel
theorem dX0_compute_25 : decode cX0_compute 25 = .ok (.if_icmp .ge 7, 3) := by decide +kernel
theorem dX0_compute_28 : decode cX0_compute 28 = .ok (.iconst 1, 1) := by decide +kernel
theorem dX0_compute_29 : decode cX0_compute 29 = .ok (.goto 4, 3) := by decide +kernel
theorem dX0_compute_32 : decode cX0_compute 32 = .ok (.iconst 0, 1) := by decide +kernel
theorem dX0_compute_33 : decode cX0_compute 33 = .ok (.ireturn, 1) := by decide +kernel
theorem dX0_compute_34 : decode cX0_compute 34 = .ok (.iload_n 2, 1) := by decide +kernel
theorem dX0_compute_35 : decode cX0_compute 35 = .ok (.iload_n 3, 1) := by decide +kernel
theorem dX0_compute_36 : decode cX0_compute 36 = .ok (.iadd, 1) := by decide +kernel
theorem dX0_compute_37 : decode cX0_compute 37 = .ok (.ireturn, 1) := by decide +kernel
abbrev cX0_announce : ByteArray := prog_1_method_28_code
def yX0_announce : MethodName := ⟨RX0, "announce", "(I)V"⟩
theorem dX0_announce_0 : decode cX0_announce 0 = .ok (.iconst 0, 1) := by decide +kernel
theorem dX0_announce_1 : decode cX0_announce 1 = .ok (.istore_n 2, 1) := by decide +kernel
theorem dX0_announce_2 : decode cX0_announce 2 = .ok (.iload_n 2, 1) := by decide +kernel
theorem dX0_announce_3 : decode cX0_announce 3 = .ok (.aload_n 0, 1) := by decide +kernel
theorem dX0_announce_4 : decode cX0_announce 4 = .ok (.getfield 104, 3) := by decide +kernel
theorem dX0_announce_7 : decode cX0_announce 7 = .ok (.if_icmp .ge 77, 3) := by decide +kernel
theorem dX0_announce_10 : decode cX0_announce 10 = .ok (.aload_n 0, 1) := by decide +kernel
theorem dX0_announce_11 : decode cX0_announce 11 = .ok (.getfield 107, 3) := by decide +kernel
theorem dX0_announce_14 : decode cX0_announce 14 = .ok (.iload_n 2, 1) := by decide +kernel
theorem dX0_announce_15 : decode cX0_announce 15 = .ok (.iadd, 1) := by decide +kernel
theorem dX0_announce_16 : decode cX0_announce 16 = .ok (.bipush 7, 2) := by decide +kernel
theorem dX0_announce_18 : decode cX0_announce 18 = .ok (.iand, 1) := by decide +kernel
theorem dX0_announce_19 : decode cX0_announce 19 = .ok (.istore_n 3, 1) := by decide +kernel
theorem dX0_announce_20 : decode cX0_announce 20 = .ok (.aload_n 0, 1) := by decide +kernel
theorem dX0_announce_21 : decode cX0_announce 21 = .ok (.getfield 50, 3) := by decide +kernel
theorem dX0_announce_24 : decode cX0_announce 24 = .ok (.iload_n 3, 1) := by decide +kernel
theorem dX0_announce_25 : decode cX0_announce 25 = .ok (.baload, 1) := by decide +kernel
theorem dX0_announce_26 : decode cX0_announce 26 = .ok (.iload_n 1, 1) := by decide +kernel
theorem dX0_announce_27 : decode cX0_announce 27 = .ok (.if_icmp .ne 22, 3) := by decide +kernel
theorem dX0_announce_30 : decode cX0_announce 30 = .ok (.aload_n 0, 1) := by decide +kernel
theorem dX0_announce_31 : decode cX0_announce 31 = .ok (.getfield 50, 3) := by decide +kernel
theorem dX0_announce_34 : decode cX0_announce 34 = .ok (.iload_n 3, 1) := by decide +kernel
theorem dX0_announce_35 : decode cX0_announce 35 = .ok (.iconst (-1), 1) := by decide +kernel
theorem dX0_announce_36 : decode cX0_announce 36 = .ok (.bastore, 1) := by decide +kernel
theorem dX0_announce_37 : decode cX0_announce 37 = .ok (.aload_n 0, 1) := by decide +kernel
theorem dX0_announce_38 : decode cX0_announce 38 = .ok (.getfield 53, 3) := by decide +kernel
theorem dX0_announce_41 : decode cX0_announce 41 = .ok (.iload_n 3, 1) := by decide +kernel
theorem dX0_announce_42 : decode cX0_announce 42 = .ok (.aload_n 0, 1) := by decide +kernel
theorem dX0_announce_43 : decode cX0_announce 43 = .ok (.getfield 72, 3) := by decide +kernel
theorem dX0_announce_46 : decode cX0_announce 46 = .ok (.iload_n 1, 1) := by decide +kernel
theorem dX0_announce_47 : decode cX0_announce 47 = .ok (.iaload, 1) := by decide +kernel
theorem dX0_announce_48 : decode cX0_announce 48 = .ok (.iastore, 1) := by decide +kernel
theorem dX0_announce_49 : decode cX0_announce 49 = .ok (.aload_n 0, 1) := by decide +kernel
theorem dX0_announce_50 : decode cX0_announce 50 = .ok (.getfield 56, 3) := by decide +kernel
theorem dX0_announce_53 : decode cX0_announce 53 = .ok (.iload_n 3, 1) := by decide +kernel
theorem dX0_announce_54 : decode cX0_announce 54 = .ok (.baload, 1) := by decide +kernel
theorem dX0_announce_55 : decode cX0_announce 55 = .ok (.iload_n 1, 1) := by decide +kernel
theorem dX0_announce_56 : decode cX0_announce 56 = .ok (.if_icmp .ne 22, 3) := by decide +kernel
theorem dX0_announce_59 : decode cX0_announce 59 = .ok (.aload_n 0, 1) := by decide +kernel
theorem dX0_announce_60 : decode cX0_announce 60 = .ok (.getfield 56, 3) := by decide +kernel
theorem dX0_announce_63 : decode cX0_announce 63 = .ok (.iload_n 3, 1) := by decide +kernel
theorem dX0_announce_64 : decode cX0_announce 64 = .ok (.iconst (-1), 1) := by decide +kernel
theorem dX0_announce_65 : decode cX0_announce 65 = .ok (.bastore, 1) := by decide +kernel
theorem dX0_announce_66 : decode cX0_announce 66 = .ok (.aload_n 0, 1) := by decide +kernel
theorem dX0_announce_67 : decode cX0_announce 67 = .ok (.getfield 59, 3) := by decide +kernel
theorem dX0_announce_70 : decode cX0_announce 70 = .ok (.iload_n 3, 1) := by decide +kernel
theorem dX0_announce_71 : decode cX0_announce 71 = .ok (.aload_n 0, 1) := by decide +kernel
theorem dX0_announce_72 : decode cX0_announce 72 = .ok (.getfield 72, 3) := by decide +kernel
theorem dX0_announce_75 : decode cX0_announce 75 = .ok (.iload_n 1, 1) := by decide +kernel
theorem dX0_announce_76 : decode cX0_announce 76 = .ok (.iaload, 1) := by decide +kernel
theorem dX0_announce_77 : decode cX0_announce 77 = .ok (.iastore, 1) := by decide +kernel
theorem dX0_announce_78 : decode cX0_announce 78 = .ok (.iinc 2 1, 3) := by decide +kernel
theorem dX0_announce_81 : decode cX0_announce 81 = .ok (.goto (-79), 3) := by decide +kernel
theorem dX0_announce_84 : decode cX0_announce 84 = .ok (.return_, 1) := by decide +kernel
abbrev cX0_fetch : ByteArray := prog_1_method_17_code
def yX0_fetch : MethodName := ⟨RX0, "fetch", "()V"⟩
theorem dX0_fetch_0 : decode cX0_fetch 0 = .ok (.aload_n 0, 1) := by decide +kernel
theorem dX0_fetch_1 : decode cX0_fetch 1 = .ok (.getfield 125, 3) := by decide +kernel
theorem dX0_fetch_4 : decode cX0_fetch 4 = .ok (.bipush 7, 2) := by decide +kernel
theorem dX0_fetch_6 : decode cX0_fetch 6 = .ok (.iand, 1) := by decide +kernel
theorem dX0_fetch_7 : decode cX0_fetch 7 = .ok (.istore_n 1, 1) := by decide +kernel
theorem dX0_fetch_8 : decode cX0_fetch 8 = .ok (.aload_n 0, 1) := by decide +kernel
theorem dX0_fetch_9 : decode cX0_fetch 9 = .ok (.getfield 32, 3) := by decide +kernel
theorem dX0_fetch_12 : decode cX0_fetch 12 = .ok (.iload_n 1, 1) := by decide +kernel
theorem dX0_fetch_13 : decode cX0_fetch 13 = .ok (.baload, 1) := by decide +kernel
theorem dX0_fetch_14 : decode cX0_fetch 14 = .ok (.istore_n 2, 1) := by decide +kernel
theorem dX0_fetch_15 : decode cX0_fetch 15 = .ok (.iload_n 2, 1) := by decide +kernel
theorem dX0_fetch_16 : decode cX0_fetch 16 = .ok (.ifCond .le 31, 3) := by decide +kernel
theorem dX0_fetch_19 : decode cX0_fetch 19 = .ok (.aload_n 0, 1) := by decide +kernel
theorem dX0_fetch_20 : decode cX0_fetch 20 = .ok (.getfield 35, 3) := by decide +kernel
theorem dX0_fetch_23 : decode cX0_fetch 23 = .ok (.iconst 3, 1) := by decide +kernel
theorem dX0_fetch_24 : decode cX0_fetch 24 = .ok (.iload_n 1, 1) := by decide +kernel
theorem dX0_fetch_25 : decode cX0_fetch 25 = .ok (.imul, 1) := by decide +kernel
theorem dX0_fetch_26 : decode cX0_fetch 26 = .ok (.baload, 1) := by decide +kernel
theorem dX0_fetch_27 : decode cX0_fetch 27 = .ok (.aload_n 0, 1) := by decide +kernel
theorem dX0_fetch_28 : decode cX0_fetch 28 = .ok (.getfield 125, 3) := by decide +kernel
theorem dX0_fetch_31 : decode cX0_fetch 31 = .ok (.if_icmp .ne 16, 3) := by decide +kernel
theorem dX0_fetch_34 : decode cX0_fetch 34 = .ok (.aload_n 0, 1) := by decide +kernel
theorem dX0_fetch_35 : decode cX0_fetch 35 = .ok (.iload_n 1, 1) := by decide +kernel
theorem dX0_fetch_36 : decode cX0_fetch 36 = .ok (.iload_n 2, 1) := by decide +kernel
theorem dX0_fetch_37 : decode cX0_fetch 37 = .ok (.invokevirtual 128, 3) := by decide +kernel
theorem dX0_fetch_40 : decode cX0_fetch 40 = .ok (.ifCond .eq 7, 3) := by decide +kernel
theorem dX0_fetch_43 : decode cX0_fetch 43 = .ok (.iconst 1, 1) := by decide +kernel
theorem dX0_fetch_44 : decode cX0_fetch 44 = .ok (.goto 4, 3) := by decide +kernel
theorem dX0_fetch_47 : decode cX0_fetch 47 = .ok (.iconst 0, 1) := by decide +kernel
theorem dX0_fetch_48 : decode cX0_fetch 48 = .ok (.istore_n 3, 1) := by decide +kernel
theorem dX0_fetch_49 : decode cX0_fetch 49 = .ok (.iload_n 3, 1) := by decide +kernel
theorem dX0_fetch_50 : decode cX0_fetch 50 = .ok (.ifCond .eq 7, 3) := by decide +kernel
theorem dX0_fetch_53 : decode cX0_fetch 53 = .ok (.iload_n 2, 1) := by decide +kernel
theorem dX0_fetch_54 : decode cX0_fetch 54 = .ok (.goto 4, 3) := by decide +kernel
theorem dX0_fetch_57 : decode cX0_fetch 57 = .ok (.iconst 1, 1) := by decide +kernel
theorem dX0_fetch_58 : decode cX0_fetch 58 = .ok (.istore 4, 2) := by decide +kernel
theorem dX0_fetch_60 : decode cX0_fetch 60 = .ok (.iconst 0, 1) := by decide +kernel
theorem dX0_fetch_61 : decode cX0_fetch 61 = .ok (.istore 5, 2) := by decide +kernel
theorem dX0_fetch_63 : decode cX0_fetch 63 = .ok (.iload 5, 2) := by decide +kernel
theorem dX0_fetch_65 : decode cX0_fetch 65 = .ok (.iload 4, 2) := by decide +kernel
theorem dX0_fetch_67 : decode cX0_fetch 67 = .ok (.if_icmp .ge 44, 3) := by decide +kernel
theorem dX0_fetch_70 : decode cX0_fetch 70 = .ok (.aload_n 0, 1) := by decide +kernel
theorem dX0_fetch_71 : decode cX0_fetch 71 = .ok (.getfield 104, 3) := by decide +kernel
theorem dX0_fetch_74 : decode cX0_fetch 74 = .ok (.bipush 8, 2) := by decide +kernel
theorem dX0_fetch_76 : decode cX0_fetch 76 = .ok (.if_icmp .ge 35, 3) := by decide +kernel
theorem dX0_fetch_79 : decode cX0_fetch 79 = .ok (.aload_n 0, 1) := by decide +kernel
theorem dX0_fetch_80 : decode cX0_fetch 80 = .ok (.getfield 125, 3) := by decide +kernel
theorem dX0_fetch_83 : decode cX0_fetch 83 = .ok (.istore 6, 2) := by decide +kernel
theorem dX0_fetch_85 : decode cX0_fetch 85 = .ok (.aload_n 0, 1) := by decide +kernel
theorem dX0_fetch_86 : decode cX0_fetch 86 = .ok (.aload_n 0, 1) := by decide +kernel
theorem dX0_fetch_87 : decode cX0_fetch 87 = .ok (.iload 6, 2) := by decide +kernel
theorem dX0_fetch_89 : decode cX0_fetch 89 = .ok (.invokevirtual 132, 3) := by decide +kernel
theorem dX0_fetch_92 : decode cX0_fetch 92 = .ok (.putfield 125, 3) := by decide +kernel
theorem dX0_fetch_95 : decode cX0_fetch 95 = .ok (.aload_n 0, 1) := by decide +kernel
theorem dX0_fetch_96 : decode cX0_fetch 96 = .ok (.iload 6, 2) := by decide +kernel
theorem dX0_fetch_98 : decode cX0_fetch 98 = .ok (.aload_n 0, 1) := by decide +kernel
theorem dX0_fetch_99 : decode cX0_fetch 99 = .ok (.getfield 125, 3) := by decide +kernel
theorem dX0_fetch_102 : decode cX0_fetch 102 = .ok (.invokevirtual 136, 3) := by decide +kernel
theorem dX0_fetch_105 : decode cX0_fetch 105 = .ok (.iinc 5 1, 3) := by decide +kernel
theorem dX0_fetch_108 : decode cX0_fetch 108 = .ok (.goto (-45), 3) := by decide +kernel
theorem dX0_fetch_111 : decode cX0_fetch 111 = .ok (.return_, 1) := by decide +kernel
abbrev cX0_agrees : ByteArray := prog_1_method_18_code
def yX0_agrees : MethodName := ⟨RX0, "agrees", "(II)Z"⟩
theorem dX0_agrees_0 : decode cX0_agrees 0 = .ok (.iconst 0, 1) := by decide +kernel
theorem dX0_agrees_1 : decode cX0_agrees 1 = .ok (.istore_n 3, 1) := by decide +kernel
theorem dX0_agrees_2 : decode cX0_agrees 2 = .ok (.iload_n 3, 1) := by decide +kernel
theorem dX0_agrees_3 : decode cX0_agrees 3 = .ok (.iconst 1, 1) := by decide +kernel
theorem dX0_agrees_4 : decode cX0_agrees 4 = .ok (.iadd, 1) := by decide +kernel
theorem dX0_agrees_5 : decode cX0_agrees 5 = .ok (.iload_n 2, 1) := by decide +kernel
theorem dX0_agrees_6 : decode cX0_agrees 6 = .ok (.if_icmp .ge 48, 3) := by decide +kernel
theorem dX0_agrees_9 : decode cX0_agrees 9 = .ok (.aload_n 0, 1) := by decide +kernel
theorem dX0_agrees_10 : decode cX0_agrees 10 = .ok (.getfield 35, 3) := by decide +kernel
theorem dX0_agrees_13 : decode cX0_agrees 13 = .ok (.iconst 3, 1) := by decide +kernel
theorem dX0_agrees_14 : decode cX0_agrees 14 = .ok (.iload_n 1, 1) := by decide +kernel
theorem dX0_agrees_15 : decode cX0_agrees 15 = .ok (.imul, 1) := by decide +kernel
theorem dX0_agrees_16 : decode cX0_agrees 16 = .ok (.iload_n 3, 1) := by decide +kernel
theorem dX0_agrees_17 : decode cX0_agrees 17 = .ok (.iadd, 1) := by decide +kernel
theorem dX0_agrees_18 : decode cX0_agrees 18 = .ok (.baload, 1) := by decide +kernel
theorem dX0_agrees_19 : decode cX0_agrees 19 = .ok (.istore 4, 2) := by decide +kernel
theorem dX0_agrees_21 : decode cX0_agrees 21 = .ok (.aload_n 0, 1) := by decide +kernel
theorem dX0_agrees_22 : decode cX0_agrees 22 = .ok (.iload 4, 2) := by decide +kernel
theorem dX0_agrees_24 : decode cX0_agrees 24 = .ok (.invokevirtual 132, 3) := by decide +kernel
theorem dX0_agrees_27 : decode cX0_agrees 27 = .ok (.istore 5, 2) := by decide +kernel
theorem dX0_agrees_29 : decode cX0_agrees 29 = .ok (.iload 5, 2) := by decide +kernel
theorem dX0_agrees_31 : decode cX0_agrees 31 = .ok (.aload_n 0, 1) := by decide +kernel
theorem dX0_agrees_32 : decode cX0_agrees 32 = .ok (.getfield 35, 3) := by decide +kernel
theorem dX0_agrees_35 : decode cX0_agrees 35 = .ok (.iconst 3, 1) := by decide +kernel
theorem dX0_agrees_36 : decode cX0_agrees 36 = .ok (.iload_n 1, 1) := by decide +kernel
theorem dX0_agrees_37 : decode cX0_agrees 37 = .ok (.imul, 1) := by decide +kernel
theorem dX0_agrees_38 : decode cX0_agrees 38 = .ok (.iload_n 3, 1) := by decide +kernel
theorem dX0_agrees_39 : decode cX0_agrees 39 = .ok (.iadd, 1) := by decide +kernel
theorem dX0_agrees_40 : decode cX0_agrees 40 = .ok (.iconst 1, 1) := by decide +kernel
theorem dX0_agrees_41 : decode cX0_agrees 41 = .ok (.iadd, 1) := by decide +kernel
theorem dX0_agrees_42 : decode cX0_agrees 42 = .ok (.baload, 1) := by decide +kernel
theorem dX0_agrees_43 : decode cX0_agrees 43 = .ok (.if_icmp .eq 5, 3) := by decide +kernel
theorem dX0_agrees_46 : decode cX0_agrees 46 = .ok (.iconst 0, 1) := by decide +kernel
theorem dX0_agrees_47 : decode cX0_agrees 47 = .ok (.ireturn, 1) := by decide +kernel
theorem dX0_agrees_48 : decode cX0_agrees 48 = .ok (.iinc 3 1, 3) := by decide +kernel
theorem dX0_agrees_51 : decode cX0_agrees 51 = .ok (.goto (-49), 3) := by decide +kernel
theorem dX0_agrees_54 : decode cX0_agrees 54 = .ok (.iconst 1, 1) := by decide +kernel
theorem dX0_agrees_55 : decode cX0_agrees 55 = .ok (.ireturn, 1) := by decide +kernel
end
section
set_option maxRecDepth 100000
abbrev cX0_predictedAfter : ByteArray := prog_1_method_19_code
def yX0_predictedAfter : MethodName := ⟨RX0, "predictedAfter", "(I)I"⟩
theorem dX0_predictedAfter_0 : decode cX0_predictedAfter 0 = .ok (.iload_n 1, 1) := by decide +kernel
theorem dX0_predictedAfter_1 : decode cX0_predictedAfter 1 = .ok (.aload_n 0, 1) := by decide +kernel
theorem dX0_predictedAfter_2 : decode cX0_predictedAfter 2 = .ok (.getfield 84, 3) := by decide +kernel
theorem dX0_predictedAfter_5 : decode cX0_predictedAfter 5 = .ok (.if_icmp .lt 5, 3) := by decide +kernel
theorem dX0_predictedAfter_8 : decode cX0_predictedAfter 8 = .ok (.iload_n 1, 1) := by decide +kernel
theorem dX0_predictedAfter_9 : decode cX0_predictedAfter 9 = .ok (.ireturn, 1) := by decide +kernel
theorem dX0_predictedAfter_10 : decode cX0_predictedAfter 10 = .ok (.aload_n 0, 1) := by decide +kernel
theorem dX0_predictedAfter_11 : decode cX0_predictedAfter 11 = .ok (.getfield 7, 3) := by decide +kernel
theorem dX0_predictedAfter_14 : decode cX0_predictedAfter 14 = .ok (.iload_n 1, 1) := by decide +kernel
theorem dX0_predictedAfter_15 : decode cX0_predictedAfter 15 = .ok (.baload, 1) := by decide +kernel
theorem dX0_predictedAfter_16 : decode cX0_predictedAfter 16 = .ok (.istore_n 2, 1) := by decide +kernel
theorem dX0_predictedAfter_17 : decode cX0_predictedAfter 17 = .ok (.iload_n 2, 1) := by decide +kernel
theorem dX0_predictedAfter_18 : decode cX0_predictedAfter 18 = .ok (.bipush 10, 2) := by decide +kernel
theorem dX0_predictedAfter_20 : decode cX0_predictedAfter 20 = .ok (.if_icmp .ne 5, 3) := by decide +kernel
theorem dX0_predictedAfter_23 : decode cX0_predictedAfter 23 = .ok (.iload_n 1, 1) := by decide +kernel
theorem dX0_predictedAfter_24 : decode cX0_predictedAfter 24 = .ok (.ireturn, 1) := by decide +kernel
theorem dX0_predictedAfter_25 : decode cX0_predictedAfter 25 = .ok (.iload_n 2, 1) := by decide +kernel
theorem dX0_predictedAfter_26 : decode cX0_predictedAfter 26 = .ok (.bipush 9, 2) := by decide +kernel
theorem dX0_predictedAfter_28 : decode cX0_predictedAfter 28 = .ok (.if_icmp .ne 10, 3) := by decide +kernel
theorem dX0_predictedAfter_31 : decode cX0_predictedAfter 31 = .ok (.aload_n 0, 1) := by decide +kernel
theorem dX0_predictedAfter_32 : decode cX0_predictedAfter 32 = .ok (.getfield 19, 3) := by decide +kernel
theorem dX0_predictedAfter_35 : decode cX0_predictedAfter 35 = .ok (.iload_n 1, 1) := by decide +kernel
theorem dX0_predictedAfter_36 : decode cX0_predictedAfter 36 = .ok (.iaload, 1) := by decide +kernel
theorem dX0_predictedAfter_37 : decode cX0_predictedAfter 37 = .ok (.ireturn, 1) := by decide +kernel
theorem dX0_predictedAfter_38 : decode cX0_predictedAfter 38 = .ok (.iload_n 2, 1) := by decide +kernel
theorem dX0_predictedAfter_39 : decode cX0_predictedAfter 39 = .ok (.bipush 7, 2) := by decide +kernel
theorem dX0_predictedAfter_41 : decode cX0_predictedAfter 41 = .ok (.if_icmp .eq 9, 3) := by decide +kernel
theorem dX0_predictedAfter_44 : decode cX0_predictedAfter 44 = .ok (.iload_n 2, 1) := by decide +kernel
theorem dX0_predictedAfter_45 : decode cX0_predictedAfter 45 = .ok (.bipush 8, 2) := by decide +kernel
theorem dX0_predictedAfter_47 : decode cX0_predictedAfter 47 = .ok (.if_icmp .ne 17, 3) := by decide +kernel
theorem dX0_predictedAfter_50 : decode cX0_predictedAfter 50 = .ok (.aload_n 0, 1) := by decide +kernel
theorem dX0_predictedAfter_51 : decode cX0_predictedAfter 51 = .ok (.getfield 29, 3) := by decide +kernel
theorem dX0_predictedAfter_54 : decode cX0_predictedAfter 54 = .ok (.iload_n 1, 1) := by decide +kernel
theorem dX0_predictedAfter_55 : decode cX0_predictedAfter 55 = .ok (.baload, 1) := by decide +kernel
theorem dX0_predictedAfter_56 : decode cX0_predictedAfter 56 = .ok (.iconst 2, 1) := by decide +kernel
theorem dX0_predictedAfter_57 : decode cX0_predictedAfter 57 = .ok (.if_icmp .lt 7, 3) := by decide +kernel
theorem dX0_predictedAfter_60 : decode cX0_predictedAfter 60 = .ok (.iconst 1, 1) := by decide +kernel
theorem dX0_predictedAfter_61 : decode cX0_predictedAfter 61 = .ok (.goto 4, 3) := by decide +kernel
theorem dX0_predictedAfter_64 : decode cX0_predictedAfter 64 = .ok (.iconst 0, 1) := by decide +kernel
theorem dX0_predictedAfter_65 : decode cX0_predictedAfter 65 = .ok (.istore_n 3, 1) := by decide +kernel
theorem dX0_predictedAfter_66 : decode cX0_predictedAfter 66 = .ok (.iload_n 3, 1) := by decide +kernel
theorem dX0_predictedAfter_67 : decode cX0_predictedAfter 67 = .ok (.ifCond .eq 12, 3) := by decide +kernel
theorem dX0_predictedAfter_70 : decode cX0_predictedAfter 70 = .ok (.aload_n 0, 1) := by decide +kernel
theorem dX0_predictedAfter_71 : decode cX0_predictedAfter 71 = .ok (.getfield 19, 3) := by decide +kernel
theorem dX0_predictedAfter_74 : decode cX0_predictedAfter 74 = .ok (.iload_n 1, 1) := by decide +kernel
theorem dX0_predictedAfter_75 : decode cX0_predictedAfter 75 = .ok (.iaload, 1) := by decide +kernel
theorem dX0_predictedAfter_76 : decode cX0_predictedAfter 76 = .ok (.goto 6, 3) := by decide +kernel
theorem dX0_predictedAfter_79 : decode cX0_predictedAfter 79 = .ok (.iload_n 1, 1) := by decide +kernel
theorem dX0_predictedAfter_80 : decode cX0_predictedAfter 80 = .ok (.iconst 1, 1) := by decide +kernel
theorem dX0_predictedAfter_81 : decode cX0_predictedAfter 81 = .ok (.iadd, 1) := by decide +kernel
theorem dX0_predictedAfter_82 : decode cX0_predictedAfter 82 = .ok (.ireturn, 1) := by decide +kernel
abbrev cX0_enter : ByteArray := prog_1_method_20_code
def yX0_enter : MethodName := ⟨RX0, "enter", "(II)V"⟩
theorem dX0_enter_0 : decode cX0_enter 0 = .ok (.aload_n 0, 1) := by decide +kernel
theorem dX0_enter_1 : decode cX0_enter 1 = .ok (.getfield 107, 3) := by decide +kernel
theorem dX0_enter_4 : decode cX0_enter 4 = .ok (.aload_n 0, 1) := by decide +kernel
theorem dX0_enter_5 : decode cX0_enter 5 = .ok (.getfield 104, 3) := by decide +kernel
theorem dX0_enter_8 : decode cX0_enter 8 = .ok (.iadd, 1) := by decide +kernel
theorem dX0_enter_9 : decode cX0_enter 9 = .ok (.bipush 7, 2) := by decide +kernel
theorem dX0_enter_11 : decode cX0_enter 11 = .ok (.iand, 1) := by decide +kernel
theorem dX0_enter_12 : decode cX0_enter 12 = .ok (.istore_n 3, 1) := by decide +kernel
theorem dX0_enter_13 : decode cX0_enter 13 = .ok (.iload_n 1, 1) := by decide +kernel
theorem dX0_enter_14 : decode cX0_enter 14 = .ok (.aload_n 0, 1) := by decide +kernel
theorem dX0_enter_15 : decode cX0_enter 15 = .ok (.getfield 84, 3) := by decide +kernel
theorem dX0_enter_18 : decode cX0_enter 18 = .ok (.if_icmp .ge 12, 3) := by decide +kernel
theorem dX0_enter_21 : decode cX0_enter 21 = .ok (.aload_n 0, 1) := by decide +kernel
theorem dX0_enter_22 : decode cX0_enter 22 = .ok (.getfield 7, 3) := by decide +kernel
theorem dX0_enter_25 : decode cX0_enter 25 = .ok (.iload_n 1, 1) := by decide +kernel
theorem dX0_enter_26 : decode cX0_enter 26 = .ok (.baload, 1) := by decide +kernel
theorem dX0_enter_27 : decode cX0_enter 27 = .ok (.goto 5, 3) := by decide +kernel
theorem dX0_enter_30 : decode cX0_enter 30 = .ok (.bipush 11, 2) := by decide +kernel
theorem dX0_enter_32 : decode cX0_enter 32 = .ok (.istore 4, 2) := by decide +kernel
theorem dX0_enter_34 : decode cX0_enter 34 = .ok (.aload_n 0, 1) := by decide +kernel
theorem dX0_enter_35 : decode cX0_enter 35 = .ok (.dup, 1) := by decide +kernel
theorem dX0_enter_36 : decode cX0_enter 36 = .ok (.getfield 104, 3) := by decide +kernel
theorem dX0_enter_39 : decode cX0_enter 39 = .ok (.iconst 1, 1) := by decide +kernel
theorem dX0_enter_40 : decode cX0_enter 40 = .ok (.iadd, 1) := by decide +kernel
theorem dX0_enter_41 : decode cX0_enter 41 = .ok (.putfield 104, 3) := by decide +kernel
theorem dX0_enter_44 : decode cX0_enter 44 = .ok (.aload_n 0, 1) := by decide +kernel
theorem dX0_enter_45 : decode cX0_enter 45 = .ok (.getfield 41, 3) := by decide +kernel
theorem dX0_enter_48 : decode cX0_enter 48 = .ok (.iload_n 3, 1) := by decide +kernel
theorem dX0_enter_49 : decode cX0_enter 49 = .ok (.iload_n 1, 1) := by decide +kernel
theorem dX0_enter_50 : decode cX0_enter 50 = .ok (.i2b, 1) := by decide +kernel
theorem dX0_enter_51 : decode cX0_enter 51 = .ok (.bastore, 1) := by decide +kernel
theorem dX0_enter_52 : decode cX0_enter 52 = .ok (.aload_n 0, 1) := by decide +kernel
theorem dX0_enter_53 : decode cX0_enter 53 = .ok (.getfield 44, 3) := by decide +kernel
theorem dX0_enter_56 : decode cX0_enter 56 = .ok (.iload_n 3, 1) := by decide +kernel
theorem dX0_enter_57 : decode cX0_enter 57 = .ok (.iload 4, 2) := by decide +kernel
theorem dX0_enter_59 : decode cX0_enter 59 = .ok (.i2b, 1) := by decide +kernel
theorem dX0_enter_60 : decode cX0_enter 60 = .ok (.bastore, 1) := by decide +kernel
theorem dX0_enter_61 : decode cX0_enter 61 = .ok (.aload_n 0, 1) := by decide +kernel
theorem dX0_enter_62 : decode cX0_enter 62 = .ok (.getfield 47, 3) := by decide +kernel
theorem dX0_enter_65 : decode cX0_enter 65 = .ok (.iload_n 3, 1) := by decide +kernel
theorem dX0_enter_66 : decode cX0_enter 66 = .ok (.iload_n 2, 1) := by decide +kernel
theorem dX0_enter_67 : decode cX0_enter 67 = .ok (.i2b, 1) := by decide +kernel
theorem dX0_enter_68 : decode cX0_enter 68 = .ok (.bastore, 1) := by decide +kernel
theorem dX0_enter_69 : decode cX0_enter 69 = .ok (.aload_n 0, 1) := by decide +kernel
theorem dX0_enter_70 : decode cX0_enter 70 = .ok (.getfield 69, 3) := by decide +kernel
theorem dX0_enter_73 : decode cX0_enter 73 = .ok (.iload_n 3, 1) := by decide +kernel
theorem dX0_enter_74 : decode cX0_enter 74 = .ok (.iload 4, 2) := by decide +kernel
theorem dX0_enter_76 : decode cX0_enter 76 = .ok (.bipush 9, 2) := by decide +kernel
theorem dX0_enter_78 : decode cX0_enter 78 = .ok (.if_icmp .lt 7, 3) := by decide +kernel
theorem dX0_enter_81 : decode cX0_enter 81 = .ok (.iconst 1, 1) := by decide +kernel
theorem dX0_enter_82 : decode cX0_enter 82 = .ok (.goto 4, 3) := by decide +kernel
theorem dX0_enter_85 : decode cX0_enter 85 = .ok (.iconst 0, 1) := by decide +kernel
theorem dX0_enter_86 : decode cX0_enter 86 = .ok (.bastore, 1) := by decide +kernel
theorem dX0_enter_87 : decode cX0_enter 87 = .ok (.aload_n 0, 1) := by decide +kernel
theorem dX0_enter_88 : decode cX0_enter 88 = .ok (.getfield 62, 3) := by decide +kernel
theorem dX0_enter_91 : decode cX0_enter 91 = .ok (.iload_n 3, 1) := by decide +kernel
theorem dX0_enter_92 : decode cX0_enter 92 = .ok (.iconst 0, 1) := by decide +kernel
theorem dX0_enter_93 : decode cX0_enter 93 = .ok (.bastore, 1) := by decide +kernel
theorem dX0_enter_94 : decode cX0_enter 94 = .ok (.aload_n 0, 1) := by decide +kernel
theorem dX0_enter_95 : decode cX0_enter 95 = .ok (.getfield 50, 3) := by decide +kernel
theorem dX0_enter_98 : decode cX0_enter 98 = .ok (.iload_n 3, 1) := by decide +kernel
theorem dX0_enter_99 : decode cX0_enter 99 = .ok (.iconst (-1), 1) := by decide +kernel
theorem dX0_enter_100 : decode cX0_enter 100 = .ok (.bastore, 1) := by decide +kernel
theorem dX0_enter_101 : decode cX0_enter 101 = .ok (.aload_n 0, 1) := by decide +kernel
theorem dX0_enter_102 : decode cX0_enter 102 = .ok (.getfield 56, 3) := by decide +kernel
theorem dX0_enter_105 : decode cX0_enter 105 = .ok (.iload_n 3, 1) := by decide +kernel
theorem dX0_enter_106 : decode cX0_enter 106 = .ok (.iconst (-1), 1) := by decide +kernel
theorem dX0_enter_107 : decode cX0_enter 107 = .ok (.bastore, 1) := by decide +kernel
theorem dX0_enter_108 : decode cX0_enter 108 = .ok (.iload 4, 2) := by decide +kernel
theorem dX0_enter_110 : decode cX0_enter 110 = .ok (.bipush 9, 2) := by decide +kernel
theorem dX0_enter_112 : decode cX0_enter 112 = .ok (.if_icmp .lt 4, 3) := by decide +kernel
theorem dX0_enter_115 : decode cX0_enter 115 = .ok (.return_, 1) := by decide +kernel
theorem dX0_enter_116 : decode cX0_enter 116 = .ok (.iload 4, 2) := by decide +kernel
theorem dX0_enter_118 : decode cX0_enter 118 = .ok (.bipush 6, 2) := by decide +kernel
theorem dX0_enter_120 : decode cX0_enter 120 = .ok (.if_icmp .gt 17, 3) := by decide +kernel
theorem dX0_enter_123 : decode cX0_enter 123 = .ok (.aload_n 0, 1) := by decide +kernel
theorem dX0_enter_124 : decode cX0_enter 124 = .ok (.iload_n 3, 1) := by decide +kernel
theorem dX0_enter_125 : decode cX0_enter 125 = .ok (.aload_n 0, 1) := by decide +kernel
theorem dX0_enter_126 : decode cX0_enter 126 = .ok (.getfield 16, 3) := by decide +kernel
theorem dX0_enter_129 : decode cX0_enter 129 = .ok (.iload_n 1, 1) := by decide +kernel
theorem dX0_enter_130 : decode cX0_enter 130 = .ok (.baload, 1) := by decide +kernel
theorem dX0_enter_131 : decode cX0_enter 131 = .ok (.invokevirtual 140, 3) := by decide +kernel
theorem dX0_enter_134 : decode cX0_enter 134 = .ok (.goto 14, 3) := by decide +kernel
theorem dX0_enter_137 : decode cX0_enter 137 = .ok (.aload_n 0, 1) := by decide +kernel
theorem dX0_enter_138 : decode cX0_enter 138 = .ok (.iload_n 3, 1) := by decide +kernel
theorem dX0_enter_139 : decode cX0_enter 139 = .ok (.aload_n 0, 1) := by decide +kernel
theorem dX0_enter_140 : decode cX0_enter 140 = .ok (.getfield 13, 3) := by decide +kernel
theorem dX0_enter_143 : decode cX0_enter 143 = .ok (.iload_n 1, 1) := by decide +kernel
theorem dX0_enter_144 : decode cX0_enter 144 = .ok (.baload, 1) := by decide +kernel
theorem dX0_enter_145 : decode cX0_enter 145 = .ok (.invokevirtual 140, 3) := by decide +kernel
theorem dX0_enter_148 : decode cX0_enter 148 = .ok (.iload 4, 2) := by decide +kernel
theorem dX0_enter_150 : decode cX0_enter 150 = .ok (.iconst 3, 1) := by decide +kernel
theorem dX0_enter_151 : decode cX0_enter 151 = .ok (.if_icmp .gt 14, 3) := by decide +kernel
theorem dX0_enter_154 : decode cX0_enter 154 = .ok (.aload_n 0, 1) := by decide +kernel
theorem dX0_enter_155 : decode cX0_enter 155 = .ok (.iload_n 3, 1) := by decide +kernel
theorem dX0_enter_156 : decode cX0_enter 156 = .ok (.aload_n 0, 1) := by decide +kernel
theorem dX0_enter_157 : decode cX0_enter 157 = .ok (.getfield 19, 3) := by decide +kernel
theorem dX0_enter_160 : decode cX0_enter 160 = .ok (.iload_n 1, 1) := by decide +kernel
theorem dX0_enter_161 : decode cX0_enter 161 = .ok (.iaload, 1) := by decide +kernel
theorem dX0_enter_162 : decode cX0_enter 162 = .ok (.invokevirtual 143, 3) := by decide +kernel
theorem dX0_enter_165 : decode cX0_enter 165 = .ok (.iload 4, 2) := by decide +kernel
theorem dX0_enter_167 : decode cX0_enter 167 = .ok (.bipush 6, 2) := by decide +kernel
theorem dX0_enter_169 : decode cX0_enter 169 = .ok (.if_icmp .ne 14, 3) := by decide +kernel
theorem dX0_enter_172 : decode cX0_enter 172 = .ok (.aload_n 0, 1) := by decide +kernel
theorem dX0_enter_173 : decode cX0_enter 173 = .ok (.iload_n 3, 1) := by decide +kernel
theorem dX0_enter_174 : decode cX0_enter 174 = .ok (.aload_n 0, 1) := by decide +kernel
theorem dX0_enter_175 : decode cX0_enter 175 = .ok (.getfield 13, 3) := by decide +kernel
theorem dX0_enter_178 : decode cX0_enter 178 = .ok (.iload_n 1, 1) := by decide +kernel
theorem dX0_enter_179 : decode cX0_enter 179 = .ok (.baload, 1) := by decide +kernel
theorem dX0_enter_180 : decode cX0_enter 180 = .ok (.invokevirtual 143, 3) := by decide +kernel
theorem dX0_enter_183 : decode cX0_enter 183 = .ok (.iload 4, 2) := by decide +kernel
theorem dX0_enter_185 : decode cX0_enter 185 = .ok (.iconst 5, 1) := by decide +kernel
theorem dX0_enter_186 : decode cX0_enter 186 = .ok (.if_icmp .gt 16, 3) := by decide +kernel
theorem dX0_enter_189 : decode cX0_enter 189 = .ok (.aload_n 0, 1) := by decide +kernel
theorem dX0_enter_190 : decode cX0_enter 190 = .ok (.getfield 75, 3) := by decide +kernel
theorem dX0_enter_193 : decode cX0_enter 193 = .ok (.aload_n 0, 1) := by decide +kernel
theorem dX0_enter_194 : decode cX0_enter 194 = .ok (.getfield 13, 3) := by decide +kernel
theorem dX0_enter_197 : decode cX0_enter 197 = .ok (.iload_n 1, 1) := by decide +kernel
theorem dX0_enter_198 : decode cX0_enter 198 = .ok (.baload, 1) := by decide +kernel
theorem dX0_enter_199 : decode cX0_enter 199 = .ok (.iload_n 3, 1) := by decide +kernel
theorem dX0_enter_200 : decode cX0_enter 200 = .ok (.i2b, 1) := by decide +kernel
theorem dX0_enter_201 : decode cX0_enter 201 = .ok (.bastore, 1) := by decide +kernel
theorem dX0_enter_202 : decode cX0_enter 202 = .ok (.return_, 1) := by decide +kernel
abbrev cX0_bindLeft : ByteArray := prog_1_method_21_code
def yX0_bindLeft : MethodName := ⟨RX0, "bindLeft", "(II)V"⟩
theorem dX0_bindLeft_0 : decode cX0_bindLeft 0 = .ok (.aload_n 0, 1) := by decide +kernel
theorem dX0_bindLeft_1 : decode cX0_bindLeft 1 = .ok (.getfield 75, 3) := by decide +kernel
theorem dX0_bindLeft_4 : decode cX0_bindLeft 4 = .ok (.iload_n 2, 1) := by decide +kernel
theorem dX0_bindLeft_5 : decode cX0_bindLeft 5 = .ok (.baload, 1) := by decide +kernel
theorem dX0_bindLeft_6 : decode cX0_bindLeft 6 = .ok (.istore_n 3, 1) := by decide +kernel
theorem dX0_bindLeft_7 : decode cX0_bindLeft 7 = .ok (.iload_n 3, 1) := by decide +kernel
theorem dX0_bindLeft_8 : decode cX0_bindLeft 8 = .ok (.ifCond .lt 23, 3) := by decide +kernel
theorem dX0_bindLeft_11 : decode cX0_bindLeft 11 = .ok (.aload_n 0, 1) := by decide +kernel
theorem dX0_bindLeft_12 : decode cX0_bindLeft 12 = .ok (.getfield 69, 3) := by decide +kernel
theorem dX0_bindLeft_15 : decode cX0_bindLeft 15 = .ok (.iload_n 3, 1) := by decide +kernel
theorem dX0_bindLeft_16 : decode cX0_bindLeft 16 = .ok (.baload, 1) := by decide +kernel
theorem dX0_bindLeft_17 : decode cX0_bindLeft 17 = .ok (.ifCond .ne 14, 3) := by decide +kernel
theorem dX0_bindLeft_20 : decode cX0_bindLeft 20 = .ok (.aload_n 0, 1) := by decide +kernel
theorem dX0_bindLeft_21 : decode cX0_bindLeft 21 = .ok (.getfield 50, 3) := by decide +kernel
theorem dX0_bindLeft_24 : decode cX0_bindLeft 24 = .ok (.iload_n 1, 1) := by decide +kernel
theorem dX0_bindLeft_25 : decode cX0_bindLeft 25 = .ok (.iload_n 3, 1) := by decide +kernel
theorem dX0_bindLeft_26 : decode cX0_bindLeft 26 = .ok (.i2b, 1) := by decide +kernel
theorem dX0_bindLeft_27 : decode cX0_bindLeft 27 = .ok (.bastore, 1) := by decide +kernel
theorem dX0_bindLeft_28 : decode cX0_bindLeft 28 = .ok (.goto 28, 3) := by decide +kernel
theorem dX0_bindLeft_31 : decode cX0_bindLeft 31 = .ok (.aload_n 0, 1) := by decide +kernel
theorem dX0_bindLeft_32 : decode cX0_bindLeft 32 = .ok (.getfield 53, 3) := by decide +kernel
theorem dX0_bindLeft_35 : decode cX0_bindLeft 35 = .ok (.iload_n 1, 1) := by decide +kernel
theorem dX0_bindLeft_36 : decode cX0_bindLeft 36 = .ok (.iload_n 3, 1) := by decide +kernel
theorem dX0_bindLeft_37 : decode cX0_bindLeft 37 = .ok (.ifCond .lt 12, 3) := by decide +kernel
theorem dX0_bindLeft_40 : decode cX0_bindLeft 40 = .ok (.aload_n 0, 1) := by decide +kernel
theorem dX0_bindLeft_41 : decode cX0_bindLeft 41 = .ok (.getfield 72, 3) := by decide +kernel
theorem dX0_bindLeft_44 : decode cX0_bindLeft 44 = .ok (.iload_n 3, 1) := by decide +kernel
theorem dX0_bindLeft_45 : decode cX0_bindLeft 45 = .ok (.iaload, 1) := by decide +kernel
theorem dX0_bindLeft_46 : decode cX0_bindLeft 46 = .ok (.goto 9, 3) := by decide +kernel
theorem dX0_bindLeft_49 : decode cX0_bindLeft 49 = .ok (.aload_n 0, 1) := by decide +kernel
theorem dX0_bindLeft_50 : decode cX0_bindLeft 50 = .ok (.getfield 23, 3) := by decide +kernel
theorem dX0_bindLeft_53 : decode cX0_bindLeft 53 = .ok (.iload_n 2, 1) := by decide +kernel
theorem dX0_bindLeft_54 : decode cX0_bindLeft 54 = .ok (.iaload, 1) := by decide +kernel
theorem dX0_bindLeft_55 : decode cX0_bindLeft 55 = .ok (.iastore, 1) := by decide +kernel
theorem dX0_bindLeft_56 : decode cX0_bindLeft 56 = .ok (.return_, 1) := by decide +kernel
abbrev cX0_bindRight : ByteArray := prog_1_method_22_code
def yX0_bindRight : MethodName := ⟨RX0, "bindRight", "(II)V"⟩
theorem dX0_bindRight_0 : decode cX0_bindRight 0 = .ok (.aload_n 0, 1) := by decide +kernel
theorem dX0_bindRight_1 : decode cX0_bindRight 1 = .ok (.getfield 75, 3) := by decide +kernel
theorem dX0_bindRight_4 : decode cX0_bindRight 4 = .ok (.iload_n 2, 1) := by decide +kernel
theorem dX0_bindRight_5 : decode cX0_bindRight 5 = .ok (.baload, 1) := by decide +kernel
theorem dX0_bindRight_6 : decode cX0_bindRight 6 = .ok (.istore_n 3, 1) := by decide +kernel
theorem dX0_bindRight_7 : decode cX0_bindRight 7 = .ok (.iload_n 3, 1) := by decide +kernel
theorem dX0_bindRight_8 : decode cX0_bindRight 8 = .ok (.ifCond .lt 23, 3) := by decide +kernel
theorem dX0_bindRight_11 : decode cX0_bindRight 11 = .ok (.aload_n 0, 1) := by decide +kernel
theorem dX0_bindRight_12 : decode cX0_bindRight 12 = .ok (.getfield 69, 3) := by decide +kernel
theorem dX0_bindRight_15 : decode cX0_bindRight 15 = .ok (.iload_n 3, 1) := by decide +kernel
theorem dX0_bindRight_16 : decode cX0_bindRight 16 = .ok (.baload, 1) := by decide +kernel
theorem dX0_bindRight_17 : decode cX0_bindRight 17 = .ok (.ifCond .ne 14, 3) := by decide +kernel
theorem dX0_bindRight_20 : decode cX0_bindRight 20 = .ok (.aload_n 0, 1) := by decide +kernel
theorem dX0_bindRight_21 : decode cX0_bindRight 21 = .ok (.getfield 56, 3) := by decide +kernel
theorem dX0_bindRight_24 : decode cX0_bindRight 24 = .ok (.iload_n 1, 1) := by decide +kernel
theorem dX0_bindRight_25 : decode cX0_bindRight 25 = .ok (.iload_n 3, 1) := by decide +kernel
theorem dX0_bindRight_26 : decode cX0_bindRight 26 = .ok (.i2b, 1) := by decide +kernel
theorem dX0_bindRight_27 : decode cX0_bindRight 27 = .ok (.bastore, 1) := by decide +kernel
theorem dX0_bindRight_28 : decode cX0_bindRight 28 = .ok (.goto 28, 3) := by decide +kernel
theorem dX0_bindRight_31 : decode cX0_bindRight 31 = .ok (.aload_n 0, 1) := by decide +kernel
theorem dX0_bindRight_32 : decode cX0_bindRight 32 = .ok (.getfield 59, 3) := by decide +kernel
theorem dX0_bindRight_35 : decode cX0_bindRight 35 = .ok (.iload_n 1, 1) := by decide +kernel
theorem dX0_bindRight_36 : decode cX0_bindRight 36 = .ok (.iload_n 3, 1) := by decide +kernel
theorem dX0_bindRight_37 : decode cX0_bindRight 37 = .ok (.ifCond .lt 12, 3) := by decide +kernel
theorem dX0_bindRight_40 : decode cX0_bindRight 40 = .ok (.aload_n 0, 1) := by decide +kernel
theorem dX0_bindRight_41 : decode cX0_bindRight 41 = .ok (.getfield 72, 3) := by decide +kernel
theorem dX0_bindRight_44 : decode cX0_bindRight 44 = .ok (.iload_n 3, 1) := by decide +kernel
theorem dX0_bindRight_45 : decode cX0_bindRight 45 = .ok (.iaload, 1) := by decide +kernel
theorem dX0_bindRight_46 : decode cX0_bindRight 46 = .ok (.goto 9, 3) := by decide +kernel
theorem dX0_bindRight_49 : decode cX0_bindRight 49 = .ok (.aload_n 0, 1) := by decide +kernel
theorem dX0_bindRight_50 : decode cX0_bindRight 50 = .ok (.getfield 23, 3) := by decide +kernel
theorem dX0_bindRight_53 : decode cX0_bindRight 53 = .ok (.iload_n 2, 1) := by decide +kernel
theorem dX0_bindRight_54 : decode cX0_bindRight 54 = .ok (.iaload, 1) := by decide +kernel
theorem dX0_bindRight_55 : decode cX0_bindRight 55 = .ok (.iastore, 1) := by decide +kernel
theorem dX0_bindRight_56 : decode cX0_bindRight 56 = .ok (.return_, 1) := by decide +kernel
abbrev cX0_register : ByteArray := prog_1_method_6_code
def yX0_register : MethodName := ⟨RX0, "register", "(I)I"⟩
theorem dX0_register_0 : decode cX0_register 0 = .ok (.aload_n 0, 1) := by decide +kernel
theorem dX0_register_1 : decode cX0_register 1 = .ok (.iload_n 1, 1) := by decide +kernel
theorem dX0_register_2 : decode cX0_register 2 = .ok (.invokevirtual 88, 3) := by decide +kernel
theorem dX0_register_5 : decode cX0_register 5 = .ok (.ifCond .eq 12, 3) := by decide +kernel
theorem dX0_register_8 : decode cX0_register 8 = .ok (.aload_n 0, 1) := by decide +kernel
theorem dX0_register_9 : decode cX0_register 9 = .ok (.getfield 23, 3) := by decide +kernel
theorem dX0_register_12 : decode cX0_register 12 = .ok (.iload_n 1, 1) := by decide +kernel
theorem dX0_register_13 : decode cX0_register 13 = .ok (.iaload, 1) := by decide +kernel
theorem dX0_register_14 : decode cX0_register 14 = .ok (.goto 4, 3) := by decide +kernel
theorem dX0_register_17 : decode cX0_register 17 = .ok (.iconst 0, 1) := by decide +kernel
theorem dX0_register_18 : decode cX0_register 18 = .ok (.ireturn, 1) := by decide +kernel
abbrev cX0_setRegister : ByteArray := prog_1_method_7_code
def yX0_setRegister : MethodName := ⟨RX0, "setRegister", "(II)Z"⟩
theorem dX0_setRegister_0 : decode cX0_setRegister 0 = .ok (.aload_n 0, 1) := by decide +kernel
theorem dX0_setRegister_1 : decode cX0_setRegister 1 = .ok (.iload_n 1, 1) := by decide +kernel
theorem dX0_setRegister_2 : decode cX0_setRegister 2 = .ok (.invokevirtual 88, 3) := by decide +kernel
theorem dX0_setRegister_5 : decode cX0_setRegister 5 = .ok (.ifCond .ne 5, 3) := by decide +kernel
theorem dX0_setRegister_8 : decode cX0_setRegister 8 = .ok (.iconst 0, 1) := by decide +kernel
theorem dX0_setRegister_9 : decode cX0_setRegister 9 = .ok (.ireturn, 1) := by decide +kernel
theorem dX0_setRegister_10 : decode cX0_setRegister 10 = .ok (.aload_n 0, 1) := by decide +kernel
theorem dX0_setRegister_11 : decode cX0_setRegister 11 = .ok (.getfield 23, 3) := by decide +kernel
theorem dX0_setRegister_14 : decode cX0_setRegister 14 = .ok (.iload_n 1, 1) := by decide +kernel
theorem dX0_setRegister_15 : decode cX0_setRegister 15 = .ok (.iload_n 2, 1) := by decide +kernel
theorem dX0_setRegister_16 : decode cX0_setRegister 16 = .ok (.iastore, 1) := by decide +kernel
theorem dX0_setRegister_17 : decode cX0_setRegister 17 = .ok (.iconst 1, 1) := by decide +kernel
theorem dX0_setRegister_18 : decode cX0_setRegister 18 = .ok (.ireturn, 1) := by decide +kernel
abbrev cX0_memory : ByteArray := prog_1_method_8_code
def yX0_memory : MethodName := ⟨RX0, "memory", "(I)I"⟩
theorem dX0_memory_0 : decode cX0_memory 0 = .ok (.iload_n 1, 1) := by decide +kernel
theorem dX0_memory_1 : decode cX0_memory 1 = .ok (.ifCond .lt 9, 3) := by decide +kernel
theorem dX0_memory_4 : decode cX0_memory 4 = .ok (.iload_n 1, 1) := by decide +kernel
theorem dX0_memory_5 : decode cX0_memory 5 = .ok (.bipush 15, 2) := by decide +kernel
theorem dX0_memory_7 : decode cX0_memory 7 = .ok (.if_icmp .le 7, 3) := by decide +kernel
theorem dX0_memory_10 : decode cX0_memory 10 = .ok (.iconst 0, 1) := by decide +kernel
theorem dX0_memory_11 : decode cX0_memory 11 = .ok (.goto 9, 3) := by decide +kernel
theorem dX0_memory_14 : decode cX0_memory 14 = .ok (.aload_n 0, 1) := by decide +kernel
theorem dX0_memory_15 : decode cX0_memory 15 = .ok (.getfield 26, 3) := by decide +kernel
theorem dX0_memory_18 : decode cX0_memory 18 = .ok (.iload_n 1, 1) := by decide +kernel
theorem dX0_memory_19 : decode cX0_memory 19 = .ok (.iaload, 1) := by decide +kernel
theorem dX0_memory_20 : decode cX0_memory 20 = .ok (.ireturn, 1) := by decide +kernel
abbrev cX0_setMemory : ByteArray := prog_1_method_9_code
def yX0_setMemory : MethodName := ⟨RX0, "setMemory", "(II)Z"⟩
theorem dX0_setMemory_0 : decode cX0_setMemory 0 = .ok (.iload_n 1, 1) := by decide +kernel
theorem dX0_setMemory_1 : decode cX0_setMemory 1 = .ok (.ifCond .lt 9, 3) := by decide +kernel
theorem dX0_setMemory_4 : decode cX0_setMemory 4 = .ok (.iload_n 1, 1) := by decide +kernel
theorem dX0_setMemory_5 : decode cX0_setMemory 5 = .ok (.bipush 15, 2) := by decide +kernel
theorem dX0_setMemory_7 : decode cX0_setMemory 7 = .ok (.if_icmp .le 5, 3) := by decide +kernel
theorem dX0_setMemory_10 : decode cX0_setMemory 10 = .ok (.iconst 0, 1) := by decide +kernel
theorem dX0_setMemory_11 : decode cX0_setMemory 11 = .ok (.ireturn, 1) := by decide +kernel
theorem dX0_setMemory_12 : decode cX0_setMemory 12 = .ok (.aload_n 0, 1) := by decide +kernel
theorem dX0_setMemory_13 : decode cX0_setMemory 13 = .ok (.getfield 26, 3) := by decide +kernel
theorem dX0_setMemory_16 : decode cX0_setMemory 16 = .ok (.iload_n 1, 1) := by decide +kernel
theorem dX0_setMemory_17 : decode cX0_setMemory 17 = .ok (.iload_n 2, 1) := by decide +kernel
theorem dX0_setMemory_18 : decode cX0_setMemory 18 = .ok (.iastore, 1) := by decide +kernel
theorem dX0_setMemory_19 : decode cX0_setMemory 19 = .ok (.iconst 1, 1) := by decide +kernel
theorem dX0_setMemory_20 : decode cX0_setMemory 20 = .ok (.ireturn, 1) := by decide +kernel
abbrev cX0_place : ByteArray := prog_1_method_10_code
def yX0_place : MethodName := ⟨RX0, "place", "()I"⟩
theorem dX0_place_0 : decode cX0_place 0 = .ok (.aload_n 0, 1) := by decide +kernel
theorem dX0_place_1 : decode cX0_place 1 = .ok (.getfield 95, 3) := by decide +kernel
theorem dX0_place_4 : decode cX0_place 4 = .ok (.ireturn, 1) := by decide +kernel
abbrev cX0_status : ByteArray := prog_1_method_11_code
def yX0_status : MethodName := ⟨RX0, "status", "()I"⟩
theorem dX0_status_0 : decode cX0_status 0 = .ok (.aload_n 0, 1) := by decide +kernel
theorem dX0_status_1 : decode cX0_status 1 = .ok (.getfield 98, 3) := by decide +kernel
theorem dX0_status_4 : decode cX0_status 4 = .ok (.ireturn, 1) := by decide +kernel
abbrev cX0_clear : ByteArray := prog_1_method_12_code
def yX0_clear : MethodName := ⟨RX0, "clear", "()V"⟩
theorem dX0_clear_0 : decode cX0_clear 0 = .ok (.aload_n 0, 1) := by decide +kernel
theorem dX0_clear_1 : decode cX0_clear 1 = .ok (.iconst 0, 1) := by decide +kernel
theorem dX0_clear_2 : decode cX0_clear 2 = .ok (.putfield 84, 3) := by decide +kernel
theorem dX0_clear_5 : decode cX0_clear 5 = .ok (.iconst 0, 1) := by decide +kernel
theorem dX0_clear_6 : decode cX0_clear 6 = .ok (.istore_n 1, 1) := by decide +kernel
theorem dX0_clear_7 : decode cX0_clear 7 = .ok (.iload_n 1, 1) := by decide +kernel
theorem dX0_clear_8 : decode cX0_clear 8 = .ok (.bipush 8, 2) := by decide +kernel
theorem dX0_clear_10 : decode cX0_clear 10 = .ok (.if_icmp .ge 16, 3) := by decide +kernel
theorem dX0_clear_13 : decode cX0_clear 13 = .ok (.aload_n 0, 1) := by decide +kernel
theorem dX0_clear_14 : decode cX0_clear 14 = .ok (.getfield 23, 3) := by decide +kernel
theorem dX0_clear_17 : decode cX0_clear 17 = .ok (.iload_n 1, 1) := by decide +kernel
theorem dX0_clear_18 : decode cX0_clear 18 = .ok (.iconst 0, 1) := by decide +kernel
theorem dX0_clear_19 : decode cX0_clear 19 = .ok (.iastore, 1) := by decide +kernel
theorem dX0_clear_20 : decode cX0_clear 20 = .ok (.iinc 1 1, 3) := by decide +kernel
theorem dX0_clear_23 : decode cX0_clear 23 = .ok (.goto (-16), 3) := by decide +kernel
theorem dX0_clear_26 : decode cX0_clear 26 = .ok (.iconst 0, 1) := by decide +kernel
theorem dX0_clear_27 : decode cX0_clear 27 = .ok (.istore_n 1, 1) := by decide +kernel
theorem dX0_clear_28 : decode cX0_clear 28 = .ok (.iload_n 1, 1) := by decide +kernel
theorem dX0_clear_29 : decode cX0_clear 29 = .ok (.bipush 16, 2) := by decide +kernel
theorem dX0_clear_31 : decode cX0_clear 31 = .ok (.if_icmp .ge 16, 3) := by decide +kernel
theorem dX0_clear_34 : decode cX0_clear 34 = .ok (.aload_n 0, 1) := by decide +kernel
theorem dX0_clear_35 : decode cX0_clear 35 = .ok (.getfield 26, 3) := by decide +kernel
theorem dX0_clear_38 : decode cX0_clear 38 = .ok (.iload_n 1, 1) := by decide +kernel
theorem dX0_clear_39 : decode cX0_clear 39 = .ok (.iconst 0, 1) := by decide +kernel
theorem dX0_clear_40 : decode cX0_clear 40 = .ok (.iastore, 1) := by decide +kernel
theorem dX0_clear_41 : decode cX0_clear 41 = .ok (.iinc 1 1, 3) := by decide +kernel
theorem dX0_clear_44 : decode cX0_clear 44 = .ok (.goto (-16), 3) := by decide +kernel
theorem dX0_clear_47 : decode cX0_clear 47 = .ok (.aload_n 0, 1) := by decide +kernel
theorem dX0_clear_48 : decode cX0_clear 48 = .ok (.invokevirtual 119, 3) := by decide +kernel
theorem dX0_clear_51 : decode cX0_clear 51 = .ok (.aload_n 0, 1) := by decide +kernel
theorem dX0_clear_52 : decode cX0_clear 52 = .ok (.invokevirtual 78, 3) := by decide +kernel
theorem dX0_clear_55 : decode cX0_clear 55 = .ok (.return_, 1) := by decide +kernel
end
section
/-! TraceFrontEndModel -/
set_option maxRecDepth 100000
def RX1 : String := "TraceFrontEndModel"
def TX1 : u_T := fun k => match k with
  | 0 => ("TraceFrontEndModel", "n", "I", false)
  | 1 => ("TraceFrontEndModel", "op", "[I", false)
  | 2 => ("TraceFrontEndModel", "ax", "[I", false)
  | 3 => ("TraceFrontEndModel", "ay", "[I", false)
  | 4 => ("TraceFrontEndModel", "az", "[I", false)
  | 5 => ("TraceFrontEndModel", "reg", "[I", false)
  | 6 => ("TraceFrontEndModel", "mem", "[I", false)
  | 7 => ("TraceFrontEndModel", "pc", "I", false)
  | _ => ("TraceFrontEndModel", "status", "I", false)
def tyX1 : Nat → FieldType := fun k => match k with
  | 0 => .int
  | 1 => .array .int
  | 2 => .array .int
  | 3 => .array .int
  | 4 => .array .int
  | 5 => .array .int
  | 6 => .array .int
  | 7 => .int
  | _ => .int
abbrev wsX10 : List Cond := u_ws RX1 TX1 9
theorem nmX1 : ∀ a, a < 9 → ∀ b, b < 9 → a ≠ b → (TX1 a).2.1 ≠ (TX1 b).2.1 := by decide +kernel
theorem tyX1_ok : ∀ k, k < 9 → parseFieldDescriptor (TX1 k).2.2.1 = some (tyX1 k) := by decide +kernel
abbrev cX1_init : ByteArray := prog_3_method_1_code
def yX1_init : MethodName := ⟨RX1, "<init>", "()V"⟩
theorem dX1_init_0 : decode cX1_init 0 = .ok (.aload_n 0, 1) := by decide +kernel
theorem dX1_init_1 : decode cX1_init 1 = .ok (.invokespecial 1, 3) := by decide +kernel
theorem dX1_init_4 : decode cX1_init 4 = .ok (.aload_n 0, 1) := by decide +kernel
theorem dX1_init_5 : decode cX1_init 5 = .ok (.iconst 0, 1) := by decide +kernel
theorem dX1_init_6 : decode cX1_init 6 = .ok (.putfield 7, 3) := by decide +kernel
theorem dX1_init_9 : decode cX1_init 9 = .ok (.aload_n 0, 1) := by decide +kernel
theorem dX1_init_10 : decode cX1_init 10 = .ok (.bipush 24, 2) := by decide +kernel
theorem dX1_init_12 : decode cX1_init 12 = .ok (.newarray .int, 2) := by decide +kernel
theorem dX1_init_14 : decode cX1_init 14 = .ok (.putfield 13, 3) := by decide +kernel
theorem dX1_init_17 : decode cX1_init 17 = .ok (.aload_n 0, 1) := by decide +kernel
theorem dX1_init_18 : decode cX1_init 18 = .ok (.bipush 24, 2) := by decide +kernel
theorem dX1_init_20 : decode cX1_init 20 = .ok (.newarray .int, 2) := by decide +kernel
theorem dX1_init_22 : decode cX1_init 22 = .ok (.putfield 17, 3) := by decide +kernel
theorem dX1_init_25 : decode cX1_init 25 = .ok (.aload_n 0, 1) := by decide +kernel
theorem dX1_init_26 : decode cX1_init 26 = .ok (.bipush 24, 2) := by decide +kernel
theorem dX1_init_28 : decode cX1_init 28 = .ok (.newarray .int, 2) := by decide +kernel
theorem dX1_init_30 : decode cX1_init 30 = .ok (.putfield 20, 3) := by decide +kernel
theorem dX1_init_33 : decode cX1_init 33 = .ok (.aload_n 0, 1) := by decide +kernel
theorem dX1_init_34 : decode cX1_init 34 = .ok (.bipush 24, 2) := by decide +kernel
theorem dX1_init_36 : decode cX1_init 36 = .ok (.newarray .int, 2) := by decide +kernel
theorem dX1_init_38 : decode cX1_init 38 = .ok (.putfield 23, 3) := by decide +kernel
theorem dX1_init_41 : decode cX1_init 41 = .ok (.aload_n 0, 1) := by decide +kernel
theorem dX1_init_42 : decode cX1_init 42 = .ok (.bipush 8, 2) := by decide +kernel
theorem dX1_init_44 : decode cX1_init 44 = .ok (.newarray .int, 2) := by decide +kernel
theorem dX1_init_46 : decode cX1_init 46 = .ok (.putfield 26, 3) := by decide +kernel
theorem dX1_init_49 : decode cX1_init 49 = .ok (.aload_n 0, 1) := by decide +kernel
theorem dX1_init_50 : decode cX1_init 50 = .ok (.bipush 16, 2) := by decide +kernel
theorem dX1_init_52 : decode cX1_init 52 = .ok (.newarray .int, 2) := by decide +kernel
theorem dX1_init_54 : decode cX1_init 54 = .ok (.putfield 29, 3) := by decide +kernel
theorem dX1_init_57 : decode cX1_init 57 = .ok (.aload_n 0, 1) := by decide +kernel
theorem dX1_init_58 : decode cX1_init 58 = .ok (.iconst 0, 1) := by decide +kernel
theorem dX1_init_59 : decode cX1_init 59 = .ok (.putfield 32, 3) := by decide +kernel
theorem dX1_init_62 : decode cX1_init 62 = .ok (.aload_n 0, 1) := by decide +kernel
theorem dX1_init_63 : decode cX1_init 63 = .ok (.iconst 0, 1) := by decide +kernel
theorem dX1_init_64 : decode cX1_init 64 = .ok (.putfield 35, 3) := by decide +kernel
theorem dX1_init_67 : decode cX1_init 67 = .ok (.return_, 1) := by decide +kernel
abbrev cX1_emit : ByteArray := prog_3_method_5_code
def yX1_emit : MethodName := ⟨RX1, "emit", "(IIII)I"⟩
theorem dX1_emit_0 : decode cX1_emit 0 = .ok (.aload_n 0, 1) := by decide +kernel
theorem dX1_emit_1 : decode cX1_emit 1 = .ok (.getfield 7, 3) := by decide +kernel
theorem dX1_emit_4 : decode cX1_emit 4 = .ok (.bipush 24, 2) := by decide +kernel
theorem dX1_emit_6 : decode cX1_emit 6 = .ok (.if_icmp .ne 6, 3) := by decide +kernel
theorem dX1_emit_9 : decode cX1_emit 9 = .ok (.bipush (-2), 2) := by decide +kernel
theorem dX1_emit_11 : decode cX1_emit 11 = .ok (.ireturn, 1) := by decide +kernel
theorem dX1_emit_12 : decode cX1_emit 12 = .ok (.aload_n 0, 1) := by decide +kernel
theorem dX1_emit_13 : decode cX1_emit 13 = .ok (.iload_n 1, 1) := by decide +kernel
theorem dX1_emit_14 : decode cX1_emit 14 = .ok (.iload_n 2, 1) := by decide +kernel
theorem dX1_emit_15 : decode cX1_emit 15 = .ok (.iload_n 3, 1) := by decide +kernel
theorem dX1_emit_16 : decode cX1_emit 16 = .ok (.iload 4, 2) := by decide +kernel
theorem dX1_emit_18 : decode cX1_emit 18 = .ok (.invokevirtual 45, 3) := by decide +kernel
theorem dX1_emit_21 : decode cX1_emit 21 = .ok (.ifCond .ne 5, 3) := by decide +kernel
theorem dX1_emit_24 : decode cX1_emit 24 = .ok (.iconst (-1), 1) := by decide +kernel
theorem dX1_emit_25 : decode cX1_emit 25 = .ok (.ireturn, 1) := by decide +kernel
theorem dX1_emit_26 : decode cX1_emit 26 = .ok (.aload_n 0, 1) := by decide +kernel
theorem dX1_emit_27 : decode cX1_emit 27 = .ok (.getfield 13, 3) := by decide +kernel
theorem dX1_emit_30 : decode cX1_emit 30 = .ok (.aload_n 0, 1) := by decide +kernel
theorem dX1_emit_31 : decode cX1_emit 31 = .ok (.getfield 7, 3) := by decide +kernel
theorem dX1_emit_34 : decode cX1_emit 34 = .ok (.iload_n 1, 1) := by decide +kernel
theorem dX1_emit_35 : decode cX1_emit 35 = .ok (.iastore, 1) := by decide +kernel
theorem dX1_emit_36 : decode cX1_emit 36 = .ok (.aload_n 0, 1) := by decide +kernel
theorem dX1_emit_37 : decode cX1_emit 37 = .ok (.getfield 17, 3) := by decide +kernel
theorem dX1_emit_40 : decode cX1_emit 40 = .ok (.aload_n 0, 1) := by decide +kernel
theorem dX1_emit_41 : decode cX1_emit 41 = .ok (.getfield 7, 3) := by decide +kernel
theorem dX1_emit_44 : decode cX1_emit 44 = .ok (.iload_n 2, 1) := by decide +kernel
theorem dX1_emit_45 : decode cX1_emit 45 = .ok (.iastore, 1) := by decide +kernel
theorem dX1_emit_46 : decode cX1_emit 46 = .ok (.aload_n 0, 1) := by decide +kernel
theorem dX1_emit_47 : decode cX1_emit 47 = .ok (.getfield 20, 3) := by decide +kernel
theorem dX1_emit_50 : decode cX1_emit 50 = .ok (.aload_n 0, 1) := by decide +kernel
theorem dX1_emit_51 : decode cX1_emit 51 = .ok (.getfield 7, 3) := by decide +kernel
theorem dX1_emit_54 : decode cX1_emit 54 = .ok (.iload_n 3, 1) := by decide +kernel
theorem dX1_emit_55 : decode cX1_emit 55 = .ok (.iastore, 1) := by decide +kernel
theorem dX1_emit_56 : decode cX1_emit 56 = .ok (.aload_n 0, 1) := by decide +kernel
theorem dX1_emit_57 : decode cX1_emit 57 = .ok (.getfield 23, 3) := by decide +kernel
theorem dX1_emit_60 : decode cX1_emit 60 = .ok (.aload_n 0, 1) := by decide +kernel
theorem dX1_emit_61 : decode cX1_emit 61 = .ok (.getfield 7, 3) := by decide +kernel
theorem dX1_emit_64 : decode cX1_emit 64 = .ok (.iload 4, 2) := by decide +kernel
theorem dX1_emit_66 : decode cX1_emit 66 = .ok (.iastore, 1) := by decide +kernel
theorem dX1_emit_67 : decode cX1_emit 67 = .ok (.aload_n 0, 1) := by decide +kernel
theorem dX1_emit_68 : decode cX1_emit 68 = .ok (.dup, 1) := by decide +kernel
theorem dX1_emit_69 : decode cX1_emit 69 = .ok (.getfield 7, 3) := by decide +kernel
theorem dX1_emit_72 : decode cX1_emit 72 = .ok (.iconst 1, 1) := by decide +kernel
theorem dX1_emit_73 : decode cX1_emit 73 = .ok (.iadd, 1) := by decide +kernel
theorem dX1_emit_74 : decode cX1_emit 74 = .ok (.putfield 7, 3) := by decide +kernel
theorem dX1_emit_77 : decode cX1_emit 77 = .ok (.aload_n 0, 1) := by decide +kernel
theorem dX1_emit_78 : decode cX1_emit 78 = .ok (.getfield 7, 3) := by decide +kernel
theorem dX1_emit_81 : decode cX1_emit 81 = .ok (.ireturn, 1) := by decide +kernel
abbrev cX1_fits : ByteArray := prog_3_method_4_code
def yX1_fits : MethodName := ⟨RX1, "fits", "(IIII)Z"⟩
theorem dX1_fits_0 : decode cX1_fits 0 = .ok (.iload_n 1, 1) := by decide +kernel
theorem dX1_fits_1 : decode cX1_fits 1 = .ok (.ifCond .lt 9, 3) := by decide +kernel
theorem dX1_fits_4 : decode cX1_fits 4 = .ok (.iload_n 1, 1) := by decide +kernel
theorem dX1_fits_5 : decode cX1_fits 5 = .ok (.bipush 10, 2) := by decide +kernel
theorem dX1_fits_7 : decode cX1_fits 7 = .ok (.if_icmp .le 5, 3) := by decide +kernel
theorem dX1_fits_10 : decode cX1_fits 10 = .ok (.iconst 0, 1) := by decide +kernel
theorem dX1_fits_11 : decode cX1_fits 11 = .ok (.ireturn, 1) := by decide +kernel
theorem dX1_fits_12 : decode cX1_fits 12 = .ok (.iload_n 1, 1) := by decide +kernel
theorem dX1_fits_13 : decode cX1_fits 13 = .ok (.bipush 10, 2) := by decide +kernel
theorem dX1_fits_15 : decode cX1_fits 15 = .ok (.if_icmp .ne 5, 3) := by decide +kernel
theorem dX1_fits_18 : decode cX1_fits 18 = .ok (.iconst 1, 1) := by decide +kernel
theorem dX1_fits_19 : decode cX1_fits 19 = .ok (.ireturn, 1) := by decide +kernel
theorem dX1_fits_20 : decode cX1_fits 20 = .ok (.iload_n 1, 1) := by decide +kernel
theorem dX1_fits_21 : decode cX1_fits 21 = .ok (.bipush 9, 2) := by decide +kernel
theorem dX1_fits_23 : decode cX1_fits 23 = .ok (.if_icmp .ne 9, 3) := by decide +kernel
theorem dX1_fits_26 : decode cX1_fits 26 = .ok (.aload_n 0, 1) := by decide +kernel
theorem dX1_fits_27 : decode cX1_fits 27 = .ok (.iload_n 2, 1) := by decide +kernel
theorem dX1_fits_28 : decode cX1_fits 28 = .ok (.invokevirtual 38, 3) := by decide +kernel
theorem dX1_fits_31 : decode cX1_fits 31 = .ok (.ireturn, 1) := by decide +kernel
theorem dX1_fits_32 : decode cX1_fits 32 = .ok (.aload_n 0, 1) := by decide +kernel
theorem dX1_fits_33 : decode cX1_fits 33 = .ok (.iload_n 2, 1) := by decide +kernel
theorem dX1_fits_34 : decode cX1_fits 34 = .ok (.invokevirtual 42, 3) := by decide +kernel
theorem dX1_fits_37 : decode cX1_fits 37 = .ok (.ifCond .ne 5, 3) := by decide +kernel
theorem dX1_fits_40 : decode cX1_fits 40 = .ok (.iconst 0, 1) := by decide +kernel
theorem dX1_fits_41 : decode cX1_fits 41 = .ok (.ireturn, 1) := by decide +kernel
theorem dX1_fits_42 : decode cX1_fits 42 = .ok (.iload_n 1, 1) := by decide +kernel
theorem dX1_fits_43 : decode cX1_fits 43 = .ok (.bipush 7, 2) := by decide +kernel
theorem dX1_fits_45 : decode cX1_fits 45 = .ok (.if_icmp .eq 9, 3) := by decide +kernel
theorem dX1_fits_48 : decode cX1_fits 48 = .ok (.iload_n 1, 1) := by decide +kernel
theorem dX1_fits_49 : decode cX1_fits 49 = .ok (.bipush 8, 2) := by decide +kernel
theorem dX1_fits_51 : decode cX1_fits 51 = .ok (.if_icmp .ne 9, 3) := by decide +kernel
theorem dX1_fits_54 : decode cX1_fits 54 = .ok (.aload_n 0, 1) := by decide +kernel
theorem dX1_fits_55 : decode cX1_fits 55 = .ok (.iload_n 3, 1) := by decide +kernel
theorem dX1_fits_56 : decode cX1_fits 56 = .ok (.invokevirtual 38, 3) := by decide +kernel
theorem dX1_fits_59 : decode cX1_fits 59 = .ok (.ireturn, 1) := by decide +kernel
theorem dX1_fits_60 : decode cX1_fits 60 = .ok (.aload_n 0, 1) := by decide +kernel
theorem dX1_fits_61 : decode cX1_fits 61 = .ok (.iload_n 3, 1) := by decide +kernel
theorem dX1_fits_62 : decode cX1_fits 62 = .ok (.invokevirtual 42, 3) := by decide +kernel
theorem dX1_fits_65 : decode cX1_fits 65 = .ok (.ifCond .eq 21, 3) := by decide +kernel
theorem dX1_fits_68 : decode cX1_fits 68 = .ok (.iload_n 1, 1) := by decide +kernel
theorem dX1_fits_69 : decode cX1_fits 69 = .ok (.iconst 3, 1) := by decide +kernel
theorem dX1_fits_70 : decode cX1_fits 70 = .ok (.if_icmp .gt 12, 3) := by decide +kernel
theorem dX1_fits_73 : decode cX1_fits 73 = .ok (.aload_n 0, 1) := by decide +kernel
theorem dX1_fits_74 : decode cX1_fits 74 = .ok (.iload 4, 2) := by decide +kernel
theorem dX1_fits_76 : decode cX1_fits 76 = .ok (.invokevirtual 42, 3) := by decide +kernel
theorem dX1_fits_79 : decode cX1_fits 79 = .ok (.ifCond .eq 7, 3) := by decide +kernel
theorem dX1_fits_82 : decode cX1_fits 82 = .ok (.iconst 1, 1) := by decide +kernel
theorem dX1_fits_83 : decode cX1_fits 83 = .ok (.goto 4, 3) := by decide +kernel
theorem dX1_fits_86 : decode cX1_fits 86 = .ok (.iconst 0, 1) := by decide +kernel
theorem dX1_fits_87 : decode cX1_fits 87 = .ok (.ireturn, 1) := by decide +kernel
abbrev cX1_isPlace : ByteArray := prog_3_method_3_code
def yX1_isPlace : MethodName := ⟨RX1, "isPlace", "(I)Z"⟩
theorem dX1_isPlace_0 : decode cX1_isPlace 0 = .ok (.iload_n 1, 1) := by decide +kernel
theorem dX1_isPlace_1 : decode cX1_isPlace 1 = .ok (.ifCond .lt 13, 3) := by decide +kernel
theorem dX1_isPlace_4 : decode cX1_isPlace 4 = .ok (.iload_n 1, 1) := by decide +kernel
theorem dX1_isPlace_5 : decode cX1_isPlace 5 = .ok (.bipush 23, 2) := by decide +kernel
theorem dX1_isPlace_7 : decode cX1_isPlace 7 = .ok (.if_icmp .gt 7, 3) := by decide +kernel
theorem dX1_isPlace_10 : decode cX1_isPlace 10 = .ok (.iconst 1, 1) := by decide +kernel
theorem dX1_isPlace_11 : decode cX1_isPlace 11 = .ok (.goto 4, 3) := by decide +kernel
theorem dX1_isPlace_14 : decode cX1_isPlace 14 = .ok (.iconst 0, 1) := by decide +kernel
theorem dX1_isPlace_15 : decode cX1_isPlace 15 = .ok (.ireturn, 1) := by decide +kernel
abbrev cX1_isRegister : ByteArray := prog_3_method_2_code
def yX1_isRegister : MethodName := ⟨RX1, "isRegister", "(I)Z"⟩
theorem dX1_isRegister_0 : decode cX1_isRegister 0 = .ok (.iload_n 1, 1) := by decide +kernel
theorem dX1_isRegister_1 : decode cX1_isRegister 1 = .ok (.ifCond .lt 13, 3) := by decide +kernel
theorem dX1_isRegister_4 : decode cX1_isRegister 4 = .ok (.iload_n 1, 1) := by decide +kernel
theorem dX1_isRegister_5 : decode cX1_isRegister 5 = .ok (.bipush 7, 2) := by decide +kernel
theorem dX1_isRegister_7 : decode cX1_isRegister 7 = .ok (.if_icmp .gt 7, 3) := by decide +kernel
theorem dX1_isRegister_10 : decode cX1_isRegister 10 = .ok (.iconst 1, 1) := by decide +kernel
theorem dX1_isRegister_11 : decode cX1_isRegister 11 = .ok (.goto 4, 3) := by decide +kernel
theorem dX1_isRegister_14 : decode cX1_isRegister 14 = .ok (.iconst 0, 1) := by decide +kernel
theorem dX1_isRegister_15 : decode cX1_isRegister 15 = .ok (.ireturn, 1) := by decide +kernel
abbrev cX1_amend : ByteArray := prog_3_method_6_code
def yX1_amend : MethodName := ⟨RX1, "amend", "(II)I"⟩
theorem dX1_amend_0 : decode cX1_amend 0 = .ok (.iload_n 1, 1) := by decide +kernel
theorem dX1_amend_1 : decode cX1_amend 1 = .ok (.ifCond .lt 32, 3) := by decide +kernel
theorem dX1_amend_4 : decode cX1_amend 4 = .ok (.iload_n 1, 1) := by decide +kernel
theorem dX1_amend_5 : decode cX1_amend 5 = .ok (.aload_n 0, 1) := by decide +kernel
theorem dX1_amend_6 : decode cX1_amend 6 = .ok (.getfield 7, 3) := by decide +kernel
theorem dX1_amend_9 : decode cX1_amend 9 = .ok (.if_icmp .ge 24, 3) := by decide +kernel
theorem dX1_amend_12 : decode cX1_amend 12 = .ok (.aload_n 0, 1) := by decide +kernel
theorem dX1_amend_13 : decode cX1_amend 13 = .ok (.getfield 13, 3) := by decide +kernel
theorem dX1_amend_16 : decode cX1_amend 16 = .ok (.iload_n 1, 1) := by decide +kernel
theorem dX1_amend_17 : decode cX1_amend 17 = .ok (.iaload, 1) := by decide +kernel
theorem dX1_amend_18 : decode cX1_amend 18 = .ok (.iconst 4, 1) := by decide +kernel
theorem dX1_amend_19 : decode cX1_amend 19 = .ok (.if_icmp .lt 14, 3) := by decide +kernel
theorem dX1_amend_22 : decode cX1_amend 22 = .ok (.aload_n 0, 1) := by decide +kernel
theorem dX1_amend_23 : decode cX1_amend 23 = .ok (.getfield 13, 3) := by decide +kernel
theorem dX1_amend_26 : decode cX1_amend 26 = .ok (.iload_n 1, 1) := by decide +kernel
theorem dX1_amend_27 : decode cX1_amend 27 = .ok (.iaload, 1) := by decide +kernel
theorem dX1_amend_28 : decode cX1_amend 28 = .ok (.bipush 10, 2) := by decide +kernel
theorem dX1_amend_30 : decode cX1_amend 30 = .ok (.if_icmp .ne 5, 3) := by decide +kernel
theorem dX1_amend_33 : decode cX1_amend 33 = .ok (.iconst (-1), 1) := by decide +kernel
theorem dX1_amend_34 : decode cX1_amend 34 = .ok (.ireturn, 1) := by decide +kernel
theorem dX1_amend_35 : decode cX1_amend 35 = .ok (.aload_n 0, 1) := by decide +kernel
theorem dX1_amend_36 : decode cX1_amend 36 = .ok (.getfield 13, 3) := by decide +kernel
theorem dX1_amend_39 : decode cX1_amend 39 = .ok (.iload_n 1, 1) := by decide +kernel
theorem dX1_amend_40 : decode cX1_amend 40 = .ok (.iaload, 1) := by decide +kernel
theorem dX1_amend_41 : decode cX1_amend 41 = .ok (.bipush 7, 2) := by decide +kernel
theorem dX1_amend_43 : decode cX1_amend 43 = .ok (.if_icmp .lt 13, 3) := by decide +kernel
theorem dX1_amend_46 : decode cX1_amend 46 = .ok (.aload_n 0, 1) := by decide +kernel
theorem dX1_amend_47 : decode cX1_amend 47 = .ok (.iload_n 2, 1) := by decide +kernel
theorem dX1_amend_48 : decode cX1_amend 48 = .ok (.invokevirtual 38, 3) := by decide +kernel
theorem dX1_amend_51 : decode cX1_amend 51 = .ok (.ifCond .ne 5, 3) := by decide +kernel
theorem dX1_amend_54 : decode cX1_amend 54 = .ok (.iconst (-1), 1) := by decide +kernel
theorem dX1_amend_55 : decode cX1_amend 55 = .ok (.ireturn, 1) := by decide +kernel
theorem dX1_amend_56 : decode cX1_amend 56 = .ok (.aload_n 0, 1) := by decide +kernel
theorem dX1_amend_57 : decode cX1_amend 57 = .ok (.getfield 13, 3) := by decide +kernel
theorem dX1_amend_60 : decode cX1_amend 60 = .ok (.iload_n 1, 1) := by decide +kernel
theorem dX1_amend_61 : decode cX1_amend 61 = .ok (.iaload, 1) := by decide +kernel
theorem dX1_amend_62 : decode cX1_amend 62 = .ok (.bipush 9, 2) := by decide +kernel
theorem dX1_amend_64 : decode cX1_amend 64 = .ok (.if_icmp .ne 13, 3) := by decide +kernel
theorem dX1_amend_67 : decode cX1_amend 67 = .ok (.aload_n 0, 1) := by decide +kernel
theorem dX1_amend_68 : decode cX1_amend 68 = .ok (.getfield 17, 3) := by decide +kernel
theorem dX1_amend_71 : decode cX1_amend 71 = .ok (.iload_n 1, 1) := by decide +kernel
theorem dX1_amend_72 : decode cX1_amend 72 = .ok (.iload_n 2, 1) := by decide +kernel
theorem dX1_amend_73 : decode cX1_amend 73 = .ok (.iastore, 1) := by decide +kernel
theorem dX1_amend_74 : decode cX1_amend 74 = .ok (.goto 31, 3) := by decide +kernel
theorem dX1_amend_77 : decode cX1_amend 77 = .ok (.aload_n 0, 1) := by decide +kernel
theorem dX1_amend_78 : decode cX1_amend 78 = .ok (.getfield 13, 3) := by decide +kernel
theorem dX1_amend_81 : decode cX1_amend 81 = .ok (.iload_n 1, 1) := by decide +kernel
theorem dX1_amend_82 : decode cX1_amend 82 = .ok (.iaload, 1) := by decide +kernel
theorem dX1_amend_83 : decode cX1_amend 83 = .ok (.bipush 7, 2) := by decide +kernel
theorem dX1_amend_85 : decode cX1_amend 85 = .ok (.if_icmp .lt 13, 3) := by decide +kernel
theorem dX1_amend_88 : decode cX1_amend 88 = .ok (.aload_n 0, 1) := by decide +kernel
theorem dX1_amend_89 : decode cX1_amend 89 = .ok (.getfield 20, 3) := by decide +kernel
theorem dX1_amend_92 : decode cX1_amend 92 = .ok (.iload_n 1, 1) := by decide +kernel
theorem dX1_amend_93 : decode cX1_amend 93 = .ok (.iload_n 2, 1) := by decide +kernel
theorem dX1_amend_94 : decode cX1_amend 94 = .ok (.iastore, 1) := by decide +kernel
theorem dX1_amend_95 : decode cX1_amend 95 = .ok (.goto 10, 3) := by decide +kernel
theorem dX1_amend_98 : decode cX1_amend 98 = .ok (.aload_n 0, 1) := by decide +kernel
theorem dX1_amend_99 : decode cX1_amend 99 = .ok (.getfield 23, 3) := by decide +kernel
theorem dX1_amend_102 : decode cX1_amend 102 = .ok (.iload_n 1, 1) := by decide +kernel
theorem dX1_amend_103 : decode cX1_amend 103 = .ok (.iload_n 2, 1) := by decide +kernel
theorem dX1_amend_104 : decode cX1_amend 104 = .ok (.iastore, 1) := by decide +kernel
theorem dX1_amend_105 : decode cX1_amend 105 = .ok (.iload_n 1, 1) := by decide +kernel
theorem dX1_amend_106 : decode cX1_amend 106 = .ok (.ireturn, 1) := by decide +kernel
abbrev cX1_restart : ByteArray := prog_3_method_7_code
def yX1_restart : MethodName := ⟨RX1, "restart", "()V"⟩
theorem dX1_restart_0 : decode cX1_restart 0 = .ok (.aload_n 0, 1) := by decide +kernel
theorem dX1_restart_1 : decode cX1_restart 1 = .ok (.iconst 0, 1) := by decide +kernel
theorem dX1_restart_2 : decode cX1_restart 2 = .ok (.putfield 32, 3) := by decide +kernel
theorem dX1_restart_5 : decode cX1_restart 5 = .ok (.aload_n 0, 1) := by decide +kernel
theorem dX1_restart_6 : decode cX1_restart 6 = .ok (.iconst 0, 1) := by decide +kernel
theorem dX1_restart_7 : decode cX1_restart 7 = .ok (.putfield 35, 3) := by decide +kernel
theorem dX1_restart_10 : decode cX1_restart 10 = .ok (.return_, 1) := by decide +kernel
abbrev cX1_run : ByteArray := prog_3_method_9_code
def yX1_run : MethodName := ⟨RX1, "run", "(I)I"⟩
theorem dX1_run_0 : decode cX1_run 0 = .ok (.iload_n 1, 1) := by decide +kernel
theorem dX1_run_1 : decode cX1_run 1 = .ok (.ifCond .ge 7, 3) := by decide +kernel
theorem dX1_run_4 : decode cX1_run 4 = .ok (.iconst 0, 1) := by decide +kernel
theorem dX1_run_5 : decode cX1_run 5 = .ok (.goto 17, 3) := by decide +kernel
theorem dX1_run_8 : decode cX1_run 8 = .ok (.iload_n 1, 1) := by decide +kernel
theorem dX1_run_9 : decode cX1_run 9 = .ok (.sipush 150, 3) := by decide +kernel
theorem dX1_run_12 : decode cX1_run 12 = .ok (.if_icmp .le 9, 3) := by decide +kernel
theorem dX1_run_15 : decode cX1_run 15 = .ok (.sipush 150, 3) := by decide +kernel
theorem dX1_run_18 : decode cX1_run 18 = .ok (.goto 4, 3) := by decide +kernel
theorem dX1_run_21 : decode cX1_run 21 = .ok (.iload_n 1, 1) := by decide +kernel
theorem dX1_run_22 : decode cX1_run 22 = .ok (.istore_n 2, 1) := by decide +kernel
theorem dX1_run_23 : decode cX1_run 23 = .ok (.iconst 0, 1) := by decide +kernel
theorem dX1_run_24 : decode cX1_run 24 = .ok (.istore_n 3, 1) := by decide +kernel
theorem dX1_run_25 : decode cX1_run 25 = .ok (.iconst 0, 1) := by decide +kernel
theorem dX1_run_26 : decode cX1_run 26 = .ok (.istore 4, 2) := by decide +kernel
theorem dX1_run_28 : decode cX1_run 28 = .ok (.iload 4, 2) := by decide +kernel
theorem dX1_run_30 : decode cX1_run 30 = .ok (.iload_n 2, 1) := by decide +kernel
theorem dX1_run_31 : decode cX1_run 31 = .ok (.if_icmp .ge 46, 3) := by decide +kernel
theorem dX1_run_34 : decode cX1_run 34 = .ok (.aload_n 0, 1) := by decide +kernel
theorem dX1_run_35 : decode cX1_run 35 = .ok (.getfield 35, 3) := by decide +kernel
theorem dX1_run_38 : decode cX1_run 38 = .ok (.ifCond .ne 39, 3) := by decide +kernel
theorem dX1_run_41 : decode cX1_run 41 = .ok (.aload_n 0, 1) := by decide +kernel
theorem dX1_run_42 : decode cX1_run 42 = .ok (.getfield 32, 3) := by decide +kernel
theorem dX1_run_45 : decode cX1_run 45 = .ok (.aload_n 0, 1) := by decide +kernel
theorem dX1_run_46 : decode cX1_run 46 = .ok (.getfield 7, 3) := by decide +kernel
theorem dX1_run_49 : decode cX1_run 49 = .ok (.if_icmp .lt 11, 3) := by decide +kernel
theorem dX1_run_52 : decode cX1_run 52 = .ok (.aload_n 0, 1) := by decide +kernel
theorem dX1_run_53 : decode cX1_run 53 = .ok (.iconst 2, 1) := by decide +kernel
theorem dX1_run_54 : decode cX1_run 54 = .ok (.putfield 35, 3) := by decide +kernel
theorem dX1_run_57 : decode cX1_run 57 = .ok (.goto 14, 3) := by decide +kernel
theorem dX1_run_60 : decode cX1_run 60 = .ok (.aload_n 0, 1) := by decide +kernel
theorem dX1_run_61 : decode cX1_run 61 = .ok (.aload_n 0, 1) := by decide +kernel
theorem dX1_run_62 : decode cX1_run 62 = .ok (.getfield 32, 3) := by decide +kernel
theorem dX1_run_65 : decode cX1_run 65 = .ok (.invokevirtual 49, 3) := by decide +kernel
theorem dX1_run_68 : decode cX1_run 68 = .ok (.iinc 3 1, 3) := by decide +kernel
theorem dX1_run_71 : decode cX1_run 71 = .ok (.iinc 4 1, 3) := by decide +kernel
theorem dX1_run_74 : decode cX1_run 74 = .ok (.goto (-46), 3) := by decide +kernel
theorem dX1_run_77 : decode cX1_run 77 = .ok (.iload_n 3, 1) := by decide +kernel
theorem dX1_run_78 : decode cX1_run 78 = .ok (.ireturn, 1) := by decide +kernel
end
section
set_option maxRecDepth 100000
abbrev cX1_execute : ByteArray := prog_3_method_8_code
def yX1_execute : MethodName := ⟨RX1, "execute", "(I)V"⟩
theorem dX1_execute_0 : decode cX1_execute 0 = .ok (.aload_n 0, 1) := by decide +kernel
theorem dX1_execute_1 : decode cX1_execute 1 = .ok (.getfield 17, 3) := by decide +kernel
theorem dX1_execute_4 : decode cX1_execute 4 = .ok (.iload_n 1, 1) := by decide +kernel
theorem dX1_execute_5 : decode cX1_execute 5 = .ok (.iaload, 1) := by decide +kernel
theorem dX1_execute_6 : decode cX1_execute 6 = .ok (.istore_n 2, 1) := by decide +kernel
theorem dX1_execute_7 : decode cX1_execute 7 = .ok (.aload_n 0, 1) := by decide +kernel
theorem dX1_execute_8 : decode cX1_execute 8 = .ok (.getfield 20, 3) := by decide +kernel
theorem dX1_execute_11 : decode cX1_execute 11 = .ok (.iload_n 1, 1) := by decide +kernel
theorem dX1_execute_12 : decode cX1_execute 12 = .ok (.iaload, 1) := by decide +kernel
theorem dX1_execute_13 : decode cX1_execute 13 = .ok (.istore_n 3, 1) := by decide +kernel
theorem dX1_execute_14 : decode cX1_execute 14 = .ok (.aload_n 0, 1) := by decide +kernel
theorem dX1_execute_15 : decode cX1_execute 15 = .ok (.getfield 23, 3) := by decide +kernel
theorem dX1_execute_18 : decode cX1_execute 18 = .ok (.iload_n 1, 1) := by decide +kernel
theorem dX1_execute_19 : decode cX1_execute 19 = .ok (.iaload, 1) := by decide +kernel
theorem dX1_execute_20 : decode cX1_execute 20 = .ok (.istore 4, 2) := by decide +kernel
theorem dX1_execute_22 : decode cX1_execute 22 = .ok (.aload_n 0, 1) := by decide +kernel
theorem dX1_execute_23 : decode cX1_execute 23 = .ok (.dup, 1) := by decide +kernel
theorem dX1_execute_24 : decode cX1_execute 24 = .ok (.getfield 32, 3) := by decide +kernel
theorem dX1_execute_27 : decode cX1_execute 27 = .ok (.iconst 1, 1) := by decide +kernel
theorem dX1_execute_28 : decode cX1_execute 28 = .ok (.iadd, 1) := by decide +kernel
theorem dX1_execute_29 : decode cX1_execute 29 = .ok (.putfield 32, 3) := by decide +kernel
theorem dX1_execute_32 : decode cX1_execute 32 = .ok (.aload_n 0, 1) := by decide +kernel
theorem dX1_execute_33 : decode cX1_execute 33 = .ok (.getfield 13, 3) := by decide +kernel
theorem dX1_execute_36 : decode cX1_execute 36 = .ok (.iload_n 1, 1) := by decide +kernel
theorem dX1_execute_37 : decode cX1_execute 37 = .ok (.iaload, 1) := by decide +kernel
theorem dX1_execute_38 : decode cX1_execute 38 = .ok (.ifCond .ne 26, 3) := by decide +kernel
theorem dX1_execute_41 : decode cX1_execute 41 = .ok (.aload_n 0, 1) := by decide +kernel
theorem dX1_execute_42 : decode cX1_execute 42 = .ok (.getfield 26, 3) := by decide +kernel
theorem dX1_execute_45 : decode cX1_execute 45 = .ok (.iload_n 2, 1) := by decide +kernel
theorem dX1_execute_46 : decode cX1_execute 46 = .ok (.aload_n 0, 1) := by decide +kernel
theorem dX1_execute_47 : decode cX1_execute 47 = .ok (.getfield 26, 3) := by decide +kernel
theorem dX1_execute_50 : decode cX1_execute 50 = .ok (.iload_n 3, 1) := by decide +kernel
theorem dX1_execute_51 : decode cX1_execute 51 = .ok (.iaload, 1) := by decide +kernel
theorem dX1_execute_52 : decode cX1_execute 52 = .ok (.aload_n 0, 1) := by decide +kernel
theorem dX1_execute_53 : decode cX1_execute 53 = .ok (.getfield 26, 3) := by decide +kernel
theorem dX1_execute_56 : decode cX1_execute 56 = .ok (.iload 4, 2) := by decide +kernel
theorem dX1_execute_58 : decode cX1_execute 58 = .ok (.iaload, 1) := by decide +kernel
theorem dX1_execute_59 : decode cX1_execute 59 = .ok (.iadd, 1) := by decide +kernel
theorem dX1_execute_60 : decode cX1_execute 60 = .ok (.iastore, 1) := by decide +kernel
theorem dX1_execute_61 : decode cX1_execute 61 = .ok (.goto 298, 3) := by decide +kernel
theorem dX1_execute_64 : decode cX1_execute 64 = .ok (.aload_n 0, 1) := by decide +kernel
theorem dX1_execute_65 : decode cX1_execute 65 = .ok (.getfield 13, 3) := by decide +kernel
theorem dX1_execute_68 : decode cX1_execute 68 = .ok (.iload_n 1, 1) := by decide +kernel
theorem dX1_execute_69 : decode cX1_execute 69 = .ok (.iaload, 1) := by decide +kernel
theorem dX1_execute_70 : decode cX1_execute 70 = .ok (.iconst 1, 1) := by decide +kernel
theorem dX1_execute_71 : decode cX1_execute 71 = .ok (.if_icmp .ne 26, 3) := by decide +kernel
theorem dX1_execute_74 : decode cX1_execute 74 = .ok (.aload_n 0, 1) := by decide +kernel
theorem dX1_execute_75 : decode cX1_execute 75 = .ok (.getfield 26, 3) := by decide +kernel
theorem dX1_execute_78 : decode cX1_execute 78 = .ok (.iload_n 2, 1) := by decide +kernel
theorem dX1_execute_79 : decode cX1_execute 79 = .ok (.aload_n 0, 1) := by decide +kernel
theorem dX1_execute_80 : decode cX1_execute 80 = .ok (.getfield 26, 3) := by decide +kernel
theorem dX1_execute_83 : decode cX1_execute 83 = .ok (.iload_n 3, 1) := by decide +kernel
theorem dX1_execute_84 : decode cX1_execute 84 = .ok (.iaload, 1) := by decide +kernel
theorem dX1_execute_85 : decode cX1_execute 85 = .ok (.aload_n 0, 1) := by decide +kernel
theorem dX1_execute_86 : decode cX1_execute 86 = .ok (.getfield 26, 3) := by decide +kernel
theorem dX1_execute_89 : decode cX1_execute 89 = .ok (.iload 4, 2) := by decide +kernel
theorem dX1_execute_91 : decode cX1_execute 91 = .ok (.iaload, 1) := by decide +kernel
theorem dX1_execute_92 : decode cX1_execute 92 = .ok (.isub, 1) := by decide +kernel
theorem dX1_execute_93 : decode cX1_execute 93 = .ok (.iastore, 1) := by decide +kernel
theorem dX1_execute_94 : decode cX1_execute 94 = .ok (.goto 265, 3) := by decide +kernel
theorem dX1_execute_97 : decode cX1_execute 97 = .ok (.aload_n 0, 1) := by decide +kernel
theorem dX1_execute_98 : decode cX1_execute 98 = .ok (.getfield 13, 3) := by decide +kernel
theorem dX1_execute_101 : decode cX1_execute 101 = .ok (.iload_n 1, 1) := by decide +kernel
theorem dX1_execute_102 : decode cX1_execute 102 = .ok (.iaload, 1) := by decide +kernel
theorem dX1_execute_103 : decode cX1_execute 103 = .ok (.iconst 2, 1) := by decide +kernel
theorem dX1_execute_104 : decode cX1_execute 104 = .ok (.if_icmp .ne 26, 3) := by decide +kernel
theorem dX1_execute_107 : decode cX1_execute 107 = .ok (.aload_n 0, 1) := by decide +kernel
theorem dX1_execute_108 : decode cX1_execute 108 = .ok (.getfield 26, 3) := by decide +kernel
theorem dX1_execute_111 : decode cX1_execute 111 = .ok (.iload_n 2, 1) := by decide +kernel
theorem dX1_execute_112 : decode cX1_execute 112 = .ok (.aload_n 0, 1) := by decide +kernel
theorem dX1_execute_113 : decode cX1_execute 113 = .ok (.getfield 26, 3) := by decide +kernel
theorem dX1_execute_116 : decode cX1_execute 116 = .ok (.iload_n 3, 1) := by decide +kernel
theorem dX1_execute_117 : decode cX1_execute 117 = .ok (.iaload, 1) := by decide +kernel
theorem dX1_execute_118 : decode cX1_execute 118 = .ok (.aload_n 0, 1) := by decide +kernel
theorem dX1_execute_119 : decode cX1_execute 119 = .ok (.getfield 26, 3) := by decide +kernel
theorem dX1_execute_122 : decode cX1_execute 122 = .ok (.iload 4, 2) := by decide +kernel
theorem dX1_execute_124 : decode cX1_execute 124 = .ok (.iaload, 1) := by decide +kernel
theorem dX1_execute_125 : decode cX1_execute 125 = .ok (.ixor, 1) := by decide +kernel
theorem dX1_execute_126 : decode cX1_execute 126 = .ok (.iastore, 1) := by decide +kernel
theorem dX1_execute_127 : decode cX1_execute 127 = .ok (.goto 232, 3) := by decide +kernel
theorem dX1_execute_130 : decode cX1_execute 130 = .ok (.aload_n 0, 1) := by decide +kernel
theorem dX1_execute_131 : decode cX1_execute 131 = .ok (.getfield 13, 3) := by decide +kernel
theorem dX1_execute_134 : decode cX1_execute 134 = .ok (.iload_n 1, 1) := by decide +kernel
theorem dX1_execute_135 : decode cX1_execute 135 = .ok (.iaload, 1) := by decide +kernel
theorem dX1_execute_136 : decode cX1_execute 136 = .ok (.iconst 3, 1) := by decide +kernel
theorem dX1_execute_137 : decode cX1_execute 137 = .ok (.if_icmp .ne 33, 3) := by decide +kernel
theorem dX1_execute_140 : decode cX1_execute 140 = .ok (.aload_n 0, 1) := by decide +kernel
theorem dX1_execute_141 : decode cX1_execute 141 = .ok (.getfield 26, 3) := by decide +kernel
theorem dX1_execute_144 : decode cX1_execute 144 = .ok (.iload_n 2, 1) := by decide +kernel
theorem dX1_execute_145 : decode cX1_execute 145 = .ok (.aload_n 0, 1) := by decide +kernel
theorem dX1_execute_146 : decode cX1_execute 146 = .ok (.getfield 26, 3) := by decide +kernel
theorem dX1_execute_149 : decode cX1_execute 149 = .ok (.iload_n 3, 1) := by decide +kernel
theorem dX1_execute_150 : decode cX1_execute 150 = .ok (.iaload, 1) := by decide +kernel
theorem dX1_execute_151 : decode cX1_execute 151 = .ok (.aload_n 0, 1) := by decide +kernel
theorem dX1_execute_152 : decode cX1_execute 152 = .ok (.getfield 26, 3) := by decide +kernel
theorem dX1_execute_155 : decode cX1_execute 155 = .ok (.iload 4, 2) := by decide +kernel
theorem dX1_execute_157 : decode cX1_execute 157 = .ok (.iaload, 1) := by decide +kernel
theorem dX1_execute_158 : decode cX1_execute 158 = .ok (.if_icmp .ge 7, 3) := by decide +kernel
theorem dX1_execute_161 : decode cX1_execute 161 = .ok (.iconst 1, 1) := by decide +kernel
theorem dX1_execute_162 : decode cX1_execute 162 = .ok (.goto 4, 3) := by decide +kernel
theorem dX1_execute_165 : decode cX1_execute 165 = .ok (.iconst 0, 1) := by decide +kernel
theorem dX1_execute_166 : decode cX1_execute 166 = .ok (.iastore, 1) := by decide +kernel
theorem dX1_execute_167 : decode cX1_execute 167 = .ok (.goto 192, 3) := by decide +kernel
theorem dX1_execute_170 : decode cX1_execute 170 = .ok (.aload_n 0, 1) := by decide +kernel
theorem dX1_execute_171 : decode cX1_execute 171 = .ok (.getfield 13, 3) := by decide +kernel
theorem dX1_execute_174 : decode cX1_execute 174 = .ok (.iload_n 1, 1) := by decide +kernel
theorem dX1_execute_175 : decode cX1_execute 175 = .ok (.iaload, 1) := by decide +kernel
theorem dX1_execute_176 : decode cX1_execute 176 = .ok (.iconst 4, 1) := by decide +kernel
theorem dX1_execute_177 : decode cX1_execute 177 = .ok (.if_icmp .ne 21, 3) := by decide +kernel
theorem dX1_execute_180 : decode cX1_execute 180 = .ok (.aload_n 0, 1) := by decide +kernel
theorem dX1_execute_181 : decode cX1_execute 181 = .ok (.getfield 26, 3) := by decide +kernel
theorem dX1_execute_184 : decode cX1_execute 184 = .ok (.iload_n 2, 1) := by decide +kernel
theorem dX1_execute_185 : decode cX1_execute 185 = .ok (.aload_n 0, 1) := by decide +kernel
theorem dX1_execute_186 : decode cX1_execute 186 = .ok (.getfield 26, 3) := by decide +kernel
theorem dX1_execute_189 : decode cX1_execute 189 = .ok (.iload_n 3, 1) := by decide +kernel
theorem dX1_execute_190 : decode cX1_execute 190 = .ok (.iaload, 1) := by decide +kernel
theorem dX1_execute_191 : decode cX1_execute 191 = .ok (.iload 4, 2) := by decide +kernel
theorem dX1_execute_193 : decode cX1_execute 193 = .ok (.iadd, 1) := by decide +kernel
theorem dX1_execute_194 : decode cX1_execute 194 = .ok (.iastore, 1) := by decide +kernel
theorem dX1_execute_195 : decode cX1_execute 195 = .ok (.goto 164, 3) := by decide +kernel
theorem dX1_execute_198 : decode cX1_execute 198 = .ok (.aload_n 0, 1) := by decide +kernel
theorem dX1_execute_199 : decode cX1_execute 199 = .ok (.getfield 13, 3) := by decide +kernel
theorem dX1_execute_202 : decode cX1_execute 202 = .ok (.iload_n 1, 1) := by decide +kernel
theorem dX1_execute_203 : decode cX1_execute 203 = .ok (.iaload, 1) := by decide +kernel
theorem dX1_execute_204 : decode cX1_execute 204 = .ok (.iconst 5, 1) := by decide +kernel
theorem dX1_execute_205 : decode cX1_execute 205 = .ok (.if_icmp .ne 29, 3) := by decide +kernel
theorem dX1_execute_208 : decode cX1_execute 208 = .ok (.aload_n 0, 1) := by decide +kernel
theorem dX1_execute_209 : decode cX1_execute 209 = .ok (.getfield 26, 3) := by decide +kernel
theorem dX1_execute_212 : decode cX1_execute 212 = .ok (.iload_n 2, 1) := by decide +kernel
theorem dX1_execute_213 : decode cX1_execute 213 = .ok (.aload_n 0, 1) := by decide +kernel
theorem dX1_execute_214 : decode cX1_execute 214 = .ok (.getfield 29, 3) := by decide +kernel
theorem dX1_execute_217 : decode cX1_execute 217 = .ok (.aload_n 0, 1) := by decide +kernel
theorem dX1_execute_218 : decode cX1_execute 218 = .ok (.getfield 26, 3) := by decide +kernel
theorem dX1_execute_221 : decode cX1_execute 221 = .ok (.iload_n 3, 1) := by decide +kernel
theorem dX1_execute_222 : decode cX1_execute 222 = .ok (.iaload, 1) := by decide +kernel
theorem dX1_execute_223 : decode cX1_execute 223 = .ok (.iload 4, 2) := by decide +kernel
theorem dX1_execute_225 : decode cX1_execute 225 = .ok (.iadd, 1) := by decide +kernel
theorem dX1_execute_226 : decode cX1_execute 226 = .ok (.bipush 15, 2) := by decide +kernel
theorem dX1_execute_228 : decode cX1_execute 228 = .ok (.iand, 1) := by decide +kernel
theorem dX1_execute_229 : decode cX1_execute 229 = .ok (.iaload, 1) := by decide +kernel
theorem dX1_execute_230 : decode cX1_execute 230 = .ok (.iastore, 1) := by decide +kernel
theorem dX1_execute_231 : decode cX1_execute 231 = .ok (.goto 128, 3) := by decide +kernel
theorem dX1_execute_234 : decode cX1_execute 234 = .ok (.aload_n 0, 1) := by decide +kernel
theorem dX1_execute_235 : decode cX1_execute 235 = .ok (.getfield 13, 3) := by decide +kernel
theorem dX1_execute_238 : decode cX1_execute 238 = .ok (.iload_n 1, 1) := by decide +kernel
theorem dX1_execute_239 : decode cX1_execute 239 = .ok (.iaload, 1) := by decide +kernel
theorem dX1_execute_240 : decode cX1_execute 240 = .ok (.bipush 6, 2) := by decide +kernel
theorem dX1_execute_242 : decode cX1_execute 242 = .ok (.if_icmp .ne 29, 3) := by decide +kernel
theorem dX1_execute_245 : decode cX1_execute 245 = .ok (.aload_n 0, 1) := by decide +kernel
theorem dX1_execute_246 : decode cX1_execute 246 = .ok (.getfield 29, 3) := by decide +kernel
theorem dX1_execute_249 : decode cX1_execute 249 = .ok (.aload_n 0, 1) := by decide +kernel
theorem dX1_execute_250 : decode cX1_execute 250 = .ok (.getfield 26, 3) := by decide +kernel
theorem dX1_execute_253 : decode cX1_execute 253 = .ok (.iload_n 3, 1) := by decide +kernel
theorem dX1_execute_254 : decode cX1_execute 254 = .ok (.iaload, 1) := by decide +kernel
theorem dX1_execute_255 : decode cX1_execute 255 = .ok (.iload 4, 2) := by decide +kernel
theorem dX1_execute_257 : decode cX1_execute 257 = .ok (.iadd, 1) := by decide +kernel
theorem dX1_execute_258 : decode cX1_execute 258 = .ok (.bipush 15, 2) := by decide +kernel
theorem dX1_execute_260 : decode cX1_execute 260 = .ok (.iand, 1) := by decide +kernel
theorem dX1_execute_261 : decode cX1_execute 261 = .ok (.aload_n 0, 1) := by decide +kernel
theorem dX1_execute_262 : decode cX1_execute 262 = .ok (.getfield 26, 3) := by decide +kernel
theorem dX1_execute_265 : decode cX1_execute 265 = .ok (.iload_n 2, 1) := by decide +kernel
theorem dX1_execute_266 : decode cX1_execute 266 = .ok (.iaload, 1) := by decide +kernel
theorem dX1_execute_267 : decode cX1_execute 267 = .ok (.iastore, 1) := by decide +kernel
theorem dX1_execute_268 : decode cX1_execute 268 = .ok (.goto 91, 3) := by decide +kernel
theorem dX1_execute_271 : decode cX1_execute 271 = .ok (.aload_n 0, 1) := by decide +kernel
theorem dX1_execute_272 : decode cX1_execute 272 = .ok (.getfield 13, 3) := by decide +kernel
theorem dX1_execute_275 : decode cX1_execute 275 = .ok (.iload_n 1, 1) := by decide +kernel
theorem dX1_execute_276 : decode cX1_execute 276 = .ok (.iaload, 1) := by decide +kernel
theorem dX1_execute_277 : decode cX1_execute 277 = .ok (.bipush 7, 2) := by decide +kernel
theorem dX1_execute_279 : decode cX1_execute 279 = .ok (.if_icmp .ne 12, 3) := by decide +kernel
theorem dX1_execute_282 : decode cX1_execute 282 = .ok (.aload_n 0, 1) := by decide +kernel
theorem dX1_execute_283 : decode cX1_execute 283 = .ok (.getfield 26, 3) := by decide +kernel
theorem dX1_execute_286 : decode cX1_execute 286 = .ok (.iload_n 2, 1) := by decide +kernel
theorem dX1_execute_287 : decode cX1_execute 287 = .ok (.iaload, 1) := by decide +kernel
theorem dX1_execute_288 : decode cX1_execute 288 = .ok (.ifCond .eq 23, 3) := by decide +kernel
theorem dX1_execute_291 : decode cX1_execute 291 = .ok (.aload_n 0, 1) := by decide +kernel
theorem dX1_execute_292 : decode cX1_execute 292 = .ok (.getfield 13, 3) := by decide +kernel
theorem dX1_execute_295 : decode cX1_execute 295 = .ok (.iload_n 1, 1) := by decide +kernel
theorem dX1_execute_296 : decode cX1_execute 296 = .ok (.iaload, 1) := by decide +kernel
theorem dX1_execute_297 : decode cX1_execute 297 = .ok (.bipush 8, 2) := by decide +kernel
theorem dX1_execute_299 : decode cX1_execute 299 = .ok (.if_icmp .ne 20, 3) := by decide +kernel
theorem dX1_execute_302 : decode cX1_execute 302 = .ok (.aload_n 0, 1) := by decide +kernel
theorem dX1_execute_303 : decode cX1_execute 303 = .ok (.getfield 26, 3) := by decide +kernel
theorem dX1_execute_306 : decode cX1_execute 306 = .ok (.iload_n 2, 1) := by decide +kernel
theorem dX1_execute_307 : decode cX1_execute 307 = .ok (.iaload, 1) := by decide +kernel
theorem dX1_execute_308 : decode cX1_execute 308 = .ok (.ifCond .ge 11, 3) := by decide +kernel
theorem dX1_execute_311 : decode cX1_execute 311 = .ok (.aload_n 0, 1) := by decide +kernel
theorem dX1_execute_312 : decode cX1_execute 312 = .ok (.iload_n 3, 1) := by decide +kernel
theorem dX1_execute_313 : decode cX1_execute 313 = .ok (.putfield 32, 3) := by decide +kernel
theorem dX1_execute_316 : decode cX1_execute 316 = .ok (.goto 43, 3) := by decide +kernel
theorem dX1_execute_319 : decode cX1_execute 319 = .ok (.aload_n 0, 1) := by decide +kernel
theorem dX1_execute_320 : decode cX1_execute 320 = .ok (.getfield 13, 3) := by decide +kernel
theorem dX1_execute_323 : decode cX1_execute 323 = .ok (.iload_n 1, 1) := by decide +kernel
theorem dX1_execute_324 : decode cX1_execute 324 = .ok (.iaload, 1) := by decide +kernel
theorem dX1_execute_325 : decode cX1_execute 325 = .ok (.bipush 9, 2) := by decide +kernel
theorem dX1_execute_327 : decode cX1_execute 327 = .ok (.if_icmp .ne 11, 3) := by decide +kernel
theorem dX1_execute_330 : decode cX1_execute 330 = .ok (.aload_n 0, 1) := by decide +kernel
theorem dX1_execute_331 : decode cX1_execute 331 = .ok (.iload_n 2, 1) := by decide +kernel
theorem dX1_execute_332 : decode cX1_execute 332 = .ok (.putfield 32, 3) := by decide +kernel
theorem dX1_execute_335 : decode cX1_execute 335 = .ok (.goto 24, 3) := by decide +kernel
theorem dX1_execute_338 : decode cX1_execute 338 = .ok (.aload_n 0, 1) := by decide +kernel
theorem dX1_execute_339 : decode cX1_execute 339 = .ok (.getfield 13, 3) := by decide +kernel
theorem dX1_execute_342 : decode cX1_execute 342 = .ok (.iload_n 1, 1) := by decide +kernel
theorem dX1_execute_343 : decode cX1_execute 343 = .ok (.iaload, 1) := by decide +kernel
theorem dX1_execute_344 : decode cX1_execute 344 = .ok (.bipush 10, 2) := by decide +kernel
theorem dX1_execute_346 : decode cX1_execute 346 = .ok (.if_icmp .ne 13, 3) := by decide +kernel
theorem dX1_execute_349 : decode cX1_execute 349 = .ok (.aload_n 0, 1) := by decide +kernel
theorem dX1_execute_350 : decode cX1_execute 350 = .ok (.iload_n 1, 1) := by decide +kernel
theorem dX1_execute_351 : decode cX1_execute 351 = .ok (.putfield 32, 3) := by decide +kernel
theorem dX1_execute_354 : decode cX1_execute 354 = .ok (.aload_n 0, 1) := by decide +kernel
theorem dX1_execute_355 : decode cX1_execute 355 = .ok (.iconst 1, 1) := by decide +kernel
theorem dX1_execute_356 : decode cX1_execute 356 = .ok (.putfield 35, 3) := by decide +kernel
theorem dX1_execute_359 : decode cX1_execute 359 = .ok (.return_, 1) := by decide +kernel
abbrev cX1_register : ByteArray := prog_3_method_10_code
def yX1_register : MethodName := ⟨RX1, "register", "(I)I"⟩
theorem dX1_register_0 : decode cX1_register 0 = .ok (.aload_n 0, 1) := by decide +kernel
theorem dX1_register_1 : decode cX1_register 1 = .ok (.iload_n 1, 1) := by decide +kernel
theorem dX1_register_2 : decode cX1_register 2 = .ok (.invokevirtual 42, 3) := by decide +kernel
theorem dX1_register_5 : decode cX1_register 5 = .ok (.ifCond .eq 12, 3) := by decide +kernel
theorem dX1_register_8 : decode cX1_register 8 = .ok (.aload_n 0, 1) := by decide +kernel
theorem dX1_register_9 : decode cX1_register 9 = .ok (.getfield 26, 3) := by decide +kernel
theorem dX1_register_12 : decode cX1_register 12 = .ok (.iload_n 1, 1) := by decide +kernel
theorem dX1_register_13 : decode cX1_register 13 = .ok (.iaload, 1) := by decide +kernel
theorem dX1_register_14 : decode cX1_register 14 = .ok (.goto 4, 3) := by decide +kernel
theorem dX1_register_17 : decode cX1_register 17 = .ok (.iconst 0, 1) := by decide +kernel
theorem dX1_register_18 : decode cX1_register 18 = .ok (.ireturn, 1) := by decide +kernel
abbrev cX1_setRegister : ByteArray := prog_3_method_11_code
def yX1_setRegister : MethodName := ⟨RX1, "setRegister", "(II)Z"⟩
theorem dX1_setRegister_0 : decode cX1_setRegister 0 = .ok (.aload_n 0, 1) := by decide +kernel
theorem dX1_setRegister_1 : decode cX1_setRegister 1 = .ok (.iload_n 1, 1) := by decide +kernel
theorem dX1_setRegister_2 : decode cX1_setRegister 2 = .ok (.invokevirtual 42, 3) := by decide +kernel
theorem dX1_setRegister_5 : decode cX1_setRegister 5 = .ok (.ifCond .ne 5, 3) := by decide +kernel
theorem dX1_setRegister_8 : decode cX1_setRegister 8 = .ok (.iconst 0, 1) := by decide +kernel
theorem dX1_setRegister_9 : decode cX1_setRegister 9 = .ok (.ireturn, 1) := by decide +kernel
theorem dX1_setRegister_10 : decode cX1_setRegister 10 = .ok (.aload_n 0, 1) := by decide +kernel
theorem dX1_setRegister_11 : decode cX1_setRegister 11 = .ok (.getfield 26, 3) := by decide +kernel
theorem dX1_setRegister_14 : decode cX1_setRegister 14 = .ok (.iload_n 1, 1) := by decide +kernel
theorem dX1_setRegister_15 : decode cX1_setRegister 15 = .ok (.iload_n 2, 1) := by decide +kernel
theorem dX1_setRegister_16 : decode cX1_setRegister 16 = .ok (.iastore, 1) := by decide +kernel
theorem dX1_setRegister_17 : decode cX1_setRegister 17 = .ok (.iconst 1, 1) := by decide +kernel
theorem dX1_setRegister_18 : decode cX1_setRegister 18 = .ok (.ireturn, 1) := by decide +kernel
abbrev cX1_memory : ByteArray := prog_3_method_12_code
def yX1_memory : MethodName := ⟨RX1, "memory", "(I)I"⟩
theorem dX1_memory_0 : decode cX1_memory 0 = .ok (.iload_n 1, 1) := by decide +kernel
theorem dX1_memory_1 : decode cX1_memory 1 = .ok (.ifCond .lt 18, 3) := by decide +kernel
theorem dX1_memory_4 : decode cX1_memory 4 = .ok (.iload_n 1, 1) := by decide +kernel
theorem dX1_memory_5 : decode cX1_memory 5 = .ok (.bipush 15, 2) := by decide +kernel
theorem dX1_memory_7 : decode cX1_memory 7 = .ok (.if_icmp .gt 12, 3) := by decide +kernel
theorem dX1_memory_10 : decode cX1_memory 10 = .ok (.aload_n 0, 1) := by decide +kernel
theorem dX1_memory_11 : decode cX1_memory 11 = .ok (.getfield 29, 3) := by decide +kernel
theorem dX1_memory_14 : decode cX1_memory 14 = .ok (.iload_n 1, 1) := by decide +kernel
theorem dX1_memory_15 : decode cX1_memory 15 = .ok (.iaload, 1) := by decide +kernel
theorem dX1_memory_16 : decode cX1_memory 16 = .ok (.goto 4, 3) := by decide +kernel
theorem dX1_memory_19 : decode cX1_memory 19 = .ok (.iconst 0, 1) := by decide +kernel
theorem dX1_memory_20 : decode cX1_memory 20 = .ok (.ireturn, 1) := by decide +kernel
abbrev cX1_setMemory : ByteArray := prog_3_method_13_code
def yX1_setMemory : MethodName := ⟨RX1, "setMemory", "(II)Z"⟩
theorem dX1_setMemory_0 : decode cX1_setMemory 0 = .ok (.iload_n 1, 1) := by decide +kernel
theorem dX1_setMemory_1 : decode cX1_setMemory 1 = .ok (.ifCond .lt 9, 3) := by decide +kernel
theorem dX1_setMemory_4 : decode cX1_setMemory 4 = .ok (.iload_n 1, 1) := by decide +kernel
theorem dX1_setMemory_5 : decode cX1_setMemory 5 = .ok (.bipush 15, 2) := by decide +kernel
theorem dX1_setMemory_7 : decode cX1_setMemory 7 = .ok (.if_icmp .le 5, 3) := by decide +kernel
theorem dX1_setMemory_10 : decode cX1_setMemory 10 = .ok (.iconst 0, 1) := by decide +kernel
theorem dX1_setMemory_11 : decode cX1_setMemory 11 = .ok (.ireturn, 1) := by decide +kernel
theorem dX1_setMemory_12 : decode cX1_setMemory 12 = .ok (.aload_n 0, 1) := by decide +kernel
theorem dX1_setMemory_13 : decode cX1_setMemory 13 = .ok (.getfield 29, 3) := by decide +kernel
theorem dX1_setMemory_16 : decode cX1_setMemory 16 = .ok (.iload_n 1, 1) := by decide +kernel
theorem dX1_setMemory_17 : decode cX1_setMemory 17 = .ok (.iload_n 2, 1) := by decide +kernel
theorem dX1_setMemory_18 : decode cX1_setMemory 18 = .ok (.iastore, 1) := by decide +kernel
theorem dX1_setMemory_19 : decode cX1_setMemory 19 = .ok (.iconst 1, 1) := by decide +kernel
theorem dX1_setMemory_20 : decode cX1_setMemory 20 = .ok (.ireturn, 1) := by decide +kernel
abbrev cX1_place : ByteArray := prog_3_method_14_code
def yX1_place : MethodName := ⟨RX1, "place", "()I"⟩
theorem dX1_place_0 : decode cX1_place 0 = .ok (.aload_n 0, 1) := by decide +kernel
theorem dX1_place_1 : decode cX1_place 1 = .ok (.getfield 32, 3) := by decide +kernel
theorem dX1_place_4 : decode cX1_place 4 = .ok (.ireturn, 1) := by decide +kernel
abbrev cX1_status : ByteArray := prog_3_method_15_code
def yX1_status : MethodName := ⟨RX1, "status", "()I"⟩
theorem dX1_status_0 : decode cX1_status 0 = .ok (.aload_n 0, 1) := by decide +kernel
theorem dX1_status_1 : decode cX1_status 1 = .ok (.getfield 35, 3) := by decide +kernel
theorem dX1_status_4 : decode cX1_status 4 = .ok (.ireturn, 1) := by decide +kernel
abbrev cX1_clear : ByteArray := prog_3_method_16_code
def yX1_clear : MethodName := ⟨RX1, "clear", "()V"⟩
theorem dX1_clear_0 : decode cX1_clear 0 = .ok (.aload_n 0, 1) := by decide +kernel
theorem dX1_clear_1 : decode cX1_clear 1 = .ok (.iconst 0, 1) := by decide +kernel
theorem dX1_clear_2 : decode cX1_clear 2 = .ok (.putfield 7, 3) := by decide +kernel
theorem dX1_clear_5 : decode cX1_clear 5 = .ok (.aload_n 0, 1) := by decide +kernel
theorem dX1_clear_6 : decode cX1_clear 6 = .ok (.invokevirtual 53, 3) := by decide +kernel
theorem dX1_clear_9 : decode cX1_clear 9 = .ok (.iconst 0, 1) := by decide +kernel
theorem dX1_clear_10 : decode cX1_clear 10 = .ok (.istore_n 1, 1) := by decide +kernel
theorem dX1_clear_11 : decode cX1_clear 11 = .ok (.iload_n 1, 1) := by decide +kernel
theorem dX1_clear_12 : decode cX1_clear 12 = .ok (.bipush 8, 2) := by decide +kernel
theorem dX1_clear_14 : decode cX1_clear 14 = .ok (.if_icmp .ge 16, 3) := by decide +kernel
theorem dX1_clear_17 : decode cX1_clear 17 = .ok (.aload_n 0, 1) := by decide +kernel
theorem dX1_clear_18 : decode cX1_clear 18 = .ok (.getfield 26, 3) := by decide +kernel
theorem dX1_clear_21 : decode cX1_clear 21 = .ok (.iload_n 1, 1) := by decide +kernel
theorem dX1_clear_22 : decode cX1_clear 22 = .ok (.iconst 0, 1) := by decide +kernel
theorem dX1_clear_23 : decode cX1_clear 23 = .ok (.iastore, 1) := by decide +kernel
theorem dX1_clear_24 : decode cX1_clear 24 = .ok (.iinc 1 1, 3) := by decide +kernel
theorem dX1_clear_27 : decode cX1_clear 27 = .ok (.goto (-16), 3) := by decide +kernel
theorem dX1_clear_30 : decode cX1_clear 30 = .ok (.iconst 0, 1) := by decide +kernel
theorem dX1_clear_31 : decode cX1_clear 31 = .ok (.istore_n 1, 1) := by decide +kernel
theorem dX1_clear_32 : decode cX1_clear 32 = .ok (.iload_n 1, 1) := by decide +kernel
theorem dX1_clear_33 : decode cX1_clear 33 = .ok (.bipush 16, 2) := by decide +kernel
theorem dX1_clear_35 : decode cX1_clear 35 = .ok (.if_icmp .ge 16, 3) := by decide +kernel
theorem dX1_clear_38 : decode cX1_clear 38 = .ok (.aload_n 0, 1) := by decide +kernel
theorem dX1_clear_39 : decode cX1_clear 39 = .ok (.getfield 29, 3) := by decide +kernel
theorem dX1_clear_42 : decode cX1_clear 42 = .ok (.iload_n 1, 1) := by decide +kernel
theorem dX1_clear_43 : decode cX1_clear 43 = .ok (.iconst 0, 1) := by decide +kernel
theorem dX1_clear_44 : decode cX1_clear 44 = .ok (.iastore, 1) := by decide +kernel
theorem dX1_clear_45 : decode cX1_clear 45 = .ok (.iinc 1 1, 3) := by decide +kernel
theorem dX1_clear_48 : decode cX1_clear 48 = .ok (.goto (-16), 3) := by decide +kernel
theorem dX1_clear_51 : decode cX1_clear 51 = .ok (.return_, 1) := by decide +kernel
end
section
/-! the law's own entry -/
set_option maxRecDepth 100000
abbrev cL_law : ByteArray := code
theorem dL_law_0 : decode cL_law 0 = .ok (.new 7, 3) := by decide +kernel
theorem dL_law_3 : decode cL_law 3 = .ok (.dup, 1) := by decide +kernel
theorem dL_law_4 : decode cL_law 4 = .ok (.invokespecial 9, 3) := by decide +kernel
theorem dL_law_7 : decode cL_law 7 = .ok (.astore_n 1, 1) := by decide +kernel
theorem dL_law_8 : decode cL_law 8 = .ok (.new 10, 3) := by decide +kernel
theorem dL_law_11 : decode cL_law 11 = .ok (.dup, 1) := by decide +kernel
theorem dL_law_12 : decode cL_law 12 = .ok (.invokespecial 12, 3) := by decide +kernel
theorem dL_law_15 : decode cL_law 15 = .ok (.astore_n 2, 1) := by decide +kernel
theorem dL_law_16 : decode cL_law 16 = .ok (.iconst 0, 1) := by decide +kernel
theorem dL_law_17 : decode cL_law 17 = .ok (.istore_n 3, 1) := by decide +kernel
theorem dL_law_18 : decode cL_law 18 = .ok (.iload_n 3, 1) := by decide +kernel
theorem dL_law_19 : decode cL_law 19 = .ok (.aload_n 0, 1) := by decide +kernel
theorem dL_law_20 : decode cL_law 20 = .ok (.arraylength, 1) := by decide +kernel
theorem dL_law_21 : decode cL_law 21 = .ok (.iconst 5, 1) := by decide +kernel
theorem dL_law_22 : decode cL_law 22 = .ok (.isub, 1) := by decide +kernel
theorem dL_law_23 : decode cL_law 23 = .ok (.if_icmp .gt 344, 3) := by decide +kernel
theorem dL_law_26 : decode cL_law 26 = .ok (.aload_n 0, 1) := by decide +kernel
theorem dL_law_27 : decode cL_law 27 = .ok (.iload_n 3, 1) := by decide +kernel
theorem dL_law_28 : decode cL_law 28 = .ok (.iaload, 1) := by decide +kernel
theorem dL_law_29 : decode cL_law 29 = .ok (.bipush 15, 2) := by decide +kernel
theorem dL_law_31 : decode cL_law 31 = .ok (.iand, 1) := by decide +kernel
theorem dL_law_32 : decode cL_law 32 = .ok (.tableswitch 329 0 10 #[60, 113, 146, 157, 180, 203, 236, 259, 292, 305, 318], 60) := by decide +kernel
theorem dL_law_92 : decode cL_law 92 = .ok (.aload_n 1, 1) := by decide +kernel
theorem dL_law_93 : decode cL_law 93 = .ok (.aload_n 0, 1) := by decide +kernel
theorem dL_law_94 : decode cL_law 94 = .ok (.iload_n 3, 1) := by decide +kernel
theorem dL_law_95 : decode cL_law 95 = .ok (.iconst 1, 1) := by decide +kernel
theorem dL_law_96 : decode cL_law 96 = .ok (.iadd, 1) := by decide +kernel
theorem dL_law_97 : decode cL_law 97 = .ok (.iaload, 1) := by decide +kernel
theorem dL_law_98 : decode cL_law 98 = .ok (.aload_n 0, 1) := by decide +kernel
theorem dL_law_99 : decode cL_law 99 = .ok (.iload_n 3, 1) := by decide +kernel
theorem dL_law_100 : decode cL_law 100 = .ok (.iconst 2, 1) := by decide +kernel
theorem dL_law_101 : decode cL_law 101 = .ok (.iadd, 1) := by decide +kernel
theorem dL_law_102 : decode cL_law 102 = .ok (.iaload, 1) := by decide +kernel
theorem dL_law_103 : decode cL_law 103 = .ok (.aload_n 0, 1) := by decide +kernel
theorem dL_law_104 : decode cL_law 104 = .ok (.iload_n 3, 1) := by decide +kernel
theorem dL_law_105 : decode cL_law 105 = .ok (.iconst 3, 1) := by decide +kernel
theorem dL_law_106 : decode cL_law 106 = .ok (.iadd, 1) := by decide +kernel
theorem dL_law_107 : decode cL_law 107 = .ok (.iaload, 1) := by decide +kernel
theorem dL_law_108 : decode cL_law 108 = .ok (.aload_n 0, 1) := by decide +kernel
theorem dL_law_109 : decode cL_law 109 = .ok (.iload_n 3, 1) := by decide +kernel
theorem dL_law_110 : decode cL_law 110 = .ok (.iconst 4, 1) := by decide +kernel
theorem dL_law_111 : decode cL_law 111 = .ok (.iadd, 1) := by decide +kernel
theorem dL_law_112 : decode cL_law 112 = .ok (.iaload, 1) := by decide +kernel
theorem dL_law_113 : decode cL_law 113 = .ok (.invokevirtual 13, 3) := by decide +kernel
theorem dL_law_116 : decode cL_law 116 = .ok (.aload_n 2, 1) := by decide +kernel
theorem dL_law_117 : decode cL_law 117 = .ok (.aload_n 0, 1) := by decide +kernel
theorem dL_law_118 : decode cL_law 118 = .ok (.iload_n 3, 1) := by decide +kernel
theorem dL_law_119 : decode cL_law 119 = .ok (.iconst 1, 1) := by decide +kernel
theorem dL_law_120 : decode cL_law 120 = .ok (.iadd, 1) := by decide +kernel
theorem dL_law_121 : decode cL_law 121 = .ok (.iaload, 1) := by decide +kernel
theorem dL_law_122 : decode cL_law 122 = .ok (.aload_n 0, 1) := by decide +kernel
theorem dL_law_123 : decode cL_law 123 = .ok (.iload_n 3, 1) := by decide +kernel
theorem dL_law_124 : decode cL_law 124 = .ok (.iconst 2, 1) := by decide +kernel
theorem dL_law_125 : decode cL_law 125 = .ok (.iadd, 1) := by decide +kernel
theorem dL_law_126 : decode cL_law 126 = .ok (.iaload, 1) := by decide +kernel
theorem dL_law_127 : decode cL_law 127 = .ok (.aload_n 0, 1) := by decide +kernel
theorem dL_law_128 : decode cL_law 128 = .ok (.iload_n 3, 1) := by decide +kernel
theorem dL_law_129 : decode cL_law 129 = .ok (.iconst 3, 1) := by decide +kernel
theorem dL_law_130 : decode cL_law 130 = .ok (.iadd, 1) := by decide +kernel
theorem dL_law_131 : decode cL_law 131 = .ok (.iaload, 1) := by decide +kernel
theorem dL_law_132 : decode cL_law 132 = .ok (.aload_n 0, 1) := by decide +kernel
theorem dL_law_133 : decode cL_law 133 = .ok (.iload_n 3, 1) := by decide +kernel
theorem dL_law_134 : decode cL_law 134 = .ok (.iconst 4, 1) := by decide +kernel
theorem dL_law_135 : decode cL_law 135 = .ok (.iadd, 1) := by decide +kernel
theorem dL_law_136 : decode cL_law 136 = .ok (.iaload, 1) := by decide +kernel
theorem dL_law_137 : decode cL_law 137 = .ok (.invokevirtual 17, 3) := by decide +kernel
theorem dL_law_140 : decode cL_law 140 = .ok (.if_icmp .eq 221, 3) := by decide +kernel
theorem dL_law_143 : decode cL_law 143 = .ok (.iconst 0, 1) := by decide +kernel
theorem dL_law_144 : decode cL_law 144 = .ok (.ireturn, 1) := by decide +kernel
theorem dL_law_145 : decode cL_law 145 = .ok (.aload_n 1, 1) := by decide +kernel
theorem dL_law_146 : decode cL_law 146 = .ok (.aload_n 0, 1) := by decide +kernel
theorem dL_law_147 : decode cL_law 147 = .ok (.iload_n 3, 1) := by decide +kernel
theorem dL_law_148 : decode cL_law 148 = .ok (.iconst 1, 1) := by decide +kernel
theorem dL_law_149 : decode cL_law 149 = .ok (.iadd, 1) := by decide +kernel
theorem dL_law_150 : decode cL_law 150 = .ok (.iaload, 1) := by decide +kernel
theorem dL_law_151 : decode cL_law 151 = .ok (.aload_n 0, 1) := by decide +kernel
theorem dL_law_152 : decode cL_law 152 = .ok (.iload_n 3, 1) := by decide +kernel
theorem dL_law_153 : decode cL_law 153 = .ok (.iconst 2, 1) := by decide +kernel
theorem dL_law_154 : decode cL_law 154 = .ok (.iadd, 1) := by decide +kernel
theorem dL_law_155 : decode cL_law 155 = .ok (.iaload, 1) := by decide +kernel
theorem dL_law_156 : decode cL_law 156 = .ok (.invokevirtual 18, 3) := by decide +kernel
theorem dL_law_159 : decode cL_law 159 = .ok (.aload_n 2, 1) := by decide +kernel
theorem dL_law_160 : decode cL_law 160 = .ok (.aload_n 0, 1) := by decide +kernel
theorem dL_law_161 : decode cL_law 161 = .ok (.iload_n 3, 1) := by decide +kernel
theorem dL_law_162 : decode cL_law 162 = .ok (.iconst 1, 1) := by decide +kernel
theorem dL_law_163 : decode cL_law 163 = .ok (.iadd, 1) := by decide +kernel
theorem dL_law_164 : decode cL_law 164 = .ok (.iaload, 1) := by decide +kernel
theorem dL_law_165 : decode cL_law 165 = .ok (.aload_n 0, 1) := by decide +kernel
theorem dL_law_166 : decode cL_law 166 = .ok (.iload_n 3, 1) := by decide +kernel
theorem dL_law_167 : decode cL_law 167 = .ok (.iconst 2, 1) := by decide +kernel
theorem dL_law_168 : decode cL_law 168 = .ok (.iadd, 1) := by decide +kernel
theorem dL_law_169 : decode cL_law 169 = .ok (.iaload, 1) := by decide +kernel
theorem dL_law_170 : decode cL_law 170 = .ok (.invokevirtual 22, 3) := by decide +kernel
theorem dL_law_173 : decode cL_law 173 = .ok (.if_icmp .eq 188, 3) := by decide +kernel
theorem dL_law_176 : decode cL_law 176 = .ok (.iconst 0, 1) := by decide +kernel
theorem dL_law_177 : decode cL_law 177 = .ok (.ireturn, 1) := by decide +kernel
theorem dL_law_178 : decode cL_law 178 = .ok (.aload_n 1, 1) := by decide +kernel
theorem dL_law_179 : decode cL_law 179 = .ok (.invokevirtual 23, 3) := by decide +kernel
theorem dL_law_182 : decode cL_law 182 = .ok (.aload_n 2, 1) := by decide +kernel
theorem dL_law_183 : decode cL_law 183 = .ok (.invokevirtual 26, 3) := by decide +kernel
theorem dL_law_186 : decode cL_law 186 = .ok (.goto 175, 3) := by decide +kernel
theorem dL_law_189 : decode cL_law 189 = .ok (.aload_n 1, 1) := by decide +kernel
theorem dL_law_190 : decode cL_law 190 = .ok (.aload_n 0, 1) := by decide +kernel
theorem dL_law_191 : decode cL_law 191 = .ok (.iload_n 3, 1) := by decide +kernel
theorem dL_law_192 : decode cL_law 192 = .ok (.iconst 1, 1) := by decide +kernel
theorem dL_law_193 : decode cL_law 193 = .ok (.iadd, 1) := by decide +kernel
theorem dL_law_194 : decode cL_law 194 = .ok (.iaload, 1) := by decide +kernel
theorem dL_law_195 : decode cL_law 195 = .ok (.invokevirtual 27, 3) := by decide +kernel
theorem dL_law_198 : decode cL_law 198 = .ok (.aload_n 2, 1) := by decide +kernel
theorem dL_law_199 : decode cL_law 199 = .ok (.aload_n 0, 1) := by decide +kernel
theorem dL_law_200 : decode cL_law 200 = .ok (.iload_n 3, 1) := by decide +kernel
theorem dL_law_201 : decode cL_law 201 = .ok (.iconst 1, 1) := by decide +kernel
theorem dL_law_202 : decode cL_law 202 = .ok (.iadd, 1) := by decide +kernel
theorem dL_law_203 : decode cL_law 203 = .ok (.iaload, 1) := by decide +kernel
theorem dL_law_204 : decode cL_law 204 = .ok (.invokevirtual 31, 3) := by decide +kernel
theorem dL_law_207 : decode cL_law 207 = .ok (.if_icmp .eq 154, 3) := by decide +kernel
theorem dL_law_210 : decode cL_law 210 = .ok (.iconst 0, 1) := by decide +kernel
theorem dL_law_211 : decode cL_law 211 = .ok (.ireturn, 1) := by decide +kernel
theorem dL_law_212 : decode cL_law 212 = .ok (.aload_n 1, 1) := by decide +kernel
theorem dL_law_213 : decode cL_law 213 = .ok (.aload_n 0, 1) := by decide +kernel
theorem dL_law_214 : decode cL_law 214 = .ok (.iload_n 3, 1) := by decide +kernel
theorem dL_law_215 : decode cL_law 215 = .ok (.iconst 1, 1) := by decide +kernel
theorem dL_law_216 : decode cL_law 216 = .ok (.iadd, 1) := by decide +kernel
theorem dL_law_217 : decode cL_law 217 = .ok (.iaload, 1) := by decide +kernel
theorem dL_law_218 : decode cL_law 218 = .ok (.invokevirtual 32, 3) := by decide +kernel
theorem dL_law_221 : decode cL_law 221 = .ok (.aload_n 2, 1) := by decide +kernel
theorem dL_law_222 : decode cL_law 222 = .ok (.aload_n 0, 1) := by decide +kernel
theorem dL_law_223 : decode cL_law 223 = .ok (.iload_n 3, 1) := by decide +kernel
theorem dL_law_224 : decode cL_law 224 = .ok (.iconst 1, 1) := by decide +kernel
theorem dL_law_225 : decode cL_law 225 = .ok (.iadd, 1) := by decide +kernel
theorem dL_law_226 : decode cL_law 226 = .ok (.iaload, 1) := by decide +kernel
theorem dL_law_227 : decode cL_law 227 = .ok (.invokevirtual 35, 3) := by decide +kernel
theorem dL_law_230 : decode cL_law 230 = .ok (.if_icmp .eq 131, 3) := by decide +kernel
theorem dL_law_233 : decode cL_law 233 = .ok (.iconst 0, 1) := by decide +kernel
theorem dL_law_234 : decode cL_law 234 = .ok (.ireturn, 1) := by decide +kernel
theorem dL_law_235 : decode cL_law 235 = .ok (.aload_n 1, 1) := by decide +kernel
theorem dL_law_236 : decode cL_law 236 = .ok (.aload_n 0, 1) := by decide +kernel
theorem dL_law_237 : decode cL_law 237 = .ok (.iload_n 3, 1) := by decide +kernel
theorem dL_law_238 : decode cL_law 238 = .ok (.iconst 1, 1) := by decide +kernel
theorem dL_law_239 : decode cL_law 239 = .ok (.iadd, 1) := by decide +kernel
theorem dL_law_240 : decode cL_law 240 = .ok (.iaload, 1) := by decide +kernel
theorem dL_law_241 : decode cL_law 241 = .ok (.aload_n 0, 1) := by decide +kernel
theorem dL_law_242 : decode cL_law 242 = .ok (.iload_n 3, 1) := by decide +kernel
theorem dL_law_243 : decode cL_law 243 = .ok (.iconst 2, 1) := by decide +kernel
theorem dL_law_244 : decode cL_law 244 = .ok (.iadd, 1) := by decide +kernel
theorem dL_law_245 : decode cL_law 245 = .ok (.iaload, 1) := by decide +kernel
theorem dL_law_246 : decode cL_law 246 = .ok (.invokevirtual 36, 3) := by decide +kernel
theorem dL_law_249 : decode cL_law 249 = .ok (.aload_n 2, 1) := by decide +kernel
theorem dL_law_250 : decode cL_law 250 = .ok (.aload_n 0, 1) := by decide +kernel
theorem dL_law_251 : decode cL_law 251 = .ok (.iload_n 3, 1) := by decide +kernel
theorem dL_law_252 : decode cL_law 252 = .ok (.iconst 1, 1) := by decide +kernel
theorem dL_law_253 : decode cL_law 253 = .ok (.iadd, 1) := by decide +kernel
theorem dL_law_254 : decode cL_law 254 = .ok (.iaload, 1) := by decide +kernel
theorem dL_law_255 : decode cL_law 255 = .ok (.aload_n 0, 1) := by decide +kernel
theorem dL_law_256 : decode cL_law 256 = .ok (.iload_n 3, 1) := by decide +kernel
theorem dL_law_257 : decode cL_law 257 = .ok (.iconst 2, 1) := by decide +kernel
theorem dL_law_258 : decode cL_law 258 = .ok (.iadd, 1) := by decide +kernel
theorem dL_law_259 : decode cL_law 259 = .ok (.iaload, 1) := by decide +kernel
theorem dL_law_260 : decode cL_law 260 = .ok (.invokevirtual 40, 3) := by decide +kernel
theorem dL_law_263 : decode cL_law 263 = .ok (.if_icmp .eq 98, 3) := by decide +kernel
theorem dL_law_266 : decode cL_law 266 = .ok (.iconst 0, 1) := by decide +kernel
theorem dL_law_267 : decode cL_law 267 = .ok (.ireturn, 1) := by decide +kernel
theorem dL_law_268 : decode cL_law 268 = .ok (.aload_n 1, 1) := by decide +kernel
theorem dL_law_269 : decode cL_law 269 = .ok (.aload_n 0, 1) := by decide +kernel
theorem dL_law_270 : decode cL_law 270 = .ok (.iload_n 3, 1) := by decide +kernel
theorem dL_law_271 : decode cL_law 271 = .ok (.iconst 1, 1) := by decide +kernel
theorem dL_law_272 : decode cL_law 272 = .ok (.iadd, 1) := by decide +kernel
theorem dL_law_273 : decode cL_law 273 = .ok (.iaload, 1) := by decide +kernel
theorem dL_law_274 : decode cL_law 274 = .ok (.invokevirtual 41, 3) := by decide +kernel
theorem dL_law_277 : decode cL_law 277 = .ok (.aload_n 2, 1) := by decide +kernel
theorem dL_law_278 : decode cL_law 278 = .ok (.aload_n 0, 1) := by decide +kernel
theorem dL_law_279 : decode cL_law 279 = .ok (.iload_n 3, 1) := by decide +kernel
theorem dL_law_280 : decode cL_law 280 = .ok (.iconst 1, 1) := by decide +kernel
theorem dL_law_281 : decode cL_law 281 = .ok (.iadd, 1) := by decide +kernel
theorem dL_law_282 : decode cL_law 282 = .ok (.iaload, 1) := by decide +kernel
theorem dL_law_283 : decode cL_law 283 = .ok (.invokevirtual 44, 3) := by decide +kernel
theorem dL_law_286 : decode cL_law 286 = .ok (.if_icmp .eq 75, 3) := by decide +kernel
theorem dL_law_289 : decode cL_law 289 = .ok (.iconst 0, 1) := by decide +kernel
theorem dL_law_290 : decode cL_law 290 = .ok (.ireturn, 1) := by decide +kernel
theorem dL_law_291 : decode cL_law 291 = .ok (.aload_n 1, 1) := by decide +kernel
theorem dL_law_292 : decode cL_law 292 = .ok (.aload_n 0, 1) := by decide +kernel
theorem dL_law_293 : decode cL_law 293 = .ok (.iload_n 3, 1) := by decide +kernel
theorem dL_law_294 : decode cL_law 294 = .ok (.iconst 1, 1) := by decide +kernel
theorem dL_law_295 : decode cL_law 295 = .ok (.iadd, 1) := by decide +kernel
theorem dL_law_296 : decode cL_law 296 = .ok (.iaload, 1) := by decide +kernel
theorem dL_law_297 : decode cL_law 297 = .ok (.aload_n 0, 1) := by decide +kernel
theorem dL_law_298 : decode cL_law 298 = .ok (.iload_n 3, 1) := by decide +kernel
theorem dL_law_299 : decode cL_law 299 = .ok (.iconst 2, 1) := by decide +kernel
theorem dL_law_300 : decode cL_law 300 = .ok (.iadd, 1) := by decide +kernel
theorem dL_law_301 : decode cL_law 301 = .ok (.iaload, 1) := by decide +kernel
theorem dL_law_302 : decode cL_law 302 = .ok (.invokevirtual 45, 3) := by decide +kernel
theorem dL_law_305 : decode cL_law 305 = .ok (.aload_n 2, 1) := by decide +kernel
theorem dL_law_306 : decode cL_law 306 = .ok (.aload_n 0, 1) := by decide +kernel
theorem dL_law_307 : decode cL_law 307 = .ok (.iload_n 3, 1) := by decide +kernel
theorem dL_law_308 : decode cL_law 308 = .ok (.iconst 1, 1) := by decide +kernel
theorem dL_law_309 : decode cL_law 309 = .ok (.iadd, 1) := by decide +kernel
theorem dL_law_310 : decode cL_law 310 = .ok (.iaload, 1) := by decide +kernel
theorem dL_law_311 : decode cL_law 311 = .ok (.aload_n 0, 1) := by decide +kernel
theorem dL_law_312 : decode cL_law 312 = .ok (.iload_n 3, 1) := by decide +kernel
theorem dL_law_313 : decode cL_law 313 = .ok (.iconst 2, 1) := by decide +kernel
theorem dL_law_314 : decode cL_law 314 = .ok (.iadd, 1) := by decide +kernel
theorem dL_law_315 : decode cL_law 315 = .ok (.iaload, 1) := by decide +kernel
theorem dL_law_316 : decode cL_law 316 = .ok (.invokevirtual 48, 3) := by decide +kernel
theorem dL_law_319 : decode cL_law 319 = .ok (.if_icmp .eq 42, 3) := by decide +kernel
theorem dL_law_322 : decode cL_law 322 = .ok (.iconst 0, 1) := by decide +kernel
theorem dL_law_323 : decode cL_law 323 = .ok (.ireturn, 1) := by decide +kernel
theorem dL_law_324 : decode cL_law 324 = .ok (.aload_n 1, 1) := by decide +kernel
theorem dL_law_325 : decode cL_law 325 = .ok (.invokevirtual 49, 3) := by decide +kernel
theorem dL_law_328 : decode cL_law 328 = .ok (.aload_n 2, 1) := by decide +kernel
theorem dL_law_329 : decode cL_law 329 = .ok (.invokevirtual 53, 3) := by decide +kernel
theorem dL_law_332 : decode cL_law 332 = .ok (.if_icmp .eq 29, 3) := by decide +kernel
theorem dL_law_335 : decode cL_law 335 = .ok (.iconst 0, 1) := by decide +kernel
theorem dL_law_336 : decode cL_law 336 = .ok (.ireturn, 1) := by decide +kernel
theorem dL_law_337 : decode cL_law 337 = .ok (.aload_n 1, 1) := by decide +kernel
theorem dL_law_338 : decode cL_law 338 = .ok (.invokevirtual 54, 3) := by decide +kernel
theorem dL_law_341 : decode cL_law 341 = .ok (.aload_n 2, 1) := by decide +kernel
theorem dL_law_342 : decode cL_law 342 = .ok (.invokevirtual 57, 3) := by decide +kernel
theorem dL_law_345 : decode cL_law 345 = .ok (.if_icmp .eq 16, 3) := by decide +kernel
theorem dL_law_348 : decode cL_law 348 = .ok (.iconst 0, 1) := by decide +kernel
theorem dL_law_349 : decode cL_law 349 = .ok (.ireturn, 1) := by decide +kernel
theorem dL_law_350 : decode cL_law 350 = .ok (.aload_n 1, 1) := by decide +kernel
theorem dL_law_351 : decode cL_law 351 = .ok (.invokevirtual 58, 3) := by decide +kernel
theorem dL_law_354 : decode cL_law 354 = .ok (.aload_n 2, 1) := by decide +kernel
theorem dL_law_355 : decode cL_law 355 = .ok (.invokevirtual 61, 3) := by decide +kernel
theorem dL_law_358 : decode cL_law 358 = .ok (.goto 3, 3) := by decide +kernel
theorem dL_law_361 : decode cL_law 361 = .ok (.iinc 3 5, 3) := by decide +kernel
theorem dL_law_364 : decode cL_law 364 = .ok (.goto (-346), 3) := by decide +kernel
theorem dL_law_367 : decode cL_law 367 = .ok (.iconst 1, 1) := by decide +kernel
theorem dL_law_368 : decode cL_law 368 = .ok (.ireturn, 1) := by decide +kernel
end
section
set_option maxRecDepth 100000
theorem q24 : (Jvm.Cond.initialized "TraceFrontEnd") ∈ lw_all := lw_g (lw_at lw_m1 1 rfl) rfl
theorem q27 : (Jvm.Cond.instantiable "TraceFrontEnd" (30 : Nat)) ∈ lw_all := lw_g (lw_at lw_m1 4 rfl) rfl
theorem q29 : (Jvm.Cond.instanceMethod ({ cls := "TraceFrontEnd", name := "<init>", desc := "()V" } : Jvm.MethodName)) ∈ lw_all := lw_g (lw_at lw_m1 6 rfl) rfl
theorem q30 : (Jvm.Cond.code ({ cls := "TraceFrontEnd", name := "<init>", desc := "()V" } : Jvm.MethodName) prog_1_method_1_code (1 : Nat) (Option.none : Option Jvm.ClassFile.FieldType)) ∈ lw_all := lw_g (lw_at lw_m1 7 rfl) rfl
theorem q31 : (Jvm.Cond.methodLink "TraceFrontEnd" (1 : Nat) ({ cls := "java/lang/Object", name := "<init>", desc := "()V" } : Jvm.MethodName)) ∈ lw_all := lw_g (lw_at lw_m1 8 rfl) rfl
theorem q34 : (Jvm.Cond.methodLink "TraceFrontEnd" (78 : Nat) ({ cls := "TraceFrontEnd", name := "forgetTraces", desc := "()V" } : Jvm.MethodName)) ∈ lw_all := lw_g (lw_at lw_m1 11 rfl) rfl
theorem q35 : (Jvm.Cond.privateMethod ({ cls := "TraceFrontEnd", name := "forgetTraces", desc := "()V" } : Jvm.MethodName)) ∈ lw_tbl := lw_at lw_m1 12 rfl
theorem q36 : (Jvm.Cond.instanceMethod ({ cls := "TraceFrontEnd", name := "forgetTraces", desc := "()V" } : Jvm.MethodName)) ∈ lw_all := lw_g (lw_at lw_m1 13 rfl) rfl
theorem q37 : (Jvm.Cond.code ({ cls := "TraceFrontEnd", name := "forgetTraces", desc := "()V" } : Jvm.MethodName) prog_1_method_15_code (2 : Nat) (Option.none : Option Jvm.ClassFile.FieldType)) ∈ lw_all := lw_g (lw_at lw_m1 14 rfl) rfl
theorem q38 : (Jvm.Cond.methodLink "TraceFrontEnd" (81 : Nat) ({ cls := "TraceFrontEnd", name := "squash", desc := "()V" } : Jvm.MethodName)) ∈ lw_all := lw_g (lw_at lw_m1 15 rfl) rfl
theorem q39 : (Jvm.Cond.privateMethod ({ cls := "TraceFrontEnd", name := "squash", desc := "()V" } : Jvm.MethodName)) ∈ lw_tbl := lw_at lw_m1 16 rfl
theorem q40 : (Jvm.Cond.instanceMethod ({ cls := "TraceFrontEnd", name := "squash", desc := "()V" } : Jvm.MethodName)) ∈ lw_all := lw_g (lw_at lw_m1 17 rfl) rfl
theorem q41 : (Jvm.Cond.code ({ cls := "TraceFrontEnd", name := "squash", desc := "()V" } : Jvm.MethodName) prog_1_method_16_code (2 : Nat) (Option.none : Option Jvm.ClassFile.FieldType)) ∈ lw_all := lw_g (lw_at lw_m1 18 rfl) rfl
theorem q42 : (Jvm.Cond.fieldLink "TraceFrontEnd" (84 : Nat) "TraceFrontEnd" "length" "I") ∈ lw_all := lw_g (lw_at lw_m1 19 rfl) rfl
theorem q43 : (Jvm.Cond.fieldLink "TraceFrontEnd" (7 : Nat) "TraceFrontEnd" "opcode" "[B") ∈ lw_all := lw_g (lw_at lw_m1 20 rfl) rfl
theorem q44 : (Jvm.Cond.fieldLink "TraceFrontEnd" (13 : Nat) "TraceFrontEnd" "fieldX" "[B") ∈ lw_all := lw_g (lw_at lw_m1 21 rfl) rfl
theorem q45 : (Jvm.Cond.fieldLink "TraceFrontEnd" (16 : Nat) "TraceFrontEnd" "fieldY" "[B") ∈ lw_all := lw_g (lw_at lw_m1 22 rfl) rfl
theorem q46 : (Jvm.Cond.fieldLink "TraceFrontEnd" (19 : Nat) "TraceFrontEnd" "fieldZ" "[I") ∈ lw_all := lw_g (lw_at lw_m1 23 rfl) rfl
theorem q47 : (Jvm.Cond.fieldLink "TraceFrontEnd" (23 : Nat) "TraceFrontEnd" "registers" "[I") ∈ lw_all := lw_g (lw_at lw_m1 24 rfl) rfl
theorem q48 : (Jvm.Cond.fieldLink "TraceFrontEnd" (26 : Nat) "TraceFrontEnd" "cells" "[I") ∈ lw_all := lw_g (lw_at lw_m1 25 rfl) rfl
theorem q49 : (Jvm.Cond.fieldLink "TraceFrontEnd" (95 : Nat) "TraceFrontEnd" "pc" "I") ∈ lw_all := lw_g (lw_at lw_m1 26 rfl) rfl
theorem q50 : (Jvm.Cond.fieldLink "TraceFrontEnd" (98 : Nat) "TraceFrontEnd" "status" "I") ∈ lw_all := lw_g (lw_at lw_m1 27 rfl) rfl
theorem q51 : (Jvm.Cond.fieldLink "TraceFrontEnd" (29 : Nat) "TraceFrontEnd" "counter" "[B") ∈ lw_all := lw_g (lw_at lw_m1 28 rfl) rfl
theorem q52 : (Jvm.Cond.fieldLink "TraceFrontEnd" (32 : Nat) "TraceFrontEnd" "traceLength" "[B") ∈ lw_all := lw_g (lw_at lw_m1 29 rfl) rfl
theorem q53 : (Jvm.Cond.fieldLink "TraceFrontEnd" (35 : Nat) "TraceFrontEnd" "tracePlace" "[B") ∈ lw_all := lw_g (lw_at lw_m1 30 rfl) rfl
theorem q54 : (Jvm.Cond.fieldLink "TraceFrontEnd" (38 : Nat) "TraceFrontEnd" "filling" "[B") ∈ lw_all := lw_g (lw_at lw_m1 31 rfl) rfl
theorem q55 : (Jvm.Cond.fieldLink "TraceFrontEnd" (122 : Nat) "TraceFrontEnd" "filled" "I") ∈ lw_all := lw_g (lw_at lw_m1 32 rfl) rfl
theorem q56 : (Jvm.Cond.fieldLink "TraceFrontEnd" (107 : Nat) "TraceFrontEnd" "head" "I") ∈ lw_all := lw_g (lw_at lw_m1 33 rfl) rfl
theorem q57 : (Jvm.Cond.fieldLink "TraceFrontEnd" (104 : Nat) "TraceFrontEnd" "entries" "I") ∈ lw_all := lw_g (lw_at lw_m1 34 rfl) rfl
theorem q58 : (Jvm.Cond.fieldLink "TraceFrontEnd" (41 : Nat) "TraceFrontEnd" "entryPlace" "[B") ∈ lw_all := lw_g (lw_at lw_m1 35 rfl) rfl
theorem q59 : (Jvm.Cond.fieldLink "TraceFrontEnd" (44 : Nat) "TraceFrontEnd" "entryOp" "[B") ∈ lw_all := lw_g (lw_at lw_m1 36 rfl) rfl
theorem q60 : (Jvm.Cond.fieldLink "TraceFrontEnd" (47 : Nat) "TraceFrontEnd" "entryNext" "[B") ∈ lw_all := lw_g (lw_at lw_m1 37 rfl) rfl
theorem q61 : (Jvm.Cond.fieldLink "TraceFrontEnd" (50 : Nat) "TraceFrontEnd" "leftSource" "[B") ∈ lw_all := lw_g (lw_at lw_m1 38 rfl) rfl
theorem q62 : (Jvm.Cond.fieldLink "TraceFrontEnd" (53 : Nat) "TraceFrontEnd" "leftValue" "[I") ∈ lw_all := lw_g (lw_at lw_m1 39 rfl) rfl
theorem q63 : (Jvm.Cond.fieldLink "TraceFrontEnd" (56 : Nat) "TraceFrontEnd" "rightSource" "[B") ∈ lw_all := lw_g (lw_at lw_m1 40 rfl) rfl
theorem q64 : (Jvm.Cond.fieldLink "TraceFrontEnd" (59 : Nat) "TraceFrontEnd" "rightValue" "[I") ∈ lw_all := lw_g (lw_at lw_m1 41 rfl) rfl
theorem q65 : (Jvm.Cond.fieldLink "TraceFrontEnd" (62 : Nat) "TraceFrontEnd" "addressed" "[Z") ∈ lw_all := lw_g (lw_at lw_m1 42 rfl) rfl
theorem q66 : (Jvm.Cond.fieldLink "TraceFrontEnd" (66 : Nat) "TraceFrontEnd" "address" "[B") ∈ lw_all := lw_g (lw_at lw_m1 43 rfl) rfl
theorem q67 : (Jvm.Cond.fieldLink "TraceFrontEnd" (69 : Nat) "TraceFrontEnd" "done" "[Z") ∈ lw_all := lw_g (lw_at lw_m1 44 rfl) rfl
theorem q68 : (Jvm.Cond.fieldLink "TraceFrontEnd" (72 : Nat) "TraceFrontEnd" "result" "[I") ∈ lw_all := lw_g (lw_at lw_m1 45 rfl) rfl
theorem q69 : (Jvm.Cond.fieldLink "TraceFrontEnd" (75 : Nat) "TraceFrontEnd" "newest" "[B") ∈ lw_all := lw_g (lw_at lw_m1 46 rfl) rfl
theorem q70 : (Jvm.Cond.fieldLink "TraceFrontEnd" (125 : Nat) "TraceFrontEnd" "fetchPlace" "I") ∈ lw_all := lw_g (lw_at lw_m1 47 rfl) rfl
theorem q71 : (Jvm.Cond.fieldLink "TraceFrontEnd" (101 : Nat) "TraceFrontEnd" "retired" "I") ∈ lw_all := lw_g (lw_at lw_m1 48 rfl) rfl
theorem q72 : (Jvm.Cond.lays "TraceFrontEnd" "TraceFrontEnd" "length" "I") ∈ lw_all := lw_g (lw_at lw_m1 49 rfl) rfl
theorem q73 : (Jvm.Cond.soleField "TraceFrontEnd" "length") ∈ lw_all := lw_g (lw_at lw_m1 50 rfl) rfl
theorem q74 : (Jvm.Cond.laysFinal "TraceFrontEnd" "TraceFrontEnd" "opcode" "[B") ∈ lw_all := lw_g (lw_at lw_m1 51 rfl) rfl
theorem q75 : (Jvm.Cond.soleField "TraceFrontEnd" "opcode") ∈ lw_all := lw_g (lw_at lw_m1 52 rfl) rfl
theorem q76 : (Jvm.Cond.laysFinal "TraceFrontEnd" "TraceFrontEnd" "fieldX" "[B") ∈ lw_all := lw_g (lw_at lw_m1 53 rfl) rfl
theorem q77 : (Jvm.Cond.soleField "TraceFrontEnd" "fieldX") ∈ lw_all := lw_g (lw_at lw_m1 54 rfl) rfl
theorem q78 : (Jvm.Cond.laysFinal "TraceFrontEnd" "TraceFrontEnd" "fieldY" "[B") ∈ lw_all := lw_g (lw_at lw_m1 55 rfl) rfl
theorem q79 : (Jvm.Cond.soleField "TraceFrontEnd" "fieldY") ∈ lw_all := lw_g (lw_at lw_m1 56 rfl) rfl
theorem q80 : (Jvm.Cond.laysFinal "TraceFrontEnd" "TraceFrontEnd" "fieldZ" "[I") ∈ lw_all := lw_g (lw_at lw_m1 57 rfl) rfl
theorem q81 : (Jvm.Cond.soleField "TraceFrontEnd" "fieldZ") ∈ lw_all := lw_g (lw_at lw_m1 58 rfl) rfl
theorem q82 : (Jvm.Cond.laysFinal "TraceFrontEnd" "TraceFrontEnd" "registers" "[I") ∈ lw_all := lw_g (lw_at lw_m1 59 rfl) rfl
theorem q83 : (Jvm.Cond.soleField "TraceFrontEnd" "registers") ∈ lw_all := lw_g (lw_at lw_m1 60 rfl) rfl
theorem q84 : (Jvm.Cond.laysFinal "TraceFrontEnd" "TraceFrontEnd" "cells" "[I") ∈ lw_all := lw_g (lw_at lw_m1 61 rfl) rfl
theorem q85 : (Jvm.Cond.soleField "TraceFrontEnd" "cells") ∈ lw_all := lw_g (lw_at lw_m1 62 rfl) rfl
theorem q86 : (Jvm.Cond.lays "TraceFrontEnd" "TraceFrontEnd" "pc" "I") ∈ lw_all := lw_g (lw_at lw_m1 63 rfl) rfl
theorem q87 : (Jvm.Cond.soleField "TraceFrontEnd" "pc") ∈ lw_all := lw_g (lw_at lw_m1 64 rfl) rfl
theorem q88 : (Jvm.Cond.lays "TraceFrontEnd" "TraceFrontEnd" "status" "I") ∈ lw_all := lw_g (lw_at lw_m1 65 rfl) rfl
theorem q89 : (Jvm.Cond.soleField "TraceFrontEnd" "status") ∈ lw_all := lw_g (lw_at lw_m1 66 rfl) rfl
theorem q90 : (Jvm.Cond.laysFinal "TraceFrontEnd" "TraceFrontEnd" "counter" "[B") ∈ lw_all := lw_g (lw_at lw_m1 67 rfl) rfl
theorem q91 : (Jvm.Cond.soleField "TraceFrontEnd" "counter") ∈ lw_all := lw_g (lw_at lw_m1 68 rfl) rfl
theorem q92 : (Jvm.Cond.laysFinal "TraceFrontEnd" "TraceFrontEnd" "traceLength" "[B") ∈ lw_all := lw_g (lw_at lw_m1 69 rfl) rfl
theorem q93 : (Jvm.Cond.soleField "TraceFrontEnd" "traceLength") ∈ lw_all := lw_g (lw_at lw_m1 70 rfl) rfl
theorem q94 : (Jvm.Cond.laysFinal "TraceFrontEnd" "TraceFrontEnd" "tracePlace" "[B") ∈ lw_all := lw_g (lw_at lw_m1 71 rfl) rfl
theorem q95 : (Jvm.Cond.soleField "TraceFrontEnd" "tracePlace") ∈ lw_all := lw_g (lw_at lw_m1 72 rfl) rfl
theorem q96 : (Jvm.Cond.laysFinal "TraceFrontEnd" "TraceFrontEnd" "filling" "[B") ∈ lw_all := lw_g (lw_at lw_m1 73 rfl) rfl
theorem q97 : (Jvm.Cond.soleField "TraceFrontEnd" "filling") ∈ lw_all := lw_g (lw_at lw_m1 74 rfl) rfl
theorem q98 : (Jvm.Cond.lays "TraceFrontEnd" "TraceFrontEnd" "filled" "I") ∈ lw_all := lw_g (lw_at lw_m1 75 rfl) rfl
theorem q99 : (Jvm.Cond.soleField "TraceFrontEnd" "filled") ∈ lw_all := lw_g (lw_at lw_m1 76 rfl) rfl
theorem q100 : (Jvm.Cond.lays "TraceFrontEnd" "TraceFrontEnd" "head" "I") ∈ lw_all := lw_g (lw_at lw_m1 77 rfl) rfl
theorem q101 : (Jvm.Cond.soleField "TraceFrontEnd" "head") ∈ lw_all := lw_g (lw_at lw_m1 78 rfl) rfl
theorem q102 : (Jvm.Cond.lays "TraceFrontEnd" "TraceFrontEnd" "entries" "I") ∈ lw_all := lw_g (lw_at lw_m1 79 rfl) rfl
theorem q103 : (Jvm.Cond.soleField "TraceFrontEnd" "entries") ∈ lw_all := lw_g (lw_at lw_m1 80 rfl) rfl
theorem q104 : (Jvm.Cond.laysFinal "TraceFrontEnd" "TraceFrontEnd" "entryPlace" "[B") ∈ lw_all := lw_g (lw_at lw_m1 81 rfl) rfl
theorem q105 : (Jvm.Cond.soleField "TraceFrontEnd" "entryPlace") ∈ lw_all := lw_g (lw_at lw_m1 82 rfl) rfl
theorem q106 : (Jvm.Cond.laysFinal "TraceFrontEnd" "TraceFrontEnd" "entryOp" "[B") ∈ lw_all := lw_g (lw_at lw_m1 83 rfl) rfl
theorem q107 : (Jvm.Cond.soleField "TraceFrontEnd" "entryOp") ∈ lw_all := lw_g (lw_at lw_m1 84 rfl) rfl
theorem q108 : (Jvm.Cond.laysFinal "TraceFrontEnd" "TraceFrontEnd" "entryNext" "[B") ∈ lw_all := lw_g (lw_at lw_m1 85 rfl) rfl
theorem q109 : (Jvm.Cond.soleField "TraceFrontEnd" "entryNext") ∈ lw_all := lw_g (lw_at lw_m1 86 rfl) rfl
theorem q110 : (Jvm.Cond.laysFinal "TraceFrontEnd" "TraceFrontEnd" "leftSource" "[B") ∈ lw_all := lw_g (lw_at lw_m1 87 rfl) rfl
theorem q111 : (Jvm.Cond.soleField "TraceFrontEnd" "leftSource") ∈ lw_all := lw_g (lw_at lw_m1 88 rfl) rfl
theorem q112 : (Jvm.Cond.laysFinal "TraceFrontEnd" "TraceFrontEnd" "leftValue" "[I") ∈ lw_all := lw_g (lw_at lw_m1 89 rfl) rfl
theorem q113 : (Jvm.Cond.soleField "TraceFrontEnd" "leftValue") ∈ lw_all := lw_g (lw_at lw_m1 90 rfl) rfl
theorem q114 : (Jvm.Cond.laysFinal "TraceFrontEnd" "TraceFrontEnd" "rightSource" "[B") ∈ lw_all := lw_g (lw_at lw_m1 91 rfl) rfl
theorem q115 : (Jvm.Cond.soleField "TraceFrontEnd" "rightSource") ∈ lw_all := lw_g (lw_at lw_m1 92 rfl) rfl
theorem q116 : (Jvm.Cond.laysFinal "TraceFrontEnd" "TraceFrontEnd" "rightValue" "[I") ∈ lw_all := lw_g (lw_at lw_m1 93 rfl) rfl
theorem q117 : (Jvm.Cond.soleField "TraceFrontEnd" "rightValue") ∈ lw_all := lw_g (lw_at lw_m1 94 rfl) rfl
theorem q118 : (Jvm.Cond.laysFinal "TraceFrontEnd" "TraceFrontEnd" "addressed" "[Z") ∈ lw_all := lw_g (lw_at lw_m1 95 rfl) rfl
theorem q119 : (Jvm.Cond.soleField "TraceFrontEnd" "addressed") ∈ lw_all := lw_g (lw_at lw_m1 96 rfl) rfl
theorem q120 : (Jvm.Cond.laysFinal "TraceFrontEnd" "TraceFrontEnd" "address" "[B") ∈ lw_all := lw_g (lw_at lw_m1 97 rfl) rfl
theorem q121 : (Jvm.Cond.soleField "TraceFrontEnd" "address") ∈ lw_all := lw_g (lw_at lw_m1 98 rfl) rfl
theorem q122 : (Jvm.Cond.laysFinal "TraceFrontEnd" "TraceFrontEnd" "done" "[Z") ∈ lw_all := lw_g (lw_at lw_m1 99 rfl) rfl
theorem q123 : (Jvm.Cond.soleField "TraceFrontEnd" "done") ∈ lw_all := lw_g (lw_at lw_m1 100 rfl) rfl
theorem q124 : (Jvm.Cond.laysFinal "TraceFrontEnd" "TraceFrontEnd" "result" "[I") ∈ lw_all := lw_g (lw_at lw_m1 101 rfl) rfl
theorem q125 : (Jvm.Cond.soleField "TraceFrontEnd" "result") ∈ lw_all := lw_g (lw_at lw_m1 102 rfl) rfl
theorem q126 : (Jvm.Cond.laysFinal "TraceFrontEnd" "TraceFrontEnd" "newest" "[B") ∈ lw_all := lw_g (lw_at lw_m1 103 rfl) rfl
theorem q127 : (Jvm.Cond.soleField "TraceFrontEnd" "newest") ∈ lw_all := lw_g (lw_at lw_m1 104 rfl) rfl
theorem q128 : (Jvm.Cond.lays "TraceFrontEnd" "TraceFrontEnd" "fetchPlace" "I") ∈ lw_all := lw_g (lw_at lw_m1 105 rfl) rfl
theorem q129 : (Jvm.Cond.soleField "TraceFrontEnd" "fetchPlace") ∈ lw_all := lw_g (lw_at lw_m1 106 rfl) rfl
theorem q130 : (Jvm.Cond.lays "TraceFrontEnd" "TraceFrontEnd" "retired" "I") ∈ lw_all := lw_g (lw_at lw_m1 107 rfl) rfl
theorem q131 : (Jvm.Cond.soleField "TraceFrontEnd" "retired") ∈ lw_all := lw_g (lw_at lw_m1 108 rfl) rfl
theorem q132 : (Jvm.Cond.superclass "TraceFrontEnd" "java/lang/Object") ∈ lw_all := lw_g (lw_at lw_m1 109 rfl) rfl
theorem q137 : (Jvm.Cond.instanceMethod ({ cls := "TraceFrontEnd", name := "emit", desc := "(IIII)I" } : Jvm.MethodName)) ∈ lw_all := lw_g (lw_at lw_m1 114 rfl) rfl
theorem q138 : (Jvm.Cond.selects "TraceFrontEnd" ({ cls := "TraceFrontEnd", name := "emit", desc := "(IIII)I" } : Jvm.MethodName) ({ cls := "TraceFrontEnd", name := "emit", desc := "(IIII)I" } : Jvm.MethodName)) ∈ lw_all := lw_g (lw_at lw_m1 115 rfl) rfl
theorem q139 : (Jvm.Cond.code ({ cls := "TraceFrontEnd", name := "emit", desc := "(IIII)I" } : Jvm.MethodName) prog_1_method_2_code (5 : Nat) (Option.some Jvm.ClassFile.FieldType.int)) ∈ lw_all := lw_g (lw_at lw_m1 116 rfl) rfl
theorem q140 : (Jvm.Cond.methodLink "TraceFrontEnd" (88 : Nat) ({ cls := "TraceFrontEnd", name := "isRegister", desc := "(I)Z" } : Jvm.MethodName)) ∈ lw_all := lw_g (lw_at lw_m1 117 rfl) rfl
theorem q141 : (Jvm.Cond.privateMethod ({ cls := "TraceFrontEnd", name := "isRegister", desc := "(I)Z" } : Jvm.MethodName)) ∈ lw_tbl := lw_at lw_m1 118 rfl
theorem q142 : (Jvm.Cond.instanceMethod ({ cls := "TraceFrontEnd", name := "isRegister", desc := "(I)Z" } : Jvm.MethodName)) ∈ lw_all := lw_g (lw_at lw_m1 119 rfl) rfl
theorem q143 : (Jvm.Cond.code ({ cls := "TraceFrontEnd", name := "isRegister", desc := "(I)Z" } : Jvm.MethodName) prog_1_method_13_code (2 : Nat) (Option.some Jvm.ClassFile.FieldType.boolean)) ∈ lw_all := lw_g (lw_at lw_m1 120 rfl) rfl
theorem q144 : (Jvm.Cond.methodLink "TraceFrontEnd" (92 : Nat) ({ cls := "TraceFrontEnd", name := "isTarget", desc := "(I)Z" } : Jvm.MethodName)) ∈ lw_all := lw_g (lw_at lw_m1 121 rfl) rfl
theorem q145 : (Jvm.Cond.privateMethod ({ cls := "TraceFrontEnd", name := "isTarget", desc := "(I)Z" } : Jvm.MethodName)) ∈ lw_tbl := lw_at lw_m1 122 rfl
theorem q146 : (Jvm.Cond.instanceMethod ({ cls := "TraceFrontEnd", name := "isTarget", desc := "(I)Z" } : Jvm.MethodName)) ∈ lw_all := lw_g (lw_at lw_m1 123 rfl) rfl
theorem q147 : (Jvm.Cond.code ({ cls := "TraceFrontEnd", name := "isTarget", desc := "(I)Z" } : Jvm.MethodName) prog_1_method_14_code (2 : Nat) (Option.some Jvm.ClassFile.FieldType.boolean)) ∈ lw_all := lw_g (lw_at lw_m1 124 rfl) rfl
theorem q149 : (Jvm.Cond.instanceMethod ({ cls := "TraceFrontEnd", name := "amend", desc := "(II)I" } : Jvm.MethodName)) ∈ lw_all := lw_g (lw_at lw_m1 126 rfl) rfl
theorem q150 : (Jvm.Cond.selects "TraceFrontEnd" ({ cls := "TraceFrontEnd", name := "amend", desc := "(II)I" } : Jvm.MethodName) ({ cls := "TraceFrontEnd", name := "amend", desc := "(II)I" } : Jvm.MethodName)) ∈ lw_all := lw_g (lw_at lw_m1 127 rfl) rfl
theorem q151 : (Jvm.Cond.code ({ cls := "TraceFrontEnd", name := "amend", desc := "(II)I" } : Jvm.MethodName) prog_1_method_3_code (4 : Nat) (Option.some Jvm.ClassFile.FieldType.int)) ∈ lw_all := lw_g (lw_at lw_m1 128 rfl) rfl
theorem q153 : (Jvm.Cond.instanceMethod ({ cls := "TraceFrontEnd", name := "restart", desc := "()V" } : Jvm.MethodName)) ∈ lw_all := lw_g (lw_at lw_m1 130 rfl) rfl
theorem q154 : (Jvm.Cond.selects "TraceFrontEnd" ({ cls := "TraceFrontEnd", name := "restart", desc := "()V" } : Jvm.MethodName) ({ cls := "TraceFrontEnd", name := "restart", desc := "()V" } : Jvm.MethodName)) ∈ lw_all := lw_g (lw_at lw_m1 131 rfl) rfl
theorem q155 : (Jvm.Cond.code ({ cls := "TraceFrontEnd", name := "restart", desc := "()V" } : Jvm.MethodName) prog_1_method_4_code (1 : Nat) (Option.none : Option Jvm.ClassFile.FieldType)) ∈ lw_all := lw_g (lw_at lw_m1 132 rfl) rfl
theorem q157 : (Jvm.Cond.instanceMethod ({ cls := "TraceFrontEnd", name := "run", desc := "(I)I" } : Jvm.MethodName)) ∈ lw_all := lw_g (lw_at lw_m1 134 rfl) rfl
theorem q158 : (Jvm.Cond.selects "TraceFrontEnd" ({ cls := "TraceFrontEnd", name := "run", desc := "(I)I" } : Jvm.MethodName) ({ cls := "TraceFrontEnd", name := "run", desc := "(I)I" } : Jvm.MethodName)) ∈ lw_all := lw_g (lw_at lw_m1 135 rfl) rfl
theorem q159 : (Jvm.Cond.code ({ cls := "TraceFrontEnd", name := "run", desc := "(I)I" } : Jvm.MethodName) prog_1_method_5_code (6 : Nat) (Option.some Jvm.ClassFile.FieldType.int)) ∈ lw_all := lw_g (lw_at lw_m1 136 rfl) rfl
theorem q160 : (Jvm.Cond.methodLink "TraceFrontEnd" (110 : Nat) ({ cls := "TraceFrontEnd", name := "retire", desc := "()V" } : Jvm.MethodName)) ∈ lw_all := lw_g (lw_at lw_m1 137 rfl) rfl
theorem q161 : (Jvm.Cond.privateMethod ({ cls := "TraceFrontEnd", name := "retire", desc := "()V" } : Jvm.MethodName)) ∈ lw_tbl := lw_at lw_m1 138 rfl
theorem q162 : (Jvm.Cond.instanceMethod ({ cls := "TraceFrontEnd", name := "retire", desc := "()V" } : Jvm.MethodName)) ∈ lw_all := lw_g (lw_at lw_m1 139 rfl) rfl
theorem q163 : (Jvm.Cond.code ({ cls := "TraceFrontEnd", name := "retire", desc := "()V" } : Jvm.MethodName) prog_1_method_29_code (4 : Nat) (Option.none : Option Jvm.ClassFile.FieldType)) ∈ lw_all := lw_g (lw_at lw_m1 140 rfl) rfl
theorem q164 : (Jvm.Cond.methodLink "TraceFrontEnd" (164 : Nat) ({ cls := "TraceFrontEnd", name := "placeAfter", desc := "(I)I" } : Jvm.MethodName)) ∈ lw_all := lw_g (lw_at lw_m1 141 rfl) rfl
theorem q165 : (Jvm.Cond.privateMethod ({ cls := "TraceFrontEnd", name := "placeAfter", desc := "(I)I" } : Jvm.MethodName)) ∈ lw_tbl := lw_at lw_m1 142 rfl
theorem q166 : (Jvm.Cond.instanceMethod ({ cls := "TraceFrontEnd", name := "placeAfter", desc := "(I)I" } : Jvm.MethodName)) ∈ lw_all := lw_g (lw_at lw_m1 143 rfl) rfl
theorem q167 : (Jvm.Cond.code ({ cls := "TraceFrontEnd", name := "placeAfter", desc := "(I)I" } : Jvm.MethodName) prog_1_method_30_code (5 : Nat) (Option.some Jvm.ClassFile.FieldType.int)) ∈ lw_all := lw_g (lw_at lw_m1 144 rfl) rfl
theorem q168 : (Jvm.Cond.methodLink "TraceFrontEnd" (167 : Nat) ({ cls := "TraceFrontEnd", name := "fillTrace", desc := "(I)V" } : Jvm.MethodName)) ∈ lw_all := lw_g (lw_at lw_m1 145 rfl) rfl
theorem q169 : (Jvm.Cond.privateMethod ({ cls := "TraceFrontEnd", name := "fillTrace", desc := "(I)V" } : Jvm.MethodName)) ∈ lw_tbl := lw_at lw_m1 146 rfl
theorem q170 : (Jvm.Cond.instanceMethod ({ cls := "TraceFrontEnd", name := "fillTrace", desc := "(I)V" } : Jvm.MethodName)) ∈ lw_all := lw_g (lw_at lw_m1 147 rfl) rfl
theorem q171 : (Jvm.Cond.code ({ cls := "TraceFrontEnd", name := "fillTrace", desc := "(I)V" } : Jvm.MethodName) prog_1_method_31_code (4 : Nat) (Option.none : Option Jvm.ClassFile.FieldType)) ∈ lw_all := lw_g (lw_at lw_m1 148 rfl) rfl
theorem q172 : (Jvm.Cond.methodLink "TraceFrontEnd" (113 : Nat) ({ cls := "TraceFrontEnd", name := "executeSome", desc := "()V" } : Jvm.MethodName)) ∈ lw_all := lw_g (lw_at lw_m1 149 rfl) rfl
theorem q173 : (Jvm.Cond.privateMethod ({ cls := "TraceFrontEnd", name := "executeSome", desc := "()V" } : Jvm.MethodName)) ∈ lw_tbl := lw_at lw_m1 150 rfl
theorem q174 : (Jvm.Cond.instanceMethod ({ cls := "TraceFrontEnd", name := "executeSome", desc := "()V" } : Jvm.MethodName)) ∈ lw_all := lw_g (lw_at lw_m1 151 rfl) rfl
theorem q175 : (Jvm.Cond.code ({ cls := "TraceFrontEnd", name := "executeSome", desc := "()V" } : Jvm.MethodName) prog_1_method_23_code (4 : Nat) (Option.none : Option Jvm.ClassFile.FieldType)) ∈ lw_all := lw_g (lw_at lw_m1 152 rfl) rfl
theorem q176 : (Jvm.Cond.methodLink "TraceFrontEnd" (146 : Nat) ({ cls := "TraceFrontEnd", name := "execute", desc := "(II)Z" } : Jvm.MethodName)) ∈ lw_all := lw_g (lw_at lw_m1 153 rfl) rfl
theorem q177 : (Jvm.Cond.privateMethod ({ cls := "TraceFrontEnd", name := "execute", desc := "(II)Z" } : Jvm.MethodName)) ∈ lw_tbl := lw_at lw_m1 154 rfl
theorem q178 : (Jvm.Cond.instanceMethod ({ cls := "TraceFrontEnd", name := "execute", desc := "(II)Z" } : Jvm.MethodName)) ∈ lw_all := lw_g (lw_at lw_m1 155 rfl) rfl
theorem q179 : (Jvm.Cond.code ({ cls := "TraceFrontEnd", name := "execute", desc := "(II)Z" } : Jvm.MethodName) prog_1_method_24_code (7 : Nat) (Option.some Jvm.ClassFile.FieldType.boolean)) ∈ lw_all := lw_g (lw_at lw_m1 156 rfl) rfl
theorem q180 : (Jvm.Cond.methodLink "TraceFrontEnd" (149 : Nat) ({ cls := "TraceFrontEnd", name := "mayLoad", desc := "(II)Z" } : Jvm.MethodName)) ∈ lw_all := lw_g (lw_at lw_m1 157 rfl) rfl
theorem q181 : (Jvm.Cond.privateMethod ({ cls := "TraceFrontEnd", name := "mayLoad", desc := "(II)Z" } : Jvm.MethodName)) ∈ lw_tbl := lw_at lw_m1 158 rfl
theorem q182 : (Jvm.Cond.instanceMethod ({ cls := "TraceFrontEnd", name := "mayLoad", desc := "(II)Z" } : Jvm.MethodName)) ∈ lw_all := lw_g (lw_at lw_m1 159 rfl) rfl
theorem q183 : (Jvm.Cond.code ({ cls := "TraceFrontEnd", name := "mayLoad", desc := "(II)Z" } : Jvm.MethodName) prog_1_method_26_code (5 : Nat) (Option.some Jvm.ClassFile.FieldType.boolean)) ∈ lw_all := lw_g (lw_at lw_m1 160 rfl) rfl
theorem q184 : (Jvm.Cond.methodLink "TraceFrontEnd" (152 : Nat) ({ cls := "TraceFrontEnd", name := "loadedBy", desc := "(II)I" } : Jvm.MethodName)) ∈ lw_all := lw_g (lw_at lw_m1 161 rfl) rfl
theorem q185 : (Jvm.Cond.privateMethod ({ cls := "TraceFrontEnd", name := "loadedBy", desc := "(II)I" } : Jvm.MethodName)) ∈ lw_tbl := lw_at lw_m1 162 rfl
theorem q186 : (Jvm.Cond.instanceMethod ({ cls := "TraceFrontEnd", name := "loadedBy", desc := "(II)I" } : Jvm.MethodName)) ∈ lw_all := lw_g (lw_at lw_m1 163 rfl) rfl
theorem q187 : (Jvm.Cond.code ({ cls := "TraceFrontEnd", name := "loadedBy", desc := "(II)I" } : Jvm.MethodName) prog_1_method_27_code (6 : Nat) (Option.some Jvm.ClassFile.FieldType.int)) ∈ lw_all := lw_g (lw_at lw_m1 164 rfl) rfl
theorem q188 : (Jvm.Cond.methodLink "TraceFrontEnd" (156 : Nat) ({ cls := "TraceFrontEnd", name := "compute", desc := "(III)I" } : Jvm.MethodName)) ∈ lw_all := lw_g (lw_at lw_m1 165 rfl) rfl
theorem q189 : (Jvm.Cond.privateMethod ({ cls := "TraceFrontEnd", name := "compute", desc := "(III)I" } : Jvm.MethodName)) ∈ lw_tbl := lw_at lw_m1 166 rfl
theorem q190 : (Jvm.Cond.instanceMethod ({ cls := "TraceFrontEnd", name := "compute", desc := "(III)I" } : Jvm.MethodName)) ∈ lw_all := lw_g (lw_at lw_m1 167 rfl) rfl
theorem q191 : (Jvm.Cond.code ({ cls := "TraceFrontEnd", name := "compute", desc := "(III)I" } : Jvm.MethodName) prog_1_method_25_code (4 : Nat) (Option.some Jvm.ClassFile.FieldType.int)) ∈ lw_all := lw_g (lw_at lw_m1 168 rfl) rfl
theorem q192 : (Jvm.Cond.methodLink "TraceFrontEnd" (160 : Nat) ({ cls := "TraceFrontEnd", name := "announce", desc := "(I)V" } : Jvm.MethodName)) ∈ lw_all := lw_g (lw_at lw_m1 169 rfl) rfl
theorem q193 : (Jvm.Cond.privateMethod ({ cls := "TraceFrontEnd", name := "announce", desc := "(I)V" } : Jvm.MethodName)) ∈ lw_tbl := lw_at lw_m1 170 rfl
theorem q194 : (Jvm.Cond.instanceMethod ({ cls := "TraceFrontEnd", name := "announce", desc := "(I)V" } : Jvm.MethodName)) ∈ lw_all := lw_g (lw_at lw_m1 171 rfl) rfl
theorem q195 : (Jvm.Cond.code ({ cls := "TraceFrontEnd", name := "announce", desc := "(I)V" } : Jvm.MethodName) prog_1_method_28_code (4 : Nat) (Option.none : Option Jvm.ClassFile.FieldType)) ∈ lw_all := lw_g (lw_at lw_m1 172 rfl) rfl
theorem q196 : (Jvm.Cond.methodLink "TraceFrontEnd" (116 : Nat) ({ cls := "TraceFrontEnd", name := "fetch", desc := "()V" } : Jvm.MethodName)) ∈ lw_all := lw_g (lw_at lw_m1 173 rfl) rfl
theorem q197 : (Jvm.Cond.privateMethod ({ cls := "TraceFrontEnd", name := "fetch", desc := "()V" } : Jvm.MethodName)) ∈ lw_tbl := lw_at lw_m1 174 rfl
theorem q198 : (Jvm.Cond.instanceMethod ({ cls := "TraceFrontEnd", name := "fetch", desc := "()V" } : Jvm.MethodName)) ∈ lw_all := lw_g (lw_at lw_m1 175 rfl) rfl
theorem q199 : (Jvm.Cond.code ({ cls := "TraceFrontEnd", name := "fetch", desc := "()V" } : Jvm.MethodName) prog_1_method_17_code (7 : Nat) (Option.none : Option Jvm.ClassFile.FieldType)) ∈ lw_all := lw_g (lw_at lw_m1 176 rfl) rfl
theorem q200 : (Jvm.Cond.methodLink "TraceFrontEnd" (128 : Nat) ({ cls := "TraceFrontEnd", name := "agrees", desc := "(II)Z" } : Jvm.MethodName)) ∈ lw_all := lw_g (lw_at lw_m1 177 rfl) rfl
theorem q201 : (Jvm.Cond.privateMethod ({ cls := "TraceFrontEnd", name := "agrees", desc := "(II)Z" } : Jvm.MethodName)) ∈ lw_tbl := lw_at lw_m1 178 rfl
theorem q202 : (Jvm.Cond.instanceMethod ({ cls := "TraceFrontEnd", name := "agrees", desc := "(II)Z" } : Jvm.MethodName)) ∈ lw_all := lw_g (lw_at lw_m1 179 rfl) rfl
theorem q203 : (Jvm.Cond.code ({ cls := "TraceFrontEnd", name := "agrees", desc := "(II)Z" } : Jvm.MethodName) prog_1_method_18_code (6 : Nat) (Option.some Jvm.ClassFile.FieldType.boolean)) ∈ lw_all := lw_g (lw_at lw_m1 180 rfl) rfl
theorem q204 : (Jvm.Cond.methodLink "TraceFrontEnd" (132 : Nat) ({ cls := "TraceFrontEnd", name := "predictedAfter", desc := "(I)I" } : Jvm.MethodName)) ∈ lw_all := lw_g (lw_at lw_m1 181 rfl) rfl
theorem q205 : (Jvm.Cond.privateMethod ({ cls := "TraceFrontEnd", name := "predictedAfter", desc := "(I)I" } : Jvm.MethodName)) ∈ lw_tbl := lw_at lw_m1 182 rfl
theorem q206 : (Jvm.Cond.instanceMethod ({ cls := "TraceFrontEnd", name := "predictedAfter", desc := "(I)I" } : Jvm.MethodName)) ∈ lw_all := lw_g (lw_at lw_m1 183 rfl) rfl
theorem q207 : (Jvm.Cond.code ({ cls := "TraceFrontEnd", name := "predictedAfter", desc := "(I)I" } : Jvm.MethodName) prog_1_method_19_code (4 : Nat) (Option.some Jvm.ClassFile.FieldType.int)) ∈ lw_all := lw_g (lw_at lw_m1 184 rfl) rfl
theorem q208 : (Jvm.Cond.methodLink "TraceFrontEnd" (136 : Nat) ({ cls := "TraceFrontEnd", name := "enter", desc := "(II)V" } : Jvm.MethodName)) ∈ lw_all := lw_g (lw_at lw_m1 185 rfl) rfl
theorem q209 : (Jvm.Cond.privateMethod ({ cls := "TraceFrontEnd", name := "enter", desc := "(II)V" } : Jvm.MethodName)) ∈ lw_tbl := lw_at lw_m1 186 rfl
theorem q210 : (Jvm.Cond.instanceMethod ({ cls := "TraceFrontEnd", name := "enter", desc := "(II)V" } : Jvm.MethodName)) ∈ lw_all := lw_g (lw_at lw_m1 187 rfl) rfl
theorem q211 : (Jvm.Cond.code ({ cls := "TraceFrontEnd", name := "enter", desc := "(II)V" } : Jvm.MethodName) prog_1_method_20_code (5 : Nat) (Option.none : Option Jvm.ClassFile.FieldType)) ∈ lw_all := lw_g (lw_at lw_m1 188 rfl) rfl
theorem q212 : (Jvm.Cond.methodLink "TraceFrontEnd" (140 : Nat) ({ cls := "TraceFrontEnd", name := "bindLeft", desc := "(II)V" } : Jvm.MethodName)) ∈ lw_all := lw_g (lw_at lw_m1 189 rfl) rfl
theorem q213 : (Jvm.Cond.privateMethod ({ cls := "TraceFrontEnd", name := "bindLeft", desc := "(II)V" } : Jvm.MethodName)) ∈ lw_tbl := lw_at lw_m1 190 rfl
theorem q214 : (Jvm.Cond.instanceMethod ({ cls := "TraceFrontEnd", name := "bindLeft", desc := "(II)V" } : Jvm.MethodName)) ∈ lw_all := lw_g (lw_at lw_m1 191 rfl) rfl
theorem q215 : (Jvm.Cond.code ({ cls := "TraceFrontEnd", name := "bindLeft", desc := "(II)V" } : Jvm.MethodName) prog_1_method_21_code (4 : Nat) (Option.none : Option Jvm.ClassFile.FieldType)) ∈ lw_all := lw_g (lw_at lw_m1 192 rfl) rfl
theorem q216 : (Jvm.Cond.methodLink "TraceFrontEnd" (143 : Nat) ({ cls := "TraceFrontEnd", name := "bindRight", desc := "(II)V" } : Jvm.MethodName)) ∈ lw_all := lw_g (lw_at lw_m1 193 rfl) rfl
theorem q217 : (Jvm.Cond.privateMethod ({ cls := "TraceFrontEnd", name := "bindRight", desc := "(II)V" } : Jvm.MethodName)) ∈ lw_tbl := lw_at lw_m1 194 rfl
theorem q218 : (Jvm.Cond.instanceMethod ({ cls := "TraceFrontEnd", name := "bindRight", desc := "(II)V" } : Jvm.MethodName)) ∈ lw_all := lw_g (lw_at lw_m1 195 rfl) rfl
theorem q219 : (Jvm.Cond.code ({ cls := "TraceFrontEnd", name := "bindRight", desc := "(II)V" } : Jvm.MethodName) prog_1_method_22_code (4 : Nat) (Option.none : Option Jvm.ClassFile.FieldType)) ∈ lw_all := lw_g (lw_at lw_m1 196 rfl) rfl
theorem q221 : (Jvm.Cond.instanceMethod ({ cls := "TraceFrontEnd", name := "register", desc := "(I)I" } : Jvm.MethodName)) ∈ lw_all := lw_g (lw_at lw_m1 198 rfl) rfl
theorem q222 : (Jvm.Cond.selects "TraceFrontEnd" ({ cls := "TraceFrontEnd", name := "register", desc := "(I)I" } : Jvm.MethodName) ({ cls := "TraceFrontEnd", name := "register", desc := "(I)I" } : Jvm.MethodName)) ∈ lw_all := lw_g (lw_at lw_m1 199 rfl) rfl
theorem q223 : (Jvm.Cond.code ({ cls := "TraceFrontEnd", name := "register", desc := "(I)I" } : Jvm.MethodName) prog_1_method_6_code (2 : Nat) (Option.some Jvm.ClassFile.FieldType.int)) ∈ lw_all := lw_g (lw_at lw_m1 200 rfl) rfl
theorem q225 : (Jvm.Cond.instanceMethod ({ cls := "TraceFrontEnd", name := "setRegister", desc := "(II)Z" } : Jvm.MethodName)) ∈ lw_all := lw_g (lw_at lw_m1 202 rfl) rfl
theorem q226 : (Jvm.Cond.selects "TraceFrontEnd" ({ cls := "TraceFrontEnd", name := "setRegister", desc := "(II)Z" } : Jvm.MethodName) ({ cls := "TraceFrontEnd", name := "setRegister", desc := "(II)Z" } : Jvm.MethodName)) ∈ lw_all := lw_g (lw_at lw_m1 203 rfl) rfl
theorem q227 : (Jvm.Cond.code ({ cls := "TraceFrontEnd", name := "setRegister", desc := "(II)Z" } : Jvm.MethodName) prog_1_method_7_code (3 : Nat) (Option.some Jvm.ClassFile.FieldType.boolean)) ∈ lw_all := lw_g (lw_at lw_m1 204 rfl) rfl
theorem q229 : (Jvm.Cond.instanceMethod ({ cls := "TraceFrontEnd", name := "memory", desc := "(I)I" } : Jvm.MethodName)) ∈ lw_all := lw_g (lw_at lw_m1 206 rfl) rfl
theorem q230 : (Jvm.Cond.selects "TraceFrontEnd" ({ cls := "TraceFrontEnd", name := "memory", desc := "(I)I" } : Jvm.MethodName) ({ cls := "TraceFrontEnd", name := "memory", desc := "(I)I" } : Jvm.MethodName)) ∈ lw_all := lw_g (lw_at lw_m1 207 rfl) rfl
theorem q231 : (Jvm.Cond.code ({ cls := "TraceFrontEnd", name := "memory", desc := "(I)I" } : Jvm.MethodName) prog_1_method_8_code (2 : Nat) (Option.some Jvm.ClassFile.FieldType.int)) ∈ lw_all := lw_g (lw_at lw_m1 208 rfl) rfl
theorem q233 : (Jvm.Cond.instanceMethod ({ cls := "TraceFrontEnd", name := "setMemory", desc := "(II)Z" } : Jvm.MethodName)) ∈ lw_all := lw_g (lw_at lw_m1 210 rfl) rfl
theorem q234 : (Jvm.Cond.selects "TraceFrontEnd" ({ cls := "TraceFrontEnd", name := "setMemory", desc := "(II)Z" } : Jvm.MethodName) ({ cls := "TraceFrontEnd", name := "setMemory", desc := "(II)Z" } : Jvm.MethodName)) ∈ lw_all := lw_g (lw_at lw_m1 211 rfl) rfl
theorem q235 : (Jvm.Cond.code ({ cls := "TraceFrontEnd", name := "setMemory", desc := "(II)Z" } : Jvm.MethodName) prog_1_method_9_code (3 : Nat) (Option.some Jvm.ClassFile.FieldType.boolean)) ∈ lw_all := lw_g (lw_at lw_m1 212 rfl) rfl
theorem q237 : (Jvm.Cond.instanceMethod ({ cls := "TraceFrontEnd", name := "place", desc := "()I" } : Jvm.MethodName)) ∈ lw_all := lw_g (lw_at lw_m1 214 rfl) rfl
theorem q238 : (Jvm.Cond.selects "TraceFrontEnd" ({ cls := "TraceFrontEnd", name := "place", desc := "()I" } : Jvm.MethodName) ({ cls := "TraceFrontEnd", name := "place", desc := "()I" } : Jvm.MethodName)) ∈ lw_all := lw_g (lw_at lw_m1 215 rfl) rfl
theorem q239 : (Jvm.Cond.code ({ cls := "TraceFrontEnd", name := "place", desc := "()I" } : Jvm.MethodName) prog_1_method_10_code (1 : Nat) (Option.some Jvm.ClassFile.FieldType.int)) ∈ lw_all := lw_g (lw_at lw_m1 216 rfl) rfl
theorem q241 : (Jvm.Cond.instanceMethod ({ cls := "TraceFrontEnd", name := "status", desc := "()I" } : Jvm.MethodName)) ∈ lw_all := lw_g (lw_at lw_m1 218 rfl) rfl
theorem q242 : (Jvm.Cond.selects "TraceFrontEnd" ({ cls := "TraceFrontEnd", name := "status", desc := "()I" } : Jvm.MethodName) ({ cls := "TraceFrontEnd", name := "status", desc := "()I" } : Jvm.MethodName)) ∈ lw_all := lw_g (lw_at lw_m1 219 rfl) rfl
theorem q243 : (Jvm.Cond.code ({ cls := "TraceFrontEnd", name := "status", desc := "()I" } : Jvm.MethodName) prog_1_method_11_code (1 : Nat) (Option.some Jvm.ClassFile.FieldType.int)) ∈ lw_all := lw_g (lw_at lw_m1 220 rfl) rfl
theorem q245 : (Jvm.Cond.instanceMethod ({ cls := "TraceFrontEnd", name := "clear", desc := "()V" } : Jvm.MethodName)) ∈ lw_all := lw_g (lw_at lw_m1 222 rfl) rfl
theorem q246 : (Jvm.Cond.selects "TraceFrontEnd" ({ cls := "TraceFrontEnd", name := "clear", desc := "()V" } : Jvm.MethodName) ({ cls := "TraceFrontEnd", name := "clear", desc := "()V" } : Jvm.MethodName)) ∈ lw_all := lw_g (lw_at lw_m1 223 rfl) rfl
theorem q247 : (Jvm.Cond.code ({ cls := "TraceFrontEnd", name := "clear", desc := "()V" } : Jvm.MethodName) prog_1_method_12_code (2 : Nat) (Option.none : Option Jvm.ClassFile.FieldType)) ∈ lw_all := lw_g (lw_at lw_m1 224 rfl) rfl
theorem q248 : (Jvm.Cond.methodLink "TraceFrontEnd" (119 : Nat) ({ cls := "TraceFrontEnd", name := "restart", desc := "()V" } : Jvm.MethodName)) ∈ lw_all := lw_g (lw_at lw_m1 225 rfl) rfl
theorem in_X0 : ∀ w ∈ wsX00, w ∈ lw_all := lw_in wsX00 [72, 74, 76, 78, 80, 82, 84, 86, 88, 90, 92, 94, 96, 98, 100, 102, 104, 106, 108, 110, 112, 114, 116, 118, 120, 122, 124, 126, 128, 130] (by decide +kernel) (by decide +kernel)
theorem q25 : (Jvm.Cond.initialized "TraceFrontEndModel") ∈ lw_all := lw_g (lw_at lw_m1 2 rfl) rfl
theorem q250 : (Jvm.Cond.instantiable "TraceFrontEndModel" (9 : Nat)) ∈ lw_all := lw_g (lw_at lw_m1 227 rfl) rfl
theorem q252 : (Jvm.Cond.instanceMethod ({ cls := "TraceFrontEndModel", name := "<init>", desc := "()V" } : Jvm.MethodName)) ∈ lw_all := lw_g (lw_at lw_m1 229 rfl) rfl
theorem q253 : (Jvm.Cond.code ({ cls := "TraceFrontEndModel", name := "<init>", desc := "()V" } : Jvm.MethodName) prog_3_method_1_code (1 : Nat) (Option.none : Option Jvm.ClassFile.FieldType)) ∈ lw_all := lw_g (lw_at lw_m1 230 rfl) rfl
theorem q254 : (Jvm.Cond.methodLink "TraceFrontEndModel" (1 : Nat) ({ cls := "java/lang/Object", name := "<init>", desc := "()V" } : Jvm.MethodName)) ∈ lw_all := lw_g (lw_at lw_m1 231 rfl) rfl
theorem q255 : (Jvm.Cond.fieldLink "TraceFrontEndModel" (7 : Nat) "TraceFrontEndModel" "n" "I") ∈ lw_all := lw_g (lw_at lw_m1 232 rfl) rfl
theorem q256 : (Jvm.Cond.fieldLink "TraceFrontEndModel" (13 : Nat) "TraceFrontEndModel" "op" "[I") ∈ lw_all := lw_g (lw_at lw_m1 233 rfl) rfl
theorem q257 : (Jvm.Cond.fieldLink "TraceFrontEndModel" (17 : Nat) "TraceFrontEndModel" "ax" "[I") ∈ lw_all := lw_g (lw_at lw_m1 234 rfl) rfl
theorem q258 : (Jvm.Cond.fieldLink "TraceFrontEndModel" (20 : Nat) "TraceFrontEndModel" "ay" "[I") ∈ lw_all := lw_g (lw_at lw_m1 235 rfl) rfl
theorem q259 : (Jvm.Cond.fieldLink "TraceFrontEndModel" (23 : Nat) "TraceFrontEndModel" "az" "[I") ∈ lw_all := lw_g (lw_at lw_m1 236 rfl) rfl
theorem q260 : (Jvm.Cond.fieldLink "TraceFrontEndModel" (26 : Nat) "TraceFrontEndModel" "reg" "[I") ∈ lw_all := lw_g (lw_at lw_m1 237 rfl) rfl
theorem q261 : (Jvm.Cond.fieldLink "TraceFrontEndModel" (29 : Nat) "TraceFrontEndModel" "mem" "[I") ∈ lw_all := lw_g (lw_at lw_m1 238 rfl) rfl
theorem q262 : (Jvm.Cond.fieldLink "TraceFrontEndModel" (32 : Nat) "TraceFrontEndModel" "pc" "I") ∈ lw_all := lw_g (lw_at lw_m1 239 rfl) rfl
theorem q263 : (Jvm.Cond.fieldLink "TraceFrontEndModel" (35 : Nat) "TraceFrontEndModel" "status" "I") ∈ lw_all := lw_g (lw_at lw_m2 0 rfl) rfl
theorem q264 : (Jvm.Cond.lays "TraceFrontEndModel" "TraceFrontEndModel" "n" "I") ∈ lw_all := lw_g (lw_at lw_m2 1 rfl) rfl
theorem q265 : (Jvm.Cond.soleField "TraceFrontEndModel" "n") ∈ lw_all := lw_g (lw_at lw_m2 2 rfl) rfl
theorem q266 : (Jvm.Cond.lays "TraceFrontEndModel" "TraceFrontEndModel" "op" "[I") ∈ lw_all := lw_g (lw_at lw_m2 3 rfl) rfl
theorem q267 : (Jvm.Cond.soleField "TraceFrontEndModel" "op") ∈ lw_all := lw_g (lw_at lw_m2 4 rfl) rfl
theorem q268 : (Jvm.Cond.lays "TraceFrontEndModel" "TraceFrontEndModel" "ax" "[I") ∈ lw_all := lw_g (lw_at lw_m2 5 rfl) rfl
theorem q269 : (Jvm.Cond.soleField "TraceFrontEndModel" "ax") ∈ lw_all := lw_g (lw_at lw_m2 6 rfl) rfl
theorem q270 : (Jvm.Cond.lays "TraceFrontEndModel" "TraceFrontEndModel" "ay" "[I") ∈ lw_all := lw_g (lw_at lw_m2 7 rfl) rfl
theorem q271 : (Jvm.Cond.soleField "TraceFrontEndModel" "ay") ∈ lw_all := lw_g (lw_at lw_m2 8 rfl) rfl
theorem q272 : (Jvm.Cond.lays "TraceFrontEndModel" "TraceFrontEndModel" "az" "[I") ∈ lw_all := lw_g (lw_at lw_m2 9 rfl) rfl
theorem q273 : (Jvm.Cond.soleField "TraceFrontEndModel" "az") ∈ lw_all := lw_g (lw_at lw_m2 10 rfl) rfl
theorem q274 : (Jvm.Cond.lays "TraceFrontEndModel" "TraceFrontEndModel" "reg" "[I") ∈ lw_all := lw_g (lw_at lw_m2 11 rfl) rfl
theorem q275 : (Jvm.Cond.soleField "TraceFrontEndModel" "reg") ∈ lw_all := lw_g (lw_at lw_m2 12 rfl) rfl
theorem q276 : (Jvm.Cond.lays "TraceFrontEndModel" "TraceFrontEndModel" "mem" "[I") ∈ lw_all := lw_g (lw_at lw_m2 13 rfl) rfl
theorem q277 : (Jvm.Cond.soleField "TraceFrontEndModel" "mem") ∈ lw_all := lw_g (lw_at lw_m2 14 rfl) rfl
theorem q278 : (Jvm.Cond.lays "TraceFrontEndModel" "TraceFrontEndModel" "pc" "I") ∈ lw_all := lw_g (lw_at lw_m2 15 rfl) rfl
theorem q279 : (Jvm.Cond.soleField "TraceFrontEndModel" "pc") ∈ lw_all := lw_g (lw_at lw_m2 16 rfl) rfl
theorem q280 : (Jvm.Cond.lays "TraceFrontEndModel" "TraceFrontEndModel" "status" "I") ∈ lw_all := lw_g (lw_at lw_m2 17 rfl) rfl
theorem q281 : (Jvm.Cond.soleField "TraceFrontEndModel" "status") ∈ lw_all := lw_g (lw_at lw_m2 18 rfl) rfl
theorem q282 : (Jvm.Cond.superclass "TraceFrontEndModel" "java/lang/Object") ∈ lw_all := lw_g (lw_at lw_m2 19 rfl) rfl
theorem q284 : (Jvm.Cond.instanceMethod ({ cls := "TraceFrontEndModel", name := "emit", desc := "(IIII)I" } : Jvm.MethodName)) ∈ lw_all := lw_g (lw_at lw_m2 21 rfl) rfl
theorem q285 : (Jvm.Cond.selects "TraceFrontEndModel" ({ cls := "TraceFrontEndModel", name := "emit", desc := "(IIII)I" } : Jvm.MethodName) ({ cls := "TraceFrontEndModel", name := "emit", desc := "(IIII)I" } : Jvm.MethodName)) ∈ lw_all := lw_g (lw_at lw_m2 22 rfl) rfl
theorem q286 : (Jvm.Cond.code ({ cls := "TraceFrontEndModel", name := "emit", desc := "(IIII)I" } : Jvm.MethodName) prog_3_method_5_code (5 : Nat) (Option.some Jvm.ClassFile.FieldType.int)) ∈ lw_all := lw_g (lw_at lw_m2 23 rfl) rfl
theorem q287 : (Jvm.Cond.methodLink "TraceFrontEndModel" (45 : Nat) ({ cls := "TraceFrontEndModel", name := "fits", desc := "(IIII)Z" } : Jvm.MethodName)) ∈ lw_all := lw_g (lw_at lw_m2 24 rfl) rfl
theorem q288 : (Jvm.Cond.privateMethod ({ cls := "TraceFrontEndModel", name := "fits", desc := "(IIII)Z" } : Jvm.MethodName)) ∈ lw_tbl := lw_at lw_m2 25 rfl
theorem q289 : (Jvm.Cond.instanceMethod ({ cls := "TraceFrontEndModel", name := "fits", desc := "(IIII)Z" } : Jvm.MethodName)) ∈ lw_all := lw_g (lw_at lw_m2 26 rfl) rfl
theorem q290 : (Jvm.Cond.code ({ cls := "TraceFrontEndModel", name := "fits", desc := "(IIII)Z" } : Jvm.MethodName) prog_3_method_4_code (5 : Nat) (Option.some Jvm.ClassFile.FieldType.boolean)) ∈ lw_all := lw_g (lw_at lw_m2 27 rfl) rfl
theorem q291 : (Jvm.Cond.methodLink "TraceFrontEndModel" (38 : Nat) ({ cls := "TraceFrontEndModel", name := "isPlace", desc := "(I)Z" } : Jvm.MethodName)) ∈ lw_all := lw_g (lw_at lw_m2 28 rfl) rfl
theorem q292 : (Jvm.Cond.privateMethod ({ cls := "TraceFrontEndModel", name := "isPlace", desc := "(I)Z" } : Jvm.MethodName)) ∈ lw_tbl := lw_at lw_m2 29 rfl
theorem q293 : (Jvm.Cond.instanceMethod ({ cls := "TraceFrontEndModel", name := "isPlace", desc := "(I)Z" } : Jvm.MethodName)) ∈ lw_all := lw_g (lw_at lw_m2 30 rfl) rfl
theorem q294 : (Jvm.Cond.code ({ cls := "TraceFrontEndModel", name := "isPlace", desc := "(I)Z" } : Jvm.MethodName) prog_3_method_3_code (2 : Nat) (Option.some Jvm.ClassFile.FieldType.boolean)) ∈ lw_all := lw_g (lw_at lw_m2 31 rfl) rfl
theorem q295 : (Jvm.Cond.methodLink "TraceFrontEndModel" (42 : Nat) ({ cls := "TraceFrontEndModel", name := "isRegister", desc := "(I)Z" } : Jvm.MethodName)) ∈ lw_all := lw_g (lw_at lw_m2 32 rfl) rfl
theorem q296 : (Jvm.Cond.privateMethod ({ cls := "TraceFrontEndModel", name := "isRegister", desc := "(I)Z" } : Jvm.MethodName)) ∈ lw_tbl := lw_at lw_m2 33 rfl
theorem q297 : (Jvm.Cond.instanceMethod ({ cls := "TraceFrontEndModel", name := "isRegister", desc := "(I)Z" } : Jvm.MethodName)) ∈ lw_all := lw_g (lw_at lw_m2 34 rfl) rfl
theorem q298 : (Jvm.Cond.code ({ cls := "TraceFrontEndModel", name := "isRegister", desc := "(I)Z" } : Jvm.MethodName) prog_3_method_2_code (2 : Nat) (Option.some Jvm.ClassFile.FieldType.boolean)) ∈ lw_all := lw_g (lw_at lw_m2 35 rfl) rfl
theorem q300 : (Jvm.Cond.instanceMethod ({ cls := "TraceFrontEndModel", name := "amend", desc := "(II)I" } : Jvm.MethodName)) ∈ lw_all := lw_g (lw_at lw_m2 37 rfl) rfl
theorem q301 : (Jvm.Cond.selects "TraceFrontEndModel" ({ cls := "TraceFrontEndModel", name := "amend", desc := "(II)I" } : Jvm.MethodName) ({ cls := "TraceFrontEndModel", name := "amend", desc := "(II)I" } : Jvm.MethodName)) ∈ lw_all := lw_g (lw_at lw_m2 38 rfl) rfl
theorem q302 : (Jvm.Cond.code ({ cls := "TraceFrontEndModel", name := "amend", desc := "(II)I" } : Jvm.MethodName) prog_3_method_6_code (3 : Nat) (Option.some Jvm.ClassFile.FieldType.int)) ∈ lw_all := lw_g (lw_at lw_m2 39 rfl) rfl
theorem q304 : (Jvm.Cond.instanceMethod ({ cls := "TraceFrontEndModel", name := "restart", desc := "()V" } : Jvm.MethodName)) ∈ lw_all := lw_g (lw_at lw_m2 41 rfl) rfl
theorem q305 : (Jvm.Cond.selects "TraceFrontEndModel" ({ cls := "TraceFrontEndModel", name := "restart", desc := "()V" } : Jvm.MethodName) ({ cls := "TraceFrontEndModel", name := "restart", desc := "()V" } : Jvm.MethodName)) ∈ lw_all := lw_g (lw_at lw_m2 42 rfl) rfl
theorem q306 : (Jvm.Cond.code ({ cls := "TraceFrontEndModel", name := "restart", desc := "()V" } : Jvm.MethodName) prog_3_method_7_code (1 : Nat) (Option.none : Option Jvm.ClassFile.FieldType)) ∈ lw_all := lw_g (lw_at lw_m2 43 rfl) rfl
theorem q308 : (Jvm.Cond.instanceMethod ({ cls := "TraceFrontEndModel", name := "run", desc := "(I)I" } : Jvm.MethodName)) ∈ lw_all := lw_g (lw_at lw_m2 45 rfl) rfl
theorem q309 : (Jvm.Cond.selects "TraceFrontEndModel" ({ cls := "TraceFrontEndModel", name := "run", desc := "(I)I" } : Jvm.MethodName) ({ cls := "TraceFrontEndModel", name := "run", desc := "(I)I" } : Jvm.MethodName)) ∈ lw_all := lw_g (lw_at lw_m2 46 rfl) rfl
theorem q310 : (Jvm.Cond.code ({ cls := "TraceFrontEndModel", name := "run", desc := "(I)I" } : Jvm.MethodName) prog_3_method_9_code (5 : Nat) (Option.some Jvm.ClassFile.FieldType.int)) ∈ lw_all := lw_g (lw_at lw_m2 47 rfl) rfl
theorem q311 : (Jvm.Cond.methodLink "TraceFrontEndModel" (49 : Nat) ({ cls := "TraceFrontEndModel", name := "execute", desc := "(I)V" } : Jvm.MethodName)) ∈ lw_all := lw_g (lw_at lw_m2 48 rfl) rfl
theorem q312 : (Jvm.Cond.privateMethod ({ cls := "TraceFrontEndModel", name := "execute", desc := "(I)V" } : Jvm.MethodName)) ∈ lw_tbl := lw_at lw_m2 49 rfl
theorem q313 : (Jvm.Cond.instanceMethod ({ cls := "TraceFrontEndModel", name := "execute", desc := "(I)V" } : Jvm.MethodName)) ∈ lw_all := lw_g (lw_at lw_m2 50 rfl) rfl
theorem q314 : (Jvm.Cond.code ({ cls := "TraceFrontEndModel", name := "execute", desc := "(I)V" } : Jvm.MethodName) prog_3_method_8_code (5 : Nat) (Option.none : Option Jvm.ClassFile.FieldType)) ∈ lw_all := lw_g (lw_at lw_m2 51 rfl) rfl
theorem q316 : (Jvm.Cond.instanceMethod ({ cls := "TraceFrontEndModel", name := "register", desc := "(I)I" } : Jvm.MethodName)) ∈ lw_all := lw_g (lw_at lw_m2 53 rfl) rfl
theorem q317 : (Jvm.Cond.selects "TraceFrontEndModel" ({ cls := "TraceFrontEndModel", name := "register", desc := "(I)I" } : Jvm.MethodName) ({ cls := "TraceFrontEndModel", name := "register", desc := "(I)I" } : Jvm.MethodName)) ∈ lw_all := lw_g (lw_at lw_m2 54 rfl) rfl
theorem q318 : (Jvm.Cond.code ({ cls := "TraceFrontEndModel", name := "register", desc := "(I)I" } : Jvm.MethodName) prog_3_method_10_code (2 : Nat) (Option.some Jvm.ClassFile.FieldType.int)) ∈ lw_all := lw_g (lw_at lw_m2 55 rfl) rfl
theorem q320 : (Jvm.Cond.instanceMethod ({ cls := "TraceFrontEndModel", name := "setRegister", desc := "(II)Z" } : Jvm.MethodName)) ∈ lw_all := lw_g (lw_at lw_m2 57 rfl) rfl
theorem q321 : (Jvm.Cond.selects "TraceFrontEndModel" ({ cls := "TraceFrontEndModel", name := "setRegister", desc := "(II)Z" } : Jvm.MethodName) ({ cls := "TraceFrontEndModel", name := "setRegister", desc := "(II)Z" } : Jvm.MethodName)) ∈ lw_all := lw_g (lw_at lw_m2 58 rfl) rfl
theorem q322 : (Jvm.Cond.code ({ cls := "TraceFrontEndModel", name := "setRegister", desc := "(II)Z" } : Jvm.MethodName) prog_3_method_11_code (3 : Nat) (Option.some Jvm.ClassFile.FieldType.boolean)) ∈ lw_all := lw_g (lw_at lw_m2 59 rfl) rfl
theorem q324 : (Jvm.Cond.instanceMethod ({ cls := "TraceFrontEndModel", name := "memory", desc := "(I)I" } : Jvm.MethodName)) ∈ lw_all := lw_g (lw_at lw_m2 61 rfl) rfl
theorem q325 : (Jvm.Cond.selects "TraceFrontEndModel" ({ cls := "TraceFrontEndModel", name := "memory", desc := "(I)I" } : Jvm.MethodName) ({ cls := "TraceFrontEndModel", name := "memory", desc := "(I)I" } : Jvm.MethodName)) ∈ lw_all := lw_g (lw_at lw_m2 62 rfl) rfl
theorem q326 : (Jvm.Cond.code ({ cls := "TraceFrontEndModel", name := "memory", desc := "(I)I" } : Jvm.MethodName) prog_3_method_12_code (2 : Nat) (Option.some Jvm.ClassFile.FieldType.int)) ∈ lw_all := lw_g (lw_at lw_m2 63 rfl) rfl
theorem q328 : (Jvm.Cond.instanceMethod ({ cls := "TraceFrontEndModel", name := "setMemory", desc := "(II)Z" } : Jvm.MethodName)) ∈ lw_all := lw_g (lw_at lw_m2 65 rfl) rfl
theorem q329 : (Jvm.Cond.selects "TraceFrontEndModel" ({ cls := "TraceFrontEndModel", name := "setMemory", desc := "(II)Z" } : Jvm.MethodName) ({ cls := "TraceFrontEndModel", name := "setMemory", desc := "(II)Z" } : Jvm.MethodName)) ∈ lw_all := lw_g (lw_at lw_m2 66 rfl) rfl
theorem q330 : (Jvm.Cond.code ({ cls := "TraceFrontEndModel", name := "setMemory", desc := "(II)Z" } : Jvm.MethodName) prog_3_method_13_code (3 : Nat) (Option.some Jvm.ClassFile.FieldType.boolean)) ∈ lw_all := lw_g (lw_at lw_m2 67 rfl) rfl
theorem q332 : (Jvm.Cond.instanceMethod ({ cls := "TraceFrontEndModel", name := "place", desc := "()I" } : Jvm.MethodName)) ∈ lw_all := lw_g (lw_at lw_m2 69 rfl) rfl
theorem q333 : (Jvm.Cond.selects "TraceFrontEndModel" ({ cls := "TraceFrontEndModel", name := "place", desc := "()I" } : Jvm.MethodName) ({ cls := "TraceFrontEndModel", name := "place", desc := "()I" } : Jvm.MethodName)) ∈ lw_all := lw_g (lw_at lw_m2 70 rfl) rfl
theorem q334 : (Jvm.Cond.code ({ cls := "TraceFrontEndModel", name := "place", desc := "()I" } : Jvm.MethodName) prog_3_method_14_code (1 : Nat) (Option.some Jvm.ClassFile.FieldType.int)) ∈ lw_all := lw_g (lw_at lw_m2 71 rfl) rfl
theorem q336 : (Jvm.Cond.instanceMethod ({ cls := "TraceFrontEndModel", name := "status", desc := "()I" } : Jvm.MethodName)) ∈ lw_all := lw_g (lw_at lw_m2 73 rfl) rfl
theorem q337 : (Jvm.Cond.selects "TraceFrontEndModel" ({ cls := "TraceFrontEndModel", name := "status", desc := "()I" } : Jvm.MethodName) ({ cls := "TraceFrontEndModel", name := "status", desc := "()I" } : Jvm.MethodName)) ∈ lw_all := lw_g (lw_at lw_m2 74 rfl) rfl
theorem q338 : (Jvm.Cond.code ({ cls := "TraceFrontEndModel", name := "status", desc := "()I" } : Jvm.MethodName) prog_3_method_15_code (1 : Nat) (Option.some Jvm.ClassFile.FieldType.int)) ∈ lw_all := lw_g (lw_at lw_m2 75 rfl) rfl
theorem q340 : (Jvm.Cond.instanceMethod ({ cls := "TraceFrontEndModel", name := "clear", desc := "()V" } : Jvm.MethodName)) ∈ lw_all := lw_g (lw_at lw_m2 77 rfl) rfl
theorem q341 : (Jvm.Cond.selects "TraceFrontEndModel" ({ cls := "TraceFrontEndModel", name := "clear", desc := "()V" } : Jvm.MethodName) ({ cls := "TraceFrontEndModel", name := "clear", desc := "()V" } : Jvm.MethodName)) ∈ lw_all := lw_g (lw_at lw_m2 78 rfl) rfl
theorem q342 : (Jvm.Cond.code ({ cls := "TraceFrontEndModel", name := "clear", desc := "()V" } : Jvm.MethodName) prog_3_method_16_code (2 : Nat) (Option.none : Option Jvm.ClassFile.FieldType)) ∈ lw_all := lw_g (lw_at lw_m2 79 rfl) rfl
theorem q343 : (Jvm.Cond.methodLink "TraceFrontEndModel" (53 : Nat) ({ cls := "TraceFrontEndModel", name := "restart", desc := "()V" } : Jvm.MethodName)) ∈ lw_all := lw_g (lw_at lw_m2 80 rfl) rfl
theorem in_X1 : ∀ w ∈ wsX10, w ∈ lw_all := lw_in wsX10 [264, 266, 268, 270, 272, 274, 276, 278, 280] (by decide +kernel) (by decide +kernel)
def RJ0 : String := "java/lang/Object"
abbrev cJ0_init : ByteArray := object_method_1_code
def yJ0_init : MethodName := ⟨RJ0, "<init>", "()V"⟩
theorem dJ0_init_0 : decode cJ0_init 0 = .ok (.return_, 1) := by decide +kernel
theorem q32 : (Jvm.Cond.instanceMethod ({ cls := "java/lang/Object", name := "<init>", desc := "()V" } : Jvm.MethodName)) ∈ lw_all := lw_g (lw_at lw_m1 9 rfl) rfl
theorem q33 : (Jvm.Cond.code ({ cls := "java/lang/Object", name := "<init>", desc := "()V" } : Jvm.MethodName) object_method_1_code (1 : Nat) (Option.none : Option Jvm.ClassFile.FieldType)) ∈ lw_all := lw_g (lw_at lw_m1 10 rfl) rfl
theorem q23 : (Jvm.Cond.initialized "TraceFrontEndLaw") ∈ lw_all := lw_g (lw_at lw_m1 0 rfl) rfl
theorem q26 : (Jvm.Cond.classLink "TraceFrontEndLaw" (7 : Nat) "TraceFrontEnd") ∈ lw_all := lw_g (lw_at lw_m1 3 rfl) rfl
theorem q28 : (Jvm.Cond.methodLink "TraceFrontEndLaw" (9 : Nat) ({ cls := "TraceFrontEnd", name := "<init>", desc := "()V" } : Jvm.MethodName)) ∈ lw_all := lw_g (lw_at lw_m1 5 rfl) rfl
theorem q136 : (Jvm.Cond.methodLink "TraceFrontEndLaw" (13 : Nat) ({ cls := "TraceFrontEnd", name := "emit", desc := "(IIII)I" } : Jvm.MethodName)) ∈ lw_all := lw_g (lw_at lw_m1 113 rfl) rfl
theorem q148 : (Jvm.Cond.methodLink "TraceFrontEndLaw" (18 : Nat) ({ cls := "TraceFrontEnd", name := "amend", desc := "(II)I" } : Jvm.MethodName)) ∈ lw_all := lw_g (lw_at lw_m1 125 rfl) rfl
theorem q152 : (Jvm.Cond.methodLink "TraceFrontEndLaw" (23 : Nat) ({ cls := "TraceFrontEnd", name := "restart", desc := "()V" } : Jvm.MethodName)) ∈ lw_all := lw_g (lw_at lw_m1 129 rfl) rfl
theorem q156 : (Jvm.Cond.methodLink "TraceFrontEndLaw" (27 : Nat) ({ cls := "TraceFrontEnd", name := "run", desc := "(I)I" } : Jvm.MethodName)) ∈ lw_all := lw_g (lw_at lw_m1 133 rfl) rfl
theorem q220 : (Jvm.Cond.methodLink "TraceFrontEndLaw" (32 : Nat) ({ cls := "TraceFrontEnd", name := "register", desc := "(I)I" } : Jvm.MethodName)) ∈ lw_all := lw_g (lw_at lw_m1 197 rfl) rfl
theorem q224 : (Jvm.Cond.methodLink "TraceFrontEndLaw" (36 : Nat) ({ cls := "TraceFrontEnd", name := "setRegister", desc := "(II)Z" } : Jvm.MethodName)) ∈ lw_all := lw_g (lw_at lw_m1 201 rfl) rfl
theorem q228 : (Jvm.Cond.methodLink "TraceFrontEndLaw" (41 : Nat) ({ cls := "TraceFrontEnd", name := "memory", desc := "(I)I" } : Jvm.MethodName)) ∈ lw_all := lw_g (lw_at lw_m1 205 rfl) rfl
theorem q232 : (Jvm.Cond.methodLink "TraceFrontEndLaw" (45 : Nat) ({ cls := "TraceFrontEnd", name := "setMemory", desc := "(II)Z" } : Jvm.MethodName)) ∈ lw_all := lw_g (lw_at lw_m1 209 rfl) rfl
theorem q236 : (Jvm.Cond.methodLink "TraceFrontEndLaw" (49 : Nat) ({ cls := "TraceFrontEnd", name := "place", desc := "()I" } : Jvm.MethodName)) ∈ lw_all := lw_g (lw_at lw_m1 213 rfl) rfl
theorem q240 : (Jvm.Cond.methodLink "TraceFrontEndLaw" (54 : Nat) ({ cls := "TraceFrontEnd", name := "status", desc := "()I" } : Jvm.MethodName)) ∈ lw_all := lw_g (lw_at lw_m1 217 rfl) rfl
theorem q244 : (Jvm.Cond.methodLink "TraceFrontEndLaw" (58 : Nat) ({ cls := "TraceFrontEnd", name := "clear", desc := "()V" } : Jvm.MethodName)) ∈ lw_all := lw_g (lw_at lw_m1 221 rfl) rfl
theorem q249 : (Jvm.Cond.classLink "TraceFrontEndLaw" (10 : Nat) "TraceFrontEndModel") ∈ lw_all := lw_g (lw_at lw_m1 226 rfl) rfl
theorem q251 : (Jvm.Cond.methodLink "TraceFrontEndLaw" (12 : Nat) ({ cls := "TraceFrontEndModel", name := "<init>", desc := "()V" } : Jvm.MethodName)) ∈ lw_all := lw_g (lw_at lw_m1 228 rfl) rfl
theorem q283 : (Jvm.Cond.methodLink "TraceFrontEndLaw" (17 : Nat) ({ cls := "TraceFrontEndModel", name := "emit", desc := "(IIII)I" } : Jvm.MethodName)) ∈ lw_all := lw_g (lw_at lw_m2 20 rfl) rfl
theorem q299 : (Jvm.Cond.methodLink "TraceFrontEndLaw" (22 : Nat) ({ cls := "TraceFrontEndModel", name := "amend", desc := "(II)I" } : Jvm.MethodName)) ∈ lw_all := lw_g (lw_at lw_m2 36 rfl) rfl
theorem q303 : (Jvm.Cond.methodLink "TraceFrontEndLaw" (26 : Nat) ({ cls := "TraceFrontEndModel", name := "restart", desc := "()V" } : Jvm.MethodName)) ∈ lw_all := lw_g (lw_at lw_m2 40 rfl) rfl
theorem q307 : (Jvm.Cond.methodLink "TraceFrontEndLaw" (31 : Nat) ({ cls := "TraceFrontEndModel", name := "run", desc := "(I)I" } : Jvm.MethodName)) ∈ lw_all := lw_g (lw_at lw_m2 44 rfl) rfl
theorem q315 : (Jvm.Cond.methodLink "TraceFrontEndLaw" (35 : Nat) ({ cls := "TraceFrontEndModel", name := "register", desc := "(I)I" } : Jvm.MethodName)) ∈ lw_all := lw_g (lw_at lw_m2 52 rfl) rfl
theorem q319 : (Jvm.Cond.methodLink "TraceFrontEndLaw" (40 : Nat) ({ cls := "TraceFrontEndModel", name := "setRegister", desc := "(II)Z" } : Jvm.MethodName)) ∈ lw_all := lw_g (lw_at lw_m2 56 rfl) rfl
theorem q323 : (Jvm.Cond.methodLink "TraceFrontEndLaw" (44 : Nat) ({ cls := "TraceFrontEndModel", name := "memory", desc := "(I)I" } : Jvm.MethodName)) ∈ lw_all := lw_g (lw_at lw_m2 60 rfl) rfl
theorem q327 : (Jvm.Cond.methodLink "TraceFrontEndLaw" (48 : Nat) ({ cls := "TraceFrontEndModel", name := "setMemory", desc := "(II)Z" } : Jvm.MethodName)) ∈ lw_all := lw_g (lw_at lw_m2 64 rfl) rfl
theorem q331 : (Jvm.Cond.methodLink "TraceFrontEndLaw" (53 : Nat) ({ cls := "TraceFrontEndModel", name := "place", desc := "()I" } : Jvm.MethodName)) ∈ lw_all := lw_g (lw_at lw_m2 68 rfl) rfl
theorem q335 : (Jvm.Cond.methodLink "TraceFrontEndLaw" (57 : Nat) ({ cls := "TraceFrontEndModel", name := "status", desc := "()I" } : Jvm.MethodName)) ∈ lw_all := lw_g (lw_at lw_m2 72 rfl) rfl
theorem q339 : (Jvm.Cond.methodLink "TraceFrontEndLaw" (61 : Nat) ({ cls := "TraceFrontEndModel", name := "clear", desc := "()V" } : Jvm.MethodName)) ∈ lw_all := lw_g (lw_at lw_m2 76 rfl) rfl
theorem q133 : (Jvm.Cond.arrayClass Jvm.ClassFile.FieldType.byte) ∈ lw_all := lw_g (lw_at lw_m1 110 rfl) rfl
theorem q134 : (Jvm.Cond.arrayClass Jvm.ClassFile.FieldType.int) ∈ lw_all := lw_g (lw_at lw_m1 111 rfl) rfl
theorem q135 : (Jvm.Cond.arrayClass Jvm.ClassFile.FieldType.boolean) ∈ lw_all := lw_g (lw_at lw_m1 112 rfl) rfl
end
section
/-! the two classes' pictures: S k 0 is the int field k, S k the contents of the array field k; a 0 the object's address, a k that of its array k -/
set_option maxRecDepth 100000
abbrev St : Type := Nat → Nat → Int32
def sput (S : St) (k j : Nat) (v : Int32) : St := fun q => if q = k then upd (S k) j v else S q
abbrev vwCl : List vw_C := [(RX0, TX0, 30), (RX1, TX1, 9)]
def kT (cs : ClassId × ClassId × ClassId) : List (ClassId × FieldType) := [(cs.1, .byte), (cs.2.1, .int), (cs.2.2, .boolean)]
def xF (a : Nat → Nat) (S : St) : List Value := [.int (S 0 0), .ref (a 1), .ref (a 2), .ref (a 3), .ref (a 4), .ref (a 5), .ref (a 6), .int (S 7 0), .int (S 8 0), .ref (a 9), .ref (a 10), .ref (a 11), .ref (a 12), .int (S 13 0), .int (S 14 0), .int (S 15 0), .ref (a 16), .ref (a 17), .ref (a 18), .ref (a 19), .ref (a 20), .ref (a 21), .ref (a 22), .ref (a 23), .ref (a 24), .ref (a 25), .ref (a 26), .ref (a 27), .int (S 28 0), .int (S 29 0)]
def xW (cs : ClassId × ClassId × ClassId) (a : Nat → Nat) (S : St) : va_W := [(a 0, .inr (0, xF a S)), (a 1, .inl (cs.1, 24, .inl (S 1))), (a 2, .inl (cs.1, 24, .inl (S 2))), (a 3, .inl (cs.1, 24, .inl (S 3))), (a 4, .inl (cs.2.1, 24, .inl (S 4))), (a 5, .inl (cs.2.1, 8, .inl (S 5))), (a 6, .inl (cs.2.1, 16, .inl (S 6))), (a 9, .inl (cs.1, 24, .inl (S 9))), (a 10, .inl (cs.1, 8, .inl (S 10))), (a 11, .inl (cs.1, 24, .inl (S 11))), (a 12, .inl (cs.1, 3, .inl (S 12))), (a 16, .inl (cs.1, 8, .inl (S 16))), (a 17, .inl (cs.1, 8, .inl (S 17))), (a 18, .inl (cs.1, 8, .inl (S 18))), (a 19, .inl (cs.1, 8, .inl (S 19))), (a 20, .inl (cs.2.1, 8, .inl (S 20))), (a 21, .inl (cs.1, 8, .inl (S 21))), (a 22, .inl (cs.2.1, 8, .inl (S 22))), (a 23, .inl (cs.2.2, 8, .inl (S 23))), (a 24, .inl (cs.1, 8, .inl (S 24))), (a 25, .inl (cs.2.2, 8, .inl (S 25))), (a 26, .inl (cs.2.1, 8, .inl (S 26))), (a 27, .inl (cs.1, 8, .inl (S 27)))]
def xAd (a : Nat → Nat) : List Nat := [a 0, a 1, a 2, a 3, a 4, a 5, a 6, a 9, a 10, a 11, a 12, a 16, a 17, a 18, a 19, a 20, a 21, a 22, a 23, a 24, a 25, a 26, a 27]
theorem xAd_eq {cs : ClassId × ClassId × ClassId} {a : Nat → Nat} (S : St) : (xW cs a S).map Prod.fst = xAd a := rfl
def mF (a : Nat → Nat) (S : St) : List Value := [.int (S 0 0), .ref (a 1), .ref (a 2), .ref (a 3), .ref (a 4), .ref (a 5), .ref (a 6), .int (S 7 0), .int (S 8 0)]
def mW (cs : ClassId × ClassId × ClassId) (a : Nat → Nat) (S : St) : va_W := [(a 0, .inr (1, mF a S)), (a 1, .inl (cs.2.1, 24, .inl (S 1))), (a 2, .inl (cs.2.1, 24, .inl (S 2))), (a 3, .inl (cs.2.1, 24, .inl (S 3))), (a 4, .inl (cs.2.1, 24, .inl (S 4))), (a 5, .inl (cs.2.1, 8, .inl (S 5))), (a 6, .inl (cs.2.1, 16, .inl (S 6)))]
def mAd (a : Nat → Nat) : List Nat := [a 0, a 1, a 2, a 3, a 4, a 5, a 6]
theorem mAd_eq {cs : ClassId × ClassId × ClassId} {a : Nat → Nat} (S : St) : (mW cs a S).map Prod.fst = mAd a := rfl

/-- the machine's constants all through a method of the class C with code cc -/
def XE (C : String) (p : Program) (s : State) (m : MethodId) (args : Array Value) (c : Code) (cc : ByteArray) (D : va_G) (cs : ClassId × ClassId × ClassId) : Prop :=
  p.tables.exec = Jvm.exec ∧ c.code = cc ∧ s.vm.findClass C = some m.cls ∧ (∀ w ∈ lw_all, w.before args s = true) ∧ va_K D vwCl (kT cs) s
/-- the heap holds the picture w, apart, within A; nothing outside A has changed since H0 -/
def PW (D : va_G) (w : va_W) (A : Nat → Prop) (H0 H : Heap) (locs : List Loc) : Prop := va_P D vwCl w H ∧ va_D A w ∧ va_S A H0 H locs
def wA (ad : List Nat) (sz : Nat) : Nat → Prop := fun q => q ∈ ad ∨ sz ≤ q
theorem wA_eq {w : va_W} {ad : List Nat} (h : w.map Prod.fst = ad) (sz : Nat) : va_A w sz = wA ad sz := by
  funext q
  apply propext
  subst h
  constructor
  · rintro (⟨k, e, h⟩ | h)
    · exact Or.inl (List.mem_map.mpr ⟨(q, e), List.mem_of_getElem? h, rfl⟩)
    · exact Or.inr h
  · rintro (h | h)
    · obtain ⟨⟨q2, e⟩, h1, h2⟩ := List.mem_map.mp h
      obtain ⟨k, hk⟩ := List.getElem?_of_mem h1
      dsimp only at h2
      subst h2
      exact Or.inl ⟨k, e, hk⟩
    · exact Or.inr h
def wPc (D : va_G) (cs : ClassId × ClassId × ClassId) (w : va_W) (sz : Nat) (As : List Value) : Array Value → State → Prop := va_Pc As (fun U => U.heap.size = sz ∧ va_P D vwCl w U.heap ∧ va_K D vwCl (kT cs) U ∧ va_D (fun _ => True) w)
def wB (D : va_G) (cs : ClassId × ClassId × ClassId) (w : St → va_W) (A : Nat → Prop) (S : St) (t : State) : Prop := va_P D vwCl (w S) t.heap ∧ va_K D vwCl (kT cs) t ∧ va_D A (w S)
/-- contracts: a void method, one with an int (or boolean) answer -/
def CV (l : Launch) (y : MethodName) (cc : ByteArray) (mL : Nat) (rm : Room) (D : va_G) (cs : ClassId × ClassId × ClassId) (w : St → va_W) (ad : List Nat) (As : List Value) (S : St) (post : St → Prop) : Prop :=
  ∀ sz, Met l y (ws_ y cc mL none) rm (wPc D cs (w S) sz As) (va_Qv post (wB D cs w (wA ad sz)) (wA ad sz)) 0 0 (wA ad sz)
def CI (l : Launch) (y : MethodName) (cc : ByteArray) (mL : Nat) (rt : FieldType) (rm : Room) (D : va_G) (cs : ClassId × ClassId × ClassId) (w : St → va_W) (ad : List Nat) (As : List Value) (S : St) (post : Int32 → St → Prop) : Prop :=
  ∀ sz, Met l y (ws_ y cc mL (some rt)) rm (wPc D cs (w S) sz As) (va_Qi post (wB D cs w (wA ad sz)) (wA ad sz)) 0 0 (wA ad sz)
abbrev rm_ (f n : Nat) : Room := { frames := f, cells := 0, slots := 0, locals := n }
section KITX
variable {p : Program} {l : Launch} {e : Env} {R : Room} {s : State} {m : MethodId} {args : Array Value} {below : List Frame} {meth : Method} {c : Code} {H : Heap} {locs : List Loc} {cells slots : Nat} {Q : State → Prop}
variable {cc : ByteArray} {pc : Nat} {ls : Array Slot} {rest : List Value} {D : va_G} {cs : ClassId × ClassId × ClassId} {a : Nat → Nat} {S : St} {A : Nat → Prop} {H0 : Heap}
variable {y : MethodName} {mL sz : Nat} {rm : Room} {w : St → va_W} {ad : List Nat} {As : List Value}
theorem cv_start {ret : Option FieldType} {Qc : Array Value → State → Outcome → State → Prop} {C : String} (hy : plainName y.cls = true) (hyc : y.cls = C) (had : ∀ S, (w S).map Prod.fst = ad) (hlen : (lg_sl As).length ≤ mL)
    (body : ∀ (p : Program) (e : Env) (s : State) (m : MethodId) (below : List Frame) (meth : Method) (c : Code) (ls : Array Slot), XE C p s m As.toArray c cc D cs → c.maxLocals = mL → meth.sig.returnType = ret → meth.locks = false → s.heap.size = sz → PW D (w S) (wA ad sz) s.heap s.heap [] → lv_has ls mL (lv_args 0 As) → W p l e rm s m As.toArray below meth c s.heap [] 0 0 (MQ below Qc As.toArray s 0 0 (wA ad sz)) (F0 m 0 ls [])) :
    Met l y (ws_ y cc mL ret) rm (wPc D cs (w S) sz As) Qc 0 0 (wA ad sz) := by
  refine Met.ofW (cc := cc) (maxL := mL) (ret := ret) hy rfl ?_
  intro p e s m args below meth c s₁ B hml hv
  obtain ⟨rfl, hsz, hP, hK, hD0⟩ := hv
  have hts := atoms_spec (ws := ws_ y cc mL ret) B.pre
  have hts : ∀ w ∈ lw_all, w.before _ s = true := fun w h => hts w (List.mem_cons_of_mem _ h)
  have hown : s.vm.findClass C = some m.cls := hyc ▸ findClass_of_methodNamed B.named
  have hD := hD0.self (sz := sz)
  rw [wA_eq (had S)] at hD
  have hl := lv_entry As (n := mL) hlen
  rw [lg_entry_eq]
  exact body p e s m below meth c _ ⟨B.exec, B.bytes, hown, hts, hK⟩ hml B.returns B.notSynchronized hsz ⟨hP, hD, va_S.rf⟩ hl
theorem cv_ret {C : String} {post : St → Prop} (E : XE C p s m args c cc D cs) (hr : meth.sig.returnType = none) (hlocks : meth.locks = false) (hW : PW D (w S) (wA ad sz) s.heap H locs) (hR : post S) (hdg : decode cc pc = .ok (.return_, 1)) :
    W p l e R s m args below meth c H locs 0 0 (MQ below (va_Qv post (wB D cs w (wA ad sz)) (wA ad sz)) args s 0 0 (wA ad sz)) (F0 m pc ls []) :=
  W.vret E.1 E.2.1 hr (fun t ht hV => ⟨⟨S, rfl, hR, by rw [ht]; exact hW.1, va_K.moved hV.alike E.2.2.2.2, hW.2.1⟩, hW.2.2.F ht⟩) hW.2.2.2.2 hdg hlocks
theorem ci_ret {C : String} {v : Int32} {post : Int32 → St → Prop} (E : XE C p s m args c cc D cs) (hr : meth.sig.returnType = some .int) (hlocks : meth.locks = false) (hW : PW D (w S) (wA ad sz) s.heap H locs) (hR : post v S) (hdg : decode cc pc = .ok (.ireturn, 1)) :
    W p l e R s m args below meth c H locs 0 0 (MQ below (va_Qi post (wB D cs w (wA ad sz)) (wA ad sz)) args s 0 0 (wA ad sz)) (F0 m pc ls [.int v]) :=
  W.iret E.1 E.2.1 hr (fun t ht hV => ⟨⟨v, S, rfl, hR, by rw [ht]; exact hW.1, va_K.moved hV.alike E.2.2.2.2, hW.2.1⟩, hW.2.2.F ht⟩) hW.2.2.2.2 hdg hlocks
theorem cz_ret {C : String} {v : Int32} {post : Int32 → St → Prop} (E : XE C p s m args c cc D cs) (hr : meth.sig.returnType = some .boolean) (hlocks : meth.locks = false) (hW : PW D (w S) (wA ad sz) s.heap H locs) (hn : v &&& 1 = v) (hR : post v S) (hdg : decode cc pc = .ok (.ireturn, 1)) :
    W p l e R s m args below meth c H locs 0 0 (MQ below (va_Qi post (wB D cs w (wA ad sz)) (wA ad sz)) args s 0 0 (wA ad sz)) (F0 m pc ls [.int v]) :=
  W.zret E.1 E.2.1 hr (by show Value.int (v &&& 1) = Value.int v; rw [hn]) (fun t ht hV => ⟨⟨v, S, rfl, hR, by rw [ht]; exact hW.1, va_K.moved hV.alike E.2.2.2.2, hW.2.1⟩, hW.2.2.F ht⟩) hW.2.2.2.2 hdg hlocks
/-- a call through an object whose picture is w S: behind it the picture is w S', and nothing else has changed -/
theorem cv_call {own C : String} {index maxL n nL ci : Nat} {bytes : ByteArray} {b : Addr} {q : vw_C} {fs : List Value} {post : St → Prop} {st : List Value}
    (E : XE own p s m args c cc D cs) (hml : c.maxLocals = nL) (hls : ls.size = nL) (hW : PW D (w S) A H0 H locs) (had : ∀ S, (w S).map Prod.fst = ad) (hA : ∀ q, H0.size ≤ q → A q)
    (hM : CV l y bytes maxL rm D cs w ad (.ref b :: As) S post) (cw : CallW R s args own C index y bytes maxL none (ws_ y bytes maxL none) rm 0 0 n)
    (hc : vwCl[ci]? = some q) (hq : q.1 = C) (he : (w S)[0]? = some (b, .inr (ci, fs))) (hn : As.length = n) (hst : st = As.reverse ++ .ref b :: rest) (hro : (rest.map fun v => v.category).sum ≤ 8) (hdg : decode cc pc = .ok (.invokevirtual index, 3)) (hf : cells ≤ R.cells ∧ slots ≤ R.slots)
    (kk : ∀ (S' : St) (H1 : Heap) (locs1 : List Loc), post S' → PW D (w S') A H0 H1 locs1 → (∀ q : Nat, q < H.size → ¬ wA ad H.size q → H1[q]? = H[q]?) → H.size ≤ H1.size → W p l e R s m args below meth c H1 locs1 cells slots Q (F0 m (pc + 3) ls rest)) :
    W p l e R s m args below meth c H locs cells slots Q (F0 m pc ls st) := by
  have hF : ∀ q, wA ad H.size q → A q := by
    rintro q (h | h)
    · rw [← had S] at h
      obtain ⟨⟨q2, e2⟩, h1, h2⟩ := List.mem_map.mp h
      obtain ⟨k, hk⟩ := List.getElem?_of_mem h1
      dsimp only at h2
      subst h2
      exact hW.2.1.2 k _ hk
    · exact hA q (Nat.le_trans hW.2.2.1 h)
  refine va_callv (A0 := A) (A1 := wA ad H.size) (va_runV (As := As) (rest := rest) (b := b) ⟨E.1, E.2.1, hml, E.2.2.1, E.2.2.2.1⟩ (hM H.size) cw ⟨fun a U g mk z => ?_, ?_, fun U hU hV => ⟨rfl, by rw [hU], by rw [hU]; exact hW.1, va_K.moved hV.alike E.2.2.2.2, hW.2.1.weaken (fun _ _ _ _ => trivial)⟩⟩ rfl hn hls hst (lv_room hro) hdg ⟨hf.1, hf.2⟩) hW.2.2 (fun q _ h => hF q h) hF (fun u t H1 locs1 ht hvm hw hB hz hk hS => ?_)
  · obtain ⟨z0, z1, zP, zK, zD⟩ := z
    exact ⟨z0, z1, zP, va_K.moved (u := U) (U := U.calling g mk a) (Vm.Alike.refl U.vm) zK, zD⟩
  · subst hq
    exact va_recv E.2.2.2.2 hW.1 hc he
  · refine kk u H1 locs1 hw ⟨by rw [← ht]; exact hB.1, ?_, hS⟩ hk hz
    exact hB.2.2.weaken (fun _ q _ h => hF q.1 h)
theorem ci_call {own C : String} {index maxL n nL ci : Nat} {bytes : ByteArray} {rt : FieldType} {b : Addr} {q : vw_C} {fs : List Value} {post : Int32 → St → Prop} {st : List Value}
    (E : XE own p s m args c cc D cs) (hml : c.maxLocals = nL) (hls : ls.size = nL) (hW : PW D (w S) A H0 H locs) (had : ∀ S, (w S).map Prod.fst = ad) (hA : ∀ q, H0.size ≤ q → A q)
    (hM : CI l y bytes maxL rt rm D cs w ad (.ref b :: As) S post) (cw : CallW R s args own C index y bytes maxL (some rt) (ws_ y bytes maxL (some rt)) rm 0 0 n)
    (hc : vwCl[ci]? = some q) (hq : q.1 = C) (he : (w S)[0]? = some (b, .inr (ci, fs))) (hn : As.length = n) (hst : st = As.reverse ++ .ref b :: rest) (hro : (rest.map fun v => v.category).sum ≤ 8) (hdg : decode cc pc = .ok (.invokevirtual index, 3)) (hf : cells ≤ R.cells ∧ slots ≤ R.slots)
    (kk : ∀ (r : Int32) (S' : St) (H1 : Heap) (locs1 : List Loc), post r S' → PW D (w S') A H0 H1 locs1 → (∀ q : Nat, q < H.size → ¬ wA ad H.size q → H1[q]? = H[q]?) → H.size ≤ H1.size → W p l e R s m args below meth c H1 locs1 cells slots Q (F0 m (pc + 3) ls (.int r :: rest))) :
    W p l e R s m args below meth c H locs cells slots Q (F0 m pc ls st) := by
  have hF : ∀ q, wA ad H.size q → A q := by
    rintro q (h | h)
    · rw [← had S] at h
      obtain ⟨⟨q2, e2⟩, h1, h2⟩ := List.mem_map.mp h
      obtain ⟨k, hk⟩ := List.getElem?_of_mem h1
      dsimp only at h2
      subst h2
      exact hW.2.1.2 k _ hk
    · exact hA q (Nat.le_trans hW.2.2.1 h)
  refine va_calli (A0 := A) (A1 := wA ad H.size) (va_runV (As := As) (rest := rest) (b := b) ⟨E.1, E.2.1, hml, E.2.2.1, E.2.2.2.1⟩ (hM H.size) cw ⟨fun a U g mk z => ?_, ?_, fun U hU hV => ⟨rfl, by rw [hU], by rw [hU]; exact hW.1, va_K.moved hV.alike E.2.2.2.2, hW.2.1.weaken (fun _ _ _ _ => trivial)⟩⟩ rfl hn hls hst (lv_room hro) hdg ⟨hf.1, hf.2⟩) hW.2.2 (fun q _ h => hF q h) hF (fun r u t H1 locs1 ht hvm hw hB hz hk hS => ?_)
  · obtain ⟨z0, z1, zP, zK, zD⟩ := z
    exact ⟨z0, z1, zP, va_K.moved (u := U) (U := U.calling g mk a) (Vm.Alike.refl U.vm) zK, zD⟩
  · subst hq
    exact va_recv E.2.2.2.2 hW.1 hc he
  · refine kk r u H1 locs1 hw ⟨by rw [← ht]; exact hB.1, ?_, hS⟩ hk hz
    exact hB.2.2.weaken (fun _ q _ h => hF q.1 h)
/-- stores into locals; the list of locals stays in order -/
theorem xl_istore_n {k : Fin 4} {i nL : Nat} {x : Int32} {lv lv' : List (Nat × Value)} {C : String} (E : XE C p s m args c cc D cs) (hdg : decode cc pc = .ok (.istore_n k, 1)) (hi : (k : Nat) = i) (h : lv_has ls nL lv) (hn : i < nL) (ks : List Nat) (hl : lv_pick ((i, Value.int x) :: lv.filter (fun q => !(q.1 == i) && !(q.1 + 1 == i && q.2.category == 2))) ks = lv')
    (kk : ∀ ls' : Array Slot, lv_has ls' nL lv' → W p l e R s m args below meth c H locs cells slots Q (F0 m (pc + 1) ls' rest)) : W p l e R s m args below meth c H locs cells slots Q (F0 m pc ls (.int x :: rest)) :=
  lv_istore_n E.1 E.2.1 hdg hi h hn rfl (fun ls' h' => kk ls' (lv_sub h' ks hl))
theorem xl_istore {i nL : Nat} {x : Int32} {lv lv' : List (Nat × Value)} {C : String} (E : XE C p s m args c cc D cs) (hdg : decode cc pc = .ok (.istore i, 2)) (h : lv_has ls nL lv) (hn : i < nL) (ks : List Nat) (hl : lv_pick ((i, Value.int x) :: lv.filter (fun q => !(q.1 == i) && !(q.1 + 1 == i && q.2.category == 2))) ks = lv')
    (kk : ∀ ls' : Array Slot, lv_has ls' nL lv' → W p l e R s m args below meth c H locs cells slots Q (F0 m (pc + 2) ls' rest)) : W p l e R s m args below meth c H locs cells slots Q (F0 m pc ls (.int x :: rest)) :=
  lv_istore E.1 E.2.1 hdg h hn rfl (fun ls' h' => kk ls' (lv_sub h' ks hl))
theorem xl_iinc {i nL k : Nat} {n : Int} {x v : Int32} {lv lv' : List (Nat × Value)} {C : String} (E : XE C p s m args c cc D cs) (hdg : decode cc pc = .ok (.iinc i n, 3)) (h : lv_has ls nL lv) (hk : lv[k]? = some (i, .int x)) (hv : x + Int32.ofInt n = v) (hn : i < nL) (ks : List Nat) (hl : lv_pick ((i, Value.int v) :: lv.filter (fun q => !(q.1 == i) && !(q.1 + 1 == i && q.2.category == 2))) ks = lv')
    (kk : ∀ ls' : Array Slot, lv_has ls' nL lv' → W p l e R s m args below meth c H locs cells slots Q (F0 m (pc + 3) ls' rest)) : W p l e R s m args below meth c H locs cells slots Q (F0 m pc ls rest) :=
  lv_iinc E.1 E.2.1 hdg h hk hv hn rfl (fun ls' h' => kk ls' (lv_sub h' ks hl))
/-- the number on top, by another name -/
theorem x_top {x y : Int32} (h : x = y) (kk : W p l e R s m args below meth c H locs cells slots Q (F0 m pc ls (.int y :: rest))) : W p l e R s m args below meth c H locs cells slots Q (F0 m pc ls (.int x :: rest)) := h ▸ kk
end KITX
/-! numbers -/
theorem x_inc1 (k : Nat) : nI k + Int32.ofInt 1 = nI (k + 1) := nI_1 k
theorem x_i2b {j : Nat} (h : j < 128) : (nI j).toInt8.toInt32 = nI j := by
  have : ∀ j, j < 128 → (nI j).toInt8.toInt32 = nI j := by decide +kernel
  exact this j h
theorem x_nb {j : Nat} (h : j < 128) : vp_nar .byte (nI j) = nI j := by rw [vp_nar_byte]; exact x_i2b h
theorem x_nb0 : vp_nar .byte 0 = 0 := by decide +kernel
theorem x_nb1 : vp_nar .byte 1 = 1 := by decide +kernel
theorem x_nb3 : vp_nar .byte 3 = 3 := by decide +kernel
theorem x_nz0 : vp_nar .boolean 0 = 0 := by decide +kernel
theorem x_nz1 : vp_nar .boolean 1 = 1 := by decide +kernel
theorem x_nbm : vp_nar .byte (-1) = -1 := by decide +kernel
theorem x_nz {x : Int32} (h : x = 0 ∨ x = 1) : vp_nar .boolean x = x := by
  rcases h with rfl | rfl <;> decide +kernel
theorem x_and7 {n : Nat} (h : n < 1000) : nI n &&& 7 = nI (n % 8) := pk_andN (by omega) (k := 3) (by decide)
def nt (x : Int32) : Nat := x.toNatClampNeg
theorem nt_nI {n : Nat} (h : n < 2 ^ 31) : nt (nI n) = n := nI_clamp h
/-- x is a number below b -/
def isN (x : Int32) (b : Nat) : Prop := ∃ n, n < b ∧ x = nI n
theorem isN.nt {x : Int32} {b : Nat} (h : isN x b) (hb : b ≤ 2 ^ 31) : x = nI (nt x) ∧ nt x < b := by
  obtain ⟨n, h1, rfl⟩ := h
  rw [nt_nI (by omega)]
  exact ⟨rfl, h1⟩
theorem nI_inj {a b : Nat} (ha : a < 2 ^ 31) (hb : b < 2 ^ 31) (h : nI a = nI b) : a = b := (nI_eq ha hb).mp h
theorem sput_s {S : St} {k j : Nat} {v : Int32} : sput S k j v k j = v := by simp [sput, upd]
theorem sput_k {S : St} {k j q : Nat} {v : Int32} (h : q ≠ k) : sput S k j v q = S q := by simp [sput, h]
theorem sput_j {S : St} {k j i : Nat} {v : Int32} (h : i ≠ j) : sput S k j v k i = S k i := by simp [sput, upd, h]
theorem sput_at (S : St) (k j : Nat) (v : Int32) : sput S k j v k = upd (S k) j v := by simp [sput]
theorem m1_neg : (-1 : Int32) < 0 := by decide
theorem nI_ne_m1 {n : Nat} (h : n < 2 ^ 31) : nI n ≠ -1 := fun e => nI_pos h (by rw [e]; decide)
section JOINS
variable {p : Program} {l : Launch} {e : Env} {R : Room} {s : State} {m : MethodId} {args : Array Value} {below : List Frame} {meth : Method} {c : Code} {H : Heap} {locs : List Loc} {cells slots : Nat} {Q : State → Prop}
variable {cc : ByteArray} {pc : Nat} {ls : Array Slot} {rest : List Value} {D : va_G} {cs : ClassId × ClassId × ClassId} {a : Nat → Nat} {S : St} {A : Nat → Prop} {H0 : Heap}
/-- two ways that meet with one number on the stack -/
theorem x_join {pj : Nat} {lj : Array Slot} {rj : List Value} {g : JFrame} (P : Int32 → Prop) (k1 : (∀ v, P v → W p l e R s m args below meth c H locs cells slots Q (F0 m pj lj (.int v :: rj))) → W p l e R s m args below meth c H locs cells slots Q g)
    (kk : ∀ v, P v → W p l e R s m args below meth c H locs cells slots Q (F0 m pj lj (.int v :: rj))) : W p l e R s m args below meth c H locs cells slots Q g := k1 kk
/-- two ways that meet with the picture changed -/
theorem x_joinS {pj : Nat} {lj : Array Slot} {rj : List Value} {g : JFrame} {w : St → va_W} {A : Nat → Prop} {H0 : Heap} (P : St → Prop)
    (k1 : (∀ S' H locs, P S' → PW D (w S') A H0 H locs → W p l e R s m args below meth c H locs cells slots Q (F0 m pj lj rj)) → W p l e R s m args below meth c H locs cells slots Q g)
    (kk : ∀ S' H locs, P S' → PW D (w S') A H0 H locs → W p l e R s m args below meth c H locs cells slots Q (F0 m pj lj rj)) : W p l e R s m args below meth c H locs cells slots Q g := k1 kk
/-- the same, with a number on the stack -/
theorem x_joinSv {pj : Nat} {lj : Array Slot} {rj : List Value} {g : JFrame} {w : St → va_W} {A : Nat → Prop} {H0 : Heap} (P : Int32 → St → Prop)
    (k1 : (∀ v S' H locs, P v S' → PW D (w S') A H0 H locs → W p l e R s m args below meth c H locs cells slots Q (F0 m pj lj (.int v :: rj))) → W p l e R s m args below meth c H locs cells slots Q g)
    (kk : ∀ v S' H locs, P v S' → PW D (w S') A H0 H locs → W p l e R s m args below meth c H locs cells slots Q (F0 m pj lj (.int v :: rj))) : W p l e R s m args below meth c H locs cells slots Q g := k1 kk
/-- two ways that meet at one place, nothing changed -/
theorem x_joinP {pj : Nat} {lj : Array Slot} {rj : List Value} {g : JFrame} (P : Prop) (k1 : (P → W p l e R s m args below meth c H locs cells slots Q (F0 m pj lj rj)) → W p l e R s m args below meth c H locs cells slots Q g)
    (kk : P → W p l e R s m args below meth c H locs cells slots Q (F0 m pj lj rj)) : W p l e R s m args below meth c H locs cells slots Q g := k1 kk
end JOINS
theorem isN_mk {x M : Int32} {b : Nat} (hM : M.toInt + 1 = b) (h : ¬ x < 0) (h5 : x ≤ M) : isN x b := by
  have h9 : 0 ≤ M.toInt := by
    have h6 := Int32.le_iff_toInt_le.mp h5
    have h7 : ¬ x.toInt < (0 : Int32).toInt := fun q => h (Int32.lt_iff_toInt_lt.mpr q)
    have h8 : (0 : Int32).toInt = 0 := by decide
    omega
  obtain ⟨j, h1, h2⟩ := nI_of2 (x := x) (M := M) (n := b - 1) (by omega) h h5
  exact ⟨j, by omega, h2⟩
theorem isN_neg {x : Int32} {b : Nat} (h : x < 0) (hb : b ≤ 2 ^ 31) : ¬ isN x b := by
  rintro ⟨n, h1, rfl⟩
  exact nI_pos (by omega) h
theorem isN_big {x M : Int32} {b : Nat} (hM : M.toInt + 1 = b) (hb : b ≤ 2 ^ 31) (h : M < x) : ¬ isN x b := by
  rintro ⟨n, h1, rfl⟩
  have h6 := Int32.lt_iff_toInt_lt.mp h
  rw [nI_toInt (by omega)] at h6
  omega
theorem le_of_nlt {x y : Int32} (h : ¬ y < x) : x ≤ y := Int32.not_lt.mp h
theorem lt_of_nle {x y : Int32} (h : ¬ x ≤ y) : y < x := Int32.not_le.mp h
theorem nI_nltI {a b : Nat} (ha : a < 2 ^ 31) (hb : b < 2 ^ 31) (h : ¬ nI a < nI b) : b ≤ a := Nat.not_lt.mp (fun q => h ((nI_ltI ha hb).mpr q))
theorem nI_nleI {a b : Nat} (ha : a < 2 ^ 31) (hb : b < 2 ^ 31) (h : ¬ nI a ≤ nI b) : b < a := Nat.not_le.mp (fun q => h ((nI_leI ha hb).mpr q))
theorem nI_neI {a b : Nat} (h : ¬ nI a = nI b) : a ≠ b := fun e => h (by rw [e])
end
section
set_option maxRecDepth 100000
section ROWSx
variable {p : Program} {l : Launch} {e : Env} {R : Room} {s : State} {m : MethodId} {args : Array Value} {below : List Frame} {meth : Method} {c : Code} {H : Heap} {locs : List Loc} {cells slots : Nat} {Q : State → Prop}
variable {cc : ByteArray} {pc : Nat} {ls : Array Slot} {rest : List Value} {D : va_G} {cs : ClassId × ClassId × ClassId} {a : Nat → Nat} {S : St} {A : Nat → Prop} {H0 : Heap}
theorem gX_0 (E : XE RX0 p s m args c cc D cs) (hW : PW D (xW cs a S) A H0 H locs) {v : Int32} (hv : S 0 0 = v) (hdg : decode cc pc = .ok (.getfield 84, 3)) (kk : W p l e R s m args below meth c H locs cells slots Q (F0 m (pc + 3) ls (.int v :: rest))) : W p l e R s m args below meth c H locs cells slots Q (F0 m pc ls (.ref (a 0) :: rest)) := by
  subst hv
  exact va_get (D := D) (ci := 0) (v := .int (S 0 0)) (C := RX0) (T := TX0) (N := 30) E.1 E.2.1 E.2.2.2.1 in_X0 E.2.2.1 E.2.2.2.2 hW.1 0 rfl rfl 0 (by decide) (E.2.2.2.1 _ q42) (fun _ h9 => h9) rfl hdg kk
theorem pX_0 (E : XE RX0 p s m args c cc D cs) (hW : PW D (xW cs a S) A H0 H locs) {v : Int32} (hdg : decode cc pc = .ok (.putfield 84, 3)) (kk : ∀ (H : Heap) (locs : List Loc), PW D (xW cs a (sput S 0 0 v)) A H0 H locs → W p l e R s m args below meth c H locs cells slots Q (F0 m (pc + 3) ls (rest))) : W p l e R s m args below meth c H locs cells slots Q (F0 m pc ls (.int v :: .ref (a 0) :: rest)) :=
  va_put (D := D) (ci := 0) (v := .int v) (ty := .int) (C := RX0) (T := TX0) (N := 30) E.1 E.2.1 E.2.2.2.1 in_X0 tyX0 tyX0_ok nmX0 E.2.2.1 E.2.2.2.2 hW.1 hW.2.1 hW.2.2 0 rfl rfl 0 (by decide) (E.2.2.2.1 _ q42) (fun _ h9 => h9) rfl (by decide +kernel) rfl rfl (Nat.le_of_ble_eq_true rfl) hdg (fun H1 locs1 h1 h2 h3 => kk H1 locs1 ⟨h1, h2, h3⟩)
theorem gX_1 (E : XE RX0 p s m args c cc D cs) (hW : PW D (xW cs a S) A H0 H locs) (hdg : decode cc pc = .ok (.getfield 7, 3)) (kk : W p l e R s m args below meth c H locs cells slots Q (F0 m (pc + 3) ls (.ref (a 1) :: rest))) : W p l e R s m args below meth c H locs cells slots Q (F0 m pc ls (.ref (a 0) :: rest)) :=
  va_get (D := D) (ci := 0) (v := .ref (a 1)) (C := RX0) (T := TX0) (N := 30) E.1 E.2.1 E.2.2.2.1 in_X0 E.2.2.1 E.2.2.2.2 hW.1 0 rfl rfl 1 (by decide) (E.2.2.2.1 _ q43) (fun _ h9 => h9) rfl hdg kk
theorem lX_1 (E : XE RX0 p s m args c cc D cs) (hW : PW D (xW cs a S) A H0 H locs) {i : Int32} {j : Nat} (hi : i = nI j) (hj : j < 24) {v : Int32} (hv : S 1 j = v) (hdg : decode cc pc = .ok (.baload, 1)) (kk : W p l e R s m args below meth c H locs cells slots Q (F0 m (pc + 1) ls (.int v :: rest))) : W p l e R s m args below meth c H locs cells slots Q (F0 m pc ls (.int i :: .ref (a 1) :: rest)) := by
  subst hi; subst hv
  refine va_bald (D := D) E.1 E.2.1 E.2.2.2.2 hW.1 1 0 rfl rfl (vp_in_nI hj (by decide)) hdg ?_
  rw [nI_clamp (by omega)]
  exact kk
theorem sX_1 (E : XE RX0 p s m args c cc D cs) (hW : PW D (xW cs a S) A H0 H locs) {i x : Int32} {j : Nat} (hi : i = nI j) (hj : j < 24) {v : Int32} (hv : vp_nar .byte x = v) (hdg : decode cc pc = .ok (.bastore, 1)) (kk : ∀ (H : Heap) (locs : List Loc), PW D (xW cs a (sput S 1 j v)) A H0 H locs → W p l e R s m args below meth c H locs cells slots Q (F0 m (pc + 1) ls (rest))) : W p l e R s m args below meth c H locs cells slots Q (F0 m pc ls (.int x :: .int i :: .ref (a 1) :: rest)) := by
  subst hi; subst hv
  refine va_bast (D := D) E.1 E.2.1 E.2.2.2.2 hW.1 hW.2.1 hW.2.2 1 0 rfl rfl (vp_in_nI hj (by decide)) hdg ?_
  rw [nI_clamp (by omega)]
  exact fun H1 locs1 h1 h2 h3 => kk H1 locs1 ⟨h1, h2, h3⟩
theorem gX_2 (E : XE RX0 p s m args c cc D cs) (hW : PW D (xW cs a S) A H0 H locs) (hdg : decode cc pc = .ok (.getfield 13, 3)) (kk : W p l e R s m args below meth c H locs cells slots Q (F0 m (pc + 3) ls (.ref (a 2) :: rest))) : W p l e R s m args below meth c H locs cells slots Q (F0 m pc ls (.ref (a 0) :: rest)) :=
  va_get (D := D) (ci := 0) (v := .ref (a 2)) (C := RX0) (T := TX0) (N := 30) E.1 E.2.1 E.2.2.2.1 in_X0 E.2.2.1 E.2.2.2.2 hW.1 0 rfl rfl 2 (by decide) (E.2.2.2.1 _ q44) (fun _ h9 => h9) rfl hdg kk
theorem lX_2 (E : XE RX0 p s m args c cc D cs) (hW : PW D (xW cs a S) A H0 H locs) {i : Int32} {j : Nat} (hi : i = nI j) (hj : j < 24) {v : Int32} (hv : S 2 j = v) (hdg : decode cc pc = .ok (.baload, 1)) (kk : W p l e R s m args below meth c H locs cells slots Q (F0 m (pc + 1) ls (.int v :: rest))) : W p l e R s m args below meth c H locs cells slots Q (F0 m pc ls (.int i :: .ref (a 2) :: rest)) := by
  subst hi; subst hv
  refine va_bald (D := D) E.1 E.2.1 E.2.2.2.2 hW.1 2 0 rfl rfl (vp_in_nI hj (by decide)) hdg ?_
  rw [nI_clamp (by omega)]
  exact kk
theorem sX_2 (E : XE RX0 p s m args c cc D cs) (hW : PW D (xW cs a S) A H0 H locs) {i x : Int32} {j : Nat} (hi : i = nI j) (hj : j < 24) {v : Int32} (hv : vp_nar .byte x = v) (hdg : decode cc pc = .ok (.bastore, 1)) (kk : ∀ (H : Heap) (locs : List Loc), PW D (xW cs a (sput S 2 j v)) A H0 H locs → W p l e R s m args below meth c H locs cells slots Q (F0 m (pc + 1) ls (rest))) : W p l e R s m args below meth c H locs cells slots Q (F0 m pc ls (.int x :: .int i :: .ref (a 2) :: rest)) := by
  subst hi; subst hv
  refine va_bast (D := D) E.1 E.2.1 E.2.2.2.2 hW.1 hW.2.1 hW.2.2 2 0 rfl rfl (vp_in_nI hj (by decide)) hdg ?_
  rw [nI_clamp (by omega)]
  exact fun H1 locs1 h1 h2 h3 => kk H1 locs1 ⟨h1, h2, h3⟩
theorem gX_3 (E : XE RX0 p s m args c cc D cs) (hW : PW D (xW cs a S) A H0 H locs) (hdg : decode cc pc = .ok (.getfield 16, 3)) (kk : W p l e R s m args below meth c H locs cells slots Q (F0 m (pc + 3) ls (.ref (a 3) :: rest))) : W p l e R s m args below meth c H locs cells slots Q (F0 m pc ls (.ref (a 0) :: rest)) :=
  va_get (D := D) (ci := 0) (v := .ref (a 3)) (C := RX0) (T := TX0) (N := 30) E.1 E.2.1 E.2.2.2.1 in_X0 E.2.2.1 E.2.2.2.2 hW.1 0 rfl rfl 3 (by decide) (E.2.2.2.1 _ q45) (fun _ h9 => h9) rfl hdg kk
theorem lX_3 (E : XE RX0 p s m args c cc D cs) (hW : PW D (xW cs a S) A H0 H locs) {i : Int32} {j : Nat} (hi : i = nI j) (hj : j < 24) {v : Int32} (hv : S 3 j = v) (hdg : decode cc pc = .ok (.baload, 1)) (kk : W p l e R s m args below meth c H locs cells slots Q (F0 m (pc + 1) ls (.int v :: rest))) : W p l e R s m args below meth c H locs cells slots Q (F0 m pc ls (.int i :: .ref (a 3) :: rest)) := by
  subst hi; subst hv
  refine va_bald (D := D) E.1 E.2.1 E.2.2.2.2 hW.1 3 0 rfl rfl (vp_in_nI hj (by decide)) hdg ?_
  rw [nI_clamp (by omega)]
  exact kk
theorem sX_3 (E : XE RX0 p s m args c cc D cs) (hW : PW D (xW cs a S) A H0 H locs) {i x : Int32} {j : Nat} (hi : i = nI j) (hj : j < 24) {v : Int32} (hv : vp_nar .byte x = v) (hdg : decode cc pc = .ok (.bastore, 1)) (kk : ∀ (H : Heap) (locs : List Loc), PW D (xW cs a (sput S 3 j v)) A H0 H locs → W p l e R s m args below meth c H locs cells slots Q (F0 m (pc + 1) ls (rest))) : W p l e R s m args below meth c H locs cells slots Q (F0 m pc ls (.int x :: .int i :: .ref (a 3) :: rest)) := by
  subst hi; subst hv
  refine va_bast (D := D) E.1 E.2.1 E.2.2.2.2 hW.1 hW.2.1 hW.2.2 3 0 rfl rfl (vp_in_nI hj (by decide)) hdg ?_
  rw [nI_clamp (by omega)]
  exact fun H1 locs1 h1 h2 h3 => kk H1 locs1 ⟨h1, h2, h3⟩
theorem gX_4 (E : XE RX0 p s m args c cc D cs) (hW : PW D (xW cs a S) A H0 H locs) (hdg : decode cc pc = .ok (.getfield 19, 3)) (kk : W p l e R s m args below meth c H locs cells slots Q (F0 m (pc + 3) ls (.ref (a 4) :: rest))) : W p l e R s m args below meth c H locs cells slots Q (F0 m pc ls (.ref (a 0) :: rest)) :=
  va_get (D := D) (ci := 0) (v := .ref (a 4)) (C := RX0) (T := TX0) (N := 30) E.1 E.2.1 E.2.2.2.1 in_X0 E.2.2.1 E.2.2.2.2 hW.1 0 rfl rfl 4 (by decide) (E.2.2.2.1 _ q46) (fun _ h9 => h9) rfl hdg kk
theorem lX_4 (E : XE RX0 p s m args c cc D cs) (hW : PW D (xW cs a S) A H0 H locs) {i : Int32} {j : Nat} (hi : i = nI j) (hj : j < 24) {v : Int32} (hv : S 4 j = v) (hdg : decode cc pc = .ok (.iaload, 1)) (kk : W p l e R s m args below meth c H locs cells slots Q (F0 m (pc + 1) ls (.int v :: rest))) : W p l e R s m args below meth c H locs cells slots Q (F0 m pc ls (.int i :: .ref (a 4) :: rest)) := by
  subst hi; subst hv
  refine va_iald (D := D) E.1 E.2.1 E.2.2.2.2 hW.1 4 1 rfl rfl (vp_in_nI hj (by decide)) hdg ?_
  rw [nI_clamp (by omega)]
  exact kk
theorem sX_4 (E : XE RX0 p s m args c cc D cs) (hW : PW D (xW cs a S) A H0 H locs) {i x : Int32} {j : Nat} (hi : i = nI j) (hj : j < 24) (hdg : decode cc pc = .ok (.iastore, 1)) (kk : ∀ (H : Heap) (locs : List Loc), PW D (xW cs a (sput S 4 j x)) A H0 H locs → W p l e R s m args below meth c H locs cells slots Q (F0 m (pc + 1) ls (rest))) : W p l e R s m args below meth c H locs cells slots Q (F0 m pc ls (.int x :: .int i :: .ref (a 4) :: rest)) := by
  subst hi
  refine va_iast (D := D) E.1 E.2.1 E.2.2.2.2 hW.1 hW.2.1 hW.2.2 4 1 rfl rfl (vp_in_nI hj (by decide)) hdg ?_
  rw [nI_clamp (by omega)]
  exact fun H1 locs1 h1 h2 h3 => kk H1 locs1 ⟨h1, h2, h3⟩
theorem gX_5 (E : XE RX0 p s m args c cc D cs) (hW : PW D (xW cs a S) A H0 H locs) (hdg : decode cc pc = .ok (.getfield 23, 3)) (kk : W p l e R s m args below meth c H locs cells slots Q (F0 m (pc + 3) ls (.ref (a 5) :: rest))) : W p l e R s m args below meth c H locs cells slots Q (F0 m pc ls (.ref (a 0) :: rest)) :=
  va_get (D := D) (ci := 0) (v := .ref (a 5)) (C := RX0) (T := TX0) (N := 30) E.1 E.2.1 E.2.2.2.1 in_X0 E.2.2.1 E.2.2.2.2 hW.1 0 rfl rfl 5 (by decide) (E.2.2.2.1 _ q47) (fun _ h9 => h9) rfl hdg kk
theorem lX_5 (E : XE RX0 p s m args c cc D cs) (hW : PW D (xW cs a S) A H0 H locs) {i : Int32} {j : Nat} (hi : i = nI j) (hj : j < 8) {v : Int32} (hv : S 5 j = v) (hdg : decode cc pc = .ok (.iaload, 1)) (kk : W p l e R s m args below meth c H locs cells slots Q (F0 m (pc + 1) ls (.int v :: rest))) : W p l e R s m args below meth c H locs cells slots Q (F0 m pc ls (.int i :: .ref (a 5) :: rest)) := by
  subst hi; subst hv
  refine va_iald (D := D) E.1 E.2.1 E.2.2.2.2 hW.1 5 1 rfl rfl (vp_in_nI hj (by decide)) hdg ?_
  rw [nI_clamp (by omega)]
  exact kk
theorem sX_5 (E : XE RX0 p s m args c cc D cs) (hW : PW D (xW cs a S) A H0 H locs) {i x : Int32} {j : Nat} (hi : i = nI j) (hj : j < 8) (hdg : decode cc pc = .ok (.iastore, 1)) (kk : ∀ (H : Heap) (locs : List Loc), PW D (xW cs a (sput S 5 j x)) A H0 H locs → W p l e R s m args below meth c H locs cells slots Q (F0 m (pc + 1) ls (rest))) : W p l e R s m args below meth c H locs cells slots Q (F0 m pc ls (.int x :: .int i :: .ref (a 5) :: rest)) := by
  subst hi
  refine va_iast (D := D) E.1 E.2.1 E.2.2.2.2 hW.1 hW.2.1 hW.2.2 5 1 rfl rfl (vp_in_nI hj (by decide)) hdg ?_
  rw [nI_clamp (by omega)]
  exact fun H1 locs1 h1 h2 h3 => kk H1 locs1 ⟨h1, h2, h3⟩
theorem gX_6 (E : XE RX0 p s m args c cc D cs) (hW : PW D (xW cs a S) A H0 H locs) (hdg : decode cc pc = .ok (.getfield 26, 3)) (kk : W p l e R s m args below meth c H locs cells slots Q (F0 m (pc + 3) ls (.ref (a 6) :: rest))) : W p l e R s m args below meth c H locs cells slots Q (F0 m pc ls (.ref (a 0) :: rest)) :=
  va_get (D := D) (ci := 0) (v := .ref (a 6)) (C := RX0) (T := TX0) (N := 30) E.1 E.2.1 E.2.2.2.1 in_X0 E.2.2.1 E.2.2.2.2 hW.1 0 rfl rfl 6 (by decide) (E.2.2.2.1 _ q48) (fun _ h9 => h9) rfl hdg kk
theorem lX_6 (E : XE RX0 p s m args c cc D cs) (hW : PW D (xW cs a S) A H0 H locs) {i : Int32} {j : Nat} (hi : i = nI j) (hj : j < 16) {v : Int32} (hv : S 6 j = v) (hdg : decode cc pc = .ok (.iaload, 1)) (kk : W p l e R s m args below meth c H locs cells slots Q (F0 m (pc + 1) ls (.int v :: rest))) : W p l e R s m args below meth c H locs cells slots Q (F0 m pc ls (.int i :: .ref (a 6) :: rest)) := by
  subst hi; subst hv
  refine va_iald (D := D) E.1 E.2.1 E.2.2.2.2 hW.1 6 1 rfl rfl (vp_in_nI hj (by decide)) hdg ?_
  rw [nI_clamp (by omega)]
  exact kk
theorem sX_6 (E : XE RX0 p s m args c cc D cs) (hW : PW D (xW cs a S) A H0 H locs) {i x : Int32} {j : Nat} (hi : i = nI j) (hj : j < 16) (hdg : decode cc pc = .ok (.iastore, 1)) (kk : ∀ (H : Heap) (locs : List Loc), PW D (xW cs a (sput S 6 j x)) A H0 H locs → W p l e R s m args below meth c H locs cells slots Q (F0 m (pc + 1) ls (rest))) : W p l e R s m args below meth c H locs cells slots Q (F0 m pc ls (.int x :: .int i :: .ref (a 6) :: rest)) := by
  subst hi
  refine va_iast (D := D) E.1 E.2.1 E.2.2.2.2 hW.1 hW.2.1 hW.2.2 6 1 rfl rfl (vp_in_nI hj (by decide)) hdg ?_
  rw [nI_clamp (by omega)]
  exact fun H1 locs1 h1 h2 h3 => kk H1 locs1 ⟨h1, h2, h3⟩
theorem gX_7 (E : XE RX0 p s m args c cc D cs) (hW : PW D (xW cs a S) A H0 H locs) {v : Int32} (hv : S 7 0 = v) (hdg : decode cc pc = .ok (.getfield 95, 3)) (kk : W p l e R s m args below meth c H locs cells slots Q (F0 m (pc + 3) ls (.int v :: rest))) : W p l e R s m args below meth c H locs cells slots Q (F0 m pc ls (.ref (a 0) :: rest)) := by
  subst hv
  exact va_get (D := D) (ci := 0) (v := .int (S 7 0)) (C := RX0) (T := TX0) (N := 30) E.1 E.2.1 E.2.2.2.1 in_X0 E.2.2.1 E.2.2.2.2 hW.1 0 rfl rfl 7 (by decide) (E.2.2.2.1 _ q49) (fun _ h9 => h9) rfl hdg kk
theorem pX_7 (E : XE RX0 p s m args c cc D cs) (hW : PW D (xW cs a S) A H0 H locs) {v : Int32} (hdg : decode cc pc = .ok (.putfield 95, 3)) (kk : ∀ (H : Heap) (locs : List Loc), PW D (xW cs a (sput S 7 0 v)) A H0 H locs → W p l e R s m args below meth c H locs cells slots Q (F0 m (pc + 3) ls (rest))) : W p l e R s m args below meth c H locs cells slots Q (F0 m pc ls (.int v :: .ref (a 0) :: rest)) :=
  va_put (D := D) (ci := 0) (v := .int v) (ty := .int) (C := RX0) (T := TX0) (N := 30) E.1 E.2.1 E.2.2.2.1 in_X0 tyX0 tyX0_ok nmX0 E.2.2.1 E.2.2.2.2 hW.1 hW.2.1 hW.2.2 0 rfl rfl 7 (by decide) (E.2.2.2.1 _ q49) (fun _ h9 => h9) rfl (by decide +kernel) rfl rfl (Nat.le_of_ble_eq_true rfl) hdg (fun H1 locs1 h1 h2 h3 => kk H1 locs1 ⟨h1, h2, h3⟩)
theorem gX_8 (E : XE RX0 p s m args c cc D cs) (hW : PW D (xW cs a S) A H0 H locs) {v : Int32} (hv : S 8 0 = v) (hdg : decode cc pc = .ok (.getfield 98, 3)) (kk : W p l e R s m args below meth c H locs cells slots Q (F0 m (pc + 3) ls (.int v :: rest))) : W p l e R s m args below meth c H locs cells slots Q (F0 m pc ls (.ref (a 0) :: rest)) := by
  subst hv
  exact va_get (D := D) (ci := 0) (v := .int (S 8 0)) (C := RX0) (T := TX0) (N := 30) E.1 E.2.1 E.2.2.2.1 in_X0 E.2.2.1 E.2.2.2.2 hW.1 0 rfl rfl 8 (by decide) (E.2.2.2.1 _ q50) (fun _ h9 => h9) rfl hdg kk
theorem pX_8 (E : XE RX0 p s m args c cc D cs) (hW : PW D (xW cs a S) A H0 H locs) {v : Int32} (hdg : decode cc pc = .ok (.putfield 98, 3)) (kk : ∀ (H : Heap) (locs : List Loc), PW D (xW cs a (sput S 8 0 v)) A H0 H locs → W p l e R s m args below meth c H locs cells slots Q (F0 m (pc + 3) ls (rest))) : W p l e R s m args below meth c H locs cells slots Q (F0 m pc ls (.int v :: .ref (a 0) :: rest)) :=
  va_put (D := D) (ci := 0) (v := .int v) (ty := .int) (C := RX0) (T := TX0) (N := 30) E.1 E.2.1 E.2.2.2.1 in_X0 tyX0 tyX0_ok nmX0 E.2.2.1 E.2.2.2.2 hW.1 hW.2.1 hW.2.2 0 rfl rfl 8 (by decide) (E.2.2.2.1 _ q50) (fun _ h9 => h9) rfl (by decide +kernel) rfl rfl (Nat.le_of_ble_eq_true rfl) hdg (fun H1 locs1 h1 h2 h3 => kk H1 locs1 ⟨h1, h2, h3⟩)
theorem gX_9 (E : XE RX0 p s m args c cc D cs) (hW : PW D (xW cs a S) A H0 H locs) (hdg : decode cc pc = .ok (.getfield 29, 3)) (kk : W p l e R s m args below meth c H locs cells slots Q (F0 m (pc + 3) ls (.ref (a 9) :: rest))) : W p l e R s m args below meth c H locs cells slots Q (F0 m pc ls (.ref (a 0) :: rest)) :=
  va_get (D := D) (ci := 0) (v := .ref (a 9)) (C := RX0) (T := TX0) (N := 30) E.1 E.2.1 E.2.2.2.1 in_X0 E.2.2.1 E.2.2.2.2 hW.1 0 rfl rfl 9 (by decide) (E.2.2.2.1 _ q51) (fun _ h9 => h9) rfl hdg kk
theorem lX_9 (E : XE RX0 p s m args c cc D cs) (hW : PW D (xW cs a S) A H0 H locs) {i : Int32} {j : Nat} (hi : i = nI j) (hj : j < 24) {v : Int32} (hv : S 9 j = v) (hdg : decode cc pc = .ok (.baload, 1)) (kk : W p l e R s m args below meth c H locs cells slots Q (F0 m (pc + 1) ls (.int v :: rest))) : W p l e R s m args below meth c H locs cells slots Q (F0 m pc ls (.int i :: .ref (a 9) :: rest)) := by
  subst hi; subst hv
  refine va_bald (D := D) E.1 E.2.1 E.2.2.2.2 hW.1 7 0 rfl rfl (vp_in_nI hj (by decide)) hdg ?_
  rw [nI_clamp (by omega)]
  exact kk
theorem sX_9 (E : XE RX0 p s m args c cc D cs) (hW : PW D (xW cs a S) A H0 H locs) {i x : Int32} {j : Nat} (hi : i = nI j) (hj : j < 24) {v : Int32} (hv : vp_nar .byte x = v) (hdg : decode cc pc = .ok (.bastore, 1)) (kk : ∀ (H : Heap) (locs : List Loc), PW D (xW cs a (sput S 9 j v)) A H0 H locs → W p l e R s m args below meth c H locs cells slots Q (F0 m (pc + 1) ls (rest))) : W p l e R s m args below meth c H locs cells slots Q (F0 m pc ls (.int x :: .int i :: .ref (a 9) :: rest)) := by
  subst hi; subst hv
  refine va_bast (D := D) E.1 E.2.1 E.2.2.2.2 hW.1 hW.2.1 hW.2.2 7 0 rfl rfl (vp_in_nI hj (by decide)) hdg ?_
  rw [nI_clamp (by omega)]
  exact fun H1 locs1 h1 h2 h3 => kk H1 locs1 ⟨h1, h2, h3⟩
theorem gX_10 (E : XE RX0 p s m args c cc D cs) (hW : PW D (xW cs a S) A H0 H locs) (hdg : decode cc pc = .ok (.getfield 32, 3)) (kk : W p l e R s m args below meth c H locs cells slots Q (F0 m (pc + 3) ls (.ref (a 10) :: rest))) : W p l e R s m args below meth c H locs cells slots Q (F0 m pc ls (.ref (a 0) :: rest)) :=
  va_get (D := D) (ci := 0) (v := .ref (a 10)) (C := RX0) (T := TX0) (N := 30) E.1 E.2.1 E.2.2.2.1 in_X0 E.2.2.1 E.2.2.2.2 hW.1 0 rfl rfl 10 (by decide) (E.2.2.2.1 _ q52) (fun _ h9 => h9) rfl hdg kk
theorem lX_10 (E : XE RX0 p s m args c cc D cs) (hW : PW D (xW cs a S) A H0 H locs) {i : Int32} {j : Nat} (hi : i = nI j) (hj : j < 8) {v : Int32} (hv : S 10 j = v) (hdg : decode cc pc = .ok (.baload, 1)) (kk : W p l e R s m args below meth c H locs cells slots Q (F0 m (pc + 1) ls (.int v :: rest))) : W p l e R s m args below meth c H locs cells slots Q (F0 m pc ls (.int i :: .ref (a 10) :: rest)) := by
  subst hi; subst hv
  refine va_bald (D := D) E.1 E.2.1 E.2.2.2.2 hW.1 8 0 rfl rfl (vp_in_nI hj (by decide)) hdg ?_
  rw [nI_clamp (by omega)]
  exact kk
theorem sX_10 (E : XE RX0 p s m args c cc D cs) (hW : PW D (xW cs a S) A H0 H locs) {i x : Int32} {j : Nat} (hi : i = nI j) (hj : j < 8) {v : Int32} (hv : vp_nar .byte x = v) (hdg : decode cc pc = .ok (.bastore, 1)) (kk : ∀ (H : Heap) (locs : List Loc), PW D (xW cs a (sput S 10 j v)) A H0 H locs → W p l e R s m args below meth c H locs cells slots Q (F0 m (pc + 1) ls (rest))) : W p l e R s m args below meth c H locs cells slots Q (F0 m pc ls (.int x :: .int i :: .ref (a 10) :: rest)) := by
  subst hi; subst hv
  refine va_bast (D := D) E.1 E.2.1 E.2.2.2.2 hW.1 hW.2.1 hW.2.2 8 0 rfl rfl (vp_in_nI hj (by decide)) hdg ?_
  rw [nI_clamp (by omega)]
  exact fun H1 locs1 h1 h2 h3 => kk H1 locs1 ⟨h1, h2, h3⟩
theorem gX_11 (E : XE RX0 p s m args c cc D cs) (hW : PW D (xW cs a S) A H0 H locs) (hdg : decode cc pc = .ok (.getfield 35, 3)) (kk : W p l e R s m args below meth c H locs cells slots Q (F0 m (pc + 3) ls (.ref (a 11) :: rest))) : W p l e R s m args below meth c H locs cells slots Q (F0 m pc ls (.ref (a 0) :: rest)) :=
  va_get (D := D) (ci := 0) (v := .ref (a 11)) (C := RX0) (T := TX0) (N := 30) E.1 E.2.1 E.2.2.2.1 in_X0 E.2.2.1 E.2.2.2.2 hW.1 0 rfl rfl 11 (by decide) (E.2.2.2.1 _ q53) (fun _ h9 => h9) rfl hdg kk
theorem lX_11 (E : XE RX0 p s m args c cc D cs) (hW : PW D (xW cs a S) A H0 H locs) {i : Int32} {j : Nat} (hi : i = nI j) (hj : j < 24) {v : Int32} (hv : S 11 j = v) (hdg : decode cc pc = .ok (.baload, 1)) (kk : W p l e R s m args below meth c H locs cells slots Q (F0 m (pc + 1) ls (.int v :: rest))) : W p l e R s m args below meth c H locs cells slots Q (F0 m pc ls (.int i :: .ref (a 11) :: rest)) := by
  subst hi; subst hv
  refine va_bald (D := D) E.1 E.2.1 E.2.2.2.2 hW.1 9 0 rfl rfl (vp_in_nI hj (by decide)) hdg ?_
  rw [nI_clamp (by omega)]
  exact kk
theorem sX_11 (E : XE RX0 p s m args c cc D cs) (hW : PW D (xW cs a S) A H0 H locs) {i x : Int32} {j : Nat} (hi : i = nI j) (hj : j < 24) {v : Int32} (hv : vp_nar .byte x = v) (hdg : decode cc pc = .ok (.bastore, 1)) (kk : ∀ (H : Heap) (locs : List Loc), PW D (xW cs a (sput S 11 j v)) A H0 H locs → W p l e R s m args below meth c H locs cells slots Q (F0 m (pc + 1) ls (rest))) : W p l e R s m args below meth c H locs cells slots Q (F0 m pc ls (.int x :: .int i :: .ref (a 11) :: rest)) := by
  subst hi; subst hv
  refine va_bast (D := D) E.1 E.2.1 E.2.2.2.2 hW.1 hW.2.1 hW.2.2 9 0 rfl rfl (vp_in_nI hj (by decide)) hdg ?_
  rw [nI_clamp (by omega)]
  exact fun H1 locs1 h1 h2 h3 => kk H1 locs1 ⟨h1, h2, h3⟩
theorem gX_12 (E : XE RX0 p s m args c cc D cs) (hW : PW D (xW cs a S) A H0 H locs) (hdg : decode cc pc = .ok (.getfield 38, 3)) (kk : W p l e R s m args below meth c H locs cells slots Q (F0 m (pc + 3) ls (.ref (a 12) :: rest))) : W p l e R s m args below meth c H locs cells slots Q (F0 m pc ls (.ref (a 0) :: rest)) :=
  va_get (D := D) (ci := 0) (v := .ref (a 12)) (C := RX0) (T := TX0) (N := 30) E.1 E.2.1 E.2.2.2.1 in_X0 E.2.2.1 E.2.2.2.2 hW.1 0 rfl rfl 12 (by decide) (E.2.2.2.1 _ q54) (fun _ h9 => h9) rfl hdg kk
theorem lX_12 (E : XE RX0 p s m args c cc D cs) (hW : PW D (xW cs a S) A H0 H locs) {i : Int32} {j : Nat} (hi : i = nI j) (hj : j < 3) {v : Int32} (hv : S 12 j = v) (hdg : decode cc pc = .ok (.baload, 1)) (kk : W p l e R s m args below meth c H locs cells slots Q (F0 m (pc + 1) ls (.int v :: rest))) : W p l e R s m args below meth c H locs cells slots Q (F0 m pc ls (.int i :: .ref (a 12) :: rest)) := by
  subst hi; subst hv
  refine va_bald (D := D) E.1 E.2.1 E.2.2.2.2 hW.1 10 0 rfl rfl (vp_in_nI hj (by decide)) hdg ?_
  rw [nI_clamp (by omega)]
  exact kk
theorem sX_12 (E : XE RX0 p s m args c cc D cs) (hW : PW D (xW cs a S) A H0 H locs) {i x : Int32} {j : Nat} (hi : i = nI j) (hj : j < 3) {v : Int32} (hv : vp_nar .byte x = v) (hdg : decode cc pc = .ok (.bastore, 1)) (kk : ∀ (H : Heap) (locs : List Loc), PW D (xW cs a (sput S 12 j v)) A H0 H locs → W p l e R s m args below meth c H locs cells slots Q (F0 m (pc + 1) ls (rest))) : W p l e R s m args below meth c H locs cells slots Q (F0 m pc ls (.int x :: .int i :: .ref (a 12) :: rest)) := by
  subst hi; subst hv
  refine va_bast (D := D) E.1 E.2.1 E.2.2.2.2 hW.1 hW.2.1 hW.2.2 10 0 rfl rfl (vp_in_nI hj (by decide)) hdg ?_
  rw [nI_clamp (by omega)]
  exact fun H1 locs1 h1 h2 h3 => kk H1 locs1 ⟨h1, h2, h3⟩
theorem gX_13 (E : XE RX0 p s m args c cc D cs) (hW : PW D (xW cs a S) A H0 H locs) {v : Int32} (hv : S 13 0 = v) (hdg : decode cc pc = .ok (.getfield 122, 3)) (kk : W p l e R s m args below meth c H locs cells slots Q (F0 m (pc + 3) ls (.int v :: rest))) : W p l e R s m args below meth c H locs cells slots Q (F0 m pc ls (.ref (a 0) :: rest)) := by
  subst hv
  exact va_get (D := D) (ci := 0) (v := .int (S 13 0)) (C := RX0) (T := TX0) (N := 30) E.1 E.2.1 E.2.2.2.1 in_X0 E.2.2.1 E.2.2.2.2 hW.1 0 rfl rfl 13 (by decide) (E.2.2.2.1 _ q55) (fun _ h9 => h9) rfl hdg kk
theorem pX_13 (E : XE RX0 p s m args c cc D cs) (hW : PW D (xW cs a S) A H0 H locs) {v : Int32} (hdg : decode cc pc = .ok (.putfield 122, 3)) (kk : ∀ (H : Heap) (locs : List Loc), PW D (xW cs a (sput S 13 0 v)) A H0 H locs → W p l e R s m args below meth c H locs cells slots Q (F0 m (pc + 3) ls (rest))) : W p l e R s m args below meth c H locs cells slots Q (F0 m pc ls (.int v :: .ref (a 0) :: rest)) :=
  va_put (D := D) (ci := 0) (v := .int v) (ty := .int) (C := RX0) (T := TX0) (N := 30) E.1 E.2.1 E.2.2.2.1 in_X0 tyX0 tyX0_ok nmX0 E.2.2.1 E.2.2.2.2 hW.1 hW.2.1 hW.2.2 0 rfl rfl 13 (by decide) (E.2.2.2.1 _ q55) (fun _ h9 => h9) rfl (by decide +kernel) rfl rfl (Nat.le_of_ble_eq_true rfl) hdg (fun H1 locs1 h1 h2 h3 => kk H1 locs1 ⟨h1, h2, h3⟩)
theorem gX_14 (E : XE RX0 p s m args c cc D cs) (hW : PW D (xW cs a S) A H0 H locs) {v : Int32} (hv : S 14 0 = v) (hdg : decode cc pc = .ok (.getfield 107, 3)) (kk : W p l e R s m args below meth c H locs cells slots Q (F0 m (pc + 3) ls (.int v :: rest))) : W p l e R s m args below meth c H locs cells slots Q (F0 m pc ls (.ref (a 0) :: rest)) := by
  subst hv
  exact va_get (D := D) (ci := 0) (v := .int (S 14 0)) (C := RX0) (T := TX0) (N := 30) E.1 E.2.1 E.2.2.2.1 in_X0 E.2.2.1 E.2.2.2.2 hW.1 0 rfl rfl 14 (by decide) (E.2.2.2.1 _ q56) (fun _ h9 => h9) rfl hdg kk
theorem pX_14 (E : XE RX0 p s m args c cc D cs) (hW : PW D (xW cs a S) A H0 H locs) {v : Int32} (hdg : decode cc pc = .ok (.putfield 107, 3)) (kk : ∀ (H : Heap) (locs : List Loc), PW D (xW cs a (sput S 14 0 v)) A H0 H locs → W p l e R s m args below meth c H locs cells slots Q (F0 m (pc + 3) ls (rest))) : W p l e R s m args below meth c H locs cells slots Q (F0 m pc ls (.int v :: .ref (a 0) :: rest)) :=
  va_put (D := D) (ci := 0) (v := .int v) (ty := .int) (C := RX0) (T := TX0) (N := 30) E.1 E.2.1 E.2.2.2.1 in_X0 tyX0 tyX0_ok nmX0 E.2.2.1 E.2.2.2.2 hW.1 hW.2.1 hW.2.2 0 rfl rfl 14 (by decide) (E.2.2.2.1 _ q56) (fun _ h9 => h9) rfl (by decide +kernel) rfl rfl (Nat.le_of_ble_eq_true rfl) hdg (fun H1 locs1 h1 h2 h3 => kk H1 locs1 ⟨h1, h2, h3⟩)
theorem gX_15 (E : XE RX0 p s m args c cc D cs) (hW : PW D (xW cs a S) A H0 H locs) {v : Int32} (hv : S 15 0 = v) (hdg : decode cc pc = .ok (.getfield 104, 3)) (kk : W p l e R s m args below meth c H locs cells slots Q (F0 m (pc + 3) ls (.int v :: rest))) : W p l e R s m args below meth c H locs cells slots Q (F0 m pc ls (.ref (a 0) :: rest)) := by
  subst hv
  exact va_get (D := D) (ci := 0) (v := .int (S 15 0)) (C := RX0) (T := TX0) (N := 30) E.1 E.2.1 E.2.2.2.1 in_X0 E.2.2.1 E.2.2.2.2 hW.1 0 rfl rfl 15 (by decide) (E.2.2.2.1 _ q57) (fun _ h9 => h9) rfl hdg kk
theorem pX_15 (E : XE RX0 p s m args c cc D cs) (hW : PW D (xW cs a S) A H0 H locs) {v : Int32} (hdg : decode cc pc = .ok (.putfield 104, 3)) (kk : ∀ (H : Heap) (locs : List Loc), PW D (xW cs a (sput S 15 0 v)) A H0 H locs → W p l e R s m args below meth c H locs cells slots Q (F0 m (pc + 3) ls (rest))) : W p l e R s m args below meth c H locs cells slots Q (F0 m pc ls (.int v :: .ref (a 0) :: rest)) :=
  va_put (D := D) (ci := 0) (v := .int v) (ty := .int) (C := RX0) (T := TX0) (N := 30) E.1 E.2.1 E.2.2.2.1 in_X0 tyX0 tyX0_ok nmX0 E.2.2.1 E.2.2.2.2 hW.1 hW.2.1 hW.2.2 0 rfl rfl 15 (by decide) (E.2.2.2.1 _ q57) (fun _ h9 => h9) rfl (by decide +kernel) rfl rfl (Nat.le_of_ble_eq_true rfl) hdg (fun H1 locs1 h1 h2 h3 => kk H1 locs1 ⟨h1, h2, h3⟩)
theorem gX_16 (E : XE RX0 p s m args c cc D cs) (hW : PW D (xW cs a S) A H0 H locs) (hdg : decode cc pc = .ok (.getfield 41, 3)) (kk : W p l e R s m args below meth c H locs cells slots Q (F0 m (pc + 3) ls (.ref (a 16) :: rest))) : W p l e R s m args below meth c H locs cells slots Q (F0 m pc ls (.ref (a 0) :: rest)) :=
  va_get (D := D) (ci := 0) (v := .ref (a 16)) (C := RX0) (T := TX0) (N := 30) E.1 E.2.1 E.2.2.2.1 in_X0 E.2.2.1 E.2.2.2.2 hW.1 0 rfl rfl 16 (by decide) (E.2.2.2.1 _ q58) (fun _ h9 => h9) rfl hdg kk
theorem lX_16 (E : XE RX0 p s m args c cc D cs) (hW : PW D (xW cs a S) A H0 H locs) {i : Int32} {j : Nat} (hi : i = nI j) (hj : j < 8) {v : Int32} (hv : S 16 j = v) (hdg : decode cc pc = .ok (.baload, 1)) (kk : W p l e R s m args below meth c H locs cells slots Q (F0 m (pc + 1) ls (.int v :: rest))) : W p l e R s m args below meth c H locs cells slots Q (F0 m pc ls (.int i :: .ref (a 16) :: rest)) := by
  subst hi; subst hv
  refine va_bald (D := D) E.1 E.2.1 E.2.2.2.2 hW.1 11 0 rfl rfl (vp_in_nI hj (by decide)) hdg ?_
  rw [nI_clamp (by omega)]
  exact kk
theorem sX_16 (E : XE RX0 p s m args c cc D cs) (hW : PW D (xW cs a S) A H0 H locs) {i x : Int32} {j : Nat} (hi : i = nI j) (hj : j < 8) {v : Int32} (hv : vp_nar .byte x = v) (hdg : decode cc pc = .ok (.bastore, 1)) (kk : ∀ (H : Heap) (locs : List Loc), PW D (xW cs a (sput S 16 j v)) A H0 H locs → W p l e R s m args below meth c H locs cells slots Q (F0 m (pc + 1) ls (rest))) : W p l e R s m args below meth c H locs cells slots Q (F0 m pc ls (.int x :: .int i :: .ref (a 16) :: rest)) := by
  subst hi; subst hv
  refine va_bast (D := D) E.1 E.2.1 E.2.2.2.2 hW.1 hW.2.1 hW.2.2 11 0 rfl rfl (vp_in_nI hj (by decide)) hdg ?_
  rw [nI_clamp (by omega)]
  exact fun H1 locs1 h1 h2 h3 => kk H1 locs1 ⟨h1, h2, h3⟩
theorem gX_17 (E : XE RX0 p s m args c cc D cs) (hW : PW D (xW cs a S) A H0 H locs) (hdg : decode cc pc = .ok (.getfield 44, 3)) (kk : W p l e R s m args below meth c H locs cells slots Q (F0 m (pc + 3) ls (.ref (a 17) :: rest))) : W p l e R s m args below meth c H locs cells slots Q (F0 m pc ls (.ref (a 0) :: rest)) :=
  va_get (D := D) (ci := 0) (v := .ref (a 17)) (C := RX0) (T := TX0) (N := 30) E.1 E.2.1 E.2.2.2.1 in_X0 E.2.2.1 E.2.2.2.2 hW.1 0 rfl rfl 17 (by decide) (E.2.2.2.1 _ q59) (fun _ h9 => h9) rfl hdg kk
theorem lX_17 (E : XE RX0 p s m args c cc D cs) (hW : PW D (xW cs a S) A H0 H locs) {i : Int32} {j : Nat} (hi : i = nI j) (hj : j < 8) {v : Int32} (hv : S 17 j = v) (hdg : decode cc pc = .ok (.baload, 1)) (kk : W p l e R s m args below meth c H locs cells slots Q (F0 m (pc + 1) ls (.int v :: rest))) : W p l e R s m args below meth c H locs cells slots Q (F0 m pc ls (.int i :: .ref (a 17) :: rest)) := by
  subst hi; subst hv
  refine va_bald (D := D) E.1 E.2.1 E.2.2.2.2 hW.1 12 0 rfl rfl (vp_in_nI hj (by decide)) hdg ?_
  rw [nI_clamp (by omega)]
  exact kk
theorem sX_17 (E : XE RX0 p s m args c cc D cs) (hW : PW D (xW cs a S) A H0 H locs) {i x : Int32} {j : Nat} (hi : i = nI j) (hj : j < 8) {v : Int32} (hv : vp_nar .byte x = v) (hdg : decode cc pc = .ok (.bastore, 1)) (kk : ∀ (H : Heap) (locs : List Loc), PW D (xW cs a (sput S 17 j v)) A H0 H locs → W p l e R s m args below meth c H locs cells slots Q (F0 m (pc + 1) ls (rest))) : W p l e R s m args below meth c H locs cells slots Q (F0 m pc ls (.int x :: .int i :: .ref (a 17) :: rest)) := by
  subst hi; subst hv
  refine va_bast (D := D) E.1 E.2.1 E.2.2.2.2 hW.1 hW.2.1 hW.2.2 12 0 rfl rfl (vp_in_nI hj (by decide)) hdg ?_
  rw [nI_clamp (by omega)]
  exact fun H1 locs1 h1 h2 h3 => kk H1 locs1 ⟨h1, h2, h3⟩
theorem gX_18 (E : XE RX0 p s m args c cc D cs) (hW : PW D (xW cs a S) A H0 H locs) (hdg : decode cc pc = .ok (.getfield 47, 3)) (kk : W p l e R s m args below meth c H locs cells slots Q (F0 m (pc + 3) ls (.ref (a 18) :: rest))) : W p l e R s m args below meth c H locs cells slots Q (F0 m pc ls (.ref (a 0) :: rest)) :=
  va_get (D := D) (ci := 0) (v := .ref (a 18)) (C := RX0) (T := TX0) (N := 30) E.1 E.2.1 E.2.2.2.1 in_X0 E.2.2.1 E.2.2.2.2 hW.1 0 rfl rfl 18 (by decide) (E.2.2.2.1 _ q60) (fun _ h9 => h9) rfl hdg kk
theorem lX_18 (E : XE RX0 p s m args c cc D cs) (hW : PW D (xW cs a S) A H0 H locs) {i : Int32} {j : Nat} (hi : i = nI j) (hj : j < 8) {v : Int32} (hv : S 18 j = v) (hdg : decode cc pc = .ok (.baload, 1)) (kk : W p l e R s m args below meth c H locs cells slots Q (F0 m (pc + 1) ls (.int v :: rest))) : W p l e R s m args below meth c H locs cells slots Q (F0 m pc ls (.int i :: .ref (a 18) :: rest)) := by
  subst hi; subst hv
  refine va_bald (D := D) E.1 E.2.1 E.2.2.2.2 hW.1 13 0 rfl rfl (vp_in_nI hj (by decide)) hdg ?_
  rw [nI_clamp (by omega)]
  exact kk
theorem sX_18 (E : XE RX0 p s m args c cc D cs) (hW : PW D (xW cs a S) A H0 H locs) {i x : Int32} {j : Nat} (hi : i = nI j) (hj : j < 8) {v : Int32} (hv : vp_nar .byte x = v) (hdg : decode cc pc = .ok (.bastore, 1)) (kk : ∀ (H : Heap) (locs : List Loc), PW D (xW cs a (sput S 18 j v)) A H0 H locs → W p l e R s m args below meth c H locs cells slots Q (F0 m (pc + 1) ls (rest))) : W p l e R s m args below meth c H locs cells slots Q (F0 m pc ls (.int x :: .int i :: .ref (a 18) :: rest)) := by
  subst hi; subst hv
  refine va_bast (D := D) E.1 E.2.1 E.2.2.2.2 hW.1 hW.2.1 hW.2.2 13 0 rfl rfl (vp_in_nI hj (by decide)) hdg ?_
  rw [nI_clamp (by omega)]
  exact fun H1 locs1 h1 h2 h3 => kk H1 locs1 ⟨h1, h2, h3⟩
theorem gX_19 (E : XE RX0 p s m args c cc D cs) (hW : PW D (xW cs a S) A H0 H locs) (hdg : decode cc pc = .ok (.getfield 50, 3)) (kk : W p l e R s m args below meth c H locs cells slots Q (F0 m (pc + 3) ls (.ref (a 19) :: rest))) : W p l e R s m args below meth c H locs cells slots Q (F0 m pc ls (.ref (a 0) :: rest)) :=
  va_get (D := D) (ci := 0) (v := .ref (a 19)) (C := RX0) (T := TX0) (N := 30) E.1 E.2.1 E.2.2.2.1 in_X0 E.2.2.1 E.2.2.2.2 hW.1 0 rfl rfl 19 (by decide) (E.2.2.2.1 _ q61) (fun _ h9 => h9) rfl hdg kk
theorem lX_19 (E : XE RX0 p s m args c cc D cs) (hW : PW D (xW cs a S) A H0 H locs) {i : Int32} {j : Nat} (hi : i = nI j) (hj : j < 8) {v : Int32} (hv : S 19 j = v) (hdg : decode cc pc = .ok (.baload, 1)) (kk : W p l e R s m args below meth c H locs cells slots Q (F0 m (pc + 1) ls (.int v :: rest))) : W p l e R s m args below meth c H locs cells slots Q (F0 m pc ls (.int i :: .ref (a 19) :: rest)) := by
  subst hi; subst hv
  refine va_bald (D := D) E.1 E.2.1 E.2.2.2.2 hW.1 14 0 rfl rfl (vp_in_nI hj (by decide)) hdg ?_
  rw [nI_clamp (by omega)]
  exact kk
theorem sX_19 (E : XE RX0 p s m args c cc D cs) (hW : PW D (xW cs a S) A H0 H locs) {i x : Int32} {j : Nat} (hi : i = nI j) (hj : j < 8) {v : Int32} (hv : vp_nar .byte x = v) (hdg : decode cc pc = .ok (.bastore, 1)) (kk : ∀ (H : Heap) (locs : List Loc), PW D (xW cs a (sput S 19 j v)) A H0 H locs → W p l e R s m args below meth c H locs cells slots Q (F0 m (pc + 1) ls (rest))) : W p l e R s m args below meth c H locs cells slots Q (F0 m pc ls (.int x :: .int i :: .ref (a 19) :: rest)) := by
  subst hi; subst hv
  refine va_bast (D := D) E.1 E.2.1 E.2.2.2.2 hW.1 hW.2.1 hW.2.2 14 0 rfl rfl (vp_in_nI hj (by decide)) hdg ?_
  rw [nI_clamp (by omega)]
  exact fun H1 locs1 h1 h2 h3 => kk H1 locs1 ⟨h1, h2, h3⟩
theorem gX_20 (E : XE RX0 p s m args c cc D cs) (hW : PW D (xW cs a S) A H0 H locs) (hdg : decode cc pc = .ok (.getfield 53, 3)) (kk : W p l e R s m args below meth c H locs cells slots Q (F0 m (pc + 3) ls (.ref (a 20) :: rest))) : W p l e R s m args below meth c H locs cells slots Q (F0 m pc ls (.ref (a 0) :: rest)) :=
  va_get (D := D) (ci := 0) (v := .ref (a 20)) (C := RX0) (T := TX0) (N := 30) E.1 E.2.1 E.2.2.2.1 in_X0 E.2.2.1 E.2.2.2.2 hW.1 0 rfl rfl 20 (by decide) (E.2.2.2.1 _ q62) (fun _ h9 => h9) rfl hdg kk
theorem lX_20 (E : XE RX0 p s m args c cc D cs) (hW : PW D (xW cs a S) A H0 H locs) {i : Int32} {j : Nat} (hi : i = nI j) (hj : j < 8) {v : Int32} (hv : S 20 j = v) (hdg : decode cc pc = .ok (.iaload, 1)) (kk : W p l e R s m args below meth c H locs cells slots Q (F0 m (pc + 1) ls (.int v :: rest))) : W p l e R s m args below meth c H locs cells slots Q (F0 m pc ls (.int i :: .ref (a 20) :: rest)) := by
  subst hi; subst hv
  refine va_iald (D := D) E.1 E.2.1 E.2.2.2.2 hW.1 15 1 rfl rfl (vp_in_nI hj (by decide)) hdg ?_
  rw [nI_clamp (by omega)]
  exact kk
theorem sX_20 (E : XE RX0 p s m args c cc D cs) (hW : PW D (xW cs a S) A H0 H locs) {i x : Int32} {j : Nat} (hi : i = nI j) (hj : j < 8) (hdg : decode cc pc = .ok (.iastore, 1)) (kk : ∀ (H : Heap) (locs : List Loc), PW D (xW cs a (sput S 20 j x)) A H0 H locs → W p l e R s m args below meth c H locs cells slots Q (F0 m (pc + 1) ls (rest))) : W p l e R s m args below meth c H locs cells slots Q (F0 m pc ls (.int x :: .int i :: .ref (a 20) :: rest)) := by
  subst hi
  refine va_iast (D := D) E.1 E.2.1 E.2.2.2.2 hW.1 hW.2.1 hW.2.2 15 1 rfl rfl (vp_in_nI hj (by decide)) hdg ?_
  rw [nI_clamp (by omega)]
  exact fun H1 locs1 h1 h2 h3 => kk H1 locs1 ⟨h1, h2, h3⟩
theorem gX_21 (E : XE RX0 p s m args c cc D cs) (hW : PW D (xW cs a S) A H0 H locs) (hdg : decode cc pc = .ok (.getfield 56, 3)) (kk : W p l e R s m args below meth c H locs cells slots Q (F0 m (pc + 3) ls (.ref (a 21) :: rest))) : W p l e R s m args below meth c H locs cells slots Q (F0 m pc ls (.ref (a 0) :: rest)) :=
  va_get (D := D) (ci := 0) (v := .ref (a 21)) (C := RX0) (T := TX0) (N := 30) E.1 E.2.1 E.2.2.2.1 in_X0 E.2.2.1 E.2.2.2.2 hW.1 0 rfl rfl 21 (by decide) (E.2.2.2.1 _ q63) (fun _ h9 => h9) rfl hdg kk
theorem lX_21 (E : XE RX0 p s m args c cc D cs) (hW : PW D (xW cs a S) A H0 H locs) {i : Int32} {j : Nat} (hi : i = nI j) (hj : j < 8) {v : Int32} (hv : S 21 j = v) (hdg : decode cc pc = .ok (.baload, 1)) (kk : W p l e R s m args below meth c H locs cells slots Q (F0 m (pc + 1) ls (.int v :: rest))) : W p l e R s m args below meth c H locs cells slots Q (F0 m pc ls (.int i :: .ref (a 21) :: rest)) := by
  subst hi; subst hv
  refine va_bald (D := D) E.1 E.2.1 E.2.2.2.2 hW.1 16 0 rfl rfl (vp_in_nI hj (by decide)) hdg ?_
  rw [nI_clamp (by omega)]
  exact kk
theorem sX_21 (E : XE RX0 p s m args c cc D cs) (hW : PW D (xW cs a S) A H0 H locs) {i x : Int32} {j : Nat} (hi : i = nI j) (hj : j < 8) {v : Int32} (hv : vp_nar .byte x = v) (hdg : decode cc pc = .ok (.bastore, 1)) (kk : ∀ (H : Heap) (locs : List Loc), PW D (xW cs a (sput S 21 j v)) A H0 H locs → W p l e R s m args below meth c H locs cells slots Q (F0 m (pc + 1) ls (rest))) : W p l e R s m args below meth c H locs cells slots Q (F0 m pc ls (.int x :: .int i :: .ref (a 21) :: rest)) := by
  subst hi; subst hv
  refine va_bast (D := D) E.1 E.2.1 E.2.2.2.2 hW.1 hW.2.1 hW.2.2 16 0 rfl rfl (vp_in_nI hj (by decide)) hdg ?_
  rw [nI_clamp (by omega)]
  exact fun H1 locs1 h1 h2 h3 => kk H1 locs1 ⟨h1, h2, h3⟩
theorem gX_22 (E : XE RX0 p s m args c cc D cs) (hW : PW D (xW cs a S) A H0 H locs) (hdg : decode cc pc = .ok (.getfield 59, 3)) (kk : W p l e R s m args below meth c H locs cells slots Q (F0 m (pc + 3) ls (.ref (a 22) :: rest))) : W p l e R s m args below meth c H locs cells slots Q (F0 m pc ls (.ref (a 0) :: rest)) :=
  va_get (D := D) (ci := 0) (v := .ref (a 22)) (C := RX0) (T := TX0) (N := 30) E.1 E.2.1 E.2.2.2.1 in_X0 E.2.2.1 E.2.2.2.2 hW.1 0 rfl rfl 22 (by decide) (E.2.2.2.1 _ q64) (fun _ h9 => h9) rfl hdg kk
theorem lX_22 (E : XE RX0 p s m args c cc D cs) (hW : PW D (xW cs a S) A H0 H locs) {i : Int32} {j : Nat} (hi : i = nI j) (hj : j < 8) {v : Int32} (hv : S 22 j = v) (hdg : decode cc pc = .ok (.iaload, 1)) (kk : W p l e R s m args below meth c H locs cells slots Q (F0 m (pc + 1) ls (.int v :: rest))) : W p l e R s m args below meth c H locs cells slots Q (F0 m pc ls (.int i :: .ref (a 22) :: rest)) := by
  subst hi; subst hv
  refine va_iald (D := D) E.1 E.2.1 E.2.2.2.2 hW.1 17 1 rfl rfl (vp_in_nI hj (by decide)) hdg ?_
  rw [nI_clamp (by omega)]
  exact kk
theorem sX_22 (E : XE RX0 p s m args c cc D cs) (hW : PW D (xW cs a S) A H0 H locs) {i x : Int32} {j : Nat} (hi : i = nI j) (hj : j < 8) (hdg : decode cc pc = .ok (.iastore, 1)) (kk : ∀ (H : Heap) (locs : List Loc), PW D (xW cs a (sput S 22 j x)) A H0 H locs → W p l e R s m args below meth c H locs cells slots Q (F0 m (pc + 1) ls (rest))) : W p l e R s m args below meth c H locs cells slots Q (F0 m pc ls (.int x :: .int i :: .ref (a 22) :: rest)) := by
  subst hi
  refine va_iast (D := D) E.1 E.2.1 E.2.2.2.2 hW.1 hW.2.1 hW.2.2 17 1 rfl rfl (vp_in_nI hj (by decide)) hdg ?_
  rw [nI_clamp (by omega)]
  exact fun H1 locs1 h1 h2 h3 => kk H1 locs1 ⟨h1, h2, h3⟩
theorem gX_23 (E : XE RX0 p s m args c cc D cs) (hW : PW D (xW cs a S) A H0 H locs) (hdg : decode cc pc = .ok (.getfield 62, 3)) (kk : W p l e R s m args below meth c H locs cells slots Q (F0 m (pc + 3) ls (.ref (a 23) :: rest))) : W p l e R s m args below meth c H locs cells slots Q (F0 m pc ls (.ref (a 0) :: rest)) :=
  va_get (D := D) (ci := 0) (v := .ref (a 23)) (C := RX0) (T := TX0) (N := 30) E.1 E.2.1 E.2.2.2.1 in_X0 E.2.2.1 E.2.2.2.2 hW.1 0 rfl rfl 23 (by decide) (E.2.2.2.1 _ q65) (fun _ h9 => h9) rfl hdg kk
theorem lX_23 (E : XE RX0 p s m args c cc D cs) (hW : PW D (xW cs a S) A H0 H locs) {i : Int32} {j : Nat} (hi : i = nI j) (hj : j < 8) {v : Int32} (hv : S 23 j = v) (hdg : decode cc pc = .ok (.baload, 1)) (kk : W p l e R s m args below meth c H locs cells slots Q (F0 m (pc + 1) ls (.int v :: rest))) : W p l e R s m args below meth c H locs cells slots Q (F0 m pc ls (.int i :: .ref (a 23) :: rest)) := by
  subst hi; subst hv
  refine va_zald (D := D) E.1 E.2.1 E.2.2.2.2 hW.1 18 2 rfl rfl (vp_in_nI hj (by decide)) hdg ?_
  rw [nI_clamp (by omega)]
  exact kk
theorem sX_23 (E : XE RX0 p s m args c cc D cs) (hW : PW D (xW cs a S) A H0 H locs) {i x : Int32} {j : Nat} (hi : i = nI j) (hj : j < 8) {v : Int32} (hv : vp_nar .boolean x = v) (hdg : decode cc pc = .ok (.bastore, 1)) (kk : ∀ (H : Heap) (locs : List Loc), PW D (xW cs a (sput S 23 j v)) A H0 H locs → W p l e R s m args below meth c H locs cells slots Q (F0 m (pc + 1) ls (rest))) : W p l e R s m args below meth c H locs cells slots Q (F0 m pc ls (.int x :: .int i :: .ref (a 23) :: rest)) := by
  subst hi; subst hv
  refine va_zast (D := D) E.1 E.2.1 E.2.2.2.2 hW.1 hW.2.1 hW.2.2 18 2 rfl rfl (vp_in_nI hj (by decide)) hdg ?_
  rw [nI_clamp (by omega)]
  exact fun H1 locs1 h1 h2 h3 => kk H1 locs1 ⟨h1, h2, h3⟩
theorem gX_24 (E : XE RX0 p s m args c cc D cs) (hW : PW D (xW cs a S) A H0 H locs) (hdg : decode cc pc = .ok (.getfield 66, 3)) (kk : W p l e R s m args below meth c H locs cells slots Q (F0 m (pc + 3) ls (.ref (a 24) :: rest))) : W p l e R s m args below meth c H locs cells slots Q (F0 m pc ls (.ref (a 0) :: rest)) :=
  va_get (D := D) (ci := 0) (v := .ref (a 24)) (C := RX0) (T := TX0) (N := 30) E.1 E.2.1 E.2.2.2.1 in_X0 E.2.2.1 E.2.2.2.2 hW.1 0 rfl rfl 24 (by decide) (E.2.2.2.1 _ q66) (fun _ h9 => h9) rfl hdg kk
theorem lX_24 (E : XE RX0 p s m args c cc D cs) (hW : PW D (xW cs a S) A H0 H locs) {i : Int32} {j : Nat} (hi : i = nI j) (hj : j < 8) {v : Int32} (hv : S 24 j = v) (hdg : decode cc pc = .ok (.baload, 1)) (kk : W p l e R s m args below meth c H locs cells slots Q (F0 m (pc + 1) ls (.int v :: rest))) : W p l e R s m args below meth c H locs cells slots Q (F0 m pc ls (.int i :: .ref (a 24) :: rest)) := by
  subst hi; subst hv
  refine va_bald (D := D) E.1 E.2.1 E.2.2.2.2 hW.1 19 0 rfl rfl (vp_in_nI hj (by decide)) hdg ?_
  rw [nI_clamp (by omega)]
  exact kk
theorem sX_24 (E : XE RX0 p s m args c cc D cs) (hW : PW D (xW cs a S) A H0 H locs) {i x : Int32} {j : Nat} (hi : i = nI j) (hj : j < 8) {v : Int32} (hv : vp_nar .byte x = v) (hdg : decode cc pc = .ok (.bastore, 1)) (kk : ∀ (H : Heap) (locs : List Loc), PW D (xW cs a (sput S 24 j v)) A H0 H locs → W p l e R s m args below meth c H locs cells slots Q (F0 m (pc + 1) ls (rest))) : W p l e R s m args below meth c H locs cells slots Q (F0 m pc ls (.int x :: .int i :: .ref (a 24) :: rest)) := by
  subst hi; subst hv
  refine va_bast (D := D) E.1 E.2.1 E.2.2.2.2 hW.1 hW.2.1 hW.2.2 19 0 rfl rfl (vp_in_nI hj (by decide)) hdg ?_
  rw [nI_clamp (by omega)]
  exact fun H1 locs1 h1 h2 h3 => kk H1 locs1 ⟨h1, h2, h3⟩
theorem gX_25 (E : XE RX0 p s m args c cc D cs) (hW : PW D (xW cs a S) A H0 H locs) (hdg : decode cc pc = .ok (.getfield 69, 3)) (kk : W p l e R s m args below meth c H locs cells slots Q (F0 m (pc + 3) ls (.ref (a 25) :: rest))) : W p l e R s m args below meth c H locs cells slots Q (F0 m pc ls (.ref (a 0) :: rest)) :=
  va_get (D := D) (ci := 0) (v := .ref (a 25)) (C := RX0) (T := TX0) (N := 30) E.1 E.2.1 E.2.2.2.1 in_X0 E.2.2.1 E.2.2.2.2 hW.1 0 rfl rfl 25 (by decide) (E.2.2.2.1 _ q67) (fun _ h9 => h9) rfl hdg kk
theorem lX_25 (E : XE RX0 p s m args c cc D cs) (hW : PW D (xW cs a S) A H0 H locs) {i : Int32} {j : Nat} (hi : i = nI j) (hj : j < 8) {v : Int32} (hv : S 25 j = v) (hdg : decode cc pc = .ok (.baload, 1)) (kk : W p l e R s m args below meth c H locs cells slots Q (F0 m (pc + 1) ls (.int v :: rest))) : W p l e R s m args below meth c H locs cells slots Q (F0 m pc ls (.int i :: .ref (a 25) :: rest)) := by
  subst hi; subst hv
  refine va_zald (D := D) E.1 E.2.1 E.2.2.2.2 hW.1 20 2 rfl rfl (vp_in_nI hj (by decide)) hdg ?_
  rw [nI_clamp (by omega)]
  exact kk
theorem sX_25 (E : XE RX0 p s m args c cc D cs) (hW : PW D (xW cs a S) A H0 H locs) {i x : Int32} {j : Nat} (hi : i = nI j) (hj : j < 8) {v : Int32} (hv : vp_nar .boolean x = v) (hdg : decode cc pc = .ok (.bastore, 1)) (kk : ∀ (H : Heap) (locs : List Loc), PW D (xW cs a (sput S 25 j v)) A H0 H locs → W p l e R s m args below meth c H locs cells slots Q (F0 m (pc + 1) ls (rest))) : W p l e R s m args below meth c H locs cells slots Q (F0 m pc ls (.int x :: .int i :: .ref (a 25) :: rest)) := by
  subst hi; subst hv
  refine va_zast (D := D) E.1 E.2.1 E.2.2.2.2 hW.1 hW.2.1 hW.2.2 20 2 rfl rfl (vp_in_nI hj (by decide)) hdg ?_
  rw [nI_clamp (by omega)]
  exact fun H1 locs1 h1 h2 h3 => kk H1 locs1 ⟨h1, h2, h3⟩
theorem gX_26 (E : XE RX0 p s m args c cc D cs) (hW : PW D (xW cs a S) A H0 H locs) (hdg : decode cc pc = .ok (.getfield 72, 3)) (kk : W p l e R s m args below meth c H locs cells slots Q (F0 m (pc + 3) ls (.ref (a 26) :: rest))) : W p l e R s m args below meth c H locs cells slots Q (F0 m pc ls (.ref (a 0) :: rest)) :=
  va_get (D := D) (ci := 0) (v := .ref (a 26)) (C := RX0) (T := TX0) (N := 30) E.1 E.2.1 E.2.2.2.1 in_X0 E.2.2.1 E.2.2.2.2 hW.1 0 rfl rfl 26 (by decide) (E.2.2.2.1 _ q68) (fun _ h9 => h9) rfl hdg kk
theorem lX_26 (E : XE RX0 p s m args c cc D cs) (hW : PW D (xW cs a S) A H0 H locs) {i : Int32} {j : Nat} (hi : i = nI j) (hj : j < 8) {v : Int32} (hv : S 26 j = v) (hdg : decode cc pc = .ok (.iaload, 1)) (kk : W p l e R s m args below meth c H locs cells slots Q (F0 m (pc + 1) ls (.int v :: rest))) : W p l e R s m args below meth c H locs cells slots Q (F0 m pc ls (.int i :: .ref (a 26) :: rest)) := by
  subst hi; subst hv
  refine va_iald (D := D) E.1 E.2.1 E.2.2.2.2 hW.1 21 1 rfl rfl (vp_in_nI hj (by decide)) hdg ?_
  rw [nI_clamp (by omega)]
  exact kk
theorem sX_26 (E : XE RX0 p s m args c cc D cs) (hW : PW D (xW cs a S) A H0 H locs) {i x : Int32} {j : Nat} (hi : i = nI j) (hj : j < 8) (hdg : decode cc pc = .ok (.iastore, 1)) (kk : ∀ (H : Heap) (locs : List Loc), PW D (xW cs a (sput S 26 j x)) A H0 H locs → W p l e R s m args below meth c H locs cells slots Q (F0 m (pc + 1) ls (rest))) : W p l e R s m args below meth c H locs cells slots Q (F0 m pc ls (.int x :: .int i :: .ref (a 26) :: rest)) := by
  subst hi
  refine va_iast (D := D) E.1 E.2.1 E.2.2.2.2 hW.1 hW.2.1 hW.2.2 21 1 rfl rfl (vp_in_nI hj (by decide)) hdg ?_
  rw [nI_clamp (by omega)]
  exact fun H1 locs1 h1 h2 h3 => kk H1 locs1 ⟨h1, h2, h3⟩
theorem gX_27 (E : XE RX0 p s m args c cc D cs) (hW : PW D (xW cs a S) A H0 H locs) (hdg : decode cc pc = .ok (.getfield 75, 3)) (kk : W p l e R s m args below meth c H locs cells slots Q (F0 m (pc + 3) ls (.ref (a 27) :: rest))) : W p l e R s m args below meth c H locs cells slots Q (F0 m pc ls (.ref (a 0) :: rest)) :=
  va_get (D := D) (ci := 0) (v := .ref (a 27)) (C := RX0) (T := TX0) (N := 30) E.1 E.2.1 E.2.2.2.1 in_X0 E.2.2.1 E.2.2.2.2 hW.1 0 rfl rfl 27 (by decide) (E.2.2.2.1 _ q69) (fun _ h9 => h9) rfl hdg kk
theorem lX_27 (E : XE RX0 p s m args c cc D cs) (hW : PW D (xW cs a S) A H0 H locs) {i : Int32} {j : Nat} (hi : i = nI j) (hj : j < 8) {v : Int32} (hv : S 27 j = v) (hdg : decode cc pc = .ok (.baload, 1)) (kk : W p l e R s m args below meth c H locs cells slots Q (F0 m (pc + 1) ls (.int v :: rest))) : W p l e R s m args below meth c H locs cells slots Q (F0 m pc ls (.int i :: .ref (a 27) :: rest)) := by
  subst hi; subst hv
  refine va_bald (D := D) E.1 E.2.1 E.2.2.2.2 hW.1 22 0 rfl rfl (vp_in_nI hj (by decide)) hdg ?_
  rw [nI_clamp (by omega)]
  exact kk
theorem sX_27 (E : XE RX0 p s m args c cc D cs) (hW : PW D (xW cs a S) A H0 H locs) {i x : Int32} {j : Nat} (hi : i = nI j) (hj : j < 8) {v : Int32} (hv : vp_nar .byte x = v) (hdg : decode cc pc = .ok (.bastore, 1)) (kk : ∀ (H : Heap) (locs : List Loc), PW D (xW cs a (sput S 27 j v)) A H0 H locs → W p l e R s m args below meth c H locs cells slots Q (F0 m (pc + 1) ls (rest))) : W p l e R s m args below meth c H locs cells slots Q (F0 m pc ls (.int x :: .int i :: .ref (a 27) :: rest)) := by
  subst hi; subst hv
  refine va_bast (D := D) E.1 E.2.1 E.2.2.2.2 hW.1 hW.2.1 hW.2.2 22 0 rfl rfl (vp_in_nI hj (by decide)) hdg ?_
  rw [nI_clamp (by omega)]
  exact fun H1 locs1 h1 h2 h3 => kk H1 locs1 ⟨h1, h2, h3⟩
theorem gX_28 (E : XE RX0 p s m args c cc D cs) (hW : PW D (xW cs a S) A H0 H locs) {v : Int32} (hv : S 28 0 = v) (hdg : decode cc pc = .ok (.getfield 125, 3)) (kk : W p l e R s m args below meth c H locs cells slots Q (F0 m (pc + 3) ls (.int v :: rest))) : W p l e R s m args below meth c H locs cells slots Q (F0 m pc ls (.ref (a 0) :: rest)) := by
  subst hv
  exact va_get (D := D) (ci := 0) (v := .int (S 28 0)) (C := RX0) (T := TX0) (N := 30) E.1 E.2.1 E.2.2.2.1 in_X0 E.2.2.1 E.2.2.2.2 hW.1 0 rfl rfl 28 (by decide) (E.2.2.2.1 _ q70) (fun _ h9 => h9) rfl hdg kk
theorem pX_28 (E : XE RX0 p s m args c cc D cs) (hW : PW D (xW cs a S) A H0 H locs) {v : Int32} (hdg : decode cc pc = .ok (.putfield 125, 3)) (kk : ∀ (H : Heap) (locs : List Loc), PW D (xW cs a (sput S 28 0 v)) A H0 H locs → W p l e R s m args below meth c H locs cells slots Q (F0 m (pc + 3) ls (rest))) : W p l e R s m args below meth c H locs cells slots Q (F0 m pc ls (.int v :: .ref (a 0) :: rest)) :=
  va_put (D := D) (ci := 0) (v := .int v) (ty := .int) (C := RX0) (T := TX0) (N := 30) E.1 E.2.1 E.2.2.2.1 in_X0 tyX0 tyX0_ok nmX0 E.2.2.1 E.2.2.2.2 hW.1 hW.2.1 hW.2.2 0 rfl rfl 28 (by decide) (E.2.2.2.1 _ q70) (fun _ h9 => h9) rfl (by decide +kernel) rfl rfl (Nat.le_of_ble_eq_true rfl) hdg (fun H1 locs1 h1 h2 h3 => kk H1 locs1 ⟨h1, h2, h3⟩)
theorem gX_29 (E : XE RX0 p s m args c cc D cs) (hW : PW D (xW cs a S) A H0 H locs) {v : Int32} (hv : S 29 0 = v) (hdg : decode cc pc = .ok (.getfield 101, 3)) (kk : W p l e R s m args below meth c H locs cells slots Q (F0 m (pc + 3) ls (.int v :: rest))) : W p l e R s m args below meth c H locs cells slots Q (F0 m pc ls (.ref (a 0) :: rest)) := by
  subst hv
  exact va_get (D := D) (ci := 0) (v := .int (S 29 0)) (C := RX0) (T := TX0) (N := 30) E.1 E.2.1 E.2.2.2.1 in_X0 E.2.2.1 E.2.2.2.2 hW.1 0 rfl rfl 29 (by decide) (E.2.2.2.1 _ q71) (fun _ h9 => h9) rfl hdg kk
theorem pX_29 (E : XE RX0 p s m args c cc D cs) (hW : PW D (xW cs a S) A H0 H locs) {v : Int32} (hdg : decode cc pc = .ok (.putfield 101, 3)) (kk : ∀ (H : Heap) (locs : List Loc), PW D (xW cs a (sput S 29 0 v)) A H0 H locs → W p l e R s m args below meth c H locs cells slots Q (F0 m (pc + 3) ls (rest))) : W p l e R s m args below meth c H locs cells slots Q (F0 m pc ls (.int v :: .ref (a 0) :: rest)) :=
  va_put (D := D) (ci := 0) (v := .int v) (ty := .int) (C := RX0) (T := TX0) (N := 30) E.1 E.2.1 E.2.2.2.1 in_X0 tyX0 tyX0_ok nmX0 E.2.2.1 E.2.2.2.2 hW.1 hW.2.1 hW.2.2 0 rfl rfl 29 (by decide) (E.2.2.2.1 _ q71) (fun _ h9 => h9) rfl (by decide +kernel) rfl rfl (Nat.le_of_ble_eq_true rfl) hdg (fun H1 locs1 h1 h2 h3 => kk H1 locs1 ⟨h1, h2, h3⟩)
end ROWSx
end
section
set_option maxRecDepth 100000
section ROWSm
variable {p : Program} {l : Launch} {e : Env} {R : Room} {s : State} {m : MethodId} {args : Array Value} {below : List Frame} {meth : Method} {c : Code} {H : Heap} {locs : List Loc} {cells slots : Nat} {Q : State → Prop}
variable {cc : ByteArray} {pc : Nat} {ls : Array Slot} {rest : List Value} {D : va_G} {cs : ClassId × ClassId × ClassId} {a : Nat → Nat} {S : St} {A : Nat → Prop} {H0 : Heap}
theorem gM_0 (E : XE RX1 p s m args c cc D cs) (hW : PW D (mW cs a S) A H0 H locs) {v : Int32} (hv : S 0 0 = v) (hdg : decode cc pc = .ok (.getfield 7, 3)) (kk : W p l e R s m args below meth c H locs cells slots Q (F0 m (pc + 3) ls (.int v :: rest))) : W p l e R s m args below meth c H locs cells slots Q (F0 m pc ls (.ref (a 0) :: rest)) := by
  subst hv
  exact va_get (D := D) (ci := 1) (v := .int (S 0 0)) (C := RX1) (T := TX1) (N := 9) E.1 E.2.1 E.2.2.2.1 in_X1 E.2.2.1 E.2.2.2.2 hW.1 0 rfl rfl 0 (by decide) (E.2.2.2.1 _ q255) (fun _ h9 => h9) rfl hdg kk
theorem pM_0 (E : XE RX1 p s m args c cc D cs) (hW : PW D (mW cs a S) A H0 H locs) {v : Int32} (hdg : decode cc pc = .ok (.putfield 7, 3)) (kk : ∀ (H : Heap) (locs : List Loc), PW D (mW cs a (sput S 0 0 v)) A H0 H locs → W p l e R s m args below meth c H locs cells slots Q (F0 m (pc + 3) ls (rest))) : W p l e R s m args below meth c H locs cells slots Q (F0 m pc ls (.int v :: .ref (a 0) :: rest)) :=
  va_put (D := D) (ci := 1) (v := .int v) (ty := .int) (C := RX1) (T := TX1) (N := 9) E.1 E.2.1 E.2.2.2.1 in_X1 tyX1 tyX1_ok nmX1 E.2.2.1 E.2.2.2.2 hW.1 hW.2.1 hW.2.2 0 rfl rfl 0 (by decide) (E.2.2.2.1 _ q255) (fun _ h9 => h9) rfl (by decide +kernel) rfl rfl (Nat.le_of_ble_eq_true rfl) hdg (fun H1 locs1 h1 h2 h3 => kk H1 locs1 ⟨h1, h2, h3⟩)
theorem gM_1 (E : XE RX1 p s m args c cc D cs) (hW : PW D (mW cs a S) A H0 H locs) (hdg : decode cc pc = .ok (.getfield 13, 3)) (kk : W p l e R s m args below meth c H locs cells slots Q (F0 m (pc + 3) ls (.ref (a 1) :: rest))) : W p l e R s m args below meth c H locs cells slots Q (F0 m pc ls (.ref (a 0) :: rest)) :=
  va_get (D := D) (ci := 1) (v := .ref (a 1)) (C := RX1) (T := TX1) (N := 9) E.1 E.2.1 E.2.2.2.1 in_X1 E.2.2.1 E.2.2.2.2 hW.1 0 rfl rfl 1 (by decide) (E.2.2.2.1 _ q256) (fun _ h9 => h9) rfl hdg kk
theorem lM_1 (E : XE RX1 p s m args c cc D cs) (hW : PW D (mW cs a S) A H0 H locs) {i : Int32} {j : Nat} (hi : i = nI j) (hj : j < 24) {v : Int32} (hv : S 1 j = v) (hdg : decode cc pc = .ok (.iaload, 1)) (kk : W p l e R s m args below meth c H locs cells slots Q (F0 m (pc + 1) ls (.int v :: rest))) : W p l e R s m args below meth c H locs cells slots Q (F0 m pc ls (.int i :: .ref (a 1) :: rest)) := by
  subst hi; subst hv
  refine va_iald (D := D) E.1 E.2.1 E.2.2.2.2 hW.1 1 1 rfl rfl (vp_in_nI hj (by decide)) hdg ?_
  rw [nI_clamp (by omega)]
  exact kk
theorem sM_1 (E : XE RX1 p s m args c cc D cs) (hW : PW D (mW cs a S) A H0 H locs) {i x : Int32} {j : Nat} (hi : i = nI j) (hj : j < 24) (hdg : decode cc pc = .ok (.iastore, 1)) (kk : ∀ (H : Heap) (locs : List Loc), PW D (mW cs a (sput S 1 j x)) A H0 H locs → W p l e R s m args below meth c H locs cells slots Q (F0 m (pc + 1) ls (rest))) : W p l e R s m args below meth c H locs cells slots Q (F0 m pc ls (.int x :: .int i :: .ref (a 1) :: rest)) := by
  subst hi
  refine va_iast (D := D) E.1 E.2.1 E.2.2.2.2 hW.1 hW.2.1 hW.2.2 1 1 rfl rfl (vp_in_nI hj (by decide)) hdg ?_
  rw [nI_clamp (by omega)]
  exact fun H1 locs1 h1 h2 h3 => kk H1 locs1 ⟨h1, h2, h3⟩
theorem gM_2 (E : XE RX1 p s m args c cc D cs) (hW : PW D (mW cs a S) A H0 H locs) (hdg : decode cc pc = .ok (.getfield 17, 3)) (kk : W p l e R s m args below meth c H locs cells slots Q (F0 m (pc + 3) ls (.ref (a 2) :: rest))) : W p l e R s m args below meth c H locs cells slots Q (F0 m pc ls (.ref (a 0) :: rest)) :=
  va_get (D := D) (ci := 1) (v := .ref (a 2)) (C := RX1) (T := TX1) (N := 9) E.1 E.2.1 E.2.2.2.1 in_X1 E.2.2.1 E.2.2.2.2 hW.1 0 rfl rfl 2 (by decide) (E.2.2.2.1 _ q257) (fun _ h9 => h9) rfl hdg kk
theorem lM_2 (E : XE RX1 p s m args c cc D cs) (hW : PW D (mW cs a S) A H0 H locs) {i : Int32} {j : Nat} (hi : i = nI j) (hj : j < 24) {v : Int32} (hv : S 2 j = v) (hdg : decode cc pc = .ok (.iaload, 1)) (kk : W p l e R s m args below meth c H locs cells slots Q (F0 m (pc + 1) ls (.int v :: rest))) : W p l e R s m args below meth c H locs cells slots Q (F0 m pc ls (.int i :: .ref (a 2) :: rest)) := by
  subst hi; subst hv
  refine va_iald (D := D) E.1 E.2.1 E.2.2.2.2 hW.1 2 1 rfl rfl (vp_in_nI hj (by decide)) hdg ?_
  rw [nI_clamp (by omega)]
  exact kk
theorem sM_2 (E : XE RX1 p s m args c cc D cs) (hW : PW D (mW cs a S) A H0 H locs) {i x : Int32} {j : Nat} (hi : i = nI j) (hj : j < 24) (hdg : decode cc pc = .ok (.iastore, 1)) (kk : ∀ (H : Heap) (locs : List Loc), PW D (mW cs a (sput S 2 j x)) A H0 H locs → W p l e R s m args below meth c H locs cells slots Q (F0 m (pc + 1) ls (rest))) : W p l e R s m args below meth c H locs cells slots Q (F0 m pc ls (.int x :: .int i :: .ref (a 2) :: rest)) := by
  subst hi
  refine va_iast (D := D) E.1 E.2.1 E.2.2.2.2 hW.1 hW.2.1 hW.2.2 2 1 rfl rfl (vp_in_nI hj (by decide)) hdg ?_
  rw [nI_clamp (by omega)]
  exact fun H1 locs1 h1 h2 h3 => kk H1 locs1 ⟨h1, h2, h3⟩
theorem gM_3 (E : XE RX1 p s m args c cc D cs) (hW : PW D (mW cs a S) A H0 H locs) (hdg : decode cc pc = .ok (.getfield 20, 3)) (kk : W p l e R s m args below meth c H locs cells slots Q (F0 m (pc + 3) ls (.ref (a 3) :: rest))) : W p l e R s m args below meth c H locs cells slots Q (F0 m pc ls (.ref (a 0) :: rest)) :=
  va_get (D := D) (ci := 1) (v := .ref (a 3)) (C := RX1) (T := TX1) (N := 9) E.1 E.2.1 E.2.2.2.1 in_X1 E.2.2.1 E.2.2.2.2 hW.1 0 rfl rfl 3 (by decide) (E.2.2.2.1 _ q258) (fun _ h9 => h9) rfl hdg kk
theorem lM_3 (E : XE RX1 p s m args c cc D cs) (hW : PW D (mW cs a S) A H0 H locs) {i : Int32} {j : Nat} (hi : i = nI j) (hj : j < 24) {v : Int32} (hv : S 3 j = v) (hdg : decode cc pc = .ok (.iaload, 1)) (kk : W p l e R s m args below meth c H locs cells slots Q (F0 m (pc + 1) ls (.int v :: rest))) : W p l e R s m args below meth c H locs cells slots Q (F0 m pc ls (.int i :: .ref (a 3) :: rest)) := by
  subst hi; subst hv
  refine va_iald (D := D) E.1 E.2.1 E.2.2.2.2 hW.1 3 1 rfl rfl (vp_in_nI hj (by decide)) hdg ?_
  rw [nI_clamp (by omega)]
  exact kk
theorem sM_3 (E : XE RX1 p s m args c cc D cs) (hW : PW D (mW cs a S) A H0 H locs) {i x : Int32} {j : Nat} (hi : i = nI j) (hj : j < 24) (hdg : decode cc pc = .ok (.iastore, 1)) (kk : ∀ (H : Heap) (locs : List Loc), PW D (mW cs a (sput S 3 j x)) A H0 H locs → W p l e R s m args below meth c H locs cells slots Q (F0 m (pc + 1) ls (rest))) : W p l e R s m args below meth c H locs cells slots Q (F0 m pc ls (.int x :: .int i :: .ref (a 3) :: rest)) := by
  subst hi
  refine va_iast (D := D) E.1 E.2.1 E.2.2.2.2 hW.1 hW.2.1 hW.2.2 3 1 rfl rfl (vp_in_nI hj (by decide)) hdg ?_
  rw [nI_clamp (by omega)]
  exact fun H1 locs1 h1 h2 h3 => kk H1 locs1 ⟨h1, h2, h3⟩
theorem gM_4 (E : XE RX1 p s m args c cc D cs) (hW : PW D (mW cs a S) A H0 H locs) (hdg : decode cc pc = .ok (.getfield 23, 3)) (kk : W p l e R s m args below meth c H locs cells slots Q (F0 m (pc + 3) ls (.ref (a 4) :: rest))) : W p l e R s m args below meth c H locs cells slots Q (F0 m pc ls (.ref (a 0) :: rest)) :=
  va_get (D := D) (ci := 1) (v := .ref (a 4)) (C := RX1) (T := TX1) (N := 9) E.1 E.2.1 E.2.2.2.1 in_X1 E.2.2.1 E.2.2.2.2 hW.1 0 rfl rfl 4 (by decide) (E.2.2.2.1 _ q259) (fun _ h9 => h9) rfl hdg kk
theorem lM_4 (E : XE RX1 p s m args c cc D cs) (hW : PW D (mW cs a S) A H0 H locs) {i : Int32} {j : Nat} (hi : i = nI j) (hj : j < 24) {v : Int32} (hv : S 4 j = v) (hdg : decode cc pc = .ok (.iaload, 1)) (kk : W p l e R s m args below meth c H locs cells slots Q (F0 m (pc + 1) ls (.int v :: rest))) : W p l e R s m args below meth c H locs cells slots Q (F0 m pc ls (.int i :: .ref (a 4) :: rest)) := by
  subst hi; subst hv
  refine va_iald (D := D) E.1 E.2.1 E.2.2.2.2 hW.1 4 1 rfl rfl (vp_in_nI hj (by decide)) hdg ?_
  rw [nI_clamp (by omega)]
  exact kk
theorem sM_4 (E : XE RX1 p s m args c cc D cs) (hW : PW D (mW cs a S) A H0 H locs) {i x : Int32} {j : Nat} (hi : i = nI j) (hj : j < 24) (hdg : decode cc pc = .ok (.iastore, 1)) (kk : ∀ (H : Heap) (locs : List Loc), PW D (mW cs a (sput S 4 j x)) A H0 H locs → W p l e R s m args below meth c H locs cells slots Q (F0 m (pc + 1) ls (rest))) : W p l e R s m args below meth c H locs cells slots Q (F0 m pc ls (.int x :: .int i :: .ref (a 4) :: rest)) := by
  subst hi
  refine va_iast (D := D) E.1 E.2.1 E.2.2.2.2 hW.1 hW.2.1 hW.2.2 4 1 rfl rfl (vp_in_nI hj (by decide)) hdg ?_
  rw [nI_clamp (by omega)]
  exact fun H1 locs1 h1 h2 h3 => kk H1 locs1 ⟨h1, h2, h3⟩
theorem gM_5 (E : XE RX1 p s m args c cc D cs) (hW : PW D (mW cs a S) A H0 H locs) (hdg : decode cc pc = .ok (.getfield 26, 3)) (kk : W p l e R s m args below meth c H locs cells slots Q (F0 m (pc + 3) ls (.ref (a 5) :: rest))) : W p l e R s m args below meth c H locs cells slots Q (F0 m pc ls (.ref (a 0) :: rest)) :=
  va_get (D := D) (ci := 1) (v := .ref (a 5)) (C := RX1) (T := TX1) (N := 9) E.1 E.2.1 E.2.2.2.1 in_X1 E.2.2.1 E.2.2.2.2 hW.1 0 rfl rfl 5 (by decide) (E.2.2.2.1 _ q260) (fun _ h9 => h9) rfl hdg kk
theorem lM_5 (E : XE RX1 p s m args c cc D cs) (hW : PW D (mW cs a S) A H0 H locs) {i : Int32} {j : Nat} (hi : i = nI j) (hj : j < 8) {v : Int32} (hv : S 5 j = v) (hdg : decode cc pc = .ok (.iaload, 1)) (kk : W p l e R s m args below meth c H locs cells slots Q (F0 m (pc + 1) ls (.int v :: rest))) : W p l e R s m args below meth c H locs cells slots Q (F0 m pc ls (.int i :: .ref (a 5) :: rest)) := by
  subst hi; subst hv
  refine va_iald (D := D) E.1 E.2.1 E.2.2.2.2 hW.1 5 1 rfl rfl (vp_in_nI hj (by decide)) hdg ?_
  rw [nI_clamp (by omega)]
  exact kk
theorem sM_5 (E : XE RX1 p s m args c cc D cs) (hW : PW D (mW cs a S) A H0 H locs) {i x : Int32} {j : Nat} (hi : i = nI j) (hj : j < 8) (hdg : decode cc pc = .ok (.iastore, 1)) (kk : ∀ (H : Heap) (locs : List Loc), PW D (mW cs a (sput S 5 j x)) A H0 H locs → W p l e R s m args below meth c H locs cells slots Q (F0 m (pc + 1) ls (rest))) : W p l e R s m args below meth c H locs cells slots Q (F0 m pc ls (.int x :: .int i :: .ref (a 5) :: rest)) := by
  subst hi
  refine va_iast (D := D) E.1 E.2.1 E.2.2.2.2 hW.1 hW.2.1 hW.2.2 5 1 rfl rfl (vp_in_nI hj (by decide)) hdg ?_
  rw [nI_clamp (by omega)]
  exact fun H1 locs1 h1 h2 h3 => kk H1 locs1 ⟨h1, h2, h3⟩
theorem gM_6 (E : XE RX1 p s m args c cc D cs) (hW : PW D (mW cs a S) A H0 H locs) (hdg : decode cc pc = .ok (.getfield 29, 3)) (kk : W p l e R s m args below meth c H locs cells slots Q (F0 m (pc + 3) ls (.ref (a 6) :: rest))) : W p l e R s m args below meth c H locs cells slots Q (F0 m pc ls (.ref (a 0) :: rest)) :=
  va_get (D := D) (ci := 1) (v := .ref (a 6)) (C := RX1) (T := TX1) (N := 9) E.1 E.2.1 E.2.2.2.1 in_X1 E.2.2.1 E.2.2.2.2 hW.1 0 rfl rfl 6 (by decide) (E.2.2.2.1 _ q261) (fun _ h9 => h9) rfl hdg kk
theorem lM_6 (E : XE RX1 p s m args c cc D cs) (hW : PW D (mW cs a S) A H0 H locs) {i : Int32} {j : Nat} (hi : i = nI j) (hj : j < 16) {v : Int32} (hv : S 6 j = v) (hdg : decode cc pc = .ok (.iaload, 1)) (kk : W p l e R s m args below meth c H locs cells slots Q (F0 m (pc + 1) ls (.int v :: rest))) : W p l e R s m args below meth c H locs cells slots Q (F0 m pc ls (.int i :: .ref (a 6) :: rest)) := by
  subst hi; subst hv
  refine va_iald (D := D) E.1 E.2.1 E.2.2.2.2 hW.1 6 1 rfl rfl (vp_in_nI hj (by decide)) hdg ?_
  rw [nI_clamp (by omega)]
  exact kk
theorem sM_6 (E : XE RX1 p s m args c cc D cs) (hW : PW D (mW cs a S) A H0 H locs) {i x : Int32} {j : Nat} (hi : i = nI j) (hj : j < 16) (hdg : decode cc pc = .ok (.iastore, 1)) (kk : ∀ (H : Heap) (locs : List Loc), PW D (mW cs a (sput S 6 j x)) A H0 H locs → W p l e R s m args below meth c H locs cells slots Q (F0 m (pc + 1) ls (rest))) : W p l e R s m args below meth c H locs cells slots Q (F0 m pc ls (.int x :: .int i :: .ref (a 6) :: rest)) := by
  subst hi
  refine va_iast (D := D) E.1 E.2.1 E.2.2.2.2 hW.1 hW.2.1 hW.2.2 6 1 rfl rfl (vp_in_nI hj (by decide)) hdg ?_
  rw [nI_clamp (by omega)]
  exact fun H1 locs1 h1 h2 h3 => kk H1 locs1 ⟨h1, h2, h3⟩
theorem gM_7 (E : XE RX1 p s m args c cc D cs) (hW : PW D (mW cs a S) A H0 H locs) {v : Int32} (hv : S 7 0 = v) (hdg : decode cc pc = .ok (.getfield 32, 3)) (kk : W p l e R s m args below meth c H locs cells slots Q (F0 m (pc + 3) ls (.int v :: rest))) : W p l e R s m args below meth c H locs cells slots Q (F0 m pc ls (.ref (a 0) :: rest)) := by
  subst hv
  exact va_get (D := D) (ci := 1) (v := .int (S 7 0)) (C := RX1) (T := TX1) (N := 9) E.1 E.2.1 E.2.2.2.1 in_X1 E.2.2.1 E.2.2.2.2 hW.1 0 rfl rfl 7 (by decide) (E.2.2.2.1 _ q262) (fun _ h9 => h9) rfl hdg kk
theorem pM_7 (E : XE RX1 p s m args c cc D cs) (hW : PW D (mW cs a S) A H0 H locs) {v : Int32} (hdg : decode cc pc = .ok (.putfield 32, 3)) (kk : ∀ (H : Heap) (locs : List Loc), PW D (mW cs a (sput S 7 0 v)) A H0 H locs → W p l e R s m args below meth c H locs cells slots Q (F0 m (pc + 3) ls (rest))) : W p l e R s m args below meth c H locs cells slots Q (F0 m pc ls (.int v :: .ref (a 0) :: rest)) :=
  va_put (D := D) (ci := 1) (v := .int v) (ty := .int) (C := RX1) (T := TX1) (N := 9) E.1 E.2.1 E.2.2.2.1 in_X1 tyX1 tyX1_ok nmX1 E.2.2.1 E.2.2.2.2 hW.1 hW.2.1 hW.2.2 0 rfl rfl 7 (by decide) (E.2.2.2.1 _ q262) (fun _ h9 => h9) rfl (by decide +kernel) rfl rfl (Nat.le_of_ble_eq_true rfl) hdg (fun H1 locs1 h1 h2 h3 => kk H1 locs1 ⟨h1, h2, h3⟩)
theorem gM_8 (E : XE RX1 p s m args c cc D cs) (hW : PW D (mW cs a S) A H0 H locs) {v : Int32} (hv : S 8 0 = v) (hdg : decode cc pc = .ok (.getfield 35, 3)) (kk : W p l e R s m args below meth c H locs cells slots Q (F0 m (pc + 3) ls (.int v :: rest))) : W p l e R s m args below meth c H locs cells slots Q (F0 m pc ls (.ref (a 0) :: rest)) := by
  subst hv
  exact va_get (D := D) (ci := 1) (v := .int (S 8 0)) (C := RX1) (T := TX1) (N := 9) E.1 E.2.1 E.2.2.2.1 in_X1 E.2.2.1 E.2.2.2.2 hW.1 0 rfl rfl 8 (by decide) (E.2.2.2.1 _ q263) (fun _ h9 => h9) rfl hdg kk
theorem pM_8 (E : XE RX1 p s m args c cc D cs) (hW : PW D (mW cs a S) A H0 H locs) {v : Int32} (hdg : decode cc pc = .ok (.putfield 35, 3)) (kk : ∀ (H : Heap) (locs : List Loc), PW D (mW cs a (sput S 8 0 v)) A H0 H locs → W p l e R s m args below meth c H locs cells slots Q (F0 m (pc + 3) ls (rest))) : W p l e R s m args below meth c H locs cells slots Q (F0 m pc ls (.int v :: .ref (a 0) :: rest)) :=
  va_put (D := D) (ci := 1) (v := .int v) (ty := .int) (C := RX1) (T := TX1) (N := 9) E.1 E.2.1 E.2.2.2.1 in_X1 tyX1 tyX1_ok nmX1 E.2.2.1 E.2.2.2.2 hW.1 hW.2.1 hW.2.2 0 rfl rfl 8 (by decide) (E.2.2.2.1 _ q263) (fun _ h9 => h9) rfl (by decide +kernel) rfl rfl (Nat.le_of_ble_eq_true rfl) hdg (fun H1 locs1 h1 h2 h3 => kk H1 locs1 ⟨h1, h2, h3⟩)
end ROWSm
end
section
set_option maxRecDepth 100000
set_option maxHeartbeats 4000000 in
set_option maxRecDepth 100000 in
theorem tX_isRegister (l : Launch) (D : va_G) (cs : ClassId × ClassId × ClassId) (a : Nat → Nat) (S : St) (r : Int32) : CI l yX0_isRegister cX0_isRegister 2 .boolean (rm_ 0 0) D cs (xW cs a) (xAd a) [.ref (a 0), .int r] S (fun v S1 => S1 = S ∧ ((isN r 8 ∧ v = 1) ∨ (¬ isN r 8 ∧ v = 0))) := by
  intro sz
  refine cv_start (w := xW cs a) (ad := xAd a) (C := RX0) (by decide) rfl xAd_eq (Nat.le_of_ble_eq_true rfl) ?_
  intro p e s m below meth c ls E hml hr hlocks hsz hW hl
  have hA : ∀ q, s.heap.size ≤ q → wA (xAd a) sz q := fun q h => Or.inr (hsz ▸ h)
  have hl : lv_has ls 2 [(0, .ref (a 0)), (1, .int r)] := hl
  refine lv_iload_n E.1 E.2.1 dX0_isRegister_0 rfl (lv_at hl 1 rfl) ?_
  refine lv_if_lt (tgt := 14) E.1 E.2.1 dX0_isRegister_1 (by decide) (fun h1 => ?_) (fun h1 => ?_)
  · refine lv_iconst (v := 0) E.1 E.2.1 dX0_isRegister_14 (by decide) ?_
    exact cz_ret E hr hlocks hW (by decide) (⟨rfl, Or.inr ⟨isN_neg h1 (by decide), rfl⟩⟩) dX0_isRegister_15
  · refine lv_iload_n E.1 E.2.1 dX0_isRegister_4 rfl (lv_at hl 1 rfl) ?_
    refine lv_bipush (v := 7) E.1 E.2.1 dX0_isRegister_5 (by decide) ?_
    refine lv_icmp_gt (tgt := 14) E.1 E.2.1 dX0_isRegister_7 (by decide) (fun h2 => ?_) (fun h2 => ?_)
    · refine lv_iconst (v := 0) E.1 E.2.1 dX0_isRegister_14 (by decide) ?_
      exact cz_ret E hr hlocks hW (by decide) (⟨rfl, Or.inr ⟨isN_big (by decide) (by decide) h2, rfl⟩⟩) dX0_isRegister_15
    · refine lv_iconst (v := 1) E.1 E.2.1 dX0_isRegister_10 (by decide) ?_
      refine lv_goto (tgt := 15) E.1 E.2.1 dX0_isRegister_11 (by decide) ?_
      exact cz_ret E hr hlocks hW (by decide) (⟨rfl, Or.inl ⟨isN_mk (by decide) h1 (le_of_nlt h2), rfl⟩⟩) dX0_isRegister_15
set_option maxHeartbeats 4000000 in
set_option maxRecDepth 100000 in
theorem tX_isTarget (l : Launch) (D : va_G) (cs : ClassId × ClassId × ClassId) (a : Nat → Nat) (S : St) (r : Int32) : CI l yX0_isTarget cX0_isTarget 2 .boolean (rm_ 0 0) D cs (xW cs a) (xAd a) [.ref (a 0), .int r] S (fun v S1 => S1 = S ∧ ((isN r 24 ∧ v = 1) ∨ (¬ isN r 24 ∧ v = 0))) := by
  intro sz
  refine cv_start (w := xW cs a) (ad := xAd a) (C := RX0) (by decide) rfl xAd_eq (Nat.le_of_ble_eq_true rfl) ?_
  intro p e s m below meth c ls E hml hr hlocks hsz hW hl
  have hA : ∀ q, s.heap.size ≤ q → wA (xAd a) sz q := fun q h => Or.inr (hsz ▸ h)
  have hl : lv_has ls 2 [(0, .ref (a 0)), (1, .int r)] := hl
  refine lv_iload_n E.1 E.2.1 dX0_isTarget_0 rfl (lv_at hl 1 rfl) ?_
  refine lv_if_lt (tgt := 14) E.1 E.2.1 dX0_isTarget_1 (by decide) (fun h1 => ?_) (fun h1 => ?_)
  · refine lv_iconst (v := 0) E.1 E.2.1 dX0_isTarget_14 (by decide) ?_
    exact cz_ret E hr hlocks hW (by decide) (⟨rfl, Or.inr ⟨isN_neg h1 (by decide), rfl⟩⟩) dX0_isTarget_15
  · refine lv_iload_n E.1 E.2.1 dX0_isTarget_4 rfl (lv_at hl 1 rfl) ?_
    refine lv_bipush (v := 23) E.1 E.2.1 dX0_isTarget_5 (by decide) ?_
    refine lv_icmp_gt (tgt := 14) E.1 E.2.1 dX0_isTarget_7 (by decide) (fun h2 => ?_) (fun h2 => ?_)
    · refine lv_iconst (v := 0) E.1 E.2.1 dX0_isTarget_14 (by decide) ?_
      exact cz_ret E hr hlocks hW (by decide) (⟨rfl, Or.inr ⟨isN_big (by decide) (by decide) h2, rfl⟩⟩) dX0_isTarget_15
    · refine lv_iconst (v := 1) E.1 E.2.1 dX0_isTarget_10 (by decide) ?_
      refine lv_goto (tgt := 15) E.1 E.2.1 dX0_isTarget_11 (by decide) ?_
      exact cz_ret E hr hlocks hW (by decide) (⟨rfl, Or.inl ⟨isN_mk (by decide) h1 (le_of_nlt h2), rfl⟩⟩) dX0_isTarget_15
set_option maxHeartbeats 4000000 in
set_option maxRecDepth 100000 in
theorem tM_isRegister (l : Launch) (D : va_G) (cs : ClassId × ClassId × ClassId) (a : Nat → Nat) (S : St) (r : Int32) : CI l yX1_isRegister cX1_isRegister 2 .boolean (rm_ 0 0) D cs (mW cs a) (mAd a) [.ref (a 0), .int r] S (fun v S1 => S1 = S ∧ ((isN r 8 ∧ v = 1) ∨ (¬ isN r 8 ∧ v = 0))) := by
  intro sz
  refine cv_start (w := mW cs a) (ad := mAd a) (C := RX1) (by decide) rfl mAd_eq (Nat.le_of_ble_eq_true rfl) ?_
  intro p e s m below meth c ls E hml hr hlocks hsz hW hl
  have hA : ∀ q, s.heap.size ≤ q → wA (mAd a) sz q := fun q h => Or.inr (hsz ▸ h)
  have hl : lv_has ls 2 [(0, .ref (a 0)), (1, .int r)] := hl
  refine lv_iload_n E.1 E.2.1 dX1_isRegister_0 rfl (lv_at hl 1 rfl) ?_
  refine lv_if_lt (tgt := 14) E.1 E.2.1 dX1_isRegister_1 (by decide) (fun h1 => ?_) (fun h1 => ?_)
  · refine lv_iconst (v := 0) E.1 E.2.1 dX1_isRegister_14 (by decide) ?_
    exact cz_ret E hr hlocks hW (by decide) (⟨rfl, Or.inr ⟨isN_neg h1 (by decide), rfl⟩⟩) dX1_isRegister_15
  · refine lv_iload_n E.1 E.2.1 dX1_isRegister_4 rfl (lv_at hl 1 rfl) ?_
    refine lv_bipush (v := 7) E.1 E.2.1 dX1_isRegister_5 (by decide) ?_
    refine lv_icmp_gt (tgt := 14) E.1 E.2.1 dX1_isRegister_7 (by decide) (fun h2 => ?_) (fun h2 => ?_)
    · refine lv_iconst (v := 0) E.1 E.2.1 dX1_isRegister_14 (by decide) ?_
      exact cz_ret E hr hlocks hW (by decide) (⟨rfl, Or.inr ⟨isN_big (by decide) (by decide) h2, rfl⟩⟩) dX1_isRegister_15
    · refine lv_iconst (v := 1) E.1 E.2.1 dX1_isRegister_10 (by decide) ?_
      refine lv_goto (tgt := 15) E.1 E.2.1 dX1_isRegister_11 (by decide) ?_
      exact cz_ret E hr hlocks hW (by decide) (⟨rfl, Or.inl ⟨isN_mk (by decide) h1 (le_of_nlt h2), rfl⟩⟩) dX1_isRegister_15
set_option maxHeartbeats 4000000 in
set_option maxRecDepth 100000 in
theorem tM_isPlace (l : Launch) (D : va_G) (cs : ClassId × ClassId × ClassId) (a : Nat → Nat) (S : St) (r : Int32) : CI l yX1_isPlace cX1_isPlace 2 .boolean (rm_ 0 0) D cs (mW cs a) (mAd a) [.ref (a 0), .int r] S (fun v S1 => S1 = S ∧ ((isN r 24 ∧ v = 1) ∨ (¬ isN r 24 ∧ v = 0))) := by
  intro sz
  refine cv_start (w := mW cs a) (ad := mAd a) (C := RX1) (by decide) rfl mAd_eq (Nat.le_of_ble_eq_true rfl) ?_
  intro p e s m below meth c ls E hml hr hlocks hsz hW hl
  have hA : ∀ q, s.heap.size ≤ q → wA (mAd a) sz q := fun q h => Or.inr (hsz ▸ h)
  have hl : lv_has ls 2 [(0, .ref (a 0)), (1, .int r)] := hl
  refine lv_iload_n E.1 E.2.1 dX1_isPlace_0 rfl (lv_at hl 1 rfl) ?_
  refine lv_if_lt (tgt := 14) E.1 E.2.1 dX1_isPlace_1 (by decide) (fun h1 => ?_) (fun h1 => ?_)
  · refine lv_iconst (v := 0) E.1 E.2.1 dX1_isPlace_14 (by decide) ?_
    exact cz_ret E hr hlocks hW (by decide) (⟨rfl, Or.inr ⟨isN_neg h1 (by decide), rfl⟩⟩) dX1_isPlace_15
  · refine lv_iload_n E.1 E.2.1 dX1_isPlace_4 rfl (lv_at hl 1 rfl) ?_
    refine lv_bipush (v := 23) E.1 E.2.1 dX1_isPlace_5 (by decide) ?_
    refine lv_icmp_gt (tgt := 14) E.1 E.2.1 dX1_isPlace_7 (by decide) (fun h2 => ?_) (fun h2 => ?_)
    · refine lv_iconst (v := 0) E.1 E.2.1 dX1_isPlace_14 (by decide) ?_
      exact cz_ret E hr hlocks hW (by decide) (⟨rfl, Or.inr ⟨isN_big (by decide) (by decide) h2, rfl⟩⟩) dX1_isPlace_15
    · refine lv_iconst (v := 1) E.1 E.2.1 dX1_isPlace_10 (by decide) ?_
      refine lv_goto (tgt := 15) E.1 E.2.1 dX1_isPlace_11 (by decide) ?_
      exact cz_ret E hr hlocks hW (by decide) (⟨rfl, Or.inl ⟨isN_mk (by decide) h1 (le_of_nlt h2), rfl⟩⟩) dX1_isPlace_15
section L_lpX_forgetTraces_2
variable {p : Program} {l : Launch} {e : Env} {R : Room} {s : State} {m : MethodId} {args : Array Value} {below : List Frame} {meth : Method} {c : Code} {H : Heap} {locs : List Loc} {cells slots : Nat} {Q : State → Prop}
variable {cc : ByteArray} {pc : Nat} {ls : Array Slot} {rest : List Value} {D : va_G} {cs : ClassId × ClassId × ClassId} {a : Nat → Nat} {S : St} {A : Nat → Prop} {H0 : Heap}
set_option maxHeartbeats 4000000 in
theorem lpX_forgetTraces_2 (E : XE RX0 p s m args c cX0_forgetTraces D cs) (S0 : St) (kk : ∀ (S1 : St) (H : Heap) (locs : List Loc) (ls : Array Slot), (∀ k, k ≠ 10 → S1 k = S0 k) → (∀ j, j < 8 → S1 10 j = 0) → (∀ j, ¬ j < 8 → S1 10 j = S0 10 j) → PW D (xW cs a S1) A H0 H locs → lv_has ls 2 [(0, .ref (a 0)), (1, .int (nI 8))] → W p l e R s m args below meth c H locs cells slots Q (F0 m 21 ls [])) :
    ∀ (n k : Nat) (S1 : St) (H : Heap) (locs : List Loc) (ls : Array Slot), k + n = 8 → (∀ q, q ≠ 10 → S1 q = S0 q) → (∀ j, j < k → S1 10 j = 0) → (∀ j, ¬ j < k → S1 10 j = S0 10 j) → PW D (xW cs a S1) A H0 H locs → lv_has ls 2 [(0, .ref (a 0)), (1, .int (nI k))] → W p l e R s m args below meth c H locs cells slots Q (F0 m 2 ls []) := by
  intro n
  induction n with
  | zero =>
    intro k S1 H locs ls hk h1 h2 h3 hW hl
    obtain rfl : k = 8 := by omega
    refine lv_iload_n E.1 E.2.1 dX0_forgetTraces_2 rfl (lv_at hl 1 rfl) ?_
    refine lv_bipush (v := nI 8) E.1 E.2.1 dX0_forgetTraces_3 (by decide) ?_
    refine lv_icmp_ge (tgt := 21) E.1 E.2.1 dX0_forgetTraces_5 (by decide) (fun _ => ?_) (fun h => absurd (nI_le (Nat.le_refl 8) (by decide)) h)
    exact kk S1 H locs ls h1 h2 h3 hW hl
  | succ n ih =>
    intro k S1 H locs ls hk h1 h2 h3 hW hl
    have hkN : k < 8 := by omega
    refine lv_iload_n E.1 E.2.1 dX0_forgetTraces_2 rfl (lv_at hl 1 rfl) ?_
    refine lv_bipush (v := nI 8) E.1 E.2.1 dX0_forgetTraces_3 (by decide) ?_
    refine lv_icmp_ge (tgt := 21) E.1 E.2.1 dX0_forgetTraces_5 (by decide) (fun h => absurd h (nI_ge hkN (by decide))) (fun _ => ?_)
    refine lv_aload_n E.1 E.2.1 dX0_forgetTraces_8 rfl (lv_at hl 0 rfl) ?_
    refine gX_10 E hW dX0_forgetTraces_9 ?_
    refine lv_iload_n E.1 E.2.1 dX0_forgetTraces_12 rfl (lv_at hl 1 rfl) ?_
    refine lv_iconst (v := 0) E.1 E.2.1 dX0_forgetTraces_13 (by decide) ?_
    refine sX_10 E hW (rfl) (hkN) (x_nb0) dX0_forgetTraces_14 (fun H locs hW => ?_)
    refine xl_iinc (v := nI (k + 1)) (lv' := [(0, _), (1, _)]) E dX0_forgetTraces_15 hl (k := 1) rfl (x_inc1 k) (by decide) [1, 0] rfl (fun ls hl => ?_)
    refine lv_goto (tgt := 2) E.1 E.2.1 dX0_forgetTraces_18 (by decide) ?_
    refine ih (k + 1) _ _ _ _ (by omega) (fun q hq => by rw [sput_k hq]; exact h1 q hq) (fun j hj => ?_) (fun j hj => ?_) hW hl
    · by_cases hjk : j = k
      · subst hjk; exact sput_s
      · rw [sput_j hjk]; exact h2 j (by omega)
    · rw [sput_j (by omega)]; exact h3 j (by omega)
end L_lpX_forgetTraces_2
def fgt (S S1 : St) : Prop := (∀ k, k ≠ 10 → k ≠ 13 → S1 k = S k) ∧ (∀ j, j < 8 → S1 10 j = 0) ∧ S1 13 0 = 0
set_option maxHeartbeats 4000000 in
set_option maxRecDepth 100000 in
theorem tX_forgetTraces (l : Launch) (D : va_G) (cs : ClassId × ClassId × ClassId) (a : Nat → Nat) (S : St) : CV l yX0_forgetTraces cX0_forgetTraces 2 (rm_ 0 0) D cs (xW cs a) (xAd a) [.ref (a 0)] S (fun S1 => fgt S S1) := by
  intro sz
  refine cv_start (w := xW cs a) (ad := xAd a) (C := RX0) (by decide) rfl xAd_eq (Nat.le_of_ble_eq_true rfl) ?_
  intro p e s m below meth c ls E hml hr hlocks hsz hW hl
  have hA : ∀ q, s.heap.size ≤ q → wA (xAd a) sz q := fun q h => Or.inr (hsz ▸ h)
  have hl : lv_has ls 2 [(0, .ref (a 0))] := hl
  refine lv_iconst (v := nI 0) E.1 E.2.1 dX0_forgetTraces_0 (by decide) ?_
  refine xl_istore_n (lv' := [(0, _), (1, _)]) E dX0_forgetTraces_1 rfl hl (by decide) [1, 0] rfl (fun ls hl => ?_)
  refine lpX_forgetTraces_2 E S (fun S1 H locs ls h1 h2 h3 hW hl => ?_) 8 0 S _ _ _ rfl (fun _ _ => rfl) (fun j hj => absurd hj (Nat.not_lt_zero j)) (fun _ _ => rfl) hW hl
  refine lv_aload_n E.1 E.2.1 dX0_forgetTraces_21 rfl (lv_at hl 0 rfl) ?_
  refine lv_iconst (v := 0) E.1 E.2.1 dX0_forgetTraces_22 (by decide) ?_
  refine pX_13 E hW dX0_forgetTraces_23 (fun H locs hW => ?_)
  exact cv_ret E hr hlocks hW (⟨fun k h10 h13 => by rw [sput_k h13]; exact h1 k h10, fun j hj => by rw [sput_k (by decide)]; exact h2 j hj, sput_s⟩) dX0_forgetTraces_26
section L_lpX_squash_15
variable {p : Program} {l : Launch} {e : Env} {R : Room} {s : State} {m : MethodId} {args : Array Value} {below : List Frame} {meth : Method} {c : Code} {H : Heap} {locs : List Loc} {cells slots : Nat} {Q : State → Prop}
variable {cc : ByteArray} {pc : Nat} {ls : Array Slot} {rest : List Value} {D : va_G} {cs : ClassId × ClassId × ClassId} {a : Nat → Nat} {S : St} {A : Nat → Prop} {H0 : Heap}
set_option maxHeartbeats 4000000 in
theorem lpX_squash_15 (E : XE RX0 p s m args c cX0_squash D cs) (S0 : St) (kk : ∀ (S1 : St) (H : Heap) (locs : List Loc) (ls : Array Slot), (∀ k, k ≠ 27 → S1 k = S0 k) → (∀ j, j < 8 → S1 27 j = -1) → (∀ j, ¬ j < 8 → S1 27 j = S0 27 j) → PW D (xW cs a S1) A H0 H locs → lv_has ls 2 [(0, .ref (a 0)), (1, .int (nI 8))] → W p l e R s m args below meth c H locs cells slots Q (F0 m 34 ls [])) :
    ∀ (n k : Nat) (S1 : St) (H : Heap) (locs : List Loc) (ls : Array Slot), k + n = 8 → (∀ q, q ≠ 27 → S1 q = S0 q) → (∀ j, j < k → S1 27 j = -1) → (∀ j, ¬ j < k → S1 27 j = S0 27 j) → PW D (xW cs a S1) A H0 H locs → lv_has ls 2 [(0, .ref (a 0)), (1, .int (nI k))] → W p l e R s m args below meth c H locs cells slots Q (F0 m 15 ls []) := by
  intro n
  induction n with
  | zero =>
    intro k S1 H locs ls hk h1 h2 h3 hW hl
    obtain rfl : k = 8 := by omega
    refine lv_iload_n E.1 E.2.1 dX0_squash_15 rfl (lv_at hl 1 rfl) ?_
    refine lv_bipush (v := nI 8) E.1 E.2.1 dX0_squash_16 (by decide) ?_
    refine lv_icmp_ge (tgt := 34) E.1 E.2.1 dX0_squash_18 (by decide) (fun _ => ?_) (fun h => absurd (nI_le (Nat.le_refl 8) (by decide)) h)
    exact kk S1 H locs ls h1 h2 h3 hW hl
  | succ n ih =>
    intro k S1 H locs ls hk h1 h2 h3 hW hl
    have hkN : k < 8 := by omega
    refine lv_iload_n E.1 E.2.1 dX0_squash_15 rfl (lv_at hl 1 rfl) ?_
    refine lv_bipush (v := nI 8) E.1 E.2.1 dX0_squash_16 (by decide) ?_
    refine lv_icmp_ge (tgt := 34) E.1 E.2.1 dX0_squash_18 (by decide) (fun h => absurd h (nI_ge hkN (by decide))) (fun _ => ?_)
    refine lv_aload_n E.1 E.2.1 dX0_squash_21 rfl (lv_at hl 0 rfl) ?_
    refine gX_27 E hW dX0_squash_22 ?_
    refine lv_iload_n E.1 E.2.1 dX0_squash_25 rfl (lv_at hl 1 rfl) ?_
    refine lv_iconst (v := (-1)) E.1 E.2.1 dX0_squash_26 (by decide) ?_
    refine sX_27 E hW (rfl) (hkN) (x_nbm) dX0_squash_27 (fun H locs hW => ?_)
    refine xl_iinc (v := nI (k + 1)) (lv' := [(0, _), (1, _)]) E dX0_squash_28 hl (k := 1) rfl (x_inc1 k) (by decide) [1, 0] rfl (fun ls hl => ?_)
    refine lv_goto (tgt := 15) E.1 E.2.1 dX0_squash_31 (by decide) ?_
    refine ih (k + 1) _ _ _ _ (by omega) (fun q hq => by rw [sput_k hq]; exact h1 q hq) (fun j hj => ?_) (fun j hj => ?_) hW hl
    · by_cases hjk : j = k
      · subst hjk; exact sput_s
      · rw [sput_j hjk]; exact h2 j (by omega)
    · rw [sput_j (by omega)]; exact h3 j (by omega)
end L_lpX_squash_15
def sqd (S S1 : St) : Prop := (∀ k, k ≠ 15 → k ≠ 27 → k ≠ 28 → S1 k = S k) ∧ S1 15 0 = 0 ∧ S1 28 0 = S 7 0 ∧ (∀ r, r < 8 → S1 27 r = -1)
set_option maxHeartbeats 4000000 in
set_option maxRecDepth 100000 in
theorem tX_squash (l : Launch) (D : va_G) (cs : ClassId × ClassId × ClassId) (a : Nat → Nat) (S : St) : CV l yX0_squash cX0_squash 2 (rm_ 0 0) D cs (xW cs a) (xAd a) [.ref (a 0)] S (fun S1 => sqd S S1) := by
  intro sz
  refine cv_start (w := xW cs a) (ad := xAd a) (C := RX0) (by decide) rfl xAd_eq (Nat.le_of_ble_eq_true rfl) ?_
  intro p e s m below meth c ls E hml hr hlocks hsz hW hl
  have hA : ∀ q, s.heap.size ≤ q → wA (xAd a) sz q := fun q h => Or.inr (hsz ▸ h)
  have hl : lv_has ls 2 [(0, .ref (a 0))] := hl
  refine lv_aload_n E.1 E.2.1 dX0_squash_0 rfl (lv_at hl 0 rfl) ?_
  refine lv_iconst (v := 0) E.1 E.2.1 dX0_squash_1 (by decide) ?_
  refine pX_15 E hW dX0_squash_2 (fun H locs hW => ?_)
  refine lv_aload_n E.1 E.2.1 dX0_squash_5 rfl (lv_at hl 0 rfl) ?_
  refine lv_aload_n E.1 E.2.1 dX0_squash_6 rfl (lv_at hl 0 rfl) ?_
  refine gX_7 E hW rfl dX0_squash_7 ?_
  refine pX_28 E hW dX0_squash_10 (fun H locs hW => ?_)
  refine lv_iconst (v := nI 0) E.1 E.2.1 dX0_squash_13 (by decide) ?_
  refine xl_istore_n (lv' := [(0, _), (1, _)]) E dX0_squash_14 rfl hl (by decide) [1, 0] rfl (fun ls hl => ?_)
  refine lpX_squash_15 E _ (fun S1 H locs ls h1 h2 h3 hW hl => ?_) 8 0 _ _ _ _ rfl (fun _ _ => rfl) (fun j hj => absurd hj (Nat.not_lt_zero j)) (fun _ _ => rfl) hW hl
  exact cv_ret E hr hlocks hW (⟨fun k h15 h27 h28 => by rw [h1 k h27, sput_k h28, sput_k h15], by rw [h1 15 (by decide)]; rfl, by rw [h1 28 (by decide)]; rfl, h2⟩) dX0_squash_34
set_option maxHeartbeats 4000000 in
set_option maxRecDepth 100000 in
theorem tX_restart (l : Launch) (D : va_G) (cs : ClassId × ClassId × ClassId) (a : Nat → Nat) (S : St) : CV l yX0_restart cX0_restart 1 (rm_ 0 0) D cs (xW cs a) (xAd a) [.ref (a 0)] S (fun S1 => S1 = sput (sput S 7 0 0) 8 0 0) := by
  intro sz
  refine cv_start (w := xW cs a) (ad := xAd a) (C := RX0) (by decide) rfl xAd_eq (Nat.le_of_ble_eq_true rfl) ?_
  intro p e s m below meth c ls E hml hr hlocks hsz hW hl
  have hA : ∀ q, s.heap.size ≤ q → wA (xAd a) sz q := fun q h => Or.inr (hsz ▸ h)
  have hl : lv_has ls 1 [(0, .ref (a 0))] := hl
  refine lv_aload_n E.1 E.2.1 dX0_restart_0 rfl (lv_at hl 0 rfl) ?_
  refine lv_iconst (v := 0) E.1 E.2.1 dX0_restart_1 (by decide) ?_
  refine pX_7 E hW dX0_restart_2 (fun H locs hW => ?_)
  refine lv_aload_n E.1 E.2.1 dX0_restart_5 rfl (lv_at hl 0 rfl) ?_
  refine lv_iconst (v := 0) E.1 E.2.1 dX0_restart_6 (by decide) ?_
  refine pX_8 E hW dX0_restart_7 (fun H locs hW => ?_)
  exact cv_ret E hr hlocks hW (rfl) dX0_restart_10
set_option maxHeartbeats 4000000 in
set_option maxRecDepth 100000 in
theorem tX_place (l : Launch) (D : va_G) (cs : ClassId × ClassId × ClassId) (a : Nat → Nat) (S : St) : CI l yX0_place cX0_place 1 .int (rm_ 0 0) D cs (xW cs a) (xAd a) [.ref (a 0)] S (fun v S1 => S1 = S ∧ v = S 7 0) := by
  intro sz
  refine cv_start (w := xW cs a) (ad := xAd a) (C := RX0) (by decide) rfl xAd_eq (Nat.le_of_ble_eq_true rfl) ?_
  intro p e s m below meth c ls E hml hr hlocks hsz hW hl
  have hA : ∀ q, s.heap.size ≤ q → wA (xAd a) sz q := fun q h => Or.inr (hsz ▸ h)
  have hl : lv_has ls 1 [(0, .ref (a 0))] := hl
  refine lv_aload_n E.1 E.2.1 dX0_place_0 rfl (lv_at hl 0 rfl) ?_
  refine gX_7 E hW rfl dX0_place_1 ?_
  exact ci_ret E hr hlocks hW (⟨rfl, rfl⟩) dX0_place_4
set_option maxHeartbeats 4000000 in
set_option maxRecDepth 100000 in
theorem tX_status (l : Launch) (D : va_G) (cs : ClassId × ClassId × ClassId) (a : Nat → Nat) (S : St) : CI l yX0_status cX0_status 1 .int (rm_ 0 0) D cs (xW cs a) (xAd a) [.ref (a 0)] S (fun v S1 => S1 = S ∧ v = S 8 0) := by
  intro sz
  refine cv_start (w := xW cs a) (ad := xAd a) (C := RX0) (by decide) rfl xAd_eq (Nat.le_of_ble_eq_true rfl) ?_
  intro p e s m below meth c ls E hml hr hlocks hsz hW hl
  have hA : ∀ q, s.heap.size ≤ q → wA (xAd a) sz q := fun q h => Or.inr (hsz ▸ h)
  have hl : lv_has ls 1 [(0, .ref (a 0))] := hl
  refine lv_aload_n E.1 E.2.1 dX0_status_0 rfl (lv_at hl 0 rfl) ?_
  refine gX_8 E hW rfl dX0_status_1 ?_
  exact ci_ret E hr hlocks hW (⟨rfl, rfl⟩) dX0_status_4
set_option maxHeartbeats 4000000 in
set_option maxRecDepth 100000 in
theorem tX_register (l : Launch) (D : va_G) (cs : ClassId × ClassId × ClassId) (a : Nat → Nat) (S : St) (r : Int32) : CI l yX0_register cX0_register 2 .int (rm_ 1 21) D cs (xW cs a) (xAd a) [.ref (a 0), .int r] S (fun v S1 => S1 = S ∧ ((isN r 8 ∧ v = S 5 (nt r)) ∨ (¬ isN r 8 ∧ v = 0))) := by
  intro sz
  refine cv_start (w := xW cs a) (ad := xAd a) (C := RX0) (by decide) rfl xAd_eq (Nat.le_of_ble_eq_true rfl) ?_
  intro p e s m below meth c ls E hml hr hlocks hsz hW hl
  have hA : ∀ q, s.heap.size ≤ q → wA (xAd a) sz q := fun q h => Or.inr (hsz ▸ h)
  have hl : lv_has ls 2 [(0, .ref (a 0)), (1, .int r)] := hl
  refine lv_aload_n E.1 E.2.1 dX0_register_0 rfl (lv_at hl 0 rfl) ?_
  refine lv_iload_n E.1 E.2.1 dX0_register_1 rfl (lv_at hl 1 rfl) ?_
  refine ci_call (w := xW cs a) (ad := xAd a) (ci := 0) E hml hl.1 hW xAd_eq hA (tX_isRegister l D cs a S r) (cwV 1 E.2.2.2.1 (lw_V q140 q142 qs2 q24 q143) rfl rfl rfl (by decide +kernel) ⟨Nat.le_of_ble_eq_true rfl, Nat.le_of_ble_eq_true rfl⟩) rfl rfl rfl rfl rfl (Nat.le_of_ble_eq_true rfl) dX0_register_2 ⟨Nat.zero_le _, Nat.zero_le _⟩ (fun v S1 H locs hp hW _ _ => ?_)
  obtain ⟨e1, hp⟩ := hp
  obtain rfl := e1.symm
  refine lv_if_eq (tgt := 17) E.1 E.2.1 dX0_register_5 (by decide) (fun h1 => ?_) (fun h1 => ?_)
  · have hn : ¬ isN r 8 := by
      rcases hp with ⟨_, h⟩ | ⟨h, _⟩
      · rw [h1] at h; exact absurd h (by decide)
      · exact h
    refine lv_iconst (v := 0) E.1 E.2.1 dX0_register_17 (by decide) ?_
    exact ci_ret E hr hlocks hW (⟨rfl, Or.inr ⟨hn, rfl⟩⟩) dX0_register_18
  · have hn : isN r 8 := by
      rcases hp with ⟨h, _⟩ | ⟨_, h⟩
      · exact h
      · exact absurd h h1
    refine lv_aload_n E.1 E.2.1 dX0_register_8 rfl (lv_at hl 0 rfl) ?_
    refine gX_5 E hW dX0_register_9 ?_
    refine lv_iload_n E.1 E.2.1 dX0_register_12 rfl (lv_at hl 1 rfl) ?_
    refine lX_5 E hW ((hn.nt (by decide)).1) ((hn.nt (by decide)).2) (rfl) dX0_register_13 ?_
    refine lv_goto (tgt := 18) E.1 E.2.1 dX0_register_14 (by decide) ?_
    exact ci_ret E hr hlocks hW (⟨rfl, Or.inl ⟨hn, rfl⟩⟩) dX0_register_18
set_option maxHeartbeats 4000000 in
set_option maxRecDepth 100000 in
theorem tX_setRegister (l : Launch) (D : va_G) (cs : ClassId × ClassId × ClassId) (a : Nat → Nat) (S : St) (r x : Int32) : CI l yX0_setRegister cX0_setRegister 3 .boolean (rm_ 1 21) D cs (xW cs a) (xAd a) [.ref (a 0), .int r, .int x] S (fun v S1 => (isN r 8 ∧ v = 1 ∧ S1 = sput S 5 (nt r) x) ∨ (¬ isN r 8 ∧ v = 0 ∧ S1 = S)) := by
  intro sz
  refine cv_start (w := xW cs a) (ad := xAd a) (C := RX0) (by decide) rfl xAd_eq (Nat.le_of_ble_eq_true rfl) ?_
  intro p e s m below meth c ls E hml hr hlocks hsz hW hl
  have hA : ∀ q, s.heap.size ≤ q → wA (xAd a) sz q := fun q h => Or.inr (hsz ▸ h)
  have hl : lv_has ls 3 [(0, .ref (a 0)), (1, .int r), (2, .int x)] := hl
  refine lv_aload_n E.1 E.2.1 dX0_setRegister_0 rfl (lv_at hl 0 rfl) ?_
  refine lv_iload_n E.1 E.2.1 dX0_setRegister_1 rfl (lv_at hl 1 rfl) ?_
  refine ci_call (w := xW cs a) (ad := xAd a) (ci := 0) E hml hl.1 hW xAd_eq hA (tX_isRegister l D cs a S r) (cwV 1 E.2.2.2.1 (lw_V q140 q142 qs2 q24 q143) rfl rfl rfl (by decide +kernel) ⟨Nat.le_of_ble_eq_true rfl, Nat.le_of_ble_eq_true rfl⟩) rfl rfl rfl rfl rfl (Nat.le_of_ble_eq_true rfl) dX0_setRegister_2 ⟨Nat.zero_le _, Nat.zero_le _⟩ (fun v S1 H locs hp hW _ _ => ?_)
  obtain ⟨e1, hp⟩ := hp
  obtain rfl := e1.symm
  refine lv_if_ne (tgt := 10) E.1 E.2.1 dX0_setRegister_5 (by decide) (fun h1 => ?_) (fun h1 => ?_)
  · have hn : isN r 8 := by
      rcases hp with ⟨h, _⟩ | ⟨_, h⟩
      · exact h
      · exact absurd h h1
    refine lv_aload_n E.1 E.2.1 dX0_setRegister_10 rfl (lv_at hl 0 rfl) ?_
    refine gX_5 E hW dX0_setRegister_11 ?_
    refine lv_iload_n E.1 E.2.1 dX0_setRegister_14 rfl (lv_at hl 1 rfl) ?_
    refine lv_iload_n E.1 E.2.1 dX0_setRegister_15 rfl (lv_at hl 2 rfl) ?_
    refine sX_5 E hW ((hn.nt (by decide)).1) ((hn.nt (by decide)).2) dX0_setRegister_16 (fun H locs hW => ?_)
    refine lv_iconst (v := 1) E.1 E.2.1 dX0_setRegister_17 (by decide) ?_
    exact cz_ret E hr hlocks hW (by decide) (Or.inl ⟨hn, rfl, rfl⟩) dX0_setRegister_18
  · have hn : ¬ isN r 8 := by
      rcases hp with ⟨_, h⟩ | ⟨h, _⟩
      · rw [h1] at h; exact absurd h (by decide)
      · exact h
    refine lv_iconst (v := 0) E.1 E.2.1 dX0_setRegister_8 (by decide) ?_
    exact cz_ret E hr hlocks hW (by decide) (Or.inr ⟨hn, rfl, rfl⟩) dX0_setRegister_9
set_option maxHeartbeats 4000000 in
set_option maxRecDepth 100000 in
theorem tX_memory (l : Launch) (D : va_G) (cs : ClassId × ClassId × ClassId) (a : Nat → Nat) (S : St) (r : Int32) : CI l yX0_memory cX0_memory 2 .int (rm_ 0 0) D cs (xW cs a) (xAd a) [.ref (a 0), .int r] S (fun v S1 => S1 = S ∧ ((isN r 16 ∧ v = S 6 (nt r)) ∨ (¬ isN r 16 ∧ v = 0))) := by
  intro sz
  refine cv_start (w := xW cs a) (ad := xAd a) (C := RX0) (by decide) rfl xAd_eq (Nat.le_of_ble_eq_true rfl) ?_
  intro p e s m below meth c ls E hml hr hlocks hsz hW hl
  have hA : ∀ q, s.heap.size ≤ q → wA (xAd a) sz q := fun q h => Or.inr (hsz ▸ h)
  have hl : lv_has ls 2 [(0, .ref (a 0)), (1, .int r)] := hl
  refine lv_iload_n E.1 E.2.1 dX0_memory_0 rfl (lv_at hl 1 rfl) ?_
  refine lv_if_lt (tgt := 10) E.1 E.2.1 dX0_memory_1 (by decide) (fun h1 => ?_) (fun h1 => ?_)
  · refine lv_iconst (v := 0) E.1 E.2.1 dX0_memory_10 (by decide) ?_
    refine lv_goto (tgt := 20) E.1 E.2.1 dX0_memory_11 (by decide) ?_
    exact ci_ret E hr hlocks hW (⟨rfl, Or.inr ⟨isN_neg h1 (by decide), rfl⟩⟩) dX0_memory_20
  · refine lv_iload_n E.1 E.2.1 dX0_memory_4 rfl (lv_at hl 1 rfl) ?_
    refine lv_bipush (v := 15) E.1 E.2.1 dX0_memory_5 (by decide) ?_
    refine lv_icmp_le (tgt := 14) E.1 E.2.1 dX0_memory_7 (by decide) (fun h2 => ?_) (fun h2 => ?_)
    · have hn : isN r 16 := isN_mk (by decide) h1 h2
      refine lv_aload_n E.1 E.2.1 dX0_memory_14 rfl (lv_at hl 0 rfl) ?_
      refine gX_6 E hW dX0_memory_15 ?_
      refine lv_iload_n E.1 E.2.1 dX0_memory_18 rfl (lv_at hl 1 rfl) ?_
      refine lX_6 E hW ((hn.nt (by decide)).1) ((hn.nt (by decide)).2) (rfl) dX0_memory_19 ?_
      exact ci_ret E hr hlocks hW (⟨rfl, Or.inl ⟨hn, rfl⟩⟩) dX0_memory_20
    · refine lv_iconst (v := 0) E.1 E.2.1 dX0_memory_10 (by decide) ?_
      refine lv_goto (tgt := 20) E.1 E.2.1 dX0_memory_11 (by decide) ?_
      exact ci_ret E hr hlocks hW (⟨rfl, Or.inr ⟨isN_big (by decide) (by decide) (lt_of_nle h2), rfl⟩⟩) dX0_memory_20
set_option maxHeartbeats 4000000 in
set_option maxRecDepth 100000 in
theorem tX_setMemory (l : Launch) (D : va_G) (cs : ClassId × ClassId × ClassId) (a : Nat → Nat) (S : St) (r x : Int32) : CI l yX0_setMemory cX0_setMemory 3 .boolean (rm_ 0 0) D cs (xW cs a) (xAd a) [.ref (a 0), .int r, .int x] S (fun v S1 => (isN r 16 ∧ v = 1 ∧ S1 = sput S 6 (nt r) x) ∨ (¬ isN r 16 ∧ v = 0 ∧ S1 = S)) := by
  intro sz
  refine cv_start (w := xW cs a) (ad := xAd a) (C := RX0) (by decide) rfl xAd_eq (Nat.le_of_ble_eq_true rfl) ?_
  intro p e s m below meth c ls E hml hr hlocks hsz hW hl
  have hA : ∀ q, s.heap.size ≤ q → wA (xAd a) sz q := fun q h => Or.inr (hsz ▸ h)
  have hl : lv_has ls 3 [(0, .ref (a 0)), (1, .int r), (2, .int x)] := hl
  refine lv_iload_n E.1 E.2.1 dX0_setMemory_0 rfl (lv_at hl 1 rfl) ?_
  refine lv_if_lt (tgt := 10) E.1 E.2.1 dX0_setMemory_1 (by decide) (fun h1 => ?_) (fun h1 => ?_)
  · refine lv_iconst (v := 0) E.1 E.2.1 dX0_setMemory_10 (by decide) ?_
    exact cz_ret E hr hlocks hW (by decide) (Or.inr ⟨isN_neg h1 (by decide), rfl, rfl⟩) dX0_setMemory_11
  · refine lv_iload_n E.1 E.2.1 dX0_setMemory_4 rfl (lv_at hl 1 rfl) ?_
    refine lv_bipush (v := 15) E.1 E.2.1 dX0_setMemory_5 (by decide) ?_
    refine lv_icmp_le (tgt := 12) E.1 E.2.1 dX0_setMemory_7 (by decide) (fun h2 => ?_) (fun h2 => ?_)
    · have hn : isN r 16 := isN_mk (by decide) h1 h2
      refine lv_aload_n E.1 E.2.1 dX0_setMemory_12 rfl (lv_at hl 0 rfl) ?_
      refine gX_6 E hW dX0_setMemory_13 ?_
      refine lv_iload_n E.1 E.2.1 dX0_setMemory_16 rfl (lv_at hl 1 rfl) ?_
      refine lv_iload_n E.1 E.2.1 dX0_setMemory_17 rfl (lv_at hl 2 rfl) ?_
      refine sX_6 E hW ((hn.nt (by decide)).1) ((hn.nt (by decide)).2) dX0_setMemory_18 (fun H locs hW => ?_)
      refine lv_iconst (v := 1) E.1 E.2.1 dX0_setMemory_19 (by decide) ?_
      exact cz_ret E hr hlocks hW (by decide) (Or.inl ⟨hn, rfl, rfl⟩) dX0_setMemory_20
    · refine lv_iconst (v := 0) E.1 E.2.1 dX0_setMemory_10 (by decide) ?_
      exact cz_ret E hr hlocks hW (by decide) (Or.inr ⟨isN_big (by decide) (by decide) (lt_of_nle h2), rfl, rfl⟩) dX0_setMemory_11
set_option maxHeartbeats 4000000 in
set_option maxRecDepth 100000 in
theorem tM_restart (l : Launch) (D : va_G) (cs : ClassId × ClassId × ClassId) (a : Nat → Nat) (S : St) : CV l yX1_restart cX1_restart 1 (rm_ 0 0) D cs (mW cs a) (mAd a) [.ref (a 0)] S (fun S1 => S1 = sput (sput S 7 0 0) 8 0 0) := by
  intro sz
  refine cv_start (w := mW cs a) (ad := mAd a) (C := RX1) (by decide) rfl mAd_eq (Nat.le_of_ble_eq_true rfl) ?_
  intro p e s m below meth c ls E hml hr hlocks hsz hW hl
  have hA : ∀ q, s.heap.size ≤ q → wA (mAd a) sz q := fun q h => Or.inr (hsz ▸ h)
  have hl : lv_has ls 1 [(0, .ref (a 0))] := hl
  refine lv_aload_n E.1 E.2.1 dX1_restart_0 rfl (lv_at hl 0 rfl) ?_
  refine lv_iconst (v := 0) E.1 E.2.1 dX1_restart_1 (by decide) ?_
  refine pM_7 E hW dX1_restart_2 (fun H locs hW => ?_)
  refine lv_aload_n E.1 E.2.1 dX1_restart_5 rfl (lv_at hl 0 rfl) ?_
  refine lv_iconst (v := 0) E.1 E.2.1 dX1_restart_6 (by decide) ?_
  refine pM_8 E hW dX1_restart_7 (fun H locs hW => ?_)
  exact cv_ret E hr hlocks hW (rfl) dX1_restart_10
set_option maxHeartbeats 4000000 in
set_option maxRecDepth 100000 in
theorem tM_place (l : Launch) (D : va_G) (cs : ClassId × ClassId × ClassId) (a : Nat → Nat) (S : St) : CI l yX1_place cX1_place 1 .int (rm_ 0 0) D cs (mW cs a) (mAd a) [.ref (a 0)] S (fun v S1 => S1 = S ∧ v = S 7 0) := by
  intro sz
  refine cv_start (w := mW cs a) (ad := mAd a) (C := RX1) (by decide) rfl mAd_eq (Nat.le_of_ble_eq_true rfl) ?_
  intro p e s m below meth c ls E hml hr hlocks hsz hW hl
  have hA : ∀ q, s.heap.size ≤ q → wA (mAd a) sz q := fun q h => Or.inr (hsz ▸ h)
  have hl : lv_has ls 1 [(0, .ref (a 0))] := hl
  refine lv_aload_n E.1 E.2.1 dX1_place_0 rfl (lv_at hl 0 rfl) ?_
  refine gM_7 E hW rfl dX1_place_1 ?_
  exact ci_ret E hr hlocks hW (⟨rfl, rfl⟩) dX1_place_4
set_option maxHeartbeats 4000000 in
set_option maxRecDepth 100000 in
theorem tM_status (l : Launch) (D : va_G) (cs : ClassId × ClassId × ClassId) (a : Nat → Nat) (S : St) : CI l yX1_status cX1_status 1 .int (rm_ 0 0) D cs (mW cs a) (mAd a) [.ref (a 0)] S (fun v S1 => S1 = S ∧ v = S 8 0) := by
  intro sz
  refine cv_start (w := mW cs a) (ad := mAd a) (C := RX1) (by decide) rfl mAd_eq (Nat.le_of_ble_eq_true rfl) ?_
  intro p e s m below meth c ls E hml hr hlocks hsz hW hl
  have hA : ∀ q, s.heap.size ≤ q → wA (mAd a) sz q := fun q h => Or.inr (hsz ▸ h)
  have hl : lv_has ls 1 [(0, .ref (a 0))] := hl
  refine lv_aload_n E.1 E.2.1 dX1_status_0 rfl (lv_at hl 0 rfl) ?_
  refine gM_8 E hW rfl dX1_status_1 ?_
  exact ci_ret E hr hlocks hW (⟨rfl, rfl⟩) dX1_status_4
set_option maxHeartbeats 4000000 in
set_option maxRecDepth 100000 in
theorem tM_register (l : Launch) (D : va_G) (cs : ClassId × ClassId × ClassId) (a : Nat → Nat) (S : St) (r : Int32) : CI l yX1_register cX1_register 2 .int (rm_ 1 21) D cs (mW cs a) (mAd a) [.ref (a 0), .int r] S (fun v S1 => S1 = S ∧ ((isN r 8 ∧ v = S 5 (nt r)) ∨ (¬ isN r 8 ∧ v = 0))) := by
  intro sz
  refine cv_start (w := mW cs a) (ad := mAd a) (C := RX1) (by decide) rfl mAd_eq (Nat.le_of_ble_eq_true rfl) ?_
  intro p e s m below meth c ls E hml hr hlocks hsz hW hl
  have hA : ∀ q, s.heap.size ≤ q → wA (mAd a) sz q := fun q h => Or.inr (hsz ▸ h)
  have hl : lv_has ls 2 [(0, .ref (a 0)), (1, .int r)] := hl
  refine lv_aload_n E.1 E.2.1 dX1_register_0 rfl (lv_at hl 0 rfl) ?_
  refine lv_iload_n E.1 E.2.1 dX1_register_1 rfl (lv_at hl 1 rfl) ?_
  refine ci_call (w := mW cs a) (ad := mAd a) (ci := 1) E hml hl.1 hW mAd_eq hA (tM_isRegister l D cs a S r) (cwV 1 E.2.2.2.1 (lw_V q295 q297 qs21 q25 q298) rfl rfl rfl (by decide +kernel) ⟨Nat.le_of_ble_eq_true rfl, Nat.le_of_ble_eq_true rfl⟩) rfl rfl rfl rfl rfl (Nat.le_of_ble_eq_true rfl) dX1_register_2 ⟨Nat.zero_le _, Nat.zero_le _⟩ (fun v S1 H locs hp hW _ _ => ?_)
  obtain ⟨e1, hp⟩ := hp
  obtain rfl := e1.symm
  refine lv_if_eq (tgt := 17) E.1 E.2.1 dX1_register_5 (by decide) (fun h1 => ?_) (fun h1 => ?_)
  · have hn : ¬ isN r 8 := by
      rcases hp with ⟨_, h⟩ | ⟨h, _⟩
      · rw [h1] at h; exact absurd h (by decide)
      · exact h
    refine lv_iconst (v := 0) E.1 E.2.1 dX1_register_17 (by decide) ?_
    exact ci_ret E hr hlocks hW (⟨rfl, Or.inr ⟨hn, rfl⟩⟩) dX1_register_18
  · have hn : isN r 8 := by
      rcases hp with ⟨h, _⟩ | ⟨_, h⟩
      · exact h
      · exact absurd h h1
    refine lv_aload_n E.1 E.2.1 dX1_register_8 rfl (lv_at hl 0 rfl) ?_
    refine gM_5 E hW dX1_register_9 ?_
    refine lv_iload_n E.1 E.2.1 dX1_register_12 rfl (lv_at hl 1 rfl) ?_
    refine lM_5 E hW ((hn.nt (by decide)).1) ((hn.nt (by decide)).2) (rfl) dX1_register_13 ?_
    refine lv_goto (tgt := 18) E.1 E.2.1 dX1_register_14 (by decide) ?_
    exact ci_ret E hr hlocks hW (⟨rfl, Or.inl ⟨hn, rfl⟩⟩) dX1_register_18
set_option maxHeartbeats 4000000 in
set_option maxRecDepth 100000 in
theorem tM_setRegister (l : Launch) (D : va_G) (cs : ClassId × ClassId × ClassId) (a : Nat → Nat) (S : St) (r x : Int32) : CI l yX1_setRegister cX1_setRegister 3 .boolean (rm_ 1 21) D cs (mW cs a) (mAd a) [.ref (a 0), .int r, .int x] S (fun v S1 => (isN r 8 ∧ v = 1 ∧ S1 = sput S 5 (nt r) x) ∨ (¬ isN r 8 ∧ v = 0 ∧ S1 = S)) := by
  intro sz
  refine cv_start (w := mW cs a) (ad := mAd a) (C := RX1) (by decide) rfl mAd_eq (Nat.le_of_ble_eq_true rfl) ?_
  intro p e s m below meth c ls E hml hr hlocks hsz hW hl
  have hA : ∀ q, s.heap.size ≤ q → wA (mAd a) sz q := fun q h => Or.inr (hsz ▸ h)
  have hl : lv_has ls 3 [(0, .ref (a 0)), (1, .int r), (2, .int x)] := hl
  refine lv_aload_n E.1 E.2.1 dX1_setRegister_0 rfl (lv_at hl 0 rfl) ?_
  refine lv_iload_n E.1 E.2.1 dX1_setRegister_1 rfl (lv_at hl 1 rfl) ?_
  refine ci_call (w := mW cs a) (ad := mAd a) (ci := 1) E hml hl.1 hW mAd_eq hA (tM_isRegister l D cs a S r) (cwV 1 E.2.2.2.1 (lw_V q295 q297 qs21 q25 q298) rfl rfl rfl (by decide +kernel) ⟨Nat.le_of_ble_eq_true rfl, Nat.le_of_ble_eq_true rfl⟩) rfl rfl rfl rfl rfl (Nat.le_of_ble_eq_true rfl) dX1_setRegister_2 ⟨Nat.zero_le _, Nat.zero_le _⟩ (fun v S1 H locs hp hW _ _ => ?_)
  obtain ⟨e1, hp⟩ := hp
  obtain rfl := e1.symm
  refine lv_if_ne (tgt := 10) E.1 E.2.1 dX1_setRegister_5 (by decide) (fun h1 => ?_) (fun h1 => ?_)
  · have hn : isN r 8 := by
      rcases hp with ⟨h, _⟩ | ⟨_, h⟩
      · exact h
      · exact absurd h h1
    refine lv_aload_n E.1 E.2.1 dX1_setRegister_10 rfl (lv_at hl 0 rfl) ?_
    refine gM_5 E hW dX1_setRegister_11 ?_
    refine lv_iload_n E.1 E.2.1 dX1_setRegister_14 rfl (lv_at hl 1 rfl) ?_
    refine lv_iload_n E.1 E.2.1 dX1_setRegister_15 rfl (lv_at hl 2 rfl) ?_
    refine sM_5 E hW ((hn.nt (by decide)).1) ((hn.nt (by decide)).2) dX1_setRegister_16 (fun H locs hW => ?_)
    refine lv_iconst (v := 1) E.1 E.2.1 dX1_setRegister_17 (by decide) ?_
    exact cz_ret E hr hlocks hW (by decide) (Or.inl ⟨hn, rfl, rfl⟩) dX1_setRegister_18
  · have hn : ¬ isN r 8 := by
      rcases hp with ⟨_, h⟩ | ⟨h, _⟩
      · rw [h1] at h; exact absurd h (by decide)
      · exact h
    refine lv_iconst (v := 0) E.1 E.2.1 dX1_setRegister_8 (by decide) ?_
    exact cz_ret E hr hlocks hW (by decide) (Or.inr ⟨hn, rfl, rfl⟩) dX1_setRegister_9
set_option maxHeartbeats 4000000 in
set_option maxRecDepth 100000 in
theorem tM_memory (l : Launch) (D : va_G) (cs : ClassId × ClassId × ClassId) (a : Nat → Nat) (S : St) (r : Int32) : CI l yX1_memory cX1_memory 2 .int (rm_ 0 0) D cs (mW cs a) (mAd a) [.ref (a 0), .int r] S (fun v S1 => S1 = S ∧ ((isN r 16 ∧ v = S 6 (nt r)) ∨ (¬ isN r 16 ∧ v = 0))) := by
  intro sz
  refine cv_start (w := mW cs a) (ad := mAd a) (C := RX1) (by decide) rfl mAd_eq (Nat.le_of_ble_eq_true rfl) ?_
  intro p e s m below meth c ls E hml hr hlocks hsz hW hl
  have hA : ∀ q, s.heap.size ≤ q → wA (mAd a) sz q := fun q h => Or.inr (hsz ▸ h)
  have hl : lv_has ls 2 [(0, .ref (a 0)), (1, .int r)] := hl
  refine lv_iload_n E.1 E.2.1 dX1_memory_0 rfl (lv_at hl 1 rfl) ?_
  refine lv_if_lt (tgt := 19) E.1 E.2.1 dX1_memory_1 (by decide) (fun h1 => ?_) (fun h1 => ?_)
  · refine lv_iconst (v := 0) E.1 E.2.1 dX1_memory_19 (by decide) ?_
    exact ci_ret E hr hlocks hW (⟨rfl, Or.inr ⟨isN_neg h1 (by decide), rfl⟩⟩) dX1_memory_20
  · refine lv_iload_n E.1 E.2.1 dX1_memory_4 rfl (lv_at hl 1 rfl) ?_
    refine lv_bipush (v := 15) E.1 E.2.1 dX1_memory_5 (by decide) ?_
    refine lv_icmp_gt (tgt := 19) E.1 E.2.1 dX1_memory_7 (by decide) (fun h2 => ?_) (fun h2 => ?_)
    · refine lv_iconst (v := 0) E.1 E.2.1 dX1_memory_19 (by decide) ?_
      exact ci_ret E hr hlocks hW (⟨rfl, Or.inr ⟨isN_big (by decide) (by decide) h2, rfl⟩⟩) dX1_memory_20
    · have hn : isN r 16 := isN_mk (by decide) h1 (le_of_nlt h2)
      refine lv_aload_n E.1 E.2.1 dX1_memory_10 rfl (lv_at hl 0 rfl) ?_
      refine gM_6 E hW dX1_memory_11 ?_
      refine lv_iload_n E.1 E.2.1 dX1_memory_14 rfl (lv_at hl 1 rfl) ?_
      refine lM_6 E hW ((hn.nt (by decide)).1) ((hn.nt (by decide)).2) (rfl) dX1_memory_15 ?_
      refine lv_goto (tgt := 20) E.1 E.2.1 dX1_memory_16 (by decide) ?_
      exact ci_ret E hr hlocks hW (⟨rfl, Or.inl ⟨hn, rfl⟩⟩) dX1_memory_20
set_option maxHeartbeats 4000000 in
set_option maxRecDepth 100000 in
theorem tM_setMemory (l : Launch) (D : va_G) (cs : ClassId × ClassId × ClassId) (a : Nat → Nat) (S : St) (r x : Int32) : CI l yX1_setMemory cX1_setMemory 3 .boolean (rm_ 0 0) D cs (mW cs a) (mAd a) [.ref (a 0), .int r, .int x] S (fun v S1 => (isN r 16 ∧ v = 1 ∧ S1 = sput S 6 (nt r) x) ∨ (¬ isN r 16 ∧ v = 0 ∧ S1 = S)) := by
  intro sz
  refine cv_start (w := mW cs a) (ad := mAd a) (C := RX1) (by decide) rfl mAd_eq (Nat.le_of_ble_eq_true rfl) ?_
  intro p e s m below meth c ls E hml hr hlocks hsz hW hl
  have hA : ∀ q, s.heap.size ≤ q → wA (mAd a) sz q := fun q h => Or.inr (hsz ▸ h)
  have hl : lv_has ls 3 [(0, .ref (a 0)), (1, .int r), (2, .int x)] := hl
  refine lv_iload_n E.1 E.2.1 dX1_setMemory_0 rfl (lv_at hl 1 rfl) ?_
  refine lv_if_lt (tgt := 10) E.1 E.2.1 dX1_setMemory_1 (by decide) (fun h1 => ?_) (fun h1 => ?_)
  · refine lv_iconst (v := 0) E.1 E.2.1 dX1_setMemory_10 (by decide) ?_
    exact cz_ret E hr hlocks hW (by decide) (Or.inr ⟨isN_neg h1 (by decide), rfl, rfl⟩) dX1_setMemory_11
  · refine lv_iload_n E.1 E.2.1 dX1_setMemory_4 rfl (lv_at hl 1 rfl) ?_
    refine lv_bipush (v := 15) E.1 E.2.1 dX1_setMemory_5 (by decide) ?_
    refine lv_icmp_le (tgt := 12) E.1 E.2.1 dX1_setMemory_7 (by decide) (fun h2 => ?_) (fun h2 => ?_)
    · have hn : isN r 16 := isN_mk (by decide) h1 h2
      refine lv_aload_n E.1 E.2.1 dX1_setMemory_12 rfl (lv_at hl 0 rfl) ?_
      refine gM_6 E hW dX1_setMemory_13 ?_
      refine lv_iload_n E.1 E.2.1 dX1_setMemory_16 rfl (lv_at hl 1 rfl) ?_
      refine lv_iload_n E.1 E.2.1 dX1_setMemory_17 rfl (lv_at hl 2 rfl) ?_
      refine sM_6 E hW ((hn.nt (by decide)).1) ((hn.nt (by decide)).2) dX1_setMemory_18 (fun H locs hW => ?_)
      refine lv_iconst (v := 1) E.1 E.2.1 dX1_setMemory_19 (by decide) ?_
      exact cz_ret E hr hlocks hW (by decide) (Or.inl ⟨hn, rfl, rfl⟩) dX1_setMemory_20
    · refine lv_iconst (v := 0) E.1 E.2.1 dX1_setMemory_10 (by decide) ?_
      exact cz_ret E hr hlocks hW (by decide) (Or.inr ⟨isN_big (by decide) (by decide) (lt_of_nle h2), rfl, rfl⟩) dX1_setMemory_11
end
section
set_option maxRecDepth 100000
def okE (op x y z : Int32) : Prop := ∃ o : Nat, o ≤ 10 ∧ op = nI o ∧ (o ≤ 8 → isN x 8) ∧ (o ≤ 6 → isN y 8) ∧ (o ≤ 3 → isN z 8) ∧ (o = 7 ∨ o = 8 → isN y 24) ∧ (o = 9 → isN x 24)
theorem okE_of {o : Nat} {x y z : Int32} (h : okE (nI o) x y z) (ho : o ≤ 10) : (o ≤ 8 → isN x 8) ∧ (o ≤ 6 → isN y 8) ∧ (o ≤ 3 → isN z 8) ∧ (o = 7 ∨ o = 8 → isN y 24) ∧ (o = 9 → isN x 24) := by
  obtain ⟨o2, h1, h2, h3⟩ := h
  obtain rfl : o = o2 := nI_inj (by omega) (by omega) h2
  exact h3
theorem okE_isN {op x y z : Int32} (h : okE op x y z) : isN op 11 := by
  obtain ⟨o, h1, h2, _⟩ := h
  exact ⟨o, by omega, h2⟩
/-- what emit does when it takes the instruction: o its code, n the place -/
def emt (n o : Nat) (x y z : Int32) (S S1 : St) : Prop := (∀ k, k ≠ 0 → k ≠ 1 → k ≠ 2 → k ≠ 3 → k ≠ 4 → k ≠ 9 → k ≠ 10 → k ≠ 13 → S1 k = S k) ∧ S1 0 0 = nI (n + 1) ∧ S1 1 = upd (S 1) n (nI o) ∧ S1 2 = upd (S 2) n x.toInt8.toInt32 ∧ S1 3 = upd (S 3) n y.toInt8.toInt32 ∧ S1 4 = upd (S 4) n (if o = 9 then x else if 7 ≤ o then y else z) ∧ (∀ j, j < 8 → S1 10 j = 0) ∧ S1 13 0 = 0
theorem bool_t {v : Int32} {P : Prop} (hp : (P ∧ v = 1) ∨ (¬ P ∧ v = 0)) (h : ¬ v = 0) : P := by
  rcases hp with ⟨h1, _⟩ | ⟨_, h2⟩
  · exact h1
  · exact absurd h2 h
theorem bool_f {v : Int32} {P : Prop} (hp : (P ∧ v = 1) ∨ (¬ P ∧ v = 0)) (h : v = 0) : ¬ P := by
  rcases hp with ⟨_, h1⟩ | ⟨h2, _⟩
  · rw [h] at h1; exact absurd h1 (by decide)
  · exact h2
set_option maxHeartbeats 4000000 in
set_option maxRecDepth 100000 in
/-- emit -/
theorem tX_emit (l : Launch) (D : va_G) (cs : ClassId × ClassId × ClassId) (a : Nat → Nat) (S : St) (n : Nat) (op x y z : Int32) (hn : n ≤ 24) (h0 : S 0 0 = nI n) : CI l yX0_emit cX0_emit 5 .int (rm_ 1 21) D cs (xW cs a) (xAd a) [.ref (a 0), .int op, .int x, .int y, .int z] S (fun v S1 => (n = 24 ∧ v = -2 ∧ S1 = S) ∨ (n < 24 ∧ ¬ okE op x y z ∧ v = -1 ∧ S1 = S) ∨ (n < 24 ∧ okE op x y z ∧ v = nI (n + 1) ∧ ∃ o, o ≤ 10 ∧ op = nI o ∧ emt n o x y z S S1)) := by
  intro sz
  refine cv_start (w := xW cs a) (ad := xAd a) (C := RX0) (by decide) rfl xAd_eq (Nat.le_of_ble_eq_true rfl) ?_
  intro p e s m below meth c ls E hml hr hlocks hsz hW hl
  have hA : ∀ q, s.heap.size ≤ q → wA (xAd a) sz q := fun q h => Or.inr (hsz ▸ h)
  have hl : lv_has ls 5 [(0, .ref (a 0)), (1, .int op), (2, .int x), (3, .int y), (4, .int z)] := hl
  refine lv_aload_n E.1 E.2.1 dX0_emit_0 rfl (lv_at hl 0 rfl) ?_
  refine gX_0 E hW h0 dX0_emit_1 ?_
  refine lv_bipush (v := nI 24) E.1 E.2.1 dX0_emit_4 (by decide) ?_
  refine lv_icmp_lt (tgt := 12) E.1 E.2.1 dX0_emit_6 (by decide) (fun hlt => ?_) (fun hlt => ?_)
  rotate_left
  · have h24 : n = 24 := by
      have := nI_nltI (by omega) (by omega) hlt
      omega
    refine lv_bipush (v := (-2)) E.1 E.2.1 dX0_emit_9 (by decide) ?_
    exact ci_ret E hr hlocks hW (Or.inl ⟨h24, rfl, rfl⟩) dX0_emit_11
  have hlt : n < 24 := (nI_ltI (by omega) (by decide)).mp hlt
  refine lv_iload_n E.1 E.2.1 dX0_emit_12 rfl (lv_at hl 1 rfl) ?_
  refine lv_if_lt (tgt := 22) E.1 E.2.1 dX0_emit_13 (by decide) (fun h1 => ?_) (fun h1 => ?_)
  · refine lv_iconst (v := (-1)) E.1 E.2.1 dX0_emit_22 (by decide) ?_
    exact ci_ret E hr hlocks hW (Or.inr (Or.inl ⟨hlt, fun h => isN_neg h1 (by decide) (okE_isN h), rfl, rfl⟩)) dX0_emit_23
  refine lv_iload_n E.1 E.2.1 dX0_emit_16 rfl (lv_at hl 1 rfl) ?_
  refine lv_bipush (v := 10) E.1 E.2.1 dX0_emit_17 (by decide) ?_
  refine lv_icmp_le (tgt := 24) E.1 E.2.1 dX0_emit_19 (by decide) (fun h2 => ?_) (fun h2 => ?_)
  rotate_left
  · refine lv_iconst (v := (-1)) E.1 E.2.1 dX0_emit_22 (by decide) ?_
    exact ci_ret E hr hlocks hW (Or.inr (Or.inl ⟨hlt, fun h => isN_big (by decide) (by decide) (lt_of_nle h2) (okE_isN h), rfl, rfl⟩)) dX0_emit_23
  obtain ⟨o, ho, rfl⟩ : isN op 11 := isN_mk (by decide) h1 h2
  have ho : o ≤ 10 := by omega
  refine x_joinS (w := xW cs a) (A := wA (xAd a) sz) (H0 := s.heap) (D := D) (pj := 40) (lj := ls) (rj := []) (fun S1 => S1 = S ∧ (o ≤ 8 → isN x 8)) (fun join => ?_) (fun S1 H locs hj hW => ?_)
  · refine lv_iload_n E.1 E.2.1 dX0_emit_24 rfl (lv_at hl 1 rfl) ?_
    refine lv_bipush (v := nI 8) E.1 E.2.1 dX0_emit_25 (by decide) ?_
    refine lv_icmp_gt (tgt := 40) E.1 E.2.1 dX0_emit_27 (by decide) (fun hc => ?_) (fun hc => ?_)
    · have hc : 8 < o := (nI_ltI (by decide) (by omega)).mp hc
      exact join _ _ _ ⟨rfl, fun h => absurd h (by omega)⟩ hW
    · have hc : o ≤ 8 := by
        have := nI_nltI (by omega) (by omega) hc
        omega
      refine lv_aload_n E.1 E.2.1 dX0_emit_30 rfl (lv_at hl 0 rfl) ?_
      refine lv_iload_n E.1 E.2.1 dX0_emit_31 rfl (lv_at hl 2 rfl) ?_
      refine ci_call (w := xW cs a) (ad := xAd a) (ci := 0) E hml hl.1 hW xAd_eq hA (tX_isRegister l D cs a S x) (cwV 1 E.2.2.2.1 (lw_V q140 q142 qs2 q24 q143) rfl rfl rfl (by decide +kernel) ⟨Nat.le_of_ble_eq_true rfl, Nat.le_of_ble_eq_true rfl⟩) rfl rfl rfl rfl rfl (Nat.le_of_ble_eq_true rfl) dX0_emit_32 ⟨Nat.zero_le _, Nat.zero_le _⟩ (fun v S1 H locs hp hW _ _ => ?_)
      obtain ⟨e1, hp⟩ := hp
      obtain rfl := e1.symm
      refine lv_if_ne (tgt := 40) E.1 E.2.1 dX0_emit_35 (by decide) (fun hv => ?_) (fun hv => ?_)
      · exact join _ _ _ ⟨rfl, fun _ => bool_t hp hv⟩ hW
      · have hno := bool_f hp hv
        refine lv_iconst (v := (-1)) E.1 E.2.1 dX0_emit_38 (by decide) ?_
        exact ci_ret E hr hlocks hW (Or.inr (Or.inl ⟨hlt, fun h => hno ((okE_of h ho).1 hc), rfl, rfl⟩)) dX0_emit_39
  obtain ⟨e1, k8⟩ := hj
  obtain rfl := e1.symm
  refine x_joinS (w := xW cs a) (A := wA (xAd a) sz) (H0 := s.heap) (D := D) (pj := 56) (lj := ls) (rj := []) (fun S1 => S1 = S ∧ (o ≤ 6 → isN y 8)) (fun join => ?_) (fun S1 H locs hj hW => ?_)
  · refine lv_iload_n E.1 E.2.1 dX0_emit_40 rfl (lv_at hl 1 rfl) ?_
    refine lv_bipush (v := nI 6) E.1 E.2.1 dX0_emit_41 (by decide) ?_
    refine lv_icmp_gt (tgt := 56) E.1 E.2.1 dX0_emit_43 (by decide) (fun hc => ?_) (fun hc => ?_)
    · have hc : 6 < o := (nI_ltI (by decide) (by omega)).mp hc
      exact join _ _ _ ⟨rfl, fun h => absurd h (by omega)⟩ hW
    · have hc : o ≤ 6 := by
        have := nI_nltI (by omega) (by omega) hc
        omega
      refine lv_aload_n E.1 E.2.1 dX0_emit_46 rfl (lv_at hl 0 rfl) ?_
      refine lv_iload_n E.1 E.2.1 dX0_emit_47 rfl (lv_at hl 3 rfl) ?_
      refine ci_call (w := xW cs a) (ad := xAd a) (ci := 0) E hml hl.1 hW xAd_eq hA (tX_isRegister l D cs a S y) (cwV 1 E.2.2.2.1 (lw_V q140 q142 qs2 q24 q143) rfl rfl rfl (by decide +kernel) ⟨Nat.le_of_ble_eq_true rfl, Nat.le_of_ble_eq_true rfl⟩) rfl rfl rfl rfl rfl (Nat.le_of_ble_eq_true rfl) dX0_emit_48 ⟨Nat.zero_le _, Nat.zero_le _⟩ (fun v S1 H locs hp hW _ _ => ?_)
      obtain ⟨e1, hp⟩ := hp
      obtain rfl := e1.symm
      refine lv_if_ne (tgt := 56) E.1 E.2.1 dX0_emit_51 (by decide) (fun hv => ?_) (fun hv => ?_)
      · exact join _ _ _ ⟨rfl, fun _ => bool_t hp hv⟩ hW
      · have hno := bool_f hp hv
        refine lv_iconst (v := (-1)) E.1 E.2.1 dX0_emit_54 (by decide) ?_
        exact ci_ret E hr hlocks hW (Or.inr (Or.inl ⟨hlt, fun h => hno ((okE_of h ho).2.1 hc), rfl, rfl⟩)) dX0_emit_55
  obtain ⟨e1, k6⟩ := hj
  obtain rfl := e1.symm
  refine x_joinS (w := xW cs a) (A := wA (xAd a) sz) (H0 := s.heap) (D := D) (pj := 72) (lj := ls) (rj := []) (fun S1 => S1 = S ∧ (o ≤ 3 → isN z 8)) (fun join => ?_) (fun S1 H locs hj hW => ?_)
  · refine lv_iload_n E.1 E.2.1 dX0_emit_56 rfl (lv_at hl 1 rfl) ?_
    refine lv_iconst (v := nI 3) E.1 E.2.1 dX0_emit_57 (by decide) ?_
    refine lv_icmp_gt (tgt := 72) E.1 E.2.1 dX0_emit_58 (by decide) (fun hc => ?_) (fun hc => ?_)
    · have hc : 3 < o := (nI_ltI (by decide) (by omega)).mp hc
      exact join _ _ _ ⟨rfl, fun h => absurd h (by omega)⟩ hW
    · have hc : o ≤ 3 := by
        have := nI_nltI (by omega) (by omega) hc
        omega
      refine lv_aload_n E.1 E.2.1 dX0_emit_61 rfl (lv_at hl 0 rfl) ?_
      refine lv_iload E.1 E.2.1 dX0_emit_62 (lv_at hl 4 rfl) ?_
      refine ci_call (w := xW cs a) (ad := xAd a) (ci := 0) E hml hl.1 hW xAd_eq hA (tX_isRegister l D cs a S z) (cwV 1 E.2.2.2.1 (lw_V q140 q142 qs2 q24 q143) rfl rfl rfl (by decide +kernel) ⟨Nat.le_of_ble_eq_true rfl, Nat.le_of_ble_eq_true rfl⟩) rfl rfl rfl rfl rfl (Nat.le_of_ble_eq_true rfl) dX0_emit_64 ⟨Nat.zero_le _, Nat.zero_le _⟩ (fun v S1 H locs hp hW _ _ => ?_)
      obtain ⟨e1, hp⟩ := hp
      obtain rfl := e1.symm
      refine lv_if_ne (tgt := 72) E.1 E.2.1 dX0_emit_67 (by decide) (fun hv => ?_) (fun hv => ?_)
      · exact join _ _ _ ⟨rfl, fun _ => bool_t hp hv⟩ hW
      · have hno := bool_f hp hv
        refine lv_iconst (v := (-1)) E.1 E.2.1 dX0_emit_70 (by decide) ?_
        exact ci_ret E hr hlocks hW (Or.inr (Or.inl ⟨hlt, fun h => hno ((okE_of h ho).2.2.1 hc), rfl, rfl⟩)) dX0_emit_71
  obtain ⟨e1, k3⟩ := hj
  obtain rfl := e1.symm
  refine x_joinS (w := xW cs a) (A := wA (xAd a) sz) (H0 := s.heap) (D := D) (pj := 94) (lj := ls) (rj := []) (fun S1 => S1 = S ∧ (o = 7 ∨ o = 8 → isN y 24)) (fun join => ?_) (fun S1 H locs hj hW => ?_)
  · refine x_joinP (pj := 84) (lj := ls) (rj := []) (o = 7 ∨ o = 8) (fun join2 => ?_) (fun h78 => ?_)
    · refine lv_iload_n E.1 E.2.1 dX0_emit_72 rfl (lv_at hl 1 rfl) ?_
      refine lv_bipush (v := nI 7) E.1 E.2.1 dX0_emit_73 (by decide) ?_
      refine lv_icmp_eq (tgt := 84) E.1 E.2.1 dX0_emit_75 (by decide) (fun hc => ?_) (fun hc => ?_)
      · exact join2 (Or.inl (nI_inj (by omega) (by decide) hc))
      · refine lv_iload_n E.1 E.2.1 dX0_emit_78 rfl (lv_at hl 1 rfl) ?_
        refine lv_bipush (v := nI 8) E.1 E.2.1 dX0_emit_79 (by decide) ?_
        refine lv_icmp_ne (tgt := 94) E.1 E.2.1 dX0_emit_81 (by decide) (fun hd => ?_) (fun hd => ?_)
        · exact join _ _ _ ⟨rfl, fun h => by
            rcases h with h | h
            · exact absurd (by rw [h]) hc
            · exact absurd (by rw [h]) hd⟩ hW
        · exact join2 (Or.inr (nI_inj (by omega) (by decide) hd))
    refine lv_aload_n E.1 E.2.1 dX0_emit_84 rfl (lv_at hl 0 rfl) ?_
    refine lv_iload_n E.1 E.2.1 dX0_emit_85 rfl (lv_at hl 3 rfl) ?_
    refine ci_call (w := xW cs a) (ad := xAd a) (ci := 0) E hml hl.1 hW xAd_eq hA (tX_isTarget l D cs a S y) (cwV 1 E.2.2.2.1 (lw_V q144 q146 qs3 q24 q147) rfl rfl rfl (by decide +kernel) ⟨Nat.le_of_ble_eq_true rfl, Nat.le_of_ble_eq_true rfl⟩) rfl rfl rfl rfl rfl (Nat.le_of_ble_eq_true rfl) dX0_emit_86 ⟨Nat.zero_le _, Nat.zero_le _⟩ (fun v S1 H locs hp hW _ _ => ?_)
    obtain ⟨e1, hp⟩ := hp
    obtain rfl := e1.symm
    refine lv_if_ne (tgt := 94) E.1 E.2.1 dX0_emit_89 (by decide) (fun hv => ?_) (fun hv => ?_)
    · exact join _ _ _ ⟨rfl, fun _ => bool_t hp hv⟩ hW
    · have hno := bool_f hp hv
      refine lv_iconst (v := (-1)) E.1 E.2.1 dX0_emit_92 (by decide) ?_
      exact ci_ret E hr hlocks hW (Or.inr (Or.inl ⟨hlt, fun h => hno ((okE_of h ho).2.2.2.1 h78), rfl, rfl⟩)) dX0_emit_93
  obtain ⟨e1, k78⟩ := hj
  obtain rfl := e1.symm
  refine x_joinS (w := xW cs a) (A := wA (xAd a) sz) (H0 := s.heap) (D := D) (pj := 110) (lj := ls) (rj := []) (fun S1 => S1 = S ∧ (o = 9 → isN x 24)) (fun join => ?_) (fun S1 H locs hj hW => ?_)
  · refine lv_iload_n E.1 E.2.1 dX0_emit_94 rfl (lv_at hl 1 rfl) ?_
    refine lv_bipush (v := nI 9) E.1 E.2.1 dX0_emit_95 (by decide) ?_
    refine lv_icmp_ne (tgt := 110) E.1 E.2.1 dX0_emit_97 (by decide) (fun hc => ?_) (fun hc => ?_)
    · exact join _ _ _ ⟨rfl, fun h => absurd (by rw [h]) hc⟩ hW
    · have hc : o = 9 := nI_inj (by omega) (by decide) hc
      refine lv_aload_n E.1 E.2.1 dX0_emit_100 rfl (lv_at hl 0 rfl) ?_
      refine lv_iload_n E.1 E.2.1 dX0_emit_101 rfl (lv_at hl 2 rfl) ?_
      refine ci_call (w := xW cs a) (ad := xAd a) (ci := 0) E hml hl.1 hW xAd_eq hA (tX_isTarget l D cs a S x) (cwV 1 E.2.2.2.1 (lw_V q144 q146 qs3 q24 q147) rfl rfl rfl (by decide +kernel) ⟨Nat.le_of_ble_eq_true rfl, Nat.le_of_ble_eq_true rfl⟩) rfl rfl rfl rfl rfl (Nat.le_of_ble_eq_true rfl) dX0_emit_102 ⟨Nat.zero_le _, Nat.zero_le _⟩ (fun v S1 H locs hp hW _ _ => ?_)
      obtain ⟨e1, hp⟩ := hp
      obtain rfl := e1.symm
      refine lv_if_ne (tgt := 110) E.1 E.2.1 dX0_emit_105 (by decide) (fun hv => ?_) (fun hv => ?_)
      · exact join _ _ _ ⟨rfl, fun _ => bool_t hp hv⟩ hW
      · have hno := bool_f hp hv
        refine lv_iconst (v := (-1)) E.1 E.2.1 dX0_emit_108 (by decide) ?_
        exact ci_ret E hr hlocks hW (Or.inr (Or.inl ⟨hlt, fun h => hno ((okE_of h ho).2.2.2.2 hc), rfl, rfl⟩)) dX0_emit_109
  obtain ⟨e1, k9⟩ := hj
  obtain rfl := e1.symm
  have hok : okE (nI o) x y z := ⟨o, ho, rfl, k8, k6, k3, k78, k9⟩
  refine lv_aload_n E.1 E.2.1 dX0_emit_110 rfl (lv_at hl 0 rfl) ?_
  refine gX_1 E hW dX0_emit_111 ?_
  refine lv_aload_n E.1 E.2.1 dX0_emit_114 rfl (lv_at hl 0 rfl) ?_
  refine gX_0 E hW h0 dX0_emit_115 ?_
  refine lv_iload_n E.1 E.2.1 dX0_emit_118 rfl (lv_at hl 1 rfl) ?_
  refine lv_i2b (v := nI o) E.1 E.2.1 dX0_emit_119 (x_i2b (by omega)) ?_
  refine sX_1 E hW (rfl) (hlt) (x_nb (by omega)) dX0_emit_120 (fun H locs hW => ?_)
  refine lv_aload_n E.1 E.2.1 dX0_emit_121 rfl (lv_at hl 0 rfl) ?_
  refine gX_2 E hW dX0_emit_122 ?_
  refine lv_aload_n E.1 E.2.1 dX0_emit_125 rfl (lv_at hl 0 rfl) ?_
  refine gX_0 E hW h0 dX0_emit_126 ?_
  refine lv_iload_n E.1 E.2.1 dX0_emit_129 rfl (lv_at hl 2 rfl) ?_
  refine lv_i2b (v := x.toInt8.toInt32) E.1 E.2.1 dX0_emit_130 (rfl) ?_
  refine sX_2 E hW (rfl) (hlt) (pk_vb x) dX0_emit_131 (fun H locs hW => ?_)
  refine lv_aload_n E.1 E.2.1 dX0_emit_132 rfl (lv_at hl 0 rfl) ?_
  refine gX_3 E hW dX0_emit_133 ?_
  refine lv_aload_n E.1 E.2.1 dX0_emit_136 rfl (lv_at hl 0 rfl) ?_
  refine gX_0 E hW h0 dX0_emit_137 ?_
  refine lv_iload_n E.1 E.2.1 dX0_emit_140 rfl (lv_at hl 3 rfl) ?_
  refine lv_i2b (v := y.toInt8.toInt32) E.1 E.2.1 dX0_emit_141 (rfl) ?_
  refine sX_3 E hW (rfl) (hlt) (pk_vb y) dX0_emit_142 (fun H locs hW => ?_)
  refine lv_aload_n E.1 E.2.1 dX0_emit_143 rfl (lv_at hl 0 rfl) ?_
  refine gX_4 E hW dX0_emit_144 ?_
  refine lv_aload_n E.1 E.2.1 dX0_emit_147 rfl (lv_at hl 0 rfl) ?_
  refine gX_0 E hW h0 dX0_emit_148 ?_
  refine x_join (pj := 173) (lj := ls) (rj := [.int (nI n), .ref (a 4)]) (fun v => v = if o = 9 then x else if 7 ≤ o then y else z) (fun join => ?_) (fun v hj => ?_)
  · refine lv_iload_n E.1 E.2.1 dX0_emit_151 rfl (lv_at hl 1 rfl) ?_
    refine lv_bipush (v := nI 9) E.1 E.2.1 dX0_emit_152 (by decide) ?_
    refine lv_icmp_ne (tgt := 161) E.1 E.2.1 dX0_emit_154 (by decide) (fun hc => ?_) (fun hc => ?_)
    · have hc : ¬ o = 9 := fun h => hc (by rw [h])
      refine lv_iload_n E.1 E.2.1 dX0_emit_161 rfl (lv_at hl 1 rfl) ?_
      refine lv_bipush (v := nI 7) E.1 E.2.1 dX0_emit_162 (by decide) ?_
      refine lv_icmp_lt (tgt := 171) E.1 E.2.1 dX0_emit_164 (by decide) (fun hd => ?_) (fun hd => ?_)
      · have hd : o < 7 := (nI_ltI (by omega) (by decide)).mp hd
        refine lv_iload E.1 E.2.1 dX0_emit_171 (lv_at hl 4 rfl) ?_
        exact join _ (by rw [if_neg hc, if_neg (by omega)])
      · have hd : 7 ≤ o := by
          have := nI_nltI (by omega) (by omega) hd
          omega
        refine lv_iload_n E.1 E.2.1 dX0_emit_167 rfl (lv_at hl 3 rfl) ?_
        refine lv_goto (tgt := 173) E.1 E.2.1 dX0_emit_168 (by decide) ?_
        exact join _ (by rw [if_neg hc, if_pos hd])
    · have hc : o = 9 := nI_inj (by omega) (by decide) hc
      refine lv_iload_n E.1 E.2.1 dX0_emit_157 rfl (lv_at hl 2 rfl) ?_
      refine lv_goto (tgt := 173) E.1 E.2.1 dX0_emit_158 (by decide) ?_
      exact join _ (by rw [if_pos hc])
  subst hj
  refine sX_4 E hW (rfl) (hlt) dX0_emit_173 (fun H locs hW => ?_)
  refine lv_aload_n E.1 E.2.1 dX0_emit_174 rfl (lv_at hl 0 rfl) ?_
  refine gX_9 E hW dX0_emit_175 ?_
  refine lv_aload_n E.1 E.2.1 dX0_emit_178 rfl (lv_at hl 0 rfl) ?_
  refine gX_0 E hW h0 dX0_emit_179 ?_
  refine lv_iconst (v := 1) E.1 E.2.1 dX0_emit_182 (by decide) ?_
  refine sX_9 E hW (rfl) (hlt) (x_nb1) dX0_emit_183 (fun H locs hW => ?_)
  refine lv_aload_n E.1 E.2.1 dX0_emit_184 rfl (lv_at hl 0 rfl) ?_
  refine lv_dup E.1 E.2.1 dX0_emit_185 rfl ?_
  refine gX_0 E hW h0 dX0_emit_186 ?_
  refine lv_iconst (v := 1) E.1 E.2.1 dX0_emit_189 (by decide) ?_
  refine lv_iadd E.1 E.2.1 dX0_emit_190 ?_
  refine x_top (y := nI (n + 1)) (nI_1 n) ?_
  refine pX_0 E hW dX0_emit_191 (fun H locs hW => ?_)
  refine lv_aload_n E.1 E.2.1 dX0_emit_194 rfl (lv_at hl 0 rfl) ?_
  refine cv_call (w := xW cs a) (ad := xAd a) (ci := 0) E hml hl.1 hW xAd_eq hA (tX_forgetTraces l D cs a _) (cwV 0 E.2.2.2.1 (lw_V q34 q36 qs0 q24 q37) rfl rfl rfl (by decide +kernel) ⟨Nat.le_of_ble_eq_true rfl, Nat.le_of_ble_eq_true rfl⟩) rfl rfl rfl rfl rfl (Nat.le_of_ble_eq_true rfl) dX0_emit_195 ⟨Nat.zero_le _, Nat.zero_le _⟩ (fun S1 H locs hp hW _ _ => ?_)
  obtain ⟨g1, g2, g3⟩ := hp
  refine lv_aload_n E.1 E.2.1 dX0_emit_198 rfl (lv_at hl 0 rfl) ?_
  refine gX_0 E hW (show S1 0 0 = nI (n + 1) by rw [g1 0 (by decide) (by decide)]; rfl) dX0_emit_199 ?_
  exact ci_ret E hr hlocks hW (Or.inr (Or.inr ⟨hlt, hok, rfl, o, ho, rfl, fun k h0 h1 h2 h3 h4 h9 h10 h13 => by rw [g1 k h10 h13, sput_k h0, sput_k h9, sput_k h4, sput_k h3, sput_k h2, sput_k h1], by rw [g1 0 (by decide) (by decide)]; rfl, by rw [g1 1 (by decide) (by decide)]; rfl, by rw [g1 2 (by decide) (by decide)]; rfl, by rw [g1 3 (by decide) (by decide)]; rfl, by rw [g1 4 (by decide) (by decide)]; rfl, g2, g3⟩)) dX0_emit_202
def okA (S : St) (n : Nat) (i v : Int32) : Prop := ∃ j : Nat, j < n ∧ i = nI j ∧ 4 ≤ nt (S 1 j) ∧ nt (S 1 j) ≤ 9 ∧ (7 ≤ nt (S 1 j) → isN v 24)
theorem okA_of {S : St} {n j : Nat} {v : Int32} (hn : n ≤ 24) (hj : j < n) (h : okA S n (nI j) v) : 4 ≤ nt (S 1 j) ∧ nt (S 1 j) ≤ 9 ∧ (7 ≤ nt (S 1 j) → isN v 24) := by
  obtain ⟨j2, h1, h2, h3⟩ := h
  obtain rfl : j = j2 := nI_inj (by omega) (by omega) h2
  exact h3
theorem okA_isN {S : St} {n : Nat} {i v : Int32} (h : okA S n i v) : isN i n := by
  obtain ⟨j, h1, h2, _⟩ := h
  exact ⟨j, h1, h2⟩
set_option maxHeartbeats 4000000 in
set_option maxRecDepth 100000 in
/-- amend -/
theorem tX_amend (l : Launch) (D : va_G) (cs : ClassId × ClassId × ClassId) (a : Nat → Nat) (S : St) (n : Nat) (i x : Int32) (hn : n ≤ 24) (h0 : S 0 0 = nI n) (hop : ∀ j, j < n → isN (S 1 j) 11) : CI l yX0_amend cX0_amend 4 .int (rm_ 1 21) D cs (xW cs a) (xAd a) [.ref (a 0), .int i, .int x] S (fun v S1 => (¬ okA S n i x ∧ v = -1 ∧ S1 = S) ∨ (okA S n i x ∧ v = i ∧ (∀ k, k ≠ 4 → k ≠ 10 → k ≠ 13 → S1 k = S k) ∧ S1 4 = upd (S 4) (nt i) x ∧ (∀ j, j < 8 → S1 10 j = 0) ∧ S1 13 0 = 0)) := by
  intro sz
  refine cv_start (w := xW cs a) (ad := xAd a) (C := RX0) (by decide) rfl xAd_eq (Nat.le_of_ble_eq_true rfl) ?_
  intro p e s m below meth c ls E hml hr hlocks hsz hW hl
  have hA : ∀ q, s.heap.size ≤ q → wA (xAd a) sz q := fun q h => Or.inr (hsz ▸ h)
  have hl : lv_has ls 4 [(0, .ref (a 0)), (1, .int i), (2, .int x)] := hl
  refine lv_iload_n E.1 E.2.1 dX0_amend_0 rfl (lv_at hl 1 rfl) ?_
  refine lv_if_lt (tgt := 12) E.1 E.2.1 dX0_amend_1 (by decide) (fun h1 => ?_) (fun h1 => ?_)
  · refine lv_iconst (v := (-1)) E.1 E.2.1 dX0_amend_12 (by decide) ?_
    exact ci_ret E hr hlocks hW (Or.inl ⟨fun h => isN_neg h1 (by omega) (okA_isN h), rfl, rfl⟩) dX0_amend_13
  refine lv_iload_n E.1 E.2.1 dX0_amend_4 rfl (lv_at hl 1 rfl) ?_
  refine lv_aload_n E.1 E.2.1 dX0_amend_5 rfl (lv_at hl 0 rfl) ?_
  refine gX_0 E hW h0 dX0_amend_6 ?_
  refine lv_icmp_lt (tgt := 14) E.1 E.2.1 dX0_amend_9 (by decide) (fun h2 => ?_) (fun h2 => ?_)
  rotate_left
  · refine lv_iconst (v := (-1)) E.1 E.2.1 dX0_amend_12 (by decide) ?_
    exact ci_ret E hr hlocks hW (Or.inl ⟨fun h => by
      obtain ⟨j, hj, e⟩ := okA_isN h
      exact h2 (by rw [e]; exact nI_lt hj (by omega)), rfl, rfl⟩) dX0_amend_13
  obtain ⟨j, hj, rfl⟩ : isN i n := by
    obtain ⟨j, hj, rfl⟩ := nI_of h1
    exact ⟨j, (nI_ltI hj (by omega)).mp h2, rfl⟩
  obtain ⟨o, ho, eo⟩ := hop j hj
  have hnt : nt (S 1 j) = o := by rw [eo, nt_nI (by omega)]
  have hntj : nt (nI j) = j := nt_nI (by omega)
  refine lv_aload_n E.1 E.2.1 dX0_amend_14 rfl (lv_at hl 0 rfl) ?_
  refine gX_1 E hW dX0_amend_15 ?_
  refine lv_iload_n E.1 E.2.1 dX0_amend_18 rfl (lv_at hl 1 rfl) ?_
  refine lX_1 E hW (rfl) (by omega) (eo) dX0_amend_19 ?_
  refine xl_istore_n (lv' := [(0, _), (1, _), (2, _), (3, _)]) E dX0_amend_20 rfl hl (by decide) [1, 2, 3, 0] rfl (fun ls hl => ?_)
  refine lv_iload_n E.1 E.2.1 dX0_amend_21 rfl (lv_at hl 3 rfl) ?_
  refine lv_iconst (v := nI 4) E.1 E.2.1 dX0_amend_22 (by decide) ?_
  refine lv_icmp_lt (tgt := 32) E.1 E.2.1 dX0_amend_23 (by decide) (fun h3 => ?_) (fun h3 => ?_)
  · have h3 : o < 4 := (nI_ltI (by omega) (by decide)).mp h3
    refine lv_iconst (v := (-1)) E.1 E.2.1 dX0_amend_32 (by decide) ?_
    exact ci_ret E hr hlocks hW (Or.inl ⟨fun h => by have := (okA_of hn hj h).1; omega, rfl, rfl⟩) dX0_amend_33
  have h3 : 4 ≤ o := by
    have := nI_nltI (by omega) (by omega) h3
    omega
  refine lv_iload_n E.1 E.2.1 dX0_amend_26 rfl (lv_at hl 3 rfl) ?_
  refine lv_bipush (v := nI 10) E.1 E.2.1 dX0_amend_27 (by decide) ?_
  refine lv_icmp_ne (tgt := 34) E.1 E.2.1 dX0_amend_29 (by decide) (fun h4 => ?_) (fun h4 => ?_)
  rotate_left
  · have h4 : o = 10 := nI_inj (by omega) (by decide) h4
    refine lv_iconst (v := (-1)) E.1 E.2.1 dX0_amend_32 (by decide) ?_
    exact ci_ret E hr hlocks hW (Or.inl ⟨fun h => by have := (okA_of hn hj h).2.1; omega, rfl, rfl⟩) dX0_amend_33
  have h4 : o ≤ 9 := by
    have := nI_neI h4
    omega
  refine x_joinS (w := xW cs a) (A := wA (xAd a) sz) (H0 := s.heap) (D := D) (pj := 50) (lj := ls) (rj := []) (fun S1 => S1 = S ∧ (7 ≤ o → isN x 24)) (fun join => ?_) (fun S1 H locs hj' hW => ?_)
  · refine lv_iload_n E.1 E.2.1 dX0_amend_34 rfl (lv_at hl 3 rfl) ?_
    refine lv_bipush (v := nI 7) E.1 E.2.1 dX0_amend_35 (by decide) ?_
    refine lv_icmp_lt (tgt := 50) E.1 E.2.1 dX0_amend_37 (by decide) (fun hc => ?_) (fun hc => ?_)
    · have hc : o < 7 := (nI_ltI (by omega) (by decide)).mp hc
      exact join _ _ _ ⟨rfl, fun h => absurd h (by omega)⟩ hW
    · have hc : 7 ≤ o := by
        have := nI_nltI (by omega) (by omega) hc
        omega
      refine lv_aload_n E.1 E.2.1 dX0_amend_40 rfl (lv_at hl 0 rfl) ?_
      refine lv_iload_n E.1 E.2.1 dX0_amend_41 rfl (lv_at hl 2 rfl) ?_
      refine ci_call (w := xW cs a) (ad := xAd a) (ci := 0) E hml hl.1 hW xAd_eq hA (tX_isTarget l D cs a S x) (cwV 1 E.2.2.2.1 (lw_V q144 q146 qs3 q24 q147) rfl rfl rfl (by decide +kernel) ⟨Nat.le_of_ble_eq_true rfl, Nat.le_of_ble_eq_true rfl⟩) rfl rfl rfl rfl rfl (Nat.le_of_ble_eq_true rfl) dX0_amend_42 ⟨Nat.zero_le _, Nat.zero_le _⟩ (fun v S1 H locs hp hW _ _ => ?_)
      obtain ⟨e1, hp⟩ := hp
      obtain rfl := e1.symm
      refine lv_if_ne (tgt := 50) E.1 E.2.1 dX0_amend_45 (by decide) (fun hv => ?_) (fun hv => ?_)
      · exact join _ _ _ ⟨rfl, fun _ => bool_t hp hv⟩ hW
      · have hno := bool_f hp hv
        refine lv_iconst (v := (-1)) E.1 E.2.1 dX0_amend_48 (by decide) ?_
        exact ci_ret E hr hlocks hW (Or.inl ⟨fun h => hno ((okA_of hn hj h).2.2 (by omega)), rfl, rfl⟩) dX0_amend_49
  obtain ⟨e1, k7⟩ := hj'
  obtain rfl := e1.symm
  refine lv_aload_n E.1 E.2.1 dX0_amend_50 rfl (lv_at hl 0 rfl) ?_
  refine gX_4 E hW dX0_amend_51 ?_
  refine lv_iload_n E.1 E.2.1 dX0_amend_54 rfl (lv_at hl 1 rfl) ?_
  refine lv_iload_n E.1 E.2.1 dX0_amend_55 rfl (lv_at hl 2 rfl) ?_
  refine sX_4 E hW (rfl) (by omega) dX0_amend_56 (fun H locs hW => ?_)
  refine lv_aload_n E.1 E.2.1 dX0_amend_57 rfl (lv_at hl 0 rfl) ?_
  refine cv_call (w := xW cs a) (ad := xAd a) (ci := 0) E hml hl.1 hW xAd_eq hA (tX_forgetTraces l D cs a _) (cwV 0 E.2.2.2.1 (lw_V q34 q36 qs0 q24 q37) rfl rfl rfl (by decide +kernel) ⟨Nat.le_of_ble_eq_true rfl, Nat.le_of_ble_eq_true rfl⟩) rfl rfl rfl rfl rfl (Nat.le_of_ble_eq_true rfl) dX0_amend_58 ⟨Nat.zero_le _, Nat.zero_le _⟩ (fun S1 H locs hp hW _ _ => ?_)
  obtain ⟨g1, g2, g3⟩ := hp
  refine lv_iload_n E.1 E.2.1 dX0_amend_61 rfl (lv_at hl 1 rfl) ?_
  exact ci_ret E hr hlocks hW (Or.inr ⟨⟨j, hj, rfl, by omega, by omega, fun h => k7 (by omega)⟩, rfl, fun k h4 h10 h13 => by rw [g1 k h10 h13, sput_k h4], by rw [g1 4 (by decide) (by decide), hntj]; rfl, g2, g3⟩) dX0_amend_62
section L_lpX_clear_7
variable {p : Program} {l : Launch} {e : Env} {R : Room} {s : State} {m : MethodId} {args : Array Value} {below : List Frame} {meth : Method} {c : Code} {H : Heap} {locs : List Loc} {cells slots : Nat} {Q : State → Prop}
variable {cc : ByteArray} {pc : Nat} {ls : Array Slot} {rest : List Value} {D : va_G} {cs : ClassId × ClassId × ClassId} {a : Nat → Nat} {S : St} {A : Nat → Prop} {H0 : Heap}
set_option maxHeartbeats 4000000 in
theorem lpX_clear_7 (E : XE RX0 p s m args c cX0_clear D cs) (S0 : St) (kk : ∀ (S1 : St) (H : Heap) (locs : List Loc) (ls : Array Slot), (∀ k, k ≠ 5 → S1 k = S0 k) → (∀ j, j < 8 → S1 5 j = 0) → (∀ j, ¬ j < 8 → S1 5 j = S0 5 j) → PW D (xW cs a S1) A H0 H locs → lv_has ls 2 [(0, .ref (a 0)), (1, .int (nI 8))] → W p l e R s m args below meth c H locs cells slots Q (F0 m 26 ls [])) :
    ∀ (n k : Nat) (S1 : St) (H : Heap) (locs : List Loc) (ls : Array Slot), k + n = 8 → (∀ q, q ≠ 5 → S1 q = S0 q) → (∀ j, j < k → S1 5 j = 0) → (∀ j, ¬ j < k → S1 5 j = S0 5 j) → PW D (xW cs a S1) A H0 H locs → lv_has ls 2 [(0, .ref (a 0)), (1, .int (nI k))] → W p l e R s m args below meth c H locs cells slots Q (F0 m 7 ls []) := by
  intro n
  induction n with
  | zero =>
    intro k S1 H locs ls hk h1 h2 h3 hW hl
    obtain rfl : k = 8 := by omega
    refine lv_iload_n E.1 E.2.1 dX0_clear_7 rfl (lv_at hl 1 rfl) ?_
    refine lv_bipush (v := nI 8) E.1 E.2.1 dX0_clear_8 (by decide) ?_
    refine lv_icmp_ge (tgt := 26) E.1 E.2.1 dX0_clear_10 (by decide) (fun _ => ?_) (fun h => absurd (nI_le (Nat.le_refl 8) (by decide)) h)
    exact kk S1 H locs ls h1 h2 h3 hW hl
  | succ n ih =>
    intro k S1 H locs ls hk h1 h2 h3 hW hl
    have hkN : k < 8 := by omega
    refine lv_iload_n E.1 E.2.1 dX0_clear_7 rfl (lv_at hl 1 rfl) ?_
    refine lv_bipush (v := nI 8) E.1 E.2.1 dX0_clear_8 (by decide) ?_
    refine lv_icmp_ge (tgt := 26) E.1 E.2.1 dX0_clear_10 (by decide) (fun h => absurd h (nI_ge hkN (by decide))) (fun _ => ?_)
    refine lv_aload_n E.1 E.2.1 dX0_clear_13 rfl (lv_at hl 0 rfl) ?_
    refine gX_5 E hW dX0_clear_14 ?_
    refine lv_iload_n E.1 E.2.1 dX0_clear_17 rfl (lv_at hl 1 rfl) ?_
    refine lv_iconst (v := 0) E.1 E.2.1 dX0_clear_18 (by decide) ?_
    refine sX_5 E hW (rfl) (hkN) dX0_clear_19 (fun H locs hW => ?_)
    refine xl_iinc (v := nI (k + 1)) (lv' := [(0, _), (1, _)]) E dX0_clear_20 hl (k := 1) rfl (x_inc1 k) (by decide) [1, 0] rfl (fun ls hl => ?_)
    refine lv_goto (tgt := 7) E.1 E.2.1 dX0_clear_23 (by decide) ?_
    refine ih (k + 1) _ _ _ _ (by omega) (fun q hq => by rw [sput_k hq]; exact h1 q hq) (fun j hj => ?_) (fun j hj => ?_) hW hl
    · by_cases hjk : j = k
      · subst hjk; exact sput_s
      · rw [sput_j hjk]; exact h2 j (by omega)
    · rw [sput_j (by omega)]; exact h3 j (by omega)
end L_lpX_clear_7
section L_lpX_clear_28
variable {p : Program} {l : Launch} {e : Env} {R : Room} {s : State} {m : MethodId} {args : Array Value} {below : List Frame} {meth : Method} {c : Code} {H : Heap} {locs : List Loc} {cells slots : Nat} {Q : State → Prop}
variable {cc : ByteArray} {pc : Nat} {ls : Array Slot} {rest : List Value} {D : va_G} {cs : ClassId × ClassId × ClassId} {a : Nat → Nat} {S : St} {A : Nat → Prop} {H0 : Heap}
set_option maxHeartbeats 4000000 in
theorem lpX_clear_28 (E : XE RX0 p s m args c cX0_clear D cs) (S0 : St) (kk : ∀ (S1 : St) (H : Heap) (locs : List Loc) (ls : Array Slot), (∀ k, k ≠ 6 → S1 k = S0 k) → (∀ j, j < 16 → S1 6 j = 0) → (∀ j, ¬ j < 16 → S1 6 j = S0 6 j) → PW D (xW cs a S1) A H0 H locs → lv_has ls 2 [(0, .ref (a 0)), (1, .int (nI 16))] → W p l e R s m args below meth c H locs cells slots Q (F0 m 47 ls [])) :
    ∀ (n k : Nat) (S1 : St) (H : Heap) (locs : List Loc) (ls : Array Slot), k + n = 16 → (∀ q, q ≠ 6 → S1 q = S0 q) → (∀ j, j < k → S1 6 j = 0) → (∀ j, ¬ j < k → S1 6 j = S0 6 j) → PW D (xW cs a S1) A H0 H locs → lv_has ls 2 [(0, .ref (a 0)), (1, .int (nI k))] → W p l e R s m args below meth c H locs cells slots Q (F0 m 28 ls []) := by
  intro n
  induction n with
  | zero =>
    intro k S1 H locs ls hk h1 h2 h3 hW hl
    obtain rfl : k = 16 := by omega
    refine lv_iload_n E.1 E.2.1 dX0_clear_28 rfl (lv_at hl 1 rfl) ?_
    refine lv_bipush (v := nI 16) E.1 E.2.1 dX0_clear_29 (by decide) ?_
    refine lv_icmp_ge (tgt := 47) E.1 E.2.1 dX0_clear_31 (by decide) (fun _ => ?_) (fun h => absurd (nI_le (Nat.le_refl 16) (by decide)) h)
    exact kk S1 H locs ls h1 h2 h3 hW hl
  | succ n ih =>
    intro k S1 H locs ls hk h1 h2 h3 hW hl
    have hkN : k < 16 := by omega
    refine lv_iload_n E.1 E.2.1 dX0_clear_28 rfl (lv_at hl 1 rfl) ?_
    refine lv_bipush (v := nI 16) E.1 E.2.1 dX0_clear_29 (by decide) ?_
    refine lv_icmp_ge (tgt := 47) E.1 E.2.1 dX0_clear_31 (by decide) (fun h => absurd h (nI_ge hkN (by decide))) (fun _ => ?_)
    refine lv_aload_n E.1 E.2.1 dX0_clear_34 rfl (lv_at hl 0 rfl) ?_
    refine gX_6 E hW dX0_clear_35 ?_
    refine lv_iload_n E.1 E.2.1 dX0_clear_38 rfl (lv_at hl 1 rfl) ?_
    refine lv_iconst (v := 0) E.1 E.2.1 dX0_clear_39 (by decide) ?_
    refine sX_6 E hW (rfl) (hkN) dX0_clear_40 (fun H locs hW => ?_)
    refine xl_iinc (v := nI (k + 1)) (lv' := [(0, _), (1, _)]) E dX0_clear_41 hl (k := 1) rfl (x_inc1 k) (by decide) [1, 0] rfl (fun ls hl => ?_)
    refine lv_goto (tgt := 28) E.1 E.2.1 dX0_clear_44 (by decide) ?_
    refine ih (k + 1) _ _ _ _ (by omega) (fun q hq => by rw [sput_k hq]; exact h1 q hq) (fun j hj => ?_) (fun j hj => ?_) hW hl
    · by_cases hjk : j = k
      · subst hjk; exact sput_s
      · rw [sput_j hjk]; exact h2 j (by omega)
    · rw [sput_j (by omega)]; exact h3 j (by omega)
end L_lpX_clear_28
/-- what clear does to the fields 0, 5, 6, 7, 8 -/
def clr (S S1 : St) : Prop := S1 0 0 = 0 ∧ (∀ j, j < 8 → S1 5 j = 0) ∧ (∀ j, ¬ j < 8 → S1 5 j = S 5 j) ∧ (∀ j, j < 16 → S1 6 j = 0) ∧ (∀ j, ¬ j < 16 → S1 6 j = S 6 j) ∧ S1 7 0 = 0 ∧ S1 8 0 = 0
set_option maxHeartbeats 4000000 in
set_option maxRecDepth 100000 in
/-- clear -/
theorem tX_clear (l : Launch) (D : va_G) (cs : ClassId × ClassId × ClassId) (a : Nat → Nat) (S : St) : CV l yX0_clear cX0_clear 2 (rm_ 1 21) D cs (xW cs a) (xAd a) [.ref (a 0)] S (fun S1 => clr S S1 ∧ (∀ k, k ≠ 0 → k ≠ 5 → k ≠ 6 → k ≠ 7 → k ≠ 8 → k ≠ 10 → k ≠ 13 → S1 k = S k) ∧ (∀ j, j < 8 → S1 10 j = 0) ∧ S1 13 0 = 0) := by
  intro sz
  refine cv_start (w := xW cs a) (ad := xAd a) (C := RX0) (by decide) rfl xAd_eq (Nat.le_of_ble_eq_true rfl) ?_
  intro p e s m below meth c ls E hml hr hlocks hsz hW hl
  have hA : ∀ q, s.heap.size ≤ q → wA (xAd a) sz q := fun q h => Or.inr (hsz ▸ h)
  have hl : lv_has ls 2 [(0, .ref (a 0))] := hl
  refine lv_aload_n E.1 E.2.1 dX0_clear_0 rfl (lv_at hl 0 rfl) ?_
  refine lv_iconst (v := 0) E.1 E.2.1 dX0_clear_1 (by decide) ?_
  refine pX_0 E hW dX0_clear_2 (fun H locs hW => ?_)
  refine lv_iconst (v := nI 0) E.1 E.2.1 dX0_clear_5 (by decide) ?_
  refine xl_istore_n (lv' := [(0, _), (1, _)]) E dX0_clear_6 rfl hl (by decide) [1, 0] rfl (fun ls hl => ?_)
  refine lpX_clear_7 E _ (fun S1 H locs ls a1 a2 a3 hW hl => ?_) 8 0 _ _ _ _ rfl (fun _ _ => rfl) (fun j hj => absurd hj (Nat.not_lt_zero j)) (fun _ _ => rfl) hW hl
  refine lv_iconst (v := nI 0) E.1 E.2.1 dX0_clear_26 (by decide) ?_
  refine xl_istore_n (lv' := [(0, _), (1, _)]) E dX0_clear_27 rfl hl (by decide) [1, 0] rfl (fun ls hl => ?_)
  refine lpX_clear_28 E _ (fun S2 H locs ls b1 b2 b3 hW hl => ?_) 16 0 _ _ _ _ rfl (fun _ _ => rfl) (fun j hj => absurd hj (Nat.not_lt_zero j)) (fun _ _ => rfl) hW hl
  refine lv_aload_n E.1 E.2.1 dX0_clear_47 rfl (lv_at hl 0 rfl) ?_
  refine cv_call (w := xW cs a) (ad := xAd a) (ci := 0) E hml hl.1 hW xAd_eq hA (tX_restart l D cs a _) (cwV 0 E.2.2.2.1 (lw_V q248 q153 q154 q24 q155) rfl rfl rfl (by decide +kernel) ⟨Nat.le_of_ble_eq_true rfl, Nat.le_of_ble_eq_true rfl⟩) rfl rfl rfl rfl rfl (Nat.le_of_ble_eq_true rfl) dX0_clear_48 ⟨Nat.zero_le _, Nat.zero_le _⟩ (fun S3 H locs hp hW _ _ => ?_)
  subst hp
  refine lv_aload_n E.1 E.2.1 dX0_clear_51 rfl (lv_at hl 0 rfl) ?_
  refine cv_call (w := xW cs a) (ad := xAd a) (ci := 0) E hml hl.1 hW xAd_eq hA (tX_forgetTraces l D cs a _) (cwV 0 E.2.2.2.1 (lw_V q34 q36 qs0 q24 q37) rfl rfl rfl (by decide +kernel) ⟨Nat.le_of_ble_eq_true rfl, Nat.le_of_ble_eq_true rfl⟩) rfl rfl rfl rfl rfl (Nat.le_of_ble_eq_true rfl) dX0_clear_52 ⟨Nat.zero_le _, Nat.zero_le _⟩ (fun S4 H locs hp hW _ _ => ?_)
  obtain ⟨g1, g2, g3⟩ := hp
  exact cv_ret E hr hlocks hW (⟨⟨by rw [g1 0 (by decide) (by decide)]; show S2 0 0 = 0; rw [b1 0 (by decide), a1 0 (by decide)]; rfl, fun j hj => by rw [g1 5 (by decide) (by decide)]; show S2 5 j = 0; rw [b1 5 (by decide)]; exact a2 j hj, fun j hj => by rw [g1 5 (by decide) (by decide)]; show S2 5 j = S 5 j; rw [b1 5 (by decide), a3 j hj]; rfl, fun j hj => by rw [g1 6 (by decide) (by decide)]; exact b2 j hj, fun j hj => by rw [g1 6 (by decide) (by decide)]; show S2 6 j = S 6 j; rw [b3 j hj, a1 6 (by decide)]; rfl, by rw [g1 7 (by decide) (by decide)]; rfl, by rw [g1 8 (by decide) (by decide)]; rfl⟩, fun k h0 h5 h6 h7 h8 h10 h13 => by rw [g1 k h10 h13, sput_k h8, sput_k h7, b1 k h6, a1 k h5, sput_k h0], g2, g3⟩) dX0_clear_55
end
section
set_option maxRecDepth 100000
set_option maxHeartbeats 4000000 in
set_option maxRecDepth 100000 in
/-- fits -/
theorem tM_fits (l : Launch) (D : va_G) (cs : ClassId × ClassId × ClassId) (a : Nat → Nat) (S : St) (op x y z : Int32) : CI l yX1_fits cX1_fits 5 .boolean (rm_ 1 21) D cs (mW cs a) (mAd a) [.ref (a 0), .int op, .int x, .int y, .int z] S (fun v S1 => S1 = S ∧ ((okE op x y z ∧ v = 1) ∨ (¬ okE op x y z ∧ v = 0))) := by
  intro sz
  refine cv_start (w := mW cs a) (ad := mAd a) (C := RX1) (by decide) rfl mAd_eq (Nat.le_of_ble_eq_true rfl) ?_
  intro p e s m below meth c ls E hml hr hlocks hsz hW hl
  have hA : ∀ q, s.heap.size ≤ q → wA (mAd a) sz q := fun q h => Or.inr (hsz ▸ h)
  have hl : lv_has ls 5 [(0, .ref (a 0)), (1, .int op), (2, .int x), (3, .int y), (4, .int z)] := hl
  refine lv_iload_n E.1 E.2.1 dX1_fits_0 rfl (lv_at hl 1 rfl) ?_
  refine lv_if_lt (tgt := 10) E.1 E.2.1 dX1_fits_1 (by decide) (fun h1 => ?_) (fun h1 => ?_)
  · refine lv_iconst (v := 0) E.1 E.2.1 dX1_fits_10 (by decide) ?_
    exact cz_ret E hr hlocks hW (by decide) (⟨rfl, Or.inr ⟨fun h => isN_neg h1 (by decide) (okE_isN h), rfl⟩⟩) dX1_fits_11
  refine lv_iload_n E.1 E.2.1 dX1_fits_4 rfl (lv_at hl 1 rfl) ?_
  refine lv_bipush (v := 10) E.1 E.2.1 dX1_fits_5 (by decide) ?_
  refine lv_icmp_le (tgt := 12) E.1 E.2.1 dX1_fits_7 (by decide) (fun h2 => ?_) (fun h2 => ?_)
  rotate_left
  · refine lv_iconst (v := 0) E.1 E.2.1 dX1_fits_10 (by decide) ?_
    exact cz_ret E hr hlocks hW (by decide) (⟨rfl, Or.inr ⟨fun h => isN_big (by decide) (by decide) (lt_of_nle h2) (okE_isN h), rfl⟩⟩) dX1_fits_11
  obtain ⟨o, ho, rfl⟩ : isN op 11 := isN_mk (by decide) h1 h2
  have ho : o ≤ 10 := by omega
  refine lv_iload_n E.1 E.2.1 dX1_fits_12 rfl (lv_at hl 1 rfl) ?_
  refine lv_bipush (v := nI 10) E.1 E.2.1 dX1_fits_13 (by decide) ?_
  refine lv_icmp_ne (tgt := 20) E.1 E.2.1 dX1_fits_15 (by decide) (fun h3 => ?_) (fun h3 => ?_)
  rotate_left
  · obtain rfl : o = 10 := nI_inj (by omega) (by decide) h3
    refine lv_iconst (v := 1) E.1 E.2.1 dX1_fits_18 (by decide) ?_
    exact cz_ret E hr hlocks hW (by decide) (⟨rfl, Or.inl ⟨⟨10, by decide, rfl, by omega, by omega, by omega, by omega, by omega⟩, rfl⟩⟩) dX1_fits_19
  have h3 : o ≠ 10 := fun h => h3 (by rw [h])
  refine lv_iload_n E.1 E.2.1 dX1_fits_20 rfl (lv_at hl 1 rfl) ?_
  refine lv_bipush (v := nI 9) E.1 E.2.1 dX1_fits_21 (by decide) ?_
  refine lv_icmp_ne (tgt := 32) E.1 E.2.1 dX1_fits_23 (by decide) (fun h4 => ?_) (fun h4 => ?_)
  rotate_left
  · obtain rfl : o = 9 := nI_inj (by omega) (by decide) h4
    refine lv_aload_n E.1 E.2.1 dX1_fits_26 rfl (lv_at hl 0 rfl) ?_
    refine lv_iload_n E.1 E.2.1 dX1_fits_27 rfl (lv_at hl 2 rfl) ?_
    refine ci_call (w := mW cs a) (ad := mAd a) (ci := 1) E hml hl.1 hW mAd_eq hA (tM_isPlace l D cs a S x) (cwV 1 E.2.2.2.1 (lw_V q291 q293 qs20 q25 q294) rfl rfl rfl (by decide +kernel) ⟨Nat.le_of_ble_eq_true rfl, Nat.le_of_ble_eq_true rfl⟩) rfl rfl rfl rfl rfl (Nat.le_of_ble_eq_true rfl) dX1_fits_28 ⟨Nat.zero_le _, Nat.zero_le _⟩ (fun v S1 H locs hp hW _ _ => ?_)
    obtain ⟨e1, hp⟩ := hp
    obtain rfl := e1.symm
    exact cz_ret E hr hlocks hW (by rcases hp with ⟨_, h⟩ | ⟨_, h⟩ <;> rw [h] <;> decide) (⟨rfl, hp.elim (fun h => Or.inl ⟨⟨9, by decide, rfl, by omega, by omega, by omega, by omega, fun _ => h.1⟩, h.2⟩) (fun h => Or.inr ⟨fun q => h.1 ((okE_of q (by decide)).2.2.2.2 rfl), h.2⟩)⟩) dX1_fits_31
  have h4 : o ≠ 9 := fun h => h4 (by rw [h])
  refine lv_aload_n E.1 E.2.1 dX1_fits_32 rfl (lv_at hl 0 rfl) ?_
  refine lv_iload_n E.1 E.2.1 dX1_fits_33 rfl (lv_at hl 2 rfl) ?_
  refine ci_call (w := mW cs a) (ad := mAd a) (ci := 1) E hml hl.1 hW mAd_eq hA (tM_isRegister l D cs a S x) (cwV 1 E.2.2.2.1 (lw_V q295 q297 qs21 q25 q298) rfl rfl rfl (by decide +kernel) ⟨Nat.le_of_ble_eq_true rfl, Nat.le_of_ble_eq_true rfl⟩) rfl rfl rfl rfl rfl (Nat.le_of_ble_eq_true rfl) dX1_fits_34 ⟨Nat.zero_le _, Nat.zero_le _⟩ (fun v S1 H locs hp hW _ _ => ?_)
  obtain ⟨e1, hp⟩ := hp
  obtain rfl := e1.symm
  refine lv_if_ne (tgt := 42) E.1 E.2.1 dX1_fits_37 (by decide) (fun hv => ?_) (fun hv => ?_)
  rotate_left
  · have hno := bool_f hp hv
    refine lv_iconst (v := 0) E.1 E.2.1 dX1_fits_40 (by decide) ?_
    exact cz_ret E hr hlocks hW (by decide) (⟨rfl, Or.inr ⟨fun q => hno ((okE_of q ho).1 (by omega)), rfl⟩⟩) dX1_fits_41
  have hx := bool_t hp hv
  refine x_joinP (pj := 54) (lj := ls) (rj := []) (o = 7 ∨ o = 8) (fun join2 => ?_) (fun h78 => ?_)
  · refine lv_iload_n E.1 E.2.1 dX1_fits_42 rfl (lv_at hl 1 rfl) ?_
    refine lv_bipush (v := nI 7) E.1 E.2.1 dX1_fits_43 (by decide) ?_
    refine lv_icmp_eq (tgt := 54) E.1 E.2.1 dX1_fits_45 (by decide) (fun hc => ?_) (fun hc => ?_)
    · exact join2 (Or.inl (nI_inj (by omega) (by decide) hc))
    · have hc : o ≠ 7 := fun h => hc (by rw [h])
      refine lv_iload_n E.1 E.2.1 dX1_fits_48 rfl (lv_at hl 1 rfl) ?_
      refine lv_bipush (v := nI 8) E.1 E.2.1 dX1_fits_49 (by decide) ?_
      refine lv_icmp_ne (tgt := 60) E.1 E.2.1 dX1_fits_51 (by decide) (fun hd => ?_) (fun hd => ?_)
      rotate_left
      · exact join2 (Or.inr (nI_inj (by omega) (by decide) hd))
      have hd : o ≠ 8 := fun h => hd (by rw [h])
      refine lv_aload_n E.1 E.2.1 dX1_fits_60 rfl (lv_at hl 0 rfl) ?_
      refine lv_iload_n E.1 E.2.1 dX1_fits_61 rfl (lv_at hl 3 rfl) ?_
      refine ci_call (w := mW cs a) (ad := mAd a) (ci := 1) E hml hl.1 hW mAd_eq hA (tM_isRegister l D cs a S y) (cwV 1 E.2.2.2.1 (lw_V q295 q297 qs21 q25 q298) rfl rfl rfl (by decide +kernel) ⟨Nat.le_of_ble_eq_true rfl, Nat.le_of_ble_eq_true rfl⟩) rfl rfl rfl rfl rfl (Nat.le_of_ble_eq_true rfl) dX1_fits_62 ⟨Nat.zero_le _, Nat.zero_le _⟩ (fun v2 S1 H locs hq hW _ _ => ?_)
      obtain ⟨e1, hq⟩ := hq
      obtain rfl := e1.symm
      refine lv_if_eq (tgt := 86) E.1 E.2.1 dX1_fits_65 (by decide) (fun hv2 => ?_) (fun hv2 => ?_)
      · have hno := bool_f hq hv2
        refine lv_iconst (v := 0) E.1 E.2.1 dX1_fits_86 (by decide) ?_
        exact cz_ret E hr hlocks hW (by decide) (⟨rfl, Or.inr ⟨fun q => hno ((okE_of q ho).2.1 (by omega)), rfl⟩⟩) dX1_fits_87
      have hy := bool_t hq hv2
      refine lv_iload_n E.1 E.2.1 dX1_fits_68 rfl (lv_at hl 1 rfl) ?_
      refine lv_iconst (v := nI 3) E.1 E.2.1 dX1_fits_69 (by decide) ?_
      refine lv_icmp_gt (tgt := 82) E.1 E.2.1 dX1_fits_70 (by decide) (fun he => ?_) (fun he => ?_)
      · have he : 3 < o := (nI_ltI (by decide) (by omega)).mp he
        refine lv_iconst (v := 1) E.1 E.2.1 dX1_fits_82 (by decide) ?_
        refine lv_goto (tgt := 87) E.1 E.2.1 dX1_fits_83 (by decide) ?_
        exact cz_ret E hr hlocks hW (by decide) (⟨rfl, Or.inl ⟨⟨o, ho, rfl, fun _ => hx, fun _ => hy, by omega, by omega, by omega⟩, rfl⟩⟩) dX1_fits_87
      have he : o ≤ 3 := by
        have := nI_nltI (by omega) (by omega) he
        omega
      refine lv_aload_n E.1 E.2.1 dX1_fits_73 rfl (lv_at hl 0 rfl) ?_
      refine lv_iload E.1 E.2.1 dX1_fits_74 (lv_at hl 4 rfl) ?_
      refine ci_call (w := mW cs a) (ad := mAd a) (ci := 1) E hml hl.1 hW mAd_eq hA (tM_isRegister l D cs a S z) (cwV 1 E.2.2.2.1 (lw_V q295 q297 qs21 q25 q298) rfl rfl rfl (by decide +kernel) ⟨Nat.le_of_ble_eq_true rfl, Nat.le_of_ble_eq_true rfl⟩) rfl rfl rfl rfl rfl (Nat.le_of_ble_eq_true rfl) dX1_fits_76 ⟨Nat.zero_le _, Nat.zero_le _⟩ (fun v3 S1 H locs hs hW _ _ => ?_)
      obtain ⟨e1, hs⟩ := hs
      obtain rfl := e1.symm
      refine lv_if_eq (tgt := 86) E.1 E.2.1 dX1_fits_79 (by decide) (fun hv3 => ?_) (fun hv3 => ?_)
      · have hno := bool_f hs hv3
        refine lv_iconst (v := 0) E.1 E.2.1 dX1_fits_86 (by decide) ?_
        exact cz_ret E hr hlocks hW (by decide) (⟨rfl, Or.inr ⟨fun q => hno ((okE_of q ho).2.2.1 he), rfl⟩⟩) dX1_fits_87
      have hz := bool_t hs hv3
      refine lv_iconst (v := 1) E.1 E.2.1 dX1_fits_82 (by decide) ?_
      refine lv_goto (tgt := 87) E.1 E.2.1 dX1_fits_83 (by decide) ?_
      exact cz_ret E hr hlocks hW (by decide) (⟨rfl, Or.inl ⟨⟨o, ho, rfl, fun _ => hx, fun _ => hy, fun _ => hz, by omega, by omega⟩, rfl⟩⟩) dX1_fits_87
  refine lv_aload_n E.1 E.2.1 dX1_fits_54 rfl (lv_at hl 0 rfl) ?_
  refine lv_iload_n E.1 E.2.1 dX1_fits_55 rfl (lv_at hl 3 rfl) ?_
  refine ci_call (w := mW cs a) (ad := mAd a) (ci := 1) E hml hl.1 hW mAd_eq hA (tM_isPlace l D cs a S y) (cwV 1 E.2.2.2.1 (lw_V q291 q293 qs20 q25 q294) rfl rfl rfl (by decide +kernel) ⟨Nat.le_of_ble_eq_true rfl, Nat.le_of_ble_eq_true rfl⟩) rfl rfl rfl rfl rfl (Nat.le_of_ble_eq_true rfl) dX1_fits_56 ⟨Nat.zero_le _, Nat.zero_le _⟩ (fun v S1 H locs hp hW _ _ => ?_)
  obtain ⟨e1, hp⟩ := hp
  obtain rfl := e1.symm
  exact cz_ret E hr hlocks hW (by rcases hp with ⟨_, h⟩ | ⟨_, h⟩ <;> rw [h] <;> decide) (⟨rfl, hp.elim (fun h => Or.inl ⟨⟨o, ho, rfl, fun _ => hx, by omega, by omega, fun _ => h.1, by omega⟩, h.2⟩) (fun h => Or.inr ⟨fun q => h.1 ((okE_of q ho).2.2.2.1 h78), h.2⟩)⟩) dX1_fits_59
set_option maxHeartbeats 4000000 in
set_option maxRecDepth 100000 in
/-- emit -/
theorem tM_emit (l : Launch) (D : va_G) (cs : ClassId × ClassId × ClassId) (a : Nat → Nat) (S : St) (n : Nat) (op x y z : Int32) (hn : n ≤ 24) (h0 : S 0 0 = nI n) : CI l yX1_emit cX1_emit 5 .int (rm_ 2 45) D cs (mW cs a) (mAd a) [.ref (a 0), .int op, .int x, .int y, .int z] S (fun v S1 => (n = 24 ∧ v = -2 ∧ S1 = S) ∨ (n < 24 ∧ ¬ okE op x y z ∧ v = -1 ∧ S1 = S) ∨ (n < 24 ∧ okE op x y z ∧ v = nI (n + 1) ∧ S1 = sput (sput (sput (sput (sput S 1 n op) 2 n x) 3 n y) 4 n z) 0 0 (nI (n + 1)))) := by
  intro sz
  refine cv_start (w := mW cs a) (ad := mAd a) (C := RX1) (by decide) rfl mAd_eq (Nat.le_of_ble_eq_true rfl) ?_
  intro p e s m below meth c ls E hml hr hlocks hsz hW hl
  have hA : ∀ q, s.heap.size ≤ q → wA (mAd a) sz q := fun q h => Or.inr (hsz ▸ h)
  have hl : lv_has ls 5 [(0, .ref (a 0)), (1, .int op), (2, .int x), (3, .int y), (4, .int z)] := hl
  refine lv_aload_n E.1 E.2.1 dX1_emit_0 rfl (lv_at hl 0 rfl) ?_
  refine gM_0 E hW h0 dX1_emit_1 ?_
  refine lv_bipush (v := nI 24) E.1 E.2.1 dX1_emit_4 (by decide) ?_
  refine lv_icmp_ne (tgt := 12) E.1 E.2.1 dX1_emit_6 (by decide) (fun h1 => ?_) (fun h1 => ?_)
  rotate_left
  · refine lv_bipush (v := (-2)) E.1 E.2.1 dX1_emit_9 (by decide) ?_
    exact ci_ret E hr hlocks hW (Or.inl ⟨nI_inj (by omega) (by decide) h1, rfl, rfl⟩) dX1_emit_11
  have hlt : n < 24 := by
    have := nI_neI h1
    omega
  refine lv_aload_n E.1 E.2.1 dX1_emit_12 rfl (lv_at hl 0 rfl) ?_
  refine lv_iload_n E.1 E.2.1 dX1_emit_13 rfl (lv_at hl 1 rfl) ?_
  refine lv_iload_n E.1 E.2.1 dX1_emit_14 rfl (lv_at hl 2 rfl) ?_
  refine lv_iload_n E.1 E.2.1 dX1_emit_15 rfl (lv_at hl 3 rfl) ?_
  refine lv_iload E.1 E.2.1 dX1_emit_16 (lv_at hl 4 rfl) ?_
  refine ci_call (w := mW cs a) (ad := mAd a) (ci := 1) E hml hl.1 hW mAd_eq hA (tM_fits l D cs a S op x y z) (cwV 4 E.2.2.2.1 (lw_V q287 q289 qs19 q25 q290) rfl rfl rfl (by decide +kernel) ⟨Nat.le_of_ble_eq_true rfl, Nat.le_of_ble_eq_true rfl⟩) rfl rfl rfl rfl rfl (Nat.le_of_ble_eq_true rfl) dX1_emit_18 ⟨Nat.zero_le _, Nat.zero_le _⟩ (fun v S1 H locs hp hW _ _ => ?_)
  obtain ⟨e1, hp⟩ := hp
  obtain rfl := e1.symm
  refine lv_if_ne (tgt := 26) E.1 E.2.1 dX1_emit_21 (by decide) (fun hv => ?_) (fun hv => ?_)
  rotate_left
  · refine lv_iconst (v := (-1)) E.1 E.2.1 dX1_emit_24 (by decide) ?_
    exact ci_ret E hr hlocks hW (Or.inr (Or.inl ⟨hlt, bool_f hp hv, rfl, rfl⟩)) dX1_emit_25
  refine lv_aload_n E.1 E.2.1 dX1_emit_26 rfl (lv_at hl 0 rfl) ?_
  refine gM_1 E hW dX1_emit_27 ?_
  refine lv_aload_n E.1 E.2.1 dX1_emit_30 rfl (lv_at hl 0 rfl) ?_
  refine gM_0 E hW h0 dX1_emit_31 ?_
  refine lv_iload_n E.1 E.2.1 dX1_emit_34 rfl (lv_at hl 1 rfl) ?_
  refine sM_1 E hW (rfl) (hlt) dX1_emit_35 (fun H locs hW => ?_)
  refine lv_aload_n E.1 E.2.1 dX1_emit_36 rfl (lv_at hl 0 rfl) ?_
  refine gM_2 E hW dX1_emit_37 ?_
  refine lv_aload_n E.1 E.2.1 dX1_emit_40 rfl (lv_at hl 0 rfl) ?_
  refine gM_0 E hW h0 dX1_emit_41 ?_
  refine lv_iload_n E.1 E.2.1 dX1_emit_44 rfl (lv_at hl 2 rfl) ?_
  refine sM_2 E hW (rfl) (hlt) dX1_emit_45 (fun H locs hW => ?_)
  refine lv_aload_n E.1 E.2.1 dX1_emit_46 rfl (lv_at hl 0 rfl) ?_
  refine gM_3 E hW dX1_emit_47 ?_
  refine lv_aload_n E.1 E.2.1 dX1_emit_50 rfl (lv_at hl 0 rfl) ?_
  refine gM_0 E hW h0 dX1_emit_51 ?_
  refine lv_iload_n E.1 E.2.1 dX1_emit_54 rfl (lv_at hl 3 rfl) ?_
  refine sM_3 E hW (rfl) (hlt) dX1_emit_55 (fun H locs hW => ?_)
  refine lv_aload_n E.1 E.2.1 dX1_emit_56 rfl (lv_at hl 0 rfl) ?_
  refine gM_4 E hW dX1_emit_57 ?_
  refine lv_aload_n E.1 E.2.1 dX1_emit_60 rfl (lv_at hl 0 rfl) ?_
  refine gM_0 E hW h0 dX1_emit_61 ?_
  refine lv_iload E.1 E.2.1 dX1_emit_64 (lv_at hl 4 rfl) ?_
  refine sM_4 E hW (rfl) (hlt) dX1_emit_66 (fun H locs hW => ?_)
  refine lv_aload_n E.1 E.2.1 dX1_emit_67 rfl (lv_at hl 0 rfl) ?_
  refine lv_dup E.1 E.2.1 dX1_emit_68 rfl ?_
  refine gM_0 E hW h0 dX1_emit_69 ?_
  refine lv_iconst (v := 1) E.1 E.2.1 dX1_emit_72 (by decide) ?_
  refine lv_iadd E.1 E.2.1 dX1_emit_73 ?_
  refine x_top (y := nI (n + 1)) (nI_1 n) ?_
  refine pM_0 E hW dX1_emit_74 (fun H locs hW => ?_)
  refine lv_aload_n E.1 E.2.1 dX1_emit_77 rfl (lv_at hl 0 rfl) ?_
  refine gM_0 E hW rfl dX1_emit_78 ?_
  exact ci_ret E hr hlocks hW (Or.inr (Or.inr ⟨hlt, bool_t hp hv, rfl, rfl⟩)) dX1_emit_81
set_option maxHeartbeats 4000000 in
set_option maxRecDepth 100000 in
/-- amend -/
theorem tM_amend (l : Launch) (D : va_G) (cs : ClassId × ClassId × ClassId) (a : Nat → Nat) (S : St) (n : Nat) (i x : Int32) (hn : n ≤ 24) (h0 : S 0 0 = nI n) (hop : ∀ j, j < n → isN (S 1 j) 11) : CI l yX1_amend cX1_amend 3 .int (rm_ 1 21) D cs (mW cs a) (mAd a) [.ref (a 0), .int i, .int x] S (fun v S1 => (¬ okA S n i x ∧ v = -1 ∧ S1 = S) ∨ (okA S n i x ∧ v = i ∧ S1 = if nt (S 1 (nt i)) = 9 then sput S 2 (nt i) x else if 7 ≤ nt (S 1 (nt i)) then sput S 3 (nt i) x else sput S 4 (nt i) x)) := by
  intro sz
  refine cv_start (w := mW cs a) (ad := mAd a) (C := RX1) (by decide) rfl mAd_eq (Nat.le_of_ble_eq_true rfl) ?_
  intro p e s m below meth c ls E hml hr hlocks hsz hW hl
  have hA : ∀ q, s.heap.size ≤ q → wA (mAd a) sz q := fun q h => Or.inr (hsz ▸ h)
  have hl : lv_has ls 3 [(0, .ref (a 0)), (1, .int i), (2, .int x)] := hl
  refine lv_iload_n E.1 E.2.1 dX1_amend_0 rfl (lv_at hl 1 rfl) ?_
  refine lv_if_lt (tgt := 33) E.1 E.2.1 dX1_amend_1 (by decide) (fun h1 => ?_) (fun h1 => ?_)
  · refine lv_iconst (v := (-1)) E.1 E.2.1 dX1_amend_33 (by decide) ?_
    exact ci_ret E hr hlocks hW (Or.inl ⟨fun h => isN_neg h1 (by omega) (okA_isN h), rfl, rfl⟩) dX1_amend_34
  refine lv_iload_n E.1 E.2.1 dX1_amend_4 rfl (lv_at hl 1 rfl) ?_
  refine lv_aload_n E.1 E.2.1 dX1_amend_5 rfl (lv_at hl 0 rfl) ?_
  refine gM_0 E hW h0 dX1_amend_6 ?_
  refine lv_icmp_ge (tgt := 33) E.1 E.2.1 dX1_amend_9 (by decide) (fun h2 => ?_) (fun h2 => ?_)
  · refine lv_iconst (v := (-1)) E.1 E.2.1 dX1_amend_33 (by decide) ?_
    exact ci_ret E hr hlocks hW (Or.inl ⟨fun h => by
      obtain ⟨j, hj, e⟩ := okA_isN h
      exact nI_ge hj (by omega) (by rw [← e]; exact h2), rfl, rfl⟩) dX1_amend_34
  obtain ⟨j, hj, rfl⟩ : isN i n := by
    obtain ⟨j, hj, rfl⟩ := nI_of h1
    exact ⟨j, (nI_ltI hj (by omega)).mp (lt_of_nle h2), rfl⟩
  obtain ⟨o, ho, eo⟩ := hop j hj
  have hnt : nt (S 1 j) = o := by rw [eo, nt_nI (by omega)]
  have hntj : nt (nI j) = j := nt_nI (by omega)
  refine lv_aload_n E.1 E.2.1 dX1_amend_12 rfl (lv_at hl 0 rfl) ?_
  refine gM_1 E hW dX1_amend_13 ?_
  refine lv_iload_n E.1 E.2.1 dX1_amend_16 rfl (lv_at hl 1 rfl) ?_
  refine lM_1 E hW (rfl) (by omega) (eo) dX1_amend_17 ?_
  refine lv_iconst (v := nI 4) E.1 E.2.1 dX1_amend_18 (by decide) ?_
  refine lv_icmp_lt (tgt := 33) E.1 E.2.1 dX1_amend_19 (by decide) (fun h3 => ?_) (fun h3 => ?_)
  · have h3 : o < 4 := (nI_ltI (by omega) (by decide)).mp h3
    refine lv_iconst (v := (-1)) E.1 E.2.1 dX1_amend_33 (by decide) ?_
    exact ci_ret E hr hlocks hW (Or.inl ⟨fun h => by have := (okA_of hn hj h).1; omega, rfl, rfl⟩) dX1_amend_34
  have h3 : 4 ≤ o := by
    have := nI_nltI (by omega) (by omega) h3
    omega
  refine lv_aload_n E.1 E.2.1 dX1_amend_22 rfl (lv_at hl 0 rfl) ?_
  refine gM_1 E hW dX1_amend_23 ?_
  refine lv_iload_n E.1 E.2.1 dX1_amend_26 rfl (lv_at hl 1 rfl) ?_
  refine lM_1 E hW (rfl) (by omega) (eo) dX1_amend_27 ?_
  refine lv_bipush (v := nI 10) E.1 E.2.1 dX1_amend_28 (by decide) ?_
  refine lv_icmp_ne (tgt := 35) E.1 E.2.1 dX1_amend_30 (by decide) (fun h4 => ?_) (fun h4 => ?_)
  rotate_left
  · have h4 : o = 10 := nI_inj (by omega) (by decide) h4
    refine lv_iconst (v := (-1)) E.1 E.2.1 dX1_amend_33 (by decide) ?_
    exact ci_ret E hr hlocks hW (Or.inl ⟨fun h => by have := (okA_of hn hj h).2.1; omega, rfl, rfl⟩) dX1_amend_34
  have h4 : o ≤ 9 := by
    have := nI_neI h4
    omega
  refine x_joinS (w := mW cs a) (A := wA (mAd a) sz) (H0 := s.heap) (D := D) (pj := 56) (lj := ls) (rj := []) (fun S1 => S1 = S ∧ (7 ≤ o → isN x 24)) (fun join => ?_) (fun S1 H locs hj' hW => ?_)
  · refine lv_aload_n E.1 E.2.1 dX1_amend_35 rfl (lv_at hl 0 rfl) ?_
    refine gM_1 E hW dX1_amend_36 ?_
    refine lv_iload_n E.1 E.2.1 dX1_amend_39 rfl (lv_at hl 1 rfl) ?_
    refine lM_1 E hW (rfl) (by omega) (eo) dX1_amend_40 ?_
    refine lv_bipush (v := nI 7) E.1 E.2.1 dX1_amend_41 (by decide) ?_
    refine lv_icmp_lt (tgt := 56) E.1 E.2.1 dX1_amend_43 (by decide) (fun hc => ?_) (fun hc => ?_)
    · have hc : o < 7 := (nI_ltI (by omega) (by decide)).mp hc
      exact join _ _ _ ⟨rfl, fun h => absurd h (by omega)⟩ hW
    · have hc : 7 ≤ o := by
        have := nI_nltI (by omega) (by omega) hc
        omega
      refine lv_aload_n E.1 E.2.1 dX1_amend_46 rfl (lv_at hl 0 rfl) ?_
      refine lv_iload_n E.1 E.2.1 dX1_amend_47 rfl (lv_at hl 2 rfl) ?_
      refine ci_call (w := mW cs a) (ad := mAd a) (ci := 1) E hml hl.1 hW mAd_eq hA (tM_isPlace l D cs a S x) (cwV 1 E.2.2.2.1 (lw_V q291 q293 qs20 q25 q294) rfl rfl rfl (by decide +kernel) ⟨Nat.le_of_ble_eq_true rfl, Nat.le_of_ble_eq_true rfl⟩) rfl rfl rfl rfl rfl (Nat.le_of_ble_eq_true rfl) dX1_amend_48 ⟨Nat.zero_le _, Nat.zero_le _⟩ (fun v S1 H locs hp hW _ _ => ?_)
      obtain ⟨e1, hp⟩ := hp
      obtain rfl := e1.symm
      refine lv_if_ne (tgt := 56) E.1 E.2.1 dX1_amend_51 (by decide) (fun hv => ?_) (fun hv => ?_)
      · exact join _ _ _ ⟨rfl, fun _ => bool_t hp hv⟩ hW
      · have hno := bool_f hp hv
        refine lv_iconst (v := (-1)) E.1 E.2.1 dX1_amend_54 (by decide) ?_
        exact ci_ret E hr hlocks hW (Or.inl ⟨fun h => hno ((okA_of hn hj h).2.2 (by omega)), rfl, rfl⟩) dX1_amend_55
  obtain ⟨e1, k7⟩ := hj'
  obtain rfl := e1.symm
  have hok : okA S n (nI j) x := ⟨j, hj, rfl, by omega, by omega, fun h => k7 (by omega)⟩
  refine lv_aload_n E.1 E.2.1 dX1_amend_56 rfl (lv_at hl 0 rfl) ?_
  refine gM_1 E hW dX1_amend_57 ?_
  refine lv_iload_n E.1 E.2.1 dX1_amend_60 rfl (lv_at hl 1 rfl) ?_
  refine lM_1 E hW (rfl) (by omega) (eo) dX1_amend_61 ?_
  refine lv_bipush (v := nI 9) E.1 E.2.1 dX1_amend_62 (by decide) ?_
  refine lv_icmp_ne (tgt := 77) E.1 E.2.1 dX1_amend_64 (by decide) (fun h5 => ?_) (fun h5 => ?_)
  rotate_left
  · have h5 : o = 9 := nI_inj (by omega) (by decide) h5
    refine lv_aload_n E.1 E.2.1 dX1_amend_67 rfl (lv_at hl 0 rfl) ?_
    refine gM_2 E hW dX1_amend_68 ?_
    refine lv_iload_n E.1 E.2.1 dX1_amend_71 rfl (lv_at hl 1 rfl) ?_
    refine lv_iload_n E.1 E.2.1 dX1_amend_72 rfl (lv_at hl 2 rfl) ?_
    refine sM_2 E hW (rfl) (by omega) dX1_amend_73 (fun H locs hW => ?_)
    refine lv_goto (tgt := 105) E.1 E.2.1 dX1_amend_74 (by decide) ?_
    refine lv_iload_n E.1 E.2.1 dX1_amend_105 rfl (lv_at hl 1 rfl) ?_
    exact ci_ret E hr hlocks hW (Or.inr ⟨hok, rfl, by rw [hntj, hnt, if_pos h5]⟩) dX1_amend_106
  have h5 : o ≠ 9 := fun h => h5 (by rw [h])
  refine lv_aload_n E.1 E.2.1 dX1_amend_77 rfl (lv_at hl 0 rfl) ?_
  refine gM_1 E hW dX1_amend_78 ?_
  refine lv_iload_n E.1 E.2.1 dX1_amend_81 rfl (lv_at hl 1 rfl) ?_
  refine lM_1 E hW (rfl) (by omega) (eo) dX1_amend_82 ?_
  refine lv_bipush (v := nI 7) E.1 E.2.1 dX1_amend_83 (by decide) ?_
  refine lv_icmp_lt (tgt := 98) E.1 E.2.1 dX1_amend_85 (by decide) (fun h6 => ?_) (fun h6 => ?_)
  · have h6 : o < 7 := (nI_ltI (by omega) (by decide)).mp h6
    refine lv_aload_n E.1 E.2.1 dX1_amend_98 rfl (lv_at hl 0 rfl) ?_
    refine gM_4 E hW dX1_amend_99 ?_
    refine lv_iload_n E.1 E.2.1 dX1_amend_102 rfl (lv_at hl 1 rfl) ?_
    refine lv_iload_n E.1 E.2.1 dX1_amend_103 rfl (lv_at hl 2 rfl) ?_
    refine sM_4 E hW (rfl) (by omega) dX1_amend_104 (fun H locs hW => ?_)
    refine lv_iload_n E.1 E.2.1 dX1_amend_105 rfl (lv_at hl 1 rfl) ?_
    exact ci_ret E hr hlocks hW (Or.inr ⟨hok, rfl, by rw [hntj, hnt, if_neg h5, if_neg (by omega)]⟩) dX1_amend_106
  have h6 : 7 ≤ o := by
    have := nI_nltI (by omega) (by omega) h6
    omega
  refine lv_aload_n E.1 E.2.1 dX1_amend_88 rfl (lv_at hl 0 rfl) ?_
  refine gM_3 E hW dX1_amend_89 ?_
  refine lv_iload_n E.1 E.2.1 dX1_amend_92 rfl (lv_at hl 1 rfl) ?_
  refine lv_iload_n E.1 E.2.1 dX1_amend_93 rfl (lv_at hl 2 rfl) ?_
  refine sM_3 E hW (rfl) (by omega) dX1_amend_94 (fun H locs hW => ?_)
  refine lv_goto (tgt := 105) E.1 E.2.1 dX1_amend_95 (by decide) ?_
  refine lv_iload_n E.1 E.2.1 dX1_amend_105 rfl (lv_at hl 1 rfl) ?_
  exact ci_ret E hr hlocks hW (Or.inr ⟨hok, rfl, by rw [hntj, hnt, if_neg h5, if_pos h6]⟩) dX1_amend_106
section L_lpM_clear_11
variable {p : Program} {l : Launch} {e : Env} {R : Room} {s : State} {m : MethodId} {args : Array Value} {below : List Frame} {meth : Method} {c : Code} {H : Heap} {locs : List Loc} {cells slots : Nat} {Q : State → Prop}
variable {cc : ByteArray} {pc : Nat} {ls : Array Slot} {rest : List Value} {D : va_G} {cs : ClassId × ClassId × ClassId} {a : Nat → Nat} {S : St} {A : Nat → Prop} {H0 : Heap}
set_option maxHeartbeats 4000000 in
theorem lpM_clear_11 (E : XE RX1 p s m args c cX1_clear D cs) (S0 : St) (kk : ∀ (S1 : St) (H : Heap) (locs : List Loc) (ls : Array Slot), (∀ k, k ≠ 5 → S1 k = S0 k) → (∀ j, j < 8 → S1 5 j = 0) → (∀ j, ¬ j < 8 → S1 5 j = S0 5 j) → PW D (mW cs a S1) A H0 H locs → lv_has ls 2 [(0, .ref (a 0)), (1, .int (nI 8))] → W p l e R s m args below meth c H locs cells slots Q (F0 m 30 ls [])) :
    ∀ (n k : Nat) (S1 : St) (H : Heap) (locs : List Loc) (ls : Array Slot), k + n = 8 → (∀ q, q ≠ 5 → S1 q = S0 q) → (∀ j, j < k → S1 5 j = 0) → (∀ j, ¬ j < k → S1 5 j = S0 5 j) → PW D (mW cs a S1) A H0 H locs → lv_has ls 2 [(0, .ref (a 0)), (1, .int (nI k))] → W p l e R s m args below meth c H locs cells slots Q (F0 m 11 ls []) := by
  intro n
  induction n with
  | zero =>
    intro k S1 H locs ls hk h1 h2 h3 hW hl
    obtain rfl : k = 8 := by omega
    refine lv_iload_n E.1 E.2.1 dX1_clear_11 rfl (lv_at hl 1 rfl) ?_
    refine lv_bipush (v := nI 8) E.1 E.2.1 dX1_clear_12 (by decide) ?_
    refine lv_icmp_ge (tgt := 30) E.1 E.2.1 dX1_clear_14 (by decide) (fun _ => ?_) (fun h => absurd (nI_le (Nat.le_refl 8) (by decide)) h)
    exact kk S1 H locs ls h1 h2 h3 hW hl
  | succ n ih =>
    intro k S1 H locs ls hk h1 h2 h3 hW hl
    have hkN : k < 8 := by omega
    refine lv_iload_n E.1 E.2.1 dX1_clear_11 rfl (lv_at hl 1 rfl) ?_
    refine lv_bipush (v := nI 8) E.1 E.2.1 dX1_clear_12 (by decide) ?_
    refine lv_icmp_ge (tgt := 30) E.1 E.2.1 dX1_clear_14 (by decide) (fun h => absurd h (nI_ge hkN (by decide))) (fun _ => ?_)
    refine lv_aload_n E.1 E.2.1 dX1_clear_17 rfl (lv_at hl 0 rfl) ?_
    refine gM_5 E hW dX1_clear_18 ?_
    refine lv_iload_n E.1 E.2.1 dX1_clear_21 rfl (lv_at hl 1 rfl) ?_
    refine lv_iconst (v := 0) E.1 E.2.1 dX1_clear_22 (by decide) ?_
    refine sM_5 E hW (rfl) (hkN) dX1_clear_23 (fun H locs hW => ?_)
    refine xl_iinc (v := nI (k + 1)) (lv' := [(0, _), (1, _)]) E dX1_clear_24 hl (k := 1) rfl (x_inc1 k) (by decide) [1, 0] rfl (fun ls hl => ?_)
    refine lv_goto (tgt := 11) E.1 E.2.1 dX1_clear_27 (by decide) ?_
    refine ih (k + 1) _ _ _ _ (by omega) (fun q hq => by rw [sput_k hq]; exact h1 q hq) (fun j hj => ?_) (fun j hj => ?_) hW hl
    · by_cases hjk : j = k
      · subst hjk; exact sput_s
      · rw [sput_j hjk]; exact h2 j (by omega)
    · rw [sput_j (by omega)]; exact h3 j (by omega)
end L_lpM_clear_11
section L_lpM_clear_32
variable {p : Program} {l : Launch} {e : Env} {R : Room} {s : State} {m : MethodId} {args : Array Value} {below : List Frame} {meth : Method} {c : Code} {H : Heap} {locs : List Loc} {cells slots : Nat} {Q : State → Prop}
variable {cc : ByteArray} {pc : Nat} {ls : Array Slot} {rest : List Value} {D : va_G} {cs : ClassId × ClassId × ClassId} {a : Nat → Nat} {S : St} {A : Nat → Prop} {H0 : Heap}
set_option maxHeartbeats 4000000 in
theorem lpM_clear_32 (E : XE RX1 p s m args c cX1_clear D cs) (S0 : St) (kk : ∀ (S1 : St) (H : Heap) (locs : List Loc) (ls : Array Slot), (∀ k, k ≠ 6 → S1 k = S0 k) → (∀ j, j < 16 → S1 6 j = 0) → (∀ j, ¬ j < 16 → S1 6 j = S0 6 j) → PW D (mW cs a S1) A H0 H locs → lv_has ls 2 [(0, .ref (a 0)), (1, .int (nI 16))] → W p l e R s m args below meth c H locs cells slots Q (F0 m 51 ls [])) :
    ∀ (n k : Nat) (S1 : St) (H : Heap) (locs : List Loc) (ls : Array Slot), k + n = 16 → (∀ q, q ≠ 6 → S1 q = S0 q) → (∀ j, j < k → S1 6 j = 0) → (∀ j, ¬ j < k → S1 6 j = S0 6 j) → PW D (mW cs a S1) A H0 H locs → lv_has ls 2 [(0, .ref (a 0)), (1, .int (nI k))] → W p l e R s m args below meth c H locs cells slots Q (F0 m 32 ls []) := by
  intro n
  induction n with
  | zero =>
    intro k S1 H locs ls hk h1 h2 h3 hW hl
    obtain rfl : k = 16 := by omega
    refine lv_iload_n E.1 E.2.1 dX1_clear_32 rfl (lv_at hl 1 rfl) ?_
    refine lv_bipush (v := nI 16) E.1 E.2.1 dX1_clear_33 (by decide) ?_
    refine lv_icmp_ge (tgt := 51) E.1 E.2.1 dX1_clear_35 (by decide) (fun _ => ?_) (fun h => absurd (nI_le (Nat.le_refl 16) (by decide)) h)
    exact kk S1 H locs ls h1 h2 h3 hW hl
  | succ n ih =>
    intro k S1 H locs ls hk h1 h2 h3 hW hl
    have hkN : k < 16 := by omega
    refine lv_iload_n E.1 E.2.1 dX1_clear_32 rfl (lv_at hl 1 rfl) ?_
    refine lv_bipush (v := nI 16) E.1 E.2.1 dX1_clear_33 (by decide) ?_
    refine lv_icmp_ge (tgt := 51) E.1 E.2.1 dX1_clear_35 (by decide) (fun h => absurd h (nI_ge hkN (by decide))) (fun _ => ?_)
    refine lv_aload_n E.1 E.2.1 dX1_clear_38 rfl (lv_at hl 0 rfl) ?_
    refine gM_6 E hW dX1_clear_39 ?_
    refine lv_iload_n E.1 E.2.1 dX1_clear_42 rfl (lv_at hl 1 rfl) ?_
    refine lv_iconst (v := 0) E.1 E.2.1 dX1_clear_43 (by decide) ?_
    refine sM_6 E hW (rfl) (hkN) dX1_clear_44 (fun H locs hW => ?_)
    refine xl_iinc (v := nI (k + 1)) (lv' := [(0, _), (1, _)]) E dX1_clear_45 hl (k := 1) rfl (x_inc1 k) (by decide) [1, 0] rfl (fun ls hl => ?_)
    refine lv_goto (tgt := 32) E.1 E.2.1 dX1_clear_48 (by decide) ?_
    refine ih (k + 1) _ _ _ _ (by omega) (fun q hq => by rw [sput_k hq]; exact h1 q hq) (fun j hj => ?_) (fun j hj => ?_) hW hl
    · by_cases hjk : j = k
      · subst hjk; exact sput_s
      · rw [sput_j hjk]; exact h2 j (by omega)
    · rw [sput_j (by omega)]; exact h3 j (by omega)
end L_lpM_clear_32
set_option maxHeartbeats 4000000 in
set_option maxRecDepth 100000 in
/-- clear -/
theorem tM_clear (l : Launch) (D : va_G) (cs : ClassId × ClassId × ClassId) (a : Nat → Nat) (S : St) : CV l yX1_clear cX1_clear 2 (rm_ 1 20) D cs (mW cs a) (mAd a) [.ref (a 0)] S (fun S1 => clr S S1 ∧ (∀ k, k ≠ 0 → k ≠ 5 → k ≠ 6 → k ≠ 7 → k ≠ 8 → S1 k = S k)) := by
  intro sz
  refine cv_start (w := mW cs a) (ad := mAd a) (C := RX1) (by decide) rfl mAd_eq (Nat.le_of_ble_eq_true rfl) ?_
  intro p e s m below meth c ls E hml hr hlocks hsz hW hl
  have hA : ∀ q, s.heap.size ≤ q → wA (mAd a) sz q := fun q h => Or.inr (hsz ▸ h)
  have hl : lv_has ls 2 [(0, .ref (a 0))] := hl
  refine lv_aload_n E.1 E.2.1 dX1_clear_0 rfl (lv_at hl 0 rfl) ?_
  refine lv_iconst (v := 0) E.1 E.2.1 dX1_clear_1 (by decide) ?_
  refine pM_0 E hW dX1_clear_2 (fun H locs hW => ?_)
  refine lv_aload_n E.1 E.2.1 dX1_clear_5 rfl (lv_at hl 0 rfl) ?_
  refine cv_call (w := mW cs a) (ad := mAd a) (ci := 1) E hml hl.1 hW mAd_eq hA (tM_restart l D cs a _) (cwV 0 E.2.2.2.1 (lw_V q343 q304 q305 q25 q306) rfl rfl rfl (by decide +kernel) ⟨Nat.le_of_ble_eq_true rfl, Nat.le_of_ble_eq_true rfl⟩) rfl rfl rfl rfl rfl (Nat.le_of_ble_eq_true rfl) dX1_clear_6 ⟨Nat.zero_le _, Nat.zero_le _⟩ (fun S0 H locs hp hW _ _ => ?_)
  subst hp
  refine lv_iconst (v := nI 0) E.1 E.2.1 dX1_clear_9 (by decide) ?_
  refine xl_istore_n (lv' := [(0, _), (1, _)]) E dX1_clear_10 rfl hl (by decide) [1, 0] rfl (fun ls hl => ?_)
  refine lpM_clear_11 E _ (fun S1 H locs ls a1 a2 a3 hW hl => ?_) 8 0 _ _ _ _ rfl (fun _ _ => rfl) (fun j hj => absurd hj (Nat.not_lt_zero j)) (fun _ _ => rfl) hW hl
  refine lv_iconst (v := nI 0) E.1 E.2.1 dX1_clear_30 (by decide) ?_
  refine xl_istore_n (lv' := [(0, _), (1, _)]) E dX1_clear_31 rfl hl (by decide) [1, 0] rfl (fun ls hl => ?_)
  refine lpM_clear_32 E _ (fun S2 H locs ls b1 b2 b3 hW hl => ?_) 16 0 _ _ _ _ rfl (fun _ _ => rfl) (fun j hj => absurd hj (Nat.not_lt_zero j)) (fun _ _ => rfl) hW hl
  exact cv_ret E hr hlocks hW (⟨⟨by rw [b1 0 (by decide), a1 0 (by decide)]; rfl, fun j hj => by rw [b1 5 (by decide)]; exact a2 j hj, fun j hj => by rw [b1 5 (by decide), a3 j hj]; rfl, fun j hj => b2 j hj, fun j hj => by rw [b3 j hj, a1 6 (by decide)]; rfl, by rw [b1 7 (by decide), a1 7 (by decide)]; rfl, by rw [b1 8 (by decide), a1 8 (by decide)]; rfl⟩, fun k h0 h5 h6 h7 h8 => by rw [b1 k h6, a1 k h5, sput_k h8, sput_k h7, sput_k h0]⟩) dX1_clear_51
end
section
/-! the architecture: what a program does, one instruction after the other. Fields 0 to 4 of S: the program; 5: registers, 6: cells, 7: place, 8: status -/
def len (S : St) : Nat := nt (S 0 0)
def oper (S : St) (p : Nat) : Nat := if p < len S then nt (S 1 p) else 11
def fx (S : St) (p : Nat) : Nat := nt (S 2 p)
def fy (S : St) (p : Nat) : Nat := nt (S 3 p)
def fz (S : St) (p : Nat) : Nat := nt (S 4 p)
def cmpt (o : Nat) (p q : Int32) : Int32 := if o = 1 then p - q else if o = 2 then p ^^^ q else if o = 3 then (if p < q then 1 else 0) else p + q
abbrev RM : Type := (Nat → Int32) × (Nat → Int32)
def adr (S : St) (i : Nat) (V : RM) : Nat := nt ((V.1 (fy S i) + S 4 i) &&& 15)
def val (S : St) (i : Nat) (V : RM) : Int32 := if oper S i ≤ 3 then cmpt (oper S i) (V.1 (fy S i)) (V.1 (fz S i)) else if oper S i = 4 then V.1 (fy S i) + S 4 i else if oper S i = 5 then V.2 (adr S i V) else V.1 (fx S i)
def eff (S : St) (i : Nat) (V : RM) : RM := if oper S i ≤ 5 then (upd V.1 (fx S i) (val S i V), V.2) else if oper S i = 6 then (V.1, upd V.2 (adr S i V) (val S i V)) else V
def tkn (S : St) (i : Nat) (V : RM) : Prop := (oper S i = 7 ∧ val S i V = 0) ∨ (oper S i = 8 ∧ val S i V < 0)
theorem tkn_dec (S : St) (i : Nat) (V : RM) : Nonempty (Decidable (tkn S i V)) := ⟨Classical.propDecidable _⟩
noncomputable def nxt (S : St) (i : Nat) (V : RM) : Nat := @ite _ (oper S i = 9 ∨ tkn S i V) (Classical.propDecidable _) (nt (S 4 i)) (i + 1)
abbrev AS : Type := (Nat → Int32) × (Nat → Int32) × Int32 × Int32
def arch (S : St) : AS := (S 5, S 6, S 7 0, S 8 0)
noncomputable def stp (S : St) (σ : AS) : AS := if oper S (nt σ.2.2.1) = 11 then (σ.1, σ.2.1, σ.2.2.1, 2) else if oper S (nt σ.2.2.1) = 10 then (σ.1, σ.2.1, σ.2.2.1, 1) else ((eff S (nt σ.2.2.1) (σ.1, σ.2.1)).1, (eff S (nt σ.2.2.1) (σ.1, σ.2.1)).2, nI (nxt S (nt σ.2.2.1) (σ.1, σ.2.1)), σ.2.2.2)
def inc (S : St) (σ : AS) : Nat := if oper S (nt σ.2.2.1) = 11 then 0 else 1
noncomputable def itr (S : St) : Nat → AS → AS × Nat
  | 0, σ => (σ, 0)
  | k + 1, σ => if σ.2.2.2 = 0 then ((itr S k (stp S σ)).1, inc S σ + (itr S k (stp S σ)).2) else (σ, 0)
theorem itr_run (S : St) (k : Nat) {σ : AS} (h : σ.2.2.2 = 0) : itr S (k + 1) σ = ((itr S k (stp S σ)).1, inc S σ + (itr S k (stp S σ)).2) := by
  show (if σ.2.2.2 = 0 then _ else _) = _
  rw [if_pos h]
theorem itr_stop (S : St) (k : Nat) {σ : AS} (h : ¬ σ.2.2.2 = 0) : itr S k σ = (σ, 0) := by
  cases k with
  | zero => rfl
  | succ k =>
    show (if σ.2.2.2 = 0 then _ else _) = _
    rw [if_neg h]
theorem itr_le (S : St) (k : Nat) : ∀ σ : AS, (itr S k σ).2 ≤ k := by
  induction k with
  | zero => intro σ; exact Nat.le_refl 0
  | succ k ih =>
    intro σ
    by_cases h : σ.2.2.2 = 0
    · rw [itr_run S k h]
      have h1 := ih (stp S σ)
      have h2 : inc S σ ≤ 1 := by
        unfold inc
        split <;> omega
      show inc S σ + (itr S k (stp S σ)).2 ≤ k + 1
      omega
    · rw [itr_stop S _ h]
      exact Nat.zero_le _
/-- the program is one that emit and amend can make -/
def wfP (S : St) : Prop := S 0 0 = nI (len S) ∧ len S ≤ 24 ∧ ∀ i, i < len S → isN (S 1 i) 11 ∧ (oper S i ≤ 8 → isN (S 2 i) 8) ∧ (oper S i ≤ 6 → isN (S 3 i) 8) ∧ (oper S i ≤ 3 → isN (S 4 i) 8) ∧ (7 ≤ oper S i → oper S i ≤ 9 → isN (S 4 i) 24)
theorem oper_lt {S : St} {i : Nat} (h : i < len S) : oper S i = nt (S 1 i) := by unfold oper; rw [if_pos h]
theorem oper_ge {S : St} {i : Nat} (h : ¬ i < len S) : oper S i = 11 := by unfold oper; rw [if_neg h]
theorem wfP.op {S : St} (h : wfP S) {i : Nat} (hi : i < len S) : S 1 i = nI (oper S i) ∧ oper S i ≤ 10 := by
  have h1 := (h.2.2 i hi).1.nt (by decide)
  rw [oper_lt hi]
  exact ⟨h1.1, by omega⟩
theorem oper_le {S : St} (h : wfP S) (i : Nat) : oper S i ≤ 11 := by
  by_cases hi : i < len S
  · have := (h.op hi).2; omega
  · rw [oper_ge hi]; decide
theorem oper_in {S : St} {i : Nat} (h : oper S i ≤ 10) : i < len S := by
  by_cases hi : i < len S
  · exact hi
  · rw [oper_ge hi] at h; omega
theorem wfP.x {S : St} (h : wfP S) {i : Nat} (hi : oper S i ≤ 8) : S 2 i = nI (fx S i) ∧ fx S i < 8 := ((h.2.2 i (oper_in (by omega))).2.1 hi).nt (by decide)
theorem wfP.y {S : St} (h : wfP S) {i : Nat} (hi : oper S i ≤ 6) : S 3 i = nI (fy S i) ∧ fy S i < 8 := ((h.2.2 i (oper_in (by omega))).2.2.1 hi).nt (by decide)
theorem wfP.z {S : St} (h : wfP S) {i : Nat} (hi : oper S i ≤ 3) : S 4 i = nI (fz S i) ∧ fz S i < 8 := ((h.2.2 i (oper_in (by omega))).2.2.2.1 hi).nt (by decide)
theorem wfP.t {S : St} (h : wfP S) {i : Nat} (h7 : 7 ≤ oper S i) (h9 : oper S i ≤ 9) : S 4 i = nI (fz S i) ∧ fz S i < 24 := ((h.2.2 i (oper_in (by omega))).2.2.2.2 h7 h9).nt (by decide)
theorem and15 (x : Int32) : x &&& 15 = nI (nt (x &&& 15)) ∧ nt (x &&& 15) < 16 := by
  obtain ⟨j, hj, e⟩ := pk_andE x (m := 15) 4 (by decide)
  exact isN.nt ⟨j, hj, e⟩ (by decide)
theorem adr_lt (S : St) (i : Nat) (V : RM) : adr S i V < 16 := (and15 _).2
theorem nxt_lt {S : St} (h : wfP S) {i : Nat} {V : RM} (hi : oper S i ≤ 9) : nxt S i V < 25 := by
  have hl : i < len S := oper_in (by omega)
  have h2 := h.2.1
  unfold nxt
  split
  · rename_i hc
    have h7 : 7 ≤ oper S i := by
      rcases hc with hc | ⟨hc, _⟩ | ⟨hc, _⟩ <;> omega
    have := (h.t h7 hi).2
    unfold fz at this
    omega
  · omega
theorem stp_pc {S : St} (h : wfP S) {σ : AS} (hp : isN σ.2.2.1 25) : isN (stp S σ).2.2.1 25 := by
  unfold stp
  split
  · exact hp
  · split
    · exact hp
    · have := oper_le h (nt σ.2.2.1)
      exact ⟨_, nxt_lt h (by omega), rfl⟩
section SAMEPROG
variable {S S' : St}
theorem len_c (h : ∀ k, k ≤ 4 → S' k = S k) : len S' = len S := by unfold len; rw [h 0 (by decide)]
theorem oper_c (h : ∀ k, k ≤ 4 → S' k = S k) (i : Nat) : oper S' i = oper S i := by unfold oper; rw [len_c h, h 1 (by decide)]
theorem fx_c (h : ∀ k, k ≤ 4 → S' k = S k) (i : Nat) : fx S' i = fx S i := by unfold fx; rw [h 2 (by decide)]
theorem fy_c (h : ∀ k, k ≤ 4 → S' k = S k) (i : Nat) : fy S' i = fy S i := by unfold fy; rw [h 3 (by decide)]
theorem fz_c (h : ∀ k, k ≤ 4 → S' k = S k) (i : Nat) : fz S' i = fz S i := by unfold fz; rw [h 4 (by decide)]
theorem adr_c (h : ∀ k, k ≤ 4 → S' k = S k) (i : Nat) (V : RM) : adr S' i V = adr S i V := by unfold adr; rw [fy_c h, h 4 (by decide)]
theorem val_c (h : ∀ k, k ≤ 4 → S' k = S k) (i : Nat) (V : RM) : val S' i V = val S i V := by unfold val; rw [oper_c h, fx_c h, fy_c h, fz_c h, adr_c h, h 4 (by decide)]
theorem eff_c (h : ∀ k, k ≤ 4 → S' k = S k) (i : Nat) (V : RM) : eff S' i V = eff S i V := by unfold eff; rw [oper_c h, fx_c h, val_c h, adr_c h]
theorem nxt_c (h : ∀ k, k ≤ 4 → S' k = S k) (i : Nat) (V : RM) : nxt S' i V = nxt S i V := by unfold nxt tkn; rw [oper_c h, val_c h, h 4 (by decide)]
theorem stp_c (h : ∀ k, k ≤ 4 → S' k = S k) (σ : AS) : stp S' σ = stp S σ := by unfold stp; rw [oper_c h, eff_c h, nxt_c h]
theorem inc_c (h : ∀ k, k ≤ 4 → S' k = S k) (σ : AS) : inc S' σ = inc S σ := by unfold inc; rw [oper_c h]
theorem wfP_c (h : ∀ k, k ≤ 4 → S' k = S k) (w : wfP S) : wfP S' := by
  unfold wfP
  rw [len_c h, h 0 (by decide), h 1 (by decide), h 2 (by decide), h 3 (by decide), h 4 (by decide)]
  refine ⟨w.1, w.2.1, fun i hi => ?_⟩
  rw [oper_c h]
  exact w.2.2 i hi
end SAMEPROG
/-! the reference's program against the component's -/
def prg (S T : St) : Prop := T 0 0 = S 0 0 ∧ ∀ i, i < len S → T 1 i = S 1 i ∧ (oper S i ≤ 8 → T 2 i = S 2 i) ∧ (oper S i ≤ 6 → T 3 i = S 3 i ∧ T 4 i = S 4 i) ∧ (oper S i = 7 ∨ oper S i = 8 → T 3 i = S 4 i) ∧ (oper S i = 9 → T 2 i = S 4 i)
theorem prg_c {S T T' : St} (h : ∀ k, k ≤ 4 → T' k = T k) (w : prg S T) : prg S T' := by
  unfold prg
  rw [h 0 (by decide), h 1 (by decide), h 2 (by decide), h 3 (by decide), h 4 (by decide)]
  exact w
/-- the reference's execute at place p, code o -/
noncomputable def mex (T : St) (p o : Nat) : St :=
  if o ≤ 3 then sput (sput T 7 0 (nI (p + 1))) 5 (nt (T 2 p)) (cmpt o (T 5 (nt (T 3 p))) (T 5 (nt (T 4 p))))
  else if o = 4 then sput (sput T 7 0 (nI (p + 1))) 5 (nt (T 2 p)) (T 5 (nt (T 3 p)) + T 4 p)
  else if o = 5 then sput (sput T 7 0 (nI (p + 1))) 5 (nt (T 2 p)) (T 6 (nt ((T 5 (nt (T 3 p)) + T 4 p) &&& 15)))
  else if o = 6 then sput (sput T 7 0 (nI (p + 1))) 6 (nt ((T 5 (nt (T 3 p)) + T 4 p) &&& 15)) (T 5 (nt (T 2 p)))
  else @ite _ ((o = 7 ∧ T 5 (nt (T 2 p)) = 0) ∨ (o = 8 ∧ T 5 (nt (T 2 p)) < 0)) (Classical.propDecidable _) (sput (sput T 7 0 (nI (p + 1))) 7 0 (T 3 p))
  (if o = 9 then sput (sput T 7 0 (nI (p + 1))) 7 0 (T 2 p)
  else if o = 10 then sput (sput (sput T 7 0 (nI (p + 1))) 7 0 (nI p)) 8 0 1
  else sput T 7 0 (nI (p + 1)))
theorem mex_prog (T : St) (p o : Nat) : ∀ k, k ≤ 4 → mex T p o k = T k := by
  intro k hk
  have h5 : k ≠ 5 := by omega
  have h6 : k ≠ 6 := by omega
  have h7 : k ≠ 7 := by omega
  have h8 : k ≠ 8 := by omega
  unfold mex
  repeat' split
  all_goals simp only [sput_k h5, sput_k h6, sput_k h7, sput_k h8]
theorem sput7_5 {T : St} {v : Int32} : sput T 7 0 v 5 = T 5 := rfl
theorem mex_arch {S T : St} (hw : wfP S) (hp : prg S T) {p : Nat} (hl : p < len S) (h7 : T 7 0 = nI p) : arch (mex T p (oper S p)) = stp S (arch T) := by
  have hl24 := hw.2.1
  have hop := hw.op hl
  obtain ⟨-, hpi⟩ := hp
  obtain ⟨p1, p2, p3, p4, p5⟩ := hpi p hl
  have hnt : nt (T 7 0) = p := by rw [h7, nt_nI (by omega)]
  have e5 : (arch T).2.2.1 = T 7 0 := rfl
  unfold stp
  rw [e5, hnt, if_neg (show ¬ oper S p = 11 by omega)]
  show arch (mex T p (oper S p)) = if oper S p = 10 then (T 5, T 6, T 7 0, 1) else ((eff S p (T 5, T 6)).1, (eff S p (T 5, T 6)).2, nI (nxt S p (T 5, T 6)), T 8 0)
  unfold mex
  by_cases c3 : oper S p ≤ 3
  · rw [if_pos c3, if_neg (show ¬ oper S p = 10 by omega)]
    have hn : nxt S p (T 5, T 6) = p + 1 := by
      unfold nxt; rw [if_neg]
      rintro (h | ⟨h, _⟩ | ⟨h, _⟩) <;> omega
    have he : eff S p (T 5, T 6) = (upd (T 5) (fx S p) (val S p (T 5, T 6)), T 6) := by unfold eff; rw [if_pos (by omega)]
    have hv : val S p (T 5, T 6) = cmpt (oper S p) (T 5 (fy S p)) (T 5 (fz S p)) := by unfold val; rw [if_pos c3]
    rw [hn, he, hv, p2 (by omega), (p3 (by omega)).1, (p3 (by omega)).2]
    rfl
  rw [if_neg c3]
  by_cases c4 : oper S p = 4
  · rw [if_pos c4, if_neg (show ¬ oper S p = 10 by omega)]
    have hn : nxt S p (T 5, T 6) = p + 1 := by
      unfold nxt; rw [if_neg]
      rintro (h | ⟨h, _⟩ | ⟨h, _⟩) <;> omega
    have he : eff S p (T 5, T 6) = (upd (T 5) (fx S p) (val S p (T 5, T 6)), T 6) := by unfold eff; rw [if_pos (by omega)]
    have hv : val S p (T 5, T 6) = T 5 (fy S p) + S 4 p := by unfold val; rw [if_neg c3, if_pos c4]
    rw [hn, he, hv, p2 (by omega), (p3 (by omega)).1, (p3 (by omega)).2]
    rfl
  rw [if_neg c4]
  by_cases c5 : oper S p = 5
  · rw [if_pos c5, if_neg (show ¬ oper S p = 10 by omega)]
    have hn : nxt S p (T 5, T 6) = p + 1 := by
      unfold nxt; rw [if_neg]
      rintro (h | ⟨h, _⟩ | ⟨h, _⟩) <;> omega
    have he : eff S p (T 5, T 6) = (upd (T 5) (fx S p) (val S p (T 5, T 6)), T 6) := by unfold eff; rw [if_pos (by omega)]
    have hv : val S p (T 5, T 6) = T 6 (adr S p (T 5, T 6)) := by unfold val; rw [if_neg c3, if_neg c4, if_pos c5]
    rw [hn, he, hv, p2 (by omega), (p3 (by omega)).1, (p3 (by omega)).2]
    rfl
  rw [if_neg c5]
  by_cases c6 : oper S p = 6
  · rw [if_pos c6, if_neg (show ¬ oper S p = 10 by omega)]
    have hn : nxt S p (T 5, T 6) = p + 1 := by
      unfold nxt; rw [if_neg]
      rintro (h | ⟨h, _⟩ | ⟨h, _⟩) <;> omega
    have he : eff S p (T 5, T 6) = (T 5, upd (T 6) (adr S p (T 5, T 6)) (val S p (T 5, T 6))) := by unfold eff; rw [if_neg (by omega), if_pos c6]
    have hv : val S p (T 5, T 6) = T 5 (fx S p) := by unfold val; rw [if_neg c3, if_neg c4, if_neg c5]
    rw [hn, he, hv, p2 (by omega), (p3 (by omega)).1, (p3 (by omega)).2]
    rfl
  rw [if_neg c6]
  have he : eff S p (T 5, T 6) = (T 5, T 6) := by unfold eff; rw [if_neg (by omega), if_neg c6]
  have hv : val S p (T 5, T 6) = T 5 (fx S p) := by unfold val; rw [if_neg c3, if_neg c4, if_neg c5]
  rw [he]
  by_cases c78 : oper S p ≤ 8
  · rw [if_neg (show ¬ oper S p = 10 by omega), if_neg (show ¬ oper S p = 9 by omega), if_neg (show ¬ oper S p = 10 by omega), p2 c78]
    have h4 := hw.t (i := p) (by omega) (by omega)
    by_cases ct : (oper S p = 7 ∧ T 5 (nt (S 2 p)) = 0) ∨ (oper S p = 8 ∧ T 5 (nt (S 2 p)) < 0)
    · rw [if_pos ct]
      have hn : nxt S p (T 5, T 6) = nt (S 4 p) := by
        unfold nxt; rw [if_pos]
        right; unfold tkn; rw [hv]; exact ct
      rw [hn, p4 (by omega)]
      show (T 5, T 6, S 4 p, T 8 0) = _
      rw [show nI (nt (S 4 p)) = S 4 p from h4.1.symm]
    · rw [if_neg ct]
      have hn : nxt S p (T 5, T 6) = p + 1 := by
        unfold nxt; rw [if_neg]
        rintro (h | h)
        · omega
        · unfold tkn at h; rw [hv] at h; exact ct h
      rw [hn]
      rfl
  · rw [if_neg (show ¬ ((oper S p = 7 ∧ T 5 (nt (T 2 p)) = 0) ∨ (oper S p = 8 ∧ T 5 (nt (T 2 p)) < 0)) by omega)]
    by_cases c9 : oper S p = 9
    · rw [if_pos c9, if_neg (show ¬ oper S p = 10 by omega)]
      have h4 := hw.t (i := p) (by omega) (by omega)
      have hn : nxt S p (T 5, T 6) = nt (S 4 p) := by unfold nxt; rw [if_pos (Or.inl c9)]
      rw [hn, p5 c9]
      show (T 5, T 6, S 4 p, T 8 0) = _
      rw [show nI (nt (S 4 p)) = S 4 p from h4.1.symm]
    · rw [if_neg c9, if_pos (show oper S p = 10 by omega), if_pos (show oper S p = 10 by omega), h7]
      rfl
/-- how many instructions run(n) is asked for -/
def wnt (n : Int32) : Nat := if n < 0 then 0 else if (150 : Int32) < n then 150 else nt n
theorem wnt_le (n : Int32) : wnt n ≤ 150 := by
  unfold wnt
  split
  · omega
  · split
    · omega
    · rename_i h1 h2
      have := (isN_mk (x := n) (M := 150) (b := 151) (by decide) h1 (le_of_nlt h2)).nt (by decide)
      omega
end
section
set_option maxRecDepth 100000
set_option maxHeartbeats 4000000 in
set_option maxRecDepth 100000 in
/-- execute(p0): o is the instruction's code -/
theorem tM_execute (l : Launch) (D : va_G) (cs : ClassId × ClassId × ClassId) (a : Nat → Nat) (S : St) (p0 o : Nat) (hp : p0 < 24) (ho : o ≤ 10) (e7 : S 7 0 = nI p0) (eo : S 1 p0 = nI o) (kx : o ≤ 8 → isN (S 2 p0) 8) (ky : o ≤ 6 → isN (S 3 p0) 8) (kz : o ≤ 3 → isN (S 4 p0) 8) : CV l yX1_execute cX1_execute 5 (rm_ 0 0) D cs (mW cs a) (mAd a) [.ref (a 0), .int (nI p0)] S (fun S1 => S1 = mex S p0 o) := by
  intro sz
  refine cv_start (w := mW cs a) (ad := mAd a) (C := RX1) (by decide) rfl mAd_eq (Nat.le_of_ble_eq_true rfl) ?_
  intro p e s m below meth c ls E hml hr hlocks hsz hW hl
  have hA : ∀ q, s.heap.size ≤ q → wA (mAd a) sz q := fun q h => Or.inr (hsz ▸ h)
  have hl : lv_has ls 5 [(0, .ref (a 0)), (1, .int (nI p0))] := hl
  refine lv_aload_n E.1 E.2.1 dX1_execute_0 rfl (lv_at hl 0 rfl) ?_
  refine gM_2 E hW dX1_execute_1 ?_
  refine lv_iload_n E.1 E.2.1 dX1_execute_4 rfl (lv_at hl 1 rfl) ?_
  refine lM_2 E hW (rfl) (hp) (rfl) dX1_execute_5 ?_
  refine xl_istore_n (lv' := [(0, _), (1, _), (2, _)]) E dX1_execute_6 rfl hl (by decide) [1, 2, 0] rfl (fun ls hl => ?_)
  refine lv_aload_n E.1 E.2.1 dX1_execute_7 rfl (lv_at hl 0 rfl) ?_
  refine gM_3 E hW dX1_execute_8 ?_
  refine lv_iload_n E.1 E.2.1 dX1_execute_11 rfl (lv_at hl 1 rfl) ?_
  refine lM_3 E hW (rfl) (hp) (rfl) dX1_execute_12 ?_
  refine xl_istore_n (lv' := [(0, _), (1, _), (2, _), (3, _)]) E dX1_execute_13 rfl hl (by decide) [1, 2, 3, 0] rfl (fun ls hl => ?_)
  refine lv_aload_n E.1 E.2.1 dX1_execute_14 rfl (lv_at hl 0 rfl) ?_
  refine gM_4 E hW dX1_execute_15 ?_
  refine lv_iload_n E.1 E.2.1 dX1_execute_18 rfl (lv_at hl 1 rfl) ?_
  refine lM_4 E hW (rfl) (hp) (rfl) dX1_execute_19 ?_
  refine xl_istore (lv' := [(0, _), (1, _), (2, _), (3, _), (4, _)]) E dX1_execute_20 hl (by decide) [1, 2, 3, 4, 0] rfl (fun ls hl => ?_)
  refine lv_aload_n E.1 E.2.1 dX1_execute_22 rfl (lv_at hl 0 rfl) ?_
  refine lv_dup E.1 E.2.1 dX1_execute_23 rfl ?_
  refine gM_7 E hW e7 dX1_execute_24 ?_
  refine lv_iconst (v := 1) E.1 E.2.1 dX1_execute_27 (by decide) ?_
  refine lv_iadd E.1 E.2.1 dX1_execute_28 ?_
  refine x_top (y := nI (p0 + 1)) (nI_1 p0) ?_
  refine pM_7 E hW dX1_execute_29 (fun H locs hW => ?_)
  refine lv_aload_n E.1 E.2.1 dX1_execute_32 rfl (lv_at hl 0 rfl) ?_
  refine gM_1 E hW dX1_execute_33 ?_
  refine lv_iload_n E.1 E.2.1 dX1_execute_36 rfl (lv_at hl 1 rfl) ?_
  refine lM_1 E hW (rfl) (hp) (eo) dX1_execute_37 ?_
  refine lv_if_ne (tgt := 64) E.1 E.2.1 dX1_execute_38 (by decide) (fun h0 => ?_) (fun h0 => ?_)
  rotate_left
  · obtain rfl : o = 0 := nI_inj (by omega) (by decide) h0
    refine lv_aload_n E.1 E.2.1 dX1_execute_41 rfl (lv_at hl 0 rfl) ?_
    refine gM_5 E hW dX1_execute_42 ?_
    refine lv_iload_n E.1 E.2.1 dX1_execute_45 rfl (lv_at hl 2 rfl) ?_
    refine lv_aload_n E.1 E.2.1 dX1_execute_46 rfl (lv_at hl 0 rfl) ?_
    refine gM_5 E hW dX1_execute_47 ?_
    refine lv_iload_n E.1 E.2.1 dX1_execute_50 rfl (lv_at hl 3 rfl) ?_
    refine lM_5 E hW (((ky (by omega)).nt (by decide)).1) (((ky (by omega)).nt (by decide)).2) (rfl) dX1_execute_51 ?_
    refine lv_aload_n E.1 E.2.1 dX1_execute_52 rfl (lv_at hl 0 rfl) ?_
    refine gM_5 E hW dX1_execute_53 ?_
    refine lv_iload E.1 E.2.1 dX1_execute_56 (lv_at hl 4 rfl) ?_
    refine lM_5 E hW (((kz (by omega)).nt (by decide)).1) (((kz (by omega)).nt (by decide)).2) (rfl) dX1_execute_58 ?_
    refine lv_iadd E.1 E.2.1 dX1_execute_59 ?_
    refine sM_5 E hW (((kx (by omega)).nt (by decide)).1) (((kx (by omega)).nt (by decide)).2) dX1_execute_60 (fun H locs hW => ?_)
    refine lv_goto (tgt := 359) E.1 E.2.1 dX1_execute_61 (by decide) ?_
    exact cv_ret E hr hlocks hW (rfl) dX1_execute_359
  have h0 : o ≠ 0 := fun h => h0 (by rw [h]; rfl)
  refine lv_aload_n E.1 E.2.1 dX1_execute_64 rfl (lv_at hl 0 rfl) ?_
  refine gM_1 E hW dX1_execute_65 ?_
  refine lv_iload_n E.1 E.2.1 dX1_execute_68 rfl (lv_at hl 1 rfl) ?_
  refine lM_1 E hW (rfl) (hp) (eo) dX1_execute_69 ?_
  refine lv_iconst (v := nI 1) E.1 E.2.1 dX1_execute_70 (by decide) ?_
  refine lv_icmp_ne (tgt := 97) E.1 E.2.1 dX1_execute_71 (by decide) (fun h1 => ?_) (fun h1 => ?_)
  rotate_left
  · obtain rfl : o = 1 := nI_inj (by omega) (by decide) h1
    refine lv_aload_n E.1 E.2.1 dX1_execute_74 rfl (lv_at hl 0 rfl) ?_
    refine gM_5 E hW dX1_execute_75 ?_
    refine lv_iload_n E.1 E.2.1 dX1_execute_78 rfl (lv_at hl 2 rfl) ?_
    refine lv_aload_n E.1 E.2.1 dX1_execute_79 rfl (lv_at hl 0 rfl) ?_
    refine gM_5 E hW dX1_execute_80 ?_
    refine lv_iload_n E.1 E.2.1 dX1_execute_83 rfl (lv_at hl 3 rfl) ?_
    refine lM_5 E hW (((ky (by omega)).nt (by decide)).1) (((ky (by omega)).nt (by decide)).2) (rfl) dX1_execute_84 ?_
    refine lv_aload_n E.1 E.2.1 dX1_execute_85 rfl (lv_at hl 0 rfl) ?_
    refine gM_5 E hW dX1_execute_86 ?_
    refine lv_iload E.1 E.2.1 dX1_execute_89 (lv_at hl 4 rfl) ?_
    refine lM_5 E hW (((kz (by omega)).nt (by decide)).1) (((kz (by omega)).nt (by decide)).2) (rfl) dX1_execute_91 ?_
    refine lv_isub E.1 E.2.1 dX1_execute_92 ?_
    refine sM_5 E hW (((kx (by omega)).nt (by decide)).1) (((kx (by omega)).nt (by decide)).2) dX1_execute_93 (fun H locs hW => ?_)
    refine lv_goto (tgt := 359) E.1 E.2.1 dX1_execute_94 (by decide) ?_
    exact cv_ret E hr hlocks hW (rfl) dX1_execute_359
  have h1 : o ≠ 1 := fun h => h1 (by rw [h])
  refine lv_aload_n E.1 E.2.1 dX1_execute_97 rfl (lv_at hl 0 rfl) ?_
  refine gM_1 E hW dX1_execute_98 ?_
  refine lv_iload_n E.1 E.2.1 dX1_execute_101 rfl (lv_at hl 1 rfl) ?_
  refine lM_1 E hW (rfl) (hp) (eo) dX1_execute_102 ?_
  refine lv_iconst (v := nI 2) E.1 E.2.1 dX1_execute_103 (by decide) ?_
  refine lv_icmp_ne (tgt := 130) E.1 E.2.1 dX1_execute_104 (by decide) (fun h2 => ?_) (fun h2 => ?_)
  rotate_left
  · obtain rfl : o = 2 := nI_inj (by omega) (by decide) h2
    refine lv_aload_n E.1 E.2.1 dX1_execute_107 rfl (lv_at hl 0 rfl) ?_
    refine gM_5 E hW dX1_execute_108 ?_
    refine lv_iload_n E.1 E.2.1 dX1_execute_111 rfl (lv_at hl 2 rfl) ?_
    refine lv_aload_n E.1 E.2.1 dX1_execute_112 rfl (lv_at hl 0 rfl) ?_
    refine gM_5 E hW dX1_execute_113 ?_
    refine lv_iload_n E.1 E.2.1 dX1_execute_116 rfl (lv_at hl 3 rfl) ?_
    refine lM_5 E hW (((ky (by omega)).nt (by decide)).1) (((ky (by omega)).nt (by decide)).2) (rfl) dX1_execute_117 ?_
    refine lv_aload_n E.1 E.2.1 dX1_execute_118 rfl (lv_at hl 0 rfl) ?_
    refine gM_5 E hW dX1_execute_119 ?_
    refine lv_iload E.1 E.2.1 dX1_execute_122 (lv_at hl 4 rfl) ?_
    refine lM_5 E hW (((kz (by omega)).nt (by decide)).1) (((kz (by omega)).nt (by decide)).2) (rfl) dX1_execute_124 ?_
    refine lv_ixor E.1 E.2.1 dX1_execute_125 ?_
    refine sM_5 E hW (((kx (by omega)).nt (by decide)).1) (((kx (by omega)).nt (by decide)).2) dX1_execute_126 (fun H locs hW => ?_)
    refine lv_goto (tgt := 359) E.1 E.2.1 dX1_execute_127 (by decide) ?_
    exact cv_ret E hr hlocks hW (rfl) dX1_execute_359
  have h2 : o ≠ 2 := fun h => h2 (by rw [h])
  refine lv_aload_n E.1 E.2.1 dX1_execute_130 rfl (lv_at hl 0 rfl) ?_
  refine gM_1 E hW dX1_execute_131 ?_
  refine lv_iload_n E.1 E.2.1 dX1_execute_134 rfl (lv_at hl 1 rfl) ?_
  refine lM_1 E hW (rfl) (hp) (eo) dX1_execute_135 ?_
  refine lv_iconst (v := nI 3) E.1 E.2.1 dX1_execute_136 (by decide) ?_
  refine lv_icmp_ne (tgt := 170) E.1 E.2.1 dX1_execute_137 (by decide) (fun h3 => ?_) (fun h3 => ?_)
  rotate_left
  · obtain rfl : o = 3 := nI_inj (by omega) (by decide) h3
    refine lv_aload_n E.1 E.2.1 dX1_execute_140 rfl (lv_at hl 0 rfl) ?_
    refine gM_5 E hW dX1_execute_141 ?_
    refine lv_iload_n E.1 E.2.1 dX1_execute_144 rfl (lv_at hl 2 rfl) ?_
    refine x_join (pj := 166) (lj := ls) (rj := [.int (S 2 p0), .ref (a 5)]) (fun v => v = if S 5 (nt (S 3 p0)) < S 5 (nt (S 4 p0)) then 1 else 0) (fun join => ?_) (fun v hj => ?_)
    · refine lv_aload_n E.1 E.2.1 dX1_execute_145 rfl (lv_at hl 0 rfl) ?_
      refine gM_5 E hW dX1_execute_146 ?_
      refine lv_iload_n E.1 E.2.1 dX1_execute_149 rfl (lv_at hl 3 rfl) ?_
      refine lM_5 E hW (((ky (by omega)).nt (by decide)).1) (((ky (by omega)).nt (by decide)).2) (rfl) dX1_execute_150 ?_
      refine lv_aload_n E.1 E.2.1 dX1_execute_151 rfl (lv_at hl 0 rfl) ?_
      refine gM_5 E hW dX1_execute_152 ?_
      refine lv_iload E.1 E.2.1 dX1_execute_155 (lv_at hl 4 rfl) ?_
      refine lM_5 E hW (((kz (by omega)).nt (by decide)).1) (((kz (by omega)).nt (by decide)).2) (rfl) dX1_execute_157 ?_
      refine lv_icmp_ge (tgt := 165) E.1 E.2.1 dX1_execute_158 (by decide) (fun hc => ?_) (fun hc => ?_)
      · have hc : S 5 (nt (S 4 p0)) ≤ S 5 (nt (S 3 p0)) := hc
        refine lv_iconst (v := 0) E.1 E.2.1 dX1_execute_165 (by decide) ?_
        exact join _ (by rw [if_neg (Int32.not_lt.mpr hc)])
      · have hc : ¬ S 5 (nt (S 4 p0)) ≤ S 5 (nt (S 3 p0)) := hc
        refine lv_iconst (v := 1) E.1 E.2.1 dX1_execute_161 (by decide) ?_
        refine lv_goto (tgt := 166) E.1 E.2.1 dX1_execute_162 (by decide) ?_
        exact join _ (by rw [if_pos (lt_of_nle hc)])
    subst hj
    refine sM_5 E hW (((kx (by omega)).nt (by decide)).1) (((kx (by omega)).nt (by decide)).2) dX1_execute_166 (fun H locs hW => ?_)
    refine lv_goto (tgt := 359) E.1 E.2.1 dX1_execute_167 (by decide) ?_
    exact cv_ret E hr hlocks hW (rfl) dX1_execute_359
  have h3 : o ≠ 3 := fun h => h3 (by rw [h])
  refine lv_aload_n E.1 E.2.1 dX1_execute_170 rfl (lv_at hl 0 rfl) ?_
  refine gM_1 E hW dX1_execute_171 ?_
  refine lv_iload_n E.1 E.2.1 dX1_execute_174 rfl (lv_at hl 1 rfl) ?_
  refine lM_1 E hW (rfl) (hp) (eo) dX1_execute_175 ?_
  refine lv_iconst (v := nI 4) E.1 E.2.1 dX1_execute_176 (by decide) ?_
  refine lv_icmp_ne (tgt := 198) E.1 E.2.1 dX1_execute_177 (by decide) (fun h4 => ?_) (fun h4 => ?_)
  rotate_left
  · obtain rfl : o = 4 := nI_inj (by omega) (by decide) h4
    refine lv_aload_n E.1 E.2.1 dX1_execute_180 rfl (lv_at hl 0 rfl) ?_
    refine gM_5 E hW dX1_execute_181 ?_
    refine lv_iload_n E.1 E.2.1 dX1_execute_184 rfl (lv_at hl 2 rfl) ?_
    refine lv_aload_n E.1 E.2.1 dX1_execute_185 rfl (lv_at hl 0 rfl) ?_
    refine gM_5 E hW dX1_execute_186 ?_
    refine lv_iload_n E.1 E.2.1 dX1_execute_189 rfl (lv_at hl 3 rfl) ?_
    refine lM_5 E hW (((ky (by omega)).nt (by decide)).1) (((ky (by omega)).nt (by decide)).2) (rfl) dX1_execute_190 ?_
    refine lv_iload E.1 E.2.1 dX1_execute_191 (lv_at hl 4 rfl) ?_
    refine lv_iadd E.1 E.2.1 dX1_execute_193 ?_
    refine sM_5 E hW (((kx (by omega)).nt (by decide)).1) (((kx (by omega)).nt (by decide)).2) dX1_execute_194 (fun H locs hW => ?_)
    refine lv_goto (tgt := 359) E.1 E.2.1 dX1_execute_195 (by decide) ?_
    exact cv_ret E hr hlocks hW (rfl) dX1_execute_359
  have h4 : o ≠ 4 := fun h => h4 (by rw [h])
  refine lv_aload_n E.1 E.2.1 dX1_execute_198 rfl (lv_at hl 0 rfl) ?_
  refine gM_1 E hW dX1_execute_199 ?_
  refine lv_iload_n E.1 E.2.1 dX1_execute_202 rfl (lv_at hl 1 rfl) ?_
  refine lM_1 E hW (rfl) (hp) (eo) dX1_execute_203 ?_
  refine lv_iconst (v := nI 5) E.1 E.2.1 dX1_execute_204 (by decide) ?_
  refine lv_icmp_ne (tgt := 234) E.1 E.2.1 dX1_execute_205 (by decide) (fun h5 => ?_) (fun h5 => ?_)
  rotate_left
  · obtain rfl : o = 5 := nI_inj (by omega) (by decide) h5
    refine lv_aload_n E.1 E.2.1 dX1_execute_208 rfl (lv_at hl 0 rfl) ?_
    refine gM_5 E hW dX1_execute_209 ?_
    refine lv_iload_n E.1 E.2.1 dX1_execute_212 rfl (lv_at hl 2 rfl) ?_
    refine lv_aload_n E.1 E.2.1 dX1_execute_213 rfl (lv_at hl 0 rfl) ?_
    refine gM_6 E hW dX1_execute_214 ?_
    refine lv_aload_n E.1 E.2.1 dX1_execute_217 rfl (lv_at hl 0 rfl) ?_
    refine gM_5 E hW dX1_execute_218 ?_
    refine lv_iload_n E.1 E.2.1 dX1_execute_221 rfl (lv_at hl 3 rfl) ?_
    refine lM_5 E hW (((ky (by omega)).nt (by decide)).1) (((ky (by omega)).nt (by decide)).2) (rfl) dX1_execute_222 ?_
    refine lv_iload E.1 E.2.1 dX1_execute_223 (lv_at hl 4 rfl) ?_
    refine lv_iadd E.1 E.2.1 dX1_execute_225 ?_
    refine lv_bipush (v := 15) E.1 E.2.1 dX1_execute_226 (by decide) ?_
    refine lv_iand E.1 E.2.1 dX1_execute_228 ?_
    refine lM_6 E hW ((and15 _).1) ((and15 _).2) (rfl) dX1_execute_229 ?_
    refine sM_5 E hW (((kx (by omega)).nt (by decide)).1) (((kx (by omega)).nt (by decide)).2) dX1_execute_230 (fun H locs hW => ?_)
    refine lv_goto (tgt := 359) E.1 E.2.1 dX1_execute_231 (by decide) ?_
    exact cv_ret E hr hlocks hW (rfl) dX1_execute_359
  have h5 : o ≠ 5 := fun h => h5 (by rw [h])
  refine lv_aload_n E.1 E.2.1 dX1_execute_234 rfl (lv_at hl 0 rfl) ?_
  refine gM_1 E hW dX1_execute_235 ?_
  refine lv_iload_n E.1 E.2.1 dX1_execute_238 rfl (lv_at hl 1 rfl) ?_
  refine lM_1 E hW (rfl) (hp) (eo) dX1_execute_239 ?_
  refine lv_bipush (v := nI 6) E.1 E.2.1 dX1_execute_240 (by decide) ?_
  refine lv_icmp_ne (tgt := 271) E.1 E.2.1 dX1_execute_242 (by decide) (fun h6 => ?_) (fun h6 => ?_)
  rotate_left
  · obtain rfl : o = 6 := nI_inj (by omega) (by decide) h6
    refine lv_aload_n E.1 E.2.1 dX1_execute_245 rfl (lv_at hl 0 rfl) ?_
    refine gM_6 E hW dX1_execute_246 ?_
    refine lv_aload_n E.1 E.2.1 dX1_execute_249 rfl (lv_at hl 0 rfl) ?_
    refine gM_5 E hW dX1_execute_250 ?_
    refine lv_iload_n E.1 E.2.1 dX1_execute_253 rfl (lv_at hl 3 rfl) ?_
    refine lM_5 E hW (((ky (by omega)).nt (by decide)).1) (((ky (by omega)).nt (by decide)).2) (rfl) dX1_execute_254 ?_
    refine lv_iload E.1 E.2.1 dX1_execute_255 (lv_at hl 4 rfl) ?_
    refine lv_iadd E.1 E.2.1 dX1_execute_257 ?_
    refine lv_bipush (v := 15) E.1 E.2.1 dX1_execute_258 (by decide) ?_
    refine lv_iand E.1 E.2.1 dX1_execute_260 ?_
    refine lv_aload_n E.1 E.2.1 dX1_execute_261 rfl (lv_at hl 0 rfl) ?_
    refine gM_5 E hW dX1_execute_262 ?_
    refine lv_iload_n E.1 E.2.1 dX1_execute_265 rfl (lv_at hl 2 rfl) ?_
    refine lM_5 E hW (((kx (by omega)).nt (by decide)).1) (((kx (by omega)).nt (by decide)).2) (rfl) dX1_execute_266 ?_
    refine sM_6 E hW ((and15 _).1) ((and15 _).2) dX1_execute_267 (fun H locs hW => ?_)
    refine lv_goto (tgt := 359) E.1 E.2.1 dX1_execute_268 (by decide) ?_
    exact cv_ret E hr hlocks hW (rfl) dX1_execute_359
  have h6 : o ≠ 6 := fun h => h6 (by rw [h])
  have hbig : mex S p0 o = @ite _ ((o = 7 ∧ S 5 (nt (S 2 p0)) = 0) ∨ (o = 8 ∧ S 5 (nt (S 2 p0)) < 0)) (Classical.propDecidable _) (sput (sput S 7 0 (nI (p0 + 1))) 7 0 (S 3 p0)) (if o = 9 then sput (sput S 7 0 (nI (p0 + 1))) 7 0 (S 2 p0) else if o = 10 then sput (sput (sput S 7 0 (nI (p0 + 1))) 7 0 (nI p0)) 8 0 1 else sput S 7 0 (nI (p0 + 1))) := by
    unfold mex
    rw [if_neg (by omega), if_neg h4, if_neg h5, if_neg h6]
  refine x_joinP (pj := 319) (lj := ls) (rj := []) (¬ ((o = 7 ∧ S 5 (nt (S 2 p0)) = 0) ∨ (o = 8 ∧ S 5 (nt (S 2 p0)) < 0))) (fun join3 => ?_) (fun hnt => ?_)
  · refine x_joinP (pj := 311) (lj := ls) (rj := []) ((o = 7 ∧ S 5 (nt (S 2 p0)) = 0) ∨ (o = 8 ∧ S 5 (nt (S 2 p0)) < 0)) (fun join1 => ?_) (fun ht => ?_)
    · refine x_joinP (pj := 291) (lj := ls) (rj := []) (¬ (o = 7 ∧ S 5 (nt (S 2 p0)) = 0)) (fun join2 => ?_) (fun h7 => ?_)
      · refine lv_aload_n E.1 E.2.1 dX1_execute_271 rfl (lv_at hl 0 rfl) ?_
        refine gM_1 E hW dX1_execute_272 ?_
        refine lv_iload_n E.1 E.2.1 dX1_execute_275 rfl (lv_at hl 1 rfl) ?_
        refine lM_1 E hW (rfl) (hp) (eo) dX1_execute_276 ?_
        refine lv_bipush (v := nI 7) E.1 E.2.1 dX1_execute_277 (by decide) ?_
        refine lv_icmp_ne (tgt := 291) E.1 E.2.1 dX1_execute_279 (by decide) (fun h => ?_) (fun h => ?_)
        · exact join2 (fun q => h (by rw [q.1]))
        · obtain rfl : o = 7 := nI_inj (by omega) (by decide) h
          refine lv_aload_n E.1 E.2.1 dX1_execute_282 rfl (lv_at hl 0 rfl) ?_
          refine gM_5 E hW dX1_execute_283 ?_
          refine lv_iload_n E.1 E.2.1 dX1_execute_286 rfl (lv_at hl 2 rfl) ?_
          refine lM_5 E hW (((kx (by omega)).nt (by decide)).1) (((kx (by omega)).nt (by decide)).2) (rfl) dX1_execute_287 ?_
          refine lv_if_eq (tgt := 311) E.1 E.2.1 dX1_execute_288 (by decide) (fun hc => ?_) (fun hc => ?_)
          · exact join1 (Or.inl ⟨rfl, hc⟩)
          · exact join2 (fun q => hc q.2)
      refine lv_aload_n E.1 E.2.1 dX1_execute_291 rfl (lv_at hl 0 rfl) ?_
      refine gM_1 E hW dX1_execute_292 ?_
      refine lv_iload_n E.1 E.2.1 dX1_execute_295 rfl (lv_at hl 1 rfl) ?_
      refine lM_1 E hW (rfl) (hp) (eo) dX1_execute_296 ?_
      refine lv_bipush (v := nI 8) E.1 E.2.1 dX1_execute_297 (by decide) ?_
      refine lv_icmp_ne (tgt := 319) E.1 E.2.1 dX1_execute_299 (by decide) (fun h => ?_) (fun h => ?_)
      · exact join3 (fun q => q.elim h7 (fun q => h (by rw [q.1])))
      · obtain rfl : o = 8 := nI_inj (by omega) (by decide) h
        refine lv_aload_n E.1 E.2.1 dX1_execute_302 rfl (lv_at hl 0 rfl) ?_
        refine gM_5 E hW dX1_execute_303 ?_
        refine lv_iload_n E.1 E.2.1 dX1_execute_306 rfl (lv_at hl 2 rfl) ?_
        refine lM_5 E hW (((kx (by omega)).nt (by decide)).1) (((kx (by omega)).nt (by decide)).2) (rfl) dX1_execute_307 ?_
        refine lv_if_ge (tgt := 319) E.1 E.2.1 dX1_execute_308 (by decide) (fun hc => ?_) (fun hc => ?_)
        · exact join3 (fun q => q.elim h7 (fun q => absurd q.2 (Int32.not_lt.mpr hc)))
        · exact join1 (Or.inr ⟨rfl, lt_of_nle hc⟩)
    refine lv_aload_n E.1 E.2.1 dX1_execute_311 rfl (lv_at hl 0 rfl) ?_
    refine lv_iload_n E.1 E.2.1 dX1_execute_312 rfl (lv_at hl 3 rfl) ?_
    refine pM_7 E hW dX1_execute_313 (fun H locs hW => ?_)
    refine lv_goto (tgt := 359) E.1 E.2.1 dX1_execute_316 (by decide) ?_
    exact cv_ret E hr hlocks hW (by rw [hbig, if_pos ht]) dX1_execute_359
  refine lv_aload_n E.1 E.2.1 dX1_execute_319 rfl (lv_at hl 0 rfl) ?_
  refine gM_1 E hW dX1_execute_320 ?_
  refine lv_iload_n E.1 E.2.1 dX1_execute_323 rfl (lv_at hl 1 rfl) ?_
  refine lM_1 E hW (rfl) (hp) (eo) dX1_execute_324 ?_
  refine lv_bipush (v := nI 9) E.1 E.2.1 dX1_execute_325 (by decide) ?_
  refine lv_icmp_ne (tgt := 338) E.1 E.2.1 dX1_execute_327 (by decide) (fun h9 => ?_) (fun h9 => ?_)
  rotate_left
  · have h9 : o = 9 := nI_inj (by omega) (by decide) h9
    refine lv_aload_n E.1 E.2.1 dX1_execute_330 rfl (lv_at hl 0 rfl) ?_
    refine lv_iload_n E.1 E.2.1 dX1_execute_331 rfl (lv_at hl 2 rfl) ?_
    refine pM_7 E hW dX1_execute_332 (fun H locs hW => ?_)
    refine lv_goto (tgt := 359) E.1 E.2.1 dX1_execute_335 (by decide) ?_
    exact cv_ret E hr hlocks hW (by rw [hbig, if_neg hnt, if_pos h9]) dX1_execute_359
  have h9 : o ≠ 9 := fun h => h9 (by rw [h])
  refine lv_aload_n E.1 E.2.1 dX1_execute_338 rfl (lv_at hl 0 rfl) ?_
  refine gM_1 E hW dX1_execute_339 ?_
  refine lv_iload_n E.1 E.2.1 dX1_execute_342 rfl (lv_at hl 1 rfl) ?_
  refine lM_1 E hW (rfl) (hp) (eo) dX1_execute_343 ?_
  refine lv_bipush (v := nI 10) E.1 E.2.1 dX1_execute_344 (by decide) ?_
  refine lv_icmp_ne (tgt := 359) E.1 E.2.1 dX1_execute_346 (by decide) (fun h10 => ?_) (fun h10 => ?_)
  · have h10 : o ≠ 10 := fun h => h10 (by rw [h])
    exact cv_ret E hr hlocks hW (by rw [hbig, if_neg hnt, if_neg h9, if_neg h10]) dX1_execute_359
  have h10 : o = 10 := nI_inj (by omega) (by decide) h10
  refine lv_aload_n E.1 E.2.1 dX1_execute_349 rfl (lv_at hl 0 rfl) ?_
  refine lv_iload_n E.1 E.2.1 dX1_execute_350 rfl (lv_at hl 1 rfl) ?_
  refine pM_7 E hW dX1_execute_351 (fun H locs hW => ?_)
  refine lv_aload_n E.1 E.2.1 dX1_execute_354 rfl (lv_at hl 0 rfl) ?_
  refine lv_iconst (v := 1) E.1 E.2.1 dX1_execute_355 (by decide) ?_
  refine pM_8 E hW dX1_execute_356 (fun H locs hW => ?_)
  exact cv_ret E hr hlocks hW (by rw [hbig, if_neg hnt, if_neg h9, if_pos h10]) dX1_execute_359
section L_lpM_run
variable {p : Program} {l : Launch} {e : Env} {R : Room} {s : State} {m : MethodId} {args : Array Value} {below : List Frame} {meth : Method} {c : Code} {H : Heap} {locs : List Loc} {cells slots : Nat} {Q : State → Prop}
variable {cc : ByteArray} {pc : Nat} {ls : Array Slot} {rest : List Value} {D : va_G} {cs : ClassId × ClassId × ClassId} {a : Nat → Nat} {S : St} {A : Nat → Prop} {H0 : Heap}
set_option maxHeartbeats 4000000 in
theorem lpM_run {n0 : Int32} {w0 : Nat} {T : St} (E : XE RX1 p s m args c cX1_run D cs) (hml : c.maxLocals = 5) (hA : ∀ q, H0.size ≤ q → A q) (hfr : 1 ≤ R.frames ∧ 24 ≤ R.locals) (hcs : cells ≤ R.cells ∧ slots ≤ R.slots) (hw : wfP S) (hpr : prg S T) (hw0 : w0 ≤ 150)
    (kk : ∀ (T1 : St) (d : Nat) (H : Heap) (locs : List Loc) (ls : Array Slot), (∀ q, q ≤ 4 → T1 q = T q) → isN (T1 7 0) 25 → itr S w0 (arch T) = (arch T1, d) → PW D (mW cs a T1) A H0 H locs → lv_has ls 5 [(0, .ref (a 0)), (1, .int n0), (2, .int (nI w0)), (3, .int (nI d))] → W p l e R s m args below meth c H locs cells slots Q (F0 m 77 ls [])) :
    ∀ (f k d : Nat) (T1 : St) (H : Heap) (locs : List Loc) (ls : Array Slot), k + f = w0 → (∀ q, q ≤ 4 → T1 q = T q) → isN (T1 7 0) 25 → itr S w0 (arch T) = ((itr S (w0 - k) (arch T1)).1, d + (itr S (w0 - k) (arch T1)).2) → d ≤ k → PW D (mW cs a T1) A H0 H locs → lv_has ls 5 [(0, .ref (a 0)), (1, .int n0), (2, .int (nI w0)), (3, .int (nI d)), (4, .int (nI k))] → W p l e R s m args below meth c H locs cells slots Q (F0 m 28 ls []) := by
  intro f
  induction f with
  | zero =>
    intro k d T1 H locs ls hk h1 h2 h3 hd hW hl
    obtain rfl : k = w0 := by omega
    refine lv_iload E.1 E.2.1 dX1_run_28 (lv_at hl 4 rfl) ?_
    refine lv_iload_n E.1 E.2.1 dX1_run_30 rfl (lv_at hl 2 rfl) ?_
    refine lv_icmp_ge (tgt := 77) E.1 E.2.1 dX1_run_31 (by decide) (fun _ => ?_) (fun h => absurd (nI_le (Nat.le_refl _) (by omega)) h)
    rw [Nat.sub_self] at h3
    exact kk T1 d H locs ls h1 h2 h3 hW (lv_sub hl [0, 1, 2, 3] rfl)
  | succ f ih =>
    intro k d T1 H locs ls hk h1 h2 h3 hd hW hl
    have hkw : k < w0 := by omega
    refine lv_iload E.1 E.2.1 dX1_run_28 (lv_at hl 4 rfl) ?_
    refine lv_iload_n E.1 E.2.1 dX1_run_30 rfl (lv_at hl 2 rfl) ?_
    refine lv_icmp_ge (tgt := 77) E.1 E.2.1 dX1_run_31 (by decide) (fun h => absurd h (nI_ge hkw (by omega))) (fun _ => ?_)
    refine lv_aload_n E.1 E.2.1 dX1_run_34 rfl (lv_at hl 0 rfl) ?_
    refine gM_8 E hW rfl dX1_run_35 ?_
    refine lv_if_ne (tgt := 77) E.1 E.2.1 dX1_run_38 (by decide) (fun hs => ?_) (fun hs => ?_)
    · have hs : ¬ (arch T1).2.2.2 = 0 := hs
      rw [itr_stop S _ hs] at h3
      exact kk T1 d H locs ls h1 h2 h3 hW (lv_sub hl [0, 1, 2, 3] rfl)
    have hs : (arch T1).2.2.2 = 0 := hs
    obtain ⟨p0, hp0, e7⟩ := h2
    have ewk : w0 - k = (w0 - (k + 1)) + 1 := by omega
    rw [ewk, itr_run S _ hs] at h3
    have e0 : T1 0 0 = nI (len S) := by rw [h1 0 (by decide), hpr.1]; exact hw.1
    have hl24 := hw.2.1
    have hpc : nt (arch T1).2.2.1 = p0 := by show nt (T1 7 0) = p0; rw [e7, nt_nI (by omega)]
    have hpr1 : prg S T1 := prg_c h1 hpr
    refine lv_aload_n E.1 E.2.1 dX1_run_41 rfl (lv_at hl 0 rfl) ?_
    refine gM_7 E hW e7 dX1_run_42 ?_
    refine lv_aload_n E.1 E.2.1 dX1_run_45 rfl (lv_at hl 0 rfl) ?_
    refine gM_0 E hW e0 dX1_run_46 ?_
    refine lv_icmp_lt (tgt := 60) E.1 E.2.1 dX1_run_49 (by decide) (fun hlt => ?_) (fun hlt => ?_)
    rotate_left
    · have hlt : ¬ p0 < len S := fun q => hlt (nI_lt q (by omega))
      have ho : oper S (nt (arch T1).2.2.1) = 11 := by rw [hpc]; exact oper_ge hlt
      have hst : stp S (arch T1) = arch (sput T1 8 0 2) := by unfold stp; rw [if_pos ho]; rfl
      have hin : inc S (arch T1) = 0 := by unfold inc; rw [if_pos ho]
      rw [hst, hin] at h3
      refine lv_aload_n E.1 E.2.1 dX1_run_52 rfl (lv_at hl 0 rfl) ?_
      refine lv_iconst (v := 2) E.1 E.2.1 dX1_run_53 (by decide) ?_
      refine pM_8 E hW dX1_run_54 (fun H locs hW => ?_)
      refine lv_goto (tgt := 71) E.1 E.2.1 dX1_run_57 (by decide) ?_
      refine xl_iinc (v := nI (k + 1)) (lv' := [(0, _), (1, _), (2, _), (3, _), (4, _)]) E dX1_run_71 hl (k := 4) rfl (x_inc1 k) (by decide) [1, 2, 3, 4, 0] rfl (fun ls hl => ?_)
      refine lv_goto (tgt := 28) E.1 E.2.1 dX1_run_74 (by decide) ?_
      exact ih (k + 1) d (sput T1 8 0 2) _ _ _ (by omega) (fun q hq => by rw [sput_k (by omega)]; exact h1 q hq) ⟨p0, hp0, e7⟩ (by rw [h3]; simp only [Nat.zero_add]) (by omega) hW hl
    have hlt : p0 < len S := (nI_ltI (by omega) (by omega)).mp hlt
    have hop := hw.op hlt
    obtain ⟨q1, q2, q3, q4, q5⟩ := hpr1.2 p0 hlt
    have hst : arch (mex T1 p0 (oper S p0)) = stp S (arch T1) := mex_arch hw hpr1 hlt e7
    have hin : inc S (arch T1) = 1 := by unfold inc; rw [hpc, if_neg (by omega)]
    rw [← hst, hin] at h3
    refine lv_aload_n E.1 E.2.1 dX1_run_60 rfl (lv_at hl 0 rfl) ?_
    refine lv_aload_n E.1 E.2.1 dX1_run_61 rfl (lv_at hl 0 rfl) ?_
    refine gM_7 E hW e7 dX1_run_62 ?_
    refine cv_call (w := mW cs a) (ad := mAd a) (ci := 1) E hml hl.1 hW mAd_eq hA (tM_execute l D cs a T1 p0 (oper S p0) (by omega) hop.2 e7 (by rw [q1]; exact hop.1) (fun h => by rw [q2 h]; exact (hw.2.2 p0 hlt).2.1 h) (fun h => by rw [(q3 h).1]; exact (hw.2.2 p0 hlt).2.2.1 h) (fun h => by rw [(q3 (by omega)).2]; exact (hw.2.2 p0 hlt).2.2.2.1 h)) (cwV 1 E.2.2.2.1 (lw_V q311 q313 qs22 q25 q314) rfl rfl rfl (by decide +kernel) hfr) rfl rfl rfl rfl rfl (Nat.le_of_ble_eq_true rfl) dX1_run_65 hcs (fun T2 H locs hT2 hW _ _ => ?_)
    subst hT2
    refine xl_iinc (v := nI (d + 1)) (lv' := [(0, _), (1, _), (2, _), (3, _), (4, _)]) E dX1_run_68 hl (k := 3) rfl (x_inc1 d) (by decide) [1, 2, 3, 0, 4] rfl (fun ls hl => ?_)
    refine xl_iinc (v := nI (k + 1)) (lv' := [(0, _), (1, _), (2, _), (3, _), (4, _)]) E dX1_run_71 hl (k := 4) rfl (x_inc1 k) (by decide) [1, 2, 3, 4, 0] rfl (fun ls hl => ?_)
    refine lv_goto (tgt := 28) E.1 E.2.1 dX1_run_74 (by decide) ?_
    have hpc2 : isN (mex T1 p0 (oper S p0) 7 0) 25 := by
      have h := stp_pc hw (σ := arch T1) (show isN (T1 7 0) 25 from ⟨p0, hp0, e7⟩)
      rw [← hst] at h
      exact h
    exact ih (k + 1) (d + 1) _ _ _ _ (by omega) (fun q hq => by rw [mex_prog T1 p0 _ q hq]; exact h1 q hq) hpc2 (by rw [h3]; simp only [Nat.add_assoc]) (by omega) hW hl
end L_lpM_run
set_option maxHeartbeats 4000000 in
set_option maxRecDepth 100000 in
/-- run -/
theorem tM_run (l : Launch) (D : va_G) (cs : ClassId × ClassId × ClassId) (a : Nat → Nat) (T : St) (S : St) (n0 : Int32) (hw : wfP S) (hpr : prg S T) (h7 : isN (T 7 0) 25) : CI l yX1_run cX1_run 5 .int (rm_ 1 24) D cs (mW cs a) (mAd a) [.ref (a 0), .int n0] T (fun v T1 => v = nI (itr S (wnt n0) (arch T)).2 ∧ arch T1 = (itr S (wnt n0) (arch T)).1 ∧ (∀ q, q ≤ 4 → T1 q = T q) ∧ isN (T1 7 0) 25) := by
  intro sz
  refine cv_start (w := mW cs a) (ad := mAd a) (C := RX1) (by decide) rfl mAd_eq (Nat.le_of_ble_eq_true rfl) ?_
  intro p e s m below meth c ls E hml hr hlocks hsz hW hl
  have hA : ∀ q, s.heap.size ≤ q → wA (mAd a) sz q := fun q h => Or.inr (hsz ▸ h)
  have hl : lv_has ls 5 [(0, .ref (a 0)), (1, .int n0)] := hl
  refine x_join (pj := 22) (lj := ls) (rj := []) (fun v => v = nI (wnt n0)) (fun join => ?_) (fun v hj => ?_)
  · refine lv_iload_n E.1 E.2.1 dX1_run_0 rfl (lv_at hl 1 rfl) ?_
    refine lv_if_ge (tgt := 8) E.1 E.2.1 dX1_run_1 (by decide) (fun h1 => ?_) (fun h1 => ?_)
    · have h1 : ¬ n0 < 0 := Int32.not_lt.mpr h1
      refine lv_iload_n E.1 E.2.1 dX1_run_8 rfl (lv_at hl 1 rfl) ?_
      refine lv_sipush (v := 150) E.1 E.2.1 dX1_run_9 (by decide) ?_
      refine lv_icmp_le (tgt := 21) E.1 E.2.1 dX1_run_12 (by decide) (fun h2 => ?_) (fun h2 => ?_)
      · refine lv_iload_n E.1 E.2.1 dX1_run_21 rfl (lv_at hl 1 rfl) ?_
        exact join _ (by unfold wnt; rw [if_neg h1, if_neg (Int32.not_lt.mpr h2)]; exact ((isN_mk (x := n0) (M := 150) (b := 151) (by decide) h1 h2).nt (by decide)).1)
      · refine lv_sipush (v := 150) E.1 E.2.1 dX1_run_15 (by decide) ?_
        refine lv_goto (tgt := 22) E.1 E.2.1 dX1_run_18 (by decide) ?_
        exact join _ (by unfold wnt; rw [if_neg h1, if_pos (lt_of_nle h2)]; rfl)
    · refine lv_iconst (v := 0) E.1 E.2.1 dX1_run_4 (by decide) ?_
      refine lv_goto (tgt := 22) E.1 E.2.1 dX1_run_5 (by decide) ?_
      exact join _ (by unfold wnt; rw [if_pos (lt_of_nle h1)]; rfl)
  subst hj
  refine xl_istore_n (lv' := [(0, _), (1, _), (2, _)]) E dX1_run_22 rfl hl (by decide) [1, 2, 0] rfl (fun ls hl => ?_)
  refine lv_iconst (v := nI 0) E.1 E.2.1 dX1_run_23 (by decide) ?_
  refine xl_istore_n (lv' := [(0, _), (1, _), (2, _), (3, _)]) E dX1_run_24 rfl hl (by decide) [1, 2, 3, 0] rfl (fun ls hl => ?_)
  refine lv_iconst (v := nI 0) E.1 E.2.1 dX1_run_25 (by decide) ?_
  refine xl_istore (lv' := [(0, _), (1, _), (2, _), (3, _), (4, _)]) E dX1_run_26 hl (by decide) [1, 2, 3, 4, 0] rfl (fun ls hl => ?_)
  refine lpM_run (S := S) (T := T) (n0 := n0) (w0 := wnt n0) E hml hA ⟨Nat.le_of_ble_eq_true rfl, Nat.le_of_ble_eq_true rfl⟩ ⟨Nat.zero_le _, Nat.zero_le _⟩ hw hpr (wnt_le n0) (fun T1 d H locs ls h1 h2 h3 hW hl => ?_) (wnt n0) 0 0 T _ _ _ (Nat.zero_add _) (fun _ _ => rfl) h7 (by simp only [Nat.sub_zero, Nat.zero_add]) (Nat.le_refl 0) hW hl
  refine lv_iload_n E.1 E.2.1 dX1_run_77 rfl (lv_at hl 3 rfl) ?_
  exact ci_ret E hr hlocks hW (⟨by rw [h3], by rw [h3], h1, h2⟩) dX1_run_78
end
section
/-! the reorder buffer against the architecture (no program in sight) -/
def hd (S : St) : Nat := nt (S 14 0)
def en (S : St) : Nat := nt (S 15 0)
def sl (S : St) (k : Nat) : Nat := (hd S + k) % 8
def pl (S : St) (k : Nat) : Nat := nt (S 16 (sl S k))
/-- registers and cells behind the first k entries -/
def vv (S : St) : Nat → RM
  | 0 => (S 5, S 6)
  | k + 1 => eff S (pl S k) (vv S k)
/-- the place that entry k must have: where entry k - 1 goes on, for the first one the place of the architecture -/
def want (S : St) : Nat → Int32
  | 0 => S 7 0
  | k + 1 => S 18 (sl S k)
def lrg (S : St) (p : Nat) : Nat := if oper S p ≤ 6 then fy S p else fx S p
def rrg (S : St) (p : Nat) : Nat := if oper S p = 6 then fx S p else fz S p
def hasR (S : St) (p : Nat) : Prop := oper S p ≤ 3 ∨ oper S p = 6
/-- an operand: there with its value, or owed by an older entry that isn't done -/
def src (S : St) (k : Nat) (q v r : Int32) : Prop := (q = -1 ∧ v = r) ∨ (∃ j, j < k ∧ q = nI (sl S j) ∧ S 25 (sl S j) = 0 ∧ r = val S (pl S j) (vv S j))
def ent (S : St) (k : Nat) : Prop := isN (S 16 (sl S k)) 25 ∧ S 16 (sl S k) = want S k ∧ S 17 (sl S k) = nI (oper S (pl S k)) ∧ isN (S 18 (sl S k)) 25 ∧ (oper S (pl S k) = 10 → S 18 (sl S k) = S 16 (sl S k)) ∧ (S 25 (sl S k) = 0 ∨ S 25 (sl S k) = 1) ∧ (9 ≤ oper S (pl S k) → S 25 (sl S k) = 1)
def vok (S : St) (k : Nat) : Prop := (S 25 (sl S k) = 1 → oper S (pl S k) ≤ 8 → S 26 (sl S k) = val S (pl S k) (vv S k)) ∧ (oper S (pl S k) = 6 → (S 25 (sl S k) = 1 ∨ S 23 (sl S k) ≠ 0) → S 24 (sl S k) = nI (adr S (pl S k) (vv S k))) ∧ (S 25 (sl S k) = 0 → src S k (S 19 (sl S k)) (S 20 (sl S k)) ((vv S k).1 (lrg S (pl S k)))) ∧ (S 25 (sl S k) = 0 → hasR S (pl S k) → src S k (S 21 (sl S k)) (S 22 (sl S k)) ((vv S k).1 (rrg S (pl S k)))) ∧ (S 25 (sl S k) = 0 → ¬ hasR S (pl S k) → S 21 (sl S k) = -1)
def nwk (S : St) (r : Nat) : Prop := (S 27 r = -1 ∧ ∀ k, k ≤ en S → (vv S k).1 r = S 5 r) ∨ (∃ j, j < en S ∧ S 27 r = nI (sl S j) ∧ oper S (pl S j) ≤ 5 ∧ fx S (pl S j) = r ∧ ∀ k, j < k → k ≤ en S → (vv S k).1 r = val S (pl S j) (vv S j))
def inv (S : St) (fp : Nat) : Prop := isN (S 14 0) 8 ∧ isN (S 15 0) 9 ∧ fp < 25 ∧ want S (en S) = nI fp ∧ (∀ k, k < en S → ent S k) ∧ (∀ k, k < en S → vok S k) ∧ (∀ r, r < 8 → nwk S r)
theorem sl_lt (S : St) (k : Nat) : sl S k < 8 := Nat.mod_lt _ (by decide)
theorem sl_inj {S : St} {i j : Nat} (hi : i < 8) (hj : j < 8) (h : sl S i = sl S j) : i = j := by unfold sl at h; omega
theorem inv.h {S : St} {fp : Nat} (h : inv S fp) : S 14 0 = nI (hd S) ∧ hd S < 8 := h.1.nt (by decide)
theorem inv.n {S : St} {fp : Nat} (h : inv S fp) : S 15 0 = nI (en S) ∧ en S ≤ 8 := by
  have := h.2.1.nt (by decide)
  exact ⟨this.1, by have := this.2; unfold en; omega⟩
theorem ent.p {S : St} {k : Nat} (h : ent S k) : S 16 (sl S k) = nI (pl S k) ∧ pl S k < 25 := h.1.nt (by decide)
theorem sl_nI {S : St} {i j : Nat} (hi : i < 8) (hj : j < 8) (h : nI (sl S i) = nI (sl S j)) : i = j := sl_inj hi hj (nI_inj (by have := sl_lt S i; omega) (by have := sl_lt S j; omega) h)
theorem sl_m1 {S : St} {k : Nat} : nI (sl S k) ≠ -1 := nI_ne_m1 (by have := sl_lt S k; omega)
theorem vv_c {S S1 : St} (hp : ∀ q, q ≤ 4 → S1 q = S q) (h5 : S1 5 = S 5) (h6 : S1 6 = S 6) : ∀ k, (∀ j, j < k → pl S1 j = pl S j) → vv S1 k = vv S k := by
  intro k
  induction k with
  | zero => intro _; show (S1 5, S1 6) = (S 5, S 6); rw [h5, h6]
  | succ k ih =>
    intro h
    show eff S1 (pl S1 k) (vv S1 k) = eff S (pl S k) (vv S k)
    rw [eff_c hp, h k (by omega), ih (fun j hj => h j (by omega))]
theorem lrg_c {S S1 : St} (hp : ∀ q, q ≤ 4 → S1 q = S q) (i : Nat) : lrg S1 i = lrg S i := by unfold lrg; rw [oper_c hp, fx_c hp, fy_c hp]
theorem rrg_c {S S1 : St} (hp : ∀ q, q ≤ 4 → S1 q = S q) (i : Nat) : rrg S1 i = rrg S i := by unfold rrg; rw [oper_c hp, fx_c hp, fz_c hp]
theorem hasR_c {S S1 : St} (hp : ∀ q, q ≤ 4 → S1 q = S q) (i : Nat) : hasR S1 i ↔ hasR S i := by unfold hasR; rw [oper_c hp]
theorem eff_r {S : St} {i r : Nat} {V : RM} (h : ¬ (oper S i ≤ 5 ∧ fx S i = r)) : (eff S i V).1 r = V.1 r := by
  unfold eff
  split
  · rename_i h5
    show upd V.1 (fx S i) (val S i V) r = V.1 r
    exact pk_un (fun e => h ⟨h5, e.symm⟩)
  · split <;> rfl
theorem eff_x {S : St} {i : Nat} {V : RM} (h : oper S i ≤ 5) : (eff S i V).1 (fx S i) = val S i V := by
  unfold eff
  rw [if_pos h]
  exact pk_us
/-- the empty buffer -/
theorem inv_empty {S : St} {fp : Nat} (h14 : isN (S 14 0) 8) (h15 : S 15 0 = 0) (hf : fp < 25) (h7 : S 7 0 = nI fp) (h27 : ∀ r, r < 8 → S 27 r = -1) : inv S fp := by
  have he : en S = 0 := by unfold en; rw [h15]; exact nt_nI (n := 0) (by decide)
  refine ⟨h14, ⟨0, by decide, h15⟩, hf, ?_, fun k hk => ?_, fun k hk => ?_, fun r hr => Or.inl ⟨h27 r hr, fun k hk => ?_⟩⟩
  · rw [he]; exact h7
  · rw [he] at hk; omega
  · rw [he] at hk; omega
  · rw [he] at hk
    obtain rfl : k = 0 := by omega
    rfl
/-- what enter and its two helpers do: operand of register r -/
def bnd (S : St) (r : Nat) (q v : Int32) : Prop := (S 27 r = -1 ∧ q = -1 ∧ v = S 5 r) ∨ (∃ f, f < 8 ∧ S 27 r = nI f ∧ S 25 f = 0 ∧ q = nI f) ∨ (∃ f, f < 8 ∧ S 27 r = nI f ∧ S 25 f ≠ 0 ∧ q = -1 ∧ v = S 26 f)
theorem bnd_src {S : St} {fp r : Nat} {q v : Int32} (h : inv S fp) (hr : r < 8) (b : bnd S r q v) : src S (en S) q v ((vv S (en S)).1 r) := by
  have hn := h.n
  rcases h.2.2.2.2.2.2 r hr with ⟨h27, hk⟩ | ⟨j, hj, h27, ho, hx, hk⟩
  · rcases b with ⟨-, b2, b3⟩ | ⟨f, hf, b1, -⟩ | ⟨f, hf, b1, -⟩
    · exact Or.inl ⟨b2, by rw [b3, hk _ (Nat.le_refl _)]⟩
    · exact absurd (b1.symm.trans h27) (nI_ne_m1 (by omega))
    · exact absurd (b1.symm.trans h27) (nI_ne_m1 (by omega))
  · have hv := hk (en S) hj (Nat.le_refl _)
    rcases b with ⟨b1, -⟩ | ⟨f, hf, b1, b2, b3⟩ | ⟨f, hf, b1, b2, b3, b4⟩
    · exact absurd (h27.symm.trans b1) sl_m1
    · obtain rfl : sl S j = f := nI_inj (by have := sl_lt S j; omega) (by omega) (h27.symm.trans b1)
      exact Or.inr ⟨j, hj, b3, b2, hv⟩
    · obtain rfl : sl S j = f := nI_inj (by have := sl_lt S j; omega) (by omega) (h27.symm.trans b1)
      have hd1 : S 25 (sl S j) = 1 := by
        rcases (h.2.2.2.2.1 j hj).2.2.2.2.2.1 with e | e
        · exact absurd e b2
        · exact e
      exact Or.inl ⟨b3, by rw [b4, (h.2.2.2.2.2.1 j hj).1 hd1 (by omega), hv]⟩
/-- enter(at, af), as a relation -/
def entd (S S1 : St) (p af : Nat) : Prop := (∀ k, k ≠ 15 → k ≠ 16 → k ≠ 17 → k ≠ 18 → k ≠ 19 → k ≠ 20 → k ≠ 21 → k ≠ 22 → k ≠ 23 → k ≠ 25 → k ≠ 27 → S1 k = S k)
  ∧ (∀ k j, j ≠ sl S (en S) → k ≠ 15 → k ≠ 27 → S1 k j = S k j) ∧ S1 15 0 = nI (en S + 1)
  ∧ S1 16 (sl S (en S)) = nI p ∧ S1 17 (sl S (en S)) = nI (oper S p) ∧ S1 18 (sl S (en S)) = nI af ∧ S1 25 (sl S (en S)) = (if 9 ≤ oper S p then 1 else 0) ∧ S1 23 (sl S (en S)) = 0
  ∧ (oper S p ≤ 8 → bnd S (lrg S p) (S1 19 (sl S (en S))) (S1 20 (sl S (en S)))) ∧ (hasR S p → bnd S (rrg S p) (S1 21 (sl S (en S))) (S1 22 (sl S (en S)))) ∧ (¬ hasR S p → S1 21 (sl S (en S)) = -1)
  ∧ S1 27 = (if oper S p ≤ 5 then upd (S 27) (fx S p) (nI (sl S (en S))) else S 27)
theorem src_keep {S S1 : St} {k : Nat} {q v r r1 : Int32} (hr : r1 = r) (hs : ∀ j, j < k → sl S1 j = sl S j ∧ pl S1 j = pl S j ∧ vv S1 j = vv S j ∧ S1 25 (sl S j) = S 25 (sl S j)) (hp : ∀ q, q ≤ 4 → S1 q = S q) (h : src S k q v r) : src S1 k q v r1 := by
  subst hr
  rcases h with h | ⟨j, h1, h2, h3, h4⟩
  · exact Or.inl h
  · obtain ⟨e1, e2, e3, e4⟩ := hs j h1
    exact Or.inr ⟨j, h1, by rw [e1]; exact h2, by rw [e1, e4]; exact h3, by rw [e2, e3, val_c hp]; exact h4⟩
theorem lrg_lt {S : St} (hw : wfP S) {p : Nat} (h : oper S p ≤ 8) : lrg S p < 8 := by
  unfold lrg
  split
  · rename_i h6; exact (hw.y h6).2
  · exact (hw.x h).2
theorem rrg_lt {S : St} (hw : wfP S) {p : Nat} (h : hasR S p) : rrg S p < 8 := by
  unfold rrg
  split
  · rename_i h6; exact (hw.x (by omega)).2
  · rename_i h6
    rcases h with h | h
    · exact (hw.z h).2
    · exact absurd h h6
theorem enter_inv {S S1 : St} {p af : Nat} (hw : wfP S) (h : inv S p) (hn8 : en S < 8) (haf : af < 25) (h10 : oper S p = 10 → af = p) (H : entd S S1 p af) : inv S1 af ∧ en S1 = en S + 1 := by
  obtain ⟨a1, a2, a3, a4, a5, a6, a7, a8, a9, a10, a11, a12⟩ := H
  have hp : ∀ q, q ≤ 4 → S1 q = S q := fun q hq => a1 q (by omega) (by omega) (by omega) (by omega) (by omega) (by omega) (by omega) (by omega) (by omega) (by omega) (by omega)
  have e5 : S1 5 = S 5 := a1 5 (by decide) (by decide) (by decide) (by decide) (by decide) (by decide) (by decide) (by decide) (by decide) (by decide) (by decide)
  have e6 : S1 6 = S 6 := a1 6 (by decide) (by decide) (by decide) (by decide) (by decide) (by decide) (by decide) (by decide) (by decide) (by decide) (by decide)
  have e7 : S1 7 = S 7 := a1 7 (by decide) (by decide) (by decide) (by decide) (by decide) (by decide) (by decide) (by decide) (by decide) (by decide) (by decide)
  have e14 : S1 14 = S 14 := a1 14 (by decide) (by decide) (by decide) (by decide) (by decide) (by decide) (by decide) (by decide) (by decide) (by decide) (by decide)
  have e24 : S1 24 = S 24 := a1 24 (by decide) (by decide) (by decide) (by decide) (by decide) (by decide) (by decide) (by decide) (by decide) (by decide) (by decide)
  have e26 : S1 26 = S 26 := a1 26 (by decide) (by decide) (by decide) (by decide) (by decide) (by decide) (by decide) (by decide) (by decide) (by decide) (by decide)
  have hsl : ∀ k, sl S1 k = sl S k := fun k => by unfold sl hd; rw [e14]
  have hen : en S1 = en S + 1 := by show nt (S1 15 0) = _; rw [a3, nt_nI (by omega)]
  have hne : ∀ k, k < en S → sl S k ≠ sl S (en S) := fun k hk e => by have := sl_inj (by omega) hn8 e; omega
  have hpl : ∀ k, k < en S → pl S1 k = pl S k := fun k hk => by unfold pl; rw [hsl, a2 16 _ (hne k hk) (by decide) (by decide)]
  have hpn : pl S1 (en S) = p := by unfold pl; rw [hsl, a4, nt_nI (by have := h.2.2.1; omega)]
  have hvv : ∀ k, k ≤ en S → vv S1 k = vv S k := fun k hk => vv_c hp e5 e6 k (fun j hj => hpl j (by omega))
  have hwant : ∀ k, k ≤ en S → want S1 k = want S k := fun k hk => by
    cases k with
    | zero => show S1 7 0 = S 7 0; rw [e7]
    | succ k => show S1 18 (sl S1 k) = S 18 (sl S k); rw [hsl, a2 18 _ (hne k (by omega)) (by decide) (by decide)]
  have hkeep : ∀ k, k ≤ en S → ∀ j, j < k → sl S1 j = sl S j ∧ pl S1 j = pl S j ∧ vv S1 j = vv S j ∧ S1 25 (sl S j) = S 25 (sl S j) := fun k hk j hj => ⟨hsl j, hpl j (by omega), hvv j (by omega), a2 25 _ (hne j (by omega)) (by decide) (by decide)⟩
  refine ⟨⟨by rw [e14]; exact h.1, ⟨en S + 1, by omega, a3⟩, haf, ?_, ?_, ?_, ?_⟩, hen⟩
  · rw [hen]; show S1 18 (sl S1 (en S)) = nI af; rw [hsl]; exact a6
  · intro k hk
    rw [hen] at hk
    by_cases hkn : k = en S
    · subst hkn
      unfold ent
      rw [hsl, hpn, hwant _ (Nat.le_refl _), a4, a5, a6, a7, oper_c hp]
      refine ⟨⟨p, h.2.2.1, rfl⟩, h.2.2.2.1.symm, rfl, ⟨af, haf, rfl⟩, fun q => by rw [h10 q], ?_, fun q => by rw [if_pos q]⟩
      split
      · exact Or.inr rfl
      · exact Or.inl rfl
    · have hk : k < en S := by omega
      have hk2 := hne k hk
      unfold ent
      rw [hsl, hpl k hk, hwant _ (by omega), oper_c hp, a2 16 _ hk2 (by decide) (by decide), a2 17 _ hk2 (by decide) (by decide), a2 18 _ hk2 (by decide) (by decide), a2 25 _ hk2 (by decide) (by decide)]
      exact h.2.2.2.2.1 k hk
  · intro k hk
    rw [hen] at hk
    by_cases hkn : k = en S
    · subst hkn
      unfold vok
      rw [hsl, hpn, hvv _ (Nat.le_refl _), a7, a8, oper_c hp, val_c hp, adr_c hp, lrg_c hp, rrg_c hp, hasR_c hp]
      by_cases h9 : 9 ≤ oper S p
      · rw [if_pos h9]
        exact ⟨fun _ q => absurd q (by omega), fun q => absurd q (by omega), fun q => absurd q (by decide), fun q => absurd q (by decide), fun q => absurd q (by decide)⟩
      · rw [if_neg h9]
        refine ⟨fun q => absurd q (by decide), fun _ q => ?_, fun _ => ?_, fun _ q => ?_, fun _ q => a11 q⟩
        · rcases q with q | q
          · exact absurd q (by decide)
          · exact absurd rfl q
        · exact src_keep rfl (hkeep _ (Nat.le_refl _)) hp (bnd_src h (lrg_lt hw (by omega)) (a9 (by omega)))
        · exact src_keep rfl (hkeep _ (Nat.le_refl _)) hp (bnd_src h (rrg_lt hw q) (a10 q))
    · have hk : k < en S := by omega
      have hk2 := hne k hk
      have old := h.2.2.2.2.2.1 k hk
      unfold vok
      rw [hsl, hpl k hk, hvv k (by omega), oper_c hp, val_c hp, adr_c hp, lrg_c hp, rrg_c hp, hasR_c hp, e24, e26, a2 25 _ hk2 (by decide) (by decide), a2 23 _ hk2 (by decide) (by decide), a2 19 _ hk2 (by decide) (by decide), a2 20 _ hk2 (by decide) (by decide), a2 21 _ hk2 (by decide) (by decide), a2 22 _ hk2 (by decide) (by decide)]
      exact ⟨old.1, old.2.1, fun q => src_keep rfl (hkeep k (by omega)) hp (old.2.2.1 q), fun q q2 => src_keep rfl (hkeep k (by omega)) hp (old.2.2.2.1 q q2), old.2.2.2.2⟩
  · intro r hr
    have hlast : (vv S1 (en S + 1)) = eff S p (vv S (en S)) := by
      show eff S1 (pl S1 (en S)) (vv S1 (en S)) = _
      rw [hpn, hvv _ (Nat.le_refl _), eff_c hp]
    by_cases hwr : oper S p ≤ 5 ∧ fx S p = r
    · refine Or.inr ⟨en S, by omega, ?_, ?_, ?_, ?_⟩
      · rw [a12, if_pos hwr.1, hsl, hwr.2]; exact pk_us
      · rw [hpn, oper_c hp]; exact hwr.1
      · rw [hpn, fx_c hp]; exact hwr.2
      · intro k h1 h2
        obtain rfl : k = en S + 1 := by omega
        rw [hlast, hpn, val_c hp, hvv _ (Nat.le_refl _), ← hwr.2]
        exact eff_x hwr.1
    · have h27 : S1 27 r = S 27 r := by
        rw [a12]
        split
        · rename_i h5
          exact pk_un (fun e => hwr ⟨h5, e.symm⟩)
        · rfl
      have hl2 : (vv S1 (en S + 1)).1 r = (vv S (en S)).1 r := by rw [hlast]; exact eff_r hwr
      rcases h.2.2.2.2.2.2 r hr with ⟨b1, b2⟩ | ⟨j, b1, b2, b3, b4, b5⟩
      · refine Or.inl ⟨by rw [h27]; exact b1, fun k hk => ?_⟩
        rw [e5]
        by_cases hkn : k = en S + 1
        · subst hkn; rw [hl2]; exact b2 _ (Nat.le_refl _)
        · rw [hvv k (by omega)]; exact b2 k (by omega)
      · refine Or.inr ⟨j, by omega, by rw [h27, hsl]; exact b2, by rw [hpl j b1, oper_c hp]; exact b3, by rw [hpl j b1, fx_c hp]; exact b4, fun k h1 h2 => ?_⟩
        rw [hpl j b1, hvv j (by omega), val_c hp]
        by_cases hkn : k = en S + 1
        · subst hkn; rw [hl2]; exact b5 _ (by omega) (Nat.le_refl _)
        · rw [hvv k (by omega)]; exact b5 k h1 (by omega)
end
section
/-! executing and retiring keep the invariant -/
/-- announce(e), as a relation: n entries are looked at -/
def annk (S S1 : St) (w e : Nat) : Prop := (S 19 w = nI e → S1 19 w = -1 ∧ S1 20 w = S 26 e) ∧ (S 19 w ≠ nI e → S1 19 w = S 19 w ∧ S1 20 w = S 20 w) ∧ (S 21 w = nI e → S1 21 w = -1 ∧ S1 22 w = S 26 e) ∧ (S 21 w ≠ nI e → S1 21 w = S 21 w ∧ S1 22 w = S 22 w)
def ann (S S1 : St) (e : Nat) : Prop := (∀ k, k ≠ 19 → k ≠ 20 → k ≠ 21 → k ≠ 22 → S1 k = S k) ∧ ∀ k, k < en S → annk S S1 (sl S k) e
/-- the entry's address, when its operands are there -/
theorem addr_inv {S : St} {fp k : Nat} (h : inv S fp) (hk : k < en S) (hd0 : S 25 (sl S k) = 0) (h19 : S 19 (sl S k) = -1) (ho : oper S (pl S k) ≤ 6) :
    (S 20 (sl S k) + S 4 (pl S k)) &&& 15 = nI (adr S (pl S k) (vv S k)) ∧ inv (sput (sput S 24 (sl S k) (nI (adr S (pl S k) (vv S k)))) 23 (sl S k) 1) fp := by
  have hl : S 20 (sl S k) = (vv S k).1 (fy S (pl S k)) := by
    rcases (h.2.2.2.2.2.1 k hk).2.2.1 hd0 with ⟨_, e⟩ | ⟨j, _, e, _⟩
    · rw [e]; unfold lrg; rw [if_pos ho]
    · exact absurd (e.symm.trans h19) sl_m1
  have hn := h.n
  refine ⟨by rw [hl]; exact (and15 _).1, ?_⟩
  generalize hS1 : sput (sput S 24 (sl S k) (nI (adr S (pl S k) (vv S k)))) 23 (sl S k) 1 = S1
  have a1 : ∀ q, q ≠ 23 → q ≠ 24 → S1 q = S q := fun q h1 h2 => by rw [← hS1, sput_k h1, sput_k h2]
  have a2 : ∀ q j, j ≠ sl S k → S1 q j = S q j := fun q j hj => by
    rw [← hS1]
    by_cases h23 : q = 23
    · subst h23; rw [sput_j hj, sput_k (by decide)]
    · rw [sput_k h23]
      by_cases h24 : q = 24
      · subst h24; rw [sput_j hj]
      · rw [sput_k h24]
  have a3 : S1 24 (sl S k) = nI (adr S (pl S k) (vv S k)) := by rw [← hS1, sput_k (by decide)]; exact sput_s
  have hp : ∀ q, q ≤ 4 → S1 q = S q := fun q hq => a1 q (by omega) (by omega)
  have hsl : ∀ j, sl S1 j = sl S j := fun j => by unfold sl hd; rw [a1 14 (by decide) (by decide)]
  have hen : en S1 = en S := by unfold en; rw [a1 15 (by decide) (by decide)]
  have hpl : ∀ j, pl S1 j = pl S j := fun j => by unfold pl; rw [hsl, a1 16 (by decide) (by decide)]
  have hvv : ∀ j, vv S1 j = vv S j := fun j => vv_c hp (a1 5 (by decide) (by decide)) (a1 6 (by decide) (by decide)) j (fun i _ => hpl i)
  have hwant : ∀ j, want S1 j = want S j := fun j => by
    cases j with
    | zero => show S1 7 0 = S 7 0; rw [a1 7 (by decide) (by decide)]
    | succ j => show S1 18 (sl S1 j) = S 18 (sl S j); rw [hsl, a1 18 (by decide) (by decide)]
  have hkeep : ∀ i j, j < i → sl S1 j = sl S j ∧ pl S1 j = pl S j ∧ vv S1 j = vv S j ∧ S1 25 (sl S j) = S 25 (sl S j) := fun i j _ => ⟨hsl j, hpl j, hvv j, by rw [a1 25 (by decide) (by decide)]⟩
  refine ⟨by rw [a1 14 (by decide) (by decide)]; exact h.1, by rw [a1 15 (by decide) (by decide)]; exact h.2.1, h.2.2.1, by rw [hen, hwant]; exact h.2.2.2.1, fun j hj => ?_, fun j hj => ?_, fun r hr => ?_⟩
  · rw [hen] at hj
    unfold ent
    rw [hsl, hpl, hwant, oper_c hp, a1 16 (by decide) (by decide), a1 17 (by decide) (by decide), a1 18 (by decide) (by decide), a1 25 (by decide) (by decide)]
    exact h.2.2.2.2.1 j hj
  · rw [hen] at hj
    have old := h.2.2.2.2.2.1 j hj
    unfold vok
    rw [hsl, hpl, hvv, oper_c hp, val_c hp, adr_c hp, lrg_c hp, rrg_c hp, hasR_c hp, a1 25 (by decide) (by decide), a1 26 (by decide) (by decide), a1 19 (by decide) (by decide), a1 20 (by decide) (by decide), a1 21 (by decide) (by decide), a1 22 (by decide) (by decide)]
    refine ⟨old.1, ?_, fun q => src_keep rfl (hkeep j) hp (old.2.2.1 q), fun q q2 => src_keep rfl (hkeep j) hp (old.2.2.2.1 q q2), old.2.2.2.2⟩
    by_cases hjk : j = k
    · subst hjk
      exact fun _ _ => a3
    · have hne : sl S j ≠ sl S k := fun e => hjk (sl_inj (by omega) (by omega) e)
      rw [a2 23 _ hne, a2 24 _ hne]
      exact old.2.1
  · have e27 : S1 27 = S 27 := a1 27 (by decide) (by decide)
    have e5 : S1 5 = S 5 := a1 5 (by decide) (by decide)
    rcases h.2.2.2.2.2.2 r hr with ⟨b1, b2⟩ | ⟨j, b1, b2, b3, b4, b5⟩
    · exact Or.inl ⟨by rw [e27]; exact b1, fun i hi => by rw [hvv, e5]; exact b2 i (by omega)⟩
    · exact Or.inr ⟨j, by omega, by rw [e27, hsl]; exact b2, by rw [hpl, oper_c hp]; exact b3, by rw [hpl, fx_c hp]; exact b4, fun i h1 h2 => by rw [hvv, hpl, hvv, val_c hp]; exact b5 i h1 (by omega)⟩
theorem src_ann {S S1 : St} {k i e : Nat} {q v r q1 v1 r1 : Int32} (hi : i < 8) (hk : k < 8) (hr : r1 = r) (hs : ∀ j, sl S1 j = sl S j ∧ pl S1 j = pl S j ∧ vv S1 j = vv S j) (hd : ∀ j, j < i → j ≠ k → S1 25 (sl S j) = S 25 (sl S j)) (hp : ∀ q, q ≤ 4 → S1 q = S q) (he : e = sl S k)
    (hval : v1 = val S (pl S k) (vv S k) ∨ q ≠ nI e) (h1 : q = nI e → q1 = -1) (h2 : q ≠ nI e → q1 = q ∧ v1 = v) (h : src S i q v r) : src S1 i q1 v1 r1 := by
  subst hr
  rcases h with ⟨ha, hb⟩ | ⟨j, ha, hb, hc, hd2⟩
  · have hne : q ≠ nI e := by rw [ha, he]; exact fun w => sl_m1 w.symm
    obtain ⟨c1, c2⟩ := h2 hne
    exact Or.inl ⟨c1.trans ha, c2.trans hb⟩
  · by_cases hjk : j = k
    · subst hjk
      have hq : q = nI e := by rw [hb, he]
      rcases hval with hval | hval
      · exact Or.inl ⟨h1 hq, by rw [hval, hd2]⟩
      · exact absurd hq hval
    · have hne : q ≠ nI e := by rw [hb, he]; exact fun w => hjk (sl_nI (by omega) hk w)
      obtain ⟨c1, c2⟩ := h2 hne
      obtain ⟨e1, e2, e3⟩ := hs j
      exact Or.inr ⟨j, ha, by rw [c1, hb, e1], by rw [e1, hd j ha hjk]; exact hc, by rw [e2, e3, val_c hp]; exact hd2⟩
/-- an entry's result is there: it is done, and those that wait for it have it -/
theorem done_inv {S S1 : St} {fp k : Nat} {x : Int32} (h : inv S fp) (hk : k < en S) (hx : x = val S (pl S k) (vv S k)) (ha : oper S (pl S k) = 6 → S 23 (sl S k) ≠ 0)
    (H : ann (sput (sput S 26 (sl S k) x) 25 (sl S k) 1) S1 (sl S k)) : inv S1 fp ∧ (∀ q, q ≠ 19 → q ≠ 20 → q ≠ 21 → q ≠ 22 → q ≠ 25 → q ≠ 26 → S1 q = S q) ∧ S1 25 = upd (S 25) (sl S k) 1 := by
  have hn := h.n
  obtain ⟨H1, H2⟩ := H
  have a1 : ∀ q, q ≠ 19 → q ≠ 20 → q ≠ 21 → q ≠ 22 → q ≠ 25 → q ≠ 26 → S1 q = S q := fun q h1 h2 h3 h4 h5 h6 => by rw [H1 q h1 h2 h3 h4, sput_k h5, sput_k h6]
  have e25 : S1 25 = upd (S 25) (sl S k) 1 := by rw [H1 25 (by decide) (by decide) (by decide) (by decide)]; rfl
  have e26 : S1 26 = upd (S 26) (sl S k) x := by rw [H1 26 (by decide) (by decide) (by decide) (by decide)]; rfl
  refine ⟨?_, a1, e25⟩
  have hk8 : k < 8 := by omega
  have hp : ∀ q, q ≤ 4 → S1 q = S q := fun q hq => a1 q (by omega) (by omega) (by omega) (by omega) (by omega) (by omega)
  have e14 : S1 14 = S 14 := a1 14 (by decide) (by decide) (by decide) (by decide) (by decide) (by decide)
  have e15 : S1 15 = S 15 := a1 15 (by decide) (by decide) (by decide) (by decide) (by decide) (by decide)
  have e16 : S1 16 = S 16 := a1 16 (by decide) (by decide) (by decide) (by decide) (by decide) (by decide)
  have e17 : S1 17 = S 17 := a1 17 (by decide) (by decide) (by decide) (by decide) (by decide) (by decide)
  have e18 : S1 18 = S 18 := a1 18 (by decide) (by decide) (by decide) (by decide) (by decide) (by decide)
  have e5 : S1 5 = S 5 := a1 5 (by decide) (by decide) (by decide) (by decide) (by decide) (by decide)
  have e6 : S1 6 = S 6 := a1 6 (by decide) (by decide) (by decide) (by decide) (by decide) (by decide)
  have e7 : S1 7 = S 7 := a1 7 (by decide) (by decide) (by decide) (by decide) (by decide) (by decide)
  have e23 : S1 23 = S 23 := a1 23 (by decide) (by decide) (by decide) (by decide) (by decide) (by decide)
  have e24 : S1 24 = S 24 := a1 24 (by decide) (by decide) (by decide) (by decide) (by decide) (by decide)
  have e27 : S1 27 = S 27 := a1 27 (by decide) (by decide) (by decide) (by decide) (by decide) (by decide)
  have hsl : ∀ j, sl S1 j = sl S j := fun j => by unfold sl hd; rw [e14]
  have hen : en S1 = en S := by unfold en; rw [e15]
  have hpl : ∀ j, pl S1 j = pl S j := fun j => by unfold pl; rw [hsl, e16]
  have hvv : ∀ j, vv S1 j = vv S j := fun j => vv_c hp e5 e6 j (fun i _ => hpl i)
  have hwant : ∀ j, want S1 j = want S j := fun j => by
    cases j with
    | zero => show S1 7 0 = S 7 0; rw [e7]
    | succ j => show S1 18 (sl S1 j) = S 18 (sl S j); rw [hsl, e18]
  have h25k : S1 25 (sl S k) = 1 := by rw [e25]; exact pk_us
  have h25 : ∀ j, j < en S → j ≠ k → S1 25 (sl S j) = S 25 (sl S j) := fun j hj hjk => by rw [e25]; exact pk_un (fun e => hjk (sl_inj (by omega) hk8 e))
  have h26k : S1 26 (sl S k) = x := by rw [e26]; exact pk_us
  refine ⟨by rw [e14]; exact h.1, by rw [e15]; exact h.2.1, h.2.2.1, by rw [hen, hwant]; exact h.2.2.2.1, fun j hj => ?_, fun j hj => ?_, fun r hr => ?_⟩
  · rw [hen] at hj
    have old := h.2.2.2.2.1 j hj
    unfold ent
    rw [hsl, hpl, hwant, oper_c hp, e16, e17, e18]
    refine ⟨old.1, old.2.1, old.2.2.1, old.2.2.2.1, old.2.2.2.2.1, ?_⟩
    by_cases hjk : j = k
    · subst hjk
      rw [h25k]
      exact ⟨Or.inr rfl, fun _ => rfl⟩
    · rw [h25 j hj hjk]
      exact old.2.2.2.2.2
  · rw [hen] at hj
    have old := h.2.2.2.2.2.1 j hj
    unfold vok
    rw [hsl, hpl, hvv, oper_c hp, val_c hp, adr_c hp, lrg_c hp, rrg_c hp, hasR_c hp, e23, e24]
    by_cases hjk : j = k
    · subst hjk
      rw [h25k, h26k]
      exact ⟨fun _ _ => hx, fun q _ => old.2.1 q (Or.inr (ha q)), fun q => absurd q (by decide), fun q => absurd q (by decide), fun q => absurd q (by decide)⟩
    · have hne : sl S j ≠ sl S k := fun e => hjk (sl_inj (by omega) hk8 e)
      rw [h25 j hj hjk, show S1 26 (sl S j) = S 26 (sl S j) by rw [e26]; exact pk_un hne]
      have hA := H2 j hj
      have hs3 : ∀ j, sl S1 j = sl S j ∧ pl S1 j = pl S j ∧ vv S1 j = vv S j := fun j => ⟨hsl j, hpl j, hvv j⟩
      have hd3 : ∀ i, i < j → i ≠ k → S1 25 (sl S i) = S 25 (sl S i) := fun i hi hik => h25 i (by omega) hik
      have A1 : S 19 (sl S j) = nI (sl S k) → S1 19 (sl S j) = -1 ∧ S1 20 (sl S j) = x := fun q => by
        have := hA.1 q
        exact ⟨this.1, this.2.trans (by rw [sput_k (by decide)]; exact sput_s)⟩
      have A2 : S 19 (sl S j) ≠ nI (sl S k) → S1 19 (sl S j) = S 19 (sl S j) ∧ S1 20 (sl S j) = S 20 (sl S j) := hA.2.1
      have A3 : S 21 (sl S j) = nI (sl S k) → S1 21 (sl S j) = -1 ∧ S1 22 (sl S j) = x := fun q => by
        have := hA.2.2.1 q
        exact ⟨this.1, this.2.trans (by rw [sput_k (by decide)]; exact sput_s)⟩
      have A4 : S 21 (sl S j) ≠ nI (sl S k) → S1 21 (sl S j) = S 21 (sl S j) ∧ S1 22 (sl S j) = S 22 (sl S j) := hA.2.2.2
      refine ⟨old.1, old.2.1, fun q => ?_, fun q q2 => ?_, fun q q2 => ?_⟩
      · refine src_ann (k := k) (e := sl S k) (by omega) hk8 rfl hs3 hd3 hp rfl ?_ (fun w => (A1 w).1) A2 (old.2.2.1 q)
        by_cases w : S 19 (sl S j) = nI (sl S k)
        · exact Or.inl ((A1 w).2.trans hx)
        · exact Or.inr w
      · refine src_ann (k := k) (e := sl S k) (by omega) hk8 rfl hs3 hd3 hp rfl ?_ (fun w => (A3 w).1) A4 (old.2.2.2.1 q q2)
        by_cases w : S 21 (sl S j) = nI (sl S k)
        · exact Or.inl ((A3 w).2.trans hx)
        · exact Or.inr w
      · have := old.2.2.2.2 q q2
        rw [(A4 (by rw [this]; exact fun w => sl_m1 w.symm)).1, this]
  · rcases h.2.2.2.2.2.2 r hr with ⟨b1, b2⟩ | ⟨j, b1, b2, b3, b4, b5⟩
    · exact Or.inl ⟨by rw [e27]; exact b1, fun i hi => by rw [hvv, e5]; exact b2 i (by omega)⟩
    · exact Or.inr ⟨j, by omega, by rw [e27, hsl]; exact b2, by rw [hpl, oper_c hp]; exact b3, by rw [hpl, fx_c hp]; exact b4, fun i h1 h2 => by rw [hvv, hpl, hvv, val_c hp]; exact b5 i h1 (by omega)⟩
/-- what a load sees: the youngest older store to its cell, else memory -/
def ldf (S : St) (e : Nat) : Nat → Int32
  | 0 => S 6 (nt (S 24 e))
  | k + 1 => if S 17 (sl S k) = 6 ∧ S 24 (sl S k) = S 24 e then S 26 (sl S k) else ldf S e k
def mlk (S : St) (e k : Nat) : Prop := S 17 (sl S k) = 6 → S 23 (sl S k) ≠ 0 ∧ (S 24 (sl S k) = S 24 e → S 25 (sl S k) ≠ 0)
theorem ldf_vv {S : St} {fp k A : Nat} (hw : wfP S) (h : inv S fp) (hk : k < en S) (hA : A < 16) (h24 : S 24 (sl S k) = nI A) : ∀ i, i ≤ k → (∀ j, j < i → mlk S (sl S k) j) → ldf S (sl S k) i = (vv S i).2 A := by
  intro i
  induction i with
  | zero => intro _ _; show S 6 (nt (S 24 (sl S k))) = S 6 A; rw [h24, nt_nI (by omega)]
  | succ i ih =>
    intro hi hm
    have hi8 : i < en S := by omega
    have he := h.2.2.2.2.1 i hi8
    have hv := h.2.2.2.2.2.1 i hi8
    have IH := ih (by omega) (fun j hj => hm j (by omega))
    have ho6 : S 17 (sl S i) = 6 ↔ oper S (pl S i) = 6 := by
      rw [he.2.2.1]
      constructor
      · intro e
        exact nI_inj (by have := oper_le hw (pl S i); omega) (by decide) e
      · intro e; rw [e]; rfl
    show (if S 17 (sl S i) = 6 ∧ S 24 (sl S i) = S 24 (sl S k) then S 26 (sl S i) else ldf S (sl S k) i) = (eff S (pl S i) (vv S i)).2 A
    by_cases c : oper S (pl S i) = 6
    · have hm1 := hm i (Nat.lt_succ_self i) (ho6.mpr c)
      have had : S 24 (sl S i) = nI (adr S (pl S i) (vv S i)) := hv.2.1 c (Or.inr hm1.1)
      have hlt := adr_lt S (pl S i) (vv S i)
      have hef : (eff S (pl S i) (vv S i)).2 = upd (vv S i).2 (adr S (pl S i) (vv S i)) (val S (pl S i) (vv S i)) := by unfold eff; rw [if_neg (by omega), if_pos c]
      rw [hef]
      by_cases c2 : S 24 (sl S i) = S 24 (sl S k)
      · rw [if_pos ⟨ho6.mpr c, c2⟩]
        have hd1 : S 25 (sl S i) = 1 := by
          rcases he.2.2.2.2.2.1 with e | e
          · exact absurd e (hm1.2 c2)
          · exact e
        have hAe : adr S (pl S i) (vv S i) = A := nI_inj (by omega) (by omega) (by rw [← had, c2, h24])
        rw [hv.1 hd1 (by omega), hAe]
        exact pk_us.symm
      · rw [if_neg (fun w => c2 w.2), IH]
        have hAe : A ≠ adr S (pl S i) (vv S i) := fun e => c2 (by rw [had, h24, e])
        exact (pk_un hAe).symm
    · rw [if_neg (fun w => c (ho6.mp w.1)), IH]
      unfold eff
      split
      · rfl
      · rfl
/-- the oldest entry leaves: its effect is the architecture's, the others stay as they are -/
theorem retire_inv {S S1 : St} {fp : Nat} (hw : wfP S) (h : inv S fp) (hn0 : 0 < en S) (hd1 : S 25 (sl S 0) = 1) (hp : ∀ q, q ≤ 4 → S1 q = S q)
    (hrob : ∀ q, 16 ≤ q → q ≤ 26 → S1 q = S q) (h56 : (S1 5, S1 6) = eff S (pl S 0) (S 5, S 6)) (h14 : S1 14 0 = nI ((hd S + 1) % 8)) (h15 : S1 15 0 = nI (en S - 1)) (h7 : S1 7 0 = S 18 (sl S 0))
    (h27 : ∀ r, r < 8 → S1 27 r = if oper S (pl S 0) ≤ 5 ∧ fx S (pl S 0) = r ∧ S 27 r = nI (sl S 0) then -1 else S 27 r) : inv S1 fp := by
  have hn := h.n
  have hd8 := h.h.2
  have hsl : ∀ k, sl S1 k = sl S (k + 1) := fun k => by
    unfold sl
    have : hd S1 = (hd S + 1) % 8 := by unfold hd at hd8 ⊢; rw [h14, nt_nI (by omega)]; rfl
    rw [this]
    omega
  have hen : en S1 = en S - 1 := by show nt (S1 15 0) = _; rw [h15, nt_nI (by omega)]
  have hpl : ∀ k, pl S1 k = pl S (k + 1) := fun k => by unfold pl; rw [hsl, hrob 16 (by decide) (by decide)]
  have hvv : ∀ k, vv S1 k = vv S (k + 1) := fun k => by
    induction k with
    | zero => exact h56
    | succ k ih =>
      show eff S1 (pl S1 k) (vv S1 k) = eff S (pl S (k + 1)) (vv S (k + 1))
      rw [eff_c hp, hpl, ih]
  have hwant : ∀ k, want S1 k = want S (k + 1) := fun k => by
    cases k with
    | zero => exact h7
    | succ k => show S1 18 (sl S1 k) = S 18 (sl S (k + 1)); rw [hsl, hrob 18 (by decide) (by decide)]
  have hsrc : ∀ {k : Nat} {q v r : Int32}, src S (k + 1) q v r → src S1 k q v r := by
    intro k q v r hs
    rcases hs with hs | ⟨j, b1, b2, b3, b4⟩
    · exact Or.inl hs
    · cases j with
      | zero => rw [hd1] at b3; exact absurd b3 (by decide)
      | succ j => exact Or.inr ⟨j, by omega, by rw [hsl]; exact b2, by rw [hsl, hrob 25 (by decide) (by decide)]; exact b3, by rw [hpl, hvv, val_c hp]; exact b4⟩
  refine ⟨⟨(hd S + 1) % 8, Nat.mod_lt _ (by decide), h14⟩, ⟨en S - 1, by omega, h15⟩, h.2.2.1, ?_, fun k hk => ?_, fun k hk => ?_, fun r hr => ?_⟩
  · rw [hen, hwant, show en S - 1 + 1 = en S by omega]; exact h.2.2.2.1
  · unfold ent
    rw [hsl, hpl, hwant, oper_c hp, hrob 16 (by decide) (by decide), hrob 17 (by decide) (by decide), hrob 18 (by decide) (by decide), hrob 25 (by decide) (by decide)]
    exact h.2.2.2.2.1 (k + 1) (by omega)
  · have old := h.2.2.2.2.2.1 (k + 1) (by omega)
    unfold vok
    rw [hsl, hpl, hvv, oper_c hp, val_c hp, adr_c hp, lrg_c hp, rrg_c hp, hasR_c hp, hrob 19 (by decide) (by decide), hrob 20 (by decide) (by decide), hrob 21 (by decide) (by decide), hrob 22 (by decide) (by decide), hrob 23 (by decide) (by decide), hrob 24 (by decide) (by decide), hrob 25 (by decide) (by decide), hrob 26 (by decide) (by decide)]
    exact ⟨old.1, old.2.1, fun q => hsrc (old.2.2.1 q), fun q q2 => hsrc (old.2.2.2.1 q q2), old.2.2.2.2⟩
  · have h5 : S1 5 r = (vv S 1).1 r := by
      show (S1 5, S1 6).1 r = _
      rw [h56]; rfl
    rcases h.2.2.2.2.2.2 r hr with ⟨b1, b2⟩ | ⟨j, b1, b2, b3, b4, b5⟩
    · refine Or.inl ⟨?_, fun k hk => ?_⟩
      · rw [h27 r hr]
        split
        · rfl
        · exact b1
      · rw [hvv, h5, b2 (k + 1) (by omega), b2 1 (by omega)]
    · cases j with
      | zero =>
        refine Or.inl ⟨by rw [h27 r hr, if_pos ⟨b3, b4, b2⟩], fun k hk => ?_⟩
        rw [hvv, h5, b5 (k + 1) (by omega) (by omega), b5 1 (by omega) (by omega)]
      | succ j =>
        refine Or.inr ⟨j, by omega, ?_, by rw [hpl, oper_c hp]; exact b3, by rw [hpl, fx_c hp]; exact b4, fun k h1 h2 => by rw [hvv, hpl, hvv, val_c hp]; exact b5 (k + 1) (by omega) (by omega)⟩
        rw [h27 r hr, if_neg, hsl]
        · exact b2
        · rintro ⟨_, _, e⟩
          have := sl_nI (by omega) (by omega) (b2.symm.trans e)
          omega
end
section
set_option maxRecDepth 100000
set_option maxHeartbeats 4000000 in
set_option maxRecDepth 100000 in
theorem tX_predictedAfter (l : Launch) (D : va_G) (cs : ClassId × ClassId × ClassId) (a : Nat → Nat) (S : St) (t0 : Nat) (hw : wfP S) (ht0 : t0 < 25) : CI l yX0_predictedAfter cX0_predictedAfter 4 .int (rm_ 0 0) D cs (xW cs a) (xAd a) [.ref (a 0), .int (nI t0)] S (fun v S1 => S1 = S ∧ ∃ t, t < 25 ∧ v = nI t ∧ (oper S t0 = 10 → t = t0)) := by
  intro sz
  refine cv_start (w := xW cs a) (ad := xAd a) (C := RX0) (by decide) rfl xAd_eq (Nat.le_of_ble_eq_true rfl) ?_
  intro p e s m below meth c ls E hml hr hlocks hsz hW hl
  have hA : ∀ q, s.heap.size ≤ q → wA (xAd a) sz q := fun q h => Or.inr (hsz ▸ h)
  have hl : lv_has ls 4 [(0, .ref (a 0)), (1, .int (nI t0))] := hl
  have hl24 := hw.2.1
  refine lv_iload_n E.1 E.2.1 dX0_predictedAfter_0 rfl (lv_at hl 1 rfl) ?_
  refine lv_aload_n E.1 E.2.1 dX0_predictedAfter_1 rfl (lv_at hl 0 rfl) ?_
  refine gX_0 E hW hw.1 dX0_predictedAfter_2 ?_
  refine lv_icmp_lt (tgt := 10) E.1 E.2.1 dX0_predictedAfter_5 (by decide) (fun hlt => ?_) (fun hlt => ?_)
  rotate_left
  · refine lv_iload_n E.1 E.2.1 dX0_predictedAfter_8 rfl (lv_at hl 1 rfl) ?_
    exact ci_ret E hr hlocks hW (⟨rfl, t0, ht0, rfl, fun _ => rfl⟩) dX0_predictedAfter_9
  have hlt : t0 < len S := (nI_ltI (by omega) (by omega)).mp hlt
  obtain ⟨eo, ho⟩ := hw.op hlt
  have ht24 : t0 < 24 := by omega
  refine lv_aload_n E.1 E.2.1 dX0_predictedAfter_10 rfl (lv_at hl 0 rfl) ?_
  refine gX_1 E hW dX0_predictedAfter_11 ?_
  refine lv_iload_n E.1 E.2.1 dX0_predictedAfter_14 rfl (lv_at hl 1 rfl) ?_
  refine lX_1 E hW (rfl) (ht24) (eo) dX0_predictedAfter_15 ?_
  refine xl_istore_n (lv' := [(0, _), (1, _), (2, _)]) E dX0_predictedAfter_16 rfl hl (by decide) [1, 2, 0] rfl (fun ls hl => ?_)
  refine lv_iload_n E.1 E.2.1 dX0_predictedAfter_17 rfl (lv_at hl 2 rfl) ?_
  refine lv_bipush (v := nI 10) E.1 E.2.1 dX0_predictedAfter_18 (by decide) ?_
  refine lv_icmp_ne (tgt := 25) E.1 E.2.1 dX0_predictedAfter_20 (by decide) (fun h10 => ?_) (fun h10 => ?_)
  rotate_left
  · refine lv_iload_n E.1 E.2.1 dX0_predictedAfter_23 rfl (lv_at hl 1 rfl) ?_
    exact ci_ret E hr hlocks hW (⟨rfl, t0, ht0, rfl, fun _ => rfl⟩) dX0_predictedAfter_24
  have h10 := nI_neI h10
  refine lv_iload_n E.1 E.2.1 dX0_predictedAfter_25 rfl (lv_at hl 2 rfl) ?_
  refine lv_bipush (v := nI 9) E.1 E.2.1 dX0_predictedAfter_26 (by decide) ?_
  refine lv_icmp_ne (tgt := 38) E.1 E.2.1 dX0_predictedAfter_28 (by decide) (fun h9 => ?_) (fun h9 => ?_)
  rotate_left
  · have h9 : oper S t0 = 9 := nI_inj (by omega) (by decide) h9
    have ht := hw.t (i := t0) (by omega) (by omega)
    refine lv_aload_n E.1 E.2.1 dX0_predictedAfter_31 rfl (lv_at hl 0 rfl) ?_
    refine gX_4 E hW dX0_predictedAfter_32 ?_
    refine lv_iload_n E.1 E.2.1 dX0_predictedAfter_35 rfl (lv_at hl 1 rfl) ?_
    refine lX_4 E hW (rfl) (ht24) (ht.1) dX0_predictedAfter_36 ?_
    exact ci_ret E hr hlocks hW (⟨rfl, fz S t0, by omega, rfl, fun h => absurd h h10⟩) dX0_predictedAfter_37
  have h9 := nI_neI h9
  refine x_join (pj := 65) (lj := ls) (rj := []) (fun v => v = 0 ∨ (v = 1 ∧ (oper S t0 = 7 ∨ oper S t0 = 8))) (fun join => ?_) (fun v hj => ?_)
  · refine x_joinP (pj := 50) (lj := ls) (rj := []) (oper S t0 = 7 ∨ oper S t0 = 8) (fun join2 => ?_) (fun h78 => ?_)
    · refine lv_iload_n E.1 E.2.1 dX0_predictedAfter_38 rfl (lv_at hl 2 rfl) ?_
      refine lv_bipush (v := nI 7) E.1 E.2.1 dX0_predictedAfter_39 (by decide) ?_
      refine lv_icmp_eq (tgt := 50) E.1 E.2.1 dX0_predictedAfter_41 (by decide) (fun hc => ?_) (fun hc => ?_)
      · exact join2 (Or.inl (nI_inj (by omega) (by decide) hc))
      · refine lv_iload_n E.1 E.2.1 dX0_predictedAfter_44 rfl (lv_at hl 2 rfl) ?_
        refine lv_bipush (v := nI 8) E.1 E.2.1 dX0_predictedAfter_45 (by decide) ?_
        refine lv_icmp_ne (tgt := 64) E.1 E.2.1 dX0_predictedAfter_47 (by decide) (fun hd => ?_) (fun hd => ?_)
        · refine lv_iconst (v := 0) E.1 E.2.1 dX0_predictedAfter_64 (by decide) ?_
          exact join _ (Or.inl rfl)
        · exact join2 (Or.inr (nI_inj (by omega) (by decide) hd))
    refine lv_aload_n E.1 E.2.1 dX0_predictedAfter_50 rfl (lv_at hl 0 rfl) ?_
    refine gX_9 E hW dX0_predictedAfter_51 ?_
    refine lv_iload_n E.1 E.2.1 dX0_predictedAfter_54 rfl (lv_at hl 1 rfl) ?_
    refine lX_9 E hW (rfl) (ht24) (rfl) dX0_predictedAfter_55 ?_
    refine lv_iconst (v := 2) E.1 E.2.1 dX0_predictedAfter_56 (by decide) ?_
    refine lv_icmp_lt (tgt := 64) E.1 E.2.1 dX0_predictedAfter_57 (by decide) (fun hc => ?_) (fun hc => ?_)
    · refine lv_iconst (v := 0) E.1 E.2.1 dX0_predictedAfter_64 (by decide) ?_
      exact join _ (Or.inl rfl)
    · refine lv_iconst (v := 1) E.1 E.2.1 dX0_predictedAfter_60 (by decide) ?_
      refine lv_goto (tgt := 65) E.1 E.2.1 dX0_predictedAfter_61 (by decide) ?_
      exact join _ (Or.inr ⟨rfl, h78⟩)
  refine xl_istore_n (lv' := [(0, _), (1, _), (2, _), (3, _)]) E dX0_predictedAfter_65 rfl hl (by decide) [1, 2, 3, 0] rfl (fun ls hl => ?_)
  refine lv_iload_n E.1 E.2.1 dX0_predictedAfter_66 rfl (lv_at hl 3 rfl) ?_
  refine lv_if_eq (tgt := 79) E.1 E.2.1 dX0_predictedAfter_67 (by decide) (fun hz => ?_) (fun hz => ?_)
  · refine lv_iload_n E.1 E.2.1 dX0_predictedAfter_79 rfl (lv_at hl 1 rfl) ?_
    refine lv_iconst (v := 1) E.1 E.2.1 dX0_predictedAfter_80 (by decide) ?_
    refine lv_iadd E.1 E.2.1 dX0_predictedAfter_81 ?_
    refine x_top (y := nI (t0 + 1)) (nI_1 t0) ?_
    exact ci_ret E hr hlocks hW (⟨rfl, t0 + 1, by omega, rfl, fun h => absurd h h10⟩) dX0_predictedAfter_82
  have h78 : oper S t0 = 7 ∨ oper S t0 = 8 := by
    rcases hj with h | h
    · exact absurd h hz
    · exact h.2
  have ht := hw.t (i := t0) (by omega) (by omega)
  refine lv_aload_n E.1 E.2.1 dX0_predictedAfter_70 rfl (lv_at hl 0 rfl) ?_
  refine gX_4 E hW dX0_predictedAfter_71 ?_
  refine lv_iload_n E.1 E.2.1 dX0_predictedAfter_74 rfl (lv_at hl 1 rfl) ?_
  refine lX_4 E hW (rfl) (ht24) (ht.1) dX0_predictedAfter_75 ?_
  refine lv_goto (tgt := 82) E.1 E.2.1 dX0_predictedAfter_76 (by decide) ?_
  exact ci_ret E hr hlocks hW (⟨rfl, fz S t0, by omega, rfl, fun h => absurd h h10⟩) dX0_predictedAfter_82
section L_agrees
variable {p : Program} {l : Launch} {e : Env} {R : Room} {s : State} {m : MethodId} {args : Array Value} {below : List Frame} {meth : Method} {c : Code} {H : Heap} {locs : List Loc} {cells slots : Nat} {Q : State → Prop}
variable {cc : ByteArray} {pc : Nat} {ls : Array Slot} {rest : List Value} {D : va_G} {cs : ClassId × ClassId × ClassId} {a : Nat → Nat} {S : St} {A : Nat → Prop} {H0 : Heap}
set_option maxHeartbeats 4000000 in
theorem lpX_agrees {i c0 : Nat} (E : XE RX0 p s m args c cX0_agrees D cs) (hml : c.maxLocals = 6) (hA : ∀ q, H0.size ≤ q → A q) (hfr : 1 ≤ R.frames ∧ 23 ≤ R.locals) (hcs : cells ≤ R.cells ∧ slots ≤ R.slots) (hw : wfP S) (hT : ∀ j, j < 24 → isN (S 11 j) 25) (hi : i < 8) (hc0 : c0 ≤ 3)
    (k54 : ∀ (H : Heap) (locs : List Loc) (ls : Array Slot), PW D (xW cs a S) A H0 H locs → W p l e R s m args below meth c H locs cells slots Q (F0 m 54 ls [])) (k46 : ∀ (H : Heap) (locs : List Loc) (ls : Array Slot), PW D (xW cs a S) A H0 H locs → W p l e R s m args below meth c H locs cells slots Q (F0 m 46 ls [])) :
    ∀ (f k : Nat) (H : Heap) (locs : List Loc) (ls : Array Slot), c0 ≤ k + 1 + f → PW D (xW cs a S) A H0 H locs → lv_has ls 6 [(0, .ref (a 0)), (1, .int (nI i)), (2, .int (nI c0)), (3, .int (nI k))] → k ≤ 3 → W p l e R s m args below meth c H locs cells slots Q (F0 m 2 ls []) := by
  intro f
  induction f with
  | zero =>
    intro k H locs ls hk hW hl hk3
    refine lv_iload_n E.1 E.2.1 dX0_agrees_2 rfl (lv_at hl 3 rfl) ?_
    refine lv_iconst (v := 1) E.1 E.2.1 dX0_agrees_3 (by decide) ?_
    refine lv_iadd E.1 E.2.1 dX0_agrees_4 ?_
    refine x_top (y := nI (k + 1)) (nI_1 k) ?_
    refine lv_iload_n E.1 E.2.1 dX0_agrees_5 rfl (lv_at hl 2 rfl) ?_
    refine lv_icmp_ge (tgt := 54) E.1 E.2.1 dX0_agrees_6 (by decide) (fun _ => ?_) (fun h => absurd (nI_le (by omega) (by omega)) h)
    exact k54 H locs ls hW
  | succ f ih =>
    intro k H locs ls hk hW hl hk3
    refine lv_iload_n E.1 E.2.1 dX0_agrees_2 rfl (lv_at hl 3 rfl) ?_
    refine lv_iconst (v := 1) E.1 E.2.1 dX0_agrees_3 (by decide) ?_
    refine lv_iadd E.1 E.2.1 dX0_agrees_4 ?_
    refine x_top (y := nI (k + 1)) (nI_1 k) ?_
    refine lv_iload_n E.1 E.2.1 dX0_agrees_5 rfl (lv_at hl 2 rfl) ?_
    refine lv_icmp_ge (tgt := 54) E.1 E.2.1 dX0_agrees_6 (by decide) (fun hc => ?_) (fun hc => ?_)
    · exact k54 H locs ls hW
    have hc : k + 1 < c0 := nI_nleI (by omega) (by omega) hc
    obtain ⟨t, ht, et⟩ := hT (3 * i + k) (by omega)
    refine lv_aload_n E.1 E.2.1 dX0_agrees_9 rfl (lv_at hl 0 rfl) ?_
    refine gX_11 E hW dX0_agrees_10 ?_
    refine lv_iconst (v := nI 3) E.1 E.2.1 dX0_agrees_13 (by decide) ?_
    refine lv_iload_n E.1 E.2.1 dX0_agrees_14 rfl (lv_at hl 1 rfl) ?_
    refine lv_imul E.1 E.2.1 dX0_agrees_15 ?_
    refine x_top (y := nI (3 * i)) (pk_mul 3 i) ?_
    refine lv_iload_n E.1 E.2.1 dX0_agrees_16 rfl (lv_at hl 3 rfl) ?_
    refine lv_iadd E.1 E.2.1 dX0_agrees_17 ?_
    refine x_top (y := nI (3 * i + k)) (nI_add _ _) ?_
    refine lX_11 E hW (rfl) (by omega) (et) dX0_agrees_18 ?_
    refine xl_istore (lv' := [(0, _), (1, _), (2, _), (3, _), (4, _)]) E dX0_agrees_19 hl (by decide) [1, 2, 3, 4, 0] rfl (fun ls hl => ?_)
    refine lv_aload_n E.1 E.2.1 dX0_agrees_21 rfl (lv_at hl 0 rfl) ?_
    refine lv_iload E.1 E.2.1 dX0_agrees_22 (lv_at hl 4 rfl) ?_
    refine ci_call (w := xW cs a) (ad := xAd a) (ci := 0) E hml hl.1 hW xAd_eq hA (tX_predictedAfter l D cs a S t hw ht) (cwV 1 E.2.2.2.1 (lw_V q204 q206 qs15 q24 q207) rfl rfl rfl (by decide +kernel) hfr) rfl rfl rfl rfl rfl (Nat.le_of_ble_eq_true rfl) dX0_agrees_24 hcs (fun v S1 H locs hp hW _ _ => ?_)
    obtain ⟨e1, _⟩ := hp
    obtain rfl := e1.symm
    refine xl_istore (lv' := [(0, _), (1, _), (2, _), (3, _), (4, _), (5, _)]) E dX0_agrees_27 hl (by decide) [1, 2, 3, 4, 5, 0] rfl (fun ls hl => ?_)
    refine lv_iload E.1 E.2.1 dX0_agrees_29 (lv_at hl 5 rfl) ?_
    refine lv_aload_n E.1 E.2.1 dX0_agrees_31 rfl (lv_at hl 0 rfl) ?_
    refine gX_11 E hW dX0_agrees_32 ?_
    refine lv_iconst (v := nI 3) E.1 E.2.1 dX0_agrees_35 (by decide) ?_
    refine lv_iload_n E.1 E.2.1 dX0_agrees_36 rfl (lv_at hl 1 rfl) ?_
    refine lv_imul E.1 E.2.1 dX0_agrees_37 ?_
    refine x_top (y := nI (3 * i)) (pk_mul 3 i) ?_
    refine lv_iload_n E.1 E.2.1 dX0_agrees_38 rfl (lv_at hl 3 rfl) ?_
    refine lv_iadd E.1 E.2.1 dX0_agrees_39 ?_
    refine x_top (y := nI (3 * i + k)) (nI_add _ _) ?_
    refine lv_iconst (v := 1) E.1 E.2.1 dX0_agrees_40 (by decide) ?_
    refine lv_iadd E.1 E.2.1 dX0_agrees_41 ?_
    refine x_top (y := nI (3 * i + k + 1)) (nI_1 _) ?_
    refine lX_11 E hW (rfl) (by omega) (rfl) dX0_agrees_42 ?_
    refine lv_icmp_eq (tgt := 48) E.1 E.2.1 dX0_agrees_43 (by decide) (fun hd => ?_) (fun hd => ?_)
    rotate_left
    · exact k46 _ _ _ hW
    refine xl_iinc (v := nI (k + 1)) (lv' := [(0, _), (1, _), (2, _), (3, _), (4, _), (5, _)]) E dX0_agrees_48 hl (k := 3) rfl (x_inc1 k) (by decide) [1, 2, 3, 0, 4, 5] rfl (fun ls hl => ?_)
    refine lv_goto (tgt := 2) E.1 E.2.1 dX0_agrees_51 (by decide) ?_
    exact ih (k + 1) _ _ _ (by omega) hW (lv_sub hl [0, 1, 2, 3] rfl) (by omega)
end L_agrees
set_option maxHeartbeats 4000000 in
set_option maxRecDepth 100000 in
theorem tX_agrees (l : Launch) (D : va_G) (cs : ClassId × ClassId × ClassId) (a : Nat → Nat) (S : St) (i c0 : Nat) (hw : wfP S) (hT : ∀ j, j < 24 → isN (S 11 j) 25) (hi : i < 8) (hc0 : c0 ≤ 3) : CI l yX0_agrees cX0_agrees 6 .boolean (rm_ 1 23) D cs (xW cs a) (xAd a) [.ref (a 0), .int (nI i), .int (nI c0)] S (fun v S1 => S1 = S ∧ (v = 0 ∨ v = 1)) := by
  intro sz
  refine cv_start (w := xW cs a) (ad := xAd a) (C := RX0) (by decide) rfl xAd_eq (Nat.le_of_ble_eq_true rfl) ?_
  intro p e s m below meth c ls E hml hr hlocks hsz hW hl
  have hA : ∀ q, s.heap.size ≤ q → wA (xAd a) sz q := fun q h => Or.inr (hsz ▸ h)
  have hl : lv_has ls 6 [(0, .ref (a 0)), (1, .int (nI i)), (2, .int (nI c0))] := hl
  refine lv_iconst (v := nI 0) E.1 E.2.1 dX0_agrees_0 (by decide) ?_
  refine xl_istore_n (lv' := [(0, _), (1, _), (2, _), (3, _)]) E dX0_agrees_1 rfl hl (by decide) [1, 2, 3, 0] rfl (fun ls hl => ?_)
  refine lpX_agrees (i := i) (c0 := c0) E hml hA ⟨Nat.le_of_ble_eq_true rfl, Nat.le_of_ble_eq_true rfl⟩ ⟨Nat.zero_le _, Nat.zero_le _⟩ hw hT hi hc0 (fun H locs ls hW => ?_) (fun H locs ls hW => ?_) 3 0 _ _ _ (by omega) hW hl (by omega)
  · refine lv_iconst (v := 1) E.1 E.2.1 dX0_agrees_54 (by decide) ?_
    exact cz_ret E hr hlocks hW (by decide) (⟨rfl, Or.inr rfl⟩) dX0_agrees_55
  · refine lv_iconst (v := 0) E.1 E.2.1 dX0_agrees_46 (by decide) ?_
    exact cz_ret E hr hlocks hW (by decide) (⟨rfl, Or.inl rfl⟩) dX0_agrees_47
set_option maxHeartbeats 4000000 in
set_option maxRecDepth 100000 in
theorem tX_compute (l : Launch) (D : va_G) (cs : ClassId × ClassId × ClassId) (a : Nat → Nat) (S : St) (o : Nat) (x y : Int32) (ho : o < 12) : CI l yX0_compute cX0_compute 4 .int (rm_ 0 0) D cs (xW cs a) (xAd a) [.ref (a 0), .int (nI o), .int x, .int y] S (fun v S1 => S1 = S ∧ v = cmpt o x y) := by
  intro sz
  refine cv_start (w := xW cs a) (ad := xAd a) (C := RX0) (by decide) rfl xAd_eq (Nat.le_of_ble_eq_true rfl) ?_
  intro p e s m below meth c ls E hml hr hlocks hsz hW hl
  have hA : ∀ q, s.heap.size ≤ q → wA (xAd a) sz q := fun q h => Or.inr (hsz ▸ h)
  have hl : lv_has ls 4 [(0, .ref (a 0)), (1, .int (nI o)), (2, .int x), (3, .int y)] := hl
  refine lv_iload_n E.1 E.2.1 dX0_compute_0 rfl (lv_at hl 1 rfl) ?_
  refine lv_iconst (v := nI 1) E.1 E.2.1 dX0_compute_1 (by decide) ?_
  refine lv_icmp_ne (tgt := 9) E.1 E.2.1 dX0_compute_2 (by decide) (fun h1 => ?_) (fun h1 => ?_)
  rotate_left
  · obtain rfl : o = 1 := nI_inj (by omega) (by decide) h1
    refine lv_iload_n E.1 E.2.1 dX0_compute_5 rfl (lv_at hl 2 rfl) ?_
    refine lv_iload_n E.1 E.2.1 dX0_compute_6 rfl (lv_at hl 3 rfl) ?_
    refine lv_isub E.1 E.2.1 dX0_compute_7 ?_
    exact ci_ret E hr hlocks hW (⟨rfl, rfl⟩) dX0_compute_8
  have h1 := nI_neI h1
  refine lv_iload_n E.1 E.2.1 dX0_compute_9 rfl (lv_at hl 1 rfl) ?_
  refine lv_iconst (v := nI 2) E.1 E.2.1 dX0_compute_10 (by decide) ?_
  refine lv_icmp_ne (tgt := 18) E.1 E.2.1 dX0_compute_11 (by decide) (fun h2 => ?_) (fun h2 => ?_)
  rotate_left
  · obtain rfl : o = 2 := nI_inj (by omega) (by decide) h2
    refine lv_iload_n E.1 E.2.1 dX0_compute_14 rfl (lv_at hl 2 rfl) ?_
    refine lv_iload_n E.1 E.2.1 dX0_compute_15 rfl (lv_at hl 3 rfl) ?_
    refine lv_ixor E.1 E.2.1 dX0_compute_16 ?_
    exact ci_ret E hr hlocks hW (⟨rfl, rfl⟩) dX0_compute_17
  have h2 := nI_neI h2
  refine lv_iload_n E.1 E.2.1 dX0_compute_18 rfl (lv_at hl 1 rfl) ?_
  refine lv_iconst (v := nI 3) E.1 E.2.1 dX0_compute_19 (by decide) ?_
  refine lv_icmp_ne (tgt := 34) E.1 E.2.1 dX0_compute_20 (by decide) (fun h3 => ?_) (fun h3 => ?_)
  rotate_left
  · obtain rfl : o = 3 := nI_inj (by omega) (by decide) h3
    refine lv_iload_n E.1 E.2.1 dX0_compute_23 rfl (lv_at hl 2 rfl) ?_
    refine lv_iload_n E.1 E.2.1 dX0_compute_24 rfl (lv_at hl 3 rfl) ?_
    refine lv_icmp_ge (tgt := 32) E.1 E.2.1 dX0_compute_25 (by decide) (fun hc => ?_) (fun hc => ?_)
    · refine lv_iconst (v := 0) E.1 E.2.1 dX0_compute_32 (by decide) ?_
      exact ci_ret E hr hlocks hW (⟨rfl, by unfold cmpt; rw [if_neg (by decide), if_neg (by decide), if_pos rfl, if_neg (Int32.not_lt.mpr hc)]⟩) dX0_compute_33
    · refine lv_iconst (v := 1) E.1 E.2.1 dX0_compute_28 (by decide) ?_
      refine lv_goto (tgt := 33) E.1 E.2.1 dX0_compute_29 (by decide) ?_
      exact ci_ret E hr hlocks hW (⟨rfl, by unfold cmpt; rw [if_neg (by decide), if_neg (by decide), if_pos rfl, if_pos (lt_of_nle hc)]⟩) dX0_compute_33
  have h3 := nI_neI h3
  refine lv_iload_n E.1 E.2.1 dX0_compute_34 rfl (lv_at hl 2 rfl) ?_
  refine lv_iload_n E.1 E.2.1 dX0_compute_35 rfl (lv_at hl 3 rfl) ?_
  refine lv_iadd E.1 E.2.1 dX0_compute_36 ?_
  exact ci_ret E hr hlocks hW (⟨rfl, by unfold cmpt; rw [if_neg h1, if_neg h2, if_neg h3]⟩) dX0_compute_37
def bdd (S S1 : St) (e r F G : Nat) : Prop := (S 27 r = -1 ∧ S1 = sput S G e (S 5 r)) ∨ (∃ f, f < 8 ∧ S 27 r = nI f ∧ S 25 f = 0 ∧ S1 = sput S F e (nI f)) ∨ (∃ f, f < 8 ∧ S 27 r = nI f ∧ S 25 f ≠ 0 ∧ S1 = sput S G e (S 26 f))
def nwR (S : St) (r : Nat) : Prop := S 27 r = -1 ∨ ∃ f, f < 8 ∧ S 27 r = nI f
set_option maxHeartbeats 4000000 in
set_option maxRecDepth 100000 in
theorem tX_bindLeft (l : Launch) (D : va_G) (cs : ClassId × ClassId × ClassId) (a : Nat → Nat) (S : St) (e0 r0 : Nat) (he : e0 < 8) (hr0 : r0 < 8) (hnw : nwR S r0) : CV l yX0_bindLeft cX0_bindLeft 4 (rm_ 0 0) D cs (xW cs a) (xAd a) [.ref (a 0), .int (nI e0), .int (nI r0)] S (fun S1 => bdd S S1 e0 r0 19 20) := by
  intro sz
  refine cv_start (w := xW cs a) (ad := xAd a) (C := RX0) (by decide) rfl xAd_eq (Nat.le_of_ble_eq_true rfl) ?_
  intro p e s m below meth c ls E hml hr hlocks hsz hW hl
  have hA : ∀ q, s.heap.size ≤ q → wA (xAd a) sz q := fun q h => Or.inr (hsz ▸ h)
  have hl : lv_has ls 4 [(0, .ref (a 0)), (1, .int (nI e0)), (2, .int (nI r0))] := hl
  rcases hnw with e27 | ⟨f, hf, e27⟩
  · refine lv_aload_n E.1 E.2.1 dX0_bindLeft_0 rfl (lv_at hl 0 rfl) ?_
    refine gX_27 E hW dX0_bindLeft_1 ?_
    refine lv_iload_n E.1 E.2.1 dX0_bindLeft_4 rfl (lv_at hl 2 rfl) ?_
    refine lX_27 E hW (rfl) (hr0) (e27) dX0_bindLeft_5 ?_
    refine xl_istore_n (lv' := [(0, _), (1, _), (2, _), (3, _)]) E dX0_bindLeft_6 rfl hl (by decide) [1, 2, 3, 0] rfl (fun ls hl => ?_)
    refine lv_iload_n E.1 E.2.1 dX0_bindLeft_7 rfl (lv_at hl 3 rfl) ?_
    refine lv_if_lt (tgt := 31) E.1 E.2.1 dX0_bindLeft_8 (by decide) (fun _ => ?_) (fun h => absurd (m1_neg) h)
    refine lv_aload_n E.1 E.2.1 dX0_bindLeft_31 rfl (lv_at hl 0 rfl) ?_
    refine gX_20 E hW dX0_bindLeft_32 ?_
    refine lv_iload_n E.1 E.2.1 dX0_bindLeft_35 rfl (lv_at hl 1 rfl) ?_
    refine lv_iload_n E.1 E.2.1 dX0_bindLeft_36 rfl (lv_at hl 3 rfl) ?_
    refine lv_if_lt (tgt := 49) E.1 E.2.1 dX0_bindLeft_37 (by decide) (fun _ => ?_) (fun h => absurd (m1_neg) h)
    refine lv_aload_n E.1 E.2.1 dX0_bindLeft_49 rfl (lv_at hl 0 rfl) ?_
    refine gX_5 E hW dX0_bindLeft_50 ?_
    refine lv_iload_n E.1 E.2.1 dX0_bindLeft_53 rfl (lv_at hl 2 rfl) ?_
    refine lX_5 E hW (rfl) (hr0) (rfl) dX0_bindLeft_54 ?_
    refine sX_20 E hW (rfl) (he) dX0_bindLeft_55 (fun H locs hW => ?_)
    exact cv_ret E hr hlocks hW (Or.inl ⟨e27, rfl⟩) dX0_bindLeft_56
  · refine lv_aload_n E.1 E.2.1 dX0_bindLeft_0 rfl (lv_at hl 0 rfl) ?_
    refine gX_27 E hW dX0_bindLeft_1 ?_
    refine lv_iload_n E.1 E.2.1 dX0_bindLeft_4 rfl (lv_at hl 2 rfl) ?_
    refine lX_27 E hW (rfl) (hr0) (e27) dX0_bindLeft_5 ?_
    refine xl_istore_n (lv' := [(0, _), (1, _), (2, _), (3, _)]) E dX0_bindLeft_6 rfl hl (by decide) [1, 2, 3, 0] rfl (fun ls hl => ?_)
    refine lv_iload_n E.1 E.2.1 dX0_bindLeft_7 rfl (lv_at hl 3 rfl) ?_
    refine lv_if_lt (tgt := 31) E.1 E.2.1 dX0_bindLeft_8 (by decide) (fun h => absurd h (nI_pos (by omega))) (fun _ => ?_)
    refine lv_aload_n E.1 E.2.1 dX0_bindLeft_11 rfl (lv_at hl 0 rfl) ?_
    refine gX_25 E hW dX0_bindLeft_12 ?_
    refine lv_iload_n E.1 E.2.1 dX0_bindLeft_15 rfl (lv_at hl 3 rfl) ?_
    refine lX_25 E hW (rfl) (hf) (rfl) dX0_bindLeft_16 ?_
    refine lv_if_ne (tgt := 31) E.1 E.2.1 dX0_bindLeft_17 (by decide) (fun hd => ?_) (fun hd => ?_)
    · refine lv_aload_n E.1 E.2.1 dX0_bindLeft_31 rfl (lv_at hl 0 rfl) ?_
      refine gX_20 E hW dX0_bindLeft_32 ?_
      refine lv_iload_n E.1 E.2.1 dX0_bindLeft_35 rfl (lv_at hl 1 rfl) ?_
      refine lv_iload_n E.1 E.2.1 dX0_bindLeft_36 rfl (lv_at hl 3 rfl) ?_
      refine lv_if_lt (tgt := 49) E.1 E.2.1 dX0_bindLeft_37 (by decide) (fun h => absurd h (nI_pos (by omega))) (fun _ => ?_)
      refine lv_aload_n E.1 E.2.1 dX0_bindLeft_40 rfl (lv_at hl 0 rfl) ?_
      refine gX_26 E hW dX0_bindLeft_41 ?_
      refine lv_iload_n E.1 E.2.1 dX0_bindLeft_44 rfl (lv_at hl 3 rfl) ?_
      refine lX_26 E hW (rfl) (hf) (rfl) dX0_bindLeft_45 ?_
      refine lv_goto (tgt := 55) E.1 E.2.1 dX0_bindLeft_46 (by decide) ?_
      refine sX_20 E hW (rfl) (he) dX0_bindLeft_55 (fun H locs hW => ?_)
      exact cv_ret E hr hlocks hW (Or.inr (Or.inr ⟨f, hf, e27, hd, rfl⟩)) dX0_bindLeft_56
    · refine lv_aload_n E.1 E.2.1 dX0_bindLeft_20 rfl (lv_at hl 0 rfl) ?_
      refine gX_19 E hW dX0_bindLeft_21 ?_
      refine lv_iload_n E.1 E.2.1 dX0_bindLeft_24 rfl (lv_at hl 1 rfl) ?_
      refine lv_iload_n E.1 E.2.1 dX0_bindLeft_25 rfl (lv_at hl 3 rfl) ?_
      refine lv_i2b (v := nI f) E.1 E.2.1 dX0_bindLeft_26 (x_i2b (by omega)) ?_
      refine sX_19 E hW (rfl) (he) (x_nb (by omega)) dX0_bindLeft_27 (fun H locs hW => ?_)
      refine lv_goto (tgt := 56) E.1 E.2.1 dX0_bindLeft_28 (by decide) ?_
      exact cv_ret E hr hlocks hW (Or.inr (Or.inl ⟨f, hf, e27, hd, rfl⟩)) dX0_bindLeft_56
set_option maxHeartbeats 4000000 in
set_option maxRecDepth 100000 in
theorem tX_bindRight (l : Launch) (D : va_G) (cs : ClassId × ClassId × ClassId) (a : Nat → Nat) (S : St) (e0 r0 : Nat) (he : e0 < 8) (hr0 : r0 < 8) (hnw : nwR S r0) : CV l yX0_bindRight cX0_bindRight 4 (rm_ 0 0) D cs (xW cs a) (xAd a) [.ref (a 0), .int (nI e0), .int (nI r0)] S (fun S1 => bdd S S1 e0 r0 21 22) := by
  intro sz
  refine cv_start (w := xW cs a) (ad := xAd a) (C := RX0) (by decide) rfl xAd_eq (Nat.le_of_ble_eq_true rfl) ?_
  intro p e s m below meth c ls E hml hr hlocks hsz hW hl
  have hA : ∀ q, s.heap.size ≤ q → wA (xAd a) sz q := fun q h => Or.inr (hsz ▸ h)
  have hl : lv_has ls 4 [(0, .ref (a 0)), (1, .int (nI e0)), (2, .int (nI r0))] := hl
  rcases hnw with e27 | ⟨f, hf, e27⟩
  · refine lv_aload_n E.1 E.2.1 dX0_bindRight_0 rfl (lv_at hl 0 rfl) ?_
    refine gX_27 E hW dX0_bindRight_1 ?_
    refine lv_iload_n E.1 E.2.1 dX0_bindRight_4 rfl (lv_at hl 2 rfl) ?_
    refine lX_27 E hW (rfl) (hr0) (e27) dX0_bindRight_5 ?_
    refine xl_istore_n (lv' := [(0, _), (1, _), (2, _), (3, _)]) E dX0_bindRight_6 rfl hl (by decide) [1, 2, 3, 0] rfl (fun ls hl => ?_)
    refine lv_iload_n E.1 E.2.1 dX0_bindRight_7 rfl (lv_at hl 3 rfl) ?_
    refine lv_if_lt (tgt := 31) E.1 E.2.1 dX0_bindRight_8 (by decide) (fun _ => ?_) (fun h => absurd (m1_neg) h)
    refine lv_aload_n E.1 E.2.1 dX0_bindRight_31 rfl (lv_at hl 0 rfl) ?_
    refine gX_22 E hW dX0_bindRight_32 ?_
    refine lv_iload_n E.1 E.2.1 dX0_bindRight_35 rfl (lv_at hl 1 rfl) ?_
    refine lv_iload_n E.1 E.2.1 dX0_bindRight_36 rfl (lv_at hl 3 rfl) ?_
    refine lv_if_lt (tgt := 49) E.1 E.2.1 dX0_bindRight_37 (by decide) (fun _ => ?_) (fun h => absurd (m1_neg) h)
    refine lv_aload_n E.1 E.2.1 dX0_bindRight_49 rfl (lv_at hl 0 rfl) ?_
    refine gX_5 E hW dX0_bindRight_50 ?_
    refine lv_iload_n E.1 E.2.1 dX0_bindRight_53 rfl (lv_at hl 2 rfl) ?_
    refine lX_5 E hW (rfl) (hr0) (rfl) dX0_bindRight_54 ?_
    refine sX_22 E hW (rfl) (he) dX0_bindRight_55 (fun H locs hW => ?_)
    exact cv_ret E hr hlocks hW (Or.inl ⟨e27, rfl⟩) dX0_bindRight_56
  · refine lv_aload_n E.1 E.2.1 dX0_bindRight_0 rfl (lv_at hl 0 rfl) ?_
    refine gX_27 E hW dX0_bindRight_1 ?_
    refine lv_iload_n E.1 E.2.1 dX0_bindRight_4 rfl (lv_at hl 2 rfl) ?_
    refine lX_27 E hW (rfl) (hr0) (e27) dX0_bindRight_5 ?_
    refine xl_istore_n (lv' := [(0, _), (1, _), (2, _), (3, _)]) E dX0_bindRight_6 rfl hl (by decide) [1, 2, 3, 0] rfl (fun ls hl => ?_)
    refine lv_iload_n E.1 E.2.1 dX0_bindRight_7 rfl (lv_at hl 3 rfl) ?_
    refine lv_if_lt (tgt := 31) E.1 E.2.1 dX0_bindRight_8 (by decide) (fun h => absurd h (nI_pos (by omega))) (fun _ => ?_)
    refine lv_aload_n E.1 E.2.1 dX0_bindRight_11 rfl (lv_at hl 0 rfl) ?_
    refine gX_25 E hW dX0_bindRight_12 ?_
    refine lv_iload_n E.1 E.2.1 dX0_bindRight_15 rfl (lv_at hl 3 rfl) ?_
    refine lX_25 E hW (rfl) (hf) (rfl) dX0_bindRight_16 ?_
    refine lv_if_ne (tgt := 31) E.1 E.2.1 dX0_bindRight_17 (by decide) (fun hd => ?_) (fun hd => ?_)
    · refine lv_aload_n E.1 E.2.1 dX0_bindRight_31 rfl (lv_at hl 0 rfl) ?_
      refine gX_22 E hW dX0_bindRight_32 ?_
      refine lv_iload_n E.1 E.2.1 dX0_bindRight_35 rfl (lv_at hl 1 rfl) ?_
      refine lv_iload_n E.1 E.2.1 dX0_bindRight_36 rfl (lv_at hl 3 rfl) ?_
      refine lv_if_lt (tgt := 49) E.1 E.2.1 dX0_bindRight_37 (by decide) (fun h => absurd h (nI_pos (by omega))) (fun _ => ?_)
      refine lv_aload_n E.1 E.2.1 dX0_bindRight_40 rfl (lv_at hl 0 rfl) ?_
      refine gX_26 E hW dX0_bindRight_41 ?_
      refine lv_iload_n E.1 E.2.1 dX0_bindRight_44 rfl (lv_at hl 3 rfl) ?_
      refine lX_26 E hW (rfl) (hf) (rfl) dX0_bindRight_45 ?_
      refine lv_goto (tgt := 55) E.1 E.2.1 dX0_bindRight_46 (by decide) ?_
      refine sX_22 E hW (rfl) (he) dX0_bindRight_55 (fun H locs hW => ?_)
      exact cv_ret E hr hlocks hW (Or.inr (Or.inr ⟨f, hf, e27, hd, rfl⟩)) dX0_bindRight_56
    · refine lv_aload_n E.1 E.2.1 dX0_bindRight_20 rfl (lv_at hl 0 rfl) ?_
      refine gX_21 E hW dX0_bindRight_21 ?_
      refine lv_iload_n E.1 E.2.1 dX0_bindRight_24 rfl (lv_at hl 1 rfl) ?_
      refine lv_iload_n E.1 E.2.1 dX0_bindRight_25 rfl (lv_at hl 3 rfl) ?_
      refine lv_i2b (v := nI f) E.1 E.2.1 dX0_bindRight_26 (x_i2b (by omega)) ?_
      refine sX_21 E hW (rfl) (he) (x_nb (by omega)) dX0_bindRight_27 (fun H locs hW => ?_)
      refine lv_goto (tgt := 56) E.1 E.2.1 dX0_bindRight_28 (by decide) ?_
      exact cv_ret E hr hlocks hW (Or.inr (Or.inl ⟨f, hf, e27, hd, rfl⟩)) dX0_bindRight_56
section L_mayLoad
variable {p : Program} {l : Launch} {e : Env} {R : Room} {s : State} {m : MethodId} {args : Array Value} {below : List Frame} {meth : Method} {c : Code} {H : Heap} {locs : List Loc} {cells slots : Nat} {Q : State → Prop}
variable {cc : ByteArray} {pc : Nat} {ls : Array Slot} {rest : List Value} {D : va_G} {cs : ClassId × ClassId × ClassId} {a : Nat → Nat} {S : St} {A : Nat → Prop} {H0 : Heap}
set_option maxHeartbeats 4000000 in
theorem lpX_mayLoad {e0 g0 : Nat} (E : XE RX0 p s m args c cX0_mayLoad D cs) (h14 : S 14 0 = nI (hd S)) (hh : hd S < 8) (he : e0 < 8) (hg : g0 ≤ 8) (hW : PW D (xW cs a S) A H0 H locs)
    (k77 : ∀ (ls : Array Slot), (∀ k, k < g0 → mlk S e0 k) → W p l e R s m args below meth c H locs cells slots Q (F0 m 77 ls [])) (k69 : ∀ (ls : Array Slot), g0 ≠ 0 → W p l e R s m args below meth c H locs cells slots Q (F0 m 69 ls [])) :
    ∀ (f k : Nat) (ls : Array Slot), k + f = g0 → (∀ j, j < k → mlk S e0 j) → lv_has ls 5 [(0, .ref (a 0)), (1, .int (nI e0)), (2, .int (nI g0)), (3, .int (nI k))] → W p l e R s m args below meth c H locs cells slots Q (F0 m 2 ls []) := by
  intro f
  induction f with
  | zero =>
    intro k ls hk hm hl
    obtain rfl : k = g0 := by omega
    refine lv_iload_n E.1 E.2.1 dX0_mayLoad_2 rfl (lv_at hl 3 rfl) ?_
    refine lv_iload_n E.1 E.2.1 dX0_mayLoad_3 rfl (lv_at hl 2 rfl) ?_
    refine lv_icmp_ge (tgt := 77) E.1 E.2.1 dX0_mayLoad_4 (by decide) (fun _ => ?_) (fun h => absurd (nI_le (Nat.le_refl _) (by omega)) h)
    exact k77 ls hm
  | succ f ih =>
    intro k ls hk hm hl
    have hkg : k < g0 := by omega
    have hs := sl_lt S k
    refine lv_iload_n E.1 E.2.1 dX0_mayLoad_2 rfl (lv_at hl 3 rfl) ?_
    refine lv_iload_n E.1 E.2.1 dX0_mayLoad_3 rfl (lv_at hl 2 rfl) ?_
    refine lv_icmp_ge (tgt := 77) E.1 E.2.1 dX0_mayLoad_4 (by decide) (fun h => absurd h (nI_ge hkg (by omega))) (fun _ => ?_)
    refine lv_aload_n E.1 E.2.1 dX0_mayLoad_7 rfl (lv_at hl 0 rfl) ?_
    refine gX_14 E hW h14 dX0_mayLoad_8 ?_
    refine lv_iload_n E.1 E.2.1 dX0_mayLoad_11 rfl (lv_at hl 3 rfl) ?_
    refine lv_iadd E.1 E.2.1 dX0_mayLoad_12 ?_
    refine x_top (y := nI (hd S + k)) (nI_add _ _) ?_
    refine lv_bipush (v := 7) E.1 E.2.1 dX0_mayLoad_13 (by decide) ?_
    refine lv_iand E.1 E.2.1 dX0_mayLoad_15 ?_
    refine x_top (y := nI (sl S k)) (x_and7 (by omega)) ?_
    refine xl_istore (lv' := [(0, _), (1, _), (2, _), (3, _), (4, _)]) E dX0_mayLoad_16 hl (by decide) [1, 2, 3, 4, 0] rfl (fun ls hl => ?_)
    refine lv_aload_n E.1 E.2.1 dX0_mayLoad_18 rfl (lv_at hl 0 rfl) ?_
    refine gX_17 E hW dX0_mayLoad_19 ?_
    refine lv_iload E.1 E.2.1 dX0_mayLoad_22 (lv_at hl 4 rfl) ?_
    refine lX_17 E hW (rfl) (hs) (rfl) dX0_mayLoad_24 ?_
    refine lv_bipush (v := 6) E.1 E.2.1 dX0_mayLoad_25 (by decide) ?_
    refine lv_icmp_eq (tgt := 33) E.1 E.2.1 dX0_mayLoad_27 (by decide) (fun h6 => ?_) (fun h6 => ?_)
    rotate_left
    · refine lv_goto (tgt := 71) E.1 E.2.1 dX0_mayLoad_30 (by decide) ?_
      refine xl_iinc (v := nI (k + 1)) (lv' := [(0, _), (1, _), (2, _), (3, _), (4, _)]) E dX0_mayLoad_71 hl (k := 3) rfl (x_inc1 k) (by decide) [1, 2, 3, 0, 4] rfl (fun ls hl => ?_)
      refine lv_goto (tgt := 2) E.1 E.2.1 dX0_mayLoad_74 (by decide) ?_
      exact ih (k + 1) _ (by omega) (fun j hj => by
        by_cases hjk : j = k
        · subst hjk; exact fun h => absurd h h6
        · exact hm j (by omega)) (lv_sub hl [0, 1, 2, 3] rfl)
    refine lv_aload_n E.1 E.2.1 dX0_mayLoad_33 rfl (lv_at hl 0 rfl) ?_
    refine gX_23 E hW dX0_mayLoad_34 ?_
    refine lv_iload E.1 E.2.1 dX0_mayLoad_37 (lv_at hl 4 rfl) ?_
    refine lX_23 E hW (rfl) (hs) (rfl) dX0_mayLoad_39 ?_
    refine lv_if_eq (tgt := 69) E.1 E.2.1 dX0_mayLoad_40 (by decide) (fun ha => ?_) (fun ha => ?_)
    · exact k69 _ (by omega)
    refine lv_aload_n E.1 E.2.1 dX0_mayLoad_43 rfl (lv_at hl 0 rfl) ?_
    refine gX_24 E hW dX0_mayLoad_44 ?_
    refine lv_iload E.1 E.2.1 dX0_mayLoad_47 (lv_at hl 4 rfl) ?_
    refine lX_24 E hW (rfl) (hs) (rfl) dX0_mayLoad_49 ?_
    refine lv_aload_n E.1 E.2.1 dX0_mayLoad_50 rfl (lv_at hl 0 rfl) ?_
    refine gX_24 E hW dX0_mayLoad_51 ?_
    refine lv_iload_n E.1 E.2.1 dX0_mayLoad_54 rfl (lv_at hl 1 rfl) ?_
    refine lX_24 E hW (rfl) (he) (rfl) dX0_mayLoad_55 ?_
    refine lv_icmp_ne (tgt := 71) E.1 E.2.1 dX0_mayLoad_56 (by decide) (fun hb => ?_) (fun hb => ?_)
    · refine xl_iinc (v := nI (k + 1)) (lv' := [(0, _), (1, _), (2, _), (3, _), (4, _)]) E dX0_mayLoad_71 hl (k := 3) rfl (x_inc1 k) (by decide) [1, 2, 3, 0, 4] rfl (fun ls hl => ?_)
      refine lv_goto (tgt := 2) E.1 E.2.1 dX0_mayLoad_74 (by decide) ?_
      exact ih (k + 1) _ (by omega) (fun j hj => by
        by_cases hjk : j = k
        · subst hjk; exact fun _ => ⟨ha, fun q => absurd q hb⟩
        · exact hm j (by omega)) (lv_sub hl [0, 1, 2, 3] rfl)
    refine lv_aload_n E.1 E.2.1 dX0_mayLoad_59 rfl (lv_at hl 0 rfl) ?_
    refine gX_25 E hW dX0_mayLoad_60 ?_
    refine lv_iload E.1 E.2.1 dX0_mayLoad_63 (lv_at hl 4 rfl) ?_
    refine lX_25 E hW (rfl) (hs) (rfl) dX0_mayLoad_65 ?_
    refine lv_if_ne (tgt := 71) E.1 E.2.1 dX0_mayLoad_66 (by decide) (fun hc => ?_) (fun hc => ?_)
    rotate_left
    · exact k69 _ (by omega)
    refine xl_iinc (v := nI (k + 1)) (lv' := [(0, _), (1, _), (2, _), (3, _), (4, _)]) E dX0_mayLoad_71 hl (k := 3) rfl (x_inc1 k) (by decide) [1, 2, 3, 0, 4] rfl (fun ls hl => ?_)
    refine lv_goto (tgt := 2) E.1 E.2.1 dX0_mayLoad_74 (by decide) ?_
    exact ih (k + 1) _ (by omega) (fun j hj => by
      by_cases hjk : j = k
      · subst hjk; exact fun _ => ⟨ha, fun _ => hc⟩
      · exact hm j (by omega)) (lv_sub hl [0, 1, 2, 3] rfl)
end L_mayLoad
set_option maxHeartbeats 4000000 in
set_option maxRecDepth 100000 in
theorem tX_mayLoad (l : Launch) (D : va_G) (cs : ClassId × ClassId × ClassId) (a : Nat → Nat) (S : St) (e0 g0 : Nat) (h14 : S 14 0 = nI (hd S)) (hh : hd S < 8) (he : e0 < 8) (hg : g0 ≤ 8) : CI l yX0_mayLoad cX0_mayLoad 5 .boolean (rm_ 0 0) D cs (xW cs a) (xAd a) [.ref (a 0), .int (nI e0), .int (nI g0)] S (fun v S1 => S1 = S ∧ ((v = 1 ∧ ∀ k, k < g0 → mlk S e0 k) ∨ (v = 0 ∧ g0 ≠ 0))) := by
  intro sz
  refine cv_start (w := xW cs a) (ad := xAd a) (C := RX0) (by decide) rfl xAd_eq (Nat.le_of_ble_eq_true rfl) ?_
  intro p e s m below meth c ls E hml hr hlocks hsz hW hl
  have hA : ∀ q, s.heap.size ≤ q → wA (xAd a) sz q := fun q h => Or.inr (hsz ▸ h)
  have hl : lv_has ls 5 [(0, .ref (a 0)), (1, .int (nI e0)), (2, .int (nI g0))] := hl
  refine lv_iconst (v := nI 0) E.1 E.2.1 dX0_mayLoad_0 (by decide) ?_
  refine xl_istore_n (lv' := [(0, _), (1, _), (2, _), (3, _)]) E dX0_mayLoad_1 rfl hl (by decide) [1, 2, 3, 0] rfl (fun ls hl => ?_)
  refine lpX_mayLoad (e0 := e0) (g0 := g0) E h14 hh he hg hW (fun ls hm => ?_) (fun ls hg0 => ?_) g0 0 _ (by omega) (fun j hj => absurd hj (Nat.not_lt_zero j)) hl
  · refine lv_iconst (v := 1) E.1 E.2.1 dX0_mayLoad_77 (by decide) ?_
    exact cz_ret E hr hlocks hW (by decide) (⟨rfl, Or.inl ⟨rfl, hm⟩⟩) dX0_mayLoad_78
  · refine lv_iconst (v := 0) E.1 E.2.1 dX0_mayLoad_69 (by decide) ?_
    exact cz_ret E hr hlocks hW (by decide) (⟨rfl, Or.inr ⟨rfl, hg0⟩⟩) dX0_mayLoad_70
section L_loadedBy
variable {p : Program} {l : Launch} {e : Env} {R : Room} {s : State} {m : MethodId} {args : Array Value} {below : List Frame} {meth : Method} {c : Code} {H : Heap} {locs : List Loc} {cells slots : Nat} {Q : State → Prop}
variable {cc : ByteArray} {pc : Nat} {ls : Array Slot} {rest : List Value} {D : va_G} {cs : ClassId × ClassId × ClassId} {a : Nat → Nat} {S : St} {A : Nat → Prop} {H0 : Heap}
set_option maxHeartbeats 4000000 in
theorem lpX_loadedBy {e0 g0 : Nat} (E : XE RX0 p s m args c cX0_loadedBy D cs) (h14 : S 14 0 = nI (hd S)) (hh : hd S < 8) (he : e0 < 8) (hg : g0 ≤ 8) (hW : PW D (xW cs a S) A H0 H locs)
    (k75 : ∀ (ls : Array Slot), lv_has ls 6 [(0, .ref (a 0)), (1, .int (nI e0)), (2, .int (nI g0)), (3, .int (ldf S e0 g0)), (4, .int (nI g0))] → W p l e R s m args below meth c H locs cells slots Q (F0 m 75 ls [])) :
    ∀ (f k : Nat) (ls : Array Slot), k + f = g0 → lv_has ls 6 [(0, .ref (a 0)), (1, .int (nI e0)), (2, .int (nI g0)), (3, .int (ldf S e0 k)), (4, .int (nI k))] → W p l e R s m args below meth c H locs cells slots Q (F0 m 15 ls []) := by
  intro f
  induction f with
  | zero =>
    intro k ls hk hl
    obtain rfl : k = g0 := by omega
    refine lv_iload E.1 E.2.1 dX0_loadedBy_15 (lv_at hl 4 rfl) ?_
    refine lv_iload_n E.1 E.2.1 dX0_loadedBy_17 rfl (lv_at hl 2 rfl) ?_
    refine lv_icmp_ge (tgt := 75) E.1 E.2.1 dX0_loadedBy_18 (by decide) (fun _ => ?_) (fun h => absurd (nI_le (Nat.le_refl _) (by omega)) h)
    exact k75 ls hl
  | succ f ih =>
    intro k ls hk hl
    have hkg : k < g0 := by omega
    have hs := sl_lt S k
    refine lv_iload E.1 E.2.1 dX0_loadedBy_15 (lv_at hl 4 rfl) ?_
    refine lv_iload_n E.1 E.2.1 dX0_loadedBy_17 rfl (lv_at hl 2 rfl) ?_
    refine lv_icmp_ge (tgt := 75) E.1 E.2.1 dX0_loadedBy_18 (by decide) (fun h => absurd h (nI_ge hkg (by omega))) (fun _ => ?_)
    refine lv_aload_n E.1 E.2.1 dX0_loadedBy_21 rfl (lv_at hl 0 rfl) ?_
    refine gX_14 E hW h14 dX0_loadedBy_22 ?_
    refine lv_iload E.1 E.2.1 dX0_loadedBy_25 (lv_at hl 4 rfl) ?_
    refine lv_iadd E.1 E.2.1 dX0_loadedBy_27 ?_
    refine x_top (y := nI (hd S + k)) (nI_add _ _) ?_
    refine lv_bipush (v := 7) E.1 E.2.1 dX0_loadedBy_28 (by decide) ?_
    refine lv_iand E.1 E.2.1 dX0_loadedBy_30 ?_
    refine x_top (y := nI (sl S k)) (x_and7 (by omega)) ?_
    refine xl_istore (lv' := [(0, _), (1, _), (2, _), (3, _), (4, _), (5, _)]) E dX0_loadedBy_31 hl (by decide) [1, 2, 3, 4, 5, 0] rfl (fun ls hl => ?_)
    refine lv_aload_n E.1 E.2.1 dX0_loadedBy_33 rfl (lv_at hl 0 rfl) ?_
    refine gX_17 E hW dX0_loadedBy_34 ?_
    refine lv_iload E.1 E.2.1 dX0_loadedBy_37 (lv_at hl 5 rfl) ?_
    refine lX_17 E hW (rfl) (hs) (rfl) dX0_loadedBy_39 ?_
    refine lv_bipush (v := 6) E.1 E.2.1 dX0_loadedBy_40 (by decide) ?_
    refine lv_icmp_ne (tgt := 69) E.1 E.2.1 dX0_loadedBy_42 (by decide) (fun h6 => ?_) (fun h6 => ?_)
    · have hv : ldf S e0 (k + 1) = ldf S e0 k := if_neg (fun q => h6 q.1)
      refine xl_iinc (v := nI (k + 1)) (lv' := [(0, _), (1, _), (2, _), (3, _), (4, _), (5, _)]) E dX0_loadedBy_69 hl (k := 4) rfl (x_inc1 k) (by decide) [1, 2, 3, 4, 0, 5] rfl (fun ls hl => ?_)
      refine lv_goto (tgt := 15) E.1 E.2.1 dX0_loadedBy_72 (by decide) ?_
      exact ih (k + 1) _ (by omega) (by rw [hv]; exact lv_sub hl [0, 1, 2, 3, 4] rfl)
    refine lv_aload_n E.1 E.2.1 dX0_loadedBy_45 rfl (lv_at hl 0 rfl) ?_
    refine gX_24 E hW dX0_loadedBy_46 ?_
    refine lv_iload E.1 E.2.1 dX0_loadedBy_49 (lv_at hl 5 rfl) ?_
    refine lX_24 E hW (rfl) (hs) (rfl) dX0_loadedBy_51 ?_
    refine lv_aload_n E.1 E.2.1 dX0_loadedBy_52 rfl (lv_at hl 0 rfl) ?_
    refine gX_24 E hW dX0_loadedBy_53 ?_
    refine lv_iload_n E.1 E.2.1 dX0_loadedBy_56 rfl (lv_at hl 1 rfl) ?_
    refine lX_24 E hW (rfl) (he) (rfl) dX0_loadedBy_57 ?_
    refine lv_icmp_ne (tgt := 69) E.1 E.2.1 dX0_loadedBy_58 (by decide) (fun hb => ?_) (fun hb => ?_)
    · have hv : ldf S e0 (k + 1) = ldf S e0 k := if_neg (fun q => hb q.2)
      refine xl_iinc (v := nI (k + 1)) (lv' := [(0, _), (1, _), (2, _), (3, _), (4, _), (5, _)]) E dX0_loadedBy_69 hl (k := 4) rfl (x_inc1 k) (by decide) [1, 2, 3, 4, 0, 5] rfl (fun ls hl => ?_)
      refine lv_goto (tgt := 15) E.1 E.2.1 dX0_loadedBy_72 (by decide) ?_
      exact ih (k + 1) _ (by omega) (by rw [hv]; exact lv_sub hl [0, 1, 2, 3, 4] rfl)
    refine lv_aload_n E.1 E.2.1 dX0_loadedBy_61 rfl (lv_at hl 0 rfl) ?_
    refine gX_26 E hW dX0_loadedBy_62 ?_
    refine lv_iload E.1 E.2.1 dX0_loadedBy_65 (lv_at hl 5 rfl) ?_
    refine lX_26 E hW (rfl) (hs) (rfl) dX0_loadedBy_67 ?_
    refine xl_istore_n (lv' := [(0, _), (1, _), (2, _), (3, _), (4, _), (5, _)]) E dX0_loadedBy_68 rfl hl (by decide) [1, 2, 3, 0, 4, 5] rfl (fun ls hl => ?_)
    have hv : ldf S e0 (k + 1) = S 26 (sl S k) := if_pos ⟨h6, hb⟩
    refine xl_iinc (v := nI (k + 1)) (lv' := [(0, _), (1, _), (2, _), (3, _), (4, _), (5, _)]) E dX0_loadedBy_69 hl (k := 4) rfl (x_inc1 k) (by decide) [1, 2, 3, 4, 0, 5] rfl (fun ls hl => ?_)
    refine lv_goto (tgt := 15) E.1 E.2.1 dX0_loadedBy_72 (by decide) ?_
    exact ih (k + 1) _ (by omega) (by rw [hv]; exact lv_sub hl [0, 1, 2, 3, 4] rfl)
end L_loadedBy
set_option maxHeartbeats 4000000 in
set_option maxRecDepth 100000 in
theorem tX_loadedBy (l : Launch) (D : va_G) (cs : ClassId × ClassId × ClassId) (a : Nat → Nat) (S : St) (e0 g0 : Nat) (h14 : S 14 0 = nI (hd S)) (hh : hd S < 8) (he : e0 < 8) (hg : g0 ≤ 8) (h24 : isN (S 24 e0) 16) : CI l yX0_loadedBy cX0_loadedBy 6 .int (rm_ 0 0) D cs (xW cs a) (xAd a) [.ref (a 0), .int (nI e0), .int (nI g0)] S (fun v S1 => S1 = S ∧ v = ldf S e0 g0) := by
  intro sz
  refine cv_start (w := xW cs a) (ad := xAd a) (C := RX0) (by decide) rfl xAd_eq (Nat.le_of_ble_eq_true rfl) ?_
  intro p e s m below meth c ls E hml hr hlocks hsz hW hl
  have hA : ∀ q, s.heap.size ≤ q → wA (xAd a) sz q := fun q h => Or.inr (hsz ▸ h)
  have hl : lv_has ls 6 [(0, .ref (a 0)), (1, .int (nI e0)), (2, .int (nI g0))] := hl
  refine lv_aload_n E.1 E.2.1 dX0_loadedBy_0 rfl (lv_at hl 0 rfl) ?_
  refine gX_6 E hW dX0_loadedBy_1 ?_
  refine lv_aload_n E.1 E.2.1 dX0_loadedBy_4 rfl (lv_at hl 0 rfl) ?_
  refine gX_24 E hW dX0_loadedBy_5 ?_
  refine lv_iload_n E.1 E.2.1 dX0_loadedBy_8 rfl (lv_at hl 1 rfl) ?_
  refine lX_24 E hW (rfl) (he) (rfl) dX0_loadedBy_9 ?_
  refine lX_6 E hW ((h24.nt (by decide)).1) ((h24.nt (by decide)).2) (rfl) dX0_loadedBy_10 ?_
  refine xl_istore_n (lv' := [(0, _), (1, _), (2, _), (3, _)]) E dX0_loadedBy_11 rfl hl (by decide) [1, 2, 3, 0] rfl (fun ls hl => ?_)
  refine lv_iconst (v := nI 0) E.1 E.2.1 dX0_loadedBy_12 (by decide) ?_
  refine xl_istore (lv' := [(0, _), (1, _), (2, _), (3, _), (4, _)]) E dX0_loadedBy_13 hl (by decide) [1, 2, 3, 4, 0] rfl (fun ls hl => ?_)
  refine lpX_loadedBy (e0 := e0) (g0 := g0) E h14 hh he hg hW (fun ls hl => ?_) g0 0 _ (by omega) hl
  refine lv_iload_n E.1 E.2.1 dX0_loadedBy_75 rfl (lv_at hl 3 rfl) ?_
  exact ci_ret E hr hlocks hW (⟨rfl, rfl⟩) dX0_loadedBy_76
def anh (S1 S2 : St) (w e F G : Nat) : Prop := (∀ q, q ≠ F → q ≠ G → S2 q = S1 q) ∧ (∀ j, j ≠ w → S2 F j = S1 F j ∧ S2 G j = S1 G j) ∧ (S1 F w = nI e → S2 F w = -1 ∧ S2 G w = S1 26 e) ∧ (S1 F w ≠ nI e → S2 F w = S1 F w ∧ S2 G w = S1 G w)
theorem anh_0 {S1 : St} {w e F G : Nat} (h : ¬ S1 F w = nI e) : anh S1 S1 w e F G := ⟨fun _ _ _ => rfl, fun _ _ => ⟨rfl, rfl⟩, fun q => absurd q h, fun _ => ⟨rfl, rfl⟩⟩
theorem anh_1 {S1 : St} {w e F G : Nat} (hFG : G ≠ F) (h : S1 F w = nI e) : anh S1 (sput (sput S1 F w (-1)) G w (S1 26 e)) w e F G := by
  refine ⟨fun q h1 h2 => by rw [sput_k h2, sput_k h1], fun j hj => ⟨by rw [sput_k (Ne.symm hFG), sput_j hj], by rw [sput_j hj, sput_k hFG]⟩, fun _ => ⟨by rw [sput_k (Ne.symm hFG)]; exact sput_s, sput_s⟩, fun q => absurd h q⟩
/-- the loop's state behind k entries -/
def anI (S S1 : St) (e k : Nat) : Prop := (∀ q, q ≠ 19 → q ≠ 20 → q ≠ 21 → q ≠ 22 → S1 q = S q) ∧ (∀ j, j < en S → j < k → annk S S1 (sl S j) e) ∧ (∀ j, j < en S → ¬ j < k → S1 19 (sl S j) = S 19 (sl S j) ∧ S1 20 (sl S j) = S 20 (sl S j) ∧ S1 21 (sl S j) = S 21 (sl S j) ∧ S1 22 (sl S j) = S 22 (sl S j))
theorem anI_next {S S1 S2 S3 : St} {e k : Nat} (hn : en S ≤ 8) (hk : k < en S) (h : anI S S1 e k) (h2 : anh S1 S2 (sl S k) e 19 20) (h3 : anh S2 S3 (sl S k) e 21 22) : anI S S3 e (k + 1) := by
  obtain ⟨a1, a2, a3⟩ := h
  obtain ⟨b1, b2, b3, b4⟩ := h2
  obtain ⟨c1, c2, c3, c4⟩ := h3
  have hne : ∀ j, j < en S → j ≠ k → sl S j ≠ sl S k := fun j hj hjk e => hjk (sl_inj (by omega) (by omega) e)
  have e19 : S3 19 = S2 19 := c1 19 (by decide) (by decide)
  have e20 : S3 20 = S2 20 := c1 20 (by decide) (by decide)
  have e21 : S2 21 = S1 21 := b1 21 (by decide) (by decide)
  have e22 : S2 22 = S1 22 := b1 22 (by decide) (by decide)
  have e26 : S1 26 = S 26 := a1 26 (by decide) (by decide) (by decide) (by decide)
  have e262 : S2 26 = S 26 := (b1 26 (by decide) (by decide)).trans e26
  have keep : ∀ j, j < en S → j ≠ k → S3 19 (sl S j) = S1 19 (sl S j) ∧ S3 20 (sl S j) = S1 20 (sl S j) ∧ S3 21 (sl S j) = S1 21 (sl S j) ∧ S3 22 (sl S j) = S1 22 (sl S j) := fun j hj hjk => by
    have hn := hne j hj hjk
    exact ⟨by rw [e19]; exact (b2 _ hn).1, by rw [e20]; exact (b2 _ hn).2, by rw [(c2 _ hn).1, e21], by rw [(c2 _ hn).2, e22]⟩
  refine ⟨fun q h1 h2 h3 h4 => by rw [c1 q h3 h4, b1 q h1 h2, a1 q h1 h2 h3 h4], fun j hj hjk => ?_, fun j hj hjk => ?_⟩
  · by_cases hjk2 : j = k
    · subst hjk2
      obtain ⟨d1, d2, d3, d4⟩ := a3 j hj (Nat.lt_irrefl j)
      rw [e21] at c3 c4
      rw [e22] at c4
      rw [d1] at b3 b4; rw [d2] at b4; rw [d3] at c3 c4; rw [d4] at c4
      rw [e26] at b3; rw [e262] at c3
      refine ⟨fun q => ?_, fun q => ?_, c3, c4⟩
      · rw [e19, e20]; exact b3 q
      · rw [e19, e20]; exact b4 q
    · obtain ⟨d1, d2, d3, d4⟩ := keep j hj hjk2
      unfold annk
      rw [d1, d2, d3, d4]
      exact a2 j hj (by omega)
  · obtain ⟨d1, d2, d3, d4⟩ := keep j hj (by omega)
    obtain ⟨f1, f2, f3, f4⟩ := a3 j hj (by omega)
    exact ⟨d1.trans f1, d2.trans f2, d3.trans f3, d4.trans f4⟩
section L_announce
variable {p : Program} {l : Launch} {e : Env} {R : Room} {s : State} {m : MethodId} {args : Array Value} {below : List Frame} {meth : Method} {c : Code} {H : Heap} {locs : List Loc} {cells slots : Nat} {Q : State → Prop}
variable {cc : ByteArray} {pc : Nat} {ls : Array Slot} {rest : List Value} {D : va_G} {cs : ClassId × ClassId × ClassId} {a : Nat → Nat} {S : St} {A : Nat → Prop} {H0 : Heap}
set_option maxHeartbeats 4000000 in
theorem lpX_announce {e0 : Nat} (E : XE RX0 p s m args c cX0_announce D cs) (h14 : S 14 0 = nI (hd S)) (hh : hd S < 8) (h15 : S 15 0 = nI (en S)) (hn : en S ≤ 8) (he : e0 < 8)
    (k84 : ∀ (S1 : St) (H : Heap) (locs : List Loc) (ls : Array Slot), anI S S1 e0 (en S) → PW D (xW cs a S1) A H0 H locs → W p l e R s m args below meth c H locs cells slots Q (F0 m 84 ls [])) :
    ∀ (f k : Nat) (S1 : St) (H : Heap) (locs : List Loc) (ls : Array Slot), k + f = en S → anI S S1 e0 k → PW D (xW cs a S1) A H0 H locs → lv_has ls 4 [(0, .ref (a 0)), (1, .int (nI e0)), (2, .int (nI k))] → W p l e R s m args below meth c H locs cells slots Q (F0 m 2 ls []) := by
  intro f
  induction f with
  | zero =>
    intro k S1 H locs ls hk hI hW hl
    obtain rfl : k = en S := by omega
    have e15 : S1 15 0 = nI (en S) := by rw [hI.1 15 (by decide) (by decide) (by decide) (by decide)]; exact h15
    refine lv_iload_n E.1 E.2.1 dX0_announce_2 rfl (lv_at hl 2 rfl) ?_
    refine lv_aload_n E.1 E.2.1 dX0_announce_3 rfl (lv_at hl 0 rfl) ?_
    refine gX_15 E hW e15 dX0_announce_4 ?_
    refine lv_icmp_ge (tgt := 84) E.1 E.2.1 dX0_announce_7 (by decide) (fun _ => ?_) (fun h => absurd (nI_le (Nat.le_refl _) (by omega)) h)
    exact k84 S1 H locs ls hI hW
  | succ f ih =>
    intro k S1 H locs ls hk hI hW hl
    have hkn : k < en S := by omega
    have hs := sl_lt S k
    have e15 : S1 15 0 = nI (en S) := by rw [hI.1 15 (by decide) (by decide) (by decide) (by decide)]; exact h15
    have e14 : S1 14 0 = nI (hd S) := by rw [hI.1 14 (by decide) (by decide) (by decide) (by decide)]; exact h14
    refine lv_iload_n E.1 E.2.1 dX0_announce_2 rfl (lv_at hl 2 rfl) ?_
    refine lv_aload_n E.1 E.2.1 dX0_announce_3 rfl (lv_at hl 0 rfl) ?_
    refine gX_15 E hW e15 dX0_announce_4 ?_
    refine lv_icmp_ge (tgt := 84) E.1 E.2.1 dX0_announce_7 (by decide) (fun h => absurd h (nI_ge hkn (by omega))) (fun _ => ?_)
    refine lv_aload_n E.1 E.2.1 dX0_announce_10 rfl (lv_at hl 0 rfl) ?_
    refine gX_14 E hW e14 dX0_announce_11 ?_
    refine lv_iload_n E.1 E.2.1 dX0_announce_14 rfl (lv_at hl 2 rfl) ?_
    refine lv_iadd E.1 E.2.1 dX0_announce_15 ?_
    refine x_top (y := nI (hd S + k)) (nI_add _ _) ?_
    refine lv_bipush (v := 7) E.1 E.2.1 dX0_announce_16 (by decide) ?_
    refine lv_iand E.1 E.2.1 dX0_announce_18 ?_
    refine x_top (y := nI (sl S k)) (x_and7 (by omega)) ?_
    refine xl_istore_n (lv' := [(0, _), (1, _), (2, _), (3, _)]) E dX0_announce_19 rfl hl (by decide) [1, 2, 3, 0] rfl (fun ls hl => ?_)
    refine x_joinS (w := xW cs a) (A := A) (H0 := H0) (D := D) (pj := 49) (lj := ls) (rj := []) (fun S2 => anh S1 S2 (sl S k) e0 19 20) (fun join => ?_) (fun S2 H locs hj hW => ?_)
    · refine lv_aload_n E.1 E.2.1 dX0_announce_20 rfl (lv_at hl 0 rfl) ?_
      refine gX_19 E hW dX0_announce_21 ?_
      refine lv_iload_n E.1 E.2.1 dX0_announce_24 rfl (lv_at hl 3 rfl) ?_
      refine lX_19 E hW (rfl) (hs) (rfl) dX0_announce_25 ?_
      refine lv_iload_n E.1 E.2.1 dX0_announce_26 rfl (lv_at hl 1 rfl) ?_
      refine lv_icmp_ne (tgt := 49) E.1 E.2.1 dX0_announce_27 (by decide) (fun hc => ?_) (fun hc => ?_)
      · exact join _ _ _ (anh_0 hc) hW
      · refine lv_aload_n E.1 E.2.1 dX0_announce_30 rfl (lv_at hl 0 rfl) ?_
        refine gX_19 E hW dX0_announce_31 ?_
        refine lv_iload_n E.1 E.2.1 dX0_announce_34 rfl (lv_at hl 3 rfl) ?_
        refine lv_iconst (v := (-1)) E.1 E.2.1 dX0_announce_35 (by decide) ?_
        refine sX_19 E hW (rfl) (hs) (x_nbm) dX0_announce_36 (fun H locs hW => ?_)
        refine lv_aload_n E.1 E.2.1 dX0_announce_37 rfl (lv_at hl 0 rfl) ?_
        refine gX_20 E hW dX0_announce_38 ?_
        refine lv_iload_n E.1 E.2.1 dX0_announce_41 rfl (lv_at hl 3 rfl) ?_
        refine lv_aload_n E.1 E.2.1 dX0_announce_42 rfl (lv_at hl 0 rfl) ?_
        refine gX_26 E hW dX0_announce_43 ?_
        refine lv_iload_n E.1 E.2.1 dX0_announce_46 rfl (lv_at hl 1 rfl) ?_
        refine lX_26 E hW (rfl) (he) (rfl) dX0_announce_47 ?_
        refine sX_20 E hW (rfl) (hs) dX0_announce_48 (fun H locs hW => ?_)
        exact join _ _ _ (anh_1 (by decide) hc) hW
    refine x_joinS (w := xW cs a) (A := A) (H0 := H0) (D := D) (pj := 78) (lj := ls) (rj := []) (fun S3 => anh S2 S3 (sl S k) e0 21 22) (fun join => ?_) (fun S3 H locs hj3 hW => ?_)
    · refine lv_aload_n E.1 E.2.1 dX0_announce_49 rfl (lv_at hl 0 rfl) ?_
      refine gX_21 E hW dX0_announce_50 ?_
      refine lv_iload_n E.1 E.2.1 dX0_announce_53 rfl (lv_at hl 3 rfl) ?_
      refine lX_21 E hW (rfl) (hs) (rfl) dX0_announce_54 ?_
      refine lv_iload_n E.1 E.2.1 dX0_announce_55 rfl (lv_at hl 1 rfl) ?_
      refine lv_icmp_ne (tgt := 78) E.1 E.2.1 dX0_announce_56 (by decide) (fun hc => ?_) (fun hc => ?_)
      · exact join _ _ _ (anh_0 hc) hW
      · refine lv_aload_n E.1 E.2.1 dX0_announce_59 rfl (lv_at hl 0 rfl) ?_
        refine gX_21 E hW dX0_announce_60 ?_
        refine lv_iload_n E.1 E.2.1 dX0_announce_63 rfl (lv_at hl 3 rfl) ?_
        refine lv_iconst (v := (-1)) E.1 E.2.1 dX0_announce_64 (by decide) ?_
        refine sX_21 E hW (rfl) (hs) (x_nbm) dX0_announce_65 (fun H locs hW => ?_)
        refine lv_aload_n E.1 E.2.1 dX0_announce_66 rfl (lv_at hl 0 rfl) ?_
        refine gX_22 E hW dX0_announce_67 ?_
        refine lv_iload_n E.1 E.2.1 dX0_announce_70 rfl (lv_at hl 3 rfl) ?_
        refine lv_aload_n E.1 E.2.1 dX0_announce_71 rfl (lv_at hl 0 rfl) ?_
        refine gX_26 E hW dX0_announce_72 ?_
        refine lv_iload_n E.1 E.2.1 dX0_announce_75 rfl (lv_at hl 1 rfl) ?_
        refine lX_26 E hW (rfl) (he) (rfl) dX0_announce_76 ?_
        refine sX_22 E hW (rfl) (hs) dX0_announce_77 (fun H locs hW => ?_)
        exact join _ _ _ (anh_1 (by decide) hc) hW
    refine xl_iinc (v := nI (k + 1)) (lv' := [(0, _), (1, _), (2, _), (3, _)]) E dX0_announce_78 hl (k := 2) rfl (x_inc1 k) (by decide) [1, 2, 0, 3] rfl (fun ls hl => ?_)
    refine lv_goto (tgt := 2) E.1 E.2.1 dX0_announce_81 (by decide) ?_
    exact ih (k + 1) S3 _ _ _ (by omega) (anI_next hn hkn hI hj hj3) hW (lv_sub hl [0, 1, 2] rfl)
end L_announce
set_option maxHeartbeats 4000000 in
set_option maxRecDepth 100000 in
theorem tX_announce (l : Launch) (D : va_G) (cs : ClassId × ClassId × ClassId) (a : Nat → Nat) (S : St) (e0 : Nat) (h14 : S 14 0 = nI (hd S)) (hh : hd S < 8) (h15 : S 15 0 = nI (en S)) (hn : en S ≤ 8) (he : e0 < 8) : CV l yX0_announce cX0_announce 4 (rm_ 0 0) D cs (xW cs a) (xAd a) [.ref (a 0), .int (nI e0)] S (fun S1 => ann S S1 e0) := by
  intro sz
  refine cv_start (w := xW cs a) (ad := xAd a) (C := RX0) (by decide) rfl xAd_eq (Nat.le_of_ble_eq_true rfl) ?_
  intro p e s m below meth c ls E hml hr hlocks hsz hW hl
  have hA : ∀ q, s.heap.size ≤ q → wA (xAd a) sz q := fun q h => Or.inr (hsz ▸ h)
  have hl : lv_has ls 4 [(0, .ref (a 0)), (1, .int (nI e0))] := hl
  refine lv_iconst (v := nI 0) E.1 E.2.1 dX0_announce_0 (by decide) ?_
  refine xl_istore_n (lv' := [(0, _), (1, _), (2, _)]) E dX0_announce_1 rfl hl (by decide) [1, 2, 0] rfl (fun ls hl => ?_)
  refine lpX_announce (e0 := e0) E h14 hh h15 hn he (fun S1 H locs ls hI hW => ?_) (en S) 0 S _ _ _ (by omega) ⟨fun _ _ _ _ _ => rfl, fun j _ hj => absurd hj (Nat.not_lt_zero j), fun _ _ _ => ⟨rfl, rfl, rfl, rfl⟩⟩ hW hl
  exact cv_ret E hr hlocks hW (⟨hI.1, fun k hk => hI.2.1 k hk hk⟩) dX0_announce_84
end
section
set_option maxRecDepth 100000
def wfT (S : St) : Prop := (∀ j, j < 24 → isN (S 11 j) 25) ∧ (∀ j, j < 8 → isN (S 10 j) 4) ∧ (∀ j, j < 3 → isN (S 12 j) 25) ∧ isN (S 13 0) 3
section L_fillTrace
variable {p : Program} {l : Launch} {e : Env} {R : Room} {s : State} {m : MethodId} {args : Array Value} {below : List Frame} {meth : Method} {c : Code} {H : Heap} {locs : List Loc} {cells slots : Nat} {Q : State → Prop}
variable {cc : ByteArray} {pc : Nat} {ls : Array Slot} {rest : List Value} {D : va_G} {cs : ClassId × ClassId × ClassId} {a : Nat → Nat} {S : St} {A : Nat → Prop} {H0 : Heap}
set_option maxHeartbeats 4000000 in
theorem lpX_fillTrace {t0 i0 : Nat} (E : XE RX0 p s m args c cX0_fillTrace D cs) (hi : i0 < 8) (h12 : ∀ j, j < 3 → isN (S 12 j) 25)
    (k69 : ∀ (S1 : St) (H : Heap) (locs : List Loc) (ls : Array Slot), (∀ q, q ≠ 11 → S1 q = S q) → (∀ j, j < 24 → isN (S1 11 j) 25) → PW D (xW cs a S1) A H0 H locs → lv_has ls 4 [(0, .ref (a 0)), (1, .int (nI t0)), (2, .int (nI i0))] → W p l e R s m args below meth c H locs cells slots Q (F0 m 69 ls [])) :
    ∀ (f k : Nat) (S1 : St) (H : Heap) (locs : List Loc) (ls : Array Slot), k + f = 3 → (∀ q, q ≠ 11 → S1 q = S q) → (∀ j, j < 24 → isN (S1 11 j) 25) → PW D (xW cs a S1) A H0 H locs → lv_has ls 4 [(0, .ref (a 0)), (1, .int (nI t0)), (2, .int (nI i0)), (3, .int (nI k))] → W p l e R s m args below meth c H locs cells slots Q (F0 m 42 ls []) := by
  intro f
  induction f with
  | zero =>
    intro k S1 H locs ls hk h1 h2 hW hl
    obtain rfl : k = 3 := by omega
    refine lv_iload_n E.1 E.2.1 dX0_fillTrace_42 rfl (lv_at hl 3 rfl) ?_
    refine lv_iconst (v := nI 3) E.1 E.2.1 dX0_fillTrace_43 (by decide) ?_
    refine lv_icmp_ge (tgt := 69) E.1 E.2.1 dX0_fillTrace_44 (by decide) (fun _ => ?_) (fun h => absurd (nI_le (Nat.le_refl _) (by omega)) h)
    exact k69 S1 H locs ls h1 h2 hW (lv_sub hl [0, 1, 2] rfl)
  | succ f ih =>
    intro k S1 H locs ls hk h1 h2 hW hl
    have hkg : k < 3 := by omega
    obtain ⟨t, ht, et⟩ : isN (S1 12 k) 25 := by rw [h1 12 (by decide)]; exact h12 k hkg
    refine lv_iload_n E.1 E.2.1 dX0_fillTrace_42 rfl (lv_at hl 3 rfl) ?_
    refine lv_iconst (v := nI 3) E.1 E.2.1 dX0_fillTrace_43 (by decide) ?_
    refine lv_icmp_ge (tgt := 69) E.1 E.2.1 dX0_fillTrace_44 (by decide) (fun h => absurd h (nI_ge hkg (by omega))) (fun _ => ?_)
    refine lv_aload_n E.1 E.2.1 dX0_fillTrace_47 rfl (lv_at hl 0 rfl) ?_
    refine gX_11 E hW dX0_fillTrace_48 ?_
    refine lv_iconst (v := nI 3) E.1 E.2.1 dX0_fillTrace_51 (by decide) ?_
    refine lv_iload_n E.1 E.2.1 dX0_fillTrace_52 rfl (lv_at hl 2 rfl) ?_
    refine lv_imul E.1 E.2.1 dX0_fillTrace_53 ?_
    refine x_top (y := nI (3 * i0)) (pk_mul 3 i0) ?_
    refine lv_iload_n E.1 E.2.1 dX0_fillTrace_54 rfl (lv_at hl 3 rfl) ?_
    refine lv_iadd E.1 E.2.1 dX0_fillTrace_55 ?_
    refine x_top (y := nI (3 * i0 + k)) (nI_add _ _) ?_
    refine lv_aload_n E.1 E.2.1 dX0_fillTrace_56 rfl (lv_at hl 0 rfl) ?_
    refine gX_12 E hW dX0_fillTrace_57 ?_
    refine lv_iload_n E.1 E.2.1 dX0_fillTrace_60 rfl (lv_at hl 3 rfl) ?_
    refine lX_12 E hW (rfl) (hkg) (et) dX0_fillTrace_61 ?_
    refine sX_11 E hW (rfl) (by omega) (x_nb (by omega)) dX0_fillTrace_62 (fun H locs hW => ?_)
    refine xl_iinc (v := nI (k + 1)) (lv' := [(0, _), (1, _), (2, _), (3, _)]) E dX0_fillTrace_63 hl (k := 3) rfl (x_inc1 k) (by decide) [1, 2, 3, 0] rfl (fun ls hl => ?_)
    refine lv_goto (tgt := 42) E.1 E.2.1 dX0_fillTrace_66 (by decide) ?_
    exact ih (k + 1) (sput S1 11 (3 * i0 + k) (nI t)) _ _ _ (by omega) (fun q hq => by rw [sput_k hq]; exact h1 q hq) (fun j hj => by
      by_cases e : j = 3 * i0 + k
      · subst e; rw [sput_s]; exact ⟨t, ht, rfl⟩
      · rw [sput_j e]; exact h2 j hj) hW hl
end L_fillTrace
set_option maxHeartbeats 4000000 in
set_option maxRecDepth 100000 in
theorem tX_fillTrace (l : Launch) (D : va_G) (cs : ClassId × ClassId × ClassId) (a : Nat → Nat) (S : St) (t0 : Nat) (hT : wfT S) (ht0 : t0 < 25) : CV l yX0_fillTrace cX0_fillTrace 4 (rm_ 0 0) D cs (xW cs a) (xAd a) [.ref (a 0), .int (nI t0)] S (fun S1 => (∀ q, q ≠ 10 → q ≠ 11 → q ≠ 12 → q ≠ 13 → S1 q = S q) ∧ wfT S1) := by
  intro sz
  refine cv_start (w := xW cs a) (ad := xAd a) (C := RX0) (by decide) rfl xAd_eq (Nat.le_of_ble_eq_true rfl) ?_
  intro p e s m below meth c ls E hml hr hlocks hsz hW hl
  have hA : ∀ q, s.heap.size ≤ q → wA (xAd a) sz q := fun q h => Or.inr (hsz ▸ h)
  have hl : lv_has ls 4 [(0, .ref (a 0)), (1, .int (nI t0))] := hl
  obtain ⟨T11, T10, T12, f0, hf0, e13⟩ := hT
  refine lv_aload_n E.1 E.2.1 dX0_fillTrace_0 rfl (lv_at hl 0 rfl) ?_
  refine gX_12 E hW dX0_fillTrace_1 ?_
  refine lv_aload_n E.1 E.2.1 dX0_fillTrace_4 rfl (lv_at hl 0 rfl) ?_
  refine gX_13 E hW e13 dX0_fillTrace_5 ?_
  refine lv_iload_n E.1 E.2.1 dX0_fillTrace_8 rfl (lv_at hl 1 rfl) ?_
  refine lv_i2b (v := nI t0) E.1 E.2.1 dX0_fillTrace_9 (x_i2b (by omega)) ?_
  refine sX_12 E hW (rfl) (hf0) (x_nb (by omega)) dX0_fillTrace_10 (fun H locs hW => ?_)
  refine lv_aload_n E.1 E.2.1 dX0_fillTrace_11 rfl (lv_at hl 0 rfl) ?_
  refine lv_dup E.1 E.2.1 dX0_fillTrace_12 rfl ?_
  refine gX_13 E hW e13 dX0_fillTrace_13 ?_
  refine lv_iconst (v := 1) E.1 E.2.1 dX0_fillTrace_16 (by decide) ?_
  refine lv_iadd E.1 E.2.1 dX0_fillTrace_17 ?_
  refine x_top (y := nI (f0 + 1)) (nI_1 f0) ?_
  refine pX_13 E hW dX0_fillTrace_18 (fun H locs hW => ?_)
  refine lv_aload_n E.1 E.2.1 dX0_fillTrace_21 rfl (lv_at hl 0 rfl) ?_
  refine gX_13 E hW (show sput (sput S 12 f0 (nI t0)) 13 0 (nI (f0 + 1)) 13 0 = nI (f0 + 1) from rfl) dX0_fillTrace_22 ?_
  refine lv_iconst (v := nI 3) E.1 E.2.1 dX0_fillTrace_25 (by decide) ?_
  have T12' : ∀ j, j < 3 → isN (sput (sput S 12 f0 (nI t0)) 13 0 (nI (f0 + 1)) 12 j) 25 := fun j hj => by
    rw [sput_k (by decide)]
    by_cases e : j = f0
    · subst e; rw [sput_s]; exact ⟨t0, ht0, rfl⟩
    · rw [sput_j e]; exact T12 j hj
  refine lv_icmp_ge (tgt := 30) E.1 E.2.1 dX0_fillTrace_26 (by decide) (fun hc => ?_) (fun hc => ?_)
  rotate_left
  · have hc : f0 + 1 < 3 := nI_nleI (by omega) (by omega) hc
    exact cv_ret E hr hlocks hW (⟨fun q h1 h2 h3 h4 => by rw [sput_k h4, sput_k h3], T11, T10, T12', f0 + 1, hc, rfl⟩) dX0_fillTrace_29
  obtain ⟨t, ht, et⟩ := T12' 0 (by decide)
  refine lv_aload_n E.1 E.2.1 dX0_fillTrace_30 rfl (lv_at hl 0 rfl) ?_
  refine gX_12 E hW dX0_fillTrace_31 ?_
  refine lv_iconst (v := nI 0) E.1 E.2.1 dX0_fillTrace_34 (by decide) ?_
  refine lX_12 E hW (rfl) (by decide) (et) dX0_fillTrace_35 ?_
  refine lv_bipush (v := 7) E.1 E.2.1 dX0_fillTrace_36 (by decide) ?_
  refine lv_iand E.1 E.2.1 dX0_fillTrace_38 ?_
  refine x_top (y := nI (t % 8)) (x_and7 (by omega)) ?_
  refine xl_istore_n (lv' := [(0, _), (1, _), (2, _)]) E dX0_fillTrace_39 rfl hl (by decide) [1, 2, 0] rfl (fun ls hl => ?_)
  refine lv_iconst (v := nI 0) E.1 E.2.1 dX0_fillTrace_40 (by decide) ?_
  refine xl_istore_n (lv' := [(0, _), (1, _), (2, _), (3, _)]) E dX0_fillTrace_41 rfl hl (by decide) [1, 2, 3, 0] rfl (fun ls hl => ?_)
  refine lpX_fillTrace (t0 := t0) (i0 := t % 8) (S := sput (sput S 12 f0 (nI t0)) 13 0 (nI (f0 + 1))) E (Nat.mod_lt _ (by decide)) T12' (fun S1 H locs ls h1 h2 hW hl => ?_) 3 0 _ _ _ _ rfl (fun _ _ => rfl) T11 hW hl
  refine lv_aload_n E.1 E.2.1 dX0_fillTrace_69 rfl (lv_at hl 0 rfl) ?_
  refine gX_10 E hW dX0_fillTrace_70 ?_
  refine lv_iload_n E.1 E.2.1 dX0_fillTrace_73 rfl (lv_at hl 2 rfl) ?_
  refine lv_iconst (v := 3) E.1 E.2.1 dX0_fillTrace_74 (by decide) ?_
  refine sX_10 E hW (rfl) (Nat.mod_lt _ (by decide)) (x_nb3) dX0_fillTrace_75 (fun H locs hW => ?_)
  refine lv_aload_n E.1 E.2.1 dX0_fillTrace_76 rfl (lv_at hl 0 rfl) ?_
  refine lv_iconst (v := 0) E.1 E.2.1 dX0_fillTrace_77 (by decide) ?_
  refine pX_13 E hW dX0_fillTrace_78 (fun H locs hW => ?_)
  have hq1 := h1
  refine cv_ret E hr hlocks hW (⟨fun q h1 h2 h3 h4 => by rw [sput_k h4, sput_k h1, hq1 q h2, sput_k h4, sput_k h3], fun j hj => h2 j hj, fun j hj => ?_, fun j hj => ?_, ⟨0, by decide, rfl⟩⟩) dX0_fillTrace_81
  · by_cases e : j = t % 8
    · show isN (sput (sput S1 10 (t % 8) 3) 13 0 0 10 j) 4
      rw [sput_k (by decide), e, sput_s]; exact ⟨3, by decide, rfl⟩
    · show isN (sput (sput S1 10 (t % 8) 3) 13 0 0 10 j) 4
      rw [sput_k (by decide), sput_j e, h1 10 (by decide)]; exact T10 j hj
  · show isN (S1 12 j) 25
    rw [h1 12 (by decide)]; exact T12' j hj
def tkS (S : St) (e o : Nat) : Prop := (o = 7 ∧ S 26 e = 0) ∨ (o = 8 ∧ S 26 e < 0)
set_option maxHeartbeats 4000000 in
set_option maxRecDepth 100000 in
theorem tX_placeAfter (l : Launch) (D : va_G) (cs : ClassId × ClassId × ClassId) (a : Nat → Nat) (S : St) (e0 o p0 : Nat) (he : e0 < 8) (ho : o < 12) (hp : p0 < 24) (e17 : S 17 e0 = nI o) (e16 : S 16 e0 = nI p0) : CI l yX0_placeAfter cX0_placeAfter 5 .int (rm_ 0 0) D cs (xW cs a) (xAd a) [.ref (a 0), .int (nI e0)] S (fun v S1 => (∀ q, q ≠ 9 → S1 q = S q) ∧ (((o = 9 ∨ tkS S e0 o) ∧ v = S 4 p0) ∨ (¬ (o = 9 ∨ tkS S e0 o) ∧ v = nI (p0 + 1)))) := by
  intro sz
  refine cv_start (w := xW cs a) (ad := xAd a) (C := RX0) (by decide) rfl xAd_eq (Nat.le_of_ble_eq_true rfl) ?_
  intro p e s m below meth c ls E hml hr hlocks hsz hW hl
  have hA : ∀ q, s.heap.size ≤ q → wA (xAd a) sz q := fun q h => Or.inr (hsz ▸ h)
  have hl : lv_has ls 5 [(0, .ref (a 0)), (1, .int (nI e0))] := hl
  refine lv_aload_n E.1 E.2.1 dX0_placeAfter_0 rfl (lv_at hl 0 rfl) ?_
  refine gX_17 E hW dX0_placeAfter_1 ?_
  refine lv_iload_n E.1 E.2.1 dX0_placeAfter_4 rfl (lv_at hl 1 rfl) ?_
  refine lX_17 E hW (rfl) (he) (e17) dX0_placeAfter_5 ?_
  refine xl_istore_n (lv' := [(0, _), (1, _), (2, _)]) E dX0_placeAfter_6 rfl hl (by decide) [1, 2, 0] rfl (fun ls hl => ?_)
  refine lv_aload_n E.1 E.2.1 dX0_placeAfter_7 rfl (lv_at hl 0 rfl) ?_
  refine gX_16 E hW dX0_placeAfter_8 ?_
  refine lv_iload_n E.1 E.2.1 dX0_placeAfter_11 rfl (lv_at hl 1 rfl) ?_
  refine lX_16 E hW (rfl) (he) (e16) dX0_placeAfter_12 ?_
  refine xl_istore_n (lv' := [(0, _), (1, _), (2, _), (3, _)]) E dX0_placeAfter_13 rfl hl (by decide) [1, 2, 3, 0] rfl (fun ls hl => ?_)
  refine lv_iload_n E.1 E.2.1 dX0_placeAfter_14 rfl (lv_at hl 2 rfl) ?_
  refine lv_bipush (v := nI 9) E.1 E.2.1 dX0_placeAfter_15 (by decide) ?_
  refine lv_icmp_ne (tgt := 27) E.1 E.2.1 dX0_placeAfter_17 (by decide) (fun h9 => ?_) (fun h9 => ?_)
  rotate_left
  · have h9 : o = 9 := nI_inj (by omega) (by decide) h9
    refine lv_aload_n E.1 E.2.1 dX0_placeAfter_20 rfl (lv_at hl 0 rfl) ?_
    refine gX_4 E hW dX0_placeAfter_21 ?_
    refine lv_iload_n E.1 E.2.1 dX0_placeAfter_24 rfl (lv_at hl 3 rfl) ?_
    refine lX_4 E hW (rfl) (hp) (rfl) dX0_placeAfter_25 ?_
    exact ci_ret E hr hlocks hW (⟨fun _ _ => rfl, Or.inl ⟨Or.inl h9, rfl⟩⟩) dX0_placeAfter_26
  have h9 := nI_neI h9
  refine x_joinP (pj := 43) (lj := ls) (rj := []) (o = 7 ∨ o = 8) (fun join2 => ?_) (fun h78 => ?_)
  · refine lv_iload_n E.1 E.2.1 dX0_placeAfter_27 rfl (lv_at hl 2 rfl) ?_
    refine lv_bipush (v := nI 7) E.1 E.2.1 dX0_placeAfter_28 (by decide) ?_
    refine lv_icmp_eq (tgt := 43) E.1 E.2.1 dX0_placeAfter_30 (by decide) (fun hc => ?_) (fun hc => ?_)
    · exact join2 (Or.inl (nI_inj (by omega) (by decide) hc))
    · have hc := nI_neI hc
      refine lv_iload_n E.1 E.2.1 dX0_placeAfter_33 rfl (lv_at hl 2 rfl) ?_
      refine lv_bipush (v := nI 8) E.1 E.2.1 dX0_placeAfter_34 (by decide) ?_
      refine lv_icmp_eq (tgt := 43) E.1 E.2.1 dX0_placeAfter_36 (by decide) (fun hd => ?_) (fun hd => ?_)
      · exact join2 (Or.inr (nI_inj (by omega) (by decide) hd))
      · have hd := nI_neI hd
        refine lv_iload_n E.1 E.2.1 dX0_placeAfter_39 rfl (lv_at hl 3 rfl) ?_
        refine lv_iconst (v := 1) E.1 E.2.1 dX0_placeAfter_40 (by decide) ?_
        refine lv_iadd E.1 E.2.1 dX0_placeAfter_41 ?_
        refine x_top (y := nI (p0 + 1)) (nI_1 p0) ?_
        exact ci_ret E hr hlocks hW (⟨fun _ _ => rfl, Or.inr ⟨fun h => by
          rcases h with h | ⟨h, _⟩ | ⟨h, _⟩ <;> omega, rfl⟩⟩) dX0_placeAfter_42
  refine x_join (pj := 80) (lj := ls) (rj := []) (fun tk => (tk = 1 ∧ tkS S e0 o) ∨ (tk = 0 ∧ ¬ tkS S e0 o)) (fun join => ?_) (fun tk hj => ?_)
  · refine lv_iload_n E.1 E.2.1 dX0_placeAfter_43 rfl (lv_at hl 2 rfl) ?_
    refine lv_bipush (v := nI 7) E.1 E.2.1 dX0_placeAfter_44 (by decide) ?_
    refine lv_icmp_ne (tgt := 66) E.1 E.2.1 dX0_placeAfter_46 (by decide) (fun hc => ?_) (fun hc => ?_)
    · have hc := nI_neI hc
      have h8 : o = 8 := by omega
      refine lv_aload_n E.1 E.2.1 dX0_placeAfter_66 rfl (lv_at hl 0 rfl) ?_
      refine gX_26 E hW dX0_placeAfter_67 ?_
      refine lv_iload_n E.1 E.2.1 dX0_placeAfter_70 rfl (lv_at hl 1 rfl) ?_
      refine lX_26 E hW (rfl) (he) (rfl) dX0_placeAfter_71 ?_
      refine lv_if_ge (tgt := 79) E.1 E.2.1 dX0_placeAfter_72 (by decide) (fun hd => ?_) (fun hd => ?_)
      · refine lv_iconst (v := 0) E.1 E.2.1 dX0_placeAfter_79 (by decide) ?_
        exact join _ (Or.inr ⟨rfl, fun h => by
          rcases h with h | h
          · exact hc h.1
          · exact absurd h.2 (Int32.not_lt.mpr hd)⟩)
      · refine lv_iconst (v := 1) E.1 E.2.1 dX0_placeAfter_75 (by decide) ?_
        refine lv_goto (tgt := 80) E.1 E.2.1 dX0_placeAfter_76 (by decide) ?_
        exact join _ (Or.inl ⟨rfl, Or.inr ⟨h8, lt_of_nle hd⟩⟩)
    · have hc : o = 7 := nI_inj (by omega) (by decide) hc
      refine lv_aload_n E.1 E.2.1 dX0_placeAfter_49 rfl (lv_at hl 0 rfl) ?_
      refine gX_26 E hW dX0_placeAfter_50 ?_
      refine lv_iload_n E.1 E.2.1 dX0_placeAfter_53 rfl (lv_at hl 1 rfl) ?_
      refine lX_26 E hW (rfl) (he) (rfl) dX0_placeAfter_54 ?_
      refine lv_if_ne (tgt := 62) E.1 E.2.1 dX0_placeAfter_55 (by decide) (fun hd => ?_) (fun hd => ?_)
      · refine lv_iconst (v := 0) E.1 E.2.1 dX0_placeAfter_62 (by decide) ?_
        refine lv_goto (tgt := 80) E.1 E.2.1 dX0_placeAfter_63 (by decide) ?_
        exact join _ (Or.inr ⟨rfl, fun h => by
          rcases h with h | h
          · exact hd h.2
          · omega⟩)
      · refine lv_iconst (v := 1) E.1 E.2.1 dX0_placeAfter_58 (by decide) ?_
        refine lv_goto (tgt := 80) E.1 E.2.1 dX0_placeAfter_59 (by decide) ?_
        exact join _ (Or.inl ⟨rfl, Or.inl ⟨hc, hd⟩⟩)
  have htk := hj
  refine xl_istore (lv' := [(0, _), (1, _), (2, _), (3, _), (4, _)]) E dX0_placeAfter_80 hl (by decide) [1, 2, 3, 4, 0] rfl (fun ls hl => ?_)
  refine x_joinS (w := xW cs a) (A := wA (xAd a) sz) (H0 := s.heap) (D := D) (pj := 108) (lj := ls) (rj := []) (fun S1 => ∀ q, q ≠ 9 → S1 q = S q) (fun join => ?_) (fun S1 H locs hj hW => ?_)
  · refine lv_iload E.1 E.2.1 dX0_placeAfter_82 (lv_at hl 4 rfl) ?_
    refine lv_if_eq (tgt := 108) E.1 E.2.1 dX0_placeAfter_84 (by decide) (fun hc => ?_) (fun hc => ?_)
    · exact join _ _ _ (fun _ _ => rfl) hW
    · refine lv_aload_n E.1 E.2.1 dX0_placeAfter_87 rfl (lv_at hl 0 rfl) ?_
      refine gX_9 E hW dX0_placeAfter_88 ?_
      refine lv_iload_n E.1 E.2.1 dX0_placeAfter_91 rfl (lv_at hl 3 rfl) ?_
      refine lX_9 E hW (rfl) (hp) (rfl) dX0_placeAfter_92 ?_
      refine lv_iconst (v := 3) E.1 E.2.1 dX0_placeAfter_93 (by decide) ?_
      refine lv_icmp_ge (tgt := 108) E.1 E.2.1 dX0_placeAfter_94 (by decide) (fun hd => ?_) (fun hd => ?_)
      · exact join _ _ _ (fun _ _ => rfl) hW
      · refine lv_aload_n E.1 E.2.1 dX0_placeAfter_97 rfl (lv_at hl 0 rfl) ?_
        refine gX_9 E hW dX0_placeAfter_98 ?_
        refine lv_iload_n E.1 E.2.1 dX0_placeAfter_101 rfl (lv_at hl 3 rfl) ?_
        refine lv_dup2_11 E.1 E.2.1 dX0_placeAfter_102 rfl rfl ?_
        refine lX_9 E hW (rfl) (hp) (rfl) dX0_placeAfter_103 ?_
        refine lv_iconst (v := 1) E.1 E.2.1 dX0_placeAfter_104 (by decide) ?_
        refine lv_iadd E.1 E.2.1 dX0_placeAfter_105 ?_
        refine lv_i2b (v := _) E.1 E.2.1 dX0_placeAfter_106 (rfl) ?_
        refine sX_9 E hW (rfl) (hp) (rfl) dX0_placeAfter_107 (fun H locs hW => ?_)
        exact join _ _ _ (fun q hq => by rw [sput_k hq]) hW
  refine x_joinS (w := xW cs a) (A := wA (xAd a) sz) (H0 := s.heap) (D := D) (pj := 133) (lj := ls) (rj := []) (fun S2 => ∀ q, q ≠ 9 → S2 q = S q) (fun join => ?_) (fun S2 H locs hj2 hW => ?_)
  · refine lv_iload E.1 E.2.1 dX0_placeAfter_108 (lv_at hl 4 rfl) ?_
    refine lv_if_ne (tgt := 133) E.1 E.2.1 dX0_placeAfter_110 (by decide) (fun hc => ?_) (fun hc => ?_)
    · exact join _ _ _ hj hW
    · refine lv_aload_n E.1 E.2.1 dX0_placeAfter_113 rfl (lv_at hl 0 rfl) ?_
      refine gX_9 E hW dX0_placeAfter_114 ?_
      refine lv_iload_n E.1 E.2.1 dX0_placeAfter_117 rfl (lv_at hl 3 rfl) ?_
      refine lX_9 E hW (rfl) (hp) (rfl) dX0_placeAfter_118 ?_
      refine lv_if_le (tgt := 133) E.1 E.2.1 dX0_placeAfter_119 (by decide) (fun hd => ?_) (fun hd => ?_)
      · exact join _ _ _ hj hW
      · refine lv_aload_n E.1 E.2.1 dX0_placeAfter_122 rfl (lv_at hl 0 rfl) ?_
        refine gX_9 E hW dX0_placeAfter_123 ?_
        refine lv_iload_n E.1 E.2.1 dX0_placeAfter_126 rfl (lv_at hl 3 rfl) ?_
        refine lv_dup2_11 E.1 E.2.1 dX0_placeAfter_127 rfl rfl ?_
        refine lX_9 E hW (rfl) (hp) (rfl) dX0_placeAfter_128 ?_
        refine lv_iconst (v := 1) E.1 E.2.1 dX0_placeAfter_129 (by decide) ?_
        refine lv_isub E.1 E.2.1 dX0_placeAfter_130 ?_
        refine lv_i2b (v := _) E.1 E.2.1 dX0_placeAfter_131 (rfl) ?_
        refine sX_9 E hW (rfl) (hp) (rfl) dX0_placeAfter_132 (fun H locs hW => ?_)
        exact join _ _ _ (fun q hq => by rw [sput_k hq]; exact hj q hq) hW
  refine lv_iload E.1 E.2.1 dX0_placeAfter_133 (lv_at hl 4 rfl) ?_
  refine lv_if_eq (tgt := 147) E.1 E.2.1 dX0_placeAfter_135 (by decide) (fun hc => ?_) (fun hc => ?_)
  · refine lv_iload_n E.1 E.2.1 dX0_placeAfter_147 rfl (lv_at hl 3 rfl) ?_
    refine lv_iconst (v := 1) E.1 E.2.1 dX0_placeAfter_148 (by decide) ?_
    refine lv_iadd E.1 E.2.1 dX0_placeAfter_149 ?_
    refine x_top (y := nI (p0 + 1)) (nI_1 p0) ?_
    exact ci_ret E hr hlocks hW (⟨hj2, Or.inr ⟨fun h => by
      rcases h with h | h
      · exact h9 h
      · rcases htk with ⟨e, _⟩ | ⟨_, e⟩
        · rw [hc] at e; exact absurd e (by decide)
        · exact e h, rfl⟩⟩) dX0_placeAfter_150
  refine lv_aload_n E.1 E.2.1 dX0_placeAfter_138 rfl (lv_at hl 0 rfl) ?_
  refine gX_4 E hW dX0_placeAfter_139 ?_
  refine lv_iload_n E.1 E.2.1 dX0_placeAfter_142 rfl (lv_at hl 3 rfl) ?_
  refine lX_4 E hW (rfl) (hp) (show S2 4 p0 = S 4 p0 by rw [hj2 4 (by decide)]) dX0_placeAfter_143 ?_
  refine lv_goto (tgt := 150) E.1 E.2.1 dX0_placeAfter_144 (by decide) ?_
  exact ci_ret E hr hlocks hW (⟨hj2, Or.inl ⟨Or.inr (by
    rcases htk with ⟨_, e⟩ | ⟨e, _⟩
    · exact e
    · exact absurd e hc), rfl⟩⟩) dX0_placeAfter_150
end
section
/-! more of the pure side: fields that the buffer doesn't read; entering; leaving -/
theorem inv_c {S S1 : St} {fp : Nat} (hc : ∀ q, q ≠ 8 → q ≠ 9 → q ≠ 10 → q ≠ 11 → q ≠ 12 → q ≠ 13 → q ≠ 28 → q ≠ 29 → S1 q = S q) (h : inv S fp) : inv S1 fp := by
  have hp : ∀ q, q ≤ 4 → S1 q = S q := fun q hq => hc q (by omega) (by omega) (by omega) (by omega) (by omega) (by omega) (by omega) (by omega)
  have hr : ∀ q, 14 ≤ q → q ≤ 27 → S1 q = S q := fun q h1 h2 => hc q (by omega) (by omega) (by omega) (by omega) (by omega) (by omega) (by omega) (by omega)
  have e5 : S1 5 = S 5 := hc 5 (by decide) (by decide) (by decide) (by decide) (by decide) (by decide) (by decide) (by decide)
  have e6 : S1 6 = S 6 := hc 6 (by decide) (by decide) (by decide) (by decide) (by decide) (by decide) (by decide) (by decide)
  have e7 : S1 7 = S 7 := hc 7 (by decide) (by decide) (by decide) (by decide) (by decide) (by decide) (by decide) (by decide)
  have hsl : ∀ j, sl S1 j = sl S j := fun j => by unfold sl hd; rw [hr 14 (by decide) (by decide)]
  have hen : en S1 = en S := by unfold en; rw [hr 15 (by decide) (by decide)]
  have hpl : ∀ j, pl S1 j = pl S j := fun j => by unfold pl; rw [hsl, hr 16 (by decide) (by decide)]
  have hvv : ∀ j, vv S1 j = vv S j := fun j => vv_c hp e5 e6 j (fun i _ => hpl i)
  have hwant : ∀ j, want S1 j = want S j := fun j => by
    cases j with
    | zero => show S1 7 0 = S 7 0; rw [e7]
    | succ j => show S1 18 (sl S1 j) = S 18 (sl S j); rw [hsl, hr 18 (by decide) (by decide)]
  have hkeep : ∀ i j, j < i → sl S1 j = sl S j ∧ pl S1 j = pl S j ∧ vv S1 j = vv S j ∧ S1 25 (sl S j) = S 25 (sl S j) := fun i j _ => ⟨hsl j, hpl j, hvv j, by rw [hr 25 (by decide) (by decide)]⟩
  refine ⟨by rw [hr 14 (by decide) (by decide)]; exact h.1, by rw [hr 15 (by decide) (by decide)]; exact h.2.1, h.2.2.1, by rw [hen, hwant]; exact h.2.2.2.1, fun j hj => ?_, fun j hj => ?_, fun r hr8 => ?_⟩
  · rw [hen] at hj
    unfold ent
    rw [hsl, hpl, hwant, oper_c hp, hr 16 (by decide) (by decide), hr 17 (by decide) (by decide), hr 18 (by decide) (by decide), hr 25 (by decide) (by decide)]
    exact h.2.2.2.2.1 j hj
  · rw [hen] at hj
    have old := h.2.2.2.2.2.1 j hj
    unfold vok
    rw [hsl, hpl, hvv, oper_c hp, val_c hp, adr_c hp, lrg_c hp, rrg_c hp, hasR_c hp, hr 19 (by decide) (by decide), hr 20 (by decide) (by decide), hr 21 (by decide) (by decide), hr 22 (by decide) (by decide), hr 23 (by decide) (by decide), hr 24 (by decide) (by decide), hr 25 (by decide) (by decide), hr 26 (by decide) (by decide)]
    exact ⟨old.1, old.2.1, fun q => src_keep rfl (hkeep j) hp (old.2.2.1 q), fun q q2 => src_keep rfl (hkeep j) hp (old.2.2.2.1 q q2), old.2.2.2.2⟩
  · have e27 : S1 27 = S 27 := hr 27 (by decide) (by decide)
    rcases h.2.2.2.2.2.2 r hr8 with ⟨b1, b2⟩ | ⟨j, b1, b2, b3, b4, b5⟩
    · exact Or.inl ⟨by rw [e27]; exact b1, fun i hi => by rw [hvv, e5]; exact b2 i (by omega)⟩
    · exact Or.inr ⟨j, by omega, by rw [e27, hsl]; exact b2, by rw [hpl, oper_c hp]; exact b3, by rw [hpl, fx_c hp]; exact b4, fun i h1 h2 => by rw [hvv, hpl, hvv, val_c hp]; exact b5 i h1 (by omega)⟩
theorem inv.nw {S : St} {fp r : Nat} (h : inv S fp) (hr : r < 8) : nwR S r := by
  rcases h.2.2.2.2.2.2 r hr with ⟨b1, _⟩ | ⟨j, _, b2, _⟩
  · exact Or.inl b1
  · exact Or.inr ⟨sl S j, sl_lt S j, b2⟩
/-- enter's first half -/
def ent0 (S S1 : St) (p af : Nat) : Prop := (∀ k, k ≠ 15 → k ≠ 16 → k ≠ 17 → k ≠ 18 → k ≠ 19 → k ≠ 21 → k ≠ 23 → k ≠ 25 → S1 k = S k) ∧ (∀ k j, j ≠ sl S (en S) → k ≠ 15 → S1 k j = S k j) ∧ S1 15 0 = nI (en S + 1)
  ∧ S1 16 (sl S (en S)) = nI p ∧ S1 17 (sl S (en S)) = nI (oper S p) ∧ S1 18 (sl S (en S)) = nI af ∧ S1 25 (sl S (en S)) = (if 9 ≤ oper S p then 1 else 0) ∧ S1 23 (sl S (en S)) = 0 ∧ S1 19 (sl S (en S)) = -1 ∧ S1 21 (sl S (en S)) = -1
theorem ent0_mk (S : St) (p af : Nat) {v : Int32} (hv : v = if 9 ≤ oper S p then 1 else 0) : ent0 S (sput (sput (sput (sput (sput (sput (sput (sput S 15 0 (nI (en S + 1))) 16 (sl S (en S)) (nI p)) 17 (sl S (en S)) (nI (oper S p))) 18 (sl S (en S)) (nI af)) 25 (sl S (en S)) v) 23 (sl S (en S)) 0) 19 (sl S (en S)) (-1)) 21 (sl S (en S)) (-1)) p af := by
  refine ⟨fun k h15 h16 h17 h18 h19 h21 h23 h25 => by rw [sput_k h21, sput_k h19, sput_k h23, sput_k h25, sput_k h18, sput_k h17, sput_k h16, sput_k h15], fun k j hj h15 => ?_, rfl, ?_, ?_, ?_, ?_, ?_, ?_, ?_⟩
  · have one : ∀ (S : St) (F : Nat) (x : Int32), sput S F (sl S j) x = sput S F (sl S j) x := fun _ _ _ => rfl
    have st : ∀ (T : St) (F e : Nat) (x : Int32), j ≠ e → sput T F e x k j = T k j := fun T F e x he => by
      by_cases hk : k = F
      · subst hk; exact sput_j he
      · rw [sput_k hk]
    rw [st _ _ _ _ hj, st _ _ _ _ hj, st _ _ _ _ hj, st _ _ _ _ hj, st _ _ _ _ hj, st _ _ _ _ hj, st _ _ _ _ hj, sput_k h15]
  · exact sput_s (S := sput S 15 0 (nI (en S + 1))) (k := 16)
  · exact sput_s (S := sput (sput S 15 0 (nI (en S + 1))) 16 (sl S (en S)) (nI p)) (k := 17)
  · exact sput_s (k := 18)
  · rw [← hv]; exact sput_s (k := 25)
  · exact sput_s (k := 23)
  · exact sput_s (k := 19)
  · exact sput_s (k := 21)
/-- an operand bound in S1, seen from S -/
theorem bdd_bnd {S S1 S2 : St} {p e r F G : Nat} (h : inv S p) (hn8 : en S < 8) (he : e = sl S (en S)) (hFG : F ≠ G) (h27 : S1 27 = S 27) (h5 : S1 5 = S 5) (h26 : S1 26 = S 26) (h25 : ∀ j, j ≠ e → S1 25 j = S 25 j) (hF : S1 F e = -1) (hr : r < 8)
    (b : bdd S1 S2 e r F G) : bnd S r (S2 F e) (S2 G e) ∧ (∀ q, q ≠ F → q ≠ G → S2 q = S1 q) ∧ (∀ q j, j ≠ e → S2 q j = S1 q j) := by
  have st : ∀ (T : St) (F : Nat) (x : Int32) (q j : Nat), j ≠ e → sput T F e x q j = T q j := fun T F x q j hj => by
    by_cases hk : q = F
    · subst hk; exact sput_j hj
    · rw [sput_k hk]
  have hf : ∀ f, f < 8 → S1 27 r = nI f → f ≠ e := fun f hf8 e27 => by
    rw [h27] at e27
    rcases h.2.2.2.2.2.2 r hr with ⟨b1, _⟩ | ⟨j, b1, b2, _⟩
    · exact absurd (e27.symm.trans b1) (nI_ne_m1 (by omega))
    · have e1 : f = sl S j := nI_inj (by omega) (by have := sl_lt S j; omega) (e27.symm.trans b2)
      intro e2
      have := sl_inj (S := S) (i := j) (j := en S) (by omega) hn8 (by rw [← e1, e2, he])
      omega
  rcases b with ⟨b1, b2⟩ | ⟨f, b0, b1, b2, b3⟩ | ⟨f, b0, b1, b2, b3⟩
  · subst b2
    refine ⟨Or.inl ⟨by rw [← h27]; exact b1, by rw [sput_k hFG]; exact hF, by rw [sput_s, h5]⟩, fun q _ h2 => sput_k h2, fun q j hj => st _ _ _ q j hj⟩
  · subst b3
    refine ⟨Or.inr (Or.inl ⟨f, b0, by rw [← h27]; exact b1, by rw [← h25 f (hf f b0 b1)]; exact b2, sput_s⟩), fun q h1 _ => sput_k h1, fun q j hj => st _ _ _ q j hj⟩
  · subst b3
    refine ⟨Or.inr (Or.inr ⟨f, b0, by rw [← h27]; exact b1, by rw [← h25 f (hf f b0 b1)]; exact b2, by rw [sput_k hFG]; exact hF, by rw [sput_s, h26]⟩), fun q _ h2 => sput_k h2, fun q j hj => st _ _ _ q j hj⟩
theorem entd_9 {S S1 : St} {p af : Nat} (ho : 9 ≤ oper S p) (H : ent0 S S1 p af) : entd S S1 p af := by
  obtain ⟨a1, a2, a3, a4, a5, a6, a7, a8, a9, a10⟩ := H
  have e27 : S1 27 = S 27 := a1 27 (by decide) (by decide) (by decide) (by decide) (by decide) (by decide) (by decide) (by decide)
  exact ⟨fun k h15 h16 h17 h18 h19 _ h21 _ h23 h25 _ => a1 k h15 h16 h17 h18 h19 h21 h23 h25, fun k j hj h15 _ => a2 k j hj h15, a3, a4, a5, a6, a7, a8, fun q => absurd q (by omega), fun q => absurd q (by unfold hasR; omega), fun _ => a10, by rw [if_neg (by omega)]; exact e27⟩
theorem entd_8 {S S1 S2 S4 S5 : St} {p af : Nat} (hw : wfP S) (h : inv S p) (hn8 : en S < 8) (ho : oper S p ≤ 8) (H : ent0 S S1 p af) (b1 : bdd S1 S2 (sl S (en S)) (lrg S p) 19 20) (b2 : hasR S p → bdd S2 S4 (sl S (en S)) (rrg S p) 21 22) (b3 : ¬ hasR S p → S4 = S2)
    (b4 : S5 = if oper S p ≤ 5 then sput S4 27 (fx S p) (nI (sl S (en S))) else S4) : entd S S5 p af := by
  obtain ⟨a1, a2, a3, a4, a5, a6, a7, a8, a9, a10⟩ := H
  have e27 : S1 27 = S 27 := a1 27 (by decide) (by decide) (by decide) (by decide) (by decide) (by decide) (by decide) (by decide)
  have e5 : S1 5 = S 5 := a1 5 (by decide) (by decide) (by decide) (by decide) (by decide) (by decide) (by decide) (by decide)
  have e26 : S1 26 = S 26 := a1 26 (by decide) (by decide) (by decide) (by decide) (by decide) (by decide) (by decide) (by decide)
  obtain ⟨c1, c2, c3⟩ := bdd_bnd h hn8 rfl (by decide) e27 e5 e26 (fun j hj => a2 25 j hj (by decide)) a9 (lrg_lt hw ho) b1
  have d27 : S2 27 = S1 27 := c2 27 (by decide) (by decide)
  have d5 : S2 5 = S1 5 := c2 5 (by decide) (by decide)
  have d26 : S2 26 = S1 26 := c2 26 (by decide) (by decide)
  have d25 : S2 25 = S1 25 := c2 25 (by decide) (by decide)
  have d21 : S2 21 = S1 21 := c2 21 (by decide) (by decide)
  have R : (hasR S p → bnd S (rrg S p) (S4 21 (sl S (en S))) (S4 22 (sl S (en S)))) ∧ (¬ hasR S p → S4 21 (sl S (en S)) = -1) ∧ (∀ q, q ≠ 21 → q ≠ 22 → S4 q = S2 q) ∧ (∀ q j, j ≠ sl S (en S) → S4 q j = S2 q j) := by
    by_cases hR : hasR S p
    · obtain ⟨f1, f2, f3⟩ := bdd_bnd h hn8 rfl (by decide) (d27.trans e27) (d5.trans e5) (d26.trans e26) (fun j hj => by rw [d25]; exact a2 25 j hj (by decide)) (by rw [d21]; exact a10) (rrg_lt hw hR) (b2 hR)
      exact ⟨fun _ => f1, fun q => absurd hR q, f2, f3⟩
    · have := b3 hR
      subst this
      exact ⟨fun q => absurd q hR, fun _ => by rw [d21]; exact a10, fun _ _ _ => rfl, fun _ _ _ => rfl⟩
  obtain ⟨r1, r2, r3, r4⟩ := R
  have k5 : ∀ q, q ≠ 27 → S5 q = S4 q := fun q hq => by
    rw [b4]
    split
    · exact sput_k hq
    · rfl
  have k19 : S5 19 = S2 19 := (k5 19 (by decide)).trans (r3 19 (by decide) (by decide))
  have k20 : S5 20 = S2 20 := (k5 20 (by decide)).trans (r3 20 (by decide) (by decide))
  have k1 : ∀ q, q ≠ 27 → q ≠ 19 → q ≠ 20 → q ≠ 21 → q ≠ 22 → S5 q = S1 q := fun q h27 h19 h20 h21 h22 => by rw [k5 q h27, r3 q h21 h22, c2 q h19 h20]
  refine ⟨fun k h15 h16 h17 h18 h19 h20 h21 h22 h23 h25 h27 => by rw [k1 k h27 h19 h20 h21 h22, a1 k h15 h16 h17 h18 h19 h21 h23 h25], fun k j hj h15 h27 => by rw [k5 k h27, r4 k j hj, c3 k j hj, a2 k j hj h15], ?_, ?_, ?_, ?_, ?_, ?_, fun _ => ?_, fun q => ?_, fun q => ?_, ?_⟩
  · rw [k1 15 (by decide) (by decide) (by decide) (by decide) (by decide)]; exact a3
  · rw [k1 16 (by decide) (by decide) (by decide) (by decide) (by decide)]; exact a4
  · rw [k1 17 (by decide) (by decide) (by decide) (by decide) (by decide)]; exact a5
  · rw [k1 18 (by decide) (by decide) (by decide) (by decide) (by decide)]; exact a6
  · rw [k1 25 (by decide) (by decide) (by decide) (by decide) (by decide)]; exact a7
  · rw [k1 23 (by decide) (by decide) (by decide) (by decide) (by decide)]; exact a8
  · rw [k19, k20]; exact c1
  · rw [k5 21 (by decide), k5 22 (by decide)]; exact r1 q
  · rw [k5 21 (by decide)]; exact r2 q
  · have e4 : S4 27 = S 27 := by rw [r3 27 (by decide) (by decide), d27, e27]
    rw [b4]
    split
    · rw [sput_at, e4]
    · exact e4
/-! the head of the buffer -/
theorem sl_0 {S : St} (h : hd S < 8) : sl S 0 = hd S := by unfold sl; omega
theorem inv.pc {S : St} {fp : Nat} (h : inv S fp) (hn0 : 0 < en S) : S 7 0 = nI (pl S 0) := by
  have := h.2.2.2.2.1 0 hn0
  rw [← this.p.1]
  exact this.2.1.symm
/-- an entry that isn't done and waits for nothing has its operands -/
theorem opL {S : St} {fp k : Nat} (h : inv S fp) (hk : k < en S) (hd0 : S 25 (sl S k) = 0) (h19 : S 19 (sl S k) = -1) : S 20 (sl S k) = (vv S k).1 (lrg S (pl S k)) := by
  rcases (h.2.2.2.2.2.1 k hk).2.2.1 hd0 with ⟨_, e⟩ | ⟨j, _, e, _⟩
  · exact e
  · exact absurd (e.symm.trans h19) sl_m1
theorem opR {S : St} {fp k : Nat} (h : inv S fp) (hk : k < en S) (hd0 : S 25 (sl S k) = 0) (h21 : S 21 (sl S k) = -1) (hR : hasR S (pl S k)) : S 22 (sl S k) = (vv S k).1 (rrg S (pl S k)) := by
  rcases (h.2.2.2.2.2.1 k hk).2.2.2.1 hd0 hR with ⟨_, e⟩ | ⟨j, _, e, _⟩
  · exact e
  · exact absurd (e.symm.trans h21) sl_m1
theorem srcL {S : St} {fp k : Nat} (h : inv S fp) (hk : k < en S) (hd0 : S 25 (sl S k) = 0) : S 19 (sl S k) = -1 ∨ (0 < k ∧ ∃ f, f < 8 ∧ S 19 (sl S k) = nI f) := by
  rcases (h.2.2.2.2.2.1 k hk).2.2.1 hd0 with ⟨e, _⟩ | ⟨j, hj, e, _⟩
  · exact Or.inl e
  · exact Or.inr ⟨by omega, sl S j, sl_lt S j, e⟩
theorem srcR {S : St} {fp k : Nat} (h : inv S fp) (hk : k < en S) (hd0 : S 25 (sl S k) = 0) : S 21 (sl S k) = -1 ∨ (0 < k ∧ ∃ f, f < 8 ∧ S 21 (sl S k) = nI f) := by
  by_cases hR : hasR S (pl S k)
  · rcases (h.2.2.2.2.2.1 k hk).2.2.2.1 hd0 hR with ⟨e, _⟩ | ⟨j, hj, e, _⟩
    · exact Or.inl e
    · exact Or.inr ⟨by omega, sl S j, sl_lt S j, e⟩
  · exact Or.inl ((h.2.2.2.2.2.1 k hk).2.2.2.2 hd0 hR)
end
section
set_option maxRecDepth 100000
set_option maxHeartbeats 4000000 in
set_option maxRecDepth 100000 in
theorem tX_enter (l : Launch) (D : va_G) (cs : ClassId × ClassId × ClassId) (a : Nat → Nat) (S : St) (p0 af : Nat) (hw : wfP S) (h : inv S p0) (hn8 : en S < 8) (hp0 : p0 < 25) (haf : af < 25) : CV l yX0_enter cX0_enter 5 (rm_ 1 23) D cs (xW cs a) (xAd a) [.ref (a 0), .int (nI p0), .int (nI af)] S (fun S1 => entd S S1 p0 af) := by
  intro sz
  refine cv_start (w := xW cs a) (ad := xAd a) (C := RX0) (by decide) rfl xAd_eq (Nat.le_of_ble_eq_true rfl) ?_
  intro p e s m below meth c ls E hml hr hlocks hsz hW hl
  have hA : ∀ q, s.heap.size ≤ q → wA (xAd a) sz q := fun q h => Or.inr (hsz ▸ h)
  have hl : lv_has ls 5 [(0, .ref (a 0)), (1, .int (nI p0)), (2, .int (nI af))] := hl
  have hl24 := hw.2.1
  have hh := h.h
  have hn := h.n
  have ho := oper_le hw p0
  have he := sl_lt S (en S)
  refine lv_aload_n E.1 E.2.1 dX0_enter_0 rfl (lv_at hl 0 rfl) ?_
  refine gX_14 E hW hh.1 dX0_enter_1 ?_
  refine lv_aload_n E.1 E.2.1 dX0_enter_4 rfl (lv_at hl 0 rfl) ?_
  refine gX_15 E hW hn.1 dX0_enter_5 ?_
  refine lv_iadd E.1 E.2.1 dX0_enter_8 ?_
  refine x_top (y := nI (hd S + en S)) (nI_add _ _) ?_
  refine lv_bipush (v := 7) E.1 E.2.1 dX0_enter_9 (by decide) ?_
  refine lv_iand E.1 E.2.1 dX0_enter_11 ?_
  refine x_top (y := nI (sl S (en S))) (x_and7 (by omega)) ?_
  refine xl_istore_n (lv' := [(0, _), (1, _), (2, _), (3, _)]) E dX0_enter_12 rfl hl (by decide) [1, 2, 3, 0] rfl (fun ls hl => ?_)
  refine x_join (pj := 32) (lj := ls) (rj := []) (fun v => v = nI (oper S p0)) (fun join => ?_) (fun v hj => ?_)
  · refine lv_iload_n E.1 E.2.1 dX0_enter_13 rfl (lv_at hl 1 rfl) ?_
    refine lv_aload_n E.1 E.2.1 dX0_enter_14 rfl (lv_at hl 0 rfl) ?_
    refine gX_0 E hW hw.1 dX0_enter_15 ?_
    refine lv_icmp_ge (tgt := 30) E.1 E.2.1 dX0_enter_18 (by decide) (fun hc => ?_) (fun hc => ?_)
    · have hc : ¬ p0 < len S := Nat.not_lt.mpr ((nI_leI (by omega) (by omega)).mp hc)
      refine lv_bipush (v := nI 11) E.1 E.2.1 dX0_enter_30 (by decide) ?_
      exact join _ (by rw [oper_ge hc])
    · have hc : p0 < len S := nI_nleI (by omega) (by omega) hc
      refine lv_aload_n E.1 E.2.1 dX0_enter_21 rfl (lv_at hl 0 rfl) ?_
      refine gX_1 E hW dX0_enter_22 ?_
      refine lv_iload_n E.1 E.2.1 dX0_enter_25 rfl (lv_at hl 1 rfl) ?_
      refine lX_1 E hW (rfl) (by omega) ((hw.op hc).1) dX0_enter_26 ?_
      refine lv_goto (tgt := 32) E.1 E.2.1 dX0_enter_27 (by decide) ?_
      exact join _ rfl
  subst hj
  refine xl_istore (lv' := [(0, _), (1, _), (2, _), (3, _), (4, _)]) E dX0_enter_32 hl (by decide) [1, 2, 3, 4, 0] rfl (fun ls hl => ?_)
  refine lv_aload_n E.1 E.2.1 dX0_enter_34 rfl (lv_at hl 0 rfl) ?_
  refine lv_dup E.1 E.2.1 dX0_enter_35 rfl ?_
  refine gX_15 E hW hn.1 dX0_enter_36 ?_
  refine lv_iconst (v := 1) E.1 E.2.1 dX0_enter_39 (by decide) ?_
  refine lv_iadd E.1 E.2.1 dX0_enter_40 ?_
  refine x_top (y := nI (en S + 1)) (nI_1 _) ?_
  refine pX_15 E hW dX0_enter_41 (fun H locs hW => ?_)
  refine lv_aload_n E.1 E.2.1 dX0_enter_44 rfl (lv_at hl 0 rfl) ?_
  refine gX_16 E hW dX0_enter_45 ?_
  refine lv_iload_n E.1 E.2.1 dX0_enter_48 rfl (lv_at hl 3 rfl) ?_
  refine lv_iload_n E.1 E.2.1 dX0_enter_49 rfl (lv_at hl 1 rfl) ?_
  refine lv_i2b (v := nI p0) E.1 E.2.1 dX0_enter_50 (x_i2b (by omega)) ?_
  refine sX_16 E hW (rfl) (he) (x_nb (by omega)) dX0_enter_51 (fun H locs hW => ?_)
  refine lv_aload_n E.1 E.2.1 dX0_enter_52 rfl (lv_at hl 0 rfl) ?_
  refine gX_17 E hW dX0_enter_53 ?_
  refine lv_iload_n E.1 E.2.1 dX0_enter_56 rfl (lv_at hl 3 rfl) ?_
  refine lv_iload E.1 E.2.1 dX0_enter_57 (lv_at hl 4 rfl) ?_
  refine lv_i2b (v := nI (oper S p0)) E.1 E.2.1 dX0_enter_59 (x_i2b (by omega)) ?_
  refine sX_17 E hW (rfl) (he) (x_nb (by omega)) dX0_enter_60 (fun H locs hW => ?_)
  refine lv_aload_n E.1 E.2.1 dX0_enter_61 rfl (lv_at hl 0 rfl) ?_
  refine gX_18 E hW dX0_enter_62 ?_
  refine lv_iload_n E.1 E.2.1 dX0_enter_65 rfl (lv_at hl 3 rfl) ?_
  refine lv_iload_n E.1 E.2.1 dX0_enter_66 rfl (lv_at hl 2 rfl) ?_
  refine lv_i2b (v := nI af) E.1 E.2.1 dX0_enter_67 (x_i2b (by omega)) ?_
  refine sX_18 E hW (rfl) (he) (x_nb (by omega)) dX0_enter_68 (fun H locs hW => ?_)
  refine lv_aload_n E.1 E.2.1 dX0_enter_69 rfl (lv_at hl 0 rfl) ?_
  refine gX_25 E hW dX0_enter_70 ?_
  refine lv_iload_n E.1 E.2.1 dX0_enter_73 rfl (lv_at hl 3 rfl) ?_
  refine x_join (pj := 86) (lj := ls) (rj := [.int (nI (sl S (en S))), .ref (a 25)]) (fun v => v = if 9 ≤ oper S p0 then 1 else 0) (fun join => ?_) (fun v hj => ?_)
  · refine lv_iload E.1 E.2.1 dX0_enter_74 (lv_at hl 4 rfl) ?_
    refine lv_bipush (v := nI 9) E.1 E.2.1 dX0_enter_76 (by decide) ?_
    refine lv_icmp_lt (tgt := 85) E.1 E.2.1 dX0_enter_78 (by decide) (fun hc => ?_) (fun hc => ?_)
    · have hc : oper S p0 < 9 := (nI_ltI (by omega) (by decide)).mp hc
      refine lv_iconst (v := 0) E.1 E.2.1 dX0_enter_85 (by decide) ?_
      exact join _ (by rw [if_neg (by omega)])
    · have hc : 9 ≤ oper S p0 := nI_nltI (by omega) (by decide) hc
      refine lv_iconst (v := 1) E.1 E.2.1 dX0_enter_81 (by decide) ?_
      refine lv_goto (tgt := 86) E.1 E.2.1 dX0_enter_82 (by decide) ?_
      exact join _ (by rw [if_pos hc])
  have hv01 : v = 0 ∨ v = 1 := by
    rw [hj]; split
    · exact Or.inr rfl
    · exact Or.inl rfl
  refine sX_25 E hW (rfl) (he) (x_nz hv01) dX0_enter_86 (fun H locs hW => ?_)
  refine lv_aload_n E.1 E.2.1 dX0_enter_87 rfl (lv_at hl 0 rfl) ?_
  refine gX_23 E hW dX0_enter_88 ?_
  refine lv_iload_n E.1 E.2.1 dX0_enter_91 rfl (lv_at hl 3 rfl) ?_
  refine lv_iconst (v := 0) E.1 E.2.1 dX0_enter_92 (by decide) ?_
  refine sX_23 E hW (rfl) (he) (x_nz0) dX0_enter_93 (fun H locs hW => ?_)
  refine lv_aload_n E.1 E.2.1 dX0_enter_94 rfl (lv_at hl 0 rfl) ?_
  refine gX_19 E hW dX0_enter_95 ?_
  refine lv_iload_n E.1 E.2.1 dX0_enter_98 rfl (lv_at hl 3 rfl) ?_
  refine lv_iconst (v := (-1)) E.1 E.2.1 dX0_enter_99 (by decide) ?_
  refine sX_19 E hW (rfl) (he) (x_nbm) dX0_enter_100 (fun H locs hW => ?_)
  refine lv_aload_n E.1 E.2.1 dX0_enter_101 rfl (lv_at hl 0 rfl) ?_
  refine gX_21 E hW dX0_enter_102 ?_
  refine lv_iload_n E.1 E.2.1 dX0_enter_105 rfl (lv_at hl 3 rfl) ?_
  refine lv_iconst (v := (-1)) E.1 E.2.1 dX0_enter_106 (by decide) ?_
  refine sX_21 E hW (rfl) (he) (x_nbm) dX0_enter_107 (fun H locs hW => ?_)
  obtain ⟨S1, H1, hW⟩ : ∃ S1, ent0 S S1 p0 af ∧ PW D (xW cs a S1) (wA (xAd a) sz) s.heap H locs := ⟨_, ent0_mk S p0 af hj, hW⟩
  refine lv_iload E.1 E.2.1 dX0_enter_108 (lv_at hl 4 rfl) ?_
  refine lv_bipush (v := nI 9) E.1 E.2.1 dX0_enter_110 (by decide) ?_
  refine lv_icmp_lt (tgt := 116) E.1 E.2.1 dX0_enter_112 (by decide) (fun hc => ?_) (fun hc => ?_)
  rotate_left
  · have hc : 9 ≤ oper S p0 := nI_nltI (by omega) (by decide) hc
    exact cv_ret E hr hlocks hW (entd_9 hc H1) dX0_enter_115
  have hc : oper S p0 < 9 := (nI_ltI (by omega) (by decide)).mp hc
  have hp24 : p0 < 24 := by have := oper_in (S := S) (i := p0) (by omega); omega
  have q1 : ∀ k, k ≤ 5 → S1 k = S k := fun k hk => H1.1 k (by omega) (by omega) (by omega) (by omega) (by omega) (by omega) (by omega) (by omega)
  have q27 : S1 27 = S 27 := H1.1 27 (by decide) (by decide) (by decide) (by decide) (by decide) (by decide) (by decide) (by decide)
  have nw : ∀ {S2 : St} {r : Nat}, S2 27 = S 27 → r < 8 → nwR S2 r := fun {S2 r} e hr => by unfold nwR; rw [e]; exact h.nw hr
  have hx := hw.x (i := p0) (by omega)
  refine x_joinS (w := xW cs a) (A := wA (xAd a) sz) (H0 := s.heap) (D := D) (pj := 148) (lj := ls) (rj := []) (fun S2 => bdd S1 S2 (sl S (en S)) (lrg S p0) 19 20) (fun join => ?_) (fun S2 H locs hj hW => ?_)
  · refine lv_iload E.1 E.2.1 dX0_enter_116 (lv_at hl 4 rfl) ?_
    refine lv_bipush (v := nI 6) E.1 E.2.1 dX0_enter_118 (by decide) ?_
    refine lv_icmp_gt (tgt := 137) E.1 E.2.1 dX0_enter_120 (by decide) (fun hd => ?_) (fun hd => ?_)
    · have hd : 6 < oper S p0 := (nI_ltI (by decide) (by omega)).mp hd
      refine lv_aload_n E.1 E.2.1 dX0_enter_137 rfl (lv_at hl 0 rfl) ?_
      refine lv_iload_n E.1 E.2.1 dX0_enter_138 rfl (lv_at hl 3 rfl) ?_
      refine lv_aload_n E.1 E.2.1 dX0_enter_139 rfl (lv_at hl 0 rfl) ?_
      refine gX_2 E hW dX0_enter_140 ?_
      refine lv_iload_n E.1 E.2.1 dX0_enter_143 rfl (lv_at hl 1 rfl) ?_
      refine lX_2 E hW (rfl) (hp24) (show S1 2 p0 = nI (fx S p0) by rw [q1 2 (by decide)]; exact hx.1) dX0_enter_144 ?_
      refine cv_call (w := xW cs a) (ad := xAd a) (ci := 0) E hml hl.1 hW xAd_eq hA (tX_bindLeft l D cs a S1 (sl S (en S)) (fx S p0) he hx.2 (nw q27 hx.2)) (cwV 2 E.2.2.2.1 (lw_V q212 q214 qs17 q24 q215) rfl rfl rfl (by decide +kernel) ⟨Nat.le_of_ble_eq_true rfl, Nat.le_of_ble_eq_true rfl⟩) rfl rfl rfl rfl rfl (Nat.le_of_ble_eq_true rfl) dX0_enter_145 ⟨Nat.zero_le _, Nat.zero_le _⟩ (fun S2 H locs hb hW _ _ => ?_)
      exact join _ _ _ (by unfold lrg; rw [if_neg (by omega)]; exact hb) hW
    · have hd : oper S p0 ≤ 6 := nI_nltI (by decide) (by omega) hd
      have hy := hw.y (i := p0) hd
      refine lv_aload_n E.1 E.2.1 dX0_enter_123 rfl (lv_at hl 0 rfl) ?_
      refine lv_iload_n E.1 E.2.1 dX0_enter_124 rfl (lv_at hl 3 rfl) ?_
      refine lv_aload_n E.1 E.2.1 dX0_enter_125 rfl (lv_at hl 0 rfl) ?_
      refine gX_3 E hW dX0_enter_126 ?_
      refine lv_iload_n E.1 E.2.1 dX0_enter_129 rfl (lv_at hl 1 rfl) ?_
      refine lX_3 E hW (rfl) (hp24) (show S1 3 p0 = nI (fy S p0) by rw [q1 3 (by decide)]; exact hy.1) dX0_enter_130 ?_
      refine cv_call (w := xW cs a) (ad := xAd a) (ci := 0) E hml hl.1 hW xAd_eq hA (tX_bindLeft l D cs a S1 (sl S (en S)) (fy S p0) he hy.2 (nw q27 hy.2)) (cwV 2 E.2.2.2.1 (lw_V q212 q214 qs17 q24 q215) rfl rfl rfl (by decide +kernel) ⟨Nat.le_of_ble_eq_true rfl, Nat.le_of_ble_eq_true rfl⟩) rfl rfl rfl rfl rfl (Nat.le_of_ble_eq_true rfl) dX0_enter_131 ⟨Nat.zero_le _, Nat.zero_le _⟩ (fun S2 H locs hb hW _ _ => ?_)
      refine lv_goto (tgt := 148) E.1 E.2.1 dX0_enter_134 (by decide) ?_
      exact join _ _ _ (by unfold lrg; rw [if_pos hd]; exact hb) hW
  have hb := hj
  have k2 : ∀ q, q ≠ 19 → q ≠ 20 → S2 q = S1 q := by
    rcases hb with ⟨_, e⟩ | ⟨f, _, _, _, e⟩ | ⟨f, _, _, _, e⟩ <;> (intro q h1 h2; rw [e]; first | exact sput_k h1 | exact sput_k h2)
  have r1 : ∀ k, k ≤ 5 → S2 k = S k := fun k hk => by rw [k2 k (by omega) (by omega), q1 k hk]
  have r27 : S2 27 = S 27 := by rw [k2 27 (by decide) (by decide), q27]
  refine x_joinS (w := xW cs a) (A := wA (xAd a) sz) (H0 := s.heap) (D := D) (pj := 183) (lj := ls) (rj := []) (fun S4 => (hasR S p0 → bdd S2 S4 (sl S (en S)) (rrg S p0) 21 22) ∧ (¬ hasR S p0 → S4 = S2)) (fun join => ?_) (fun S4 H locs hj hW => ?_)
  · refine lv_iload E.1 E.2.1 dX0_enter_148 (lv_at hl 4 rfl) ?_
    refine lv_iconst (v := nI 3) E.1 E.2.1 dX0_enter_150 (by decide) ?_
    refine lv_icmp_gt (tgt := 165) E.1 E.2.1 dX0_enter_151 (by decide) (fun hd => ?_) (fun hd => ?_)
    · have hd : 3 < oper S p0 := (nI_ltI (by decide) (by omega)).mp hd
      refine lv_iload E.1 E.2.1 dX0_enter_165 (lv_at hl 4 rfl) ?_
      refine lv_bipush (v := nI 6) E.1 E.2.1 dX0_enter_167 (by decide) ?_
      refine lv_icmp_ne (tgt := 183) E.1 E.2.1 dX0_enter_169 (by decide) (fun h6 => ?_) (fun h6 => ?_)
      · have h6 := nI_neI h6
        exact join _ _ _ ⟨fun q => absurd q (by unfold hasR; omega), fun _ => rfl⟩ hW
      · have h6 : oper S p0 = 6 := nI_inj (by omega) (by decide) h6
        refine lv_aload_n E.1 E.2.1 dX0_enter_172 rfl (lv_at hl 0 rfl) ?_
        refine lv_iload_n E.1 E.2.1 dX0_enter_173 rfl (lv_at hl 3 rfl) ?_
        refine lv_aload_n E.1 E.2.1 dX0_enter_174 rfl (lv_at hl 0 rfl) ?_
        refine gX_2 E hW dX0_enter_175 ?_
        refine lv_iload_n E.1 E.2.1 dX0_enter_178 rfl (lv_at hl 1 rfl) ?_
        refine lX_2 E hW (rfl) (hp24) (show S2 2 p0 = nI (fx S p0) by rw [r1 2 (by decide)]; exact hx.1) dX0_enter_179 ?_
        refine cv_call (w := xW cs a) (ad := xAd a) (ci := 0) E hml hl.1 hW xAd_eq hA (tX_bindRight l D cs a S2 (sl S (en S)) (fx S p0) he hx.2 (nw r27 hx.2)) (cwV 2 E.2.2.2.1 (lw_V q216 q218 qs18 q24 q219) rfl rfl rfl (by decide +kernel) ⟨Nat.le_of_ble_eq_true rfl, Nat.le_of_ble_eq_true rfl⟩) rfl rfl rfl rfl rfl (Nat.le_of_ble_eq_true rfl) dX0_enter_180 ⟨Nat.zero_le _, Nat.zero_le _⟩ (fun S4 H locs hb4 hW _ _ => ?_)
        exact join _ _ _ ⟨fun _ => by unfold rrg; rw [if_pos h6]; exact hb4, fun q => absurd (Or.inr h6) q⟩ hW
    · have hd : oper S p0 ≤ 3 := nI_nltI (by decide) (by omega) hd
      have hz := hw.z (i := p0) hd
      refine lv_aload_n E.1 E.2.1 dX0_enter_154 rfl (lv_at hl 0 rfl) ?_
      refine lv_iload_n E.1 E.2.1 dX0_enter_155 rfl (lv_at hl 3 rfl) ?_
      refine lv_aload_n E.1 E.2.1 dX0_enter_156 rfl (lv_at hl 0 rfl) ?_
      refine gX_4 E hW dX0_enter_157 ?_
      refine lv_iload_n E.1 E.2.1 dX0_enter_160 rfl (lv_at hl 1 rfl) ?_
      refine lX_4 E hW (rfl) (hp24) (show S2 4 p0 = nI (fz S p0) by rw [r1 4 (by decide)]; exact hz.1) dX0_enter_161 ?_
      refine cv_call (w := xW cs a) (ad := xAd a) (ci := 0) E hml hl.1 hW xAd_eq hA (tX_bindRight l D cs a S2 (sl S (en S)) (fz S p0) he hz.2 (nw r27 hz.2)) (cwV 2 E.2.2.2.1 (lw_V q216 q218 qs18 q24 q219) rfl rfl rfl (by decide +kernel) ⟨Nat.le_of_ble_eq_true rfl, Nat.le_of_ble_eq_true rfl⟩) rfl rfl rfl rfl rfl (Nat.le_of_ble_eq_true rfl) dX0_enter_162 ⟨Nat.zero_le _, Nat.zero_le _⟩ (fun S4 H locs hb4 hW _ _ => ?_)
      refine lv_iload E.1 E.2.1 dX0_enter_165 (lv_at hl 4 rfl) ?_
      refine lv_bipush (v := nI 6) E.1 E.2.1 dX0_enter_167 (by decide) ?_
      refine lv_icmp_ne (tgt := 183) E.1 E.2.1 dX0_enter_169 (by decide) (fun _ => ?_) (fun h => absurd h (fun q => by have := nI_inj (by omega) (by decide) q; omega))
      exact join _ _ _ ⟨fun _ => by unfold rrg; rw [if_neg (by omega)]; exact hb4, fun q => absurd (Or.inl hd) q⟩ hW
  obtain ⟨hR1, hR2⟩ := hj
  have k4 : ∀ q, q ≠ 21 → q ≠ 22 → S4 q = S2 q := by
    by_cases hR : hasR S p0
    · rcases hR1 hR with ⟨_, e⟩ | ⟨f, _, _, _, e⟩ | ⟨f, _, _, _, e⟩ <;> (intro q h1 h2; rw [e]; first | exact sput_k h1 | exact sput_k h2)
    · intro q _ _; rw [hR2 hR]
  refine lv_iload E.1 E.2.1 dX0_enter_183 (lv_at hl 4 rfl) ?_
  refine lv_iconst (v := nI 5) E.1 E.2.1 dX0_enter_185 (by decide) ?_
  refine lv_icmp_gt (tgt := 202) E.1 E.2.1 dX0_enter_186 (by decide) (fun hd => ?_) (fun hd => ?_)
  · have hd : 5 < oper S p0 := (nI_ltI (by decide) (by omega)).mp hd
    exact cv_ret E hr hlocks hW (entd_8 hw h hn8 (by omega) H1 hb hR1 hR2 (by rw [if_neg (by omega)])) dX0_enter_202
  have hd : oper S p0 ≤ 5 := nI_nltI (by decide) (by omega) hd
  refine lv_aload_n E.1 E.2.1 dX0_enter_189 rfl (lv_at hl 0 rfl) ?_
  refine gX_27 E hW dX0_enter_190 ?_
  refine lv_aload_n E.1 E.2.1 dX0_enter_193 rfl (lv_at hl 0 rfl) ?_
  refine gX_2 E hW dX0_enter_194 ?_
  refine lv_iload_n E.1 E.2.1 dX0_enter_197 rfl (lv_at hl 1 rfl) ?_
  refine lX_2 E hW (rfl) (hp24) (show S4 2 p0 = nI (fx S p0) by rw [k4 2 (by decide) (by decide), r1 2 (by decide)]; exact hx.1) dX0_enter_198 ?_
  refine lv_iload_n E.1 E.2.1 dX0_enter_199 rfl (lv_at hl 3 rfl) ?_
  refine lv_i2b (v := nI (sl S (en S))) E.1 E.2.1 dX0_enter_200 (x_i2b (by omega)) ?_
  refine sX_27 E hW (rfl) (hx.2) (x_nb (by omega)) dX0_enter_201 (fun H locs hW => ?_)
  exact cv_ret E hr hlocks hW (entd_8 hw h hn8 (by omega) H1 hb hR1 hR2 (by rw [if_pos hd])) dX0_enter_202
section L_execute
variable {p : Program} {l : Launch} {e : Env} {R : Room} {s : State} {m : MethodId} {args : Array Value} {below : List Frame} {meth : Method} {c : Code} {H : Heap} {locs : List Loc} {cells slots : Nat} {Q : State → Prop}
variable {cc : ByteArray} {pc : Nat} {ls : Array Slot} {rest : List Value} {D : va_G} {cs : ClassId × ClassId × ClassId} {a : Nat → Nat} {S : St} {A : Nat → Prop} {H0 : Heap}
set_option maxHeartbeats 4000000 in
theorem tlX_execute {k0 fp : Nat} {x v2 v3 v4 v5 : Int32} (E : XE RX0 p s m args c cX0_execute D cs) (hml : c.maxLocals = 7) (hA : ∀ q, H0.size ≤ q → A q) (hfr : 1 ≤ R.frames ∧ 23 ≤ R.locals) (hcs : cells ≤ R.cells ∧ slots ≤ R.slots) (h : inv S fp) (hk : k0 < en S) (hx : x = val S (pl S k0) (vv S k0)) (ha : oper S (pl S k0) = 6 → S 23 (sl S k0) ≠ 0) (hW : PW D (xW cs a S) A H0 H locs) (hl : lv_has ls 7 [(0, .ref (a 0)), (1, .int (nI (sl S k0))), (2, .int v2), (3, .int v3), (4, .int v4), (5, .int v5), (6, .int x)])
    (kk : ∀ (S1 : St) (H : Heap) (locs : List Loc) (ls : Array Slot), inv S1 fp → (∀ q, q ≠ 19 → q ≠ 20 → q ≠ 21 → q ≠ 22 → q ≠ 25 → q ≠ 26 → S1 q = S q) → S1 25 = upd (S 25) (sl S k0) 1 → PW D (xW cs a S1) A H0 H locs → W p l e R s m args below meth c H locs cells slots Q (F0 m 156 ls [])) : W p l e R s m args below meth c H locs cells slots Q (F0 m 136 ls []) := by
  have he := sl_lt S k0
  have hh := h.h
  have hn := h.n
  refine lv_aload_n E.1 E.2.1 dX0_execute_136 rfl (lv_at hl 0 rfl) ?_
  refine gX_26 E hW dX0_execute_137 ?_
  refine lv_iload_n E.1 E.2.1 dX0_execute_140 rfl (lv_at hl 1 rfl) ?_
  refine lv_iload E.1 E.2.1 dX0_execute_141 (lv_at hl 6 rfl) ?_
  refine sX_26 E hW (rfl) (he) dX0_execute_143 (fun H locs hW => ?_)
  refine lv_aload_n E.1 E.2.1 dX0_execute_144 rfl (lv_at hl 0 rfl) ?_
  refine gX_25 E hW dX0_execute_145 ?_
  refine lv_iload_n E.1 E.2.1 dX0_execute_148 rfl (lv_at hl 1 rfl) ?_
  refine lv_iconst (v := 1) E.1 E.2.1 dX0_execute_149 (by decide) ?_
  refine sX_25 E hW (rfl) (he) (x_nz1) dX0_execute_150 (fun H locs hW => ?_)
  refine lv_aload_n E.1 E.2.1 dX0_execute_151 rfl (lv_at hl 0 rfl) ?_
  refine lv_iload_n E.1 E.2.1 dX0_execute_152 rfl (lv_at hl 1 rfl) ?_
  refine cv_call (w := xW cs a) (ad := xAd a) (ci := 0) E hml hl.1 hW xAd_eq hA (tX_announce l D cs a (sput (sput S 26 (sl S k0) x) 25 (sl S k0) 1) (sl S k0) hh.1 hh.2 hn.1 hn.2 he) (cwV 1 E.2.2.2.1 (lw_V q192 q194 qs12 q24 q195) rfl rfl rfl (by decide +kernel) hfr) rfl rfl rfl rfl rfl (Nat.le_of_ble_eq_true rfl) dX0_execute_153 hcs (fun S1 H locs hp hW _ _ => ?_)
  obtain ⟨g1, g2, g3⟩ := done_inv h hk hx ha hp
  exact kk S1 _ _ _ g1 g2 g3 hW
end L_execute
set_option maxHeartbeats 4000000 in
set_option maxRecDepth 100000 in
theorem tX_execute (l : Launch) (D : va_G) (cs : ClassId × ClassId × ClassId) (a : Nat → Nat) (S : St) (fp k0 : Nat) (hw : wfP S) (h : inv S fp) (hk : k0 < en S) (hd0 : S 25 (sl S k0) = 0) (h19 : S 19 (sl S k0) = -1) (h21 : S 21 (sl S k0) = -1) : CI l yX0_execute cX0_execute 7 .boolean (rm_ 1 25) D cs (xW cs a) (xAd a) [.ref (a 0), .int (nI (sl S k0)), .int (nI k0)] S (fun v S1 => inv S1 fp ∧ (∀ q, q ≠ 19 → q ≠ 20 → q ≠ 21 → q ≠ 22 → q ≠ 23 → q ≠ 24 → q ≠ 25 → q ≠ 26 → S1 q = S q) ∧ (∀ j, S 25 j = 1 → S1 25 j = 1) ∧ (k0 = 0 → S1 25 (sl S k0) = 1) ∧ (v = 0 ∨ v = 1)) := by
  intro sz
  refine cv_start (w := xW cs a) (ad := xAd a) (C := RX0) (by decide) rfl xAd_eq (Nat.le_of_ble_eq_true rfl) ?_
  intro p e s m below meth c ls E hml hr hlocks hsz hW hl
  have hA : ∀ q, s.heap.size ≤ q → wA (xAd a) sz q := fun q h => Or.inr (hsz ▸ h)
  have hl : lv_has ls 7 [(0, .ref (a 0)), (1, .int (nI (sl S k0))), (2, .int (nI k0))] := hl
  have he := sl_lt S k0
  have hh := h.h
  have hn := h.n
  have hent := h.2.2.2.2.1 k0 hk
  have hvok := h.2.2.2.2.2.1 k0 hk
  have ho8 : oper S (pl S k0) ≤ 8 := by
    rcases Nat.lt_or_ge (oper S (pl S k0)) 9 with q | q
    · omega
    · have := hent.2.2.2.2.2.2 q; rw [hd0] at this; exact absurd this (by decide)
  have hp24 : pl S k0 < 24 := by have h1 := oper_in (S := S) (i := pl S k0) (by omega); have h2 := hw.2.1; omega
  have hoL := opL h hk hd0 h19
  refine lv_aload_n E.1 E.2.1 dX0_execute_0 rfl (lv_at hl 0 rfl) ?_
  refine gX_17 E hW dX0_execute_1 ?_
  refine lv_iload_n E.1 E.2.1 dX0_execute_4 rfl (lv_at hl 1 rfl) ?_
  refine lX_17 E hW (rfl) (he) (hent.2.2.1) dX0_execute_5 ?_
  refine xl_istore_n (lv' := [(0, _), (1, _), (2, _), (3, _)]) E dX0_execute_6 rfl hl (by decide) [1, 2, 3, 0] rfl (fun ls hl => ?_)
  refine lv_aload_n E.1 E.2.1 dX0_execute_7 rfl (lv_at hl 0 rfl) ?_
  refine gX_4 E hW dX0_execute_8 ?_
  refine lv_aload_n E.1 E.2.1 dX0_execute_11 rfl (lv_at hl 0 rfl) ?_
  refine gX_16 E hW dX0_execute_12 ?_
  refine lv_iload_n E.1 E.2.1 dX0_execute_15 rfl (lv_at hl 1 rfl) ?_
  refine lX_16 E hW (rfl) (he) (hent.p.1) dX0_execute_16 ?_
  refine lX_4 E hW (rfl) (hp24) (rfl) dX0_execute_17 ?_
  refine xl_istore (lv' := [(0, _), (1, _), (2, _), (3, _), (4, _)]) E dX0_execute_18 hl (by decide) [1, 2, 3, 4, 0] rfl (fun ls hl => ?_)
  refine lv_aload_n E.1 E.2.1 dX0_execute_20 rfl (lv_at hl 0 rfl) ?_
  refine gX_20 E hW dX0_execute_21 ?_
  refine lv_iload_n E.1 E.2.1 dX0_execute_24 rfl (lv_at hl 1 rfl) ?_
  refine lX_20 E hW (rfl) (he) (rfl) dX0_execute_25 ?_
  refine xl_istore (lv' := [(0, _), (1, _), (2, _), (3, _), (4, _), (5, _)]) E dX0_execute_26 hl (by decide) [1, 2, 3, 4, 5, 0] rfl (fun ls hl => ?_)
  refine lv_iload E.1 E.2.1 dX0_execute_28 (lv_at hl 5 rfl) ?_
  refine xl_istore (lv' := [(0, _), (1, _), (2, _), (3, _), (4, _), (5, _), (6, _)]) E dX0_execute_30 hl (by decide) [1, 2, 3, 4, 5, 6, 0] rfl (fun ls hl => ?_)
  refine lv_iload_n E.1 E.2.1 dX0_execute_32 rfl (lv_at hl 3 rfl) ?_
  refine lv_iconst (v := nI 5) E.1 E.2.1 dX0_execute_33 (by decide) ?_
  refine x_joinP (pj := 43) (lj := ls) (rj := []) (oper S (pl S k0) = 5 ∨ oper S (pl S k0) = 6) (fun join2 => ?_) (fun h56 => ?_)
  · refine lv_icmp_eq (tgt := 43) E.1 E.2.1 dX0_execute_34 (by decide) (fun hc => ?_) (fun hc => ?_)
    · exact join2 (Or.inl (nI_inj (by omega) (by decide) hc))
    · have hc := nI_neI hc
      refine lv_iload_n E.1 E.2.1 dX0_execute_37 rfl (lv_at hl 3 rfl) ?_
      refine lv_bipush (v := nI 6) E.1 E.2.1 dX0_execute_38 (by decide) ?_
      refine lv_icmp_ne (tgt := 106) E.1 E.2.1 dX0_execute_40 (by decide) (fun hd => ?_) (fun hd => ?_)
      rotate_left
      · exact join2 (Or.inr (nI_inj (by omega) (by decide) hd))
      have hd := nI_neI hd
      refine lv_iload_n E.1 E.2.1 dX0_execute_106 rfl (lv_at hl 3 rfl) ?_
      refine lv_iconst (v := nI 4) E.1 E.2.1 dX0_execute_107 (by decide) ?_
      refine lv_icmp_gt (tgt := 136) E.1 E.2.1 dX0_execute_108 (by decide) (fun h4 => ?_) (fun h4 => ?_)
      · have h4 : 4 < oper S (pl S k0) := (nI_ltI (by decide) (by omega)).mp h4
        refine tlX_execute (k0 := k0) (fp := fp) E hml hA ⟨Nat.le_of_ble_eq_true rfl, Nat.le_of_ble_eq_true rfl⟩ ⟨Nat.zero_le _, Nat.zero_le _⟩ h hk (by
          rw [hoL]; unfold lrg val
          rw [if_neg (by omega), if_neg (by omega), if_neg (by omega), if_neg hc]) (fun q => absurd q hd) hW hl (fun S1 H locs ls g1 g2 g3 hW => ?_)
        refine lv_iconst (v := 1) E.1 E.2.1 dX0_execute_156 (by decide) ?_
        exact cz_ret E hr hlocks hW (by decide) (⟨g1, fun q h19 h20 h21 h22 h23 h24 h25 h26 => g2 q h19 h20 h21 h22 h25 h26, fun j hj => by
          rw [g3]
          by_cases e : j = sl S k0
          · subst e; exact pk_us
          · exact (pk_un e).trans hj, fun _ => by rw [g3]; exact pk_us, Or.inr rfl⟩) dX0_execute_157
      · have h4 : oper S (pl S k0) ≤ 4 := nI_nltI (by decide) (by omega) h4
        refine lv_aload_n E.1 E.2.1 dX0_execute_111 rfl (lv_at hl 0 rfl) ?_
        refine lv_iload_n E.1 E.2.1 dX0_execute_112 rfl (lv_at hl 3 rfl) ?_
        refine lv_iload E.1 E.2.1 dX0_execute_113 (lv_at hl 5 rfl) ?_
        refine x_join (pj := 131) (lj := ls) (rj := [.int (S 20 (sl S k0)), .int (nI (oper S (pl S k0))), .ref (a 0)]) (fun v => v = if oper S (pl S k0) = 4 then S 4 (pl S k0) else S 22 (sl S k0)) (fun join => ?_) (fun v hj => ?_)
        · refine lv_iload_n E.1 E.2.1 dX0_execute_115 rfl (lv_at hl 3 rfl) ?_
          refine lv_iconst (v := nI 4) E.1 E.2.1 dX0_execute_116 (by decide) ?_
          refine lv_icmp_ne (tgt := 125) E.1 E.2.1 dX0_execute_117 (by decide) (fun hq => ?_) (fun hq => ?_)
          · have hq := nI_neI hq
            refine lv_aload_n E.1 E.2.1 dX0_execute_125 rfl (lv_at hl 0 rfl) ?_
            refine gX_22 E hW dX0_execute_126 ?_
            refine lv_iload_n E.1 E.2.1 dX0_execute_129 rfl (lv_at hl 1 rfl) ?_
            refine lX_22 E hW (rfl) (he) (rfl) dX0_execute_130 ?_
            exact join _ (by rw [if_neg hq])
          · have hq : oper S (pl S k0) = 4 := nI_inj (by omega) (by decide) hq
            refine lv_iload E.1 E.2.1 dX0_execute_120 (lv_at hl 4 rfl) ?_
            refine lv_goto (tgt := 131) E.1 E.2.1 dX0_execute_122 (by decide) ?_
            exact join _ (by rw [if_pos hq])
        refine ci_call (w := xW cs a) (ad := xAd a) (ci := 0) E hml hl.1 hW xAd_eq hA (tX_compute l D cs a S (oper S (pl S k0)) (S 20 (sl S k0)) v (by omega)) (cwV 3 E.2.2.2.1 (lw_V q188 q190 qs11 q24 q191) rfl rfl rfl (by decide +kernel) ⟨Nat.le_of_ble_eq_true rfl, Nat.le_of_ble_eq_true rfl⟩) rfl rfl rfl rfl rfl (Nat.le_of_ble_eq_true rfl) dX0_execute_131 ⟨Nat.zero_le _, Nat.zero_le _⟩ (fun x S1 H locs hp hW _ _ => ?_)
        obtain ⟨e1, hxv⟩ := hp
        obtain rfl := e1.symm
        have hx : x = val S (pl S k0) (vv S k0) := by
          rw [hxv, hj, hoL]; unfold lrg val; rw [if_pos (by omega)]
          by_cases c3 : oper S (pl S k0) ≤ 3
          · rw [if_pos c3, if_neg (by omega), opR h hk hd0 h21 (Or.inl c3)]; unfold rrg; rw [if_neg (by omega)]
          · have c4 : oper S (pl S k0) = 4 := by omega
            rw [if_neg c3, if_pos c4, if_pos c4, c4]; rfl
        refine xl_istore (lv' := [(0, _), (1, _), (2, _), (3, _), (4, _), (5, _), (6, _)]) E dX0_execute_134 hl (by decide) [1, 2, 3, 4, 5, 6, 0] rfl (fun ls hl => ?_)
        refine tlX_execute (k0 := k0) (fp := fp) E hml hA ⟨Nat.le_of_ble_eq_true rfl, Nat.le_of_ble_eq_true rfl⟩ ⟨Nat.zero_le _, Nat.zero_le _⟩ h hk (hx) (fun q => absurd q hd) hW hl (fun S1 H locs ls g1 g2 g3 hW => ?_)
        refine lv_iconst (v := 1) E.1 E.2.1 dX0_execute_156 (by decide) ?_
        exact cz_ret E hr hlocks hW (by decide) (⟨g1, fun q h19 h20 h21 h22 h23 h24 h25 h26 => g2 q h19 h20 h21 h22 h25 h26, fun j hj => by
          rw [g3]
          by_cases e : j = sl S k0
          · subst e; exact pk_us
          · exact (pk_un e).trans hj, fun _ => by rw [g3]; exact pk_us, Or.inr rfl⟩) dX0_execute_157
  obtain ⟨hadr, hinv⟩ := addr_inv h hk hd0 h19 (by omega)
  have had16 := adr_lt S (pl S k0) (vv S k0)
  refine lv_aload_n E.1 E.2.1 dX0_execute_43 rfl (lv_at hl 0 rfl) ?_
  refine gX_24 E hW dX0_execute_44 ?_
  refine lv_iload_n E.1 E.2.1 dX0_execute_47 rfl (lv_at hl 1 rfl) ?_
  refine lv_iload E.1 E.2.1 dX0_execute_48 (lv_at hl 5 rfl) ?_
  refine lv_iload E.1 E.2.1 dX0_execute_50 (lv_at hl 4 rfl) ?_
  refine lv_iadd E.1 E.2.1 dX0_execute_52 ?_
  refine lv_bipush (v := 15) E.1 E.2.1 dX0_execute_53 (by decide) ?_
  refine lv_iand E.1 E.2.1 dX0_execute_55 ?_
  refine x_top (y := nI (adr S (pl S k0) (vv S k0))) (hadr) ?_
  refine lv_i2b (v := nI (adr S (pl S k0) (vv S k0))) E.1 E.2.1 dX0_execute_56 (x_i2b (by omega)) ?_
  refine sX_24 E hW (rfl) (he) (x_nb (by omega)) dX0_execute_57 (fun H locs hW => ?_)
  refine lv_aload_n E.1 E.2.1 dX0_execute_58 rfl (lv_at hl 0 rfl) ?_
  refine gX_23 E hW dX0_execute_59 ?_
  refine lv_iload_n E.1 E.2.1 dX0_execute_62 rfl (lv_at hl 1 rfl) ?_
  refine lv_iconst (v := 1) E.1 E.2.1 dX0_execute_63 (by decide) ?_
  refine sX_23 E hW (rfl) (he) (x_nz1) dX0_execute_64 (fun H locs hW => ?_)
  refine lv_iload_n E.1 E.2.1 dX0_execute_65 rfl (lv_at hl 3 rfl) ?_
  refine lv_iconst (v := nI 5) E.1 E.2.1 dX0_execute_66 (by decide) ?_
  generalize hSa : sput (sput S 24 (sl S k0) (nI (adr S (pl S k0) (vv S k0)))) 23 (sl S k0) 1 = Sa at hW hinv
  have s1 : ∀ q, q ≠ 23 → q ≠ 24 → Sa q = S q := fun q h1 h2 => by rw [← hSa, sput_k h1, sput_k h2]
  have s24 : Sa 24 (sl S k0) = nI (adr S (pl S k0) (vv S k0)) := by rw [← hSa, sput_k (by decide)]; exact sput_s
  have s23 : Sa 23 (sl S k0) = 1 := by rw [← hSa]; exact sput_s
  have hpp : ∀ q, q ≤ 4 → Sa q = S q := fun q hq => s1 q (by omega) (by omega)
  have hsl : ∀ j, sl Sa j = sl S j := fun j => by unfold sl hd; rw [s1 14 (by decide) (by decide)]
  have hpl : ∀ j, pl Sa j = pl S j := fun j => by unfold pl; rw [hsl, s1 16 (by decide) (by decide)]
  have hvv : ∀ j, vv Sa j = vv S j := fun j => vv_c hpp (s1 5 (by decide) (by decide)) (s1 6 (by decide) (by decide)) j (fun i _ => hpl i)
  have hen : en Sa = en S := by unfold en; rw [s1 15 (by decide) (by decide)]
  have hha := hinv.h
  have hkA : k0 < en Sa := by omega
  have hvalA : val Sa (pl Sa k0) (vv Sa k0) = val S (pl S k0) (vv S k0) := by rw [hpl, hvv, val_c hpp]
  have h23A : oper Sa (pl Sa k0) = 6 → Sa 23 (sl Sa k0) ≠ 0 := fun _ => by rw [hsl, s23]; decide
  have e25A : Sa 25 = S 25 := s1 25 (by decide) (by decide)
  refine lv_icmp_ne (tgt := 81) E.1 E.2.1 dX0_execute_67 (by decide) (fun h5 => ?_) (fun h5 => ?_)
  · have h5 := nI_neI h5
    have h6 : oper S (pl S k0) = 6 := by omega
    refine lv_iload_n E.1 E.2.1 dX0_execute_81 rfl (lv_at hl 3 rfl) ?_
    refine lv_iconst (v := nI 5) E.1 E.2.1 dX0_execute_82 (by decide) ?_
    refine lv_icmp_ne (tgt := 95) E.1 E.2.1 dX0_execute_83 (by decide) (fun _ => ?_) (fun h => absurd h (fun q => h5 (nI_inj (by omega) (by decide) q)))
    have hx : Sa 22 (sl S k0) = val S (pl S k0) (vv S k0) := by
      rw [s1 22 (by decide) (by decide), opR h hk hd0 h21 (Or.inr h6)]; unfold rrg val
      rw [if_pos h6, if_neg (by omega), if_neg (by omega), if_neg (by omega)]
    refine lv_aload_n E.1 E.2.1 dX0_execute_95 rfl (lv_at hl 0 rfl) ?_
    refine gX_22 E hW dX0_execute_96 ?_
    refine lv_iload_n E.1 E.2.1 dX0_execute_99 rfl (lv_at hl 1 rfl) ?_
    refine lX_22 E hW (rfl) (he) (rfl) dX0_execute_100 ?_
    refine xl_istore (lv' := [(0, _), (1, _), (2, _), (3, _), (4, _), (5, _), (6, _)]) E dX0_execute_101 hl (by decide) [1, 2, 3, 4, 5, 6, 0] rfl (fun ls hl => ?_)
    refine lv_goto (tgt := 136) E.1 E.2.1 dX0_execute_103 (by decide) ?_
    rw [← hsl k0] at hl
    refine tlX_execute (k0 := k0) (fp := fp) E hml hA ⟨Nat.le_of_ble_eq_true rfl, Nat.le_of_ble_eq_true rfl⟩ ⟨Nat.zero_le _, Nat.zero_le _⟩ hinv hkA (by first | (rw [hvalA]; exact hx) | (rw [hvalA, hsl]; exact hx)) h23A hW hl (fun S1 H locs ls g1 g2 g3 hW => ?_)
    rw [hsl, e25A] at g3
    refine lv_iconst (v := 1) E.1 E.2.1 dX0_execute_156 (by decide) ?_
    exact cz_ret E hr hlocks hW (by decide) (⟨g1, fun q h19 h20 h21 h22 h23 h24 h25 h26 => by rw [g2 q h19 h20 h21 h22 h25 h26, s1 q h23 h24], fun j hj => by
      rw [g3]
      by_cases e : j = sl S k0
      · subst e; exact pk_us
      · exact (pk_un e).trans hj, fun _ => by rw [g3]; exact pk_us, Or.inr rfl⟩) dX0_execute_157
  have h5 : oper S (pl S k0) = 5 := nI_inj (by omega) (by decide) h5
  refine lv_aload_n E.1 E.2.1 dX0_execute_70 rfl (lv_at hl 0 rfl) ?_
  refine lv_iload_n E.1 E.2.1 dX0_execute_71 rfl (lv_at hl 1 rfl) ?_
  refine lv_iload_n E.1 E.2.1 dX0_execute_72 rfl (lv_at hl 2 rfl) ?_
  refine ci_call (w := xW cs a) (ad := xAd a) (ci := 0) E hml hl.1 hW xAd_eq hA (tX_mayLoad l D cs a Sa (sl S k0) k0 hha.1 hha.2 he (by omega)) (cwV 2 E.2.2.2.1 (lw_V q180 q182 qs9 q24 q183) rfl rfl rfl (by decide +kernel) ⟨Nat.le_of_ble_eq_true rfl, Nat.le_of_ble_eq_true rfl⟩) rfl rfl rfl rfl rfl (Nat.le_of_ble_eq_true rfl) dX0_execute_73 ⟨Nat.zero_le _, Nat.zero_le _⟩ (fun v S1 H locs hp hW _ _ => ?_)
  obtain ⟨e1, hml2⟩ := hp
  obtain rfl := e1.symm
  refine lv_if_ne (tgt := 81) E.1 E.2.1 dX0_execute_76 (by decide) (fun hv => ?_) (fun hv => ?_)
  rotate_left
  · have hk0 : k0 ≠ 0 := by
      rcases hml2 with ⟨e, _⟩ | ⟨_, e⟩
      · rw [hv] at e; exact absurd e (by decide)
      · exact e
    refine lv_iconst (v := 0) E.1 E.2.1 dX0_execute_79 (by decide) ?_
    exact cz_ret E hr hlocks hW (by decide) (⟨hinv, fun q _ _ _ _ h23 h24 _ _ => s1 q h23 h24, fun j hj => by rw [e25A]; exact hj, fun q => absurd q hk0, Or.inl rfl⟩) dX0_execute_80
  have hmay : ∀ j, j < k0 → mlk Sa (sl S k0) j := by
    rcases hml2 with ⟨_, e⟩ | ⟨e, _⟩
    · exact e
    · exact absurd e hv
  refine lv_iload_n E.1 E.2.1 dX0_execute_81 rfl (lv_at hl 3 rfl) ?_
  refine lv_iconst (v := nI 5) E.1 E.2.1 dX0_execute_82 (by decide) ?_
  refine lv_icmp_ne (tgt := 95) E.1 E.2.1 dX0_execute_83 (by decide) (fun h => absurd (by rw [h5]) h) (fun _ => ?_)
  refine lv_aload_n E.1 E.2.1 dX0_execute_86 rfl (lv_at hl 0 rfl) ?_
  refine lv_iload_n E.1 E.2.1 dX0_execute_87 rfl (lv_at hl 1 rfl) ?_
  refine lv_iload_n E.1 E.2.1 dX0_execute_88 rfl (lv_at hl 2 rfl) ?_
  refine ci_call (w := xW cs a) (ad := xAd a) (ci := 0) E hml hl.1 hW xAd_eq hA (tX_loadedBy l D cs a Sa (sl S k0) k0 hha.1 hha.2 he (by omega) ⟨_, had16, s24⟩) (cwV 2 E.2.2.2.1 (lw_V q184 q186 qs10 q24 q187) rfl rfl rfl (by decide +kernel) ⟨Nat.le_of_ble_eq_true rfl, Nat.le_of_ble_eq_true rfl⟩) rfl rfl rfl rfl rfl (Nat.le_of_ble_eq_true rfl) dX0_execute_89 ⟨Nat.zero_le _, Nat.zero_le _⟩ (fun x S1 H locs hp hW _ _ => ?_)
  obtain ⟨e1, hxv⟩ := hp
  obtain rfl := e1.symm
  have hx : x = val S (pl S k0) (vv S k0) := by
    have hwA : wfP Sa := wfP_c hpp hw
    have hld := ldf_vv (k := k0) hwA hinv hkA had16 (by rw [hsl]; exact s24) k0 (Nat.le_refl _) (fun j hj => by rw [hsl]; exact hmay j hj)
    rw [hsl] at hld
    rw [hxv, hld, hvv]; unfold val
    rw [if_neg (by omega), if_neg (by omega), if_pos h5]
  refine lv_goto (tgt := 101) E.1 E.2.1 dX0_execute_92 (by decide) ?_
  refine xl_istore (lv' := [(0, _), (1, _), (2, _), (3, _), (4, _), (5, _), (6, _)]) E dX0_execute_101 hl (by decide) [1, 2, 3, 4, 5, 6, 0] rfl (fun ls hl => ?_)
  refine lv_goto (tgt := 136) E.1 E.2.1 dX0_execute_103 (by decide) ?_
  rw [← hsl k0] at hl
  refine tlX_execute (k0 := k0) (fp := fp) E hml hA ⟨Nat.le_of_ble_eq_true rfl, Nat.le_of_ble_eq_true rfl⟩ ⟨Nat.zero_le _, Nat.zero_le _⟩ hinv hkA (by first | (rw [hvalA]; exact hx) | (rw [hvalA, hsl]; exact hx)) h23A hW hl (fun S1 H locs ls g1 g2 g3 hW => ?_)
  rw [hsl, e25A] at g3
  refine lv_iconst (v := 1) E.1 E.2.1 dX0_execute_156 (by decide) ?_
  exact cz_ret E hr hlocks hW (by decide) (⟨g1, fun q h19 h20 h21 h22 h23 h24 h25 h26 => by rw [g2 q h19 h20 h21 h22 h25 h26, s1 q h23 h24], fun j hj => by
    rw [g3]
    by_cases e : j = sl S k0
    · subst e; exact pk_us
    · exact (pk_un e).trans hj, fun _ => by rw [g3]; exact pk_us, Or.inr rfl⟩) dX0_execute_157
end
section
set_option maxRecDepth 100000
theorem sl_c {S S1 : St} (h : S1 14 = S 14) (j : Nat) : sl S1 j = sl S j := by unfold sl hd; rw [h]
theorem en_c {S S1 : St} (h : S1 15 = S 15) : en S1 = en S := by unfold en; rw [h]
theorem neg_m1 : ¬ (0 : Int32) ≤ -1 := by decide
section L_executeSome
variable {p : Program} {l : Launch} {e : Env} {R : Room} {s : State} {m : MethodId} {args : Array Value} {below : List Frame} {meth : Method} {c : Code} {H : Heap} {locs : List Loc} {cells slots : Nat} {Q : State → Prop}
variable {cc : ByteArray} {pc : Nat} {ls : Array Slot} {rest : List Value} {D : va_G} {cs : ClassId × ClassId × ClassId} {a : Nat → Nat} {S : St} {A : Nat → Prop} {H0 : Heap}
set_option maxHeartbeats 4000000 in
theorem lpX_executeSome {fp : Nat} (E : XE RX0 p s m args c cX0_executeSome D cs) (hml : c.maxLocals = 4) (hA : ∀ q, H0.size ≤ q → A q) (hfr : 2 ≤ R.frames ∧ 51 ≤ R.locals) (hcs : cells ≤ R.cells ∧ slots ≤ R.slots) (hw : wfP S) (hS : inv S fp)
    (k75 : ∀ (S1 : St) (H : Heap) (locs : List Loc) (ls : Array Slot), inv S1 fp → (∀ q, q ≠ 19 → q ≠ 20 → q ≠ 21 → q ≠ 22 → q ≠ 23 → q ≠ 24 → q ≠ 25 → q ≠ 26 → S1 q = S q) → (0 < en S → S1 25 (sl S1 0) = 1) → PW D (xW cs a S1) A H0 H locs → W p l e R s m args below meth c H locs cells slots Q (F0 m 75 ls [])) :
    ∀ (f k x : Nat) (S1 : St) (H : Heap) (locs : List Loc) (ls : Array Slot), k + f = en S → x ≤ k → inv S1 fp → (∀ q, q ≠ 19 → q ≠ 20 → q ≠ 21 → q ≠ 22 → q ≠ 23 → q ≠ 24 → q ≠ 25 → q ≠ 26 → S1 q = S q) → (0 < k → S1 25 (sl S1 0) = 1) → PW D (xW cs a S1) A H0 H locs → lv_has ls 4 [(0, .ref (a 0)), (1, .int (nI x)), (2, .int (nI k))] → W p l e R s m args below meth c H locs cells slots Q (F0 m 4 ls []) := by
  intro f
  induction f with
  | zero =>
    intro k x S1 H locs ls hk hx h hs hdd hW hl
    have hn8 := hS.n.2
    have e15 : S1 15 0 = nI (en S) := by rw [hs 15 (by decide) (by decide) (by decide) (by decide) (by decide) (by decide) (by decide) (by decide)]; exact hS.n.1
    obtain rfl : k = en S := by omega
    refine lv_iload_n E.1 E.2.1 dX0_executeSome_4 rfl (lv_at hl 2 rfl) ?_
    refine lv_aload_n E.1 E.2.1 dX0_executeSome_5 rfl (lv_at hl 0 rfl) ?_
    refine gX_15 E hW e15 dX0_executeSome_6 ?_
    refine lv_icmp_ge (tgt := 75) E.1 E.2.1 dX0_executeSome_9 (by decide) (fun _ => ?_) (fun h => absurd (nI_le (Nat.le_refl _) (by omega)) h)
    exact k75 S1 H locs ls h hs hdd hW
  | succ f ih =>
    intro k x S1 H locs ls hk hx h hs hdd hW hl
    have hn8 := hS.n.2
    have e15 : S1 15 0 = nI (en S) := by rw [hs 15 (by decide) (by decide) (by decide) (by decide) (by decide) (by decide) (by decide) (by decide)]; exact hS.n.1
    have hkn : k < en S := by omega
    have hen : en S1 = en S := en_c (hs 15 (by decide) (by decide) (by decide) (by decide) (by decide) (by decide) (by decide) (by decide))
    have hkn1 : k < en S1 := by omega
    have hh := h.h
    have he := sl_lt S1 k
    have hent := h.2.2.2.2.1 k hkn1
    refine lv_iload_n E.1 E.2.1 dX0_executeSome_4 rfl (lv_at hl 2 rfl) ?_
    refine lv_aload_n E.1 E.2.1 dX0_executeSome_5 rfl (lv_at hl 0 rfl) ?_
    refine gX_15 E hW e15 dX0_executeSome_6 ?_
    refine lv_icmp_ge (tgt := 75) E.1 E.2.1 dX0_executeSome_9 (by decide) (fun h => absurd h (nI_ge hkn (by omega))) (fun _ => ?_)
    refine lv_iload_n E.1 E.2.1 dX0_executeSome_12 rfl (lv_at hl 1 rfl) ?_
    refine lv_iconst (v := nI 2) E.1 E.2.1 dX0_executeSome_13 (by decide) ?_
    refine lv_icmp_ge (tgt := 75) E.1 E.2.1 dX0_executeSome_14 (by decide) (fun hx2 => ?_) (fun hx2 => ?_)
    · have hx2 : 2 ≤ x := (nI_leI (by decide) (by omega)).mp hx2
      exact k75 S1 H locs ls h hs (fun _ => hdd (by omega)) hW
    refine lv_aload_n E.1 E.2.1 dX0_executeSome_17 rfl (lv_at hl 0 rfl) ?_
    refine gX_14 E hW hh.1 dX0_executeSome_18 ?_
    refine lv_iload_n E.1 E.2.1 dX0_executeSome_21 rfl (lv_at hl 2 rfl) ?_
    refine lv_iadd E.1 E.2.1 dX0_executeSome_22 ?_
    refine x_top (y := nI (hd S1 + k)) (nI_add _ _) ?_
    refine lv_bipush (v := 7) E.1 E.2.1 dX0_executeSome_23 (by decide) ?_
    refine lv_iand E.1 E.2.1 dX0_executeSome_25 ?_
    refine x_top (y := nI (sl S1 k)) (x_and7 (by omega)) ?_
    refine xl_istore_n (lv' := [(0, _), (1, _), (2, _), (3, _)]) E dX0_executeSome_26 rfl hl (by decide) [1, 2, 3, 0] rfl (fun ls hl => ?_)
    refine lv_aload_n E.1 E.2.1 dX0_executeSome_27 rfl (lv_at hl 0 rfl) ?_
    refine gX_25 E hW dX0_executeSome_28 ?_
    refine lv_iload_n E.1 E.2.1 dX0_executeSome_31 rfl (lv_at hl 3 rfl) ?_
    refine lX_25 E hW (rfl) (he) (rfl) dX0_executeSome_32 ?_
    refine lv_if_ne (tgt := 69) E.1 E.2.1 dX0_executeSome_33 (by decide) (fun hdn => ?_) (fun hdn => ?_)
    · refine xl_iinc (v := nI (k + 1)) (lv' := [(0, _), (1, _), (2, _), (3, _)]) E dX0_executeSome_69 hl (k := 2) rfl (x_inc1 k) (by decide) [1, 2, 0, 3] rfl (fun ls hl => ?_)
      refine lv_goto (tgt := 4) E.1 E.2.1 dX0_executeSome_72 (by decide) ?_
      exact ih (k + 1) x S1 _ _ _ (by omega) (by omega) h hs (fun _ => by
        rcases Nat.eq_zero_or_pos k with q | q
        · subst q
          rcases hent.2.2.2.2.2.1 with e | e
          · exact absurd e hdn
          · exact e
        · exact hdd q) hW (lv_sub hl [0, 1, 2] rfl)
    rcases srcL h hkn1 hdn with e19 | ⟨hk0, f9, hf9, e19⟩
    rotate_left
    · refine lv_aload_n E.1 E.2.1 dX0_executeSome_36 rfl (lv_at hl 0 rfl) ?_
      refine gX_19 E hW dX0_executeSome_37 ?_
      refine lv_iload_n E.1 E.2.1 dX0_executeSome_40 rfl (lv_at hl 3 rfl) ?_
      refine lX_19 E hW (rfl) (he) (e19) dX0_executeSome_41 ?_
      refine lv_if_ge (tgt := 69) E.1 E.2.1 dX0_executeSome_42 (by decide) (fun _ => ?_) (fun h => absurd (nI_pos' (by omega)) h)
      refine xl_iinc (v := nI (k + 1)) (lv' := [(0, _), (1, _), (2, _), (3, _)]) E dX0_executeSome_69 hl (k := 2) rfl (x_inc1 k) (by decide) [1, 2, 0, 3] rfl (fun ls hl => ?_)
      refine lv_goto (tgt := 4) E.1 E.2.1 dX0_executeSome_72 (by decide) ?_
      exact ih (k + 1) x S1 _ _ _ (by omega) (by omega) h hs (fun _ => hdd hk0) hW (lv_sub hl [0, 1, 2] rfl)
    refine lv_aload_n E.1 E.2.1 dX0_executeSome_36 rfl (lv_at hl 0 rfl) ?_
    refine gX_19 E hW dX0_executeSome_37 ?_
    refine lv_iload_n E.1 E.2.1 dX0_executeSome_40 rfl (lv_at hl 3 rfl) ?_
    refine lX_19 E hW (rfl) (he) (e19) dX0_executeSome_41 ?_
    refine lv_if_ge (tgt := 69) E.1 E.2.1 dX0_executeSome_42 (by decide) (fun h => absurd h (neg_m1)) (fun _ => ?_)
    rcases srcR h hkn1 hdn with e21 | ⟨hk0, f9, hf9, e21⟩
    rotate_left
    · refine lv_aload_n E.1 E.2.1 dX0_executeSome_45 rfl (lv_at hl 0 rfl) ?_
      refine gX_21 E hW dX0_executeSome_46 ?_
      refine lv_iload_n E.1 E.2.1 dX0_executeSome_49 rfl (lv_at hl 3 rfl) ?_
      refine lX_21 E hW (rfl) (he) (e21) dX0_executeSome_50 ?_
      refine lv_if_lt (tgt := 57) E.1 E.2.1 dX0_executeSome_51 (by decide) (fun h => absurd h (nI_pos (by omega))) (fun _ => ?_)
      refine lv_goto (tgt := 69) E.1 E.2.1 dX0_executeSome_54 (by decide) ?_
      refine xl_iinc (v := nI (k + 1)) (lv' := [(0, _), (1, _), (2, _), (3, _)]) E dX0_executeSome_69 hl (k := 2) rfl (x_inc1 k) (by decide) [1, 2, 0, 3] rfl (fun ls hl => ?_)
      refine lv_goto (tgt := 4) E.1 E.2.1 dX0_executeSome_72 (by decide) ?_
      exact ih (k + 1) x S1 _ _ _ (by omega) (by omega) h hs (fun _ => hdd hk0) hW (lv_sub hl [0, 1, 2] rfl)
    refine lv_aload_n E.1 E.2.1 dX0_executeSome_45 rfl (lv_at hl 0 rfl) ?_
    refine gX_21 E hW dX0_executeSome_46 ?_
    refine lv_iload_n E.1 E.2.1 dX0_executeSome_49 rfl (lv_at hl 3 rfl) ?_
    refine lX_21 E hW (rfl) (he) (e21) dX0_executeSome_50 ?_
    refine lv_if_lt (tgt := 57) E.1 E.2.1 dX0_executeSome_51 (by decide) (fun _ => ?_) (fun h => absurd (m1_neg) h)
    refine lv_aload_n E.1 E.2.1 dX0_executeSome_57 rfl (lv_at hl 0 rfl) ?_
    refine lv_iload_n E.1 E.2.1 dX0_executeSome_58 rfl (lv_at hl 3 rfl) ?_
    refine lv_iload_n E.1 E.2.1 dX0_executeSome_59 rfl (lv_at hl 2 rfl) ?_
    refine ci_call (w := xW cs a) (ad := xAd a) (ci := 0) E hml hl.1 hW xAd_eq hA (tX_execute l D cs a S1 fp k (wfP_c (fun q hq => hs q (by omega) (by omega) (by omega) (by omega) (by omega) (by omega) (by omega) (by omega)) hw) h hkn1 hdn e19 e21) (cwV 2 E.2.2.2.1 (lw_V q176 q178 qs8 q24 q179) rfl rfl rfl (by decide +kernel) hfr) rfl rfl rfl rfl rfl (Nat.le_of_ble_eq_true rfl) dX0_executeSome_60 hcs (fun v S2 H locs hp hW _ _ => ?_)
    obtain ⟨g1, g2, g3, g4, g5⟩ := hp
    have hs2 : (∀ q, q ≠ 19 → q ≠ 20 → q ≠ 21 → q ≠ 22 → q ≠ 23 → q ≠ 24 → q ≠ 25 → q ≠ 26 → S2 q = S q) := fun q h1 h2 h3 h4 h5 h6 h7 h8 => by rw [g2 q h1 h2 h3 h4 h5 h6 h7 h8, hs q h1 h2 h3 h4 h5 h6 h7 h8]
    have hd2 : S2 25 (sl S2 0) = 1 := by
      rw [sl_c (g2 14 (by decide) (by decide) (by decide) (by decide) (by decide) (by decide) (by decide) (by decide))]
      rcases Nat.eq_zero_or_pos k with q | q
      · have := g4 q; rw [q] at this; exact this
      · exact g3 _ (hdd q)
    refine lv_if_eq (tgt := 69) E.1 E.2.1 dX0_executeSome_63 (by decide) (fun hv => ?_) (fun hv => ?_)
    · refine xl_iinc (v := nI (k + 1)) (lv' := [(0, _), (1, _), (2, _), (3, _)]) E dX0_executeSome_69 hl (k := 2) rfl (x_inc1 k) (by decide) [1, 2, 0, 3] rfl (fun ls hl => ?_)
      refine lv_goto (tgt := 4) E.1 E.2.1 dX0_executeSome_72 (by decide) ?_
      exact ih (k + 1) x S2 _ _ _ (by omega) (by omega) g1 hs2 (fun _ => hd2) hW (lv_sub hl [0, 1, 2] rfl)
    refine xl_iinc (v := nI (x + 1)) (lv' := [(0, _), (1, _), (2, _), (3, _)]) E dX0_executeSome_66 hl (k := 1) rfl (x_inc1 x) (by decide) [1, 0, 2, 3] rfl (fun ls hl => ?_)
    refine xl_iinc (v := nI (k + 1)) (lv' := [(0, _), (1, _), (2, _), (3, _)]) E dX0_executeSome_69 hl (k := 2) rfl (x_inc1 k) (by decide) [1, 2, 0, 3] rfl (fun ls hl => ?_)
    refine lv_goto (tgt := 4) E.1 E.2.1 dX0_executeSome_72 (by decide) ?_
    exact ih (k + 1) (x + 1) S2 _ _ _ (by omega) (by omega) g1 hs2 (fun _ => hd2) hW (lv_sub hl [0, 1, 2] rfl)
end L_executeSome
set_option maxHeartbeats 4000000 in
set_option maxRecDepth 100000 in
theorem tX_executeSome (l : Launch) (D : va_G) (cs : ClassId × ClassId × ClassId) (a : Nat → Nat) (S : St) (fp : Nat) (hw : wfP S) (h : inv S fp) : CV l yX0_executeSome cX0_executeSome 4 (rm_ 2 51) D cs (xW cs a) (xAd a) [.ref (a 0)] S (fun S1 => inv S1 fp ∧ (∀ q, q ≠ 19 → q ≠ 20 → q ≠ 21 → q ≠ 22 → q ≠ 23 → q ≠ 24 → q ≠ 25 → q ≠ 26 → S1 q = S q) ∧ (0 < en S → S1 25 (sl S1 0) = 1)) := by
  intro sz
  refine cv_start (w := xW cs a) (ad := xAd a) (C := RX0) (by decide) rfl xAd_eq (Nat.le_of_ble_eq_true rfl) ?_
  intro p e s m below meth c ls E hml hr hlocks hsz hW hl
  have hA : ∀ q, s.heap.size ≤ q → wA (xAd a) sz q := fun q h => Or.inr (hsz ▸ h)
  have hl : lv_has ls 4 [(0, .ref (a 0))] := hl
  refine lv_iconst (v := nI 0) E.1 E.2.1 dX0_executeSome_0 (by decide) ?_
  refine xl_istore_n (lv' := [(0, _), (1, _)]) E dX0_executeSome_1 rfl hl (by decide) [1, 0] rfl (fun ls hl => ?_)
  refine lv_iconst (v := nI 0) E.1 E.2.1 dX0_executeSome_2 (by decide) ?_
  refine xl_istore_n (lv' := [(0, _), (1, _), (2, _)]) E dX0_executeSome_3 rfl hl (by decide) [1, 2, 0] rfl (fun ls hl => ?_)
  refine lpX_executeSome (fp := fp) E hml hA ⟨Nat.le_of_ble_eq_true rfl, Nat.le_of_ble_eq_true rfl⟩ ⟨Nat.zero_le _, Nat.zero_le _⟩ hw h (fun S1 H locs ls g1 g2 g3 hW => ?_) (en S) 0 0 S _ _ _ (by omega) (Nat.le_refl 0) h (fun _ _ _ _ _ _ _ _ _ => rfl) (fun q => absurd q (Nat.lt_irrefl 0)) hW hl
  exact cv_ret E hr hlocks hW (⟨g1, g2, g3⟩) dX0_executeSome_75
section L_fetch
variable {p : Program} {l : Launch} {e : Env} {R : Room} {s : State} {m : MethodId} {args : Array Value} {below : List Frame} {meth : Method} {c : Code} {H : Heap} {locs : List Loc} {cells slots : Nat} {Q : State → Prop}
variable {cc : ByteArray} {pc : Nat} {ls : Array Slot} {rest : List Value} {D : va_G} {cs : ClassId × ClassId × ClassId} {a : Nat → Nat} {S : St} {A : Nat → Prop} {H0 : Heap}
set_option maxHeartbeats 4000000 in
theorem lpX_fetch {w0 : Nat} {v1 v2 v3 : Int32} (E : XE RX0 p s m args c cX0_fetch D cs) (hml : c.maxLocals = 7) (hA : ∀ q, H0.size ≤ q → A q) (hfr : 2 ≤ R.frames ∧ 48 ≤ R.locals) (hcs : cells ≤ R.cells ∧ slots ≤ R.slots) (hw : wfP S) (hw1 : 1 ≤ w0) (hw3 : w0 ≤ 3)
    (k111 : ∀ (S1 : St) (fp1 : Nat) (H : Heap) (locs : List Loc) (ls : Array Slot), inv S1 fp1 → S1 28 0 = nI fp1 → 0 < en S1 → (∀ q, q ≠ 15 → q ≠ 16 → q ≠ 17 → q ≠ 18 → q ≠ 19 → q ≠ 20 → q ≠ 21 → q ≠ 22 → q ≠ 23 → q ≠ 25 → q ≠ 27 → q ≠ 28 → S1 q = S q) → (0 < en S → S1 25 (sl S1 0) = S 25 (sl S 0)) → PW D (xW cs a S1) A H0 H locs → W p l e R s m args below meth c H locs cells slots Q (F0 m 111 ls [])) :
    ∀ (f k fp1 : Nat) (S1 : St) (H : Heap) (locs : List Loc) (ls : Array Slot), k + f = w0 → inv S1 fp1 → S1 28 0 = nI fp1 → (∀ q, q ≠ 15 → q ≠ 16 → q ≠ 17 → q ≠ 18 → q ≠ 19 → q ≠ 20 → q ≠ 21 → q ≠ 22 → q ≠ 23 → q ≠ 25 → q ≠ 27 → q ≠ 28 → S1 q = S q) → en S ≤ en S1 → (0 < k → 0 < en S1) → (0 < en S → S1 25 (sl S1 0) = S 25 (sl S 0)) → PW D (xW cs a S1) A H0 H locs → lv_has ls 7 [(0, .ref (a 0)), (1, .int v1), (2, .int v2), (3, .int v3), (4, .int (nI w0)), (5, .int (nI k))] → W p l e R s m args below meth c H locs cells slots Q (F0 m 63 ls []) := by
  intro f
  induction f with
  | zero =>
    intro k fp1 S1 H locs ls hk h h28 hs hle hpos hdn hW hl
    obtain rfl : k = w0 := by omega
    refine lv_iload E.1 E.2.1 dX0_fetch_63 (lv_at hl 5 rfl) ?_
    refine lv_iload E.1 E.2.1 dX0_fetch_65 (lv_at hl 4 rfl) ?_
    refine lv_icmp_ge (tgt := 111) E.1 E.2.1 dX0_fetch_67 (by decide) (fun _ => ?_) (fun h => absurd (nI_le (Nat.le_refl _) (by omega)) h)
    exact k111 S1 fp1 H locs ls h h28 (hpos (by omega)) hs hdn hW
  | succ f ih =>
    intro k fp1 S1 H locs ls hk h h28 hs hle hpos hdn hW hl
    have hkw : k < w0 := by omega
    have hn := h.n
    have hfp := h.2.2.1
    have hw1' : wfP S1 := wfP_c (fun q hq => hs q (by omega) (by omega) (by omega) (by omega) (by omega) (by omega) (by omega) (by omega) (by omega) (by omega) (by omega) (by omega)) hw
    refine lv_iload E.1 E.2.1 dX0_fetch_63 (lv_at hl 5 rfl) ?_
    refine lv_iload E.1 E.2.1 dX0_fetch_65 (lv_at hl 4 rfl) ?_
    refine lv_icmp_ge (tgt := 111) E.1 E.2.1 dX0_fetch_67 (by decide) (fun h => absurd h (nI_ge hkw (by omega))) (fun _ => ?_)
    refine lv_aload_n E.1 E.2.1 dX0_fetch_70 rfl (lv_at hl 0 rfl) ?_
    refine gX_15 E hW hn.1 dX0_fetch_71 ?_
    refine lv_bipush (v := nI 8) E.1 E.2.1 dX0_fetch_74 (by decide) ?_
    refine lv_icmp_ge (tgt := 111) E.1 E.2.1 dX0_fetch_76 (by decide) (fun h8 => ?_) (fun h8 => ?_)
    · have h8 : 8 ≤ en S1 := (nI_leI (by decide) (by omega)).mp h8
      exact k111 S1 fp1 H locs ls h h28 (by omega) hs hdn hW
    have h8 : en S1 < 8 := nI_nleI (by decide) (by omega) h8
    refine lv_aload_n E.1 E.2.1 dX0_fetch_79 rfl (lv_at hl 0 rfl) ?_
    refine gX_28 E hW h28 dX0_fetch_80 ?_
    refine xl_istore (lv' := [(0, _), (1, _), (2, _), (3, _), (4, _), (5, _), (6, _)]) E dX0_fetch_83 hl (by decide) [1, 2, 3, 4, 5, 6, 0] rfl (fun ls hl => ?_)
    refine lv_aload_n E.1 E.2.1 dX0_fetch_85 rfl (lv_at hl 0 rfl) ?_
    refine lv_aload_n E.1 E.2.1 dX0_fetch_86 rfl (lv_at hl 0 rfl) ?_
    refine lv_iload E.1 E.2.1 dX0_fetch_87 (lv_at hl 6 rfl) ?_
    refine ci_call (w := xW cs a) (ad := xAd a) (ci := 0) E hml hl.1 hW xAd_eq hA (tX_predictedAfter l D cs a S1 fp1 hw1' hfp) (cwV 1 E.2.2.2.1 (lw_V q204 q206 qs15 q24 q207) rfl rfl rfl (by decide +kernel) ⟨Nat.le_trans (Nat.le_of_ble_eq_true rfl) hfr.1, Nat.le_trans (Nat.le_of_ble_eq_true rfl) hfr.2⟩) rfl rfl rfl rfl rfl (Nat.le_of_ble_eq_true rfl) dX0_fetch_89 hcs (fun v S2 H locs hp hW _ _ => ?_)
    obtain ⟨e1, t, ht, rfl, h10⟩ := hp
    obtain rfl := e1.symm
    refine pX_28 E hW dX0_fetch_92 (fun H locs hW => ?_)
    refine lv_aload_n E.1 E.2.1 dX0_fetch_95 rfl (lv_at hl 0 rfl) ?_
    refine lv_iload E.1 E.2.1 dX0_fetch_96 (lv_at hl 6 rfl) ?_
    refine lv_aload_n E.1 E.2.1 dX0_fetch_98 rfl (lv_at hl 0 rfl) ?_
    refine gX_28 E hW (show sput S1 28 0 (nI t) 28 0 = nI t from rfl) dX0_fetch_99 ?_
    have hc2 : inv (sput S1 28 0 (nI t)) fp1 := inv_c (fun q _ _ _ _ _ _ h28 _ => sput_k h28) h
    have hwf2 : wfP (sput S1 28 0 (nI t)) := wfP_c (fun q hq => sput_k (by omega)) hw1'
    refine cv_call (w := xW cs a) (ad := xAd a) (ci := 0) E hml hl.1 hW xAd_eq hA (tX_enter l D cs a (sput S1 28 0 (nI t)) fp1 t hwf2 hc2 h8 hfp ht) (cwV 2 E.2.2.2.1 (lw_V q208 q210 qs16 q24 q211) rfl rfl rfl (by decide +kernel) ⟨Nat.le_trans (Nat.le_of_ble_eq_true rfl) hfr.1, Nat.le_trans (Nat.le_of_ble_eq_true rfl) hfr.2⟩) rfl rfl rfl rfl rfl (Nat.le_of_ble_eq_true rfl) dX0_fetch_102 hcs (fun S3 H locs hp hW _ _ => ?_)
    obtain ⟨g1, g2⟩ := enter_inv hwf2 hc2 h8 ht (fun q => h10 q) hp
    have g2 : en S3 = en S1 + 1 := g2
    obtain ⟨p1, p2, -⟩ := hp
    have f28 : S3 28 0 = nI t := by rw [p1 28 (by decide) (by decide) (by decide) (by decide) (by decide) (by decide) (by decide) (by decide) (by decide) (by decide) (by decide)]; rfl
    have fs : (∀ q, q ≠ 15 → q ≠ 16 → q ≠ 17 → q ≠ 18 → q ≠ 19 → q ≠ 20 → q ≠ 21 → q ≠ 22 → q ≠ 23 → q ≠ 25 → q ≠ 27 → q ≠ 28 → S3 q = S q) := fun q h15 h16 h17 h18 h19 h20 h21 h22 h23 h25 h27 h28 => by rw [p1 q h15 h16 h17 h18 h19 h20 h21 h22 h23 h25 h27, sput_k h28]; exact hs q h15 h16 h17 h18 h19 h20 h21 h22 h23 h25 h27 h28
    have fd : 0 < en S → S3 25 (sl S3 0) = S 25 (sl S 0) := fun q => by
      have e14 : S3 14 = S1 14 := by rw [p1 14 (by decide) (by decide) (by decide) (by decide) (by decide) (by decide) (by decide) (by decide) (by decide) (by decide) (by decide)]; rfl
      rw [sl_c e14, ← hdn q]
      have hne : sl S1 0 ≠ sl (sput S1 28 0 (nI t)) (en (sput S1 28 0 (nI t))) := fun e => by
        have e2 : sl S1 0 = sl S1 (en S1) := e
        have := sl_inj (by omega) h8 e2
        omega
      rw [p2 25 _ hne (by decide) (by decide)]; rfl
    refine xl_iinc (v := nI (k + 1)) (lv' := [(0, _), (1, _), (2, _), (3, _), (4, _), (5, _), (6, _)]) E dX0_fetch_105 hl (k := 5) rfl (x_inc1 k) (by decide) [1, 2, 3, 4, 5, 0, 6] rfl (fun ls hl => ?_)
    refine lv_goto (tgt := 63) E.1 E.2.1 dX0_fetch_108 (by decide) ?_
    exact ih (k + 1) t S3 _ _ _ (by omega) g1 f28 fs (by omega) (fun _ => by omega) fd hW (lv_sub hl [0, 1, 2, 3, 4, 5] rfl)
end L_fetch
set_option maxHeartbeats 4000000 in
set_option maxRecDepth 100000 in
theorem tX_fetch (l : Launch) (D : va_G) (cs : ClassId × ClassId × ClassId) (a : Nat → Nat) (S : St) (fp : Nat) (hw : wfP S) (hT : wfT S) (h : inv S fp) (h28 : S 28 0 = nI fp) : CV l yX0_fetch cX0_fetch 7 (rm_ 2 48) D cs (xW cs a) (xAd a) [.ref (a 0)] S (fun S1 => ∃ fp1, inv S1 fp1 ∧ S1 28 0 = nI fp1 ∧ 0 < en S1 ∧ (∀ q, q ≠ 15 → q ≠ 16 → q ≠ 17 → q ≠ 18 → q ≠ 19 → q ≠ 20 → q ≠ 21 → q ≠ 22 → q ≠ 23 → q ≠ 25 → q ≠ 27 → q ≠ 28 → S1 q = S q) ∧ (0 < en S → S1 25 (sl S1 0) = S 25 (sl S 0))) := by
  intro sz
  refine cv_start (w := xW cs a) (ad := xAd a) (C := RX0) (by decide) rfl xAd_eq (Nat.le_of_ble_eq_true rfl) ?_
  intro p e s m below meth c ls E hml hr hlocks hsz hW hl
  have hA : ∀ q, s.heap.size ≤ q → wA (xAd a) sz q := fun q h => Or.inr (hsz ▸ h)
  have hl : lv_has ls 7 [(0, .ref (a 0))] := hl
  have hfp := h.2.2.1
  have hi8 : fp % 8 < 8 := Nat.mod_lt _ (by decide)
  obtain ⟨c0, hc0, e10⟩ := hT.2.1 (fp % 8) hi8
  refine lv_aload_n E.1 E.2.1 dX0_fetch_0 rfl (lv_at hl 0 rfl) ?_
  refine gX_28 E hW h28 dX0_fetch_1 ?_
  refine lv_bipush (v := 7) E.1 E.2.1 dX0_fetch_4 (by decide) ?_
  refine lv_iand E.1 E.2.1 dX0_fetch_6 ?_
  refine x_top (y := nI (fp % 8)) (x_and7 (by omega)) ?_
  refine xl_istore_n (lv' := [(0, _), (1, _)]) E dX0_fetch_7 rfl hl (by decide) [1, 0] rfl (fun ls hl => ?_)
  refine lv_aload_n E.1 E.2.1 dX0_fetch_8 rfl (lv_at hl 0 rfl) ?_
  refine gX_10 E hW dX0_fetch_9 ?_
  refine lv_iload_n E.1 E.2.1 dX0_fetch_12 rfl (lv_at hl 1 rfl) ?_
  refine lX_10 E hW (rfl) (hi8) (e10) dX0_fetch_13 ?_
  refine xl_istore_n (lv' := [(0, _), (1, _), (2, _)]) E dX0_fetch_14 rfl hl (by decide) [1, 2, 0] rfl (fun ls hl => ?_)
  refine x_joinSv (w := xW cs a) (A := wA (xAd a) sz) (H0 := s.heap) (D := D) (pj := 48) (lj := ls) (rj := []) (fun v S1 => S1 = S ∧ (v ≠ 0 → 0 < c0)) (fun join => ?_) (fun v S1 H locs hj hW => ?_)
  · refine lv_iload_n E.1 E.2.1 dX0_fetch_15 rfl (lv_at hl 2 rfl) ?_
    refine lv_if_le (tgt := 47) E.1 E.2.1 dX0_fetch_16 (by decide) (fun hc => ?_) (fun hc => ?_)
    · refine lv_iconst (v := 0) E.1 E.2.1 dX0_fetch_47 (by decide) ?_
      exact join _ _ _ _ ⟨rfl, fun q => absurd rfl q⟩ hW
    · have hc : 0 < c0 := by
        rcases Nat.eq_zero_or_pos c0 with q | q
        · subst q; exact absurd (by decide) hc
        · exact q
      refine lv_aload_n E.1 E.2.1 dX0_fetch_19 rfl (lv_at hl 0 rfl) ?_
      refine gX_11 E hW dX0_fetch_20 ?_
      refine lv_iconst (v := nI 3) E.1 E.2.1 dX0_fetch_23 (by decide) ?_
      refine lv_iload_n E.1 E.2.1 dX0_fetch_24 rfl (lv_at hl 1 rfl) ?_
      refine lv_imul E.1 E.2.1 dX0_fetch_25 ?_
      refine x_top (y := nI (3 * (fp % 8))) (pk_mul 3 _) ?_
      refine lX_11 E hW (rfl) (by omega) (rfl) dX0_fetch_26 ?_
      refine lv_aload_n E.1 E.2.1 dX0_fetch_27 rfl (lv_at hl 0 rfl) ?_
      refine gX_28 E hW h28 dX0_fetch_28 ?_
      refine lv_icmp_ne (tgt := 47) E.1 E.2.1 dX0_fetch_31 (by decide) (fun hd => ?_) (fun hd => ?_)
      · refine lv_iconst (v := 0) E.1 E.2.1 dX0_fetch_47 (by decide) ?_
        exact join _ _ _ _ ⟨rfl, fun q => absurd rfl q⟩ hW
      · refine lv_aload_n E.1 E.2.1 dX0_fetch_34 rfl (lv_at hl 0 rfl) ?_
        refine lv_iload_n E.1 E.2.1 dX0_fetch_35 rfl (lv_at hl 1 rfl) ?_
        refine lv_iload_n E.1 E.2.1 dX0_fetch_36 rfl (lv_at hl 2 rfl) ?_
        refine ci_call (w := xW cs a) (ad := xAd a) (ci := 0) E hml hl.1 hW xAd_eq hA (tX_agrees l D cs a S (fp % 8) c0 hw hT.1 hi8 (by omega)) (cwV 2 E.2.2.2.1 (lw_V q200 q202 qs14 q24 q203) rfl rfl rfl (by decide +kernel) ⟨Nat.le_of_ble_eq_true rfl, Nat.le_of_ble_eq_true rfl⟩) rfl rfl rfl rfl rfl (Nat.le_of_ble_eq_true rfl) dX0_fetch_37 ⟨Nat.zero_le _, Nat.zero_le _⟩ (fun v S1 H locs hp hW _ _ => ?_)
        obtain ⟨e1, _⟩ := hp
        obtain rfl := e1.symm
        refine lv_if_eq (tgt := 47) E.1 E.2.1 dX0_fetch_40 (by decide) (fun hv => ?_) (fun hv => ?_)
        · refine lv_iconst (v := 0) E.1 E.2.1 dX0_fetch_47 (by decide) ?_
          exact join _ _ _ _ ⟨rfl, fun q => absurd rfl q⟩ hW
        · refine lv_iconst (v := 1) E.1 E.2.1 dX0_fetch_43 (by decide) ?_
          refine lv_goto (tgt := 48) E.1 E.2.1 dX0_fetch_44 (by decide) ?_
          exact join _ _ _ _ ⟨rfl, fun _ => hc⟩ hW
  obtain ⟨e1, hvc⟩ := hj
  obtain rfl := e1.symm
  refine xl_istore_n (lv' := [(0, _), (1, _), (2, _), (3, _)]) E dX0_fetch_48 rfl hl (by decide) [1, 2, 3, 0] rfl (fun ls hl => ?_)
  refine x_join (pj := 58) (lj := ls) (rj := []) (fun u => ∃ w0, 1 ≤ w0 ∧ w0 ≤ 3 ∧ u = nI w0) (fun join => ?_) (fun u hj => ?_)
  · refine lv_iload_n E.1 E.2.1 dX0_fetch_49 rfl (lv_at hl 3 rfl) ?_
    refine lv_if_eq (tgt := 57) E.1 E.2.1 dX0_fetch_50 (by decide) (fun hz => ?_) (fun hz => ?_)
    · refine lv_iconst (v := nI 1) E.1 E.2.1 dX0_fetch_57 (by decide) ?_
      exact join _ ⟨1, by decide, by decide, rfl⟩
    · refine lv_iload_n E.1 E.2.1 dX0_fetch_53 rfl (lv_at hl 2 rfl) ?_
      refine lv_goto (tgt := 58) E.1 E.2.1 dX0_fetch_54 (by decide) ?_
      exact join _ ⟨c0, hvc hz, by omega, rfl⟩
  obtain ⟨w0, hw1, hw3, rfl⟩ := hj
  refine xl_istore (lv' := [(0, _), (1, _), (2, _), (3, _), (4, _)]) E dX0_fetch_58 hl (by decide) [1, 2, 3, 4, 0] rfl (fun ls hl => ?_)
  refine lv_iconst (v := nI 0) E.1 E.2.1 dX0_fetch_60 (by decide) ?_
  refine xl_istore (lv' := [(0, _), (1, _), (2, _), (3, _), (4, _), (5, _)]) E dX0_fetch_61 hl (by decide) [1, 2, 3, 4, 5, 0] rfl (fun ls hl => ?_)
  refine lpX_fetch (w0 := w0) E hml hA ⟨Nat.le_of_ble_eq_true rfl, Nat.le_of_ble_eq_true rfl⟩ ⟨Nat.zero_le _, Nat.zero_le _⟩ hw hw1 hw3 (fun S1 fp1 H locs ls g1 g2 g3 g4 g5 hW => ?_) w0 0 fp S _ _ _ (by omega) h h28 (fun _ _ _ _ _ _ _ _ _ _ _ _ _ => rfl) (Nat.le_refl _) (fun q => absurd q (Nat.lt_irrefl 0)) (fun _ => rfl) hW hl
  exact cv_ret E hr hlocks hW (⟨fp1, g1, g2, g3, g4, g5⟩) dX0_fetch_111
end
section
set_option maxRecDepth 100000
theorem ret_val {S : St} {fp : Nat} (h : inv S fp) (hn0 : 0 < en S) (hd1 : S 25 (sl S 0) = 1) (ho : oper S (pl S 0) ≤ 8) : S 26 (sl S 0) = val S (pl S 0) (S 5, S 6) := (h.2.2.2.2.2.1 0 hn0).1 hd1 ho
theorem arch_pc {S : St} {fp : Nat} (h : inv S fp) (hn0 : 0 < en S) : nt (arch S).2.2.1 = pl S 0 := by
  show nt (S 7 0) = pl S 0
  rw [h.pc hn0, nt_nI (by have := (h.2.2.2.2.1 0 hn0).p.2; omega)]
theorem ret_arch {S S1 : St} {fp : Nat} (hw : wfP S) (h : inv S fp) (hn0 : 0 < en S) (hd1 : S 25 (sl S 0) = 1) (ho : oper S (pl S 0) ≤ 9)
    (h5 : S1 5 = if oper S (pl S 0) ≤ 5 then upd (S 5) (fx S (pl S 0)) (S 26 (sl S 0)) else S 5) (h6 : S1 6 = if oper S (pl S 0) = 6 then upd (S 6) (adr S (pl S 0) (S 5, S 6)) (S 26 (sl S 0)) else S 6) (h8 : S1 8 = S 8)
    (h7 : ((oper S (pl S 0) = 9 ∨ tkS S (sl S 0) (oper S (pl S 0))) ∧ S1 7 0 = S 4 (pl S 0)) ∨ (¬ (oper S (pl S 0) = 9 ∨ tkS S (sl S 0) (oper S (pl S 0))) ∧ S1 7 0 = nI (pl S 0 + 1))) :
    (S1 5, S1 6) = eff S (pl S 0) (S 5, S 6) ∧ arch S1 = stp S (arch S) ∧ isN (S1 7 0) 25 ∧ inc S (arch S) = 1 := by
  have hpc := arch_pc h hn0
  have he : (S1 5, S1 6) = eff S (pl S 0) (S 5, S 6) := by
    unfold eff
    by_cases c5 : oper S (pl S 0) ≤ 5
    · rw [if_pos c5, h5, h6, if_pos c5, if_neg (by omega), ret_val h hn0 hd1 (by omega)]
    · rw [if_neg c5]
      by_cases c6 : oper S (pl S 0) = 6
      · rw [if_pos c6, h5, h6, if_neg c5, if_pos c6, ret_val h hn0 hd1 (by omega)]
      · rw [if_neg c6, h5, h6, if_neg c5, if_neg c6]
  have htk : tkS S (sl S 0) (oper S (pl S 0)) ↔ tkn S (pl S 0) (S 5, S 6) := by
    unfold tkS tkn
    by_cases c8 : oper S (pl S 0) ≤ 8
    · rw [ret_val h hn0 hd1 c8]
    · constructor <;> (rintro (⟨q, _⟩ | ⟨q, _⟩) <;> omega)
  have hv : S1 7 0 = nI (nxt S (pl S 0) (S 5, S 6)) := by
    unfold nxt
    rcases h7 with ⟨q, e⟩ | ⟨q, e⟩
    · rw [htk] at q
      rw [if_pos q, e]
      have h7 : 7 ≤ oper S (pl S 0) := by
        rcases q with q | ⟨q, _⟩ | ⟨q, _⟩ <;> omega
      exact (hw.t h7 ho).1
    · rw [htk] at q
      rw [if_neg q, e]
  refine ⟨he, ?_, ⟨_, nxt_lt hw ho, hv⟩, ?_⟩
  · unfold stp
    rw [hpc, if_neg (show ¬ oper S (pl S 0) = 11 by omega), if_neg (show ¬ oper S (pl S 0) = 10 by omega)]
    show (S1 5, S1 6, S1 7 0, S1 8 0) = ((eff S (pl S 0) (S 5, S 6)).1, (eff S (pl S 0) (S 5, S 6)).2, nI (nxt S (pl S 0) (S 5, S 6)), S 8 0)
    rw [← he, hv, h8]
  · unfold inc
    rw [hpc, if_neg (by omega)]
/-- retire's first half -/
def retA (S Sr : St) : Prop := (∀ q, q ≠ 14 → q ≠ 15 → q ≠ 29 → Sr q = S q) ∧ Sr 14 0 = nI ((hd S + 1) % 8) ∧ Sr 15 0 = nI (en S - 1) ∧ Sr 29 0 = S 29 0 + nI 1
theorem retA_mk (S : St) : retA S (sput (sput (sput S 29 0 (S 29 0 + nI 1)) 14 0 (nI ((hd S + 1) % 8))) 15 0 (nI (en S - 1))) := ⟨fun q h14 h15 h29 => by rw [sput_k h15, sput_k h14, sput_k h29], rfl, rfl, rfl⟩
def retB (S Sr S2 : St) : Prop := (∀ q, q ≠ 5 → q ≠ 27 → S2 q = Sr q) ∧ S2 5 = (if oper S (pl S 0) ≤ 5 then upd (S 5) (fx S (pl S 0)) (S 26 (sl S 0)) else S 5) ∧ ∀ r, r < 8 → S2 27 r = if oper S (pl S 0) ≤ 5 ∧ fx S (pl S 0) = r ∧ S 27 r = nI (sl S 0) then -1 else S 27 r
theorem retB_0 {S Sr : St} (hA : retA S Sr) (ho : ¬ oper S (pl S 0) ≤ 5) : retB S Sr Sr := by
  refine ⟨fun _ _ _ => rfl, by rw [if_neg ho, hA.1 5 (by decide) (by decide) (by decide)], fun r _ => by rw [if_neg (fun q => ho q.1), hA.1 27 (by decide) (by decide) (by decide)]⟩
theorem retB_1 {S Sr : St} (hA : retA S Sr) (ho : oper S (pl S 0) ≤ 5) (hne : ¬ S 27 (fx S (pl S 0)) = nI (sl S 0)) : retB S Sr (sput Sr 5 (fx S (pl S 0)) (S 26 (sl S 0))) := by
  refine ⟨fun q h5 _ => sput_k h5, by rw [if_pos ho, sput_at, hA.1 5 (by decide) (by decide) (by decide)], fun r _ => ?_⟩
  rw [sput_k (by decide), hA.1 27 (by decide) (by decide) (by decide), if_neg]
  rintro ⟨_, e1, e2⟩
  rw [← e1] at e2
  exact hne e2
theorem retB_2 {S Sr : St} (hA : retA S Sr) (ho : oper S (pl S 0) ≤ 5) (he : S 27 (fx S (pl S 0)) = nI (sl S 0)) : retB S Sr (sput (sput Sr 5 (fx S (pl S 0)) (S 26 (sl S 0))) 27 (fx S (pl S 0)) (-1)) := by
  refine ⟨fun q h5 h27 => by rw [sput_k h27, sput_k h5], by rw [sput_k (by decide), if_pos ho, sput_at, hA.1 5 (by decide) (by decide) (by decide)], fun r _ => ?_⟩
  by_cases e : fx S (pl S 0) = r
  · subst e
    rw [sput_s, if_pos ⟨ho, rfl, he⟩]
  · rw [sput_j (fun q => e q.symm), sput_k (by decide), hA.1 27 (by decide) (by decide) (by decide), if_neg (fun q => e q.2.1)]
set_option maxHeartbeats 4000000 in
set_option maxRecDepth 100000 in
theorem tX_retire (l : Launch) (D : va_G) (cs : ClassId × ClassId × ClassId) (a : Nat → Nat) (S : St) (fp : Nat) (hw : wfP S) (hT : wfT S) (h : inv S fp) (h28 : S 28 0 = nI fp) (hn0 : 0 < en S) (hd1 : S 25 (sl S 0) = 1) : CV l yX0_retire cX0_retire 4 (rm_ 1 24) D cs (xW cs a) (xAd a) [.ref (a 0)] S (fun S1 => (∃ fp1, inv S1 fp1 ∧ S1 28 0 = nI fp1) ∧ wfT S1 ∧ (∀ q, q ≤ 4 → S1 q = S q) ∧ arch S1 = stp S (arch S) ∧ S1 29 0 = S 29 0 + nI (inc S (arch S))) := by
  intro sz
  refine cv_start (w := xW cs a) (ad := xAd a) (C := RX0) (by decide) rfl xAd_eq (Nat.le_of_ble_eq_true rfl) ?_
  intro p e s m below meth c ls E hml hr hlocks hsz hW hl
  have hA : ∀ q, s.heap.size ≤ q → wA (xAd a) sz q := fun q h => Or.inr (hsz ▸ h)
  have hl : lv_has ls 4 [(0, .ref (a 0))] := hl
  have hh := h.h
  have hn := h.n
  have he := sl_lt S 0
  have hent := h.2.2.2.2.1 0 hn0
  have hvok := h.2.2.2.2.2.1 0 hn0
  have ho := oper_le hw (pl S 0)
  have hpc := arch_pc h hn0
  have e14 : S 14 0 = nI (sl S 0) := by rw [sl_0 hh.2]; exact hh.1
  have hp25 := hent.p.2
  refine lv_aload_n E.1 E.2.1 dX0_retire_0 rfl (lv_at hl 0 rfl) ?_
  refine gX_14 E hW e14 dX0_retire_1 ?_
  refine xl_istore_n (lv' := [(0, _), (1, _)]) E dX0_retire_4 rfl hl (by decide) [1, 0] rfl (fun ls hl => ?_)
  refine lv_aload_n E.1 E.2.1 dX0_retire_5 rfl (lv_at hl 0 rfl) ?_
  refine gX_17 E hW dX0_retire_6 ?_
  refine lv_iload_n E.1 E.2.1 dX0_retire_9 rfl (lv_at hl 1 rfl) ?_
  refine lX_17 E hW (rfl) (he) (hent.2.2.1) dX0_retire_10 ?_
  refine xl_istore_n (lv' := [(0, _), (1, _), (2, _)]) E dX0_retire_11 rfl hl (by decide) [1, 2, 0] rfl (fun ls hl => ?_)
  refine lv_aload_n E.1 E.2.1 dX0_retire_12 rfl (lv_at hl 0 rfl) ?_
  refine gX_16 E hW dX0_retire_13 ?_
  refine lv_iload_n E.1 E.2.1 dX0_retire_16 rfl (lv_at hl 1 rfl) ?_
  refine lX_16 E hW (rfl) (he) (hent.p.1) dX0_retire_17 ?_
  refine xl_istore_n (lv' := [(0, _), (1, _), (2, _), (3, _)]) E dX0_retire_18 rfl hl (by decide) [1, 2, 3, 0] rfl (fun ls hl => ?_)
  refine lv_iload_n E.1 E.2.1 dX0_retire_19 rfl (lv_at hl 2 rfl) ?_
  refine lv_bipush (v := nI 11) E.1 E.2.1 dX0_retire_20 (by decide) ?_
  refine lv_icmp_ne (tgt := 31) E.1 E.2.1 dX0_retire_22 (by decide) (fun h11 => ?_) (fun h11 => ?_)
  rotate_left
  · have h11 : oper S (pl S 0) = 11 := nI_inj (by omega) (by decide) h11
    refine lv_aload_n E.1 E.2.1 dX0_retire_25 rfl (lv_at hl 0 rfl) ?_
    refine lv_iconst (v := 2) E.1 E.2.1 dX0_retire_26 (by decide) ?_
    refine pX_8 E hW dX0_retire_27 (fun H locs hW => ?_)
    exact cv_ret E hr hlocks hW (⟨⟨fp, inv_c (fun q h8 _ _ _ _ _ _ _ => sput_k h8) h, h28⟩, hT, fun q hq => sput_k (by omega), by unfold stp; rw [hpc, if_pos h11]; rfl, by unfold inc; rw [hpc, if_pos h11]; show S 29 0 = S 29 0 + nI 0; rw [nI_0, Int32.add_zero]⟩) dX0_retire_30
  have h11 := nI_neI h11
  refine lv_aload_n E.1 E.2.1 dX0_retire_31 rfl (lv_at hl 0 rfl) ?_
  refine lv_dup E.1 E.2.1 dX0_retire_32 rfl ?_
  refine gX_29 E hW rfl dX0_retire_33 ?_
  refine lv_iconst (v := nI 1) E.1 E.2.1 dX0_retire_36 (by decide) ?_
  refine lv_iadd E.1 E.2.1 dX0_retire_37 ?_
  refine pX_29 E hW dX0_retire_38 (fun H locs hW => ?_)
  refine lv_aload_n E.1 E.2.1 dX0_retire_41 rfl (lv_at hl 0 rfl) ?_
  refine lv_aload_n E.1 E.2.1 dX0_retire_42 rfl (lv_at hl 0 rfl) ?_
  refine gX_14 E hW hh.1 dX0_retire_43 ?_
  refine lv_iconst (v := nI 1) E.1 E.2.1 dX0_retire_46 (by decide) ?_
  refine lv_iadd E.1 E.2.1 dX0_retire_47 ?_
  refine x_top (y := nI (hd S + 1)) (nI_add _ _) ?_
  refine lv_bipush (v := 7) E.1 E.2.1 dX0_retire_48 (by decide) ?_
  refine lv_iand E.1 E.2.1 dX0_retire_50 ?_
  refine x_top (y := nI ((hd S + 1) % 8)) (x_and7 (by omega)) ?_
  refine pX_14 E hW dX0_retire_51 (fun H locs hW => ?_)
  refine lv_aload_n E.1 E.2.1 dX0_retire_54 rfl (lv_at hl 0 rfl) ?_
  refine lv_dup E.1 E.2.1 dX0_retire_55 rfl ?_
  refine gX_15 E hW hn.1 dX0_retire_56 ?_
  refine lv_iconst (v := nI 1) E.1 E.2.1 dX0_retire_59 (by decide) ?_
  refine lv_isub E.1 E.2.1 dX0_retire_60 ?_
  refine x_top (y := nI (en S - 1)) (pk_sub (by omega)) ?_
  refine pX_15 E hW dX0_retire_61 (fun H locs hW => ?_)
  obtain ⟨Sr, hAr, hW⟩ : ∃ Sr, retA S Sr ∧ PW D (xW cs a Sr) (wA (xAd a) sz) s.heap H locs := ⟨_, retA_mk S, hW⟩
  refine lv_iload_n E.1 E.2.1 dX0_retire_64 rfl (lv_at hl 2 rfl) ?_
  refine lv_bipush (v := nI 10) E.1 E.2.1 dX0_retire_65 (by decide) ?_
  refine lv_icmp_ne (tgt := 76) E.1 E.2.1 dX0_retire_67 (by decide) (fun h10 => ?_) (fun h10 => ?_)
  rotate_left
  · have h10 : oper S (pl S 0) = 10 := nI_inj (by omega) (by decide) h10
    refine lv_aload_n E.1 E.2.1 dX0_retire_70 rfl (lv_at hl 0 rfl) ?_
    refine lv_iconst (v := 1) E.1 E.2.1 dX0_retire_71 (by decide) ?_
    refine pX_8 E hW dX0_retire_72 (fun H locs hW => ?_)
    have k1 : ∀ q, q ≠ 8 → q ≠ 14 → q ≠ 15 → q ≠ 29 → sput Sr 8 0 1 q = S q := fun q h8 h14 h15 h29 => by rw [sput_k h8, hAr.1 q h14 h15 h29]
    have hi : inv (sput Sr 8 0 1) fp := by
      refine retire_inv hw h hn0 hd1 (fun q hq => k1 q (by omega) (by omega) (by omega) (by omega)) (fun q h1 h2 => k1 q (by omega) (by omega) (by omega) (by omega)) ?_ hAr.2.1 hAr.2.2.1 ?_ (fun r _ => ?_)
      · unfold eff; rw [if_neg (by omega), if_neg (by omega), k1 5 (by decide) (by decide) (by decide) (by decide), k1 6 (by decide) (by decide) (by decide) (by decide)]
      · rw [k1 7 (by decide) (by decide) (by decide) (by decide), hent.2.2.2.2.1 h10, hent.2.1]; rfl
      · rw [if_neg (fun q => by have := q.1; omega), k1 27 (by decide) (by decide) (by decide) (by decide)]
    have kT : wfT (sput Sr 8 0 1) := by
      unfold wfT
      rw [k1 10 (by decide) (by decide) (by decide) (by decide), k1 11 (by decide) (by decide) (by decide) (by decide), k1 12 (by decide) (by decide) (by decide) (by decide), k1 13 (by decide) (by decide) (by decide) (by decide)]
      exact hT
    exact cv_ret E hr hlocks hW (⟨⟨fp, hi, by rw [k1 28 (by decide) (by decide) (by decide) (by decide)]; exact h28⟩, kT, fun q hq => k1 q (by omega) (by omega) (by omega) (by omega), by
      unfold stp; rw [hpc, if_neg (by omega), if_pos h10]
      show (sput Sr 8 0 1 5, sput Sr 8 0 1 6, sput Sr 8 0 1 7 0, (1 : Int32)) = (S 5, S 6, S 7 0, 1)
      rw [k1 5 (by decide) (by decide) (by decide) (by decide), k1 6 (by decide) (by decide) (by decide) (by decide), k1 7 (by decide) (by decide) (by decide) (by decide)], by unfold inc; rw [hpc, if_neg (by omega)]; exact hAr.2.2.2⟩) dX0_retire_75
  have h10 := nI_neI h10
  have ho9 : oper S (pl S 0) ≤ 9 := by omega
  have hp24 : pl S 0 < 24 := by have h1 := oper_in (S := S) (i := pl S 0) (by omega); have h2 := hw.2.1; omega
  have a2 : ∀ q, q ≠ 14 → q ≠ 15 → q ≠ 29 → Sr q = S q := hAr.1
  refine x_joinS (w := xW cs a) (A := wA (xAd a) sz) (H0 := s.heap) (D := D) (pj := 125) (lj := ls) (rj := []) (fun S2 => retB S Sr S2) (fun join => ?_) (fun S2 H locs hj hW => ?_)
  · refine lv_iload_n E.1 E.2.1 dX0_retire_76 rfl (lv_at hl 2 rfl) ?_
    refine lv_iconst (v := nI 5) E.1 E.2.1 dX0_retire_77 (by decide) ?_
    refine lv_icmp_gt (tgt := 125) E.1 E.2.1 dX0_retire_78 (by decide) (fun hc => ?_) (fun hc => ?_)
    · have hc : 5 < oper S (pl S 0) := (nI_ltI (by decide) (by omega)).mp hc
      exact join _ _ _ (retB_0 hAr (by omega)) hW
    · have hc : oper S (pl S 0) ≤ 5 := nI_nltI (by decide) (by omega) hc
      have hx := hw.x (i := pl S 0) (by omega)
      have hx2 : Sr 2 (pl S 0) = nI (fx S (pl S 0)) := by rw [a2 2 (by decide) (by decide) (by decide)]; exact hx.1
      have h26 : Sr 26 (sl S 0) = S 26 (sl S 0) := by rw [a2 26 (by decide) (by decide) (by decide)]
      have h27 : Sr 27 (fx S (pl S 0)) = S 27 (fx S (pl S 0)) := by rw [a2 27 (by decide) (by decide) (by decide)]
      refine lv_aload_n E.1 E.2.1 dX0_retire_81 rfl (lv_at hl 0 rfl) ?_
      refine gX_5 E hW dX0_retire_82 ?_
      refine lv_aload_n E.1 E.2.1 dX0_retire_85 rfl (lv_at hl 0 rfl) ?_
      refine gX_2 E hW dX0_retire_86 ?_
      refine lv_iload_n E.1 E.2.1 dX0_retire_89 rfl (lv_at hl 3 rfl) ?_
      refine lX_2 E hW (rfl) (hp24) (hx2) dX0_retire_90 ?_
      refine lv_aload_n E.1 E.2.1 dX0_retire_91 rfl (lv_at hl 0 rfl) ?_
      refine gX_26 E hW dX0_retire_92 ?_
      refine lv_iload_n E.1 E.2.1 dX0_retire_95 rfl (lv_at hl 1 rfl) ?_
      refine lX_26 E hW (rfl) (he) (h26) dX0_retire_96 ?_
      refine sX_5 E hW (rfl) (hx.2) dX0_retire_97 (fun H locs hW => ?_)
      refine lv_aload_n E.1 E.2.1 dX0_retire_98 rfl (lv_at hl 0 rfl) ?_
      refine gX_27 E hW dX0_retire_99 ?_
      refine lv_aload_n E.1 E.2.1 dX0_retire_102 rfl (lv_at hl 0 rfl) ?_
      refine gX_2 E hW dX0_retire_103 ?_
      refine lv_iload_n E.1 E.2.1 dX0_retire_106 rfl (lv_at hl 3 rfl) ?_
      refine lX_2 E hW (rfl) (hp24) (hx2) dX0_retire_107 ?_
      refine lX_27 E hW (rfl) (hx.2) (h27) dX0_retire_108 ?_
      refine lv_iload_n E.1 E.2.1 dX0_retire_109 rfl (lv_at hl 1 rfl) ?_
      refine lv_icmp_ne (tgt := 125) E.1 E.2.1 dX0_retire_110 (by decide) (fun hd => ?_) (fun hd => ?_)
      · exact join _ _ _ (retB_1 hAr hc hd) hW
      · refine lv_aload_n E.1 E.2.1 dX0_retire_113 rfl (lv_at hl 0 rfl) ?_
        refine gX_27 E hW dX0_retire_114 ?_
        refine lv_aload_n E.1 E.2.1 dX0_retire_117 rfl (lv_at hl 0 rfl) ?_
        refine gX_2 E hW dX0_retire_118 ?_
        refine lv_iload_n E.1 E.2.1 dX0_retire_121 rfl (lv_at hl 3 rfl) ?_
        refine lX_2 E hW (rfl) (hp24) (hx2) dX0_retire_122 ?_
        refine lv_iconst (v := (-1)) E.1 E.2.1 dX0_retire_123 (by decide) ?_
        refine sX_27 E hW (rfl) (hx.2) (x_nbm) dX0_retire_124 (fun H locs hW => ?_)
        exact join _ _ _ (retB_2 hAr hc hd) hW
  have hB := hj
  have b2 : ∀ q, q ≠ 5 → q ≠ 27 → q ≠ 14 → q ≠ 15 → q ≠ 29 → S2 q = S q := fun q h5 h27 h14 h15 h29 => by rw [hB.1 q h5 h27, a2 q h14 h15 h29]
  refine x_joinS (w := xW cs a) (A := wA (xAd a) sz) (H0 := s.heap) (D := D) (pj := 148) (lj := ls) (rj := []) (fun S3 => (∀ q, q ≠ 6 → S3 q = S2 q) ∧ S3 6 = if oper S (pl S 0) = 6 then upd (S 6) (adr S (pl S 0) (S 5, S 6)) (S 26 (sl S 0)) else S 6) (fun join => ?_) (fun S3 H locs hj hW => ?_)
  · refine lv_iload_n E.1 E.2.1 dX0_retire_125 rfl (lv_at hl 2 rfl) ?_
    refine lv_bipush (v := nI 6) E.1 E.2.1 dX0_retire_126 (by decide) ?_
    refine lv_icmp_ne (tgt := 148) E.1 E.2.1 dX0_retire_128 (by decide) (fun hc => ?_) (fun hc => ?_)
    · have hc := nI_neI hc
      exact join _ _ _ ⟨fun _ _ => rfl, by rw [if_neg hc, b2 6 (by decide) (by decide) (by decide) (by decide) (by decide)]⟩ hW
    · have hc : oper S (pl S 0) = 6 := nI_inj (by omega) (by decide) hc
      have h24 : S2 24 (sl S 0) = nI (adr S (pl S 0) (S 5, S 6)) := by rw [b2 24 (by decide) (by decide) (by decide) (by decide) (by decide)]; exact hvok.2.1 hc (Or.inl hd1)
      have h26 : S2 26 (sl S 0) = S 26 (sl S 0) := by rw [b2 26 (by decide) (by decide) (by decide) (by decide) (by decide)]
      refine lv_aload_n E.1 E.2.1 dX0_retire_131 rfl (lv_at hl 0 rfl) ?_
      refine gX_6 E hW dX0_retire_132 ?_
      refine lv_aload_n E.1 E.2.1 dX0_retire_135 rfl (lv_at hl 0 rfl) ?_
      refine gX_24 E hW dX0_retire_136 ?_
      refine lv_iload_n E.1 E.2.1 dX0_retire_139 rfl (lv_at hl 1 rfl) ?_
      refine lX_24 E hW (rfl) (he) (h24) dX0_retire_140 ?_
      refine lv_aload_n E.1 E.2.1 dX0_retire_141 rfl (lv_at hl 0 rfl) ?_
      refine gX_26 E hW dX0_retire_142 ?_
      refine lv_iload_n E.1 E.2.1 dX0_retire_145 rfl (lv_at hl 1 rfl) ?_
      refine lX_26 E hW (rfl) (he) (h26) dX0_retire_146 ?_
      refine sX_6 E hW (rfl) (adr_lt _ _ _) dX0_retire_147 (fun H locs hW => ?_)
      exact join _ _ _ ⟨fun q hq => sput_k hq, by rw [if_pos hc, sput_at, b2 6 (by decide) (by decide) (by decide) (by decide) (by decide)]⟩ hW
  have hC := hj
  have c2 : ∀ q, q ≠ 5 → q ≠ 6 → q ≠ 27 → q ≠ 14 → q ≠ 15 → q ≠ 29 → S3 q = S q := fun q h5 h6 h27 h14 h15 h29 => by rw [hC.1 q h6, b2 q h5 h27 h14 h15 h29]
  refine lv_aload_n E.1 E.2.1 dX0_retire_148 rfl (lv_at hl 0 rfl) ?_
  refine lv_aload_n E.1 E.2.1 dX0_retire_149 rfl (lv_at hl 0 rfl) ?_
  refine lv_iload_n E.1 E.2.1 dX0_retire_150 rfl (lv_at hl 1 rfl) ?_
  refine ci_call (w := xW cs a) (ad := xAd a) (ci := 0) E hml hl.1 hW xAd_eq hA (tX_placeAfter l D cs a S3 (sl S 0) (oper S (pl S 0)) (pl S 0) he (by omega) hp24 (by rw [c2 17 (by decide) (by decide) (by decide) (by decide) (by decide) (by decide)]; exact hent.2.2.1) (by rw [c2 16 (by decide) (by decide) (by decide) (by decide) (by decide) (by decide)]; exact hent.p.1)) (cwV 1 E.2.2.2.1 (lw_V q164 q166 qs5 q24 q167) rfl rfl rfl (by decide +kernel) ⟨Nat.le_of_ble_eq_true rfl, Nat.le_of_ble_eq_true rfl⟩) rfl rfl rfl rfl rfl (Nat.le_of_ble_eq_true rfl) dX0_retire_151 ⟨Nat.zero_le _, Nat.zero_le _⟩ (fun v S4 H locs hp hW _ _ => ?_)
  obtain ⟨d2, hv⟩ := hp
  have hv : ((oper S (pl S 0) = 9 ∨ tkS S (sl S 0) (oper S (pl S 0))) ∧ v = S 4 (pl S 0)) ∨ (¬ (oper S (pl S 0) = 9 ∨ tkS S (sl S 0) (oper S (pl S 0))) ∧ v = nI (pl S 0 + 1)) := by
    unfold tkS at hv ⊢
    rw [c2 26 (by decide) (by decide) (by decide) (by decide) (by decide) (by decide), c2 4 (by decide) (by decide) (by decide) (by decide) (by decide) (by decide)] at hv
    exact hv
  refine pX_7 E hW dX0_retire_154 (fun H locs hW => ?_)
  refine lv_aload_n E.1 E.2.1 dX0_retire_157 rfl (lv_at hl 0 rfl) ?_
  refine lv_iload_n E.1 E.2.1 dX0_retire_158 rfl (lv_at hl 3 rfl) ?_
  have e2 : ∀ q, q ≠ 5 → q ≠ 6 → q ≠ 7 → q ≠ 9 → q ≠ 27 → q ≠ 14 → q ≠ 15 → q ≠ 29 → sput S4 7 0 v q = S q := fun q h5 h6 h7 h9 h27 h14 h15 h29 => by rw [sput_k h7, d2 q h9, c2 q h5 h6 h27 h14 h15 h29]
  have kT : wfT (sput S4 7 0 v) := by
    unfold wfT
    rw [e2 10 (by decide) (by decide) (by decide) (by decide) (by decide) (by decide) (by decide) (by decide), e2 11 (by decide) (by decide) (by decide) (by decide) (by decide) (by decide) (by decide) (by decide), e2 12 (by decide) (by decide) (by decide) (by decide) (by decide) (by decide) (by decide) (by decide), e2 13 (by decide) (by decide) (by decide) (by decide) (by decide) (by decide) (by decide) (by decide)]
    exact hT
  refine cv_call (w := xW cs a) (ad := xAd a) (ci := 0) E hml hl.1 hW xAd_eq hA (tX_fillTrace l D cs a (sput S4 7 0 v) (pl S 0) kT hp25) (cwV 1 E.2.2.2.1 (lw_V q168 q170 qs6 q24 q171) rfl rfl rfl (by decide +kernel) ⟨Nat.le_of_ble_eq_true rfl, Nat.le_of_ble_eq_true rfl⟩) rfl rfl rfl rfl rfl (Nat.le_of_ble_eq_true rfl) dX0_retire_159 ⟨Nat.zero_le _, Nat.zero_le _⟩ (fun S6 H locs hp hW _ _ => ?_)
  obtain ⟨g2, gT⟩ := hp
  have k6 : ∀ q, q ≠ 5 → q ≠ 6 → q ≠ 7 → q ≠ 9 → q ≠ 10 → q ≠ 11 → q ≠ 12 → q ≠ 13 → q ≠ 14 → q ≠ 15 → q ≠ 27 → q ≠ 29 → S6 q = S q := fun q h5 h6 h7 h9 h10 h11 h12 h13 h14 h15 h27 h29 => by rw [g2 q h10 h11 h12 h13, e2 q h5 h6 h7 h9 h27 h14 h15 h29]
  have f7 : S6 7 0 = v := by rw [g2 7 (by decide) (by decide) (by decide) (by decide)]; exact sput_s
  have f5 : S6 5 = if oper S (pl S 0) ≤ 5 then upd (S 5) (fx S (pl S 0)) (S 26 (sl S 0)) else S 5 := by rw [g2 5 (by decide) (by decide) (by decide) (by decide), sput_k (by decide), d2 5 (by decide), hC.1 5 (by decide)]; exact hB.2.1
  have f6 : S6 6 = if oper S (pl S 0) = 6 then upd (S 6) (adr S (pl S 0) (S 5, S 6)) (S 26 (sl S 0)) else S 6 := by rw [g2 6 (by decide) (by decide) (by decide) (by decide), sput_k (by decide), d2 6 (by decide)]; exact hC.2
  have fr : ∀ q, q = 14 ∨ q = 15 ∨ q = 29 → S6 q = Sr q := fun q hq => by rw [g2 q (by omega) (by omega) (by omega) (by omega), sput_k (by omega), d2 q (by omega), hC.1 q (by omega), hB.1 q (by omega) (by omega)]
  have f27 : ∀ r, r < 8 → S6 27 r = if oper S (pl S 0) ≤ 5 ∧ fx S (pl S 0) = r ∧ S 27 r = nI (sl S 0) then -1 else S 27 r := fun r hr => by rw [g2 27 (by decide) (by decide) (by decide) (by decide), sput_k (by decide), d2 27 (by decide), hC.1 27 (by decide)]; exact hB.2.2 r hr
  have f29 : S6 29 0 = S 29 0 + nI 1 := by rw [fr 29 (Or.inr (Or.inr rfl))]; exact hAr.2.2.2
  have f14 : S6 14 0 = nI ((hd S + 1) % 8) := by rw [fr 14 (Or.inl rfl)]; exact hAr.2.1
  have f15 : S6 15 0 = nI (en S - 1) := by rw [fr 15 (Or.inr (Or.inl rfl))]; exact hAr.2.2.1
  have hpr : ∀ q, q ≤ 4 → S6 q = S q := fun q hq => k6 q (by omega) (by omega) (by omega) (by omega) (by omega) (by omega) (by omega) (by omega) (by omega) (by omega) (by omega) (by omega)
  obtain ⟨m1, m2, m3, m4⟩ := ret_arch (S1 := S6) hw h hn0 hd1 ho9 f5 f6 (k6 8 (by decide) (by decide) (by decide) (by decide) (by decide) (by decide) (by decide) (by decide) (by decide) (by decide) (by decide) (by decide)) (by rw [f7]; exact hv)
  have f18 : S6 18 (sl S 0) = S 18 (sl S 0) := by rw [k6 18 (by decide) (by decide) (by decide) (by decide) (by decide) (by decide) (by decide) (by decide) (by decide) (by decide) (by decide) (by decide)]
  refine lv_aload_n E.1 E.2.1 dX0_retire_162 rfl (lv_at hl 0 rfl) ?_
  refine gX_7 E hW f7 dX0_retire_163 ?_
  refine lv_aload_n E.1 E.2.1 dX0_retire_166 rfl (lv_at hl 0 rfl) ?_
  refine gX_18 E hW dX0_retire_167 ?_
  refine lv_iload_n E.1 E.2.1 dX0_retire_170 rfl (lv_at hl 1 rfl) ?_
  refine lX_18 E hW (rfl) (he) (f18) dX0_retire_171 ?_
  refine lv_icmp_eq (tgt := 179) E.1 E.2.1 dX0_retire_172 (by decide) (fun hq => ?_) (fun hq => ?_)
  · have hi : inv S6 fp := retire_inv hw h hn0 hd1 hpr (fun q h1 h2 => by
      by_cases e27 : q = 27
      · omega
      · exact k6 q (by omega) (by omega) (by omega) (by omega) (by omega) (by omega) (by omega) (by omega) (by omega) (by omega) (by omega) (by omega)) m1 f14 f15 (by rw [f7, hq]) f27
    exact cv_ret E hr hlocks hW (⟨⟨fp, hi, by rw [k6 28 (by decide) (by decide) (by decide) (by decide) (by decide) (by decide) (by decide) (by decide) (by decide) (by decide) (by decide) (by decide)]; exact h28⟩, gT, hpr, m2, by rw [m4]; exact f29⟩) dX0_retire_179
  refine lv_aload_n E.1 E.2.1 dX0_retire_175 rfl (lv_at hl 0 rfl) ?_
  refine cv_call (w := xW cs a) (ad := xAd a) (ci := 0) E hml hl.1 hW xAd_eq hA (tX_squash l D cs a S6) (cwV 0 E.2.2.2.1 (lw_V q38 q40 qs1 q24 q41) rfl rfl rfl (by decide +kernel) ⟨Nat.le_of_ble_eq_true rfl, Nat.le_of_ble_eq_true rfl⟩) rfl rfl rfl rfl rfl (Nat.le_of_ble_eq_true rfl) dX0_retire_176 ⟨Nat.zero_le _, Nat.zero_le _⟩ (fun S7 H locs hp hW _ _ => ?_)
  obtain ⟨u1, u2, u3, u4⟩ := hp
  obtain ⟨n7, hn7, en7⟩ := m3
  have hi : inv S7 n7 := inv_empty (by rw [u1 14 (by decide) (by decide) (by decide)]; exact ⟨_, Nat.mod_lt _ (by decide), f14⟩) u2 hn7 (by rw [u1 7 (by decide) (by decide) (by decide)]; exact en7) u4
  exact cv_ret E hr hlocks hW (⟨⟨n7, hi, by rw [u3]; exact en7⟩, by
    unfold wfT
    rw [u1 10 (by decide) (by decide) (by decide), u1 11 (by decide) (by decide) (by decide), u1 12 (by decide) (by decide) (by decide), u1 13 (by decide) (by decide) (by decide)]
    exact gT, fun q hq => by rw [u1 q (by omega) (by omega) (by omega)]; exact hpr q hq, by
    rw [← m2]; unfold arch; rw [u1 5 (by decide) (by decide) (by decide), u1 6 (by decide) (by decide) (by decide), u1 7 (by decide) (by decide) (by decide), u1 8 (by decide) (by decide) (by decide)], by rw [u1 29 (by decide) (by decide) (by decide), m4]; exact f29⟩) dX0_retire_179
end
section
set_option maxRecDepth 100000
theorem inv.pc25 {S : St} {fp : Nat} (h : inv S fp) : isN (S 7 0) 25 := by
  rcases Nat.eq_zero_or_pos (en S) with q | q
  · have := h.2.2.2.1
    rw [q] at this
    exact ⟨fp, h.2.2.1, this⟩
  · exact ⟨pl S 0, (h.2.2.2.2.1 0 q).p.2, h.pc q⟩
/-- run's state: t tries made, d of them retired -/
def rnJ (S S1 : St) (w t d : Nat) : Prop := (∀ q, q ≤ 4 → S1 q = S q) ∧ wfT S1 ∧ (∃ fp, inv S1 fp ∧ S1 28 0 = nI fp) ∧ itr S w (arch S) = ((itr S (w - t) (arch S1)).1, d + (itr S (w - t) (arch S1)).2) ∧ S1 29 0 = nI d ∧ t ≤ w
def rdy (S : St) : Prop := 0 < en S ∧ S 25 (sl S 0) = 1
def cyc (S1 : St) (c t : Nat) : Prop := (en S1 = 0 → c ≤ 3 * t) ∧ (0 < en S1 → S1 25 (sl S1 0) = 0 → c ≤ 3 * t + 1) ∧ c ≤ 3 * t + 2
theorem rn_retire {S S1 S2 : St} {w t d : Nat} (h : rnJ S S1 w t d) (ht : t < w) (h8 : S1 8 0 = 0) (g1 : ∃ fp1, inv S2 fp1 ∧ S2 28 0 = nI fp1) (g2 : wfT S2) (g3 : ∀ q, q ≤ 4 → S2 q = S1 q) (g4 : arch S2 = stp S1 (arch S1)) (g5 : S2 29 0 = S1 29 0 + nI (inc S1 (arch S1))) : rnJ S S2 w (t + 1) (d + inc S (arch S1)) := by
  obtain ⟨a1, a2, a3, a4, a5, a6⟩ := h
  refine ⟨fun q hq => by rw [g3 q hq, a1 q hq], g2, g1, ?_, ?_, by omega⟩
  · have e : w - t = (w - (t + 1)) + 1 := by omega
    rw [a4, e, itr_run S _ (show (arch S1).2.2.2 = 0 from h8), g4, stp_c a1]
    simp only [Nat.add_assoc]
  · rw [g5, a5, inc_c a1, nI_add]
theorem rn_same {S S2 S4 : St} {w t d : Nat} (h : rnJ S S2 w t d) (hp : ∀ q, q ≤ 14 → S4 q = S2 q) (h29 : S4 29 = S2 29) (g1 : ∃ fp1, inv S4 fp1 ∧ S4 28 0 = nI fp1) : rnJ S S4 w t d := by
  obtain ⟨a1, a2, a3, a4, a5, a6⟩ := h
  have ha : arch S4 = arch S2 := by unfold arch; rw [hp 5 (by decide), hp 6 (by decide), hp 7 (by decide), hp 8 (by decide)]
  refine ⟨fun q hq => by rw [hp q (by omega), a1 q hq], ?_, g1, by rw [ha]; exact a4, by rw [h29]; exact a5, a6⟩
  unfold wfT
  rw [hp 10 (by decide), hp 11 (by decide), hp 12 (by decide), hp 13 (by decide)]
  exact a2
section L_run2
variable {p : Program} {l : Launch} {e : Env} {R : Room} {s : State} {m : MethodId} {args : Array Value} {below : List Frame} {meth : Method} {c : Code} {H : Heap} {locs : List Loc} {cells slots : Nat} {Q : State → Prop}
variable {cc : ByteArray} {pc : Nat} {ls : Array Slot} {rest : List Value} {D : va_G} {cs : ClassId × ClassId × ClassId} {a : Nat → Nat} {S : St} {A : Nat → Prop} {H0 : Heap}
set_option maxHeartbeats 4000000 in
theorem lpX_run2 {S1 : St} {n0 : Int32} {w0 t c0 : Nat} (E : XE RX0 p s m args c cX0_run D cs) (hml : c.maxLocals = 6) (hA : ∀ q, H0.size ≤ q → A q) (hfr : 3 ≤ R.frames ∧ 74 ≤ R.locals) (hcs : cells ≤ R.cells ∧ slots ≤ R.slots) (hw : wfP S) (hw0 : w0 ≤ 150) (ht : t < w0) (h8 : S1 8 0 = 0)
    (k110 : ∀ (S2 : St) (t2 d2 : Nat) (H : Heap) (locs : List Loc) (ls : Array Slot), rnJ S S2 w0 t2 d2 → ((t2 = t ∧ S2 = S1 ∧ ¬ rdy S1) ∨ t < t2) → PW D (xW cs a S2) A H0 H locs → lv_has ls 6 [(0, .ref (a 0)), (1, .int n0), (2, .int (nI w0)), (3, .int (nI t2)), (4, .int (nI c0))] → W p l e R s m args below meth c H locs cells slots Q (F0 m 110 ls [])) :
    ∀ (f k t2 d2 : Nat) (S2 : St) (H : Heap) (locs : List Loc) (ls : Array Slot), k + f = 2 → rnJ S S2 w0 t2 d2 → ((t2 = t ∧ S2 = S1 ∧ (0 < k → ¬ rdy S1)) ∨ t < t2) → PW D (xW cs a S2) A H0 H locs → lv_has ls 6 [(0, .ref (a 0)), (1, .int n0), (2, .int (nI w0)), (3, .int (nI t2)), (4, .int (nI c0)), (5, .int (nI k))] → W p l e R s m args below meth c H locs cells slots Q (F0 m 60 ls []) := by
  intro f
  induction f with
  | zero =>
    intro k t2 d2 S2 H locs ls hk hJ hc hW hl
    obtain rfl : k = 2 := by omega
    refine lv_iload E.1 E.2.1 dX0_run_60 (lv_at hl 5 rfl) ?_
    refine lv_iconst (v := nI 2) E.1 E.2.1 dX0_run_62 (by decide) ?_
    refine lv_icmp_ge (tgt := 110) E.1 E.2.1 dX0_run_63 (by decide) (fun _ => ?_) (fun h => absurd (nI_le (Nat.le_refl _) (by decide)) h)
    exact k110 S2 t2 d2 H locs ls hJ (hc.imp (fun q => ⟨q.1, q.2.1, q.2.2 (by decide)⟩) id) hW (lv_sub hl [0, 1, 2, 3, 4] rfl)
  | succ f ih =>
    intro k t2 d2 S2 H locs ls hk hJ hc hW hl
    have hk2 : k < 2 := by omega
    have htw := hJ.2.2.2.2.2
    refine lv_iload E.1 E.2.1 dX0_run_60 (lv_at hl 5 rfl) ?_
    refine lv_iconst (v := nI 2) E.1 E.2.1 dX0_run_62 (by decide) ?_
    refine lv_icmp_ge (tgt := 110) E.1 E.2.1 dX0_run_63 (by decide) (fun h => absurd h (nI_ge hk2 (by decide))) (fun _ => ?_)
    refine lv_iload_n E.1 E.2.1 dX0_run_66 rfl (lv_at hl 3 rfl) ?_
    refine lv_iload_n E.1 E.2.1 dX0_run_67 rfl (lv_at hl 2 rfl) ?_
    refine lv_icmp_ge (tgt := 110) E.1 E.2.1 dX0_run_68 (by decide) (fun hw2 => ?_) (fun hw2 => ?_)
    · have hw2 : w0 ≤ t2 := (nI_leI (by omega) (by omega)).mp hw2
      exact k110 S2 t2 d2 H locs ls hJ (Or.inr (by omega)) hW (lv_sub hl [0, 1, 2, 3, 4] rfl)
    have hw2 : t2 < w0 := nI_nleI (by omega) (by omega) hw2
    refine lv_aload_n E.1 E.2.1 dX0_run_71 rfl (lv_at hl 0 rfl) ?_
    refine gX_8 E hW rfl dX0_run_72 ?_
    refine lv_if_ne (tgt := 110) E.1 E.2.1 dX0_run_75 (by decide) (fun hs2 => ?_) (fun hs2 => ?_)
    · exact k110 S2 t2 d2 H locs ls hJ (hc.elim (fun q => absurd (by rw [q.2.1]; exact h8) hs2) Or.inr) hW (lv_sub hl [0, 1, 2, 3, 4] rfl)
    obtain ⟨fp, hi, h28⟩ := hJ.2.2.1
    have hn := hi.n
    have hh := hi.h
    have hwf : wfP S2 := wfP_c hJ.1 hw
    have e14 : S2 14 0 = nI (sl S2 0) := by rw [sl_0 hh.2]; exact hh.1
    refine lv_aload_n E.1 E.2.1 dX0_run_78 rfl (lv_at hl 0 rfl) ?_
    refine gX_15 E hW hn.1 dX0_run_79 ?_
    refine lv_if_le (tgt := 104) E.1 E.2.1 dX0_run_82 (by decide) (fun he => ?_) (fun he => ?_)
    · have he : ¬ 0 < en S2 := fun q => nI_nle q (by omega) he
      refine xl_iinc (v := nI (k + 1)) (lv' := [(0, _), (1, _), (2, _), (3, _), (4, _), (5, _)]) E dX0_run_104 hl (k := 5) rfl (x_inc1 k) (by decide) [1, 2, 3, 4, 5, 0] rfl (fun ls hl => ?_)
      refine lv_goto (tgt := 60) E.1 E.2.1 dX0_run_107 (by decide) ?_
      exact ih (k + 1) t2 d2 S2 _ _ _ (by omega) hJ (hc.imp (fun q => ⟨q.1, q.2.1, fun _ => by rw [← q.2.1]; exact fun q => he q.1⟩) id) hW (lv_sub hl [0, 1, 2, 3, 4, 5] rfl)
    have he : 0 < en S2 := by
      rcases Nat.eq_zero_or_pos (en S2) with q | q
      · rw [q] at he; exact absurd (by decide) he
      · exact q
    refine lv_aload_n E.1 E.2.1 dX0_run_85 rfl (lv_at hl 0 rfl) ?_
    refine gX_25 E hW dX0_run_86 ?_
    refine lv_aload_n E.1 E.2.1 dX0_run_89 rfl (lv_at hl 0 rfl) ?_
    refine gX_14 E hW e14 dX0_run_90 ?_
    refine lX_25 E hW (rfl) (sl_lt S2 0) (rfl) dX0_run_93 ?_
    refine lv_if_eq (tgt := 104) E.1 E.2.1 dX0_run_94 (by decide) (fun hdn => ?_) (fun hdn => ?_)
    · refine xl_iinc (v := nI (k + 1)) (lv' := [(0, _), (1, _), (2, _), (3, _), (4, _), (5, _)]) E dX0_run_104 hl (k := 5) rfl (x_inc1 k) (by decide) [1, 2, 3, 4, 5, 0] rfl (fun ls hl => ?_)
      refine lv_goto (tgt := 60) E.1 E.2.1 dX0_run_107 (by decide) ?_
      exact ih (k + 1) t2 d2 S2 _ _ _ (by omega) hJ (hc.imp (fun q => ⟨q.1, q.2.1, fun _ => by rw [← q.2.1]; exact fun q => by have := q.2; rw [hdn] at this; exact absurd this (by decide)⟩) id) hW (lv_sub hl [0, 1, 2, 3, 4, 5] rfl)
    have hd1 : S2 25 (sl S2 0) = 1 := by
      rcases (hi.2.2.2.2.1 0 he).2.2.2.2.2.1 with e | e
      · exact absurd e hdn
      · exact e
    refine lv_aload_n E.1 E.2.1 dX0_run_97 rfl (lv_at hl 0 rfl) ?_
    refine cv_call (w := xW cs a) (ad := xAd a) (ci := 0) E hml hl.1 hW xAd_eq hA (tX_retire l D cs a S2 fp hwf hJ.2.1 hi h28 he hd1) (cwV 0 E.2.2.2.1 (lw_V q160 q162 qs4 q24 q163) rfl rfl rfl (by decide +kernel) ⟨Nat.le_trans (Nat.le_of_ble_eq_true rfl) hfr.1, Nat.le_trans (Nat.le_of_ble_eq_true rfl) hfr.2⟩) rfl rfl rfl rfl rfl (Nat.le_of_ble_eq_true rfl) dX0_run_98 hcs (fun S3 H locs hp hW _ _ => ?_)
    obtain ⟨g1, g2, g3, g4, g5⟩ := hp
    have hJ3 := rn_retire hJ hw2 hs2 g1 g2 g3 g4 g5
    refine xl_iinc (v := nI (t2 + 1)) (lv' := [(0, _), (1, _), (2, _), (3, _), (4, _), (5, _)]) E dX0_run_101 hl (k := 3) rfl (x_inc1 t2) (by decide) [1, 2, 3, 0, 4, 5] rfl (fun ls hl => ?_)
    refine xl_iinc (v := nI (k + 1)) (lv' := [(0, _), (1, _), (2, _), (3, _), (4, _), (5, _)]) E dX0_run_104 hl (k := 5) rfl (x_inc1 k) (by decide) [1, 2, 3, 4, 5, 0] rfl (fun ls hl => ?_)
    refine lv_goto (tgt := 60) E.1 E.2.1 dX0_run_107 (by decide) ?_
    exact ih (k + 1) (t2 + 1) _ S3 _ _ _ (by omega) hJ3 (Or.inr (by rcases hc with q | q <;> omega)) hW (lv_sub hl [0, 1, 2, 3, 4, 5] rfl)
end L_run2
section L_run
variable {p : Program} {l : Launch} {e : Env} {R : Room} {s : State} {m : MethodId} {args : Array Value} {below : List Frame} {meth : Method} {c : Code} {H : Heap} {locs : List Loc} {cells slots : Nat} {Q : State → Prop}
variable {cc : ByteArray} {pc : Nat} {ls : Array Slot} {rest : List Value} {D : va_G} {cs : ClassId × ClassId × ClassId} {a : Nat → Nat} {S : St} {A : Nat → Prop} {H0 : Heap}
set_option maxHeartbeats 4000000 in
theorem lpX_run {n0 : Int32} {w0 : Nat} (E : XE RX0 p s m args c cX0_run D cs) (hml : c.maxLocals = 6) (hA : ∀ q, H0.size ≤ q → A q) (hfr : 3 ≤ R.frames ∧ 74 ≤ R.locals) (hcs : cells ≤ R.cells ∧ slots ≤ R.slots) (hw : wfP S) (hw0 : w0 ≤ 150)
    (k124 : ∀ (S1 : St) (d : Nat) (H : Heap) (locs : List Loc) (ls : Array Slot), (∀ q, q ≤ 4 → S1 q = S q) → wfT S1 → (∃ fp, inv S1 fp) → itr S w0 (arch S) = (arch S1, d) → S1 29 0 = nI d → PW D (xW cs a S1) A H0 H locs → lv_has ls 6 [(0, .ref (a 0))] → W p l e R s m args below meth c H locs cells slots Q (F0 m 124 ls [])) :
    ∀ (f c0 t d : Nat) (S1 : St) (H : Heap) (locs : List Loc) (ls : Array Slot), c0 + f = 500 → rnJ S S1 w0 t d → cyc S1 c0 t → PW D (xW cs a S1) A H0 H locs → lv_has ls 6 [(0, .ref (a 0)), (1, .int n0), (2, .int (nI w0)), (3, .int (nI t)), (4, .int (nI c0))] → W p l e R s m args below meth c H locs cells slots Q (F0 m 37 ls []) := by
  intro f
  induction f with
  | zero =>
    intro c0 t d S1 H locs ls hk hJ hc hW hl
    have h1 := hJ.2.2.2.2.2
    have h2 := hc.2.2
    exact absurd hk (by omega)
  | succ f ih =>
    intro c0 t d S1 H locs ls hk hJ hc hW hl
    have htw := hJ.2.2.2.2.2
    have hc0 : c0 < 2000 := by omega
    refine lv_iload E.1 E.2.1 dX0_run_37 (lv_at hl 4 rfl) ?_
    refine lv_sipush (v := nI 2000) E.1 E.2.1 dX0_run_39 (by decide) ?_
    refine lv_icmp_ge (tgt := 124) E.1 E.2.1 dX0_run_42 (by decide) (fun h => absurd h (nI_ge hc0 (by decide))) (fun _ => ?_)
    refine lv_iload_n E.1 E.2.1 dX0_run_45 rfl (lv_at hl 3 rfl) ?_
    refine lv_iload_n E.1 E.2.1 dX0_run_46 rfl (lv_at hl 2 rfl) ?_
    refine lv_icmp_ge (tgt := 124) E.1 E.2.1 dX0_run_47 (by decide) (fun hw2 => ?_) (fun hw2 => ?_)
    · have hw2 : w0 ≤ t := (nI_leI (by omega) (by omega)).mp hw2
      exact k124 S1 d H locs ls hJ.1 hJ.2.1 (hJ.2.2.1.imp fun _ q => q.1) (by rw [hJ.2.2.2.1, show w0 - t = 0 by omega]; rfl) hJ.2.2.2.2.1 hW (lv_sub hl [0] rfl)
    have hw2 : t < w0 := nI_nleI (by omega) (by omega) hw2
    refine lv_aload_n E.1 E.2.1 dX0_run_50 rfl (lv_at hl 0 rfl) ?_
    refine gX_8 E hW rfl dX0_run_51 ?_
    refine lv_if_ne (tgt := 124) E.1 E.2.1 dX0_run_54 (by decide) (fun hs => ?_) (fun hs => ?_)
    · exact k124 S1 d H locs ls hJ.1 hJ.2.1 (hJ.2.2.1.imp fun _ q => q.1) (by rw [hJ.2.2.2.1, itr_stop S _ (show ¬ (arch S1).2.2.2 = 0 from hs)]; rfl) hJ.2.2.2.2.1 hW (lv_sub hl [0] rfl)
    refine lv_iconst (v := nI 0) E.1 E.2.1 dX0_run_57 (by decide) ?_
    refine xl_istore (lv' := [(0, _), (1, _), (2, _), (3, _), (4, _), (5, _)]) E dX0_run_58 hl (by decide) [1, 2, 3, 4, 5, 0] rfl (fun ls hl => ?_)
    refine lpX_run2 (S := S) (S1 := S1) (n0 := n0) (w0 := w0) (t := t) (c0 := c0) E hml hA hfr hcs hw hw0 hw2 hs (fun S2 t2 d2 H locs ls hJ2 hcase hW hl => ?_) 2 0 t d S1 _ _ _ rfl hJ (Or.inl ⟨rfl, rfl, fun q => absurd q (Nat.lt_irrefl 0)⟩) hW hl
    obtain ⟨fp, hi, h28⟩ := hJ2.2.2.1
    have hwf : wfP S2 := wfP_c hJ2.1 hw
    refine lv_aload_n E.1 E.2.1 dX0_run_110 rfl (lv_at hl 0 rfl) ?_
    refine cv_call (w := xW cs a) (ad := xAd a) (ci := 0) E hml hl.1 hW xAd_eq hA (tX_executeSome l D cs a S2 fp hwf hi) (cwV 0 E.2.2.2.1 (lw_V q172 q174 qs7 q24 q175) rfl rfl rfl (by decide +kernel) ⟨Nat.le_trans (Nat.le_of_ble_eq_true rfl) hfr.1, Nat.le_trans (Nat.le_of_ble_eq_true rfl) hfr.2⟩) rfl rfl rfl rfl rfl (Nat.le_of_ble_eq_true rfl) dX0_run_111 hcs (fun S3 H locs hp hW _ _ => ?_)
    obtain ⟨g1, g2, g3⟩ := hp
    have p3 : ∀ q, q ≤ 18 → S3 q = S2 q := fun q hq => g2 q (by omega) (by omega) (by omega) (by omega) (by omega) (by omega) (by omega) (by omega)
    have q28 : S3 28 = S2 28 := g2 28 (by decide) (by decide) (by decide) (by decide) (by decide) (by decide) (by decide) (by decide)
    have q29 : S3 29 = S2 29 := g2 29 (by decide) (by decide) (by decide) (by decide) (by decide) (by decide) (by decide) (by decide)
    have hwf3 : wfP S3 := wfP_c (fun q hq => p3 q (by omega)) hwf
    have hT3 : wfT S3 := by
      unfold wfT
      rw [p3 10 (by decide), p3 11 (by decide), p3 12 (by decide), p3 13 (by decide)]
      exact hJ2.2.1
    refine lv_aload_n E.1 E.2.1 dX0_run_114 rfl (lv_at hl 0 rfl) ?_
    refine cv_call (w := xW cs a) (ad := xAd a) (ci := 0) E hml hl.1 hW xAd_eq hA (tX_fetch l D cs a S3 fp hwf3 hT3 g1 (by rw [q28]; exact h28)) (cwV 0 E.2.2.2.1 (lw_V q196 q198 qs13 q24 q199) rfl rfl rfl (by decide +kernel) ⟨Nat.le_trans (Nat.le_of_ble_eq_true rfl) hfr.1, Nat.le_trans (Nat.le_of_ble_eq_true rfl) hfr.2⟩) rfl rfl rfl rfl rfl (Nat.le_of_ble_eq_true rfl) dX0_run_115 hcs (fun S4 H locs hp hW _ _ => ?_)
    obtain ⟨fp4, m1, m2, m3, m4, m5⟩ := hp
    have p4 : ∀ q, q ≤ 14 → S4 q = S3 q := fun q hq => m4 q (by omega) (by omega) (by omega) (by omega) (by omega) (by omega) (by omega) (by omega) (by omega) (by omega) (by omega) (by omega)
    have q29b : S4 29 = S3 29 := m4 29 (by decide) (by decide) (by decide) (by decide) (by decide) (by decide) (by decide) (by decide) (by decide) (by decide) (by decide) (by decide)
    have hJ4 : rnJ S S4 w0 t2 d2 := rn_same hJ2 (fun q hq => by rw [p4 q hq, p3 q (by omega)]) (by rw [q29b, q29]) ⟨fp4, m1, m2⟩
    have hen3 : en S3 = en S2 := en_c (p3 15 (by decide))
    have hcy : cyc S4 (c0 + 1) t2 := by
      have hc3 := hc.2.2
      rcases hcase with ⟨e1, e2, e3⟩ | q
      · subst e1; subst e2
        refine ⟨fun q => absurd m3 (by omega), fun _ q => ?_, ?_⟩
        · rcases Nat.eq_zero_or_pos (en S2) with z | z
          · have := hc.1 z; omega
          · rw [m5 (by omega), g3 z] at q; exact absurd q (by decide)
        · rcases Nat.eq_zero_or_pos (en S2) with z | z
          · have := hc.1 z; omega
          · have h0 : S2 25 (sl S2 0) = 0 := by
              rcases (hi.2.2.2.2.1 0 z).2.2.2.2.2.1 with e | e
              · exact e
              · exact absurd ⟨z, e⟩ e3
            have := hc.2.1 z h0; omega
      · exact ⟨fun q => absurd m3 (by omega), fun _ _ => by omega, by omega⟩
    refine xl_iinc (v := nI (c0 + 1)) (lv' := [(0, _), (1, _), (2, _), (3, _), (4, _)]) E dX0_run_118 hl (k := 4) rfl (x_inc1 c0) (by decide) [1, 2, 3, 4, 0] rfl (fun ls hl => ?_)
    refine lv_goto (tgt := 37) E.1 E.2.1 dX0_run_121 (by decide) ?_
    exact ih (c0 + 1) t2 d2 S4 _ _ _ (by omega) hJ4 hcy hW (lv_sub hl [0, 1, 2, 3, 4] rfl)
end L_run
set_option maxHeartbeats 4000000 in
set_option maxRecDepth 100000 in
/-- run -/
theorem tX_run (l : Launch) (D : va_G) (cs : ClassId × ClassId × ClassId) (a : Nat → Nat) (S : St) (n0 : Int32) (hw : wfP S) (hT : wfT S) (h14 : isN (S 14 0) 8) (h7 : isN (S 7 0) 25) : CI l yX0_run cX0_run 6 .int (rm_ 3 74) D cs (xW cs a) (xAd a) [.ref (a 0), .int n0] S (fun v S1 => v = nI (itr S (wnt n0) (arch S)).2 ∧ arch S1 = (itr S (wnt n0) (arch S)).1 ∧ (∀ q, q ≤ 4 → S1 q = S q) ∧ wfT S1 ∧ isN (S1 7 0) 25 ∧ isN (S1 14 0) 8) := by
  intro sz
  refine cv_start (w := xW cs a) (ad := xAd a) (C := RX0) (by decide) rfl xAd_eq (Nat.le_of_ble_eq_true rfl) ?_
  intro p e s m below meth c ls E hml hr hlocks hsz hW hl
  have hA : ∀ q, s.heap.size ≤ q → wA (xAd a) sz q := fun q h => Or.inr (hsz ▸ h)
  have hl : lv_has ls 6 [(0, .ref (a 0)), (1, .int n0)] := hl
  refine x_join (pj := 22) (lj := ls) (rj := []) (fun v => v = nI (wnt n0)) (fun join => ?_) (fun v hj => ?_)
  · refine lv_iload_n E.1 E.2.1 dX0_run_0 rfl (lv_at hl 1 rfl) ?_
    refine lv_if_ge (tgt := 8) E.1 E.2.1 dX0_run_1 (by decide) (fun h1 => ?_) (fun h1 => ?_)
    · have h1 : ¬ n0 < 0 := Int32.not_lt.mpr h1
      refine lv_iload_n E.1 E.2.1 dX0_run_8 rfl (lv_at hl 1 rfl) ?_
      refine lv_sipush (v := 150) E.1 E.2.1 dX0_run_9 (by decide) ?_
      refine lv_icmp_le (tgt := 21) E.1 E.2.1 dX0_run_12 (by decide) (fun h2 => ?_) (fun h2 => ?_)
      · refine lv_iload_n E.1 E.2.1 dX0_run_21 rfl (lv_at hl 1 rfl) ?_
        exact join _ (by unfold wnt; rw [if_neg h1, if_neg (Int32.not_lt.mpr h2)]; exact ((isN_mk (x := n0) (M := 150) (b := 151) (by decide) h1 h2).nt (by decide)).1)
      · refine lv_sipush (v := 150) E.1 E.2.1 dX0_run_15 (by decide) ?_
        refine lv_goto (tgt := 22) E.1 E.2.1 dX0_run_18 (by decide) ?_
        exact join _ (by unfold wnt; rw [if_neg h1, if_pos (lt_of_nle h2)]; rfl)
    · refine lv_iconst (v := 0) E.1 E.2.1 dX0_run_4 (by decide) ?_
      refine lv_goto (tgt := 22) E.1 E.2.1 dX0_run_5 (by decide) ?_
      exact join _ (by unfold wnt; rw [if_pos (lt_of_nle h1)]; rfl)
  subst hj
  refine xl_istore_n (lv' := [(0, _), (1, _), (2, _)]) E dX0_run_22 rfl hl (by decide) [1, 2, 0] rfl (fun ls hl => ?_)
  refine lv_aload_n E.1 E.2.1 dX0_run_23 rfl (lv_at hl 0 rfl) ?_
  refine lv_iconst (v := nI 0) E.1 E.2.1 dX0_run_24 (by decide) ?_
  refine pX_29 E hW dX0_run_25 (fun H locs hW => ?_)
  refine lv_iconst (v := nI 0) E.1 E.2.1 dX0_run_28 (by decide) ?_
  refine xl_istore_n (lv' := [(0, _), (1, _), (2, _), (3, _)]) E dX0_run_29 rfl hl (by decide) [1, 2, 3, 0] rfl (fun ls hl => ?_)
  refine lv_aload_n E.1 E.2.1 dX0_run_30 rfl (lv_at hl 0 rfl) ?_
  refine cv_call (w := xW cs a) (ad := xAd a) (ci := 0) E hml hl.1 hW xAd_eq hA (tX_squash l D cs a (sput S 29 0 (nI 0))) (cwV 0 E.2.2.2.1 (lw_V q38 q40 qs1 q24 q41) rfl rfl rfl (by decide +kernel) ⟨Nat.le_of_ble_eq_true rfl, Nat.le_of_ble_eq_true rfl⟩) rfl rfl rfl rfl rfl (Nat.le_of_ble_eq_true rfl) dX0_run_31 ⟨Nat.zero_le _, Nat.zero_le _⟩ (fun S1 H locs hp hW _ _ => ?_)
  obtain ⟨u1, u2, u3, u4⟩ := hp
  have k1 : ∀ q, q ≤ 14 → S1 q = S q := fun q hq => by rw [u1 q (by omega) (by omega) (by omega), sput_k (by omega)]
  obtain ⟨p7, hp7, e7⟩ := h7
  have hi : inv S1 p7 := inv_empty (by rw [k1 14 (by decide)]; exact h14) u2 hp7 (by rw [k1 7 (by decide)]; exact e7) u4
  have hen : en S1 = 0 := by unfold en; rw [u2]; exact nt_nI (n := 0) (by decide)
  have ha : arch S1 = arch S := by unfold arch; rw [k1 5 (by decide), k1 6 (by decide), k1 7 (by decide), k1 8 (by decide)]
  have hJ : rnJ S S1 (wnt n0) 0 0 := ⟨fun q hq => k1 q (by omega), by
    unfold wfT
    rw [k1 10 (by decide), k1 11 (by decide), k1 12 (by decide), k1 13 (by decide)]
    exact hT, ⟨p7, hi, by rw [u3]; exact e7⟩, by rw [ha]; simp only [Nat.sub_zero, Nat.zero_add], by rw [u1 29 (by decide) (by decide) (by decide)]; rfl, Nat.zero_le _⟩
  refine lv_iconst (v := nI 0) E.1 E.2.1 dX0_run_34 (by decide) ?_
  refine xl_istore (lv' := [(0, _), (1, _), (2, _), (3, _), (4, _)]) E dX0_run_35 hl (by decide) [1, 2, 3, 4, 0] rfl (fun ls hl => ?_)
  refine lpX_run (S := S) (n0 := n0) (w0 := wnt n0) E hml hA ⟨Nat.le_of_ble_eq_true rfl, Nat.le_of_ble_eq_true rfl⟩ ⟨Nat.zero_le _, Nat.zero_le _⟩ hw (wnt_le n0) (fun S2 d H locs ls g1 g2 g3 g4 g5 hW hl => ?_) 500 0 0 0 S1 _ _ _ (by decide) hJ ⟨fun _ => Nat.zero_le _, fun _ _ => Nat.zero_le _, Nat.zero_le _⟩ hW hl
  obtain ⟨fp, hi2⟩ := g3
  refine lv_aload_n E.1 E.2.1 dX0_run_124 rfl (lv_at hl 0 rfl) ?_
  refine gX_29 E hW g5 dX0_run_125 ?_
  exact ci_ret E hr hlocks hW (⟨by rw [g4], by rw [g4], g1, g2, hi2.pc25, hi2.1⟩) dX0_run_128
end
section
set_option maxRecDepth 100000
section KITN
variable {p : Program} {l : Launch} {e : Env} {R : Room} {s : State} {m : MethodId} {args : Array Value} {below : List Frame} {meth : Method} {c : Code} {H : Heap} {locs : List Loc} {cells slots : Nat} {Q : State → Prop}
variable {cc : ByteArray} {pc : Nat} {ls : Array Slot} {rest : List Value} {D : va_G} {cs : ClassId × ClassId × ClassId} {a : Nat → Nat} {S : St} {A : Nat → Prop} {H0 : Heap}
variable {y : MethodName} {mL sz : Nat} {rm : Room} {ad : List Nat} {As : List Value}
theorem cn_start {ret : Option FieldType} {Qc : Array Value → State → Outcome → State → Prop} {C : String} {w0 : va_W} {mc ms : Nat} (hy : plainName y.cls = true) (hyc : y.cls = C) (had : w0.map Prod.fst = ad) (hlen : (lg_sl As).length ≤ mL)
    (body : ∀ (p : Program) (e : Env) (s : State) (m : MethodId) (below : List Frame) (meth : Method) (c : Code) (ls : Array Slot), XE C p s m As.toArray c cc D cs → c.maxLocals = mL → meth.sig.returnType = ret → meth.locks = false → meth.name = y.name → s.heap.size = sz → PW D w0 (wA ad sz) s.heap s.heap [] → lv_has ls mL (lv_args 0 As) → W p l e rm s m As.toArray below meth c s.heap [] 0 0 (MQ below Qc As.toArray s mc ms (wA ad sz)) (F0 m 0 ls [])) :
    Met l y (ws_ y cc mL ret) rm (wPc D cs w0 sz As) Qc mc ms (wA ad sz) := by
  refine Met.ofW (cc := cc) (maxL := mL) (ret := ret) hy rfl ?_
  intro p e s m args below meth c s₁ B hml hv
  obtain ⟨rfl, hsz, hP, hK, hD0⟩ := hv
  have hts := atoms_spec (ws := ws_ y cc mL ret) B.pre
  have hts : ∀ w ∈ lw_all, w.before _ s = true := fun w h => hts w (List.mem_cons_of_mem _ h)
  have hown : s.vm.findClass C = some m.cls := hyc ▸ findClass_of_methodNamed B.named
  have hD := hD0.self (sz := sz)
  rw [wA_eq had] at hD
  have hl := lv_entry As (n := mL) hlen
  rw [lg_entry_eq]
  exact body p e s m below meth c _ ⟨B.exec, B.bytes, hown, hts, hK⟩ hml B.returns B.notSynchronized (name_of_methodNamed B.named B.method).1 hsz ⟨hP, hD, va_S.rf⟩ hl
/-- a new array of zeros, of a kind that the tables have -/
theorem x_newa {C : String} (E : XE C p s m args c cc D cs) {atype : ArrayType} {ty : FieldType} (t0 : Nat) {cA0 : ClassId} (ht : (kT cs)[t0]? = some (cA0, ty)) (hty : newarray.typeOf atype = ty) (harr : (Cond.arrayClass (newarray.typeOf atype)).before args s = true) (hra : ∀ cA, va_RA s cA ty → s.vm.findClass ("[" ++ ty.toString) = some cA)
    {w : va_W} (hW : PW D w A H0 H locs) (hA : ∀ q, H0.size ≤ q → A q) {n : Int32} {N : Nat} (ha : ∀ cA : ClassId, vp_cell cA (N, .inl (fun _ => 0)) = arrV cA N (fun _ => defaultValue ty)) (hn : ¬ n < 0) (hN : n.toNatClampNeg = N) (hbytes : N * componentBytes ty ≤ 536870912) (hcells : cells + 1 ≤ R.cells) (hslots : slots + N ≤ R.slots) (hdg : decode cc pc = .ok (.newarray atype, 2))
    (kk : ∀ (q : Nat) (H : Heap), PW D (w ++ [(q, .inl (cA0, N, .inl (fun _ => 0)))]) A H0 H locs → W p l e R s m args below meth c H locs (cells + 1) (slots + N) Q (F0 m (pc + 2) ls (.ref q :: rest))) : W p l e R s m args below meth c H locs cells slots Q (F0 m pc ls (.int n :: rest)) := by
  refine va_newa (a0 := (N, .inl (fun _ => 0))) (ty := ty) E.1 E.2.1 harr hty E.2.2.2.2 hW.1 hW.2.1 hW.2.2 hA ha hn hN hbytes hcells hslots hdg (fun q cA H1 hK1 hP1 hD1 hS1 => ?_)
  have h1 := hra _ (E.2.2.2.2.2 t0 _ ht).2
  have h2 := hra _ (hK1.2 3 (cA, ty) rfl).2
  obtain rfl : cA0 = cA := Option.some.inj (h1.symm.trans h2)
  exact kk q H1 ⟨hP1, hD1, hS1⟩
end KITN
def xF0 : List Value := [.int 0, .null, .null, .null, .null, .null, .null, .int 0, .int 0, .null, .null, .null, .null, .int 0, .int 0, .int 0, .null, .null, .null, .null, .null, .null, .null, .null, .null, .null, .null, .null, .int 0, .int 0]
def xB (D : va_G) (cs : ClassId × ClassId × ClassId) (A : Nat → Prop) (u : (Nat → Nat) × St) (t : State) : Prop := va_P D vwCl (xW cs u.1 u.2) t.heap ∧ va_K D vwCl (kT cs) t ∧ va_D A (xW cs u.1 u.2)
set_option maxHeartbeats 8000000 in
set_option maxRecDepth 100000 in
theorem tX_init (l : Launch) (D : va_G) (cs : ClassId × ClassId × ClassId) (b sz : Nat) : Met l yX0_init (ws_ yX0_init cX0_init 1 none) ({ frames := 1, cells := 22, slots := 275, locals := 21 }) (wPc D cs [(b, .inr (0, xF0))] sz [.ref b]) (va_Qv (fun u : (Nat → Nat) × St => u.1 0 = b ∧ (∃ S1, fgt (fun _ _ => 0) S1 ∧ sqd S1 u.2)) (xB D cs (wA [b] sz)) (wA [b] sz)) 22 275 (wA [b] sz) := by
  refine cn_start (w0 := [(b, .inr (0, xF0))]) (ad := [b]) (C := RX0) (by decide) rfl rfl (Nat.le_of_ble_eq_true rfl) ?_
  intro p e s m below meth c ls E hml hr hlocks hin hsz hW hl
  have hA : ∀ q, s.heap.size ≤ q → wA [b] sz q := fun q h => Or.inr (hsz ▸ h)
  have hl : lv_has ls 1 [(0, .ref b)] := hl
  refine lv_aload_n E.1 E.2.1 dX0_init_0 rfl (lv_at hl 0 rfl) ?_
  refine W.objInit E.1 E.2.1 E.2.2.1 (E.2.2.2.1 _ q31) (E.2.2.2.1 _ q32) (E.2.2.2.1 _ q33) rfl (by rw [hml]; exact hl.1) rfl dX0_init_1 (Nat.le_of_ble_eq_true rfl) (Nat.le_of_ble_eq_true rfl) ?_
  refine W.eq (g2 := F0 m 4 ls []) rfl ?_
  refine lv_aload_n E.1 E.2.1 dX0_init_4 rfl (lv_at hl 0 rfl) ?_
  refine lv_bipush (v := 24) E.1 E.2.1 dX0_init_5 (by decide) ?_
  refine x_newa (atype := .byte) (ty := .byte) (N := 24) E 0 rfl rfl (E.2.2.2.1 _ q133) (fun _ h => h) hW hA (fun _ => rfl) (by decide) (by decide) (by decide) (Nat.le_of_ble_eq_true rfl) (Nat.le_of_ble_eq_true rfl) dX0_init_7 (fun z1 H hW => ?_)
  refine va_putF (D := D) (ci := 0) (v := .ref z1) (ty := .array .byte) (C := RX0) (T := TX0) (N := 30) E.1 E.2.1 E.2.2.2.1 in_X0 tyX0 tyX0_ok nmX0 E.2.2.1 E.2.2.2.2 hW.1 hW.2.1 hW.2.2 0 rfl rfl 1 (by decide) (E.2.2.2.1 _ q43) (fun _ h9 => h9) rfl hin rfl (by decide +kernel) rfl rfl (Nat.le_of_ble_eq_true rfl) dX0_init_9 (fun H locs hP hD hS => ?_)
  have hW : PW D [(b, .inr (0, [.int 0, .ref z1, .null, .null, .null, .null, .null, .int 0, .int 0, .null, .null, .null, .null, .int 0, .int 0, .int 0, .null, .null, .null, .null, .null, .null, .null, .null, .null, .null, .null, .null, .int 0, .int 0])), (z1, .inl (cs.1, 24, .inl (fun _ => 0)))] (wA [b] sz) s.heap H locs := ⟨hP, hD, hS⟩
  refine lv_aload_n E.1 E.2.1 dX0_init_12 rfl (lv_at hl 0 rfl) ?_
  refine lv_bipush (v := 24) E.1 E.2.1 dX0_init_13 (by decide) ?_
  refine x_newa (atype := .byte) (ty := .byte) (N := 24) E 0 rfl rfl (E.2.2.2.1 _ q133) (fun _ h => h) hW hA (fun _ => rfl) (by decide) (by decide) (by decide) (Nat.le_of_ble_eq_true rfl) (Nat.le_of_ble_eq_true rfl) dX0_init_15 (fun z2 H hW => ?_)
  refine va_putF (D := D) (ci := 0) (v := .ref z2) (ty := .array .byte) (C := RX0) (T := TX0) (N := 30) E.1 E.2.1 E.2.2.2.1 in_X0 tyX0 tyX0_ok nmX0 E.2.2.1 E.2.2.2.2 hW.1 hW.2.1 hW.2.2 0 rfl rfl 2 (by decide) (E.2.2.2.1 _ q44) (fun _ h9 => h9) rfl hin rfl (by decide +kernel) rfl rfl (Nat.le_of_ble_eq_true rfl) dX0_init_17 (fun H locs hP hD hS => ?_)
  have hW : PW D [(b, .inr (0, [.int 0, .ref z1, .ref z2, .null, .null, .null, .null, .int 0, .int 0, .null, .null, .null, .null, .int 0, .int 0, .int 0, .null, .null, .null, .null, .null, .null, .null, .null, .null, .null, .null, .null, .int 0, .int 0])), (z1, .inl (cs.1, 24, .inl (fun _ => 0))), (z2, .inl (cs.1, 24, .inl (fun _ => 0)))] (wA [b] sz) s.heap H locs := ⟨hP, hD, hS⟩
  refine lv_aload_n E.1 E.2.1 dX0_init_20 rfl (lv_at hl 0 rfl) ?_
  refine lv_bipush (v := 24) E.1 E.2.1 dX0_init_21 (by decide) ?_
  refine x_newa (atype := .byte) (ty := .byte) (N := 24) E 0 rfl rfl (E.2.2.2.1 _ q133) (fun _ h => h) hW hA (fun _ => rfl) (by decide) (by decide) (by decide) (Nat.le_of_ble_eq_true rfl) (Nat.le_of_ble_eq_true rfl) dX0_init_23 (fun z3 H hW => ?_)
  refine va_putF (D := D) (ci := 0) (v := .ref z3) (ty := .array .byte) (C := RX0) (T := TX0) (N := 30) E.1 E.2.1 E.2.2.2.1 in_X0 tyX0 tyX0_ok nmX0 E.2.2.1 E.2.2.2.2 hW.1 hW.2.1 hW.2.2 0 rfl rfl 3 (by decide) (E.2.2.2.1 _ q45) (fun _ h9 => h9) rfl hin rfl (by decide +kernel) rfl rfl (Nat.le_of_ble_eq_true rfl) dX0_init_25 (fun H locs hP hD hS => ?_)
  have hW : PW D [(b, .inr (0, [.int 0, .ref z1, .ref z2, .ref z3, .null, .null, .null, .int 0, .int 0, .null, .null, .null, .null, .int 0, .int 0, .int 0, .null, .null, .null, .null, .null, .null, .null, .null, .null, .null, .null, .null, .int 0, .int 0])), (z1, .inl (cs.1, 24, .inl (fun _ => 0))), (z2, .inl (cs.1, 24, .inl (fun _ => 0))), (z3, .inl (cs.1, 24, .inl (fun _ => 0)))] (wA [b] sz) s.heap H locs := ⟨hP, hD, hS⟩
  refine lv_aload_n E.1 E.2.1 dX0_init_28 rfl (lv_at hl 0 rfl) ?_
  refine lv_bipush (v := 24) E.1 E.2.1 dX0_init_29 (by decide) ?_
  refine x_newa (atype := .int) (ty := .int) (N := 24) E 1 rfl rfl (E.2.2.2.1 _ q134) (fun _ h => h) hW hA (fun _ => rfl) (by decide) (by decide) (by decide) (Nat.le_of_ble_eq_true rfl) (Nat.le_of_ble_eq_true rfl) dX0_init_31 (fun z4 H hW => ?_)
  refine va_putF (D := D) (ci := 0) (v := .ref z4) (ty := .array .int) (C := RX0) (T := TX0) (N := 30) E.1 E.2.1 E.2.2.2.1 in_X0 tyX0 tyX0_ok nmX0 E.2.2.1 E.2.2.2.2 hW.1 hW.2.1 hW.2.2 0 rfl rfl 4 (by decide) (E.2.2.2.1 _ q46) (fun _ h9 => h9) rfl hin rfl (by decide +kernel) rfl rfl (Nat.le_of_ble_eq_true rfl) dX0_init_33 (fun H locs hP hD hS => ?_)
  have hW : PW D [(b, .inr (0, [.int 0, .ref z1, .ref z2, .ref z3, .ref z4, .null, .null, .int 0, .int 0, .null, .null, .null, .null, .int 0, .int 0, .int 0, .null, .null, .null, .null, .null, .null, .null, .null, .null, .null, .null, .null, .int 0, .int 0])), (z1, .inl (cs.1, 24, .inl (fun _ => 0))), (z2, .inl (cs.1, 24, .inl (fun _ => 0))), (z3, .inl (cs.1, 24, .inl (fun _ => 0))), (z4, .inl (cs.2.1, 24, .inl (fun _ => 0)))] (wA [b] sz) s.heap H locs := ⟨hP, hD, hS⟩
  refine lv_aload_n E.1 E.2.1 dX0_init_36 rfl (lv_at hl 0 rfl) ?_
  refine lv_bipush (v := 8) E.1 E.2.1 dX0_init_37 (by decide) ?_
  refine x_newa (atype := .int) (ty := .int) (N := 8) E 1 rfl rfl (E.2.2.2.1 _ q134) (fun _ h => h) hW hA (fun _ => rfl) (by decide) (by decide) (by decide) (Nat.le_of_ble_eq_true rfl) (Nat.le_of_ble_eq_true rfl) dX0_init_39 (fun z5 H hW => ?_)
  refine va_putF (D := D) (ci := 0) (v := .ref z5) (ty := .array .int) (C := RX0) (T := TX0) (N := 30) E.1 E.2.1 E.2.2.2.1 in_X0 tyX0 tyX0_ok nmX0 E.2.2.1 E.2.2.2.2 hW.1 hW.2.1 hW.2.2 0 rfl rfl 5 (by decide) (E.2.2.2.1 _ q47) (fun _ h9 => h9) rfl hin rfl (by decide +kernel) rfl rfl (Nat.le_of_ble_eq_true rfl) dX0_init_41 (fun H locs hP hD hS => ?_)
  have hW : PW D [(b, .inr (0, [.int 0, .ref z1, .ref z2, .ref z3, .ref z4, .ref z5, .null, .int 0, .int 0, .null, .null, .null, .null, .int 0, .int 0, .int 0, .null, .null, .null, .null, .null, .null, .null, .null, .null, .null, .null, .null, .int 0, .int 0])), (z1, .inl (cs.1, 24, .inl (fun _ => 0))), (z2, .inl (cs.1, 24, .inl (fun _ => 0))), (z3, .inl (cs.1, 24, .inl (fun _ => 0))), (z4, .inl (cs.2.1, 24, .inl (fun _ => 0))), (z5, .inl (cs.2.1, 8, .inl (fun _ => 0)))] (wA [b] sz) s.heap H locs := ⟨hP, hD, hS⟩
  refine lv_aload_n E.1 E.2.1 dX0_init_44 rfl (lv_at hl 0 rfl) ?_
  refine lv_bipush (v := 16) E.1 E.2.1 dX0_init_45 (by decide) ?_
  refine x_newa (atype := .int) (ty := .int) (N := 16) E 1 rfl rfl (E.2.2.2.1 _ q134) (fun _ h => h) hW hA (fun _ => rfl) (by decide) (by decide) (by decide) (Nat.le_of_ble_eq_true rfl) (Nat.le_of_ble_eq_true rfl) dX0_init_47 (fun z6 H hW => ?_)
  refine va_putF (D := D) (ci := 0) (v := .ref z6) (ty := .array .int) (C := RX0) (T := TX0) (N := 30) E.1 E.2.1 E.2.2.2.1 in_X0 tyX0 tyX0_ok nmX0 E.2.2.1 E.2.2.2.2 hW.1 hW.2.1 hW.2.2 0 rfl rfl 6 (by decide) (E.2.2.2.1 _ q48) (fun _ h9 => h9) rfl hin rfl (by decide +kernel) rfl rfl (Nat.le_of_ble_eq_true rfl) dX0_init_49 (fun H locs hP hD hS => ?_)
  have hW : PW D [(b, .inr (0, [.int 0, .ref z1, .ref z2, .ref z3, .ref z4, .ref z5, .ref z6, .int 0, .int 0, .null, .null, .null, .null, .int 0, .int 0, .int 0, .null, .null, .null, .null, .null, .null, .null, .null, .null, .null, .null, .null, .int 0, .int 0])), (z1, .inl (cs.1, 24, .inl (fun _ => 0))), (z2, .inl (cs.1, 24, .inl (fun _ => 0))), (z3, .inl (cs.1, 24, .inl (fun _ => 0))), (z4, .inl (cs.2.1, 24, .inl (fun _ => 0))), (z5, .inl (cs.2.1, 8, .inl (fun _ => 0))), (z6, .inl (cs.2.1, 16, .inl (fun _ => 0)))] (wA [b] sz) s.heap H locs := ⟨hP, hD, hS⟩
  refine lv_aload_n E.1 E.2.1 dX0_init_52 rfl (lv_at hl 0 rfl) ?_
  refine lv_bipush (v := 24) E.1 E.2.1 dX0_init_53 (by decide) ?_
  refine x_newa (atype := .byte) (ty := .byte) (N := 24) E 0 rfl rfl (E.2.2.2.1 _ q133) (fun _ h => h) hW hA (fun _ => rfl) (by decide) (by decide) (by decide) (Nat.le_of_ble_eq_true rfl) (Nat.le_of_ble_eq_true rfl) dX0_init_55 (fun z9 H hW => ?_)
  refine va_putF (D := D) (ci := 0) (v := .ref z9) (ty := .array .byte) (C := RX0) (T := TX0) (N := 30) E.1 E.2.1 E.2.2.2.1 in_X0 tyX0 tyX0_ok nmX0 E.2.2.1 E.2.2.2.2 hW.1 hW.2.1 hW.2.2 0 rfl rfl 9 (by decide) (E.2.2.2.1 _ q51) (fun _ h9 => h9) rfl hin rfl (by decide +kernel) rfl rfl (Nat.le_of_ble_eq_true rfl) dX0_init_57 (fun H locs hP hD hS => ?_)
  have hW : PW D [(b, .inr (0, [.int 0, .ref z1, .ref z2, .ref z3, .ref z4, .ref z5, .ref z6, .int 0, .int 0, .ref z9, .null, .null, .null, .int 0, .int 0, .int 0, .null, .null, .null, .null, .null, .null, .null, .null, .null, .null, .null, .null, .int 0, .int 0])), (z1, .inl (cs.1, 24, .inl (fun _ => 0))), (z2, .inl (cs.1, 24, .inl (fun _ => 0))), (z3, .inl (cs.1, 24, .inl (fun _ => 0))), (z4, .inl (cs.2.1, 24, .inl (fun _ => 0))), (z5, .inl (cs.2.1, 8, .inl (fun _ => 0))), (z6, .inl (cs.2.1, 16, .inl (fun _ => 0))), (z9, .inl (cs.1, 24, .inl (fun _ => 0)))] (wA [b] sz) s.heap H locs := ⟨hP, hD, hS⟩
  refine lv_aload_n E.1 E.2.1 dX0_init_60 rfl (lv_at hl 0 rfl) ?_
  refine lv_bipush (v := 8) E.1 E.2.1 dX0_init_61 (by decide) ?_
  refine x_newa (atype := .byte) (ty := .byte) (N := 8) E 0 rfl rfl (E.2.2.2.1 _ q133) (fun _ h => h) hW hA (fun _ => rfl) (by decide) (by decide) (by decide) (Nat.le_of_ble_eq_true rfl) (Nat.le_of_ble_eq_true rfl) dX0_init_63 (fun z10 H hW => ?_)
  refine va_putF (D := D) (ci := 0) (v := .ref z10) (ty := .array .byte) (C := RX0) (T := TX0) (N := 30) E.1 E.2.1 E.2.2.2.1 in_X0 tyX0 tyX0_ok nmX0 E.2.2.1 E.2.2.2.2 hW.1 hW.2.1 hW.2.2 0 rfl rfl 10 (by decide) (E.2.2.2.1 _ q52) (fun _ h9 => h9) rfl hin rfl (by decide +kernel) rfl rfl (Nat.le_of_ble_eq_true rfl) dX0_init_65 (fun H locs hP hD hS => ?_)
  have hW : PW D [(b, .inr (0, [.int 0, .ref z1, .ref z2, .ref z3, .ref z4, .ref z5, .ref z6, .int 0, .int 0, .ref z9, .ref z10, .null, .null, .int 0, .int 0, .int 0, .null, .null, .null, .null, .null, .null, .null, .null, .null, .null, .null, .null, .int 0, .int 0])), (z1, .inl (cs.1, 24, .inl (fun _ => 0))), (z2, .inl (cs.1, 24, .inl (fun _ => 0))), (z3, .inl (cs.1, 24, .inl (fun _ => 0))), (z4, .inl (cs.2.1, 24, .inl (fun _ => 0))), (z5, .inl (cs.2.1, 8, .inl (fun _ => 0))), (z6, .inl (cs.2.1, 16, .inl (fun _ => 0))), (z9, .inl (cs.1, 24, .inl (fun _ => 0))), (z10, .inl (cs.1, 8, .inl (fun _ => 0)))] (wA [b] sz) s.heap H locs := ⟨hP, hD, hS⟩
  refine lv_aload_n E.1 E.2.1 dX0_init_68 rfl (lv_at hl 0 rfl) ?_
  refine lv_bipush (v := 24) E.1 E.2.1 dX0_init_69 (by decide) ?_
  refine x_newa (atype := .byte) (ty := .byte) (N := 24) E 0 rfl rfl (E.2.2.2.1 _ q133) (fun _ h => h) hW hA (fun _ => rfl) (by decide) (by decide) (by decide) (Nat.le_of_ble_eq_true rfl) (Nat.le_of_ble_eq_true rfl) dX0_init_71 (fun z11 H hW => ?_)
  refine va_putF (D := D) (ci := 0) (v := .ref z11) (ty := .array .byte) (C := RX0) (T := TX0) (N := 30) E.1 E.2.1 E.2.2.2.1 in_X0 tyX0 tyX0_ok nmX0 E.2.2.1 E.2.2.2.2 hW.1 hW.2.1 hW.2.2 0 rfl rfl 11 (by decide) (E.2.2.2.1 _ q53) (fun _ h9 => h9) rfl hin rfl (by decide +kernel) rfl rfl (Nat.le_of_ble_eq_true rfl) dX0_init_73 (fun H locs hP hD hS => ?_)
  have hW : PW D [(b, .inr (0, [.int 0, .ref z1, .ref z2, .ref z3, .ref z4, .ref z5, .ref z6, .int 0, .int 0, .ref z9, .ref z10, .ref z11, .null, .int 0, .int 0, .int 0, .null, .null, .null, .null, .null, .null, .null, .null, .null, .null, .null, .null, .int 0, .int 0])), (z1, .inl (cs.1, 24, .inl (fun _ => 0))), (z2, .inl (cs.1, 24, .inl (fun _ => 0))), (z3, .inl (cs.1, 24, .inl (fun _ => 0))), (z4, .inl (cs.2.1, 24, .inl (fun _ => 0))), (z5, .inl (cs.2.1, 8, .inl (fun _ => 0))), (z6, .inl (cs.2.1, 16, .inl (fun _ => 0))), (z9, .inl (cs.1, 24, .inl (fun _ => 0))), (z10, .inl (cs.1, 8, .inl (fun _ => 0))), (z11, .inl (cs.1, 24, .inl (fun _ => 0)))] (wA [b] sz) s.heap H locs := ⟨hP, hD, hS⟩
  refine lv_aload_n E.1 E.2.1 dX0_init_76 rfl (lv_at hl 0 rfl) ?_
  refine lv_iconst (v := 3) E.1 E.2.1 dX0_init_77 (by decide) ?_
  refine x_newa (atype := .byte) (ty := .byte) (N := 3) E 0 rfl rfl (E.2.2.2.1 _ q133) (fun _ h => h) hW hA (fun _ => rfl) (by decide) (by decide) (by decide) (Nat.le_of_ble_eq_true rfl) (Nat.le_of_ble_eq_true rfl) dX0_init_78 (fun z12 H hW => ?_)
  refine va_putF (D := D) (ci := 0) (v := .ref z12) (ty := .array .byte) (C := RX0) (T := TX0) (N := 30) E.1 E.2.1 E.2.2.2.1 in_X0 tyX0 tyX0_ok nmX0 E.2.2.1 E.2.2.2.2 hW.1 hW.2.1 hW.2.2 0 rfl rfl 12 (by decide) (E.2.2.2.1 _ q54) (fun _ h9 => h9) rfl hin rfl (by decide +kernel) rfl rfl (Nat.le_of_ble_eq_true rfl) dX0_init_80 (fun H locs hP hD hS => ?_)
  have hW : PW D [(b, .inr (0, [.int 0, .ref z1, .ref z2, .ref z3, .ref z4, .ref z5, .ref z6, .int 0, .int 0, .ref z9, .ref z10, .ref z11, .ref z12, .int 0, .int 0, .int 0, .null, .null, .null, .null, .null, .null, .null, .null, .null, .null, .null, .null, .int 0, .int 0])), (z1, .inl (cs.1, 24, .inl (fun _ => 0))), (z2, .inl (cs.1, 24, .inl (fun _ => 0))), (z3, .inl (cs.1, 24, .inl (fun _ => 0))), (z4, .inl (cs.2.1, 24, .inl (fun _ => 0))), (z5, .inl (cs.2.1, 8, .inl (fun _ => 0))), (z6, .inl (cs.2.1, 16, .inl (fun _ => 0))), (z9, .inl (cs.1, 24, .inl (fun _ => 0))), (z10, .inl (cs.1, 8, .inl (fun _ => 0))), (z11, .inl (cs.1, 24, .inl (fun _ => 0))), (z12, .inl (cs.1, 3, .inl (fun _ => 0)))] (wA [b] sz) s.heap H locs := ⟨hP, hD, hS⟩
  refine lv_aload_n E.1 E.2.1 dX0_init_83 rfl (lv_at hl 0 rfl) ?_
  refine lv_bipush (v := 8) E.1 E.2.1 dX0_init_84 (by decide) ?_
  refine x_newa (atype := .byte) (ty := .byte) (N := 8) E 0 rfl rfl (E.2.2.2.1 _ q133) (fun _ h => h) hW hA (fun _ => rfl) (by decide) (by decide) (by decide) (Nat.le_of_ble_eq_true rfl) (Nat.le_of_ble_eq_true rfl) dX0_init_86 (fun z16 H hW => ?_)
  refine va_putF (D := D) (ci := 0) (v := .ref z16) (ty := .array .byte) (C := RX0) (T := TX0) (N := 30) E.1 E.2.1 E.2.2.2.1 in_X0 tyX0 tyX0_ok nmX0 E.2.2.1 E.2.2.2.2 hW.1 hW.2.1 hW.2.2 0 rfl rfl 16 (by decide) (E.2.2.2.1 _ q58) (fun _ h9 => h9) rfl hin rfl (by decide +kernel) rfl rfl (Nat.le_of_ble_eq_true rfl) dX0_init_88 (fun H locs hP hD hS => ?_)
  have hW : PW D [(b, .inr (0, [.int 0, .ref z1, .ref z2, .ref z3, .ref z4, .ref z5, .ref z6, .int 0, .int 0, .ref z9, .ref z10, .ref z11, .ref z12, .int 0, .int 0, .int 0, .ref z16, .null, .null, .null, .null, .null, .null, .null, .null, .null, .null, .null, .int 0, .int 0])), (z1, .inl (cs.1, 24, .inl (fun _ => 0))), (z2, .inl (cs.1, 24, .inl (fun _ => 0))), (z3, .inl (cs.1, 24, .inl (fun _ => 0))), (z4, .inl (cs.2.1, 24, .inl (fun _ => 0))), (z5, .inl (cs.2.1, 8, .inl (fun _ => 0))), (z6, .inl (cs.2.1, 16, .inl (fun _ => 0))), (z9, .inl (cs.1, 24, .inl (fun _ => 0))), (z10, .inl (cs.1, 8, .inl (fun _ => 0))), (z11, .inl (cs.1, 24, .inl (fun _ => 0))), (z12, .inl (cs.1, 3, .inl (fun _ => 0))), (z16, .inl (cs.1, 8, .inl (fun _ => 0)))] (wA [b] sz) s.heap H locs := ⟨hP, hD, hS⟩
  refine lv_aload_n E.1 E.2.1 dX0_init_91 rfl (lv_at hl 0 rfl) ?_
  refine lv_bipush (v := 8) E.1 E.2.1 dX0_init_92 (by decide) ?_
  refine x_newa (atype := .byte) (ty := .byte) (N := 8) E 0 rfl rfl (E.2.2.2.1 _ q133) (fun _ h => h) hW hA (fun _ => rfl) (by decide) (by decide) (by decide) (Nat.le_of_ble_eq_true rfl) (Nat.le_of_ble_eq_true rfl) dX0_init_94 (fun z17 H hW => ?_)
  refine va_putF (D := D) (ci := 0) (v := .ref z17) (ty := .array .byte) (C := RX0) (T := TX0) (N := 30) E.1 E.2.1 E.2.2.2.1 in_X0 tyX0 tyX0_ok nmX0 E.2.2.1 E.2.2.2.2 hW.1 hW.2.1 hW.2.2 0 rfl rfl 17 (by decide) (E.2.2.2.1 _ q59) (fun _ h9 => h9) rfl hin rfl (by decide +kernel) rfl rfl (Nat.le_of_ble_eq_true rfl) dX0_init_96 (fun H locs hP hD hS => ?_)
  have hW : PW D [(b, .inr (0, [.int 0, .ref z1, .ref z2, .ref z3, .ref z4, .ref z5, .ref z6, .int 0, .int 0, .ref z9, .ref z10, .ref z11, .ref z12, .int 0, .int 0, .int 0, .ref z16, .ref z17, .null, .null, .null, .null, .null, .null, .null, .null, .null, .null, .int 0, .int 0])), (z1, .inl (cs.1, 24, .inl (fun _ => 0))), (z2, .inl (cs.1, 24, .inl (fun _ => 0))), (z3, .inl (cs.1, 24, .inl (fun _ => 0))), (z4, .inl (cs.2.1, 24, .inl (fun _ => 0))), (z5, .inl (cs.2.1, 8, .inl (fun _ => 0))), (z6, .inl (cs.2.1, 16, .inl (fun _ => 0))), (z9, .inl (cs.1, 24, .inl (fun _ => 0))), (z10, .inl (cs.1, 8, .inl (fun _ => 0))), (z11, .inl (cs.1, 24, .inl (fun _ => 0))), (z12, .inl (cs.1, 3, .inl (fun _ => 0))), (z16, .inl (cs.1, 8, .inl (fun _ => 0))), (z17, .inl (cs.1, 8, .inl (fun _ => 0)))] (wA [b] sz) s.heap H locs := ⟨hP, hD, hS⟩
  refine lv_aload_n E.1 E.2.1 dX0_init_99 rfl (lv_at hl 0 rfl) ?_
  refine lv_bipush (v := 8) E.1 E.2.1 dX0_init_100 (by decide) ?_
  refine x_newa (atype := .byte) (ty := .byte) (N := 8) E 0 rfl rfl (E.2.2.2.1 _ q133) (fun _ h => h) hW hA (fun _ => rfl) (by decide) (by decide) (by decide) (Nat.le_of_ble_eq_true rfl) (Nat.le_of_ble_eq_true rfl) dX0_init_102 (fun z18 H hW => ?_)
  refine va_putF (D := D) (ci := 0) (v := .ref z18) (ty := .array .byte) (C := RX0) (T := TX0) (N := 30) E.1 E.2.1 E.2.2.2.1 in_X0 tyX0 tyX0_ok nmX0 E.2.2.1 E.2.2.2.2 hW.1 hW.2.1 hW.2.2 0 rfl rfl 18 (by decide) (E.2.2.2.1 _ q60) (fun _ h9 => h9) rfl hin rfl (by decide +kernel) rfl rfl (Nat.le_of_ble_eq_true rfl) dX0_init_104 (fun H locs hP hD hS => ?_)
  have hW : PW D [(b, .inr (0, [.int 0, .ref z1, .ref z2, .ref z3, .ref z4, .ref z5, .ref z6, .int 0, .int 0, .ref z9, .ref z10, .ref z11, .ref z12, .int 0, .int 0, .int 0, .ref z16, .ref z17, .ref z18, .null, .null, .null, .null, .null, .null, .null, .null, .null, .int 0, .int 0])), (z1, .inl (cs.1, 24, .inl (fun _ => 0))), (z2, .inl (cs.1, 24, .inl (fun _ => 0))), (z3, .inl (cs.1, 24, .inl (fun _ => 0))), (z4, .inl (cs.2.1, 24, .inl (fun _ => 0))), (z5, .inl (cs.2.1, 8, .inl (fun _ => 0))), (z6, .inl (cs.2.1, 16, .inl (fun _ => 0))), (z9, .inl (cs.1, 24, .inl (fun _ => 0))), (z10, .inl (cs.1, 8, .inl (fun _ => 0))), (z11, .inl (cs.1, 24, .inl (fun _ => 0))), (z12, .inl (cs.1, 3, .inl (fun _ => 0))), (z16, .inl (cs.1, 8, .inl (fun _ => 0))), (z17, .inl (cs.1, 8, .inl (fun _ => 0))), (z18, .inl (cs.1, 8, .inl (fun _ => 0)))] (wA [b] sz) s.heap H locs := ⟨hP, hD, hS⟩
  refine lv_aload_n E.1 E.2.1 dX0_init_107 rfl (lv_at hl 0 rfl) ?_
  refine lv_bipush (v := 8) E.1 E.2.1 dX0_init_108 (by decide) ?_
  refine x_newa (atype := .byte) (ty := .byte) (N := 8) E 0 rfl rfl (E.2.2.2.1 _ q133) (fun _ h => h) hW hA (fun _ => rfl) (by decide) (by decide) (by decide) (Nat.le_of_ble_eq_true rfl) (Nat.le_of_ble_eq_true rfl) dX0_init_110 (fun z19 H hW => ?_)
  refine va_putF (D := D) (ci := 0) (v := .ref z19) (ty := .array .byte) (C := RX0) (T := TX0) (N := 30) E.1 E.2.1 E.2.2.2.1 in_X0 tyX0 tyX0_ok nmX0 E.2.2.1 E.2.2.2.2 hW.1 hW.2.1 hW.2.2 0 rfl rfl 19 (by decide) (E.2.2.2.1 _ q61) (fun _ h9 => h9) rfl hin rfl (by decide +kernel) rfl rfl (Nat.le_of_ble_eq_true rfl) dX0_init_112 (fun H locs hP hD hS => ?_)
  have hW : PW D [(b, .inr (0, [.int 0, .ref z1, .ref z2, .ref z3, .ref z4, .ref z5, .ref z6, .int 0, .int 0, .ref z9, .ref z10, .ref z11, .ref z12, .int 0, .int 0, .int 0, .ref z16, .ref z17, .ref z18, .ref z19, .null, .null, .null, .null, .null, .null, .null, .null, .int 0, .int 0])), (z1, .inl (cs.1, 24, .inl (fun _ => 0))), (z2, .inl (cs.1, 24, .inl (fun _ => 0))), (z3, .inl (cs.1, 24, .inl (fun _ => 0))), (z4, .inl (cs.2.1, 24, .inl (fun _ => 0))), (z5, .inl (cs.2.1, 8, .inl (fun _ => 0))), (z6, .inl (cs.2.1, 16, .inl (fun _ => 0))), (z9, .inl (cs.1, 24, .inl (fun _ => 0))), (z10, .inl (cs.1, 8, .inl (fun _ => 0))), (z11, .inl (cs.1, 24, .inl (fun _ => 0))), (z12, .inl (cs.1, 3, .inl (fun _ => 0))), (z16, .inl (cs.1, 8, .inl (fun _ => 0))), (z17, .inl (cs.1, 8, .inl (fun _ => 0))), (z18, .inl (cs.1, 8, .inl (fun _ => 0))), (z19, .inl (cs.1, 8, .inl (fun _ => 0)))] (wA [b] sz) s.heap H locs := ⟨hP, hD, hS⟩
  refine lv_aload_n E.1 E.2.1 dX0_init_115 rfl (lv_at hl 0 rfl) ?_
  refine lv_bipush (v := 8) E.1 E.2.1 dX0_init_116 (by decide) ?_
  refine x_newa (atype := .int) (ty := .int) (N := 8) E 1 rfl rfl (E.2.2.2.1 _ q134) (fun _ h => h) hW hA (fun _ => rfl) (by decide) (by decide) (by decide) (Nat.le_of_ble_eq_true rfl) (Nat.le_of_ble_eq_true rfl) dX0_init_118 (fun z20 H hW => ?_)
  refine va_putF (D := D) (ci := 0) (v := .ref z20) (ty := .array .int) (C := RX0) (T := TX0) (N := 30) E.1 E.2.1 E.2.2.2.1 in_X0 tyX0 tyX0_ok nmX0 E.2.2.1 E.2.2.2.2 hW.1 hW.2.1 hW.2.2 0 rfl rfl 20 (by decide) (E.2.2.2.1 _ q62) (fun _ h9 => h9) rfl hin rfl (by decide +kernel) rfl rfl (Nat.le_of_ble_eq_true rfl) dX0_init_120 (fun H locs hP hD hS => ?_)
  have hW : PW D [(b, .inr (0, [.int 0, .ref z1, .ref z2, .ref z3, .ref z4, .ref z5, .ref z6, .int 0, .int 0, .ref z9, .ref z10, .ref z11, .ref z12, .int 0, .int 0, .int 0, .ref z16, .ref z17, .ref z18, .ref z19, .ref z20, .null, .null, .null, .null, .null, .null, .null, .int 0, .int 0])), (z1, .inl (cs.1, 24, .inl (fun _ => 0))), (z2, .inl (cs.1, 24, .inl (fun _ => 0))), (z3, .inl (cs.1, 24, .inl (fun _ => 0))), (z4, .inl (cs.2.1, 24, .inl (fun _ => 0))), (z5, .inl (cs.2.1, 8, .inl (fun _ => 0))), (z6, .inl (cs.2.1, 16, .inl (fun _ => 0))), (z9, .inl (cs.1, 24, .inl (fun _ => 0))), (z10, .inl (cs.1, 8, .inl (fun _ => 0))), (z11, .inl (cs.1, 24, .inl (fun _ => 0))), (z12, .inl (cs.1, 3, .inl (fun _ => 0))), (z16, .inl (cs.1, 8, .inl (fun _ => 0))), (z17, .inl (cs.1, 8, .inl (fun _ => 0))), (z18, .inl (cs.1, 8, .inl (fun _ => 0))), (z19, .inl (cs.1, 8, .inl (fun _ => 0))), (z20, .inl (cs.2.1, 8, .inl (fun _ => 0)))] (wA [b] sz) s.heap H locs := ⟨hP, hD, hS⟩
  refine lv_aload_n E.1 E.2.1 dX0_init_123 rfl (lv_at hl 0 rfl) ?_
  refine lv_bipush (v := 8) E.1 E.2.1 dX0_init_124 (by decide) ?_
  refine x_newa (atype := .byte) (ty := .byte) (N := 8) E 0 rfl rfl (E.2.2.2.1 _ q133) (fun _ h => h) hW hA (fun _ => rfl) (by decide) (by decide) (by decide) (Nat.le_of_ble_eq_true rfl) (Nat.le_of_ble_eq_true rfl) dX0_init_126 (fun z21 H hW => ?_)
  refine va_putF (D := D) (ci := 0) (v := .ref z21) (ty := .array .byte) (C := RX0) (T := TX0) (N := 30) E.1 E.2.1 E.2.2.2.1 in_X0 tyX0 tyX0_ok nmX0 E.2.2.1 E.2.2.2.2 hW.1 hW.2.1 hW.2.2 0 rfl rfl 21 (by decide) (E.2.2.2.1 _ q63) (fun _ h9 => h9) rfl hin rfl (by decide +kernel) rfl rfl (Nat.le_of_ble_eq_true rfl) dX0_init_128 (fun H locs hP hD hS => ?_)
  have hW : PW D [(b, .inr (0, [.int 0, .ref z1, .ref z2, .ref z3, .ref z4, .ref z5, .ref z6, .int 0, .int 0, .ref z9, .ref z10, .ref z11, .ref z12, .int 0, .int 0, .int 0, .ref z16, .ref z17, .ref z18, .ref z19, .ref z20, .ref z21, .null, .null, .null, .null, .null, .null, .int 0, .int 0])), (z1, .inl (cs.1, 24, .inl (fun _ => 0))), (z2, .inl (cs.1, 24, .inl (fun _ => 0))), (z3, .inl (cs.1, 24, .inl (fun _ => 0))), (z4, .inl (cs.2.1, 24, .inl (fun _ => 0))), (z5, .inl (cs.2.1, 8, .inl (fun _ => 0))), (z6, .inl (cs.2.1, 16, .inl (fun _ => 0))), (z9, .inl (cs.1, 24, .inl (fun _ => 0))), (z10, .inl (cs.1, 8, .inl (fun _ => 0))), (z11, .inl (cs.1, 24, .inl (fun _ => 0))), (z12, .inl (cs.1, 3, .inl (fun _ => 0))), (z16, .inl (cs.1, 8, .inl (fun _ => 0))), (z17, .inl (cs.1, 8, .inl (fun _ => 0))), (z18, .inl (cs.1, 8, .inl (fun _ => 0))), (z19, .inl (cs.1, 8, .inl (fun _ => 0))), (z20, .inl (cs.2.1, 8, .inl (fun _ => 0))), (z21, .inl (cs.1, 8, .inl (fun _ => 0)))] (wA [b] sz) s.heap H locs := ⟨hP, hD, hS⟩
  refine lv_aload_n E.1 E.2.1 dX0_init_131 rfl (lv_at hl 0 rfl) ?_
  refine lv_bipush (v := 8) E.1 E.2.1 dX0_init_132 (by decide) ?_
  refine x_newa (atype := .int) (ty := .int) (N := 8) E 1 rfl rfl (E.2.2.2.1 _ q134) (fun _ h => h) hW hA (fun _ => rfl) (by decide) (by decide) (by decide) (Nat.le_of_ble_eq_true rfl) (Nat.le_of_ble_eq_true rfl) dX0_init_134 (fun z22 H hW => ?_)
  refine va_putF (D := D) (ci := 0) (v := .ref z22) (ty := .array .int) (C := RX0) (T := TX0) (N := 30) E.1 E.2.1 E.2.2.2.1 in_X0 tyX0 tyX0_ok nmX0 E.2.2.1 E.2.2.2.2 hW.1 hW.2.1 hW.2.2 0 rfl rfl 22 (by decide) (E.2.2.2.1 _ q64) (fun _ h9 => h9) rfl hin rfl (by decide +kernel) rfl rfl (Nat.le_of_ble_eq_true rfl) dX0_init_136 (fun H locs hP hD hS => ?_)
  have hW : PW D [(b, .inr (0, [.int 0, .ref z1, .ref z2, .ref z3, .ref z4, .ref z5, .ref z6, .int 0, .int 0, .ref z9, .ref z10, .ref z11, .ref z12, .int 0, .int 0, .int 0, .ref z16, .ref z17, .ref z18, .ref z19, .ref z20, .ref z21, .ref z22, .null, .null, .null, .null, .null, .int 0, .int 0])), (z1, .inl (cs.1, 24, .inl (fun _ => 0))), (z2, .inl (cs.1, 24, .inl (fun _ => 0))), (z3, .inl (cs.1, 24, .inl (fun _ => 0))), (z4, .inl (cs.2.1, 24, .inl (fun _ => 0))), (z5, .inl (cs.2.1, 8, .inl (fun _ => 0))), (z6, .inl (cs.2.1, 16, .inl (fun _ => 0))), (z9, .inl (cs.1, 24, .inl (fun _ => 0))), (z10, .inl (cs.1, 8, .inl (fun _ => 0))), (z11, .inl (cs.1, 24, .inl (fun _ => 0))), (z12, .inl (cs.1, 3, .inl (fun _ => 0))), (z16, .inl (cs.1, 8, .inl (fun _ => 0))), (z17, .inl (cs.1, 8, .inl (fun _ => 0))), (z18, .inl (cs.1, 8, .inl (fun _ => 0))), (z19, .inl (cs.1, 8, .inl (fun _ => 0))), (z20, .inl (cs.2.1, 8, .inl (fun _ => 0))), (z21, .inl (cs.1, 8, .inl (fun _ => 0))), (z22, .inl (cs.2.1, 8, .inl (fun _ => 0)))] (wA [b] sz) s.heap H locs := ⟨hP, hD, hS⟩
  refine lv_aload_n E.1 E.2.1 dX0_init_139 rfl (lv_at hl 0 rfl) ?_
  refine lv_bipush (v := 8) E.1 E.2.1 dX0_init_140 (by decide) ?_
  refine x_newa (atype := .boolean) (ty := .boolean) (N := 8) E 2 rfl rfl (E.2.2.2.1 _ q135) (fun _ h => h) hW hA (fun _ => rfl) (by decide) (by decide) (by decide) (Nat.le_of_ble_eq_true rfl) (Nat.le_of_ble_eq_true rfl) dX0_init_142 (fun z23 H hW => ?_)
  refine va_putF (D := D) (ci := 0) (v := .ref z23) (ty := .array .boolean) (C := RX0) (T := TX0) (N := 30) E.1 E.2.1 E.2.2.2.1 in_X0 tyX0 tyX0_ok nmX0 E.2.2.1 E.2.2.2.2 hW.1 hW.2.1 hW.2.2 0 rfl rfl 23 (by decide) (E.2.2.2.1 _ q65) (fun _ h9 => h9) rfl hin rfl (by decide +kernel) rfl rfl (Nat.le_of_ble_eq_true rfl) dX0_init_144 (fun H locs hP hD hS => ?_)
  have hW : PW D [(b, .inr (0, [.int 0, .ref z1, .ref z2, .ref z3, .ref z4, .ref z5, .ref z6, .int 0, .int 0, .ref z9, .ref z10, .ref z11, .ref z12, .int 0, .int 0, .int 0, .ref z16, .ref z17, .ref z18, .ref z19, .ref z20, .ref z21, .ref z22, .ref z23, .null, .null, .null, .null, .int 0, .int 0])), (z1, .inl (cs.1, 24, .inl (fun _ => 0))), (z2, .inl (cs.1, 24, .inl (fun _ => 0))), (z3, .inl (cs.1, 24, .inl (fun _ => 0))), (z4, .inl (cs.2.1, 24, .inl (fun _ => 0))), (z5, .inl (cs.2.1, 8, .inl (fun _ => 0))), (z6, .inl (cs.2.1, 16, .inl (fun _ => 0))), (z9, .inl (cs.1, 24, .inl (fun _ => 0))), (z10, .inl (cs.1, 8, .inl (fun _ => 0))), (z11, .inl (cs.1, 24, .inl (fun _ => 0))), (z12, .inl (cs.1, 3, .inl (fun _ => 0))), (z16, .inl (cs.1, 8, .inl (fun _ => 0))), (z17, .inl (cs.1, 8, .inl (fun _ => 0))), (z18, .inl (cs.1, 8, .inl (fun _ => 0))), (z19, .inl (cs.1, 8, .inl (fun _ => 0))), (z20, .inl (cs.2.1, 8, .inl (fun _ => 0))), (z21, .inl (cs.1, 8, .inl (fun _ => 0))), (z22, .inl (cs.2.1, 8, .inl (fun _ => 0))), (z23, .inl (cs.2.2, 8, .inl (fun _ => 0)))] (wA [b] sz) s.heap H locs := ⟨hP, hD, hS⟩
  refine lv_aload_n E.1 E.2.1 dX0_init_147 rfl (lv_at hl 0 rfl) ?_
  refine lv_bipush (v := 8) E.1 E.2.1 dX0_init_148 (by decide) ?_
  refine x_newa (atype := .byte) (ty := .byte) (N := 8) E 0 rfl rfl (E.2.2.2.1 _ q133) (fun _ h => h) hW hA (fun _ => rfl) (by decide) (by decide) (by decide) (Nat.le_of_ble_eq_true rfl) (Nat.le_of_ble_eq_true rfl) dX0_init_150 (fun z24 H hW => ?_)
  refine va_putF (D := D) (ci := 0) (v := .ref z24) (ty := .array .byte) (C := RX0) (T := TX0) (N := 30) E.1 E.2.1 E.2.2.2.1 in_X0 tyX0 tyX0_ok nmX0 E.2.2.1 E.2.2.2.2 hW.1 hW.2.1 hW.2.2 0 rfl rfl 24 (by decide) (E.2.2.2.1 _ q66) (fun _ h9 => h9) rfl hin rfl (by decide +kernel) rfl rfl (Nat.le_of_ble_eq_true rfl) dX0_init_152 (fun H locs hP hD hS => ?_)
  have hW : PW D [(b, .inr (0, [.int 0, .ref z1, .ref z2, .ref z3, .ref z4, .ref z5, .ref z6, .int 0, .int 0, .ref z9, .ref z10, .ref z11, .ref z12, .int 0, .int 0, .int 0, .ref z16, .ref z17, .ref z18, .ref z19, .ref z20, .ref z21, .ref z22, .ref z23, .ref z24, .null, .null, .null, .int 0, .int 0])), (z1, .inl (cs.1, 24, .inl (fun _ => 0))), (z2, .inl (cs.1, 24, .inl (fun _ => 0))), (z3, .inl (cs.1, 24, .inl (fun _ => 0))), (z4, .inl (cs.2.1, 24, .inl (fun _ => 0))), (z5, .inl (cs.2.1, 8, .inl (fun _ => 0))), (z6, .inl (cs.2.1, 16, .inl (fun _ => 0))), (z9, .inl (cs.1, 24, .inl (fun _ => 0))), (z10, .inl (cs.1, 8, .inl (fun _ => 0))), (z11, .inl (cs.1, 24, .inl (fun _ => 0))), (z12, .inl (cs.1, 3, .inl (fun _ => 0))), (z16, .inl (cs.1, 8, .inl (fun _ => 0))), (z17, .inl (cs.1, 8, .inl (fun _ => 0))), (z18, .inl (cs.1, 8, .inl (fun _ => 0))), (z19, .inl (cs.1, 8, .inl (fun _ => 0))), (z20, .inl (cs.2.1, 8, .inl (fun _ => 0))), (z21, .inl (cs.1, 8, .inl (fun _ => 0))), (z22, .inl (cs.2.1, 8, .inl (fun _ => 0))), (z23, .inl (cs.2.2, 8, .inl (fun _ => 0))), (z24, .inl (cs.1, 8, .inl (fun _ => 0)))] (wA [b] sz) s.heap H locs := ⟨hP, hD, hS⟩
  refine lv_aload_n E.1 E.2.1 dX0_init_155 rfl (lv_at hl 0 rfl) ?_
  refine lv_bipush (v := 8) E.1 E.2.1 dX0_init_156 (by decide) ?_
  refine x_newa (atype := .boolean) (ty := .boolean) (N := 8) E 2 rfl rfl (E.2.2.2.1 _ q135) (fun _ h => h) hW hA (fun _ => rfl) (by decide) (by decide) (by decide) (Nat.le_of_ble_eq_true rfl) (Nat.le_of_ble_eq_true rfl) dX0_init_158 (fun z25 H hW => ?_)
  refine va_putF (D := D) (ci := 0) (v := .ref z25) (ty := .array .boolean) (C := RX0) (T := TX0) (N := 30) E.1 E.2.1 E.2.2.2.1 in_X0 tyX0 tyX0_ok nmX0 E.2.2.1 E.2.2.2.2 hW.1 hW.2.1 hW.2.2 0 rfl rfl 25 (by decide) (E.2.2.2.1 _ q67) (fun _ h9 => h9) rfl hin rfl (by decide +kernel) rfl rfl (Nat.le_of_ble_eq_true rfl) dX0_init_160 (fun H locs hP hD hS => ?_)
  have hW : PW D [(b, .inr (0, [.int 0, .ref z1, .ref z2, .ref z3, .ref z4, .ref z5, .ref z6, .int 0, .int 0, .ref z9, .ref z10, .ref z11, .ref z12, .int 0, .int 0, .int 0, .ref z16, .ref z17, .ref z18, .ref z19, .ref z20, .ref z21, .ref z22, .ref z23, .ref z24, .ref z25, .null, .null, .int 0, .int 0])), (z1, .inl (cs.1, 24, .inl (fun _ => 0))), (z2, .inl (cs.1, 24, .inl (fun _ => 0))), (z3, .inl (cs.1, 24, .inl (fun _ => 0))), (z4, .inl (cs.2.1, 24, .inl (fun _ => 0))), (z5, .inl (cs.2.1, 8, .inl (fun _ => 0))), (z6, .inl (cs.2.1, 16, .inl (fun _ => 0))), (z9, .inl (cs.1, 24, .inl (fun _ => 0))), (z10, .inl (cs.1, 8, .inl (fun _ => 0))), (z11, .inl (cs.1, 24, .inl (fun _ => 0))), (z12, .inl (cs.1, 3, .inl (fun _ => 0))), (z16, .inl (cs.1, 8, .inl (fun _ => 0))), (z17, .inl (cs.1, 8, .inl (fun _ => 0))), (z18, .inl (cs.1, 8, .inl (fun _ => 0))), (z19, .inl (cs.1, 8, .inl (fun _ => 0))), (z20, .inl (cs.2.1, 8, .inl (fun _ => 0))), (z21, .inl (cs.1, 8, .inl (fun _ => 0))), (z22, .inl (cs.2.1, 8, .inl (fun _ => 0))), (z23, .inl (cs.2.2, 8, .inl (fun _ => 0))), (z24, .inl (cs.1, 8, .inl (fun _ => 0))), (z25, .inl (cs.2.2, 8, .inl (fun _ => 0)))] (wA [b] sz) s.heap H locs := ⟨hP, hD, hS⟩
  refine lv_aload_n E.1 E.2.1 dX0_init_163 rfl (lv_at hl 0 rfl) ?_
  refine lv_bipush (v := 8) E.1 E.2.1 dX0_init_164 (by decide) ?_
  refine x_newa (atype := .int) (ty := .int) (N := 8) E 1 rfl rfl (E.2.2.2.1 _ q134) (fun _ h => h) hW hA (fun _ => rfl) (by decide) (by decide) (by decide) (Nat.le_of_ble_eq_true rfl) (Nat.le_of_ble_eq_true rfl) dX0_init_166 (fun z26 H hW => ?_)
  refine va_putF (D := D) (ci := 0) (v := .ref z26) (ty := .array .int) (C := RX0) (T := TX0) (N := 30) E.1 E.2.1 E.2.2.2.1 in_X0 tyX0 tyX0_ok nmX0 E.2.2.1 E.2.2.2.2 hW.1 hW.2.1 hW.2.2 0 rfl rfl 26 (by decide) (E.2.2.2.1 _ q68) (fun _ h9 => h9) rfl hin rfl (by decide +kernel) rfl rfl (Nat.le_of_ble_eq_true rfl) dX0_init_168 (fun H locs hP hD hS => ?_)
  have hW : PW D [(b, .inr (0, [.int 0, .ref z1, .ref z2, .ref z3, .ref z4, .ref z5, .ref z6, .int 0, .int 0, .ref z9, .ref z10, .ref z11, .ref z12, .int 0, .int 0, .int 0, .ref z16, .ref z17, .ref z18, .ref z19, .ref z20, .ref z21, .ref z22, .ref z23, .ref z24, .ref z25, .ref z26, .null, .int 0, .int 0])), (z1, .inl (cs.1, 24, .inl (fun _ => 0))), (z2, .inl (cs.1, 24, .inl (fun _ => 0))), (z3, .inl (cs.1, 24, .inl (fun _ => 0))), (z4, .inl (cs.2.1, 24, .inl (fun _ => 0))), (z5, .inl (cs.2.1, 8, .inl (fun _ => 0))), (z6, .inl (cs.2.1, 16, .inl (fun _ => 0))), (z9, .inl (cs.1, 24, .inl (fun _ => 0))), (z10, .inl (cs.1, 8, .inl (fun _ => 0))), (z11, .inl (cs.1, 24, .inl (fun _ => 0))), (z12, .inl (cs.1, 3, .inl (fun _ => 0))), (z16, .inl (cs.1, 8, .inl (fun _ => 0))), (z17, .inl (cs.1, 8, .inl (fun _ => 0))), (z18, .inl (cs.1, 8, .inl (fun _ => 0))), (z19, .inl (cs.1, 8, .inl (fun _ => 0))), (z20, .inl (cs.2.1, 8, .inl (fun _ => 0))), (z21, .inl (cs.1, 8, .inl (fun _ => 0))), (z22, .inl (cs.2.1, 8, .inl (fun _ => 0))), (z23, .inl (cs.2.2, 8, .inl (fun _ => 0))), (z24, .inl (cs.1, 8, .inl (fun _ => 0))), (z25, .inl (cs.2.2, 8, .inl (fun _ => 0))), (z26, .inl (cs.2.1, 8, .inl (fun _ => 0)))] (wA [b] sz) s.heap H locs := ⟨hP, hD, hS⟩
  refine lv_aload_n E.1 E.2.1 dX0_init_171 rfl (lv_at hl 0 rfl) ?_
  refine lv_bipush (v := 8) E.1 E.2.1 dX0_init_172 (by decide) ?_
  refine x_newa (atype := .byte) (ty := .byte) (N := 8) E 0 rfl rfl (E.2.2.2.1 _ q133) (fun _ h => h) hW hA (fun _ => rfl) (by decide) (by decide) (by decide) (Nat.le_of_ble_eq_true rfl) (Nat.le_of_ble_eq_true rfl) dX0_init_174 (fun z27 H hW => ?_)
  refine va_putF (D := D) (ci := 0) (v := .ref z27) (ty := .array .byte) (C := RX0) (T := TX0) (N := 30) E.1 E.2.1 E.2.2.2.1 in_X0 tyX0 tyX0_ok nmX0 E.2.2.1 E.2.2.2.2 hW.1 hW.2.1 hW.2.2 0 rfl rfl 27 (by decide) (E.2.2.2.1 _ q69) (fun _ h9 => h9) rfl hin rfl (by decide +kernel) rfl rfl (Nat.le_of_ble_eq_true rfl) dX0_init_176 (fun H locs hP hD hS => ?_)
  have hW : PW D [(b, .inr (0, [.int 0, .ref z1, .ref z2, .ref z3, .ref z4, .ref z5, .ref z6, .int 0, .int 0, .ref z9, .ref z10, .ref z11, .ref z12, .int 0, .int 0, .int 0, .ref z16, .ref z17, .ref z18, .ref z19, .ref z20, .ref z21, .ref z22, .ref z23, .ref z24, .ref z25, .ref z26, .ref z27, .int 0, .int 0])), (z1, .inl (cs.1, 24, .inl (fun _ => 0))), (z2, .inl (cs.1, 24, .inl (fun _ => 0))), (z3, .inl (cs.1, 24, .inl (fun _ => 0))), (z4, .inl (cs.2.1, 24, .inl (fun _ => 0))), (z5, .inl (cs.2.1, 8, .inl (fun _ => 0))), (z6, .inl (cs.2.1, 16, .inl (fun _ => 0))), (z9, .inl (cs.1, 24, .inl (fun _ => 0))), (z10, .inl (cs.1, 8, .inl (fun _ => 0))), (z11, .inl (cs.1, 24, .inl (fun _ => 0))), (z12, .inl (cs.1, 3, .inl (fun _ => 0))), (z16, .inl (cs.1, 8, .inl (fun _ => 0))), (z17, .inl (cs.1, 8, .inl (fun _ => 0))), (z18, .inl (cs.1, 8, .inl (fun _ => 0))), (z19, .inl (cs.1, 8, .inl (fun _ => 0))), (z20, .inl (cs.2.1, 8, .inl (fun _ => 0))), (z21, .inl (cs.1, 8, .inl (fun _ => 0))), (z22, .inl (cs.2.1, 8, .inl (fun _ => 0))), (z23, .inl (cs.2.2, 8, .inl (fun _ => 0))), (z24, .inl (cs.1, 8, .inl (fun _ => 0))), (z25, .inl (cs.2.2, 8, .inl (fun _ => 0))), (z26, .inl (cs.2.1, 8, .inl (fun _ => 0))), (z27, .inl (cs.1, 8, .inl (fun _ => 0)))] (wA [b] sz) s.heap H locs := ⟨hP, hD, hS⟩
  obtain ⟨a, ha, hW⟩ : ∃ a : Nat → Nat, a 0 = b ∧ PW D (xW cs a (fun _ _ => 0)) (wA [b] sz) s.heap H locs := ⟨fun k => match k with | 0 => b | 1 => z1 | 2 => z2 | 3 => z3 | 4 => z4 | 5 => z5 | 6 => z6 | 9 => z9 | 10 => z10 | 11 => z11 | 12 => z12 | 16 => z16 | 17 => z17 | 18 => z18 | 19 => z19 | 20 => z20 | 21 => z21 | 22 => z22 | 23 => z23 | 24 => z24 | 25 => z25 | 26 => z26 | 27 => z27 | _ => 0, rfl, hW⟩
  have hl : lv_has ls 1 [(0, .ref (a 0))] := by rw [ha]; exact hl
  refine W.widen (k := 22) (n := 275) (by decide) (by decide) ?_
  refine lv_aload_n E.1 E.2.1 dX0_init_179 rfl (lv_at hl 0 rfl) ?_
  refine cv_call (w := xW cs a) (ad := xAd a) (ci := 0) E hml hl.1 hW xAd_eq hA (tX_forgetTraces l D cs a (fun _ _ => 0)) (cwV 0 E.2.2.2.1 (lw_V q34 q36 qs0 q24 q37) rfl rfl rfl (by decide +kernel) ⟨Nat.le_of_ble_eq_true rfl, Nat.le_of_ble_eq_true rfl⟩) rfl rfl rfl rfl rfl (Nat.le_of_ble_eq_true rfl) dX0_init_180 ⟨Nat.le_refl _, Nat.le_refl _⟩ (fun S1 H locs hp1 hW _ _ => ?_)
  refine lv_aload_n E.1 E.2.1 dX0_init_183 rfl (lv_at hl 0 rfl) ?_
  refine cv_call (w := xW cs a) (ad := xAd a) (ci := 0) E hml hl.1 hW xAd_eq hA (tX_squash l D cs a S1) (cwV 0 E.2.2.2.1 (lw_V q38 q40 qs1 q24 q41) rfl rfl rfl (by decide +kernel) ⟨Nat.le_of_ble_eq_true rfl, Nat.le_of_ble_eq_true rfl⟩) rfl rfl rfl rfl rfl (Nat.le_of_ble_eq_true rfl) dX0_init_184 ⟨Nat.le_refl _, Nat.le_refl _⟩ (fun S2 H locs hp2 hW _ _ => ?_)
  exact W.vret E.1 E.2.1 hr (fun t ht hV => ⟨⟨(a, S2), rfl, ⟨ha, S1, hp1, hp2⟩, by rw [ht]; exact hW.1, va_K.moved hV.alike E.2.2.2.2, hW.2.1⟩, hW.2.2.F ht⟩) hW.2.2.2.2 dX0_init_187 hlocks
def mF0 : List Value := [.int 0, .null, .null, .null, .null, .null, .null, .int 0, .int 0]
def mB (D : va_G) (cs : ClassId × ClassId × ClassId) (A : Nat → Prop) (u : (Nat → Nat) × St) (t : State) : Prop := va_P D vwCl (mW cs u.1 u.2) t.heap ∧ va_K D vwCl (kT cs) t ∧ va_D A (mW cs u.1 u.2)
set_option maxHeartbeats 8000000 in
set_option maxRecDepth 100000 in
theorem tM_init (l : Launch) (D : va_G) (cs : ClassId × ClassId × ClassId) (b sz : Nat) : Met l yX1_init (ws_ yX1_init cX1_init 1 none) ({ frames := 1, cells := 6, slots := 120, locals := 12 }) (wPc D cs [(b, .inr (1, mF0))] sz [.ref b]) (va_Qv (fun u : (Nat → Nat) × St => u.1 0 = b ∧ u.2 = fun _ _ => 0) (mB D cs (wA [b] sz)) (wA [b] sz)) 6 120 (wA [b] sz) := by
  refine cn_start (w0 := [(b, .inr (1, mF0))]) (ad := [b]) (C := RX1) (by decide) rfl rfl (Nat.le_of_ble_eq_true rfl) ?_
  intro p e s m below meth c ls E hml hr hlocks hin hsz hW hl
  have hA : ∀ q, s.heap.size ≤ q → wA [b] sz q := fun q h => Or.inr (hsz ▸ h)
  have hl : lv_has ls 1 [(0, .ref b)] := hl
  refine lv_aload_n E.1 E.2.1 dX1_init_0 rfl (lv_at hl 0 rfl) ?_
  refine W.objInit E.1 E.2.1 E.2.2.1 (E.2.2.2.1 _ q254) (E.2.2.2.1 _ q32) (E.2.2.2.1 _ q33) rfl (by rw [hml]; exact hl.1) rfl dX1_init_1 (Nat.le_of_ble_eq_true rfl) (Nat.le_of_ble_eq_true rfl) ?_
  refine W.eq (g2 := F0 m 4 ls []) rfl ?_
  refine lv_aload_n E.1 E.2.1 dX1_init_4 rfl (lv_at hl 0 rfl) ?_
  refine lv_iconst (v := 0) E.1 E.2.1 dX1_init_5 (by decide) ?_
  refine va_put (D := D) (ci := 1) (v := .int 0) (ty := .int) (C := RX1) (T := TX1) (N := 9) E.1 E.2.1 E.2.2.2.1 in_X1 tyX1 tyX1_ok nmX1 E.2.2.1 E.2.2.2.2 hW.1 hW.2.1 hW.2.2 0 rfl rfl 0 (by decide) (E.2.2.2.1 _ q255) (fun _ h9 => h9) rfl (by decide +kernel) rfl rfl (Nat.le_of_ble_eq_true rfl) dX1_init_6 (fun H locs hP hD hS => ?_)
  have hW : PW D [(b, .inr (1, [.int 0, .null, .null, .null, .null, .null, .null, .int 0, .int 0]))] (wA [b] sz) s.heap H locs := ⟨hP, hD, hS⟩
  refine lv_aload_n E.1 E.2.1 dX1_init_9 rfl (lv_at hl 0 rfl) ?_
  refine lv_bipush (v := 24) E.1 E.2.1 dX1_init_10 (by decide) ?_
  refine x_newa (atype := .int) (ty := .int) (N := 24) E 1 rfl rfl (E.2.2.2.1 _ q134) (fun _ h => h) hW hA (fun _ => rfl) (by decide) (by decide) (by decide) (Nat.le_of_ble_eq_true rfl) (Nat.le_of_ble_eq_true rfl) dX1_init_12 (fun z1 H hW => ?_)
  refine va_put (D := D) (ci := 1) (v := .ref z1) (ty := .array .int) (C := RX1) (T := TX1) (N := 9) E.1 E.2.1 E.2.2.2.1 in_X1 tyX1 tyX1_ok nmX1 E.2.2.1 E.2.2.2.2 hW.1 hW.2.1 hW.2.2 0 rfl rfl 1 (by decide) (E.2.2.2.1 _ q256) (fun _ h9 => h9) rfl (by decide +kernel) rfl rfl (Nat.le_of_ble_eq_true rfl) dX1_init_14 (fun H locs hP hD hS => ?_)
  have hW : PW D [(b, .inr (1, [.int 0, .ref z1, .null, .null, .null, .null, .null, .int 0, .int 0])), (z1, .inl (cs.2.1, 24, .inl (fun _ => 0)))] (wA [b] sz) s.heap H locs := ⟨hP, hD, hS⟩
  refine lv_aload_n E.1 E.2.1 dX1_init_17 rfl (lv_at hl 0 rfl) ?_
  refine lv_bipush (v := 24) E.1 E.2.1 dX1_init_18 (by decide) ?_
  refine x_newa (atype := .int) (ty := .int) (N := 24) E 1 rfl rfl (E.2.2.2.1 _ q134) (fun _ h => h) hW hA (fun _ => rfl) (by decide) (by decide) (by decide) (Nat.le_of_ble_eq_true rfl) (Nat.le_of_ble_eq_true rfl) dX1_init_20 (fun z2 H hW => ?_)
  refine va_put (D := D) (ci := 1) (v := .ref z2) (ty := .array .int) (C := RX1) (T := TX1) (N := 9) E.1 E.2.1 E.2.2.2.1 in_X1 tyX1 tyX1_ok nmX1 E.2.2.1 E.2.2.2.2 hW.1 hW.2.1 hW.2.2 0 rfl rfl 2 (by decide) (E.2.2.2.1 _ q257) (fun _ h9 => h9) rfl (by decide +kernel) rfl rfl (Nat.le_of_ble_eq_true rfl) dX1_init_22 (fun H locs hP hD hS => ?_)
  have hW : PW D [(b, .inr (1, [.int 0, .ref z1, .ref z2, .null, .null, .null, .null, .int 0, .int 0])), (z1, .inl (cs.2.1, 24, .inl (fun _ => 0))), (z2, .inl (cs.2.1, 24, .inl (fun _ => 0)))] (wA [b] sz) s.heap H locs := ⟨hP, hD, hS⟩
  refine lv_aload_n E.1 E.2.1 dX1_init_25 rfl (lv_at hl 0 rfl) ?_
  refine lv_bipush (v := 24) E.1 E.2.1 dX1_init_26 (by decide) ?_
  refine x_newa (atype := .int) (ty := .int) (N := 24) E 1 rfl rfl (E.2.2.2.1 _ q134) (fun _ h => h) hW hA (fun _ => rfl) (by decide) (by decide) (by decide) (Nat.le_of_ble_eq_true rfl) (Nat.le_of_ble_eq_true rfl) dX1_init_28 (fun z3 H hW => ?_)
  refine va_put (D := D) (ci := 1) (v := .ref z3) (ty := .array .int) (C := RX1) (T := TX1) (N := 9) E.1 E.2.1 E.2.2.2.1 in_X1 tyX1 tyX1_ok nmX1 E.2.2.1 E.2.2.2.2 hW.1 hW.2.1 hW.2.2 0 rfl rfl 3 (by decide) (E.2.2.2.1 _ q258) (fun _ h9 => h9) rfl (by decide +kernel) rfl rfl (Nat.le_of_ble_eq_true rfl) dX1_init_30 (fun H locs hP hD hS => ?_)
  have hW : PW D [(b, .inr (1, [.int 0, .ref z1, .ref z2, .ref z3, .null, .null, .null, .int 0, .int 0])), (z1, .inl (cs.2.1, 24, .inl (fun _ => 0))), (z2, .inl (cs.2.1, 24, .inl (fun _ => 0))), (z3, .inl (cs.2.1, 24, .inl (fun _ => 0)))] (wA [b] sz) s.heap H locs := ⟨hP, hD, hS⟩
  refine lv_aload_n E.1 E.2.1 dX1_init_33 rfl (lv_at hl 0 rfl) ?_
  refine lv_bipush (v := 24) E.1 E.2.1 dX1_init_34 (by decide) ?_
  refine x_newa (atype := .int) (ty := .int) (N := 24) E 1 rfl rfl (E.2.2.2.1 _ q134) (fun _ h => h) hW hA (fun _ => rfl) (by decide) (by decide) (by decide) (Nat.le_of_ble_eq_true rfl) (Nat.le_of_ble_eq_true rfl) dX1_init_36 (fun z4 H hW => ?_)
  refine va_put (D := D) (ci := 1) (v := .ref z4) (ty := .array .int) (C := RX1) (T := TX1) (N := 9) E.1 E.2.1 E.2.2.2.1 in_X1 tyX1 tyX1_ok nmX1 E.2.2.1 E.2.2.2.2 hW.1 hW.2.1 hW.2.2 0 rfl rfl 4 (by decide) (E.2.2.2.1 _ q259) (fun _ h9 => h9) rfl (by decide +kernel) rfl rfl (Nat.le_of_ble_eq_true rfl) dX1_init_38 (fun H locs hP hD hS => ?_)
  have hW : PW D [(b, .inr (1, [.int 0, .ref z1, .ref z2, .ref z3, .ref z4, .null, .null, .int 0, .int 0])), (z1, .inl (cs.2.1, 24, .inl (fun _ => 0))), (z2, .inl (cs.2.1, 24, .inl (fun _ => 0))), (z3, .inl (cs.2.1, 24, .inl (fun _ => 0))), (z4, .inl (cs.2.1, 24, .inl (fun _ => 0)))] (wA [b] sz) s.heap H locs := ⟨hP, hD, hS⟩
  refine lv_aload_n E.1 E.2.1 dX1_init_41 rfl (lv_at hl 0 rfl) ?_
  refine lv_bipush (v := 8) E.1 E.2.1 dX1_init_42 (by decide) ?_
  refine x_newa (atype := .int) (ty := .int) (N := 8) E 1 rfl rfl (E.2.2.2.1 _ q134) (fun _ h => h) hW hA (fun _ => rfl) (by decide) (by decide) (by decide) (Nat.le_of_ble_eq_true rfl) (Nat.le_of_ble_eq_true rfl) dX1_init_44 (fun z5 H hW => ?_)
  refine va_put (D := D) (ci := 1) (v := .ref z5) (ty := .array .int) (C := RX1) (T := TX1) (N := 9) E.1 E.2.1 E.2.2.2.1 in_X1 tyX1 tyX1_ok nmX1 E.2.2.1 E.2.2.2.2 hW.1 hW.2.1 hW.2.2 0 rfl rfl 5 (by decide) (E.2.2.2.1 _ q260) (fun _ h9 => h9) rfl (by decide +kernel) rfl rfl (Nat.le_of_ble_eq_true rfl) dX1_init_46 (fun H locs hP hD hS => ?_)
  have hW : PW D [(b, .inr (1, [.int 0, .ref z1, .ref z2, .ref z3, .ref z4, .ref z5, .null, .int 0, .int 0])), (z1, .inl (cs.2.1, 24, .inl (fun _ => 0))), (z2, .inl (cs.2.1, 24, .inl (fun _ => 0))), (z3, .inl (cs.2.1, 24, .inl (fun _ => 0))), (z4, .inl (cs.2.1, 24, .inl (fun _ => 0))), (z5, .inl (cs.2.1, 8, .inl (fun _ => 0)))] (wA [b] sz) s.heap H locs := ⟨hP, hD, hS⟩
  refine lv_aload_n E.1 E.2.1 dX1_init_49 rfl (lv_at hl 0 rfl) ?_
  refine lv_bipush (v := 16) E.1 E.2.1 dX1_init_50 (by decide) ?_
  refine x_newa (atype := .int) (ty := .int) (N := 16) E 1 rfl rfl (E.2.2.2.1 _ q134) (fun _ h => h) hW hA (fun _ => rfl) (by decide) (by decide) (by decide) (Nat.le_of_ble_eq_true rfl) (Nat.le_of_ble_eq_true rfl) dX1_init_52 (fun z6 H hW => ?_)
  refine va_put (D := D) (ci := 1) (v := .ref z6) (ty := .array .int) (C := RX1) (T := TX1) (N := 9) E.1 E.2.1 E.2.2.2.1 in_X1 tyX1 tyX1_ok nmX1 E.2.2.1 E.2.2.2.2 hW.1 hW.2.1 hW.2.2 0 rfl rfl 6 (by decide) (E.2.2.2.1 _ q261) (fun _ h9 => h9) rfl (by decide +kernel) rfl rfl (Nat.le_of_ble_eq_true rfl) dX1_init_54 (fun H locs hP hD hS => ?_)
  have hW : PW D [(b, .inr (1, [.int 0, .ref z1, .ref z2, .ref z3, .ref z4, .ref z5, .ref z6, .int 0, .int 0])), (z1, .inl (cs.2.1, 24, .inl (fun _ => 0))), (z2, .inl (cs.2.1, 24, .inl (fun _ => 0))), (z3, .inl (cs.2.1, 24, .inl (fun _ => 0))), (z4, .inl (cs.2.1, 24, .inl (fun _ => 0))), (z5, .inl (cs.2.1, 8, .inl (fun _ => 0))), (z6, .inl (cs.2.1, 16, .inl (fun _ => 0)))] (wA [b] sz) s.heap H locs := ⟨hP, hD, hS⟩
  refine lv_aload_n E.1 E.2.1 dX1_init_57 rfl (lv_at hl 0 rfl) ?_
  refine lv_iconst (v := 0) E.1 E.2.1 dX1_init_58 (by decide) ?_
  refine va_put (D := D) (ci := 1) (v := .int 0) (ty := .int) (C := RX1) (T := TX1) (N := 9) E.1 E.2.1 E.2.2.2.1 in_X1 tyX1 tyX1_ok nmX1 E.2.2.1 E.2.2.2.2 hW.1 hW.2.1 hW.2.2 0 rfl rfl 7 (by decide) (E.2.2.2.1 _ q262) (fun _ h9 => h9) rfl (by decide +kernel) rfl rfl (Nat.le_of_ble_eq_true rfl) dX1_init_59 (fun H locs hP hD hS => ?_)
  have hW : PW D [(b, .inr (1, [.int 0, .ref z1, .ref z2, .ref z3, .ref z4, .ref z5, .ref z6, .int 0, .int 0])), (z1, .inl (cs.2.1, 24, .inl (fun _ => 0))), (z2, .inl (cs.2.1, 24, .inl (fun _ => 0))), (z3, .inl (cs.2.1, 24, .inl (fun _ => 0))), (z4, .inl (cs.2.1, 24, .inl (fun _ => 0))), (z5, .inl (cs.2.1, 8, .inl (fun _ => 0))), (z6, .inl (cs.2.1, 16, .inl (fun _ => 0)))] (wA [b] sz) s.heap H locs := ⟨hP, hD, hS⟩
  refine lv_aload_n E.1 E.2.1 dX1_init_62 rfl (lv_at hl 0 rfl) ?_
  refine lv_iconst (v := 0) E.1 E.2.1 dX1_init_63 (by decide) ?_
  refine va_put (D := D) (ci := 1) (v := .int 0) (ty := .int) (C := RX1) (T := TX1) (N := 9) E.1 E.2.1 E.2.2.2.1 in_X1 tyX1 tyX1_ok nmX1 E.2.2.1 E.2.2.2.2 hW.1 hW.2.1 hW.2.2 0 rfl rfl 8 (by decide) (E.2.2.2.1 _ q263) (fun _ h9 => h9) rfl (by decide +kernel) rfl rfl (Nat.le_of_ble_eq_true rfl) dX1_init_64 (fun H locs hP hD hS => ?_)
  have hW : PW D [(b, .inr (1, [.int 0, .ref z1, .ref z2, .ref z3, .ref z4, .ref z5, .ref z6, .int 0, .int 0])), (z1, .inl (cs.2.1, 24, .inl (fun _ => 0))), (z2, .inl (cs.2.1, 24, .inl (fun _ => 0))), (z3, .inl (cs.2.1, 24, .inl (fun _ => 0))), (z4, .inl (cs.2.1, 24, .inl (fun _ => 0))), (z5, .inl (cs.2.1, 8, .inl (fun _ => 0))), (z6, .inl (cs.2.1, 16, .inl (fun _ => 0)))] (wA [b] sz) s.heap H locs := ⟨hP, hD, hS⟩
  obtain ⟨a, ha, hW⟩ : ∃ a : Nat → Nat, a 0 = b ∧ PW D (mW cs a (fun _ _ => 0)) (wA [b] sz) s.heap H locs := ⟨fun k => match k with | 0 => b | 1 => z1 | 2 => z2 | 3 => z3 | 4 => z4 | 5 => z5 | 6 => z6 | _ => 0, rfl, hW⟩
  refine W.widen (k := 6) (n := 120) (by decide) (by decide) ?_
  exact W.vret E.1 E.2.1 hr (fun t ht hV => ⟨⟨(a, fun _ _ => 0), rfl, ⟨ha, rfl⟩, by rw [ht]; exact hW.1, va_K.moved hV.alike E.2.2.2.2, hW.2.1⟩, hW.2.2.F ht⟩) hW.2.2.2.2 dX1_init_67 hlocks
end
section
/-! the law's relation between the component's picture S and the reference's T, and what each call does to it -/
set_option maxRecDepth 100000
def lawR (S T : St) : Prop := wfP S ∧ wfT S ∧ isN (S 14 0) 8 ∧ isN (S 7 0) 25 ∧ prg S T ∧ arch T = arch S
theorem lawR.a5 {S T : St} (h : lawR S T) : T 5 = S 5 := congrArg (fun x : AS => x.1) h.2.2.2.2.2
theorem lawR.a6 {S T : St} (h : lawR S T) : T 6 = S 6 := congrArg (fun x : AS => x.2.1) h.2.2.2.2.2
theorem lawR.a7 {S T : St} (h : lawR S T) : T 7 0 = S 7 0 := congrArg (fun x : AS => x.2.2.1) h.2.2.2.2.2
theorem lawR.a8 {S T : St} (h : lawR S T) : T 8 0 = S 8 0 := congrArg (fun x : AS => x.2.2.2) h.2.2.2.2.2
theorem arch_mk {S T : St} (h5 : T 5 = S 5) (h6 : T 6 = S 6) (h7 : T 7 0 = S 7 0) (h8 : T 8 0 = S 8 0) : arch T = arch S := by unfold arch; rw [h5, h6, h7, h8]
theorem prg_cc {S S1 T T1 : St} (hS : ∀ q, q ≤ 4 → S1 q = S q) (hT : ∀ q, q ≤ 4 → T1 q = T q) (h : prg S T) : prg S1 T1 := by
  unfold prg
  rw [len_c hS, hT 0 (by decide), hT 1 (by decide), hT 2 (by decide), hT 3 (by decide), hT 4 (by decide), hS 0 (by decide), hS 1 (by decide), hS 2 (by decide), hS 3 (by decide), hS 4 (by decide)]
  refine ⟨h.1, fun i hi => ?_⟩
  rw [oper_c hS]
  exact h.2 i hi
theorem lawR_keep {S S1 T T1 : St} (h : lawR S T) (hS : ∀ q, q ≤ 4 → S1 q = S q) (hT : ∀ q, q ≤ 4 → T1 q = T q) (h1 : wfT S1) (h2 : isN (S1 14 0) 8) (h3 : isN (S1 7 0) 25) (h4 : arch T1 = arch S1) : lawR S1 T1 :=
  ⟨wfP_c hS h.1, h1, h2, h3, prg_cc hS hT h.2.2.2.2.1, h4⟩
theorem wfP_0 {S : St} (h : S 0 0 = 0) : wfP S ∧ len S = 0 := by
  have hl : len S = 0 := by unfold len; rw [h]; exact nt_nI (n := 0) (by decide)
  exact ⟨⟨by rw [hl]; exact h, by omega, fun i hi => absurd hi (by omega)⟩, hl⟩
theorem prg_0 {S T : St} (h : S 0 0 = 0) (h2 : T 0 0 = 0) : prg S T := ⟨by rw [h, h2], fun i hi => absurd hi (by have := (wfP_0 h).2; omega)⟩
theorem isN_0 {b : Nat} (h : 0 < b) : isN 0 b := ⟨0, h, rfl⟩
theorem law_init {S : St} (h : ∃ S1, fgt (fun _ _ => 0) S1 ∧ sqd S1 S) : lawR S (fun _ _ => 0) := by
  obtain ⟨S1, ⟨a1, a2, a3⟩, ⟨b1, b2, b3, b4⟩⟩ := h
  have k : ∀ q, q ≠ 10 → q ≠ 13 → q ≠ 15 → q ≠ 27 → q ≠ 28 → S q = fun _ => 0 := fun q h10 h13 h15 h27 h28 => by rw [b1 q h15 h27 h28, a1 q h10 h13]
  have k0 : S 0 0 = 0 := by rw [k 0 (by decide) (by decide) (by decide) (by decide) (by decide)]
  refine ⟨(wfP_0 k0).1, ⟨fun j _ => ?_, fun j hj => ?_, fun j _ => ?_, ?_⟩, ?_, ?_, prg_0 k0 rfl, arch_mk ?_ ?_ ?_ ?_⟩
  · rw [k 11 (by decide) (by decide) (by decide) (by decide) (by decide)]; exact isN_0 (by decide)
  · rw [b1 10 (by decide) (by decide) (by decide), a2 j hj]; exact isN_0 (by decide)
  · rw [k 12 (by decide) (by decide) (by decide) (by decide) (by decide)]; exact isN_0 (by decide)
  · rw [b1 13 (by decide) (by decide) (by decide), a3]; exact isN_0 (by decide)
  · rw [k 14 (by decide) (by decide) (by decide) (by decide) (by decide)]; exact isN_0 (by decide)
  · rw [k 7 (by decide) (by decide) (by decide) (by decide) (by decide)]; exact isN_0 (by decide)
  · rw [k 5 (by decide) (by decide) (by decide) (by decide) (by decide)]
  · rw [k 6 (by decide) (by decide) (by decide) (by decide) (by decide)]
  · rw [k 7 (by decide) (by decide) (by decide) (by decide) (by decide)]
  · rw [k 8 (by decide) (by decide) (by decide) (by decide) (by decide)]
theorem byte_id {x : Int32} {b : Nat} (h : isN x b) (hb : b ≤ 128) : x.toInt8.toInt32 = x := by
  obtain ⟨n, hn, rfl⟩ := h
  exact x_i2b (by omega)
theorem isN_up {x : Int32} {b d : Nat} (h : isN x b) (hd : b ≤ d) : isN x d := by
  obtain ⟨n, hn, e⟩ := h
  exact ⟨n, by omega, e⟩
theorem law_emit {S T S1 T1 : St} {op x y z v u : Int32} (h : lawR S T)
    (hX : (len S = 24 ∧ v = -2 ∧ S1 = S) ∨ (len S < 24 ∧ ¬ okE op x y z ∧ v = -1 ∧ S1 = S) ∨ (len S < 24 ∧ okE op x y z ∧ v = nI (len S + 1) ∧ ∃ o, o ≤ 10 ∧ op = nI o ∧ emt (len S) o x y z S S1))
    (hM : (len S = 24 ∧ u = -2 ∧ T1 = T) ∨ (len S < 24 ∧ ¬ okE op x y z ∧ u = -1 ∧ T1 = T) ∨ (len S < 24 ∧ okE op x y z ∧ u = nI (len S + 1) ∧ T1 = sput (sput (sput (sput (sput T 1 (len S) op) 2 (len S) x) 3 (len S) y) 4 (len S) z) 0 0 (nI (len S + 1)))) : v = u ∧ lawR S1 T1 := by
  rcases hX with ⟨x1, x2, x3⟩ | ⟨x1, x2, x3, x4⟩ | ⟨x1, x2, x3, x4⟩
  · rcases hM with ⟨m1, m2, m3⟩ | ⟨m1, _⟩ | ⟨m1, _⟩
    · subst x3; subst m3; exact ⟨by rw [x2, m2], h⟩
    · omega
    · omega
  · rcases hM with ⟨m1, _⟩ | ⟨_, _, m2, m3⟩ | ⟨_, m1, _⟩
    · omega
    · subst x4; subst m3; exact ⟨by rw [x3, m2], h⟩
    · exact absurd m1 x2
  · rcases hM with ⟨m1, _⟩ | ⟨_, m1, _⟩ | ⟨_, _, m3, m4⟩
    · omega
    · exact absurd x2 m1
    · refine ⟨by rw [x3, m3], ?_⟩
      obtain ⟨o, ho, eo, e1, e2, e3, e4, e5, e6, e7, e8⟩ := x4
      subst eo
      obtain ⟨k8, k6, k3, k78, k9⟩ := okE_of x2 ho
      obtain ⟨w1, w2, w3, w4, w5, w6⟩ := h
      have hlen : len S1 = len S + 1 := by unfold len at x1 ⊢; rw [e2, nt_nI (by unfold len; omega)]; rfl
      have hopo : ∀ i, i < len S → oper S1 i = oper S i := fun i hi => by
        rw [oper_lt (by omega), oper_lt hi, e3, pk_un (by omega)]
      have hopn : oper S1 (len S) = o := by rw [oper_lt (by omega), e3, pk_us, nt_nI (by omega)]
      have t0 : T1 0 0 = nI (len S + 1) := by rw [m4]; rfl
      have t1 : T1 1 = upd (T 1) (len S) (nI o) := by rw [m4]; rfl
      have t2 : T1 2 = upd (T 2) (len S) x := by rw [m4]; rfl
      have t3 : T1 3 = upd (T 3) (len S) y := by rw [m4]; rfl
      have t4 : T1 4 = upd (T 4) (len S) z := by rw [m4]; rfl
      have tr : ∀ q, 5 ≤ q → T1 q = T q := fun q hq => by rw [m4, sput_k (by omega), sput_k (by omega), sput_k (by omega), sput_k (by omega), sput_k (by omega)]
      have sr : ∀ q, 5 ≤ q → q ≠ 9 → q ≠ 10 → q ≠ 13 → S1 q = S q := fun q hq h9 h10 h13 => e1 q (by omega) (by omega) (by omega) (by omega) (by omega) h9 h10 h13
      refine ⟨⟨by rw [hlen]; exact e2, by omega, fun i hi => ?_⟩, ⟨?_, ?_, ?_, ?_⟩, ?_, ?_, ⟨by rw [t0, e2], fun i hi => ?_⟩, arch_mk ?_ ?_ ?_ ?_⟩
      · rw [hlen] at hi
        by_cases hin : i = len S
        · subst hin
          rw [hopn, e3, e4, e5, e6, pk_us, pk_us, pk_us, pk_us]
          refine ⟨⟨o, by omega, rfl⟩, fun q => ?_, fun q => ?_, fun q => ?_, fun q q2 => ?_⟩
          · rw [byte_id (k8 q) (by decide)]; exact k8 q
          · rw [byte_id (k6 q) (by decide)]; exact k6 q
          · rw [if_neg (by omega), if_neg (by omega)]; exact k3 q
          · by_cases h9 : o = 9
            · rw [if_pos h9]; exact k9 h9
            · rw [if_neg h9, if_pos q]; exact k78 (by omega)
        · have hi2 : i < len S := by omega
          rw [hopo i hi2, e3, e4, e5, e6, pk_un hin, pk_un hin, pk_un hin, pk_un hin]
          exact w1.2.2 i hi2
      · rw [sr 11 (by decide) (by decide) (by decide) (by decide)]; exact w2.1
      · exact fun j hj => by rw [e7 j hj]; exact isN_0 (by decide)
      · rw [sr 12 (by decide) (by decide) (by decide) (by decide)]; exact w2.2.2.1
      · rw [e8]; exact isN_0 (by decide)
      · rw [sr 14 (by decide) (by decide) (by decide) (by decide)]; exact w3
      · rw [sr 7 (by decide) (by decide) (by decide) (by decide)]; exact w4
      · rw [hlen] at hi
        by_cases hin : i = len S
        · subst hin
          rw [hopn, t1, t2, t3, t4, e3, e4, e5, e6, pk_us, pk_us, pk_us, pk_us, pk_us, pk_us, pk_us, pk_us]
          refine ⟨rfl, fun q => ?_, fun q => ⟨?_, ?_⟩, fun q => ?_, fun q => ?_⟩
          · rw [byte_id (k8 q) (by decide)]
          · rw [byte_id (k6 q) (by decide)]
          · rw [if_neg (by omega), if_neg (by omega)]
          · rw [if_neg (by omega), if_pos (by omega)]
          · rw [if_pos q]
        · have hi2 : i < len S := by omega
          rw [hopo i hi2, t1, t2, t3, t4, e3, e4, e5, e6, pk_un hin, pk_un hin, pk_un hin, pk_un hin, pk_un hin, pk_un hin, pk_un hin, pk_un hin]
          exact w5.2 i hi2
      · rw [tr 5 (by decide), sr 5 (by decide) (by decide) (by decide) (by decide)]; exact congrArg (fun x : AS => x.1) w6
      · rw [tr 6 (by decide), sr 6 (by decide) (by decide) (by decide) (by decide)]; exact congrArg (fun x : AS => x.2.1) w6
      · rw [tr 7 (by decide), sr 7 (by decide) (by decide) (by decide) (by decide)]; exact congrArg (fun x : AS => x.2.2.1) w6
      · rw [tr 8 (by decide), sr 8 (by decide) (by decide) (by decide) (by decide)]; exact congrArg (fun x : AS => x.2.2.2) w6
theorem okA_ST {S T : St} {i x : Int32} (h : prg S T) : okA T (len S) i x ↔ okA S (len S) i x := by
  constructor
  · rintro ⟨j, h1, h2, h3⟩
    rw [(h.2 j h1).1] at h3
    exact ⟨j, h1, h2, h3⟩
  · rintro ⟨j, h1, h2, h3⟩
    rw [← (h.2 j h1).1] at h3
    exact ⟨j, h1, h2, h3⟩
theorem law_amend {S T S1 T1 : St} {i x v u : Int32} (h : lawR S T)
    (hX : (¬ okA S (len S) i x ∧ v = -1 ∧ S1 = S) ∨ (okA S (len S) i x ∧ v = i ∧ (∀ k, k ≠ 4 → k ≠ 10 → k ≠ 13 → S1 k = S k) ∧ S1 4 = upd (S 4) (nt i) x ∧ (∀ j, j < 8 → S1 10 j = 0) ∧ S1 13 0 = 0))
    (hM : (¬ okA T (len S) i x ∧ u = -1 ∧ T1 = T) ∨ (okA T (len S) i x ∧ u = i ∧ T1 = if nt (T 1 (nt i)) = 9 then sput T 2 (nt i) x else if 7 ≤ nt (T 1 (nt i)) then sput T 3 (nt i) x else sput T 4 (nt i) x)) : v = u ∧ lawR S1 T1 := by
  rw [okA_ST h.2.2.2.2.1] at hM
  rcases hX with ⟨x1, x2, x3⟩ | ⟨x1, x2, e1, e2, e3, e4⟩
  · rcases hM with ⟨m1, m2, m3⟩ | ⟨m1, _⟩
    · subst x3; subst m3; exact ⟨by rw [x2, m2], h⟩
    · exact absurd m1 x1
  · rcases hM with ⟨m1, _⟩ | ⟨_, m2, m3⟩
    · exact absurd x1 m1
    · refine ⟨by rw [x2, m2], ?_⟩
      obtain ⟨j, hj, ei, o4, o9, o7⟩ := x1
      have hl24 := h.1.2.1
      have hnt : nt i = j := by rw [ei, nt_nI (by omega)]
      have hoj : oper S j = nt (S 1 j) := oper_lt hj
      rw [hnt] at e2 m3
      obtain ⟨w1, w2, w3, w4, w5, w6⟩ := h
      rw [(w5.2 j hj).1, ← hoj] at m3
      rw [← hoj] at o4 o9 o7
      have sr : ∀ q, q ≠ 4 → q ≠ 10 → q ≠ 13 → S1 q = S q := e1
      have hlen : len S1 = len S := by unfold len; rw [sr 0 (by decide) (by decide) (by decide)]
      have hop : ∀ q, oper S1 q = oper S q := fun q => by unfold oper; rw [hlen, sr 1 (by decide) (by decide) (by decide)]
      have tr : ∀ q, q ≠ 2 → q ≠ 3 → q ≠ 4 → T1 q = T q := fun q h2 h3 h4 => by
        rw [m3]
        split
        · exact sput_k h2
        · split
          · exact sput_k h3
          · exact sput_k h4
      have ti : ∀ q k, k ≠ j → T1 q k = T q k := fun q k hk => by
        have st : ∀ F : Nat, sput T F j x q k = T q k := fun F => by
          by_cases e : q = F
          · subst e; exact sput_j hk
          · rw [sput_k e]
        rw [m3]
        split
        · exact st 2
        · split
          · exact st 3
          · exact st 4
      refine ⟨⟨by rw [hlen, sr 0 (by decide) (by decide) (by decide)]; exact w1.1, by omega, fun q hq => ?_⟩, ⟨?_, ?_, ?_, ?_⟩, ?_, ?_, ⟨by rw [tr 0 (by decide) (by decide) (by decide), sr 0 (by decide) (by decide) (by decide)]; exact w5.1, fun q hq => ?_⟩, arch_mk ?_ ?_ ?_ ?_⟩
      · rw [hlen] at hq
        rw [hop, sr 1 (by decide) (by decide) (by decide), sr 2 (by decide) (by decide) (by decide), sr 3 (by decide) (by decide) (by decide), e2]
        obtain ⟨z1, z2, z3, z4, z5⟩ := w1.2.2 q hq
        by_cases hqj : q = j
        · subst hqj
          rw [pk_us]
          exact ⟨z1, z2, z3, fun w => absurd w (by omega), fun w _ => o7 w⟩
        · rw [pk_un hqj]
          exact ⟨z1, z2, z3, z4, z5⟩
      · rw [sr 11 (by decide) (by decide) (by decide)]; exact w2.1
      · exact fun k hk => by rw [e3 k hk]; exact isN_0 (by decide)
      · rw [sr 12 (by decide) (by decide) (by decide)]; exact w2.2.2.1
      · rw [e4]; exact isN_0 (by decide)
      · rw [sr 14 (by decide) (by decide) (by decide)]; exact w3
      · rw [sr 7 (by decide) (by decide) (by decide)]; exact w4
      · rw [hlen] at hq
        rw [hop, sr 1 (by decide) (by decide) (by decide), sr 2 (by decide) (by decide) (by decide), sr 3 (by decide) (by decide) (by decide), e2]
        obtain ⟨z1, z2, z3, z4, z5⟩ := w5.2 q hq
        by_cases hqj : q = j
        · subst hqj
          rw [pk_us, tr 1 (by decide) (by decide) (by decide)]
          refine ⟨z1, fun w => ?_, fun w => ⟨?_, ?_⟩, fun w => ?_, fun w => ?_⟩
          · rw [m3, if_neg (by omega)]
            split
            · rw [sput_k (by decide)]; exact z2 w
            · rw [sput_k (by decide)]; exact z2 w
          · rw [m3, if_neg (by omega), if_neg (by omega), sput_k (by decide)]; exact (z3 w).1
          · rw [m3, if_neg (by omega), if_neg (by omega)]; exact sput_s
          · rw [m3, if_neg (by omega), if_pos (by omega)]; exact sput_s
          · rw [m3, if_pos w]; exact sput_s
        · rw [pk_un hqj, ti 1 q hqj, ti 2 q hqj, ti 3 q hqj, ti 4 q hqj]
          exact ⟨z1, z2, z3, z4, z5⟩
      · rw [tr 5 (by decide) (by decide) (by decide), sr 5 (by decide) (by decide) (by decide)]; exact congrArg (fun x : AS => x.1) w6
      · rw [tr 6 (by decide) (by decide) (by decide), sr 6 (by decide) (by decide) (by decide)]; exact congrArg (fun x : AS => x.2.1) w6
      · rw [tr 7 (by decide) (by decide) (by decide), sr 7 (by decide) (by decide) (by decide)]; exact congrArg (fun x : AS => x.2.2.1) w6
      · rw [tr 8 (by decide) (by decide) (by decide), sr 8 (by decide) (by decide) (by decide)]; exact congrArg (fun x : AS => x.2.2.2) w6
theorem wfT_c {S S1 : St} (h10 : S1 10 = S 10) (h11 : S1 11 = S 11) (h12 : S1 12 = S 12) (h13 : S1 13 = S 13) (h : wfT S) : wfT S1 := by
  unfold wfT
  rw [h10, h11, h12, h13]
  exact h
theorem law_restart {S T : St} (h : lawR S T) : lawR (sput (sput S 7 0 0) 8 0 0) (sput (sput T 7 0 0) 8 0 0) := by
  have k : ∀ (X : St) (q : Nat), q ≠ 7 → q ≠ 8 → sput (sput X 7 0 0) 8 0 0 q = X q := fun X q h7 h8 => by rw [sput_k h8, sput_k h7]
  refine lawR_keep h (fun q hq => k S q (by omega) (by omega)) (fun q hq => k T q (by omega) (by omega)) (wfT_c (k S 10 (by decide) (by decide)) (k S 11 (by decide) (by decide)) (k S 12 (by decide) (by decide)) (k S 13 (by decide) (by decide)) h.2.1) ?_ ?_ (arch_mk ?_ ?_ rfl rfl)
  · rw [k S 14 (by decide) (by decide)]; exact h.2.2.1
  · exact isN_0 (by decide)
  · rw [k S 5 (by decide) (by decide), k T 5 (by decide) (by decide)]; exact h.a5
  · rw [k S 6 (by decide) (by decide), k T 6 (by decide) (by decide)]; exact h.a6
theorem law_run {S T S1 T1 : St} {n0 v u : Int32} (h : lawR S T)
    (hX : v = nI (itr S (wnt n0) (arch S)).2 ∧ arch S1 = (itr S (wnt n0) (arch S)).1 ∧ (∀ q, q ≤ 4 → S1 q = S q) ∧ wfT S1 ∧ isN (S1 7 0) 25 ∧ isN (S1 14 0) 8)
    (hM : u = nI (itr S (wnt n0) (arch T)).2 ∧ arch T1 = (itr S (wnt n0) (arch T)).1 ∧ (∀ q, q ≤ 4 → T1 q = T q) ∧ isN (T1 7 0) 25) : v = u ∧ lawR S1 T1 := by
  obtain ⟨x1, x2, x3, x4, x5, x6⟩ := hX
  obtain ⟨m1, m2, m3, m4⟩ := hM
  rw [h.2.2.2.2.2] at m1 m2
  exact ⟨by rw [x1, m1], lawR_keep h x3 m3 x4 x6 x5 (by rw [m2, x2])⟩
theorem law_get {f g : Nat → Int32} {b : Nat} {r v u : Int32} (h : g = f) (hX : (isN r b ∧ v = f (nt r)) ∨ (¬ isN r b ∧ v = 0)) (hM : (isN r b ∧ u = g (nt r)) ∨ (¬ isN r b ∧ u = 0)) : v = u := by
  subst h
  rcases hX with ⟨a, e⟩ | ⟨a, e⟩ <;> rcases hM with ⟨a2, e2⟩ | ⟨a2, e2⟩
  · rw [e, e2]
  · exact absurd a a2
  · exact absurd a2 a
  · rw [e, e2]
theorem law_set5 {S T S1 T1 : St} {r x v u : Int32} (h : lawR S T) (hX : (isN r 8 ∧ v = 1 ∧ S1 = sput S 5 (nt r) x) ∨ (¬ isN r 8 ∧ v = 0 ∧ S1 = S)) (hM : (isN r 8 ∧ u = 1 ∧ T1 = sput T 5 (nt r) x) ∨ (¬ isN r 8 ∧ u = 0 ∧ T1 = T)) : v = u ∧ lawR S1 T1 := by
  rcases hX with ⟨a, e, s⟩ | ⟨a, e, s⟩ <;> rcases hM with ⟨a2, e2, s2⟩ | ⟨a2, e2, s2⟩
  · subst s; subst s2
    refine ⟨by rw [e, e2], lawR_keep h (fun q hq => sput_k (by omega)) (fun q hq => sput_k (by omega)) h.2.1 h.2.2.1 h.2.2.2.1 (arch_mk ?_ h.a6 h.a7 h.a8)⟩
    rw [sput_at, sput_at, h.a5]
  · exact absurd a a2
  · exact absurd a2 a
  · subst s; subst s2; exact ⟨by rw [e, e2], h⟩
theorem law_set6 {S T S1 T1 : St} {r x v u : Int32} (h : lawR S T) (hX : (isN r 16 ∧ v = 1 ∧ S1 = sput S 6 (nt r) x) ∨ (¬ isN r 16 ∧ v = 0 ∧ S1 = S)) (hM : (isN r 16 ∧ u = 1 ∧ T1 = sput T 6 (nt r) x) ∨ (¬ isN r 16 ∧ u = 0 ∧ T1 = T)) : v = u ∧ lawR S1 T1 := by
  rcases hX with ⟨a, e, s⟩ | ⟨a, e, s⟩ <;> rcases hM with ⟨a2, e2, s2⟩ | ⟨a2, e2, s2⟩
  · subst s; subst s2
    refine ⟨by rw [e, e2], lawR_keep h (fun q hq => sput_k (by omega)) (fun q hq => sput_k (by omega)) h.2.1 h.2.2.1 h.2.2.2.1 (arch_mk h.a5 ?_ h.a7 h.a8)⟩
    rw [sput_at, sput_at, h.a6]
  · exact absurd a a2
  · exact absurd a2 a
  · subst s; subst s2; exact ⟨by rw [e, e2], h⟩
theorem law_clear {S T S1 T1 : St} (h : lawR S T) (hX : clr S S1 ∧ (∀ k, k ≠ 0 → k ≠ 5 → k ≠ 6 → k ≠ 7 → k ≠ 8 → k ≠ 10 → k ≠ 13 → S1 k = S k) ∧ (∀ j, j < 8 → S1 10 j = 0) ∧ S1 13 0 = 0) (hM : clr T T1 ∧ (∀ k, k ≠ 0 → k ≠ 5 → k ≠ 6 → k ≠ 7 → k ≠ 8 → T1 k = T k)) : lawR S1 T1 := by
  obtain ⟨⟨c0, c1, c2, c3, c4, c5, c6⟩, cs, c10, c13⟩ := hX
  obtain ⟨⟨d0, d1, d2, d3, d4, d5, d6⟩, ds⟩ := hM
  refine ⟨(wfP_0 c0).1, ⟨?_, fun j hj => by rw [c10 j hj]; exact isN_0 (by decide), ?_, by rw [c13]; exact isN_0 (by decide)⟩, ?_, by rw [c5]; exact isN_0 (by decide), prg_0 c0 d0, arch_mk (funext fun j => ?_) (funext fun j => ?_) (by rw [c5, d5]) (by rw [c6, d6])⟩
  · rw [cs 11 (by decide) (by decide) (by decide) (by decide) (by decide) (by decide) (by decide)]; exact h.2.1.1
  · rw [cs 12 (by decide) (by decide) (by decide) (by decide) (by decide) (by decide) (by decide)]; exact h.2.1.2.2.1
  · rw [cs 14 (by decide) (by decide) (by decide) (by decide) (by decide) (by decide) (by decide)]; exact h.2.2.1
  · by_cases hj : j < 8
    · rw [c1 j hj, d1 j hj]
    · rw [c2 j hj, d2 j hj, h.a5]
  · by_cases hj : j < 16
    · rw [c3 j hj, d3 j hj]
    · rw [c4 j hj, d4 j hj, h.a6]
end
section
/-! THE CLAIM OUT OF ONE WALK OF THE LAW'S BODY. Your part is whole_start (and what it stands on); all else here is the same for every law, but numbers. -/
def R_law : String := "TraceFrontEndLaw"
def lw_P (b : Addr) (xs : List Int32) (args : Array Value) (s : State) : Prop := args = #[.ref b] ∧ s.IntsAt b xs ∧ xs.length ≤ 320 ∧ (Jvm.Cond.and given_1 narrow_1).before args s = true
def lw_Q (_ : Array Value) (s : State) (o : Outcome) (t : State) : Prop := o = .returned (some (.int 1)) ∧ Framed s o t [] 600000 7290000
def lw_Z (below : List Frame) (a : Array Value) (s : State) : State → Prop := fun t => ∃ o, t.status = .running ∧ Ended t below o ∧ lw_Q a s o t
/-- the law's own end, with 1 on the stack, nothing written that was there before, its room as the claim has it -/
theorem lw_ret {p : Program} {l : Launch} {e : Env} {s : State} {m : MethodId} {below : List Frame} {meth : Method} {c : Code} {b : Nat} (hx : p.tables.exec = Jvm.exec) (hb : c.code = code) (hr : meth.sig.returnType = ret) (hlocks : meth.locks = false) {pc : Nat} {H : Heap} {ls : Array Slot} (hdg : decode code pc = .ok (.ireturn, 1)) : W p l e room_1 s m #[Value.ref b] below meth c H [] 600000 7290000 (lw_Z below #[Value.ref b] s) (F0 m pc ls [.int 1]) := by
  intro T hT X
  obtain ⟨fs, hret, hrun, hended, hW, hframe⟩ := X.leave (v := some (.int 1)) (hlocks := hlocks) (fun h => by rw [hr] at h; cases h)
  have hmeth' : T.vm.method? m = some meth := X.method'
  refine ⟨T.setFrames fs, ?_, .returned (some (.int 1)), hrun, hended, rfl, ⟨_, rfl⟩, hW, hframe⟩
  jvm_step X.here [X.here.top, hx, hb, hdg, hmeth', hr, ret, narrow_b1]
  (try refine ⟨rfl, ?_⟩); (try refine ⟨rfl, ?_⟩)
  first | (intro acts; rw [hret _ acts rfl rfl rfl]) | rw [hret _ _ rfl rfl rfl]
  exact Steps.refl _
/-- what holds at the law's entry: the machine, the code, the tables' words (any of lw_tbl by 'hts w (by decide +kernel)'), the script of L ints xs at the cell b, what the Statement gives of the start (any of its parts by flat_of_before) -/
def lw_At (p : Program) (s : State) (m : MethodId) (meth : Method) (c : Code) (b L : Nat) (xs : Nat → Int32) : Prop :=
  p.tables.exec = Jvm.exec ∧ c.code = code ∧ meth.sig.returnType = ret ∧ c.maxLocals = 4 ∧ s.vm.findClass R_law = some m.cls ∧ (∀ w ∈ lw_tbl, w.before #[Value.ref b] s = true) ∧ va_X b L xs s s.heap ∧ b < s.heap.size ∧ meth.locks = false ∧ (Jvm.Cond.and given_1 narrow_1).before #[Value.ref b] s = true
theorem mem_ad {w : va_W} {ad : List Nat} (had : w.map Prod.fst = ad) {q : Nat} : q ∈ ad ↔ ∃ (k : Nat) (e : va_E), w[k]? = some (q, e) := by
  subst had
  constructor
  · intro h
    obtain ⟨⟨q2, e2⟩, h1, h2⟩ := List.mem_map.mp h
    obtain ⟨k, hk⟩ := List.getElem?_of_mem h1
    dsimp only at h2
    subst h2
    exact ⟨k, e2, hk⟩
  · rintro ⟨k, e, h⟩
    exact List.mem_map.mpr ⟨(q, e), List.mem_of_getElem? h, rfl⟩
/-- both pictures, apart -/
def LW (D : va_G) (cs : ClassId × ClassId × ClassId) (a b : Nat → Nat) (S T : St) (A : Nat → Prop) (H0 H : Heap) (locs : List Loc) : Prop := PW D (xW cs a S) A H0 H locs ∧ va_P D vwCl (mW cs b T) H ∧ va_D A (mW cs b T) ∧ ∀ q, q ∈ xAd a → q ∉ mAd b
section LAWKIT
variable {p : Program} {l : Launch} {e : Env} {R : Room} {s : State} {m : MethodId} {args : Array Value} {below : List Frame} {meth : Method} {c : Code} {H : Heap} {locs : List Loc} {cells slots : Nat} {Q : State → Prop}
variable {cc : ByteArray} {pc : Nat} {ls : Array Slot} {rest : List Value} {D : va_G} {cs : ClassId × ClassId × ClassId} {a : Nat → Nat} {S : St} {A : Nat → Prop} {H0 : Heap}
variable {b : Nat → Nat} {T : St}
theorem LW.pm (h : LW D cs a b S T A H0 H locs) : PW D (mW cs b T) A H0 H locs := ⟨h.2.1, h.2.2.1, h.1.2.2⟩
theorem LW.xx {S1 : St} {H1 : Heap} {locs1 : List Loc} (h : LW D cs a b S T A H0 H locs) (hW : PW D (xW cs a S1) A H0 H1 locs1) (hk : ∀ q : Nat, q < H.size → ¬ wA (xAd a) H.size q → H1[q]? = H[q]?) : LW D cs a b S1 T A H0 H1 locs1 := by
  refine ⟨hW, h.2.1.kept (fun k x hx => hk x.1 (h.2.1 k x hx).lt (fun w => ?_)), h.2.2.1, h.2.2.2⟩
  rcases w with w | w
  · exact h.2.2.2 _ w ((mem_ad (mAd_eq T)).mpr ⟨k, x.2, hx⟩)
  · have := (h.2.1 k x hx).lt
    omega
theorem LW.mm {T1 : St} {H1 : Heap} {locs1 : List Loc} (h : LW D cs a b S T A H0 H locs) (hW : PW D (mW cs b T1) A H0 H1 locs1) (hk : ∀ q : Nat, q < H.size → ¬ wA (mAd b) H.size q → H1[q]? = H[q]?) : LW D cs a b S T1 A H0 H1 locs1 := by
  refine ⟨⟨h.1.1.kept (fun k x hx => hk x.1 (h.1.1 k x hx).lt (fun w => ?_)), h.1.2.1, hW.2.2⟩, hW.1, hW.2.1, h.2.2.2⟩
  rcases w with w | w
  · exact h.2.2.2 _ ((mem_ad (xAd_eq S)).mpr ⟨k, x.2, hx⟩) w
  · have := (h.1.1 k x hx).lt
    omega
theorem LW.mk {qm : Nat} {H1 : Heap} {locs1 : List Loc} (hX : va_P D vwCl (xW cs a S) H) (hD : va_D A (xW cs a S)) (hqm : qm ∉ xAd a) (hF : ∀ q, wA [qm] H.size q → A q) (hk : ∀ q : Nat, q < H.size → ¬ wA [qm] H.size q → H1[q]? = H[q]?) (hM : va_P D vwCl (mW cs b T) H1) (hDM : va_D (wA [qm] H.size) (mW cs b T)) (hS : va_S A H0 H1 locs1) : LW D cs a b S T A H0 H1 locs1 := by
  have hlt : ∀ q, q ∈ xAd a → q < H.size ∧ q ≠ qm := fun q hq => by
    refine ⟨?_, fun e => hqm (e ▸ hq)⟩
    obtain ⟨k, e, hk⟩ := (mem_ad (xAd_eq (cs := cs) S)).mp hq
    exact (hX k _ hk).lt
  have hno : ∀ q, q ∈ xAd a → ¬ wA [qm] H.size q := fun q hq w => by
    obtain ⟨l1, l2⟩ := hlt q hq
    rcases w with w | w
    · exact l2 (List.mem_singleton.mp w)
    · omega
  refine ⟨⟨hX.kept (fun k x hx => ?_), hD, hS⟩, hM, hDM.weaken (fun _ q _ h => hF q.1 h), fun q hq w => ?_⟩
  · have hm := (mem_ad (xAd_eq (cs := cs) S)).mpr ⟨k, x.2, hx⟩
    exact hk x.1 (hlt _ hm).1 (hno _ hm)
  · obtain ⟨k, e, hk⟩ := (mem_ad (mAd_eq (cs := cs) T)).mp w
    exact hno q hq (hDM.2 k _ hk)
/-- the script's numbers -/
theorem x_sld {C : String} (E : XE C p s m args c cc D cs) {b0 L : Nat} {xs : Nat → Int32} (hX : va_X b0 L xs s H0) (hbl : b0 < H0.size) (hbA : ¬ A b0) (hS : va_S A H0 H locs) {i : Int32} {j : Nat} (hi : i = nI j) (hj : j < L) (hL : L ≤ 320) (hdg : decode cc pc = .ok (.iaload, 1))
    (kk : W p l e R s m args below meth c H locs cells slots Q (F0 m (pc + 1) ls (.int (xs j) :: rest))) : W p l e R s m args below meth c H locs cells slots Q (F0 m pc ls (.int i :: .ref b0 :: rest)) := by
  subst hi
  refine va_sld E.1 E.2.1 hX hbl hbA hS (vp_in_nI hj (by omega)) hdg ?_
  rw [nI_clamp (by omega)]
  exact kk
end LAWKIT
theorem x_inc5 (k : Nat) : nI k + Int32.ofInt 5 = nI (k + 5) := nI_add k 5
theorem law_go {k L : Nat} (hk : k ≤ 320) (hL : L ≤ 320) (h : ¬ nI L - nI 5 < nI k) : k + 5 ≤ L := by
  have h1 : ¬ (nI L - nI 5).toInt < (nI k).toInt := fun q => h (Int32.lt_iff_toInt_lt.mpr q)
  rw [pk_sub_toInt (by omega) (by omega), nI_toInt (by omega)] at h1
  omega
end
section
set_option maxRecDepth 100000
set_option maxHeartbeats 8000000 in
theorem law_loop {p : Program} {e : Env} {s : State} {m : MethodId} {below : List Frame} {meth : Method} {c : Code} (l : Launch) {b0 L : Nat} {xs : Nat → Int32} (hL : L ≤ 320) (C0 : lw_At p s m meth c b0 L xs) {D : va_G} {cs : ClassId × ClassId × ClassId} (hK : va_K D vwCl (kT cs) s) {a b : Nat → Nat} :
    ∀ (f k : Nat) (S T : St) (H : Heap) (locs : List Loc) (ls : Array Slot), L < k + f → k ≤ L → lawR S T → LW D cs a b S T (fun q : Nat => s.heap.size ≤ q) s.heap H locs → lv_has ls 4 [(0, .ref b0), (1, .ref (a 0)), (2, .ref (b 0)), (3, .int (nI k))] → W p l e room_1 s m #[Value.ref b0] below meth c H locs 30 434 (lw_Z below #[Value.ref b0] s) (F0 m 18 ls []) := by
  obtain ⟨hx, hb, hr, hml, hown, hts, hX, hbl, hlocks, -⟩ := id C0
  have hA : ∀ q : Nat, s.heap.size ≤ q → (fun q : Nat => s.heap.size ≤ q) q := fun _ h => h
  have hbA : ¬ (fun q : Nat => s.heap.size ≤ q) b0 := Nat.not_le.mpr hbl
  have E : XE R_law p s m #[Value.ref b0] c code D cs := ⟨hx, hb, hown, fun w h => hts w (lw_all_tbl h), hK⟩
  intro f
  induction f with
  | zero =>
    intro k S T H locs ls hf hk
    exact absurd hf (by omega)
  | succ f ih =>
    intro k S T H locs ls hf hkL hR hLW hl
    refine lv_iload_n E.1 E.2.1 dL_law_18 rfl (lv_at hl 3 rfl) ?_
    refine lv_aload_n E.1 E.2.1 dL_law_19 rfl (lv_at hl 0 rfl) ?_
    refine va_slen E.1 E.2.1 hX hbl hbA hLW.1.2.2 dL_law_20 ?_
    refine x_top (y := nI L) rfl ?_
    refine lv_iconst (v := nI 5) E.1 E.2.1 dL_law_21 (by decide) ?_
    refine lv_isub E.1 E.2.1 dL_law_22 ?_
    refine lv_icmp_gt (tgt := 367) E.1 E.2.1 dL_law_23 (by decide) (fun hgo => ?_) (fun hgo => ?_)
    · refine lv_iconst (v := 1) E.1 E.2.1 dL_law_367 (by decide) ?_
      refine va_forget (fun q hq => hLW.1.2.2.2.2 q hq) ?_
      refine W.widen (k := 600000) (n := 7290000) (by decide) (by decide) ?_
      exact lw_ret hx hb hr hlocks dL_law_368
    have hgo : k + 5 ≤ L := law_go (by omega) hL hgo
    refine lv_aload_n E.1 E.2.1 dL_law_26 rfl (lv_at hl 0 rfl) ?_
    refine lv_iload_n E.1 E.2.1 dL_law_27 rfl (lv_at hl 3 rfl) ?_
    refine x_sld E hX hbl hbA hLW.1.2.2 (j := k) rfl (by omega) hL dL_law_28 ?_
    obtain ⟨j, hj, ej⟩ := pk_andE (xs k) (m := 15) 4 (by decide)
    refine lv_bipush (v := 15) E.1 E.2.1 dL_law_29 (by decide) ?_
    refine lv_iand E.1 E.2.1 dL_law_31 ?_
    refine x_top (y := nI j) (ej) ?_
    have hj : j < 16 := hj
    rcases (show j = 0 ∨ j = 1 ∨ j = 2 ∨ j = 3 ∨ j = 4 ∨ j = 5 ∨ j = 6 ∨ j = 7 ∨ j = 8 ∨ j = 9 ∨ j = 10 ∨ 11 ≤ j by omega) with rfl | rfl | rfl | rfl | rfl | rfl | rfl | rfl | rfl | rfl | rfl | hj11
    · refine lv_tableIn (x := nI 0) (off := 60) (tgt := 92) E.1 E.2.1 dL_law_32 (by decide) (by decide) (by decide) (by decide) ?_
      refine lv_aload_n E.1 E.2.1 dL_law_92 rfl (lv_at hl 1 rfl) ?_
      refine lv_aload_n E.1 E.2.1 dL_law_93 rfl (lv_at hl 0 rfl) ?_
      refine lv_iload_n E.1 E.2.1 dL_law_94 rfl (lv_at hl 3 rfl) ?_
      refine lv_iconst (v := nI 1) E.1 E.2.1 dL_law_95 (by decide) ?_
      refine lv_iadd E.1 E.2.1 dL_law_96 ?_
      refine x_top (y := nI (k + 1)) (nI_add _ _) ?_
      refine x_sld E hX hbl hbA hLW.1.2.2 (j := (k + 1)) rfl (by omega) hL dL_law_97 ?_
      refine lv_aload_n E.1 E.2.1 dL_law_98 rfl (lv_at hl 0 rfl) ?_
      refine lv_iload_n E.1 E.2.1 dL_law_99 rfl (lv_at hl 3 rfl) ?_
      refine lv_iconst (v := nI 2) E.1 E.2.1 dL_law_100 (by decide) ?_
      refine lv_iadd E.1 E.2.1 dL_law_101 ?_
      refine x_top (y := nI (k + 2)) (nI_add _ _) ?_
      refine x_sld E hX hbl hbA hLW.1.2.2 (j := (k + 2)) rfl (by omega) hL dL_law_102 ?_
      refine lv_aload_n E.1 E.2.1 dL_law_103 rfl (lv_at hl 0 rfl) ?_
      refine lv_iload_n E.1 E.2.1 dL_law_104 rfl (lv_at hl 3 rfl) ?_
      refine lv_iconst (v := nI 3) E.1 E.2.1 dL_law_105 (by decide) ?_
      refine lv_iadd E.1 E.2.1 dL_law_106 ?_
      refine x_top (y := nI (k + 3)) (nI_add _ _) ?_
      refine x_sld E hX hbl hbA hLW.1.2.2 (j := (k + 3)) rfl (by omega) hL dL_law_107 ?_
      refine lv_aload_n E.1 E.2.1 dL_law_108 rfl (lv_at hl 0 rfl) ?_
      refine lv_iload_n E.1 E.2.1 dL_law_109 rfl (lv_at hl 3 rfl) ?_
      refine lv_iconst (v := nI 4) E.1 E.2.1 dL_law_110 (by decide) ?_
      refine lv_iadd E.1 E.2.1 dL_law_111 ?_
      refine x_top (y := nI (k + 4)) (nI_add _ _) ?_
      refine x_sld E hX hbl hbA hLW.1.2.2 (j := (k + 4)) rfl (by omega) hL dL_law_112 ?_
      refine ci_call (w := xW cs a) (ad := xAd a) (ci := 0) E hml hl.1 hLW.1 xAd_eq hA (tX_emit l D cs a S (len S) (xs (k + 1)) (xs (k + 2)) (xs (k + 3)) (xs (k + 4)) hR.1.2.1 hR.1.1) (cwV 4 E.2.2.2.1 (lw_V q136 q137 q138 q24 q139) rfl rfl rfl (by decide +kernel) ⟨Nat.le_of_ble_eq_true rfl, Nat.le_of_ble_eq_true rfl⟩) rfl rfl rfl rfl rfl (Nat.le_of_ble_eq_true rfl) dL_law_113 ⟨Nat.le_of_ble_eq_true rfl, Nat.le_of_ble_eq_true rfl⟩ (fun v S1 H1 locs1 hpX hW hkp _ => ?_)
      have hLW := hLW.xx hW hkp
      refine lv_aload_n E.1 E.2.1 dL_law_116 rfl (lv_at hl 2 rfl) ?_
      refine lv_aload_n E.1 E.2.1 dL_law_117 rfl (lv_at hl 0 rfl) ?_
      refine lv_iload_n E.1 E.2.1 dL_law_118 rfl (lv_at hl 3 rfl) ?_
      refine lv_iconst (v := nI 1) E.1 E.2.1 dL_law_119 (by decide) ?_
      refine lv_iadd E.1 E.2.1 dL_law_120 ?_
      refine x_top (y := nI (k + 1)) (nI_add _ _) ?_
      refine x_sld E hX hbl hbA hLW.1.2.2 (j := (k + 1)) rfl (by omega) hL dL_law_121 ?_
      refine lv_aload_n E.1 E.2.1 dL_law_122 rfl (lv_at hl 0 rfl) ?_
      refine lv_iload_n E.1 E.2.1 dL_law_123 rfl (lv_at hl 3 rfl) ?_
      refine lv_iconst (v := nI 2) E.1 E.2.1 dL_law_124 (by decide) ?_
      refine lv_iadd E.1 E.2.1 dL_law_125 ?_
      refine x_top (y := nI (k + 2)) (nI_add _ _) ?_
      refine x_sld E hX hbl hbA hLW.1.2.2 (j := (k + 2)) rfl (by omega) hL dL_law_126 ?_
      refine lv_aload_n E.1 E.2.1 dL_law_127 rfl (lv_at hl 0 rfl) ?_
      refine lv_iload_n E.1 E.2.1 dL_law_128 rfl (lv_at hl 3 rfl) ?_
      refine lv_iconst (v := nI 3) E.1 E.2.1 dL_law_129 (by decide) ?_
      refine lv_iadd E.1 E.2.1 dL_law_130 ?_
      refine x_top (y := nI (k + 3)) (nI_add _ _) ?_
      refine x_sld E hX hbl hbA hLW.1.2.2 (j := (k + 3)) rfl (by omega) hL dL_law_131 ?_
      refine lv_aload_n E.1 E.2.1 dL_law_132 rfl (lv_at hl 0 rfl) ?_
      refine lv_iload_n E.1 E.2.1 dL_law_133 rfl (lv_at hl 3 rfl) ?_
      refine lv_iconst (v := nI 4) E.1 E.2.1 dL_law_134 (by decide) ?_
      refine lv_iadd E.1 E.2.1 dL_law_135 ?_
      refine x_top (y := nI (k + 4)) (nI_add _ _) ?_
      refine x_sld E hX hbl hbA hLW.1.2.2 (j := (k + 4)) rfl (by omega) hL dL_law_136 ?_
      refine ci_call (w := mW cs b) (ad := mAd b) (ci := 1) E hml hl.1 hLW.pm mAd_eq hA (tM_emit l D cs b T (len S) (xs (k + 1)) (xs (k + 2)) (xs (k + 3)) (xs (k + 4)) hR.1.2.1 (by rw [hR.2.2.2.2.1.1]; exact hR.1.1)) (cwV 4 E.2.2.2.1 (lw_V q283 q284 q285 q25 q286) rfl rfl rfl (by decide +kernel) ⟨Nat.le_of_ble_eq_true rfl, Nat.le_of_ble_eq_true rfl⟩) rfl rfl rfl rfl rfl (Nat.le_of_ble_eq_true rfl) dL_law_137 ⟨Nat.le_of_ble_eq_true rfl, Nat.le_of_ble_eq_true rfl⟩ (fun u T1 H1 locs1 hpM hW hkp _ => ?_)
      have hLW := hLW.mm hW hkp
      have hfin := law_emit hR hpX hpM
      refine lv_icmp_eq (tgt := 361) E.1 E.2.1 dL_law_140 (by decide) (fun _ => ?_) (fun h => absurd (hfin.1) h)
      refine xl_iinc (v := nI (k + 5)) (lv' := [(0, _), (1, _), (2, _), (3, _)]) E dL_law_361 hl (k := 3) rfl (x_inc5 k) (by decide) [1, 2, 3, 0] rfl (fun ls hl => ?_)
      refine lv_goto (tgt := 18) E.1 E.2.1 dL_law_364 (by decide) ?_
      exact ih (k + 5) _ _ _ _ _ (by omega) (by omega) (hfin.2) hLW hl
    · refine lv_tableIn (x := nI 1) (off := 113) (tgt := 145) E.1 E.2.1 dL_law_32 (by decide) (by decide) (by decide) (by decide) ?_
      refine lv_aload_n E.1 E.2.1 dL_law_145 rfl (lv_at hl 1 rfl) ?_
      refine lv_aload_n E.1 E.2.1 dL_law_146 rfl (lv_at hl 0 rfl) ?_
      refine lv_iload_n E.1 E.2.1 dL_law_147 rfl (lv_at hl 3 rfl) ?_
      refine lv_iconst (v := nI 1) E.1 E.2.1 dL_law_148 (by decide) ?_
      refine lv_iadd E.1 E.2.1 dL_law_149 ?_
      refine x_top (y := nI (k + 1)) (nI_add _ _) ?_
      refine x_sld E hX hbl hbA hLW.1.2.2 (j := (k + 1)) rfl (by omega) hL dL_law_150 ?_
      refine lv_aload_n E.1 E.2.1 dL_law_151 rfl (lv_at hl 0 rfl) ?_
      refine lv_iload_n E.1 E.2.1 dL_law_152 rfl (lv_at hl 3 rfl) ?_
      refine lv_iconst (v := nI 2) E.1 E.2.1 dL_law_153 (by decide) ?_
      refine lv_iadd E.1 E.2.1 dL_law_154 ?_
      refine x_top (y := nI (k + 2)) (nI_add _ _) ?_
      refine x_sld E hX hbl hbA hLW.1.2.2 (j := (k + 2)) rfl (by omega) hL dL_law_155 ?_
      refine ci_call (w := xW cs a) (ad := xAd a) (ci := 0) E hml hl.1 hLW.1 xAd_eq hA (tX_amend l D cs a S (len S) (xs (k + 1)) (xs (k + 2)) hR.1.2.1 hR.1.1 (fun j hj => (hR.1.2.2 j hj).1)) (cwV 2 E.2.2.2.1 (lw_V q148 q149 q150 q24 q151) rfl rfl rfl (by decide +kernel) ⟨Nat.le_of_ble_eq_true rfl, Nat.le_of_ble_eq_true rfl⟩) rfl rfl rfl rfl rfl (Nat.le_of_ble_eq_true rfl) dL_law_156 ⟨Nat.le_of_ble_eq_true rfl, Nat.le_of_ble_eq_true rfl⟩ (fun v S1 H1 locs1 hpX hW hkp _ => ?_)
      have hLW := hLW.xx hW hkp
      refine lv_aload_n E.1 E.2.1 dL_law_159 rfl (lv_at hl 2 rfl) ?_
      refine lv_aload_n E.1 E.2.1 dL_law_160 rfl (lv_at hl 0 rfl) ?_
      refine lv_iload_n E.1 E.2.1 dL_law_161 rfl (lv_at hl 3 rfl) ?_
      refine lv_iconst (v := nI 1) E.1 E.2.1 dL_law_162 (by decide) ?_
      refine lv_iadd E.1 E.2.1 dL_law_163 ?_
      refine x_top (y := nI (k + 1)) (nI_add _ _) ?_
      refine x_sld E hX hbl hbA hLW.1.2.2 (j := (k + 1)) rfl (by omega) hL dL_law_164 ?_
      refine lv_aload_n E.1 E.2.1 dL_law_165 rfl (lv_at hl 0 rfl) ?_
      refine lv_iload_n E.1 E.2.1 dL_law_166 rfl (lv_at hl 3 rfl) ?_
      refine lv_iconst (v := nI 2) E.1 E.2.1 dL_law_167 (by decide) ?_
      refine lv_iadd E.1 E.2.1 dL_law_168 ?_
      refine x_top (y := nI (k + 2)) (nI_add _ _) ?_
      refine x_sld E hX hbl hbA hLW.1.2.2 (j := (k + 2)) rfl (by omega) hL dL_law_169 ?_
      refine ci_call (w := mW cs b) (ad := mAd b) (ci := 1) E hml hl.1 hLW.pm mAd_eq hA (tM_amend l D cs b T (len S) (xs (k + 1)) (xs (k + 2)) hR.1.2.1 (by rw [hR.2.2.2.2.1.1]; exact hR.1.1) (fun j hj => by rw [(hR.2.2.2.2.1.2 j hj).1]; exact (hR.1.2.2 j hj).1)) (cwV 2 E.2.2.2.1 (lw_V q299 q300 q301 q25 q302) rfl rfl rfl (by decide +kernel) ⟨Nat.le_of_ble_eq_true rfl, Nat.le_of_ble_eq_true rfl⟩) rfl rfl rfl rfl rfl (Nat.le_of_ble_eq_true rfl) dL_law_170 ⟨Nat.le_of_ble_eq_true rfl, Nat.le_of_ble_eq_true rfl⟩ (fun u T1 H1 locs1 hpM hW hkp _ => ?_)
      have hLW := hLW.mm hW hkp
      have hfin := law_amend hR hpX hpM
      refine lv_icmp_eq (tgt := 361) E.1 E.2.1 dL_law_173 (by decide) (fun _ => ?_) (fun h => absurd (hfin.1) h)
      refine xl_iinc (v := nI (k + 5)) (lv' := [(0, _), (1, _), (2, _), (3, _)]) E dL_law_361 hl (k := 3) rfl (x_inc5 k) (by decide) [1, 2, 3, 0] rfl (fun ls hl => ?_)
      refine lv_goto (tgt := 18) E.1 E.2.1 dL_law_364 (by decide) ?_
      exact ih (k + 5) _ _ _ _ _ (by omega) (by omega) (hfin.2) hLW hl
    · refine lv_tableIn (x := nI 2) (off := 146) (tgt := 178) E.1 E.2.1 dL_law_32 (by decide) (by decide) (by decide) (by decide) ?_
      refine lv_aload_n E.1 E.2.1 dL_law_178 rfl (lv_at hl 1 rfl) ?_
      refine cv_call (w := xW cs a) (ad := xAd a) (ci := 0) E hml hl.1 hLW.1 xAd_eq hA (tX_restart l D cs a S) (cwV 0 E.2.2.2.1 (lw_V q152 q153 q154 q24 q155) rfl rfl rfl (by decide +kernel) ⟨Nat.le_of_ble_eq_true rfl, Nat.le_of_ble_eq_true rfl⟩) rfl rfl rfl rfl rfl (Nat.le_of_ble_eq_true rfl) dL_law_179 ⟨Nat.le_of_ble_eq_true rfl, Nat.le_of_ble_eq_true rfl⟩ (fun S1 H1 locs1 hpX hW hkp _ => ?_)
      have hLW := hLW.xx hW hkp
      refine lv_aload_n E.1 E.2.1 dL_law_182 rfl (lv_at hl 2 rfl) ?_
      refine cv_call (w := mW cs b) (ad := mAd b) (ci := 1) E hml hl.1 hLW.pm mAd_eq hA (tM_restart l D cs b T) (cwV 0 E.2.2.2.1 (lw_V q303 q304 q305 q25 q306) rfl rfl rfl (by decide +kernel) ⟨Nat.le_of_ble_eq_true rfl, Nat.le_of_ble_eq_true rfl⟩) rfl rfl rfl rfl rfl (Nat.le_of_ble_eq_true rfl) dL_law_183 ⟨Nat.le_of_ble_eq_true rfl, Nat.le_of_ble_eq_true rfl⟩ (fun T1 H1 locs1 hpM hW hkp _ => ?_)
      have hLW := hLW.mm hW hkp
      subst hpX; subst hpM
      refine lv_goto (tgt := 361) E.1 E.2.1 dL_law_186 (by decide) ?_
      refine xl_iinc (v := nI (k + 5)) (lv' := [(0, _), (1, _), (2, _), (3, _)]) E dL_law_361 hl (k := 3) rfl (x_inc5 k) (by decide) [1, 2, 3, 0] rfl (fun ls hl => ?_)
      refine lv_goto (tgt := 18) E.1 E.2.1 dL_law_364 (by decide) ?_
      exact ih (k + 5) _ _ _ _ _ (by omega) (by omega) (law_restart hR) hLW hl
    · refine lv_tableIn (x := nI 3) (off := 157) (tgt := 189) E.1 E.2.1 dL_law_32 (by decide) (by decide) (by decide) (by decide) ?_
      refine lv_aload_n E.1 E.2.1 dL_law_189 rfl (lv_at hl 1 rfl) ?_
      refine lv_aload_n E.1 E.2.1 dL_law_190 rfl (lv_at hl 0 rfl) ?_
      refine lv_iload_n E.1 E.2.1 dL_law_191 rfl (lv_at hl 3 rfl) ?_
      refine lv_iconst (v := nI 1) E.1 E.2.1 dL_law_192 (by decide) ?_
      refine lv_iadd E.1 E.2.1 dL_law_193 ?_
      refine x_top (y := nI (k + 1)) (nI_add _ _) ?_
      refine x_sld E hX hbl hbA hLW.1.2.2 (j := (k + 1)) rfl (by omega) hL dL_law_194 ?_
      refine ci_call (w := xW cs a) (ad := xAd a) (ci := 0) E hml hl.1 hLW.1 xAd_eq hA (tX_run l D cs a S (xs (k + 1)) hR.1 hR.2.1 hR.2.2.1 hR.2.2.2.1) (cwV 1 E.2.2.2.1 (lw_V q156 q157 q158 q24 q159) rfl rfl rfl (by decide +kernel) ⟨Nat.le_of_ble_eq_true rfl, Nat.le_of_ble_eq_true rfl⟩) rfl rfl rfl rfl rfl (Nat.le_of_ble_eq_true rfl) dL_law_195 ⟨Nat.le_of_ble_eq_true rfl, Nat.le_of_ble_eq_true rfl⟩ (fun v S1 H1 locs1 hpX hW hkp _ => ?_)
      have hLW := hLW.xx hW hkp
      refine lv_aload_n E.1 E.2.1 dL_law_198 rfl (lv_at hl 2 rfl) ?_
      refine lv_aload_n E.1 E.2.1 dL_law_199 rfl (lv_at hl 0 rfl) ?_
      refine lv_iload_n E.1 E.2.1 dL_law_200 rfl (lv_at hl 3 rfl) ?_
      refine lv_iconst (v := nI 1) E.1 E.2.1 dL_law_201 (by decide) ?_
      refine lv_iadd E.1 E.2.1 dL_law_202 ?_
      refine x_top (y := nI (k + 1)) (nI_add _ _) ?_
      refine x_sld E hX hbl hbA hLW.1.2.2 (j := (k + 1)) rfl (by omega) hL dL_law_203 ?_
      refine ci_call (w := mW cs b) (ad := mAd b) (ci := 1) E hml hl.1 hLW.pm mAd_eq hA (tM_run l D cs b T S (xs (k + 1)) hR.1 hR.2.2.2.2.1 (by rw [hR.a7]; exact hR.2.2.2.1)) (cwV 1 E.2.2.2.1 (lw_V q307 q308 q309 q25 q310) rfl rfl rfl (by decide +kernel) ⟨Nat.le_of_ble_eq_true rfl, Nat.le_of_ble_eq_true rfl⟩) rfl rfl rfl rfl rfl (Nat.le_of_ble_eq_true rfl) dL_law_204 ⟨Nat.le_of_ble_eq_true rfl, Nat.le_of_ble_eq_true rfl⟩ (fun u T1 H1 locs1 hpM hW hkp _ => ?_)
      have hLW := hLW.mm hW hkp
      have hfin := law_run hR hpX hpM
      refine lv_icmp_eq (tgt := 361) E.1 E.2.1 dL_law_207 (by decide) (fun _ => ?_) (fun h => absurd (hfin.1) h)
      refine xl_iinc (v := nI (k + 5)) (lv' := [(0, _), (1, _), (2, _), (3, _)]) E dL_law_361 hl (k := 3) rfl (x_inc5 k) (by decide) [1, 2, 3, 0] rfl (fun ls hl => ?_)
      refine lv_goto (tgt := 18) E.1 E.2.1 dL_law_364 (by decide) ?_
      exact ih (k + 5) _ _ _ _ _ (by omega) (by omega) (hfin.2) hLW hl
    · refine lv_tableIn (x := nI 4) (off := 180) (tgt := 212) E.1 E.2.1 dL_law_32 (by decide) (by decide) (by decide) (by decide) ?_
      refine lv_aload_n E.1 E.2.1 dL_law_212 rfl (lv_at hl 1 rfl) ?_
      refine lv_aload_n E.1 E.2.1 dL_law_213 rfl (lv_at hl 0 rfl) ?_
      refine lv_iload_n E.1 E.2.1 dL_law_214 rfl (lv_at hl 3 rfl) ?_
      refine lv_iconst (v := nI 1) E.1 E.2.1 dL_law_215 (by decide) ?_
      refine lv_iadd E.1 E.2.1 dL_law_216 ?_
      refine x_top (y := nI (k + 1)) (nI_add _ _) ?_
      refine x_sld E hX hbl hbA hLW.1.2.2 (j := (k + 1)) rfl (by omega) hL dL_law_217 ?_
      refine ci_call (w := xW cs a) (ad := xAd a) (ci := 0) E hml hl.1 hLW.1 xAd_eq hA (tX_register l D cs a S (xs (k + 1))) (cwV 1 E.2.2.2.1 (lw_V q220 q221 q222 q24 q223) rfl rfl rfl (by decide +kernel) ⟨Nat.le_of_ble_eq_true rfl, Nat.le_of_ble_eq_true rfl⟩) rfl rfl rfl rfl rfl (Nat.le_of_ble_eq_true rfl) dL_law_218 ⟨Nat.le_of_ble_eq_true rfl, Nat.le_of_ble_eq_true rfl⟩ (fun v S1 H1 locs1 hpX hW hkp _ => ?_)
      have hLW := hLW.xx hW hkp
      refine lv_aload_n E.1 E.2.1 dL_law_221 rfl (lv_at hl 2 rfl) ?_
      refine lv_aload_n E.1 E.2.1 dL_law_222 rfl (lv_at hl 0 rfl) ?_
      refine lv_iload_n E.1 E.2.1 dL_law_223 rfl (lv_at hl 3 rfl) ?_
      refine lv_iconst (v := nI 1) E.1 E.2.1 dL_law_224 (by decide) ?_
      refine lv_iadd E.1 E.2.1 dL_law_225 ?_
      refine x_top (y := nI (k + 1)) (nI_add _ _) ?_
      refine x_sld E hX hbl hbA hLW.1.2.2 (j := (k + 1)) rfl (by omega) hL dL_law_226 ?_
      refine ci_call (w := mW cs b) (ad := mAd b) (ci := 1) E hml hl.1 hLW.pm mAd_eq hA (tM_register l D cs b T (xs (k + 1))) (cwV 1 E.2.2.2.1 (lw_V q315 q316 q317 q25 q318) rfl rfl rfl (by decide +kernel) ⟨Nat.le_of_ble_eq_true rfl, Nat.le_of_ble_eq_true rfl⟩) rfl rfl rfl rfl rfl (Nat.le_of_ble_eq_true rfl) dL_law_227 ⟨Nat.le_of_ble_eq_true rfl, Nat.le_of_ble_eq_true rfl⟩ (fun u T1 H1 locs1 hpM hW hkp _ => ?_)
      have hLW := hLW.mm hW hkp
      have hfin : v = u ∧ lawR S1 T1 := by
        obtain ⟨e1, hpX⟩ := hpX
        obtain ⟨e2, hpM⟩ := hpM
        subst e1; subst e2
        exact ⟨law_get hR.a5 hpX hpM, hR⟩
      refine lv_icmp_eq (tgt := 361) E.1 E.2.1 dL_law_230 (by decide) (fun _ => ?_) (fun h => absurd (hfin.1) h)
      refine xl_iinc (v := nI (k + 5)) (lv' := [(0, _), (1, _), (2, _), (3, _)]) E dL_law_361 hl (k := 3) rfl (x_inc5 k) (by decide) [1, 2, 3, 0] rfl (fun ls hl => ?_)
      refine lv_goto (tgt := 18) E.1 E.2.1 dL_law_364 (by decide) ?_
      exact ih (k + 5) _ _ _ _ _ (by omega) (by omega) (hfin.2) hLW hl
    · refine lv_tableIn (x := nI 5) (off := 203) (tgt := 235) E.1 E.2.1 dL_law_32 (by decide) (by decide) (by decide) (by decide) ?_
      refine lv_aload_n E.1 E.2.1 dL_law_235 rfl (lv_at hl 1 rfl) ?_
      refine lv_aload_n E.1 E.2.1 dL_law_236 rfl (lv_at hl 0 rfl) ?_
      refine lv_iload_n E.1 E.2.1 dL_law_237 rfl (lv_at hl 3 rfl) ?_
      refine lv_iconst (v := nI 1) E.1 E.2.1 dL_law_238 (by decide) ?_
      refine lv_iadd E.1 E.2.1 dL_law_239 ?_
      refine x_top (y := nI (k + 1)) (nI_add _ _) ?_
      refine x_sld E hX hbl hbA hLW.1.2.2 (j := (k + 1)) rfl (by omega) hL dL_law_240 ?_
      refine lv_aload_n E.1 E.2.1 dL_law_241 rfl (lv_at hl 0 rfl) ?_
      refine lv_iload_n E.1 E.2.1 dL_law_242 rfl (lv_at hl 3 rfl) ?_
      refine lv_iconst (v := nI 2) E.1 E.2.1 dL_law_243 (by decide) ?_
      refine lv_iadd E.1 E.2.1 dL_law_244 ?_
      refine x_top (y := nI (k + 2)) (nI_add _ _) ?_
      refine x_sld E hX hbl hbA hLW.1.2.2 (j := (k + 2)) rfl (by omega) hL dL_law_245 ?_
      refine ci_call (w := xW cs a) (ad := xAd a) (ci := 0) E hml hl.1 hLW.1 xAd_eq hA (tX_setRegister l D cs a S (xs (k + 1)) (xs (k + 2))) (cwV 2 E.2.2.2.1 (lw_V q224 q225 q226 q24 q227) rfl rfl rfl (by decide +kernel) ⟨Nat.le_of_ble_eq_true rfl, Nat.le_of_ble_eq_true rfl⟩) rfl rfl rfl rfl rfl (Nat.le_of_ble_eq_true rfl) dL_law_246 ⟨Nat.le_of_ble_eq_true rfl, Nat.le_of_ble_eq_true rfl⟩ (fun v S1 H1 locs1 hpX hW hkp _ => ?_)
      have hLW := hLW.xx hW hkp
      refine lv_aload_n E.1 E.2.1 dL_law_249 rfl (lv_at hl 2 rfl) ?_
      refine lv_aload_n E.1 E.2.1 dL_law_250 rfl (lv_at hl 0 rfl) ?_
      refine lv_iload_n E.1 E.2.1 dL_law_251 rfl (lv_at hl 3 rfl) ?_
      refine lv_iconst (v := nI 1) E.1 E.2.1 dL_law_252 (by decide) ?_
      refine lv_iadd E.1 E.2.1 dL_law_253 ?_
      refine x_top (y := nI (k + 1)) (nI_add _ _) ?_
      refine x_sld E hX hbl hbA hLW.1.2.2 (j := (k + 1)) rfl (by omega) hL dL_law_254 ?_
      refine lv_aload_n E.1 E.2.1 dL_law_255 rfl (lv_at hl 0 rfl) ?_
      refine lv_iload_n E.1 E.2.1 dL_law_256 rfl (lv_at hl 3 rfl) ?_
      refine lv_iconst (v := nI 2) E.1 E.2.1 dL_law_257 (by decide) ?_
      refine lv_iadd E.1 E.2.1 dL_law_258 ?_
      refine x_top (y := nI (k + 2)) (nI_add _ _) ?_
      refine x_sld E hX hbl hbA hLW.1.2.2 (j := (k + 2)) rfl (by omega) hL dL_law_259 ?_
      refine ci_call (w := mW cs b) (ad := mAd b) (ci := 1) E hml hl.1 hLW.pm mAd_eq hA (tM_setRegister l D cs b T (xs (k + 1)) (xs (k + 2))) (cwV 2 E.2.2.2.1 (lw_V q319 q320 q321 q25 q322) rfl rfl rfl (by decide +kernel) ⟨Nat.le_of_ble_eq_true rfl, Nat.le_of_ble_eq_true rfl⟩) rfl rfl rfl rfl rfl (Nat.le_of_ble_eq_true rfl) dL_law_260 ⟨Nat.le_of_ble_eq_true rfl, Nat.le_of_ble_eq_true rfl⟩ (fun u T1 H1 locs1 hpM hW hkp _ => ?_)
      have hLW := hLW.mm hW hkp
      have hfin := law_set5 hR hpX hpM
      refine lv_icmp_eq (tgt := 361) E.1 E.2.1 dL_law_263 (by decide) (fun _ => ?_) (fun h => absurd (hfin.1) h)
      refine xl_iinc (v := nI (k + 5)) (lv' := [(0, _), (1, _), (2, _), (3, _)]) E dL_law_361 hl (k := 3) rfl (x_inc5 k) (by decide) [1, 2, 3, 0] rfl (fun ls hl => ?_)
      refine lv_goto (tgt := 18) E.1 E.2.1 dL_law_364 (by decide) ?_
      exact ih (k + 5) _ _ _ _ _ (by omega) (by omega) (hfin.2) hLW hl
    · refine lv_tableIn (x := nI 6) (off := 236) (tgt := 268) E.1 E.2.1 dL_law_32 (by decide) (by decide) (by decide) (by decide) ?_
      refine lv_aload_n E.1 E.2.1 dL_law_268 rfl (lv_at hl 1 rfl) ?_
      refine lv_aload_n E.1 E.2.1 dL_law_269 rfl (lv_at hl 0 rfl) ?_
      refine lv_iload_n E.1 E.2.1 dL_law_270 rfl (lv_at hl 3 rfl) ?_
      refine lv_iconst (v := nI 1) E.1 E.2.1 dL_law_271 (by decide) ?_
      refine lv_iadd E.1 E.2.1 dL_law_272 ?_
      refine x_top (y := nI (k + 1)) (nI_add _ _) ?_
      refine x_sld E hX hbl hbA hLW.1.2.2 (j := (k + 1)) rfl (by omega) hL dL_law_273 ?_
      refine ci_call (w := xW cs a) (ad := xAd a) (ci := 0) E hml hl.1 hLW.1 xAd_eq hA (tX_memory l D cs a S (xs (k + 1))) (cwV 1 E.2.2.2.1 (lw_V q228 q229 q230 q24 q231) rfl rfl rfl (by decide +kernel) ⟨Nat.le_of_ble_eq_true rfl, Nat.le_of_ble_eq_true rfl⟩) rfl rfl rfl rfl rfl (Nat.le_of_ble_eq_true rfl) dL_law_274 ⟨Nat.le_of_ble_eq_true rfl, Nat.le_of_ble_eq_true rfl⟩ (fun v S1 H1 locs1 hpX hW hkp _ => ?_)
      have hLW := hLW.xx hW hkp
      refine lv_aload_n E.1 E.2.1 dL_law_277 rfl (lv_at hl 2 rfl) ?_
      refine lv_aload_n E.1 E.2.1 dL_law_278 rfl (lv_at hl 0 rfl) ?_
      refine lv_iload_n E.1 E.2.1 dL_law_279 rfl (lv_at hl 3 rfl) ?_
      refine lv_iconst (v := nI 1) E.1 E.2.1 dL_law_280 (by decide) ?_
      refine lv_iadd E.1 E.2.1 dL_law_281 ?_
      refine x_top (y := nI (k + 1)) (nI_add _ _) ?_
      refine x_sld E hX hbl hbA hLW.1.2.2 (j := (k + 1)) rfl (by omega) hL dL_law_282 ?_
      refine ci_call (w := mW cs b) (ad := mAd b) (ci := 1) E hml hl.1 hLW.pm mAd_eq hA (tM_memory l D cs b T (xs (k + 1))) (cwV 1 E.2.2.2.1 (lw_V q323 q324 q325 q25 q326) rfl rfl rfl (by decide +kernel) ⟨Nat.le_of_ble_eq_true rfl, Nat.le_of_ble_eq_true rfl⟩) rfl rfl rfl rfl rfl (Nat.le_of_ble_eq_true rfl) dL_law_283 ⟨Nat.le_of_ble_eq_true rfl, Nat.le_of_ble_eq_true rfl⟩ (fun u T1 H1 locs1 hpM hW hkp _ => ?_)
      have hLW := hLW.mm hW hkp
      have hfin : v = u ∧ lawR S1 T1 := by
        obtain ⟨e1, hpX⟩ := hpX
        obtain ⟨e2, hpM⟩ := hpM
        subst e1; subst e2
        exact ⟨law_get hR.a6 hpX hpM, hR⟩
      refine lv_icmp_eq (tgt := 361) E.1 E.2.1 dL_law_286 (by decide) (fun _ => ?_) (fun h => absurd (hfin.1) h)
      refine xl_iinc (v := nI (k + 5)) (lv' := [(0, _), (1, _), (2, _), (3, _)]) E dL_law_361 hl (k := 3) rfl (x_inc5 k) (by decide) [1, 2, 3, 0] rfl (fun ls hl => ?_)
      refine lv_goto (tgt := 18) E.1 E.2.1 dL_law_364 (by decide) ?_
      exact ih (k + 5) _ _ _ _ _ (by omega) (by omega) (hfin.2) hLW hl
    · refine lv_tableIn (x := nI 7) (off := 259) (tgt := 291) E.1 E.2.1 dL_law_32 (by decide) (by decide) (by decide) (by decide) ?_
      refine lv_aload_n E.1 E.2.1 dL_law_291 rfl (lv_at hl 1 rfl) ?_
      refine lv_aload_n E.1 E.2.1 dL_law_292 rfl (lv_at hl 0 rfl) ?_
      refine lv_iload_n E.1 E.2.1 dL_law_293 rfl (lv_at hl 3 rfl) ?_
      refine lv_iconst (v := nI 1) E.1 E.2.1 dL_law_294 (by decide) ?_
      refine lv_iadd E.1 E.2.1 dL_law_295 ?_
      refine x_top (y := nI (k + 1)) (nI_add _ _) ?_
      refine x_sld E hX hbl hbA hLW.1.2.2 (j := (k + 1)) rfl (by omega) hL dL_law_296 ?_
      refine lv_aload_n E.1 E.2.1 dL_law_297 rfl (lv_at hl 0 rfl) ?_
      refine lv_iload_n E.1 E.2.1 dL_law_298 rfl (lv_at hl 3 rfl) ?_
      refine lv_iconst (v := nI 2) E.1 E.2.1 dL_law_299 (by decide) ?_
      refine lv_iadd E.1 E.2.1 dL_law_300 ?_
      refine x_top (y := nI (k + 2)) (nI_add _ _) ?_
      refine x_sld E hX hbl hbA hLW.1.2.2 (j := (k + 2)) rfl (by omega) hL dL_law_301 ?_
      refine ci_call (w := xW cs a) (ad := xAd a) (ci := 0) E hml hl.1 hLW.1 xAd_eq hA (tX_setMemory l D cs a S (xs (k + 1)) (xs (k + 2))) (cwV 2 E.2.2.2.1 (lw_V q232 q233 q234 q24 q235) rfl rfl rfl (by decide +kernel) ⟨Nat.le_of_ble_eq_true rfl, Nat.le_of_ble_eq_true rfl⟩) rfl rfl rfl rfl rfl (Nat.le_of_ble_eq_true rfl) dL_law_302 ⟨Nat.le_of_ble_eq_true rfl, Nat.le_of_ble_eq_true rfl⟩ (fun v S1 H1 locs1 hpX hW hkp _ => ?_)
      have hLW := hLW.xx hW hkp
      refine lv_aload_n E.1 E.2.1 dL_law_305 rfl (lv_at hl 2 rfl) ?_
      refine lv_aload_n E.1 E.2.1 dL_law_306 rfl (lv_at hl 0 rfl) ?_
      refine lv_iload_n E.1 E.2.1 dL_law_307 rfl (lv_at hl 3 rfl) ?_
      refine lv_iconst (v := nI 1) E.1 E.2.1 dL_law_308 (by decide) ?_
      refine lv_iadd E.1 E.2.1 dL_law_309 ?_
      refine x_top (y := nI (k + 1)) (nI_add _ _) ?_
      refine x_sld E hX hbl hbA hLW.1.2.2 (j := (k + 1)) rfl (by omega) hL dL_law_310 ?_
      refine lv_aload_n E.1 E.2.1 dL_law_311 rfl (lv_at hl 0 rfl) ?_
      refine lv_iload_n E.1 E.2.1 dL_law_312 rfl (lv_at hl 3 rfl) ?_
      refine lv_iconst (v := nI 2) E.1 E.2.1 dL_law_313 (by decide) ?_
      refine lv_iadd E.1 E.2.1 dL_law_314 ?_
      refine x_top (y := nI (k + 2)) (nI_add _ _) ?_
      refine x_sld E hX hbl hbA hLW.1.2.2 (j := (k + 2)) rfl (by omega) hL dL_law_315 ?_
      refine ci_call (w := mW cs b) (ad := mAd b) (ci := 1) E hml hl.1 hLW.pm mAd_eq hA (tM_setMemory l D cs b T (xs (k + 1)) (xs (k + 2))) (cwV 2 E.2.2.2.1 (lw_V q327 q328 q329 q25 q330) rfl rfl rfl (by decide +kernel) ⟨Nat.le_of_ble_eq_true rfl, Nat.le_of_ble_eq_true rfl⟩) rfl rfl rfl rfl rfl (Nat.le_of_ble_eq_true rfl) dL_law_316 ⟨Nat.le_of_ble_eq_true rfl, Nat.le_of_ble_eq_true rfl⟩ (fun u T1 H1 locs1 hpM hW hkp _ => ?_)
      have hLW := hLW.mm hW hkp
      have hfin := law_set6 hR hpX hpM
      refine lv_icmp_eq (tgt := 361) E.1 E.2.1 dL_law_319 (by decide) (fun _ => ?_) (fun h => absurd (hfin.1) h)
      refine xl_iinc (v := nI (k + 5)) (lv' := [(0, _), (1, _), (2, _), (3, _)]) E dL_law_361 hl (k := 3) rfl (x_inc5 k) (by decide) [1, 2, 3, 0] rfl (fun ls hl => ?_)
      refine lv_goto (tgt := 18) E.1 E.2.1 dL_law_364 (by decide) ?_
      exact ih (k + 5) _ _ _ _ _ (by omega) (by omega) (hfin.2) hLW hl
    · refine lv_tableIn (x := nI 8) (off := 292) (tgt := 324) E.1 E.2.1 dL_law_32 (by decide) (by decide) (by decide) (by decide) ?_
      refine lv_aload_n E.1 E.2.1 dL_law_324 rfl (lv_at hl 1 rfl) ?_
      refine ci_call (w := xW cs a) (ad := xAd a) (ci := 0) E hml hl.1 hLW.1 xAd_eq hA (tX_place l D cs a S) (cwV 0 E.2.2.2.1 (lw_V q236 q237 q238 q24 q239) rfl rfl rfl (by decide +kernel) ⟨Nat.le_of_ble_eq_true rfl, Nat.le_of_ble_eq_true rfl⟩) rfl rfl rfl rfl rfl (Nat.le_of_ble_eq_true rfl) dL_law_325 ⟨Nat.le_of_ble_eq_true rfl, Nat.le_of_ble_eq_true rfl⟩ (fun v S1 H1 locs1 hpX hW hkp _ => ?_)
      have hLW := hLW.xx hW hkp
      refine lv_aload_n E.1 E.2.1 dL_law_328 rfl (lv_at hl 2 rfl) ?_
      refine ci_call (w := mW cs b) (ad := mAd b) (ci := 1) E hml hl.1 hLW.pm mAd_eq hA (tM_place l D cs b T) (cwV 0 E.2.2.2.1 (lw_V q331 q332 q333 q25 q334) rfl rfl rfl (by decide +kernel) ⟨Nat.le_of_ble_eq_true rfl, Nat.le_of_ble_eq_true rfl⟩) rfl rfl rfl rfl rfl (Nat.le_of_ble_eq_true rfl) dL_law_329 ⟨Nat.le_of_ble_eq_true rfl, Nat.le_of_ble_eq_true rfl⟩ (fun u T1 H1 locs1 hpM hW hkp _ => ?_)
      have hLW := hLW.mm hW hkp
      have hfin : v = u ∧ lawR S1 T1 := by
        obtain ⟨e1, hpX⟩ := hpX
        obtain ⟨e2, hpM⟩ := hpM
        subst e1; subst e2
        exact ⟨by rw [hpX, hpM, hR.a7], hR⟩
      refine lv_icmp_eq (tgt := 361) E.1 E.2.1 dL_law_332 (by decide) (fun _ => ?_) (fun h => absurd (hfin.1) h)
      refine xl_iinc (v := nI (k + 5)) (lv' := [(0, _), (1, _), (2, _), (3, _)]) E dL_law_361 hl (k := 3) rfl (x_inc5 k) (by decide) [1, 2, 3, 0] rfl (fun ls hl => ?_)
      refine lv_goto (tgt := 18) E.1 E.2.1 dL_law_364 (by decide) ?_
      exact ih (k + 5) _ _ _ _ _ (by omega) (by omega) (hfin.2) hLW hl
    · refine lv_tableIn (x := nI 9) (off := 305) (tgt := 337) E.1 E.2.1 dL_law_32 (by decide) (by decide) (by decide) (by decide) ?_
      refine lv_aload_n E.1 E.2.1 dL_law_337 rfl (lv_at hl 1 rfl) ?_
      refine ci_call (w := xW cs a) (ad := xAd a) (ci := 0) E hml hl.1 hLW.1 xAd_eq hA (tX_status l D cs a S) (cwV 0 E.2.2.2.1 (lw_V q240 q241 q242 q24 q243) rfl rfl rfl (by decide +kernel) ⟨Nat.le_of_ble_eq_true rfl, Nat.le_of_ble_eq_true rfl⟩) rfl rfl rfl rfl rfl (Nat.le_of_ble_eq_true rfl) dL_law_338 ⟨Nat.le_of_ble_eq_true rfl, Nat.le_of_ble_eq_true rfl⟩ (fun v S1 H1 locs1 hpX hW hkp _ => ?_)
      have hLW := hLW.xx hW hkp
      refine lv_aload_n E.1 E.2.1 dL_law_341 rfl (lv_at hl 2 rfl) ?_
      refine ci_call (w := mW cs b) (ad := mAd b) (ci := 1) E hml hl.1 hLW.pm mAd_eq hA (tM_status l D cs b T) (cwV 0 E.2.2.2.1 (lw_V q335 q336 q337 q25 q338) rfl rfl rfl (by decide +kernel) ⟨Nat.le_of_ble_eq_true rfl, Nat.le_of_ble_eq_true rfl⟩) rfl rfl rfl rfl rfl (Nat.le_of_ble_eq_true rfl) dL_law_342 ⟨Nat.le_of_ble_eq_true rfl, Nat.le_of_ble_eq_true rfl⟩ (fun u T1 H1 locs1 hpM hW hkp _ => ?_)
      have hLW := hLW.mm hW hkp
      have hfin : v = u ∧ lawR S1 T1 := by
        obtain ⟨e1, hpX⟩ := hpX
        obtain ⟨e2, hpM⟩ := hpM
        subst e1; subst e2
        exact ⟨by rw [hpX, hpM, hR.a8], hR⟩
      refine lv_icmp_eq (tgt := 361) E.1 E.2.1 dL_law_345 (by decide) (fun _ => ?_) (fun h => absurd (hfin.1) h)
      refine xl_iinc (v := nI (k + 5)) (lv' := [(0, _), (1, _), (2, _), (3, _)]) E dL_law_361 hl (k := 3) rfl (x_inc5 k) (by decide) [1, 2, 3, 0] rfl (fun ls hl => ?_)
      refine lv_goto (tgt := 18) E.1 E.2.1 dL_law_364 (by decide) ?_
      exact ih (k + 5) _ _ _ _ _ (by omega) (by omega) (hfin.2) hLW hl
    · refine lv_tableIn (x := nI 10) (off := 318) (tgt := 350) E.1 E.2.1 dL_law_32 (by decide) (by decide) (by decide) (by decide) ?_
      refine lv_aload_n E.1 E.2.1 dL_law_350 rfl (lv_at hl 1 rfl) ?_
      refine cv_call (w := xW cs a) (ad := xAd a) (ci := 0) E hml hl.1 hLW.1 xAd_eq hA (tX_clear l D cs a S) (cwV 0 E.2.2.2.1 (lw_V q244 q245 q246 q24 q247) rfl rfl rfl (by decide +kernel) ⟨Nat.le_of_ble_eq_true rfl, Nat.le_of_ble_eq_true rfl⟩) rfl rfl rfl rfl rfl (Nat.le_of_ble_eq_true rfl) dL_law_351 ⟨Nat.le_of_ble_eq_true rfl, Nat.le_of_ble_eq_true rfl⟩ (fun S1 H1 locs1 hpX hW hkp _ => ?_)
      have hLW := hLW.xx hW hkp
      refine lv_aload_n E.1 E.2.1 dL_law_354 rfl (lv_at hl 2 rfl) ?_
      refine cv_call (w := mW cs b) (ad := mAd b) (ci := 1) E hml hl.1 hLW.pm mAd_eq hA (tM_clear l D cs b T) (cwV 0 E.2.2.2.1 (lw_V q339 q340 q341 q25 q342) rfl rfl rfl (by decide +kernel) ⟨Nat.le_of_ble_eq_true rfl, Nat.le_of_ble_eq_true rfl⟩) rfl rfl rfl rfl rfl (Nat.le_of_ble_eq_true rfl) dL_law_355 ⟨Nat.le_of_ble_eq_true rfl, Nat.le_of_ble_eq_true rfl⟩ (fun T1 H1 locs1 hpM hW hkp _ => ?_)
      have hLW := hLW.mm hW hkp
      refine lv_goto (tgt := 361) E.1 E.2.1 dL_law_358 (by decide) ?_
      refine xl_iinc (v := nI (k + 5)) (lv' := [(0, _), (1, _), (2, _), (3, _)]) E dL_law_361 hl (k := 3) rfl (x_inc5 k) (by decide) [1, 2, 3, 0] rfl (fun ls hl => ?_)
      refine lv_goto (tgt := 18) E.1 E.2.1 dL_law_364 (by decide) ?_
      exact ih (k + 5) _ _ _ _ _ (by omega) (by omega) (law_clear hR hpX hpM) hLW hl
    · refine lv_tableOut (tgt := 361) E.1 E.2.1 dL_law_32 (Or.inr (by rw [nI_toInt (by omega)]; omega)) (by decide) ?_
      refine xl_iinc (v := nI (k + 5)) (lv' := [(0, _), (1, _), (2, _), (3, _)]) E dL_law_361 hl (k := 3) rfl (x_inc5 k) (by decide) [1, 2, 3, 0] rfl (fun ls hl => ?_)
      refine lv_goto (tgt := 18) E.1 E.2.1 dL_law_364 (by decide) ?_
      exact ih (k + 5) _ _ _ _ _ (by omega) (by omega) (hR) hLW hl
end
section
set_option maxRecDepth 100000
theorem arr_K {s : State} {args : Array Value} {ty : FieldType} (h : (Cond.arrayClass ty).before args s = true) (hra : ∀ cA, s.vm.findClass ("[" ++ ty.toString) = some cA → va_RA s cA ty) : ∃ cA : ClassId, ArrOfT s cA ty ∧ va_RA s cA ty := by
  obtain ⟨cA, kA, comp, h1, h2, h3⟩ := Cond.arrayClass_spec h
  exact ⟨cA, fun n z => ⟨fun k h => (by cases h), kA, h2, comp, h3⟩, hra _ h1⟩
theorem law_K {s : State} {args : Array Value} (hts : ∀ w ∈ lw_tbl, w.before args s = true) : ∃ (D : va_G) (cs : ClassId × ClassId × ClassId), va_K D vwCl (kT cs) s := by
  obtain ⟨c0, iS0, hKn0⟩ := u_known (C := RX0) (T := TX0) (N := 30) (n := 30) hts (fun w h => lw_all_tbl (in_X0 w h)) (hts _ (lw_all_tbl q27))
  obtain ⟨c1, iS1, hKn1⟩ := u_known (C := RX1) (T := TX1) (N := 9) (n := 9) hts (fun w h => lw_all_tbl (in_X1 w h)) (hts _ (lw_all_tbl q250))
  obtain ⟨dB, b1, b2⟩ := arr_K (ty := .byte) (hts _ (lw_all_tbl q133)) (fun _ h => h)
  obtain ⟨dI, i1, i2⟩ := arr_K (ty := .int) (hts _ (lw_all_tbl q134)) (fun _ h => h)
  obtain ⟨dZ, z1, z2⟩ := arr_K (ty := .boolean) (hts _ (lw_all_tbl q135)) (fun _ h => h)
  refine ⟨(fun k => if k = 0 then c0 else c1, fun k => if k = 0 then iS0 else iS1), (dB, dI, dZ), ?_, ?_⟩
  · intro k q hq
    match k, hq with
    | 0, hq => cases hq; exact hKn0
    | 1, hq => cases hq; exact hKn1
    | k + 2, hq => simp [vwCl] at hq
  · intro k q hq
    match k, hq with
    | 0, hq => cases hq; exact ⟨b1, b2⟩
    | 1, hq => cases hq; exact ⟨i1, i2⟩
    | 2, hq => cases hq; exact ⟨z1, z2⟩
    | k + 3, hq => simp [kT] at hq
theorem x_dfl : ∀ j, j < 30 → defaultValue (tyX0 j) = vp_V xF0 j := by
  intro j hj
  rcases (show j = 0 ∨ j = 1 ∨ j = 2 ∨ j = 3 ∨ j = 4 ∨ j = 5 ∨ j = 6 ∨ j = 7 ∨ j = 8 ∨ j = 9 ∨ j = 10 ∨ j = 11 ∨ j = 12 ∨ j = 13 ∨ j = 14 ∨ j = 15 ∨ j = 16 ∨ j = 17 ∨ j = 18 ∨ j = 19 ∨ j = 20 ∨ j = 21 ∨ j = 22 ∨ j = 23 ∨ j = 24 ∨ j = 25 ∨ j = 26 ∨ j = 27 ∨ j = 28 ∨ j = 29 by omega) with rfl | rfl | rfl | rfl | rfl | rfl | rfl | rfl | rfl | rfl | rfl | rfl | rfl | rfl | rfl | rfl | rfl | rfl | rfl | rfl | rfl | rfl | rfl | rfl | rfl | rfl | rfl | rfl | rfl | rfl <;> rfl
theorem m_dfl : ∀ j, j < 9 → defaultValue (tyX1 j) = vp_V mF0 j := by
  intro j hj
  rcases (show j = 0 ∨ j = 1 ∨ j = 2 ∨ j = 3 ∨ j = 4 ∨ j = 5 ∨ j = 6 ∨ j = 7 ∨ j = 8 by omega) with rfl | rfl | rfl | rfl | rfl | rfl | rfl | rfl | rfl <;> rfl
set_option maxHeartbeats 8000000 in
/-- from the entry, for every script of at most 320 ints, the law comes to its end with true -/
theorem whole_start {p : Program} {e : Env} {s : State} {m : MethodId} {below : List Frame} {meth : Method} {c : Code} (l : Launch) {b L : Nat} {xs : Nat → Int32} (hL : L ≤ 320) (C0 : lw_At p s m meth c b L xs) : W p l e room_1 s m #[Value.ref b] below meth c s.heap [] 0 0 (lw_Z below #[Value.ref b] s) (entryFrame m ([Value.ref b] : List Value).toArray 4) := by
  obtain ⟨hx, hb, hr, hml, hown, hts, hX, hbl, hlocks, -⟩ := id C0
  have hA : ∀ q : Nat, s.heap.size ≤ q → (fun q : Nat => s.heap.size ≤ q) q := fun _ h => h
  obtain ⟨D, cs, hK⟩ := law_K hts
  have E : XE R_law p s m #[Value.ref b] c code D cs := ⟨hx, hb, hown, fun w h => hts w (lw_all_tbl h), hK⟩
  have hS : va_S (fun q : Nat => s.heap.size ≤ q) s.heap s.heap [] := va_S.rf
  have hP : va_P D vwCl [] s.heap := fun k q h => by simp at h
  have hD : va_D (fun q : Nat => s.heap.size ≤ q) [] := ⟨fun i j p q h => by simp at h, fun k q h => by simp at h⟩
  have hl := lv_entry ([.ref b]) (n := 4) (Nat.le_of_ble_eq_true rfl)
  rw [lg_entry_eq]
  generalize (lg_sl ([.ref b]) ++ List.replicate (4 - (lg_sl ([.ref b])).length) Slot.unset).toArray = ls at hl ⊢
  have hl : lv_has ls 4 [(0, .ref b)] := hl
  refine va_new (D := D) (ci := 0) (fs := xF0) (C := RX0) (T := TX0) (N := 30) hx hb E.2.2.2.1 in_X0 tyX0 tyX0_ok hown (E.2.2.2.1 _ q26) (E.2.2.2.1 _ q27) (E.2.2.2.1 _ q24) hK hP hD hS hA rfl (fun j hj => x_dfl j hj) (Nat.le_of_ble_eq_true rfl) (Nat.le_of_ble_eq_true rfl) dL_law_0 (fun qx H hP hD hS => ?_)
  have hP : va_P D vwCl [(qx, .inr (0, xF0))] H := hP
  have hD : va_D (fun q : Nat => s.heap.size ≤ q) [(qx, .inr (0, xF0))] := hD
  refine lv_dup hx hb dL_law_3 rfl ?_
  have hqx : s.heap.size ≤ qx := hD.2 0 _ rfl
  have hF : ∀ q, wA [qx] H.size q → s.heap.size ≤ q := fun q h => by
    rcases h with h | h
    · rw [List.mem_singleton.mp h]; exact hqx
    · exact Nat.le_trans hS.1 h
  refine va_callv (A0 := (fun q : Nat => s.heap.size ≤ q)) (A1 := wA [qx] H.size) (va_runI (As := []) (rest := [.ref qx]) (b := qx) ⟨hx, hb, hml, hown, E.2.2.2.1⟩ (tX_init l D cs qx H.size) (cwI 0 E.2.2.2.1 (lw_meth q30) rfl rfl rfl (E.2.2.2.1 _ q24) (E.2.2.2.1 _ q28) (E.2.2.2.1 _ q29) rfl (by decide +kernel) ⟨Nat.le_of_ble_eq_true rfl, Nat.le_of_ble_eq_true rfl⟩) ⟨fun a U g mk z => ?_, fun U hU hV => ⟨rfl, by rw [hU], by rw [hU]; exact hP, va_K.moved hV.alike hK, hD.weaken (fun _ _ _ _ => trivial)⟩⟩ rfl rfl hl.1 rfl (lv_room (Nat.le_of_ble_eq_true rfl)) dL_law_4 ⟨Nat.le_of_ble_eq_true rfl, Nat.le_of_ble_eq_true rfl⟩) hS (fun q _ h => hF q h) hF (fun u t H1 locs1 ht hvm hw hB hz hk hS => ?_)
  · obtain ⟨z0, z1, zP, zK, zD⟩ := z
    exact ⟨z0, z1, zP, va_K.moved (u := U) (U := U.calling g mk a) (Vm.Alike.refl U.vm) zK, zD⟩
  obtain ⟨a, S⟩ := u
  obtain ⟨ha, hS0⟩ := hw
  obtain ⟨hP1, -, hD1⟩ := hB
  have ha : a 0 = qx := ha
  subst ha
  have hPX : va_P D vwCl (xW cs a S) H1 := by rw [← ht]; exact hP1
  have hDX : va_D (fun q : Nat => s.heap.size ≤ q) (xW cs a S) := hD1.weaken (fun _ q _ h => hF q.1 h)
  refine lv_astore_n (lv' := [(1, .ref (a 0)), (0, .ref b)]) hx hb dL_law_7 rfl hl (by decide) rfl (fun ls hl => ?_)
  refine va_new (D := D) (ci := 1) (fs := mF0) (C := RX1) (T := TX1) (N := 9) hx hb E.2.2.2.1 in_X1 tyX1 tyX1_ok hown (E.2.2.2.1 _ q249) (E.2.2.2.1 _ q250) (E.2.2.2.1 _ q25) hK hPX hDX hS hA rfl (fun j hj => m_dfl j hj) (Nat.le_of_ble_eq_true rfl) (Nat.le_of_ble_eq_true rfl) dL_law_8 (fun qm H hP hD hS => ?_)
  refine lv_dup hx hb dL_law_11 rfl ?_
  have hlen : (xW cs a S).length = 23 := rfl
  have hat : (xW cs a S ++ [(qm, .inr (1, mF0))])[23]? = some (qm, .inr (1, mF0)) := rfl
  have hPX : va_P D vwCl (xW cs a S) H := fun k q hq => hP k q (by rw [List.getElem?_append_left (List.getElem?_eq_some_iff.mp hq).1]; exact hq)
  have hPM : va_P D vwCl [(qm, .inr (1, mF0))] H := fun k q hq => by
    have hz : k < 1 := (List.getElem?_eq_some_iff.mp hq).1
    obtain rfl : k = 0 := by omega
    cases hq
    exact hP 23 _ hat
  have hqm : qm ∉ xAd a := fun w => by
    obtain ⟨k, e, hk⟩ := (mem_ad (xAd_eq (cs := cs) S)).mp w
    have hk23 : k < 23 := hlen ▸ (List.getElem?_eq_some_iff.mp hk).1
    have := hD.1 k 23 (qm, e) (qm, .inr (1, mF0)) (by rw [List.getElem?_append_left (List.getElem?_eq_some_iff.mp hk).1]; exact hk) hat rfl
    omega
  have hqms : s.heap.size ≤ qm := hD.2 23 _ hat
  have hF : ∀ q, wA [qm] H.size q → s.heap.size ≤ q := fun q h => by
    rcases h with h | h
    · rw [List.mem_singleton.mp h]; exact hqms
    · exact Nat.le_trans hS.1 h
  have hDM : va_D (fun _ => True) [(qm, (.inr (1, mF0) : va_E))] := ⟨fun i j p q hi hj _ => by
    have h1 : i < 1 := (List.getElem?_eq_some_iff.mp hi).1
    have h2 : j < 1 := (List.getElem?_eq_some_iff.mp hj).1
    omega, fun _ _ _ => trivial⟩
  refine va_callv (A0 := (fun q : Nat => s.heap.size ≤ q)) (A1 := wA [qm] H.size) (va_runI (As := []) (rest := [.ref qm]) (b := qm) ⟨hx, hb, hml, hown, E.2.2.2.1⟩ (tM_init l D cs qm H.size) (cwI 0 E.2.2.2.1 (lw_meth q253) rfl rfl rfl (E.2.2.2.1 _ q25) (E.2.2.2.1 _ q251) (E.2.2.2.1 _ q252) rfl (by decide +kernel) ⟨Nat.le_of_ble_eq_true rfl, Nat.le_of_ble_eq_true rfl⟩) ⟨fun a U g mk z => ?_, fun U hU hV => ⟨rfl, by rw [hU], by rw [hU]; exact hPM, va_K.moved hV.alike hK, hDM⟩⟩ rfl rfl hl.1 rfl (lv_room (Nat.le_of_ble_eq_true rfl)) dL_law_12 ⟨Nat.le_of_ble_eq_true rfl, Nat.le_of_ble_eq_true rfl⟩) hS (fun q _ h => hF q h) hF (fun u t H1 locs1 ht hvm hw hB hz hk hS => ?_)
  · obtain ⟨z0, z1, zP, zK, zD⟩ := z
    exact ⟨z0, z1, zP, va_K.moved (u := U) (U := U.calling g mk a) (Vm.Alike.refl U.vm) zK, zD⟩
  obtain ⟨b2, T⟩ := u
  obtain ⟨hb2, hT0⟩ := hw
  obtain ⟨hP1, -, hD1⟩ := hB
  have hb2 : b2 0 = qm := hb2
  have hT0 : T = fun _ _ => 0 := hT0
  have hLW : LW D cs a b2 S T (fun q : Nat => s.heap.size ≤ q) s.heap H1 locs1 := LW.mk hPX hDX hqm hF hk (by rw [← ht]; exact hP1) hD1 hS
  have hR : lawR S T := by rw [hT0]; exact law_init hS0
  subst hb2
  refine lv_astore_n (lv' := [(2, .ref (b2 0)), (1, .ref (a 0)), (0, .ref b)]) hx hb dL_law_15 rfl hl (by decide) rfl (fun ls hl => ?_)
  refine lv_iconst (v := nI 0) hx hb dL_law_16 (by decide) ?_
  refine lv_istore_n (lv' := [(3, .int (nI 0)), (2, .ref (b2 0)), (1, .ref (a 0)), (0, .ref b)]) hx hb dL_law_17 rfl hl (by decide) rfl (fun ls hl => ?_)
  refine W.widen (k := 30) (n := 434) (by decide) (by decide) ?_
  exact law_loop l hL C0 hK (L + 1) 0 S T _ _ ls (by omega) (Nat.zero_le L) hR hLW (lv_sub hl [3, 2, 1, 0] rfl)
end
section
set_option maxHeartbeats 4000000 in
theorem lw_walk (l : Launch) (b : Addr) (xs : List Int32) : MetFree l x (headSpec (Jvm.Cond.code x code maxLocals ret :: tables_1) room_1) (lw_P b xs) (fun _ _ _ _ _ => True) lw_Q := by
  refine MetFree.of_bodyS (code := code) (maxLocals := maxLocals) (ret := ret) (by decide) ?_ ?_
  · intro args s m h hn
    obtain ⟨meth, c, h1, h2, h3, h4, h5, h6, -, -⟩ := Cond.code_spec hn (atoms_spec (ws := Jvm.Cond.code x code maxLocals ret :: tables_1) h _ List.mem_cons_self)
    exact ⟨meth, c, h1, h2, h3, h4, h5, h6⟩
  · intro p e s m args below meth c s₁ B hml0 hP _
    obtain ⟨rfl, hx, hbd, hgv⟩ := hP
    obtain ⟨scr, harrAt, hlist, hof, hsmall⟩ := hx
    obtain ⟨hcb, hkn, -, -⟩ := State.arrayAt?_spec harrAt
    have hown : s.vm.findClass R_law = some m.cls := findClass_of_methodNamed B.named
    have hts0 : ∀ c ∈ (Jvm.Cond.code x code maxLocals ret :: tables_1), c.before #[Value.ref b] s = true := atoms_spec (ws := Jvm.Cond.code x code maxLocals ret :: tables_1) B.pre
    have hts : ∀ w ∈ lw_tbl, w.before #[Value.ref b] s = true := k2_hts_sels lw_privs (fun w hw => hts0 w (List.mem_cons_of_mem _ hw)) lw_privs_ok
    have hml : c.maxLocals = 4 := B.maxLocals_eq (hts0 _ List.mem_cons_self)
    have X₀ : Stand p l e room_1 s m #[Value.ref b] below meth c s₁ [] 0 0 := Stand.of_body B
    have hh0 : s₁.heap = s.heap := by rw [B.state]; rfl
    have hsz : scr.slots.size = xs.length := by rw [← Array.length_toList, hlist, List.length_map]
    have hval : ∀ j : Nat, j < xs.length → scr.slots[j]? = some (.int (xs.getD j 0)) := fun j hj => by
      rw [← Array.getElem?_toList, hlist]
      simp [hj]
    have hbl : b < s.heap.size := (Array.getElem?_eq_some_iff.mp hcb).1
    have hX : va_X b xs.length (fun j => xs.getD j 0) s s.heap := ⟨scr, hcb, hof, hkn, hsz, hval⟩
    have K : W p l e room_1 s m #[Value.ref b] below meth c s₁.heap [] 0 0 (lw_Z below #[Value.ref b] s) (entryFrame m ([Value.ref b] : List Value).toArray 4) := by
      rw [hh0]
      exact whole_start l hbd ⟨B.exec, B.bytes, B.returns, hml, hown, hts, hX, hbl, B.notSynchronized, hgv⟩
    obtain ⟨t, a1, o, b1, b2, b3⟩ := K s₁ rfl X₀
    exact ⟨t, o, a1, b1, b2, b3⟩
theorem lw_pre_spec {args : Array Value} {s : State} (h : (Jvm.Cond.and given_1 narrow_1).before args s = true) (hr : rest_1_c.before args s = true) : ∃ (b : Addr) (xs : List Int32), lw_P b xs args s := by
  have hs := flat_of_before _ h
  have hq := flat_of_before _ hr
  have hc : (Cond.count 1).before args s = true := hs _ (by decide +kernel)
  have harr : (Cond.arrayOf (.arg 0) .int).before args s = true := hs _ (by decide +kernel)
  have hle : (Cond.le (.length (.arg 0)) (.int 320)).before args s = true := hs _ (by decide +kernel)
  have hlen : (Cond.isInt (.length (.arg 0))).before args s = true := hq _ (by decide +kernel)
  have hall : (Cond.all (.arg 0) (.isInt (.elem (.arg 0) (.index 0)))).before args s = true := hq _ (by decide +kernel)
  obtain ⟨b, xs, hb, hx⟩ := State.ints_of_pre rfl harr hlen hall
  have hsm : xs.length < 2 ^ 31 := hx.choose_spec.2.2.2
  have hev : (Term.length (.arg 0)).eval args s none [] s = some (.int xs.length.toInt32) := hx.length_eval hb
  have hv := Cond.le_ints hev (show (Term.int 320).eval args s none [] s = some (.int 320) from rfl)
  have hd : xs.length.toInt32 ≤ 320 := by
    simpa [Cond.before, Cond.holds, hv] using hle
  have hN : xs.length ≤ 320 := (Int32.ofNat_le_ofNat hsm (by decide)).mp (show Int32.ofNat xs.length ≤ Int32.ofNat 320 from hd)
  exact ⟨b, xs, Cond.one_arg hc (show args[0]? = some (.ref b) from hb), hx, hN, h⟩
theorem lw_comes (l : Launch) : Comes l x (Jvm.Cond.code x code maxLocals ret :: tables_1) room_1 (fun tb e args s => Calls_1 tb e args s ∧ rest_1 tb e args s ∧ Pre_1 tb e args s)
    (fun _ _ args s o t => lw_Q args s o t) := by
  intro p e ha hc hk s m args below hf hfit hheap happ hpre
  obtain ⟨b, xs, hP⟩ := lw_pre_spec hpre.2.2 hpre.2.1
  obtain ⟨k, o, h1, h2, h3, hQ⟩ := lw_walk l b xs p e ha hc hk s m args below hf ((Spec.applies_iff_loose hf).mp happ).1 hP trivial
  exact ⟨k, o, h1, h2, h3, hQ⟩
theorem lw_frame {s t : State} {o : Outcome} {args : Array Value} (h : Framed s o t [] 600000 7290000) :
    Framed s o t (fieldLocs frame_1_writes args s ++ arrayLocs frame_1_arrays args s ++ staticLocs frame_1_statics s) 600000 7290000 := h
theorem lw_limb (L : Cond) (hL : ∀ (args : Array Value) (s t : State), L.after args s (.returned (some (.int 1))) t = true) :
    ArmFor flags0 classFile x code maxLocals ret World_1 tables_1 room_1 Calls_1 rest_1 Pre_1
      (fun tb e a s o t => postC L tb e a s o t ∧ Framed s o t (fieldLocs frame_1_writes a s ++ arrayLocs frame_1_arrays a s ++ staticLocs frame_1_statics s) 600000 7290000) := by
  intro l _ _ _ p e ha hc hk s m args below hf hfit hheap happ hpre
  obtain ⟨k, o, h1, h2, h3, rfl, hF⟩ := lw_comes l p e ha hc hk s m args below hf hfit hheap happ hpre
  exact ⟨k, _, h1, h2, h3, hL args s _, lw_frame hF⟩
theorem i_vc : Claimed_1_1 ∧ Claimed_1_2 := ⟨lw_limb limb_1_1 (fun args s t => by simp [limb_1_1, Cond.after, Cond.holds, Cond.value]), lw_limb limb_1_2 (fun args s t => Cond.after_iff.mpr (by
  first | (rw [show limb_1_2 = Cond.eq .result (.int 1) from rfl, Cond.eq_ints (x := 1) (y := 1) rfl rfl]; simp; done) | (simp [limb_1_2, Cond.value, Term.eval]; done)))⟩
end
