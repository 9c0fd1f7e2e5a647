section
-- ===== PART A: goes FIRST, ahead of the names: the tables' words, and 'selects' of the private methods out of them =====
/-- a private method of a class that the tables say can be made, by its rows of tables_1 -/
def lw_okq (q : MethodName × Nat) : Prop := (q.1.cls ≠ "java/lang/invoke/MethodHandle" ∧ q.1.cls ≠ "java/lang/invoke/VarHandle") ∧ Cond.instantiable q.1.cls q.2 ∈ tables_1 ∧ Cond.privateMethod q.1 ∈ tables_1 ∧ Cond.instanceMethod q.1 ∈ tables_1
set_option maxRecDepth 100000
theorem lw_t1 {w : Cond} (h : w ∈ tables_1_1) : w ∈ tables_1 := List.mem_append_left _ h
theorem lw_t2 {w : Cond} (h : w ∈ tables_1_2) : w ∈ tables_1 := List.mem_append_right _ h
theorem lw_p0 : lw_okq (⟨"SendTable", "isClass", "(I)Z"⟩, 18) := ⟨⟨by decide +kernel, by decide +kernel⟩, lw_t1 (List.mem_of_getElem? (i := 4) rfl), lw_t1 (List.mem_of_getElem? (i := 73) rfl), lw_t1 (List.mem_of_getElem? (i := 74) rfl)⟩
theorem lw_p1 : lw_okq (⟨"SendTable", "under", "(II)Z"⟩, 18) := ⟨⟨by decide +kernel, by decide +kernel⟩, lw_t1 (List.mem_of_getElem? (i := 4) rfl), lw_t1 (List.mem_of_getElem? (i := 92) rfl), lw_t1 (List.mem_of_getElem? (i := 93) rfl)⟩
theorem lw_p2 : lw_okq (⟨"SendTable", "entry", "(II)I"⟩, 18) := ⟨⟨by decide +kernel, by decide +kernel⟩, lw_t1 (List.mem_of_getElem? (i := 4) rfl), lw_t1 (List.mem_of_getElem? (i := 108) rfl), lw_t1 (List.mem_of_getElem? (i := 109) rfl)⟩
theorem lw_p3 : lw_okq (⟨"SendTable", "build", "()V"⟩, 18) := ⟨⟨by decide +kernel, by decide +kernel⟩, lw_t1 (List.mem_of_getElem? (i := 4) rfl), lw_t1 (List.mem_of_getElem? (i := 112) rfl), lw_t1 (List.mem_of_getElem? (i := 113) rfl)⟩
theorem lw_p4 : lw_okq (⟨"SendTable", "sortDown", "()V"⟩, 18) := ⟨⟨by decide +kernel, by decide +kernel⟩, lw_t1 (List.mem_of_getElem? (i := 4) rfl), lw_t1 (List.mem_of_getElem? (i := 116) rfl), lw_t1 (List.mem_of_getElem? (i := 117) rfl)⟩
theorem lw_p5 : lw_okq (⟨"SendTable", "learn", "()V"⟩, 18) := ⟨⟨by decide +kernel, by decide +kernel⟩, lw_t1 (List.mem_of_getElem? (i := 4) rfl), lw_t1 (List.mem_of_getElem? (i := 120) rfl), lw_t1 (List.mem_of_getElem? (i := 121) rfl)⟩
theorem lw_p6 : lw_okq (⟨"SendTable", "own", "(I)I"⟩, 18) := ⟨⟨by decide +kernel, by decide +kernel⟩, lw_t1 (List.mem_of_getElem? (i := 4) rfl), lw_t1 (List.mem_of_getElem? (i := 124) rfl), lw_t1 (List.mem_of_getElem? (i := 125) rfl)⟩
theorem lw_p7 : lw_okq (⟨"SendTable", "meet", "()V"⟩, 18) := ⟨⟨by decide +kernel, by decide +kernel⟩, lw_t1 (List.mem_of_getElem? (i := 4) rfl), lw_t1 (List.mem_of_getElem? (i := 128) rfl), lw_t1 (List.mem_of_getElem? (i := 129) rfl)⟩
theorem lw_p8 : lw_okq (⟨"SendTable", "paint", "()V"⟩, 18) := ⟨⟨by decide +kernel, by decide +kernel⟩, lw_t1 (List.mem_of_getElem? (i := 4) rfl), lw_t1 (List.mem_of_getElem? (i := 132) rfl), lw_t1 (List.mem_of_getElem? (i := 133) rfl)⟩
theorem lw_p9 : lw_okq (⟨"SendTable", "lineUp", "()V"⟩, 18) := ⟨⟨by decide +kernel, by decide +kernel⟩, lw_t1 (List.mem_of_getElem? (i := 4) rfl), lw_t1 (List.mem_of_getElem? (i := 136) rfl), lw_t1 (List.mem_of_getElem? (i := 137) rfl)⟩
theorem lw_p10 : lw_okq (⟨"SendTable", "opened", "(I)I"⟩, 18) := ⟨⟨by decide +kernel, by decide +kernel⟩, lw_t1 (List.mem_of_getElem? (i := 4) rfl), lw_t1 (List.mem_of_getElem? (i := 144) rfl), lw_t1 (List.mem_of_getElem? (i := 145) rfl)⟩
theorem lw_p11 : lw_okq (⟨"SendTable", "nextColour", "(III)I"⟩, 18) := ⟨⟨by decide +kernel, by decide +kernel⟩, lw_t1 (List.mem_of_getElem? (i := 4) rfl), lw_t1 (List.mem_of_getElem? (i := 148) rfl), lw_t1 (List.mem_of_getElem? (i := 149) rfl)⟩
theorem lw_p12 : lw_okq (⟨"SendTable", "keep", "(I)V"⟩, 18) := ⟨⟨by decide +kernel, by decide +kernel⟩, lw_t1 (List.mem_of_getElem? (i := 4) rfl), lw_t1 (List.mem_of_getElem? (i := 152) rfl), lw_t1 (List.mem_of_getElem? (i := 153) rfl)⟩
theorem lw_p13 : lw_okq (⟨"SendTable", "pack", "(I)V"⟩, 18) := ⟨⟨by decide +kernel, by decide +kernel⟩, lw_t1 (List.mem_of_getElem? (i := 4) rfl), lw_t1 (List.mem_of_getElem? (i := 156) rfl), lw_t1 (List.mem_of_getElem? (i := 157) rfl)⟩
theorem lw_p14 : lw_okq (⟨"SendTable", "fillRow", "(I)V"⟩, 18) := ⟨⟨by decide +kernel, by decide +kernel⟩, lw_t1 (List.mem_of_getElem? (i := 4) rfl), lw_t1 (List.mem_of_getElem? (i := 160) rfl), lw_t1 (List.mem_of_getElem? (i := 161) rfl)⟩
theorem lw_p15 : lw_okq (⟨"SendTable", "fits", "(II)Z"⟩, 18) := ⟨⟨by decide +kernel, by decide +kernel⟩, lw_t1 (List.mem_of_getElem? (i := 4) rfl), lw_t1 (List.mem_of_getElem? (i := 164) rfl), lw_t1 (List.mem_of_getElem? (i := 165) rfl)⟩
def lw_privs_1 : List (MethodName × Nat) := [(⟨"SendTable", "isClass", "(I)Z"⟩, 18), (⟨"SendTable", "under", "(II)Z"⟩, 18), (⟨"SendTable", "entry", "(II)I"⟩, 18), (⟨"SendTable", "build", "()V"⟩, 18), (⟨"SendTable", "sortDown", "()V"⟩, 18), (⟨"SendTable", "learn", "()V"⟩, 18), (⟨"SendTable", "own", "(I)I"⟩, 18), (⟨"SendTable", "meet", "()V"⟩, 18), (⟨"SendTable", "paint", "()V"⟩, 18), (⟨"SendTable", "lineUp", "()V"⟩, 18), (⟨"SendTable", "opened", "(I)I"⟩, 18), (⟨"SendTable", "nextColour", "(III)I"⟩, 18), (⟨"SendTable", "keep", "(I)V"⟩, 18), (⟨"SendTable", "pack", "(I)V"⟩, 18), (⟨"SendTable", "fillRow", "(I)V"⟩, 18), (⟨"SendTable", "fits", "(II)Z"⟩, 18)]
theorem lw_r1 : ∀ q ∈ lw_privs_1, lw_okq q := List.forall_mem_cons.mpr ⟨lw_p0, List.forall_mem_cons.mpr ⟨lw_p1, List.forall_mem_cons.mpr ⟨lw_p2, List.forall_mem_cons.mpr ⟨lw_p3, List.forall_mem_cons.mpr ⟨lw_p4, List.forall_mem_cons.mpr ⟨lw_p5, List.forall_mem_cons.mpr ⟨lw_p6, List.forall_mem_cons.mpr ⟨lw_p7, List.forall_mem_cons.mpr ⟨lw_p8, List.forall_mem_cons.mpr ⟨lw_p9, List.forall_mem_cons.mpr ⟨lw_p10, List.forall_mem_cons.mpr ⟨lw_p11, List.forall_mem_cons.mpr ⟨lw_p12, List.forall_mem_cons.mpr ⟨lw_p13, List.forall_mem_cons.mpr ⟨lw_p14, List.forall_mem_cons.mpr ⟨lw_p15, fun _ h => absurd h List.not_mem_nil⟩⟩⟩⟩⟩⟩⟩⟩⟩⟩⟩⟩⟩⟩⟩⟩
theorem lw_p16 : lw_okq (⟨"SendTable", "crowded", "(I)Z"⟩, 18) := ⟨⟨by decide +kernel, by decide +kernel⟩, lw_t1 (List.mem_of_getElem? (i := 4) rfl), lw_t1 (List.mem_of_getElem? (i := 193) rfl), lw_t1 (List.mem_of_getElem? (i := 194) rfl)⟩
theorem lw_p17 : lw_okq (⟨"SendTableModel", "is", "(I)Z"⟩, 6) := ⟨⟨by decide +kernel, by decide +kernel⟩, lw_t1 (List.mem_of_getElem? (i := 201) rfl), lw_t1 (List.mem_of_getElem? (i := 232) rfl), lw_t1 (List.mem_of_getElem? (i := 233) rfl)⟩
theorem lw_p18 : lw_okq (⟨"SendTableModel", "with", "(I)I"⟩, 6) := ⟨⟨by decide +kernel, by decide +kernel⟩, lw_t1 (List.mem_of_getElem? (i := 201) rfl), lw_t2 (List.mem_of_getElem? (i := 43) rfl), lw_t2 (List.mem_of_getElem? (i := 44) rfl)⟩
theorem lw_p19 : lw_okq (⟨"SendTableModel", "findMates", "()V"⟩, 6) := ⟨⟨by decide +kernel, by decide +kernel⟩, lw_t1 (List.mem_of_getElem? (i := 201) rfl), lw_t2 (List.mem_of_getElem? (i := 52) rfl), lw_t2 (List.mem_of_getElem? (i := 53) rfl)⟩
theorem lw_p20 : lw_okq (⟨"SendTableModel", "sizeOf", "(I)I"⟩, 6) := ⟨⟨by decide +kernel, by decide +kernel⟩, lw_t1 (List.mem_of_getElem? (i := 201) rfl), lw_t2 (List.mem_of_getElem? (i := 56) rfl), lw_t2 (List.mem_of_getElem? (i := 57) rfl)⟩
theorem lw_p21 : lw_okq (⟨"SendTableModel", "together", "(I)Z"⟩, 6) := ⟨⟨by decide +kernel, by decide +kernel⟩, lw_t1 (List.mem_of_getElem? (i := 201) rfl), lw_t2 (List.mem_of_getElem? (i := 60) rfl), lw_t2 (List.mem_of_getElem? (i := 61) rfl)⟩
theorem lw_p22 : lw_okq (⟨"SendTableModel", "strangers", "(I)Z"⟩, 6) := ⟨⟨by decide +kernel, by decide +kernel⟩, lw_t1 (List.mem_of_getElem? (i := 201) rfl), lw_t2 (List.mem_of_getElem? (i := 68) rfl), lw_t2 (List.mem_of_getElem? (i := 69) rfl)⟩
def lw_privs_2 : List (MethodName × Nat) := [(⟨"SendTable", "crowded", "(I)Z"⟩, 18), (⟨"SendTableModel", "is", "(I)Z"⟩, 6), (⟨"SendTableModel", "with", "(I)I"⟩, 6), (⟨"SendTableModel", "findMates", "()V"⟩, 6), (⟨"SendTableModel", "sizeOf", "(I)I"⟩, 6), (⟨"SendTableModel", "together", "(I)Z"⟩, 6), (⟨"SendTableModel", "strangers", "(I)Z"⟩, 6)]
theorem lw_r2 : ∀ q ∈ lw_privs_2, lw_okq q := List.forall_mem_cons.mpr ⟨lw_p16, List.forall_mem_cons.mpr ⟨lw_p17, List.forall_mem_cons.mpr ⟨lw_p18, List.forall_mem_cons.mpr ⟨lw_p19, List.forall_mem_cons.mpr ⟨lw_p20, List.forall_mem_cons.mpr ⟨lw_p21, List.forall_mem_cons.mpr ⟨lw_p22, fun _ h => absurd h List.not_mem_nil⟩⟩⟩⟩⟩⟩⟩
def lw_privs : List (MethodName × Nat) := lw_privs_1 ++ (lw_privs_2)
def lw_tbl : List Cond := k2_sels lw_privs ++ tables_1
theorem lw_privs_ok : ∀ q ∈ lw_privs, lw_okq q := by
  show ∀ q ∈ lw_privs_1 ++ (lw_privs_2), lw_okq q
  exact List.forall_mem_append.mpr ⟨lw_r1, lw_r2⟩
-- ===== ONE list of words for every method: the tables' words that hold all through a run =====
def lw_all : List Cond := lw_tbl.filter goodWord
/-- a word of the tables by its place: claim/WORDS.tsv -/
theorem lw_w {w : Cond} (i : Nat) (h : lw_tbl[i]? = some w) (g : goodWord w = true) : w ∈ lw_all := List.mem_filter.mpr ⟨List.mem_of_getElem? h, g⟩
theorem lw_all_tbl {w : Cond} (h : w ∈ lw_all) : w ∈ lw_tbl := (List.mem_filter.mp h).1
theorem lw_self : GoodIn lw_all lw_all := fun w h => ⟨h, good_of_word (List.mem_filter.mp h).2⟩
/-- a class's field words, by their places -/
theorem lw_in (ws : List Cond) (ps : List Nat) (hp : ws = ps.filterMap (fun i => lw_tbl[i]?)) (hg : ws.all goodWord = true) : ∀ w ∈ ws, w ∈ lw_all := by
  intro w h
  have h1 := List.all_eq_true.mp hg w h
  rw [hp] at h
  obtain ⟨i, -, hi⟩ := List.mem_filterMap.mp h
  exact lw_w i hi h1
/-- the words of a contract for the method y with code b, L locals, answer r -/
abbrev ws_ (y : MethodName) (b : ByteArray) (L : Nat) (r : Option FieldType) : List Cond := Cond.code y b L r :: lw_all
theorem lw_meth {y : MethodName} {b : ByteArray} {L : Nat} {r : Option FieldType} (h : Cond.code y b L r ∈ lw_all) : GoodIn lw_all (ws_ y b L r) := by
  intro w hw
  rcases List.mem_cons.mp hw with e | e
  · rw [e]
    exact lw_self _ h
  · exact lw_self _ e
theorem lw_app {a c : List Cond} (ha : ∀ w ∈ a, w ∈ lw_all) (hc : GoodIn lw_all c) : GoodIn lw_all (a ++ c) := by
  intro w hw
  rcases List.mem_append.mp hw with e | e
  · exact lw_self w (ha w e)
  · exact hc w e
/-- what a call through an object asks: cwV n hts (lw_V ..) -/
theorem lw_V {own : String} {idx : Nat} {C : String} {y : MethodName} {b : ByteArray} {L : Nat} {r : Option FieldType} (h1 : Cond.methodLink own idx y ∈ lw_all) (h2 : Cond.instanceMethod y ∈ lw_all) (h3 : Cond.selects C y y ∈ lw_all) (h4 : Cond.initialized C ∈ lw_all) (h5 : Cond.code y b L r ∈ lw_all) : GoodIn lw_all (wsV own idx C y (ws_ y b L r)) := by
  refine lw_app ?_ (lw_meth h5)
  intro w hw
  simp only [List.mem_cons, List.not_mem_nil, or_false] at hw
  rcases hw with e | e | e | e
  · rw [e]; exact h1
  · rw [e]; exact h2
  · rw [e]; exact h3
  · rw [e]; exact h4
/-- what a static call asks: va_cwS n hts (lw_S ..) -/
theorem lw_S {own : String} {idx : Nat} {y : MethodName} {b : ByteArray} {L : Nat} {r : Option FieldType} (h1 : Cond.methodLink own idx y ∈ lw_all) (h2 : Cond.static y ∈ lw_all) (h3 : Cond.initialized y.cls ∈ lw_all) (h4 : Cond.code y b L r ∈ lw_all) : GoodIn lw_all (va_wsS own idx y (ws_ y b L r)) := by
  refine lw_app ?_ (lw_meth h4)
  intro w hw
  simp only [List.mem_cons, List.not_mem_nil, or_false] at hw
  rcases hw with e | e | e
  · rw [e]; exact h1
  · rw [e]; exact h2
  · rw [e]; exact h3
/-- the words of a contract for a method WITH HANDLERS (hh: its table) -/
abbrev wsW_ (y : MethodName) (b : ByteArray) (L : Nat) (r : Option FieldType) (hh : List (Nat × Nat × Nat × Nat)) : List Cond := Cond.codeWith y b L r hh :: lw_all
theorem lw_methW {y : MethodName} {b : ByteArray} {L : Nat} {r : Option FieldType} {hh : List (Nat × Nat × Nat × Nat)} (h : Cond.codeWith y b L r hh ∈ lw_all) : GoodIn lw_all (wsW_ y b L r hh) := by
  intro w hw
  rcases List.mem_cons.mp hw with e | e
  · rw [e]
    exact lw_self _ h
  · exact lw_self _ e
/-- any list of words by their places (lw_in), good -/
theorem lw_good {ws : List Cond} (h : ∀ w ∈ ws, w ∈ lw_all) : GoodIn lw_all ws := fun w hw => lw_self w (h w hw)
/-- what a call of a method with handlers asks: vx_cwVW n hts (lw_VW ..), vx_cwSW n hts (lw_SW ..) -/
theorem lw_VW {own : String} {idx : Nat} {C : String} {y : MethodName} {b : ByteArray} {L : Nat} {r : Option FieldType} {hh : List (Nat × Nat × Nat × Nat)} (h1 : Cond.methodLink own idx y ∈ lw_all) (h2 : Cond.instanceMethod y ∈ lw_all) (h3 : Cond.selects C y y ∈ lw_all) (h4 : Cond.initialized C ∈ lw_all) (h5 : Cond.codeWith y b L r hh ∈ lw_all) : GoodIn lw_all (wsV own idx C y (wsW_ y b L r hh)) := by
  refine lw_app ?_ (lw_methW h5)
  intro w hw
  simp only [List.mem_cons, List.not_mem_nil, or_false] at hw
  rcases hw with e | e | e | e
  · rw [e]; exact h1
  · rw [e]; exact h2
  · rw [e]; exact h3
  · rw [e]; exact h4
theorem lw_SW {own : String} {idx : Nat} {y : MethodName} {b : ByteArray} {L : Nat} {r : Option FieldType} {hh : List (Nat × Nat × Nat × Nat)} (h1 : Cond.methodLink own idx y ∈ lw_all) (h2 : Cond.static y ∈ lw_all) (h3 : Cond.initialized y.cls ∈ lw_all) (h4 : Cond.codeWith y b L r hh ∈ lw_all) : GoodIn lw_all (va_wsS own idx y (wsW_ y b L r hh)) := by
  refine lw_app ?_ (lw_methW h4)
  intro w hw
  simp only [List.mem_cons, List.not_mem_nil, or_false] at hw
  rcases hw with e | e | e
  · rw [e]; exact h1
  · rw [e]; exact h2
  · rw [e]; exact h3
/-- a word by its place in its run of the tables -/
theorem lw_at {r : List Cond} (hr : ∀ w ∈ r, w ∈ lw_tbl) {w : Cond} (i : Nat) (h : r[i]? = some w) : w ∈ lw_tbl := hr w (List.mem_of_getElem? h)
theorem lw_g {w : Cond} (h : w ∈ lw_tbl) (g : goodWord w = true) : w ∈ lw_all := List.mem_filter.mpr ⟨h, g⟩
theorem lw_ms : ∀ w ∈ k2_sels lw_privs, w ∈ lw_tbl := fun w h => show w ∈ k2_sels lw_privs ++ tables_1 from List.mem_append_left _ h
theorem lw_m1 : ∀ w ∈ tables_1_1, w ∈ lw_tbl := fun w h => show w ∈ k2_sels lw_privs ++ tables_1 from List.mem_append_right (k2_sels lw_privs) (show w ∈ tables_1 from List.mem_append_left _ h)
theorem lw_m2 : ∀ w ∈ tables_1_2, w ∈ lw_tbl := fun w h => show w ∈ k2_sels lw_privs ++ tables_1 from List.mem_append_right (k2_sels lw_privs) (show w ∈ tables_1 from List.mem_append_right _ h)
theorem qs0 : (Cond.selects "SendTable" ⟨"SendTable", "isClass", "(I)Z"⟩ ⟨"SendTable", "isClass", "(I)Z"⟩) ∈ lw_all := lw_g (lw_at lw_ms 0 rfl) rfl
theorem qs1 : (Cond.selects "SendTable" ⟨"SendTable", "under", "(II)Z"⟩ ⟨"SendTable", "under", "(II)Z"⟩) ∈ lw_all := lw_g (lw_at lw_ms 1 rfl) rfl
theorem qs2 : (Cond.selects "SendTable" ⟨"SendTable", "entry", "(II)I"⟩ ⟨"SendTable", "entry", "(II)I"⟩) ∈ lw_all := lw_g (lw_at lw_ms 2 rfl) rfl
theorem qs3 : (Cond.selects "SendTable" ⟨"SendTable", "build", "()V"⟩ ⟨"SendTable", "build", "()V"⟩) ∈ lw_all := lw_g (lw_at lw_ms 3 rfl) rfl
theorem qs4 : (Cond.selects "SendTable" ⟨"SendTable", "sortDown", "()V"⟩ ⟨"SendTable", "sortDown", "()V"⟩) ∈ lw_all := lw_g (lw_at lw_ms 4 rfl) rfl
theorem qs5 : (Cond.selects "SendTable" ⟨"SendTable", "learn", "()V"⟩ ⟨"SendTable", "learn", "()V"⟩) ∈ lw_all := lw_g (lw_at lw_ms 5 rfl) rfl
theorem qs6 : (Cond.selects "SendTable" ⟨"SendTable", "own", "(I)I"⟩ ⟨"SendTable", "own", "(I)I"⟩) ∈ lw_all := lw_g (lw_at lw_ms 6 rfl) rfl
theorem qs7 : (Cond.selects "SendTable" ⟨"SendTable", "meet", "()V"⟩ ⟨"SendTable", "meet", "()V"⟩) ∈ lw_all := lw_g (lw_at lw_ms 7 rfl) rfl
theorem qs8 : (Cond.selects "SendTable" ⟨"SendTable", "paint", "()V"⟩ ⟨"SendTable", "paint", "()V"⟩) ∈ lw_all := lw_g (lw_at lw_ms 8 rfl) rfl
theorem qs9 : (Cond.selects "SendTable" ⟨"SendTable", "lineUp", "()V"⟩ ⟨"SendTable", "lineUp", "()V"⟩) ∈ lw_all := lw_g (lw_at lw_ms 9 rfl) rfl
theorem qs10 : (Cond.selects "SendTable" ⟨"SendTable", "opened", "(I)I"⟩ ⟨"SendTable", "opened", "(I)I"⟩) ∈ lw_all := lw_g (lw_at lw_ms 10 rfl) rfl
theorem qs11 : (Cond.selects "SendTable" ⟨"SendTable", "nextColour", "(III)I"⟩ ⟨"SendTable", "nextColour", "(III)I"⟩) ∈ lw_all := lw_g (lw_at lw_ms 11 rfl) rfl
theorem qs12 : (Cond.selects "SendTable" ⟨"SendTable", "keep", "(I)V"⟩ ⟨"SendTable", "keep", "(I)V"⟩) ∈ lw_all := lw_g (lw_at lw_ms 12 rfl) rfl
theorem qs13 : (Cond.selects "SendTable" ⟨"SendTable", "pack", "(I)V"⟩ ⟨"SendTable", "pack", "(I)V"⟩) ∈ lw_all := lw_g (lw_at lw_ms 13 rfl) rfl
theorem qs14 : (Cond.selects "SendTable" ⟨"SendTable", "fillRow", "(I)V"⟩ ⟨"SendTable", "fillRow", "(I)V"⟩) ∈ lw_all := lw_g (lw_at lw_ms 14 rfl) rfl
theorem qs15 : (Cond.selects "SendTable" ⟨"SendTable", "fits", "(II)Z"⟩ ⟨"SendTable", "fits", "(II)Z"⟩) ∈ lw_all := lw_g (lw_at lw_ms 15 rfl) rfl
theorem qs16 : (Cond.selects "SendTable" ⟨"SendTable", "crowded", "(I)Z"⟩ ⟨"SendTable", "crowded", "(I)Z"⟩) ∈ lw_all := lw_g (lw_at lw_ms 16 rfl) rfl
theorem qs17 : (Cond.selects "SendTableModel" ⟨"SendTableModel", "is", "(I)Z"⟩ ⟨"SendTableModel", "is", "(I)Z"⟩) ∈ lw_all := lw_g (lw_at lw_ms 17 rfl) rfl
theorem qs18 : (Cond.selects "SendTableModel" ⟨"SendTableModel", "with", "(I)I"⟩ ⟨"SendTableModel", "with", "(I)I"⟩) ∈ lw_all := lw_g (lw_at lw_ms 18 rfl) rfl
theorem qs19 : (Cond.selects "SendTableModel" ⟨"SendTableModel", "findMates", "()V"⟩ ⟨"SendTableModel", "findMates", "()V"⟩) ∈ lw_all := lw_g (lw_at lw_ms 19 rfl) rfl
theorem qs20 : (Cond.selects "SendTableModel" ⟨"SendTableModel", "sizeOf", "(I)I"⟩ ⟨"SendTableModel", "sizeOf", "(I)I"⟩) ∈ lw_all := lw_g (lw_at lw_ms 20 rfl) rfl
theorem qs21 : (Cond.selects "SendTableModel" ⟨"SendTableModel", "together", "(I)Z"⟩ ⟨"SendTableModel", "together", "(I)Z"⟩) ∈ lw_all := lw_g (lw_at lw_ms 21 rfl) rfl
theorem qs22 : (Cond.selects "SendTableModel" ⟨"SendTableModel", "strangers", "(I)Z"⟩ ⟨"SendTableModel", "strangers", "(I)Z"⟩) ∈ lw_all := lw_g (lw_at lw_ms 22 rfl) rfl
end
section
/-! SendTable -/
set_option maxRecDepth 100000
def RX0 : String := "SendTable"
def TX0 : u_T := fun k => match k with
  | 0 => ("SendTable", "count", "I", false)
  | 1 => ("SendTable", "above", "[B", true)
  | 2 => ("SendTable", "defined", "[S", true)
  | 3 => ("SendTable", "built", "Z", false)
  | 4 => ("SendTable", "known", "[S", true)
  | 5 => ("SendTable", "meets", "[S", true)
  | 6 => ("SendTable", "colour", "[B", true)
  | 7 => ("SendTable", "best", "[B", true)
  | 8 => ("SendTable", "line", "[B", true)
  | 9 => ("SendTable", "lineLength", "I", false)
  | 10 => ("SendTable", "colourCount", "I", false)
  | 11 => ("SendTable", "shift", "[B", true)
  | 12 => ("SendTable", "entryClass", "[B", true)
  | 13 => ("SendTable", "entrySelector", "[B", true)
  | 14 => ("SendTable", "entryOwner", "[B", true)
  | 15 => ("SendTable", "entryMethod", "[S", true)
  | 16 => ("SendTable", "rowOwner", "[B", true)
  | _ => ("SendTable", "down", "[B", true)
def tyX0 : Nat → FieldType := fun k => match k with
  | 0 => .int
  | 1 => .array .byte
  | 2 => .array .short
  | 3 => .boolean
  | 4 => .array .short
  | 5 => .array .short
  | 6 => .array .byte
  | 7 => .array .byte
  | 8 => .array .byte
  | 9 => .int
  | 10 => .int
  | 11 => .array .byte
  | 12 => .array .byte
  | 13 => .array .byte
  | 14 => .array .byte
  | 15 => .array .short
  | 16 => .array .byte
  | _ => .array .byte
abbrev wsX00 : List Cond := u_ws RX0 TX0 18
set_option maxRecDepth 100000 in
theorem nmX0 : ∀ a, a < 18 → ∀ b, b < 18 → a ≠ b → (TX0 a).2.1 ≠ (TX0 b).2.1 := by decide +kernel
set_option maxRecDepth 100000 in
theorem tyX0_ok : ∀ k, k < 18 → parseFieldDescriptor (TX0 k).2.2.1 = some (tyX0 k) := by decide +kernel
abbrev cX0_init : ByteArray := prog_1_method_1_code
def yX0_init : MethodName := ⟨RX0, "<init>", "()V"⟩
theorem dX0_init_0 : decode cX0_init 0 = .ok (.aload_n 0, 1) := by decide +kernel
theorem dX0_init_1 : decode cX0_init 1 = .ok (.invokespecial 1, 3) := by decide +kernel
theorem dX0_init_4 : decode cX0_init 4 = .ok (.aload_n 0, 1) := by decide +kernel
theorem dX0_init_5 : decode cX0_init 5 = .ok (.bipush 10, 2) := by decide +kernel
theorem dX0_init_7 : decode cX0_init 7 = .ok (.newarray .byte, 2) := by decide +kernel
theorem dX0_init_9 : decode cX0_init 9 = .ok (.putfield 7, 3) := by decide +kernel
theorem dX0_init_12 : decode cX0_init 12 = .ok (.aload_n 0, 1) := by decide +kernel
theorem dX0_init_13 : decode cX0_init 13 = .ok (.bipush 80, 2) := by decide +kernel
theorem dX0_init_15 : decode cX0_init 15 = .ok (.newarray .short, 2) := by decide +kernel
theorem dX0_init_17 : decode cX0_init 17 = .ok (.putfield 13, 3) := by decide +kernel
theorem dX0_init_20 : decode cX0_init 20 = .ok (.aload_n 0, 1) := by decide +kernel
theorem dX0_init_21 : decode cX0_init 21 = .ok (.bipush 10, 2) := by decide +kernel
theorem dX0_init_23 : decode cX0_init 23 = .ok (.newarray .short, 2) := by decide +kernel
theorem dX0_init_25 : decode cX0_init 25 = .ok (.putfield 17, 3) := by decide +kernel
theorem dX0_init_28 : decode cX0_init 28 = .ok (.aload_n 0, 1) := by decide +kernel
theorem dX0_init_29 : decode cX0_init 29 = .ok (.bipush 8, 2) := by decide +kernel
theorem dX0_init_31 : decode cX0_init 31 = .ok (.newarray .short, 2) := by decide +kernel
theorem dX0_init_33 : decode cX0_init 33 = .ok (.putfield 20, 3) := by decide +kernel
theorem dX0_init_36 : decode cX0_init 36 = .ok (.aload_n 0, 1) := by decide +kernel
theorem dX0_init_37 : decode cX0_init 37 = .ok (.bipush 8, 2) := by decide +kernel
theorem dX0_init_39 : decode cX0_init 39 = .ok (.newarray .byte, 2) := by decide +kernel
theorem dX0_init_41 : decode cX0_init 41 = .ok (.putfield 23, 3) := by decide +kernel
theorem dX0_init_44 : decode cX0_init 44 = .ok (.aload_n 0, 1) := by decide +kernel
theorem dX0_init_45 : decode cX0_init 45 = .ok (.bipush 8, 2) := by decide +kernel
theorem dX0_init_47 : decode cX0_init 47 = .ok (.newarray .byte, 2) := by decide +kernel
theorem dX0_init_49 : decode cX0_init 49 = .ok (.putfield 26, 3) := by decide +kernel
theorem dX0_init_52 : decode cX0_init 52 = .ok (.aload_n 0, 1) := by decide +kernel
theorem dX0_init_53 : decode cX0_init 53 = .ok (.bipush 8, 2) := by decide +kernel
theorem dX0_init_55 : decode cX0_init 55 = .ok (.newarray .byte, 2) := by decide +kernel
theorem dX0_init_57 : decode cX0_init 57 = .ok (.putfield 29, 3) := by decide +kernel
theorem dX0_init_60 : decode cX0_init 60 = .ok (.aload_n 0, 1) := by decide +kernel
theorem dX0_init_61 : decode cX0_init 61 = .ok (.bipush 10, 2) := by decide +kernel
theorem dX0_init_63 : decode cX0_init 63 = .ok (.newarray .byte, 2) := by decide +kernel
theorem dX0_init_65 : decode cX0_init 65 = .ok (.putfield 32, 3) := by decide +kernel
theorem dX0_init_68 : decode cX0_init 68 = .ok (.aload_n 0, 1) := by decide +kernel
theorem dX0_init_69 : decode cX0_init 69 = .ok (.bipush 96, 2) := by decide +kernel
theorem dX0_init_71 : decode cX0_init 71 = .ok (.newarray .byte, 2) := by decide +kernel
theorem dX0_init_73 : decode cX0_init 73 = .ok (.putfield 35, 3) := by decide +kernel
theorem dX0_init_76 : decode cX0_init 76 = .ok (.aload_n 0, 1) := by decide +kernel
theorem dX0_init_77 : decode cX0_init 77 = .ok (.bipush 96, 2) := by decide +kernel
theorem dX0_init_79 : decode cX0_init 79 = .ok (.newarray .byte, 2) := by decide +kernel
theorem dX0_init_81 : decode cX0_init 81 = .ok (.putfield 38, 3) := by decide +kernel
theorem dX0_init_84 : decode cX0_init 84 = .ok (.aload_n 0, 1) := by decide +kernel
theorem dX0_init_85 : decode cX0_init 85 = .ok (.bipush 96, 2) := by decide +kernel
theorem dX0_init_87 : decode cX0_init 87 = .ok (.newarray .byte, 2) := by decide +kernel
theorem dX0_init_89 : decode cX0_init 89 = .ok (.putfield 41, 3) := by decide +kernel
theorem dX0_init_92 : decode cX0_init 92 = .ok (.aload_n 0, 1) := by decide +kernel
theorem dX0_init_93 : decode cX0_init 93 = .ok (.bipush 96, 2) := by decide +kernel
theorem dX0_init_95 : decode cX0_init 95 = .ok (.newarray .short, 2) := by decide +kernel
theorem dX0_init_97 : decode cX0_init 97 = .ok (.putfield 44, 3) := by decide +kernel
theorem dX0_init_100 : decode cX0_init 100 = .ok (.aload_n 0, 1) := by decide +kernel
theorem dX0_init_101 : decode cX0_init 101 = .ok (.bipush 8, 2) := by decide +kernel
theorem dX0_init_103 : decode cX0_init 103 = .ok (.newarray .byte, 2) := by decide +kernel
theorem dX0_init_105 : decode cX0_init 105 = .ok (.putfield 47, 3) := by decide +kernel
theorem dX0_init_108 : decode cX0_init 108 = .ok (.aload_n 0, 1) := by decide +kernel
theorem dX0_init_109 : decode cX0_init 109 = .ok (.bipush 10, 2) := by decide +kernel
theorem dX0_init_111 : decode cX0_init 111 = .ok (.newarray .byte, 2) := by decide +kernel
theorem dX0_init_113 : decode cX0_init 113 = .ok (.putfield 50, 3) := by decide +kernel
theorem dX0_init_116 : decode cX0_init 116 = .ok (.return_, 1) := by decide +kernel
abbrev cX0_addClass : ByteArray := prog_1_method_4_code
def yX0_addClass : MethodName := ⟨RX0, "addClass", "(I)I"⟩
theorem dX0_addClass_0 : decode cX0_addClass 0 = .ok (.iload_n 1, 1) := by decide +kernel
theorem dX0_addClass_1 : decode cX0_addClass 1 = .ok (.iconst (-1), 1) := by decide +kernel
theorem dX0_addClass_2 : decode cX0_addClass 2 = .ok (.if_icmp .eq 13, 3) := by decide +kernel
theorem dX0_addClass_5 : decode cX0_addClass 5 = .ok (.aload_n 0, 1) := by decide +kernel
theorem dX0_addClass_6 : decode cX0_addClass 6 = .ok (.iload_n 1, 1) := by decide +kernel
theorem dX0_addClass_7 : decode cX0_addClass 7 = .ok (.invokevirtual 57, 3) := by decide +kernel
theorem dX0_addClass_10 : decode cX0_addClass 10 = .ok (.ifCond .ne 5, 3) := by decide +kernel
theorem dX0_addClass_13 : decode cX0_addClass 13 = .ok (.iconst (-1), 1) := by decide +kernel
theorem dX0_addClass_14 : decode cX0_addClass 14 = .ok (.ireturn, 1) := by decide +kernel
theorem dX0_addClass_15 : decode cX0_addClass 15 = .ok (.aload_n 0, 1) := by decide +kernel
theorem dX0_addClass_16 : decode cX0_addClass 16 = .ok (.getfield 53, 3) := by decide +kernel
theorem dX0_addClass_19 : decode cX0_addClass 19 = .ok (.bipush 10, 2) := by decide +kernel
theorem dX0_addClass_21 : decode cX0_addClass 21 = .ok (.if_icmp .lt 6, 3) := by decide +kernel
theorem dX0_addClass_24 : decode cX0_addClass 24 = .ok (.bipush (-2), 2) := by decide +kernel
theorem dX0_addClass_26 : decode cX0_addClass 26 = .ok (.ireturn, 1) := by decide +kernel
theorem dX0_addClass_27 : decode cX0_addClass 27 = .ok (.aload_n 0, 1) := by decide +kernel
theorem dX0_addClass_28 : decode cX0_addClass 28 = .ok (.getfield 7, 3) := by decide +kernel
theorem dX0_addClass_31 : decode cX0_addClass 31 = .ok (.aload_n 0, 1) := by decide +kernel
theorem dX0_addClass_32 : decode cX0_addClass 32 = .ok (.getfield 53, 3) := by decide +kernel
theorem dX0_addClass_35 : decode cX0_addClass 35 = .ok (.iload_n 1, 1) := by decide +kernel
theorem dX0_addClass_36 : decode cX0_addClass 36 = .ok (.i2b, 1) := by decide +kernel
theorem dX0_addClass_37 : decode cX0_addClass 37 = .ok (.bastore, 1) := by decide +kernel
theorem dX0_addClass_38 : decode cX0_addClass 38 = .ok (.iconst 0, 1) := by decide +kernel
theorem dX0_addClass_39 : decode cX0_addClass 39 = .ok (.istore_n 2, 1) := by decide +kernel
theorem dX0_addClass_40 : decode cX0_addClass 40 = .ok (.iload_n 2, 1) := by decide +kernel
theorem dX0_addClass_41 : decode cX0_addClass 41 = .ok (.bipush 8, 2) := by decide +kernel
theorem dX0_addClass_43 : decode cX0_addClass 43 = .ok (.if_icmp .ge 24, 3) := by decide +kernel
theorem dX0_addClass_46 : decode cX0_addClass 46 = .ok (.aload_n 0, 1) := by decide +kernel
theorem dX0_addClass_47 : decode cX0_addClass 47 = .ok (.getfield 13, 3) := by decide +kernel
theorem dX0_addClass_50 : decode cX0_addClass 50 = .ok (.aload_n 0, 1) := by decide +kernel
theorem dX0_addClass_51 : decode cX0_addClass 51 = .ok (.getfield 53, 3) := by decide +kernel
theorem dX0_addClass_54 : decode cX0_addClass 54 = .ok (.bipush 8, 2) := by decide +kernel
theorem dX0_addClass_56 : decode cX0_addClass 56 = .ok (.imul, 1) := by decide +kernel
theorem dX0_addClass_57 : decode cX0_addClass 57 = .ok (.iload_n 2, 1) := by decide +kernel
theorem dX0_addClass_58 : decode cX0_addClass 58 = .ok (.iadd, 1) := by decide +kernel
theorem dX0_addClass_59 : decode cX0_addClass 59 = .ok (.iconst 0, 1) := by decide +kernel
theorem dX0_addClass_60 : decode cX0_addClass 60 = .ok (.sastore, 1) := by decide +kernel
theorem dX0_addClass_61 : decode cX0_addClass 61 = .ok (.iinc 2 1, 3) := by decide +kernel
theorem dX0_addClass_64 : decode cX0_addClass 64 = .ok (.goto (-24), 3) := by decide +kernel
theorem dX0_addClass_67 : decode cX0_addClass 67 = .ok (.aload_n 0, 1) := by decide +kernel
theorem dX0_addClass_68 : decode cX0_addClass 68 = .ok (.dup, 1) := by decide +kernel
theorem dX0_addClass_69 : decode cX0_addClass 69 = .ok (.getfield 53, 3) := by decide +kernel
theorem dX0_addClass_72 : decode cX0_addClass 72 = .ok (.iconst 1, 1) := by decide +kernel
theorem dX0_addClass_73 : decode cX0_addClass 73 = .ok (.iadd, 1) := by decide +kernel
theorem dX0_addClass_74 : decode cX0_addClass 74 = .ok (.putfield 53, 3) := by decide +kernel
theorem dX0_addClass_77 : decode cX0_addClass 77 = .ok (.aload_n 0, 1) := by decide +kernel
theorem dX0_addClass_78 : decode cX0_addClass 78 = .ok (.iconst 0, 1) := by decide +kernel
theorem dX0_addClass_79 : decode cX0_addClass 79 = .ok (.putfield 61, 3) := by decide +kernel
theorem dX0_addClass_82 : decode cX0_addClass 82 = .ok (.aload_n 0, 1) := by decide +kernel
theorem dX0_addClass_83 : decode cX0_addClass 83 = .ok (.getfield 53, 3) := by decide +kernel
theorem dX0_addClass_86 : decode cX0_addClass 86 = .ok (.iconst 1, 1) := by decide +kernel
theorem dX0_addClass_87 : decode cX0_addClass 87 = .ok (.isub, 1) := by decide +kernel
theorem dX0_addClass_88 : decode cX0_addClass 88 = .ok (.ireturn, 1) := by decide +kernel
abbrev cX0_isClass : ByteArray := prog_1_method_2_code
def yX0_isClass : MethodName := ⟨RX0, "isClass", "(I)Z"⟩
theorem dX0_isClass_0 : decode cX0_isClass 0 = .ok (.iload_n 1, 1) := by decide +kernel
theorem dX0_isClass_1 : decode cX0_isClass 1 = .ok (.ifCond .lt 15, 3) := by decide +kernel
theorem dX0_isClass_4 : decode cX0_isClass 4 = .ok (.iload_n 1, 1) := by decide +kernel
theorem dX0_isClass_5 : decode cX0_isClass 5 = .ok (.aload_n 0, 1) := by decide +kernel
theorem dX0_isClass_6 : decode cX0_isClass 6 = .ok (.getfield 53, 3) := by decide +kernel
theorem dX0_isClass_9 : decode cX0_isClass 9 = .ok (.if_icmp .ge 7, 3) := by decide +kernel
theorem dX0_isClass_12 : decode cX0_isClass 12 = .ok (.iconst 1, 1) := by decide +kernel
theorem dX0_isClass_13 : decode cX0_isClass 13 = .ok (.goto 4, 3) := by decide +kernel
theorem dX0_isClass_16 : decode cX0_isClass 16 = .ok (.iconst 0, 1) := by decide +kernel
theorem dX0_isClass_17 : decode cX0_isClass 17 = .ok (.ireturn, 1) := by decide +kernel
abbrev cX0_define : ByteArray := prog_1_method_5_code
def yX0_define : MethodName := ⟨RX0, "define", "(III)Z"⟩
theorem dX0_define_0 : decode cX0_define 0 = .ok (.aload_n 0, 1) := by decide +kernel
theorem dX0_define_1 : decode cX0_define 1 = .ok (.iload_n 1, 1) := by decide +kernel
theorem dX0_define_2 : decode cX0_define 2 = .ok (.invokevirtual 57, 3) := by decide +kernel
theorem dX0_define_5 : decode cX0_define 5 = .ok (.ifCond .eq 22, 3) := by decide +kernel
theorem dX0_define_8 : decode cX0_define 8 = .ok (.iload_n 2, 1) := by decide +kernel
theorem dX0_define_9 : decode cX0_define 9 = .ok (.invokestatic 65, 3) := by decide +kernel
theorem dX0_define_12 : decode cX0_define 12 = .ok (.ifCond .eq 15, 3) := by decide +kernel
theorem dX0_define_15 : decode cX0_define 15 = .ok (.iload_n 3, 1) := by decide +kernel
theorem dX0_define_16 : decode cX0_define 16 = .ok (.iconst 1, 1) := by decide +kernel
theorem dX0_define_17 : decode cX0_define 17 = .ok (.if_icmp .lt 10, 3) := by decide +kernel
theorem dX0_define_20 : decode cX0_define 20 = .ok (.iload_n 3, 1) := by decide +kernel
theorem dX0_define_21 : decode cX0_define 21 = .ok (.sipush 1000, 3) := by decide +kernel
theorem dX0_define_24 : decode cX0_define 24 = .ok (.if_icmp .le 5, 3) := by decide +kernel
theorem dX0_define_27 : decode cX0_define 27 = .ok (.iconst 0, 1) := by decide +kernel
theorem dX0_define_28 : decode cX0_define 28 = .ok (.ireturn, 1) := by decide +kernel
theorem dX0_define_29 : decode cX0_define 29 = .ok (.aload_n 0, 1) := by decide +kernel
theorem dX0_define_30 : decode cX0_define 30 = .ok (.getfield 13, 3) := by decide +kernel
theorem dX0_define_33 : decode cX0_define 33 = .ok (.iload_n 1, 1) := by decide +kernel
theorem dX0_define_34 : decode cX0_define 34 = .ok (.bipush 8, 2) := by decide +kernel
theorem dX0_define_36 : decode cX0_define 36 = .ok (.imul, 1) := by decide +kernel
theorem dX0_define_37 : decode cX0_define 37 = .ok (.iload_n 2, 1) := by decide +kernel
theorem dX0_define_38 : decode cX0_define 38 = .ok (.iadd, 1) := by decide +kernel
theorem dX0_define_39 : decode cX0_define 39 = .ok (.iload_n 3, 1) := by decide +kernel
theorem dX0_define_40 : decode cX0_define 40 = .ok (.i2s, 1) := by decide +kernel
theorem dX0_define_41 : decode cX0_define 41 = .ok (.sastore, 1) := by decide +kernel
theorem dX0_define_42 : decode cX0_define 42 = .ok (.aload_n 0, 1) := by decide +kernel
theorem dX0_define_43 : decode cX0_define 43 = .ok (.iconst 0, 1) := by decide +kernel
theorem dX0_define_44 : decode cX0_define 44 = .ok (.putfield 61, 3) := by decide +kernel
theorem dX0_define_47 : decode cX0_define 47 = .ok (.iconst 1, 1) := by decide +kernel
theorem dX0_define_48 : decode cX0_define 48 = .ok (.ireturn, 1) := by decide +kernel
abbrev cX0_isSelector : ByteArray := prog_1_method_3_code
def yX0_isSelector : MethodName := ⟨RX0, "isSelector", "(I)Z"⟩
theorem dX0_isSelector_0 : decode cX0_isSelector 0 = .ok (.iload_n 0, 1) := by decide +kernel
theorem dX0_isSelector_1 : decode cX0_isSelector 1 = .ok (.ifCond .lt 13, 3) := by decide +kernel
theorem dX0_isSelector_4 : decode cX0_isSelector 4 = .ok (.iload_n 0, 1) := by decide +kernel
theorem dX0_isSelector_5 : decode cX0_isSelector 5 = .ok (.bipush 8, 2) := by decide +kernel
theorem dX0_isSelector_7 : decode cX0_isSelector 7 = .ok (.if_icmp .ge 7, 3) := by decide +kernel
theorem dX0_isSelector_10 : decode cX0_isSelector 10 = .ok (.iconst 1, 1) := by decide +kernel
theorem dX0_isSelector_11 : decode cX0_isSelector 11 = .ok (.goto 4, 3) := by decide +kernel
theorem dX0_isSelector_14 : decode cX0_isSelector 14 = .ok (.iconst 0, 1) := by decide +kernel
theorem dX0_isSelector_15 : decode cX0_isSelector 15 = .ok (.ireturn, 1) := by decide +kernel
abbrev cX0_drop : ByteArray := prog_1_method_6_code
def yX0_drop : MethodName := ⟨RX0, "drop", "(II)Z"⟩
theorem dX0_drop_0 : decode cX0_drop 0 = .ok (.aload_n 0, 1) := by decide +kernel
theorem dX0_drop_1 : decode cX0_drop 1 = .ok (.iload_n 1, 1) := by decide +kernel
theorem dX0_drop_2 : decode cX0_drop 2 = .ok (.invokevirtual 57, 3) := by decide +kernel
theorem dX0_drop_5 : decode cX0_drop 5 = .ok (.ifCond .eq 24, 3) := by decide +kernel
theorem dX0_drop_8 : decode cX0_drop 8 = .ok (.iload_n 2, 1) := by decide +kernel
theorem dX0_drop_9 : decode cX0_drop 9 = .ok (.invokestatic 65, 3) := by decide +kernel
theorem dX0_drop_12 : decode cX0_drop 12 = .ok (.ifCond .eq 17, 3) := by decide +kernel
theorem dX0_drop_15 : decode cX0_drop 15 = .ok (.aload_n 0, 1) := by decide +kernel
theorem dX0_drop_16 : decode cX0_drop 16 = .ok (.getfield 13, 3) := by decide +kernel
theorem dX0_drop_19 : decode cX0_drop 19 = .ok (.iload_n 1, 1) := by decide +kernel
theorem dX0_drop_20 : decode cX0_drop 20 = .ok (.bipush 8, 2) := by decide +kernel
theorem dX0_drop_22 : decode cX0_drop 22 = .ok (.imul, 1) := by decide +kernel
theorem dX0_drop_23 : decode cX0_drop 23 = .ok (.iload_n 2, 1) := by decide +kernel
theorem dX0_drop_24 : decode cX0_drop 24 = .ok (.iadd, 1) := by decide +kernel
theorem dX0_drop_25 : decode cX0_drop 25 = .ok (.saload, 1) := by decide +kernel
theorem dX0_drop_26 : decode cX0_drop 26 = .ok (.ifCond .ne 5, 3) := by decide +kernel
theorem dX0_drop_29 : decode cX0_drop 29 = .ok (.iconst 0, 1) := by decide +kernel
theorem dX0_drop_30 : decode cX0_drop 30 = .ok (.ireturn, 1) := by decide +kernel
theorem dX0_drop_31 : decode cX0_drop 31 = .ok (.aload_n 0, 1) := by decide +kernel
theorem dX0_drop_32 : decode cX0_drop 32 = .ok (.getfield 13, 3) := by decide +kernel
theorem dX0_drop_35 : decode cX0_drop 35 = .ok (.iload_n 1, 1) := by decide +kernel
theorem dX0_drop_36 : decode cX0_drop 36 = .ok (.bipush 8, 2) := by decide +kernel
theorem dX0_drop_38 : decode cX0_drop 38 = .ok (.imul, 1) := by decide +kernel
theorem dX0_drop_39 : decode cX0_drop 39 = .ok (.iload_n 2, 1) := by decide +kernel
theorem dX0_drop_40 : decode cX0_drop 40 = .ok (.iadd, 1) := by decide +kernel
theorem dX0_drop_41 : decode cX0_drop 41 = .ok (.iconst 0, 1) := by decide +kernel
theorem dX0_drop_42 : decode cX0_drop 42 = .ok (.sastore, 1) := by decide +kernel
theorem dX0_drop_43 : decode cX0_drop 43 = .ok (.aload_n 0, 1) := by decide +kernel
theorem dX0_drop_44 : decode cX0_drop 44 = .ok (.iconst 0, 1) := by decide +kernel
theorem dX0_drop_45 : decode cX0_drop 45 = .ok (.putfield 61, 3) := by decide +kernel
theorem dX0_drop_48 : decode cX0_drop 48 = .ok (.iconst 1, 1) := by decide +kernel
theorem dX0_drop_49 : decode cX0_drop 49 = .ok (.ireturn, 1) := by decide +kernel
abbrev cX0_move : ByteArray := prog_1_method_7_code
def yX0_move : MethodName := ⟨RX0, "move", "(II)Z"⟩
theorem dX0_move_0 : decode cX0_move 0 = .ok (.aload_n 0, 1) := by decide +kernel
theorem dX0_move_1 : decode cX0_move 1 = .ok (.iload_n 1, 1) := by decide +kernel
theorem dX0_move_2 : decode cX0_move 2 = .ok (.invokevirtual 57, 3) := by decide +kernel
theorem dX0_move_5 : decode cX0_move 5 = .ok (.ifCond .eq 16, 3) := by decide +kernel
theorem dX0_move_8 : decode cX0_move 8 = .ok (.iload_n 2, 1) := by decide +kernel
theorem dX0_move_9 : decode cX0_move 9 = .ok (.iconst (-1), 1) := by decide +kernel
theorem dX0_move_10 : decode cX0_move 10 = .ok (.if_icmp .eq 13, 3) := by decide +kernel
theorem dX0_move_13 : decode cX0_move 13 = .ok (.aload_n 0, 1) := by decide +kernel
theorem dX0_move_14 : decode cX0_move 14 = .ok (.iload_n 2, 1) := by decide +kernel
theorem dX0_move_15 : decode cX0_move 15 = .ok (.invokevirtual 57, 3) := by decide +kernel
theorem dX0_move_18 : decode cX0_move 18 = .ok (.ifCond .ne 5, 3) := by decide +kernel
theorem dX0_move_21 : decode cX0_move 21 = .ok (.iconst 0, 1) := by decide +kernel
theorem dX0_move_22 : decode cX0_move 22 = .ok (.ireturn, 1) := by decide +kernel
theorem dX0_move_23 : decode cX0_move 23 = .ok (.iload_n 2, 1) := by decide +kernel
theorem dX0_move_24 : decode cX0_move 24 = .ok (.iconst (-1), 1) := by decide +kernel
theorem dX0_move_25 : decode cX0_move 25 = .ok (.if_icmp .eq 14, 3) := by decide +kernel
theorem dX0_move_28 : decode cX0_move 28 = .ok (.aload_n 0, 1) := by decide +kernel
theorem dX0_move_29 : decode cX0_move 29 = .ok (.iload_n 2, 1) := by decide +kernel
theorem dX0_move_30 : decode cX0_move 30 = .ok (.iload_n 1, 1) := by decide +kernel
theorem dX0_move_31 : decode cX0_move 31 = .ok (.invokevirtual 68, 3) := by decide +kernel
theorem dX0_move_34 : decode cX0_move 34 = .ok (.ifCond .eq 5, 3) := by decide +kernel
theorem dX0_move_37 : decode cX0_move 37 = .ok (.iconst 0, 1) := by decide +kernel
theorem dX0_move_38 : decode cX0_move 38 = .ok (.ireturn, 1) := by decide +kernel
theorem dX0_move_39 : decode cX0_move 39 = .ok (.aload_n 0, 1) := by decide +kernel
theorem dX0_move_40 : decode cX0_move 40 = .ok (.getfield 7, 3) := by decide +kernel
theorem dX0_move_43 : decode cX0_move 43 = .ok (.iload_n 1, 1) := by decide +kernel
theorem dX0_move_44 : decode cX0_move 44 = .ok (.iload_n 2, 1) := by decide +kernel
theorem dX0_move_45 : decode cX0_move 45 = .ok (.i2b, 1) := by decide +kernel
theorem dX0_move_46 : decode cX0_move 46 = .ok (.bastore, 1) := by decide +kernel
theorem dX0_move_47 : decode cX0_move 47 = .ok (.aload_n 0, 1) := by decide +kernel
theorem dX0_move_48 : decode cX0_move 48 = .ok (.iconst 0, 1) := by decide +kernel
theorem dX0_move_49 : decode cX0_move 49 = .ok (.putfield 61, 3) := by decide +kernel
theorem dX0_move_52 : decode cX0_move 52 = .ok (.iconst 1, 1) := by decide +kernel
theorem dX0_move_53 : decode cX0_move 53 = .ok (.ireturn, 1) := by decide +kernel
abbrev cX0_under : ByteArray := prog_1_method_8_code
def yX0_under : MethodName := ⟨RX0, "under", "(II)Z"⟩
theorem dX0_under_0 : decode cX0_under 0 = .ok (.iload_n 1, 1) := by decide +kernel
theorem dX0_under_1 : decode cX0_under 1 = .ok (.istore_n 3, 1) := by decide +kernel
theorem dX0_under_2 : decode cX0_under 2 = .ok (.iconst 0, 1) := by decide +kernel
theorem dX0_under_3 : decode cX0_under 3 = .ok (.istore 4, 2) := by decide +kernel
theorem dX0_under_5 : decode cX0_under 5 = .ok (.iload 4, 2) := by decide +kernel
theorem dX0_under_7 : decode cX0_under 7 = .ok (.bipush 10, 2) := by decide +kernel
theorem dX0_under_9 : decode cX0_under 9 = .ok (.if_icmp .ge 27, 3) := by decide +kernel
theorem dX0_under_12 : decode cX0_under 12 = .ok (.iload_n 3, 1) := by decide +kernel
theorem dX0_under_13 : decode cX0_under 13 = .ok (.ifCond .lt 23, 3) := by decide +kernel
theorem dX0_under_16 : decode cX0_under 16 = .ok (.iload_n 3, 1) := by decide +kernel
theorem dX0_under_17 : decode cX0_under 17 = .ok (.iload_n 2, 1) := by decide +kernel
theorem dX0_under_18 : decode cX0_under 18 = .ok (.if_icmp .ne 5, 3) := by decide +kernel
theorem dX0_under_21 : decode cX0_under 21 = .ok (.iconst 1, 1) := by decide +kernel
theorem dX0_under_22 : decode cX0_under 22 = .ok (.ireturn, 1) := by decide +kernel
theorem dX0_under_23 : decode cX0_under 23 = .ok (.aload_n 0, 1) := by decide +kernel
theorem dX0_under_24 : decode cX0_under 24 = .ok (.getfield 7, 3) := by decide +kernel
theorem dX0_under_27 : decode cX0_under 27 = .ok (.iload_n 3, 1) := by decide +kernel
theorem dX0_under_28 : decode cX0_under 28 = .ok (.baload, 1) := by decide +kernel
theorem dX0_under_29 : decode cX0_under 29 = .ok (.istore_n 3, 1) := by decide +kernel
theorem dX0_under_30 : decode cX0_under 30 = .ok (.iinc 4 1, 3) := by decide +kernel
theorem dX0_under_33 : decode cX0_under 33 = .ok (.goto (-28), 3) := by decide +kernel
theorem dX0_under_36 : decode cX0_under 36 = .ok (.iconst 0, 1) := by decide +kernel
theorem dX0_under_37 : decode cX0_under 37 = .ok (.ireturn, 1) := by decide +kernel
abbrev cX0_classes : ByteArray := prog_1_method_9_code
def yX0_classes : MethodName := ⟨RX0, "classes", "()I"⟩
theorem dX0_classes_0 : decode cX0_classes 0 = .ok (.aload_n 0, 1) := by decide +kernel
theorem dX0_classes_1 : decode cX0_classes 1 = .ok (.getfield 53, 3) := by decide +kernel
theorem dX0_classes_4 : decode cX0_classes 4 = .ok (.ireturn, 1) := by decide +kernel
abbrev cX0_parent : ByteArray := prog_1_method_10_code
def yX0_parent : MethodName := ⟨RX0, "parent", "(I)I"⟩
theorem dX0_parent_0 : decode cX0_parent 0 = .ok (.aload_n 0, 1) := by decide +kernel
theorem dX0_parent_1 : decode cX0_parent 1 = .ok (.iload_n 1, 1) := by decide +kernel
theorem dX0_parent_2 : decode cX0_parent 2 = .ok (.invokevirtual 57, 3) := by decide +kernel
theorem dX0_parent_5 : decode cX0_parent 5 = .ok (.ifCond .eq 12, 3) := by decide +kernel
theorem dX0_parent_8 : decode cX0_parent 8 = .ok (.aload_n 0, 1) := by decide +kernel
theorem dX0_parent_9 : decode cX0_parent 9 = .ok (.getfield 7, 3) := by decide +kernel
theorem dX0_parent_12 : decode cX0_parent 12 = .ok (.iload_n 1, 1) := by decide +kernel
theorem dX0_parent_13 : decode cX0_parent 13 = .ok (.baload, 1) := by decide +kernel
theorem dX0_parent_14 : decode cX0_parent 14 = .ok (.goto 4, 3) := by decide +kernel
theorem dX0_parent_17 : decode cX0_parent 17 = .ok (.iconst (-1), 1) := by decide +kernel
theorem dX0_parent_18 : decode cX0_parent 18 = .ok (.ireturn, 1) := by decide +kernel
abbrev cX0_send : ByteArray := prog_1_method_26_code
def yX0_send : MethodName := ⟨RX0, "send", "(II)I"⟩
theorem dX0_send_0 : decode cX0_send 0 = .ok (.aload_n 0, 1) := by decide +kernel
theorem dX0_send_1 : decode cX0_send 1 = .ok (.iload_n 1, 1) := by decide +kernel
theorem dX0_send_2 : decode cX0_send 2 = .ok (.iload_n 2, 1) := by decide +kernel
theorem dX0_send_3 : decode cX0_send 3 = .ok (.invokevirtual 124, 3) := by decide +kernel
theorem dX0_send_6 : decode cX0_send 6 = .ok (.istore_n 3, 1) := by decide +kernel
theorem dX0_send_7 : decode cX0_send 7 = .ok (.iload_n 3, 1) := by decide +kernel
theorem dX0_send_8 : decode cX0_send 8 = .ok (.ifCond .ge 7, 3) := by decide +kernel
theorem dX0_send_11 : decode cX0_send 11 = .ok (.iconst 0, 1) := by decide +kernel
theorem dX0_send_12 : decode cX0_send 12 = .ok (.goto 9, 3) := by decide +kernel
theorem dX0_send_15 : decode cX0_send 15 = .ok (.aload_n 0, 1) := by decide +kernel
theorem dX0_send_16 : decode cX0_send 16 = .ok (.getfield 44, 3) := by decide +kernel
theorem dX0_send_19 : decode cX0_send 19 = .ok (.iload_n 3, 1) := by decide +kernel
theorem dX0_send_20 : decode cX0_send 20 = .ok (.saload, 1) := by decide +kernel
theorem dX0_send_21 : decode cX0_send 21 = .ok (.ireturn, 1) := by decide +kernel
abbrev cX0_entry : ByteArray := prog_1_method_25_code
def yX0_entry : MethodName := ⟨RX0, "entry", "(II)I"⟩
theorem dX0_entry_0 : decode cX0_entry 0 = .ok (.aload_n 0, 1) := by decide +kernel
theorem dX0_entry_1 : decode cX0_entry 1 = .ok (.iload_n 1, 1) := by decide +kernel
theorem dX0_entry_2 : decode cX0_entry 2 = .ok (.invokevirtual 57, 3) := by decide +kernel
theorem dX0_entry_5 : decode cX0_entry 5 = .ok (.ifCond .eq 10, 3) := by decide +kernel
theorem dX0_entry_8 : decode cX0_entry 8 = .ok (.iload_n 2, 1) := by decide +kernel
theorem dX0_entry_9 : decode cX0_entry 9 = .ok (.invokestatic 65, 3) := by decide +kernel
theorem dX0_entry_12 : decode cX0_entry 12 = .ok (.ifCond .ne 5, 3) := by decide +kernel
theorem dX0_entry_15 : decode cX0_entry 15 = .ok (.iconst (-1), 1) := by decide +kernel
theorem dX0_entry_16 : decode cX0_entry 16 = .ok (.ireturn, 1) := by decide +kernel
theorem dX0_entry_17 : decode cX0_entry 17 = .ok (.aload_n 0, 1) := by decide +kernel
theorem dX0_entry_18 : decode cX0_entry 18 = .ok (.invokevirtual 121, 3) := by decide +kernel
theorem dX0_entry_21 : decode cX0_entry 21 = .ok (.aload_n 0, 1) := by decide +kernel
theorem dX0_entry_22 : decode cX0_entry 22 = .ok (.getfield 32, 3) := by decide +kernel
theorem dX0_entry_25 : decode cX0_entry 25 = .ok (.iload_n 1, 1) := by decide +kernel
theorem dX0_entry_26 : decode cX0_entry 26 = .ok (.baload, 1) := by decide +kernel
theorem dX0_entry_27 : decode cX0_entry 27 = .ok (.aload_n 0, 1) := by decide +kernel
theorem dX0_entry_28 : decode cX0_entry 28 = .ok (.getfield 26, 3) := by decide +kernel
theorem dX0_entry_31 : decode cX0_entry 31 = .ok (.iload_n 2, 1) := by decide +kernel
theorem dX0_entry_32 : decode cX0_entry 32 = .ok (.baload, 1) := by decide +kernel
theorem dX0_entry_33 : decode cX0_entry 33 = .ok (.iadd, 1) := by decide +kernel
theorem dX0_entry_34 : decode cX0_entry 34 = .ok (.istore_n 3, 1) := by decide +kernel
theorem dX0_entry_35 : decode cX0_entry 35 = .ok (.aload_n 0, 1) := by decide +kernel
theorem dX0_entry_36 : decode cX0_entry 36 = .ok (.getfield 35, 3) := by decide +kernel
theorem dX0_entry_39 : decode cX0_entry 39 = .ok (.iload_n 3, 1) := by decide +kernel
theorem dX0_entry_40 : decode cX0_entry 40 = .ok (.baload, 1) := by decide +kernel
theorem dX0_entry_41 : decode cX0_entry 41 = .ok (.iload_n 1, 1) := by decide +kernel
theorem dX0_entry_42 : decode cX0_entry 42 = .ok (.if_icmp .ne 17, 3) := by decide +kernel
theorem dX0_entry_45 : decode cX0_entry 45 = .ok (.aload_n 0, 1) := by decide +kernel
theorem dX0_entry_46 : decode cX0_entry 46 = .ok (.getfield 38, 3) := by decide +kernel
theorem dX0_entry_49 : decode cX0_entry 49 = .ok (.iload_n 3, 1) := by decide +kernel
theorem dX0_entry_50 : decode cX0_entry 50 = .ok (.baload, 1) := by decide +kernel
theorem dX0_entry_51 : decode cX0_entry 51 = .ok (.iload_n 2, 1) := by decide +kernel
theorem dX0_entry_52 : decode cX0_entry 52 = .ok (.if_icmp .ne 7, 3) := by decide +kernel
theorem dX0_entry_55 : decode cX0_entry 55 = .ok (.iload_n 3, 1) := by decide +kernel
theorem dX0_entry_56 : decode cX0_entry 56 = .ok (.goto 4, 3) := by decide +kernel
theorem dX0_entry_59 : decode cX0_entry 59 = .ok (.iconst (-1), 1) := by decide +kernel
theorem dX0_entry_60 : decode cX0_entry 60 = .ok (.ireturn, 1) := by decide +kernel
abbrev cX0_build : ByteArray := prog_1_method_11_code
def yX0_build : MethodName := ⟨RX0, "build", "()V"⟩
theorem dX0_build_0 : decode cX0_build 0 = .ok (.aload_n 0, 1) := by decide +kernel
theorem dX0_build_1 : decode cX0_build 1 = .ok (.getfield 61, 3) := by decide +kernel
theorem dX0_build_4 : decode cX0_build 4 = .ok (.ifCond .eq 4, 3) := by decide +kernel
theorem dX0_build_7 : decode cX0_build 7 = .ok (.return_, 1) := by decide +kernel
theorem dX0_build_8 : decode cX0_build 8 = .ok (.aload_n 0, 1) := by decide +kernel
theorem dX0_build_9 : decode cX0_build 9 = .ok (.iconst 1, 1) := by decide +kernel
theorem dX0_build_10 : decode cX0_build 10 = .ok (.putfield 61, 3) := by decide +kernel
theorem dX0_build_13 : decode cX0_build 13 = .ok (.aload_n 0, 1) := by decide +kernel
theorem dX0_build_14 : decode cX0_build 14 = .ok (.invokevirtual 72, 3) := by decide +kernel
theorem dX0_build_17 : decode cX0_build 17 = .ok (.aload_n 0, 1) := by decide +kernel
theorem dX0_build_18 : decode cX0_build 18 = .ok (.invokevirtual 75, 3) := by decide +kernel
theorem dX0_build_21 : decode cX0_build 21 = .ok (.aload_n 0, 1) := by decide +kernel
theorem dX0_build_22 : decode cX0_build 22 = .ok (.invokevirtual 78, 3) := by decide +kernel
theorem dX0_build_25 : decode cX0_build 25 = .ok (.aload_n 0, 1) := by decide +kernel
theorem dX0_build_26 : decode cX0_build 26 = .ok (.invokevirtual 81, 3) := by decide +kernel
theorem dX0_build_29 : decode cX0_build 29 = .ok (.iconst 0, 1) := by decide +kernel
theorem dX0_build_30 : decode cX0_build 30 = .ok (.istore_n 1, 1) := by decide +kernel
theorem dX0_build_31 : decode cX0_build 31 = .ok (.iload_n 1, 1) := by decide +kernel
theorem dX0_build_32 : decode cX0_build 32 = .ok (.bipush 96, 2) := by decide +kernel
theorem dX0_build_34 : decode cX0_build 34 = .ok (.if_icmp .ge 16, 3) := by decide +kernel
theorem dX0_build_37 : decode cX0_build 37 = .ok (.aload_n 0, 1) := by decide +kernel
theorem dX0_build_38 : decode cX0_build 38 = .ok (.getfield 35, 3) := by decide +kernel
theorem dX0_build_41 : decode cX0_build 41 = .ok (.iload_n 1, 1) := by decide +kernel
theorem dX0_build_42 : decode cX0_build 42 = .ok (.iconst (-1), 1) := by decide +kernel
theorem dX0_build_43 : decode cX0_build 43 = .ok (.bastore, 1) := by decide +kernel
theorem dX0_build_44 : decode cX0_build 44 = .ok (.iinc 1 1, 3) := by decide +kernel
theorem dX0_build_47 : decode cX0_build 47 = .ok (.goto (-16), 3) := by decide +kernel
theorem dX0_build_50 : decode cX0_build 50 = .ok (.iconst 0, 1) := by decide +kernel
theorem dX0_build_51 : decode cX0_build 51 = .ok (.istore_n 1, 1) := by decide +kernel
theorem dX0_build_52 : decode cX0_build 52 = .ok (.iload_n 1, 1) := by decide +kernel
theorem dX0_build_53 : decode cX0_build 53 = .ok (.aload_n 0, 1) := by decide +kernel
theorem dX0_build_54 : decode cX0_build 54 = .ok (.getfield 53, 3) := by decide +kernel
theorem dX0_build_57 : decode cX0_build 57 = .ok (.if_icmp .ge 19, 3) := by decide +kernel
theorem dX0_build_60 : decode cX0_build 60 = .ok (.aload_n 0, 1) := by decide +kernel
theorem dX0_build_61 : decode cX0_build 61 = .ok (.aload_n 0, 1) := by decide +kernel
theorem dX0_build_62 : decode cX0_build 62 = .ok (.getfield 50, 3) := by decide +kernel
theorem dX0_build_65 : decode cX0_build 65 = .ok (.iload_n 1, 1) := by decide +kernel
theorem dX0_build_66 : decode cX0_build 66 = .ok (.baload, 1) := by decide +kernel
theorem dX0_build_67 : decode cX0_build 67 = .ok (.invokevirtual 84, 3) := by decide +kernel
theorem dX0_build_70 : decode cX0_build 70 = .ok (.iinc 1 1, 3) := by decide +kernel
theorem dX0_build_73 : decode cX0_build 73 = .ok (.goto (-21), 3) := by decide +kernel
theorem dX0_build_76 : decode cX0_build 76 = .ok (.return_, 1) := by decide +kernel
end
section
set_option maxRecDepth 100000
abbrev cX0_sortDown : ByteArray := prog_1_method_12_code
def yX0_sortDown : MethodName := ⟨RX0, "sortDown", "()V"⟩
theorem dX0_sortDown_0 : decode cX0_sortDown 0 = .ok (.iconst 0, 1) := by decide +kernel
theorem dX0_sortDown_1 : decode cX0_sortDown 1 = .ok (.istore_n 1, 1) := by decide +kernel
theorem dX0_sortDown_2 : decode cX0_sortDown 2 = .ok (.iconst 0, 1) := by decide +kernel
theorem dX0_sortDown_3 : decode cX0_sortDown 3 = .ok (.istore_n 2, 1) := by decide +kernel
theorem dX0_sortDown_4 : decode cX0_sortDown 4 = .ok (.iconst 0, 1) := by decide +kernel
theorem dX0_sortDown_5 : decode cX0_sortDown 5 = .ok (.istore_n 3, 1) := by decide +kernel
theorem dX0_sortDown_6 : decode cX0_sortDown 6 = .ok (.iload_n 3, 1) := by decide +kernel
theorem dX0_sortDown_7 : decode cX0_sortDown 7 = .ok (.aload_n 0, 1) := by decide +kernel
theorem dX0_sortDown_8 : decode cX0_sortDown 8 = .ok (.getfield 53, 3) := by decide +kernel
theorem dX0_sortDown_11 : decode cX0_sortDown 11 = .ok (.if_icmp .ge 103, 3) := by decide +kernel
theorem dX0_sortDown_14 : decode cX0_sortDown 14 = .ok (.iconst 0, 1) := by decide +kernel
theorem dX0_sortDown_15 : decode cX0_sortDown 15 = .ok (.istore 4, 2) := by decide +kernel
theorem dX0_sortDown_17 : decode cX0_sortDown 17 = .ok (.iload 4, 2) := by decide +kernel
theorem dX0_sortDown_19 : decode cX0_sortDown 19 = .ok (.aload_n 0, 1) := by decide +kernel
theorem dX0_sortDown_20 : decode cX0_sortDown 20 = .ok (.getfield 53, 3) := by decide +kernel
theorem dX0_sortDown_23 : decode cX0_sortDown 23 = .ok (.if_icmp .ge 85, 3) := by decide +kernel
theorem dX0_sortDown_26 : decode cX0_sortDown 26 = .ok (.iload_n 1, 1) := by decide +kernel
theorem dX0_sortDown_27 : decode cX0_sortDown 27 = .ok (.iload 4, 2) := by decide +kernel
theorem dX0_sortDown_29 : decode cX0_sortDown 29 = .ok (.ishr, 1) := by decide +kernel
theorem dX0_sortDown_30 : decode cX0_sortDown 30 = .ok (.iconst 1, 1) := by decide +kernel
theorem dX0_sortDown_31 : decode cX0_sortDown 31 = .ok (.iand, 1) := by decide +kernel
theorem dX0_sortDown_32 : decode cX0_sortDown 32 = .ok (.ifCond .ne 7, 3) := by decide +kernel
theorem dX0_sortDown_35 : decode cX0_sortDown 35 = .ok (.iconst 1, 1) := by decide +kernel
theorem dX0_sortDown_36 : decode cX0_sortDown 36 = .ok (.goto 4, 3) := by decide +kernel
theorem dX0_sortDown_39 : decode cX0_sortDown 39 = .ok (.iconst 0, 1) := by decide +kernel
theorem dX0_sortDown_40 : decode cX0_sortDown 40 = .ok (.istore 5, 2) := by decide +kernel
theorem dX0_sortDown_42 : decode cX0_sortDown 42 = .ok (.aload_n 0, 1) := by decide +kernel
theorem dX0_sortDown_43 : decode cX0_sortDown 43 = .ok (.getfield 7, 3) := by decide +kernel
theorem dX0_sortDown_46 : decode cX0_sortDown 46 = .ok (.iload 4, 2) := by decide +kernel
theorem dX0_sortDown_48 : decode cX0_sortDown 48 = .ok (.baload, 1) := by decide +kernel
theorem dX0_sortDown_49 : decode cX0_sortDown 49 = .ok (.ifCond .lt 17, 3) := by decide +kernel
theorem dX0_sortDown_52 : decode cX0_sortDown 52 = .ok (.iload_n 1, 1) := by decide +kernel
theorem dX0_sortDown_53 : decode cX0_sortDown 53 = .ok (.aload_n 0, 1) := by decide +kernel
theorem dX0_sortDown_54 : decode cX0_sortDown 54 = .ok (.getfield 7, 3) := by decide +kernel
theorem dX0_sortDown_57 : decode cX0_sortDown 57 = .ok (.iload 4, 2) := by decide +kernel
theorem dX0_sortDown_59 : decode cX0_sortDown 59 = .ok (.baload, 1) := by decide +kernel
theorem dX0_sortDown_60 : decode cX0_sortDown 60 = .ok (.ishr, 1) := by decide +kernel
theorem dX0_sortDown_61 : decode cX0_sortDown 61 = .ok (.iconst 1, 1) := by decide +kernel
theorem dX0_sortDown_62 : decode cX0_sortDown 62 = .ok (.iand, 1) := by decide +kernel
theorem dX0_sortDown_63 : decode cX0_sortDown 63 = .ok (.ifCond .eq 7, 3) := by decide +kernel
theorem dX0_sortDown_66 : decode cX0_sortDown 66 = .ok (.iconst 1, 1) := by decide +kernel
theorem dX0_sortDown_67 : decode cX0_sortDown 67 = .ok (.goto 4, 3) := by decide +kernel
theorem dX0_sortDown_70 : decode cX0_sortDown 70 = .ok (.iconst 0, 1) := by decide +kernel
theorem dX0_sortDown_71 : decode cX0_sortDown 71 = .ok (.istore 6, 2) := by decide +kernel
theorem dX0_sortDown_73 : decode cX0_sortDown 73 = .ok (.iload 5, 2) := by decide +kernel
theorem dX0_sortDown_75 : decode cX0_sortDown 75 = .ok (.ifCond .eq 27, 3) := by decide +kernel
theorem dX0_sortDown_78 : decode cX0_sortDown 78 = .ok (.iload 6, 2) := by decide +kernel
theorem dX0_sortDown_80 : decode cX0_sortDown 80 = .ok (.ifCond .eq 22, 3) := by decide +kernel
theorem dX0_sortDown_83 : decode cX0_sortDown 83 = .ok (.aload_n 0, 1) := by decide +kernel
theorem dX0_sortDown_84 : decode cX0_sortDown 84 = .ok (.getfield 50, 3) := by decide +kernel
theorem dX0_sortDown_87 : decode cX0_sortDown 87 = .ok (.iload_n 2, 1) := by decide +kernel
theorem dX0_sortDown_88 : decode cX0_sortDown 88 = .ok (.iload 4, 2) := by decide +kernel
theorem dX0_sortDown_90 : decode cX0_sortDown 90 = .ok (.i2b, 1) := by decide +kernel
theorem dX0_sortDown_91 : decode cX0_sortDown 91 = .ok (.bastore, 1) := by decide +kernel
theorem dX0_sortDown_92 : decode cX0_sortDown 92 = .ok (.iinc 2 1, 3) := by decide +kernel
theorem dX0_sortDown_95 : decode cX0_sortDown 95 = .ok (.iload_n 1, 1) := by decide +kernel
theorem dX0_sortDown_96 : decode cX0_sortDown 96 = .ok (.iconst 1, 1) := by decide +kernel
theorem dX0_sortDown_97 : decode cX0_sortDown 97 = .ok (.iload 4, 2) := by decide +kernel
theorem dX0_sortDown_99 : decode cX0_sortDown 99 = .ok (.ishl, 1) := by decide +kernel
theorem dX0_sortDown_100 : decode cX0_sortDown 100 = .ok (.ior, 1) := by decide +kernel
theorem dX0_sortDown_101 : decode cX0_sortDown 101 = .ok (.istore_n 1, 1) := by decide +kernel
theorem dX0_sortDown_102 : decode cX0_sortDown 102 = .ok (.iinc 4 1, 3) := by decide +kernel
theorem dX0_sortDown_105 : decode cX0_sortDown 105 = .ok (.goto (-88), 3) := by decide +kernel
theorem dX0_sortDown_108 : decode cX0_sortDown 108 = .ok (.iinc 3 1, 3) := by decide +kernel
theorem dX0_sortDown_111 : decode cX0_sortDown 111 = .ok (.goto (-105), 3) := by decide +kernel
theorem dX0_sortDown_114 : decode cX0_sortDown 114 = .ok (.return_, 1) := by decide +kernel
abbrev cX0_learn : ByteArray := prog_1_method_14_code
def yX0_learn : MethodName := ⟨RX0, "learn", "()V"⟩
theorem dX0_learn_0 : decode cX0_learn 0 = .ok (.iconst 0, 1) := by decide +kernel
theorem dX0_learn_1 : decode cX0_learn 1 = .ok (.istore_n 1, 1) := by decide +kernel
theorem dX0_learn_2 : decode cX0_learn 2 = .ok (.iload_n 1, 1) := by decide +kernel
theorem dX0_learn_3 : decode cX0_learn 3 = .ok (.aload_n 0, 1) := by decide +kernel
theorem dX0_learn_4 : decode cX0_learn 4 = .ok (.getfield 53, 3) := by decide +kernel
theorem dX0_learn_7 : decode cX0_learn 7 = .ok (.if_icmp .ge 55, 3) := by decide +kernel
theorem dX0_learn_10 : decode cX0_learn 10 = .ok (.aload_n 0, 1) := by decide +kernel
theorem dX0_learn_11 : decode cX0_learn 11 = .ok (.getfield 50, 3) := by decide +kernel
theorem dX0_learn_14 : decode cX0_learn 14 = .ok (.iload_n 1, 1) := by decide +kernel
theorem dX0_learn_15 : decode cX0_learn 15 = .ok (.baload, 1) := by decide +kernel
theorem dX0_learn_16 : decode cX0_learn 16 = .ok (.istore_n 2, 1) := by decide +kernel
theorem dX0_learn_17 : decode cX0_learn 17 = .ok (.aload_n 0, 1) := by decide +kernel
theorem dX0_learn_18 : decode cX0_learn 18 = .ok (.getfield 7, 3) := by decide +kernel
theorem dX0_learn_21 : decode cX0_learn 21 = .ok (.iload_n 2, 1) := by decide +kernel
theorem dX0_learn_22 : decode cX0_learn 22 = .ok (.baload, 1) := by decide +kernel
theorem dX0_learn_23 : decode cX0_learn 23 = .ok (.ifCond .ge 7, 3) := by decide +kernel
theorem dX0_learn_26 : decode cX0_learn 26 = .ok (.iconst 0, 1) := by decide +kernel
theorem dX0_learn_27 : decode cX0_learn 27 = .ok (.goto 14, 3) := by decide +kernel
theorem dX0_learn_30 : decode cX0_learn 30 = .ok (.aload_n 0, 1) := by decide +kernel
theorem dX0_learn_31 : decode cX0_learn 31 = .ok (.getfield 17, 3) := by decide +kernel
theorem dX0_learn_34 : decode cX0_learn 34 = .ok (.aload_n 0, 1) := by decide +kernel
theorem dX0_learn_35 : decode cX0_learn 35 = .ok (.getfield 7, 3) := by decide +kernel
theorem dX0_learn_38 : decode cX0_learn 38 = .ok (.iload_n 2, 1) := by decide +kernel
theorem dX0_learn_39 : decode cX0_learn 39 = .ok (.baload, 1) := by decide +kernel
theorem dX0_learn_40 : decode cX0_learn 40 = .ok (.saload, 1) := by decide +kernel
theorem dX0_learn_41 : decode cX0_learn 41 = .ok (.istore_n 3, 1) := by decide +kernel
theorem dX0_learn_42 : decode cX0_learn 42 = .ok (.aload_n 0, 1) := by decide +kernel
theorem dX0_learn_43 : decode cX0_learn 43 = .ok (.getfield 17, 3) := by decide +kernel
theorem dX0_learn_46 : decode cX0_learn 46 = .ok (.iload_n 2, 1) := by decide +kernel
theorem dX0_learn_47 : decode cX0_learn 47 = .ok (.iload_n 3, 1) := by decide +kernel
theorem dX0_learn_48 : decode cX0_learn 48 = .ok (.aload_n 0, 1) := by decide +kernel
theorem dX0_learn_49 : decode cX0_learn 49 = .ok (.iload_n 2, 1) := by decide +kernel
theorem dX0_learn_50 : decode cX0_learn 50 = .ok (.invokevirtual 88, 3) := by decide +kernel
theorem dX0_learn_53 : decode cX0_learn 53 = .ok (.ior, 1) := by decide +kernel
theorem dX0_learn_54 : decode cX0_learn 54 = .ok (.i2s, 1) := by decide +kernel
theorem dX0_learn_55 : decode cX0_learn 55 = .ok (.sastore, 1) := by decide +kernel
theorem dX0_learn_56 : decode cX0_learn 56 = .ok (.iinc 1 1, 3) := by decide +kernel
theorem dX0_learn_59 : decode cX0_learn 59 = .ok (.goto (-57), 3) := by decide +kernel
theorem dX0_learn_62 : decode cX0_learn 62 = .ok (.return_, 1) := by decide +kernel
abbrev cX0_own : ByteArray := prog_1_method_13_code
def yX0_own : MethodName := ⟨RX0, "own", "(I)I"⟩
theorem dX0_own_0 : decode cX0_own 0 = .ok (.iconst 0, 1) := by decide +kernel
theorem dX0_own_1 : decode cX0_own 1 = .ok (.istore_n 2, 1) := by decide +kernel
theorem dX0_own_2 : decode cX0_own 2 = .ok (.iconst 0, 1) := by decide +kernel
theorem dX0_own_3 : decode cX0_own 3 = .ok (.istore_n 3, 1) := by decide +kernel
theorem dX0_own_4 : decode cX0_own 4 = .ok (.iload_n 3, 1) := by decide +kernel
theorem dX0_own_5 : decode cX0_own 5 = .ok (.bipush 8, 2) := by decide +kernel
theorem dX0_own_7 : decode cX0_own 7 = .ok (.if_icmp .ge 29, 3) := by decide +kernel
theorem dX0_own_10 : decode cX0_own 10 = .ok (.aload_n 0, 1) := by decide +kernel
theorem dX0_own_11 : decode cX0_own 11 = .ok (.getfield 13, 3) := by decide +kernel
theorem dX0_own_14 : decode cX0_own 14 = .ok (.iload_n 1, 1) := by decide +kernel
theorem dX0_own_15 : decode cX0_own 15 = .ok (.bipush 8, 2) := by decide +kernel
theorem dX0_own_17 : decode cX0_own 17 = .ok (.imul, 1) := by decide +kernel
theorem dX0_own_18 : decode cX0_own 18 = .ok (.iload_n 3, 1) := by decide +kernel
theorem dX0_own_19 : decode cX0_own 19 = .ok (.iadd, 1) := by decide +kernel
theorem dX0_own_20 : decode cX0_own 20 = .ok (.saload, 1) := by decide +kernel
theorem dX0_own_21 : decode cX0_own 21 = .ok (.ifCond .eq 9, 3) := by decide +kernel
theorem dX0_own_24 : decode cX0_own 24 = .ok (.iload_n 2, 1) := by decide +kernel
theorem dX0_own_25 : decode cX0_own 25 = .ok (.iconst 1, 1) := by decide +kernel
theorem dX0_own_26 : decode cX0_own 26 = .ok (.iload_n 3, 1) := by decide +kernel
theorem dX0_own_27 : decode cX0_own 27 = .ok (.ishl, 1) := by decide +kernel
theorem dX0_own_28 : decode cX0_own 28 = .ok (.ior, 1) := by decide +kernel
theorem dX0_own_29 : decode cX0_own 29 = .ok (.istore_n 2, 1) := by decide +kernel
theorem dX0_own_30 : decode cX0_own 30 = .ok (.iinc 3 1, 3) := by decide +kernel
theorem dX0_own_33 : decode cX0_own 33 = .ok (.goto (-29), 3) := by decide +kernel
theorem dX0_own_36 : decode cX0_own 36 = .ok (.iload_n 2, 1) := by decide +kernel
theorem dX0_own_37 : decode cX0_own 37 = .ok (.ireturn, 1) := by decide +kernel
abbrev cX0_meet : ByteArray := prog_1_method_15_code
def yX0_meet : MethodName := ⟨RX0, "meet", "()V"⟩
theorem dX0_meet_0 : decode cX0_meet 0 = .ok (.iconst 0, 1) := by decide +kernel
theorem dX0_meet_1 : decode cX0_meet 1 = .ok (.istore_n 1, 1) := by decide +kernel
theorem dX0_meet_2 : decode cX0_meet 2 = .ok (.iload_n 1, 1) := by decide +kernel
theorem dX0_meet_3 : decode cX0_meet 3 = .ok (.bipush 8, 2) := by decide +kernel
theorem dX0_meet_5 : decode cX0_meet 5 = .ok (.if_icmp .ge 57, 3) := by decide +kernel
theorem dX0_meet_8 : decode cX0_meet 8 = .ok (.iconst 0, 1) := by decide +kernel
theorem dX0_meet_9 : decode cX0_meet 9 = .ok (.istore_n 2, 1) := by decide +kernel
theorem dX0_meet_10 : decode cX0_meet 10 = .ok (.iconst 0, 1) := by decide +kernel
theorem dX0_meet_11 : decode cX0_meet 11 = .ok (.istore_n 3, 1) := by decide +kernel
theorem dX0_meet_12 : decode cX0_meet 12 = .ok (.iload_n 3, 1) := by decide +kernel
theorem dX0_meet_13 : decode cX0_meet 13 = .ok (.aload_n 0, 1) := by decide +kernel
theorem dX0_meet_14 : decode cX0_meet 14 = .ok (.getfield 53, 3) := by decide +kernel
theorem dX0_meet_17 : decode cX0_meet 17 = .ok (.if_icmp .ge 31, 3) := by decide +kernel
theorem dX0_meet_20 : decode cX0_meet 20 = .ok (.aload_n 0, 1) := by decide +kernel
theorem dX0_meet_21 : decode cX0_meet 21 = .ok (.getfield 17, 3) := by decide +kernel
theorem dX0_meet_24 : decode cX0_meet 24 = .ok (.iload_n 3, 1) := by decide +kernel
theorem dX0_meet_25 : decode cX0_meet 25 = .ok (.saload, 1) := by decide +kernel
theorem dX0_meet_26 : decode cX0_meet 26 = .ok (.iload_n 1, 1) := by decide +kernel
theorem dX0_meet_27 : decode cX0_meet 27 = .ok (.ishr, 1) := by decide +kernel
theorem dX0_meet_28 : decode cX0_meet 28 = .ok (.iconst 1, 1) := by decide +kernel
theorem dX0_meet_29 : decode cX0_meet 29 = .ok (.iand, 1) := by decide +kernel
theorem dX0_meet_30 : decode cX0_meet 30 = .ok (.ifCond .eq 12, 3) := by decide +kernel
theorem dX0_meet_33 : decode cX0_meet 33 = .ok (.iload_n 2, 1) := by decide +kernel
theorem dX0_meet_34 : decode cX0_meet 34 = .ok (.aload_n 0, 1) := by decide +kernel
theorem dX0_meet_35 : decode cX0_meet 35 = .ok (.getfield 17, 3) := by decide +kernel
theorem dX0_meet_38 : decode cX0_meet 38 = .ok (.iload_n 3, 1) := by decide +kernel
theorem dX0_meet_39 : decode cX0_meet 39 = .ok (.saload, 1) := by decide +kernel
theorem dX0_meet_40 : decode cX0_meet 40 = .ok (.ior, 1) := by decide +kernel
theorem dX0_meet_41 : decode cX0_meet 41 = .ok (.istore_n 2, 1) := by decide +kernel
theorem dX0_meet_42 : decode cX0_meet 42 = .ok (.iinc 3 1, 3) := by decide +kernel
theorem dX0_meet_45 : decode cX0_meet 45 = .ok (.goto (-33), 3) := by decide +kernel
theorem dX0_meet_48 : decode cX0_meet 48 = .ok (.aload_n 0, 1) := by decide +kernel
theorem dX0_meet_49 : decode cX0_meet 49 = .ok (.getfield 20, 3) := by decide +kernel
theorem dX0_meet_52 : decode cX0_meet 52 = .ok (.iload_n 1, 1) := by decide +kernel
theorem dX0_meet_53 : decode cX0_meet 53 = .ok (.iload_n 2, 1) := by decide +kernel
theorem dX0_meet_54 : decode cX0_meet 54 = .ok (.i2s, 1) := by decide +kernel
theorem dX0_meet_55 : decode cX0_meet 55 = .ok (.sastore, 1) := by decide +kernel
theorem dX0_meet_56 : decode cX0_meet 56 = .ok (.iinc 1 1, 3) := by decide +kernel
theorem dX0_meet_59 : decode cX0_meet 59 = .ok (.goto (-57), 3) := by decide +kernel
theorem dX0_meet_62 : decode cX0_meet 62 = .ok (.return_, 1) := by decide +kernel
abbrev cX0_paint : ByteArray := prog_1_method_16_code
def yX0_paint : MethodName := ⟨RX0, "paint", "()V"⟩
theorem dX0_paint_0 : decode cX0_paint 0 = .ok (.aload_n 0, 1) := by decide +kernel
theorem dX0_paint_1 : decode cX0_paint 1 = .ok (.invokevirtual 92, 3) := by decide +kernel
theorem dX0_paint_4 : decode cX0_paint 4 = .ok (.aload_n 0, 1) := by decide +kernel
theorem dX0_paint_5 : decode cX0_paint 5 = .ok (.aload_n 0, 1) := by decide +kernel
theorem dX0_paint_6 : decode cX0_paint 6 = .ok (.getfield 95, 3) := by decide +kernel
theorem dX0_paint_9 : decode cX0_paint 9 = .ok (.putfield 98, 3) := by decide +kernel
theorem dX0_paint_12 : decode cX0_paint 12 = .ok (.iconst 0, 1) := by decide +kernel
theorem dX0_paint_13 : decode cX0_paint 13 = .ok (.istore_n 1, 1) := by decide +kernel
theorem dX0_paint_14 : decode cX0_paint 14 = .ok (.iload_n 1, 1) := by decide +kernel
theorem dX0_paint_15 : decode cX0_paint 15 = .ok (.aload_n 0, 1) := by decide +kernel
theorem dX0_paint_16 : decode cX0_paint 16 = .ok (.getfield 95, 3) := by decide +kernel
theorem dX0_paint_19 : decode cX0_paint 19 = .ok (.if_icmp .ge 22, 3) := by decide +kernel
theorem dX0_paint_22 : decode cX0_paint 22 = .ok (.aload_n 0, 1) := by decide +kernel
theorem dX0_paint_23 : decode cX0_paint 23 = .ok (.getfield 26, 3) := by decide +kernel
theorem dX0_paint_26 : decode cX0_paint 26 = .ok (.aload_n 0, 1) := by decide +kernel
theorem dX0_paint_27 : decode cX0_paint 27 = .ok (.getfield 29, 3) := by decide +kernel
theorem dX0_paint_30 : decode cX0_paint 30 = .ok (.iload_n 1, 1) := by decide +kernel
theorem dX0_paint_31 : decode cX0_paint 31 = .ok (.baload, 1) := by decide +kernel
theorem dX0_paint_32 : decode cX0_paint 32 = .ok (.iload_n 1, 1) := by decide +kernel
theorem dX0_paint_33 : decode cX0_paint 33 = .ok (.i2b, 1) := by decide +kernel
theorem dX0_paint_34 : decode cX0_paint 34 = .ok (.bastore, 1) := by decide +kernel
theorem dX0_paint_35 : decode cX0_paint 35 = .ok (.iinc 1 1, 3) := by decide +kernel
theorem dX0_paint_38 : decode cX0_paint 38 = .ok (.goto (-24), 3) := by decide +kernel
theorem dX0_paint_41 : decode cX0_paint 41 = .ok (.iconst 0, 1) := by decide +kernel
theorem dX0_paint_42 : decode cX0_paint 42 = .ok (.istore_n 1, 1) := by decide +kernel
theorem dX0_paint_43 : decode cX0_paint 43 = .ok (.aload_n 0, 1) := by decide +kernel
theorem dX0_paint_44 : decode cX0_paint 44 = .ok (.getfield 95, 3) := by decide +kernel
theorem dX0_paint_47 : decode cX0_paint 47 = .ok (.ifCond .le 15, 3) := by decide +kernel
theorem dX0_paint_50 : decode cX0_paint 50 = .ok (.aload_n 0, 1) := by decide +kernel
theorem dX0_paint_51 : decode cX0_paint 51 = .ok (.getfield 23, 3) := by decide +kernel
theorem dX0_paint_54 : decode cX0_paint 54 = .ok (.aload_n 0, 1) := by decide +kernel
theorem dX0_paint_55 : decode cX0_paint 55 = .ok (.getfield 29, 3) := by decide +kernel
theorem dX0_paint_58 : decode cX0_paint 58 = .ok (.iconst 0, 1) := by decide +kernel
theorem dX0_paint_59 : decode cX0_paint 59 = .ok (.baload, 1) := by decide +kernel
theorem dX0_paint_60 : decode cX0_paint 60 = .ok (.iconst (-1), 1) := by decide +kernel
theorem dX0_paint_61 : decode cX0_paint 61 = .ok (.bastore, 1) := by decide +kernel
theorem dX0_paint_62 : decode cX0_paint 62 = .ok (.iconst 0, 1) := by decide +kernel
theorem dX0_paint_63 : decode cX0_paint 63 = .ok (.istore_n 2, 1) := by decide +kernel
theorem dX0_paint_64 : decode cX0_paint 64 = .ok (.iload_n 2, 1) := by decide +kernel
theorem dX0_paint_65 : decode cX0_paint 65 = .ok (.ldc 101, 2) := by decide +kernel
theorem dX0_paint_67 : decode cX0_paint 67 = .ok (.if_icmp .ge 122, 3) := by decide +kernel
theorem dX0_paint_70 : decode cX0_paint 70 = .ok (.iload_n 1, 1) := by decide +kernel
theorem dX0_paint_71 : decode cX0_paint 71 = .ok (.ifCond .lt 118, 3) := by decide +kernel
theorem dX0_paint_74 : decode cX0_paint 74 = .ok (.aload_n 0, 1) := by decide +kernel
theorem dX0_paint_75 : decode cX0_paint 75 = .ok (.getfield 95, 3) := by decide +kernel
theorem dX0_paint_78 : decode cX0_paint 78 = .ok (.ifCond .le 111, 3) := by decide +kernel
theorem dX0_paint_81 : decode cX0_paint 81 = .ok (.aload_n 0, 1) := by decide +kernel
theorem dX0_paint_82 : decode cX0_paint 82 = .ok (.getfield 29, 3) := by decide +kernel
theorem dX0_paint_85 : decode cX0_paint 85 = .ok (.iload_n 1, 1) := by decide +kernel
theorem dX0_paint_86 : decode cX0_paint 86 = .ok (.baload, 1) := by decide +kernel
theorem dX0_paint_87 : decode cX0_paint 87 = .ok (.istore_n 3, 1) := by decide +kernel
theorem dX0_paint_88 : decode cX0_paint 88 = .ok (.aload_n 0, 1) := by decide +kernel
theorem dX0_paint_89 : decode cX0_paint 89 = .ok (.iload_n 1, 1) := by decide +kernel
theorem dX0_paint_90 : decode cX0_paint 90 = .ok (.invokevirtual 102, 3) := by decide +kernel
theorem dX0_paint_93 : decode cX0_paint 93 = .ok (.istore 4, 2) := by decide +kernel
theorem dX0_paint_95 : decode cX0_paint 95 = .ok (.aload_n 0, 1) := by decide +kernel
theorem dX0_paint_96 : decode cX0_paint 96 = .ok (.iload_n 1, 1) := by decide +kernel
theorem dX0_paint_97 : decode cX0_paint 97 = .ok (.aload_n 0, 1) := by decide +kernel
theorem dX0_paint_98 : decode cX0_paint 98 = .ok (.getfield 23, 3) := by decide +kernel
theorem dX0_paint_101 : decode cX0_paint 101 = .ok (.iload_n 3, 1) := by decide +kernel
theorem dX0_paint_102 : decode cX0_paint 102 = .ok (.baload, 1) := by decide +kernel
theorem dX0_paint_103 : decode cX0_paint 103 = .ok (.iconst 1, 1) := by decide +kernel
theorem dX0_paint_104 : decode cX0_paint 104 = .ok (.iadd, 1) := by decide +kernel
theorem dX0_paint_105 : decode cX0_paint 105 = .ok (.iload 4, 2) := by decide +kernel
theorem dX0_paint_107 : decode cX0_paint 107 = .ok (.invokevirtual 105, 3) := by decide +kernel
theorem dX0_paint_110 : decode cX0_paint 110 = .ok (.istore 5, 2) := by decide +kernel
theorem dX0_paint_112 : decode cX0_paint 112 = .ok (.aload_n 0, 1) := by decide +kernel
theorem dX0_paint_113 : decode cX0_paint 113 = .ok (.getfield 23, 3) := by decide +kernel
theorem dX0_paint_116 : decode cX0_paint 116 = .ok (.iload_n 3, 1) := by decide +kernel
theorem dX0_paint_117 : decode cX0_paint 117 = .ok (.iload 5, 2) := by decide +kernel
theorem dX0_paint_119 : decode cX0_paint 119 = .ok (.i2b, 1) := by decide +kernel
theorem dX0_paint_120 : decode cX0_paint 120 = .ok (.bastore, 1) := by decide +kernel
theorem dX0_paint_121 : decode cX0_paint 121 = .ok (.iload 5, 2) := by decide +kernel
theorem dX0_paint_123 : decode cX0_paint 123 = .ok (.ifCond .ge 9, 3) := by decide +kernel
theorem dX0_paint_126 : decode cX0_paint 126 = .ok (.iinc 1 (-1), 3) := by decide +kernel
theorem dX0_paint_129 : decode cX0_paint 129 = .ok (.goto 54, 3) := by decide +kernel
theorem dX0_paint_132 : decode cX0_paint 132 = .ok (.iload_n 1, 1) := by decide +kernel
theorem dX0_paint_133 : decode cX0_paint 133 = .ok (.aload_n 0, 1) := by decide +kernel
theorem dX0_paint_134 : decode cX0_paint 134 = .ok (.getfield 95, 3) := by decide +kernel
theorem dX0_paint_137 : decode cX0_paint 137 = .ok (.iconst 1, 1) := by decide +kernel
theorem dX0_paint_138 : decode cX0_paint 138 = .ok (.isub, 1) := by decide +kernel
theorem dX0_paint_139 : decode cX0_paint 139 = .ok (.if_icmp .ne 29, 3) := by decide +kernel
theorem dX0_paint_142 : decode cX0_paint 142 = .ok (.aload_n 0, 1) := by decide +kernel
theorem dX0_paint_143 : decode cX0_paint 143 = .ok (.iload 5, 2) := by decide +kernel
theorem dX0_paint_145 : decode cX0_paint 145 = .ok (.iload 4, 2) := by decide +kernel
theorem dX0_paint_147 : decode cX0_paint 147 = .ok (.if_icmp .ge 8, 3) := by decide +kernel
theorem dX0_paint_150 : decode cX0_paint 150 = .ok (.iload 4, 2) := by decide +kernel
theorem dX0_paint_152 : decode cX0_paint 152 = .ok (.goto 7, 3) := by decide +kernel
theorem dX0_paint_155 : decode cX0_paint 155 = .ok (.iload 4, 2) := by decide +kernel
theorem dX0_paint_157 : decode cX0_paint 157 = .ok (.iconst 1, 1) := by decide +kernel
theorem dX0_paint_158 : decode cX0_paint 158 = .ok (.iadd, 1) := by decide +kernel
theorem dX0_paint_159 : decode cX0_paint 159 = .ok (.invokevirtual 109, 3) := by decide +kernel
theorem dX0_paint_162 : decode cX0_paint 162 = .ok (.iinc 1 (-1), 3) := by decide +kernel
theorem dX0_paint_165 : decode cX0_paint 165 = .ok (.goto 18, 3) := by decide +kernel
theorem dX0_paint_168 : decode cX0_paint 168 = .ok (.iinc 1 1, 3) := by decide +kernel
theorem dX0_paint_171 : decode cX0_paint 171 = .ok (.aload_n 0, 1) := by decide +kernel
theorem dX0_paint_172 : decode cX0_paint 172 = .ok (.getfield 23, 3) := by decide +kernel
theorem dX0_paint_175 : decode cX0_paint 175 = .ok (.aload_n 0, 1) := by decide +kernel
theorem dX0_paint_176 : decode cX0_paint 176 = .ok (.getfield 29, 3) := by decide +kernel
theorem dX0_paint_179 : decode cX0_paint 179 = .ok (.iload_n 1, 1) := by decide +kernel
theorem dX0_paint_180 : decode cX0_paint 180 = .ok (.baload, 1) := by decide +kernel
theorem dX0_paint_181 : decode cX0_paint 181 = .ok (.iconst (-1), 1) := by decide +kernel
theorem dX0_paint_182 : decode cX0_paint 182 = .ok (.bastore, 1) := by decide +kernel
theorem dX0_paint_183 : decode cX0_paint 183 = .ok (.iinc 2 1, 3) := by decide +kernel
theorem dX0_paint_186 : decode cX0_paint 186 = .ok (.goto (-122), 3) := by decide +kernel
theorem dX0_paint_189 : decode cX0_paint 189 = .ok (.return_, 1) := by decide +kernel
abbrev cX0_lineUp : ByteArray := prog_1_method_17_code
def yX0_lineUp : MethodName := ⟨RX0, "lineUp", "()V"⟩
theorem dX0_lineUp_0 : decode cX0_lineUp 0 = .ok (.aload_n 0, 1) := by decide +kernel
theorem dX0_lineUp_1 : decode cX0_lineUp 1 = .ok (.iconst 0, 1) := by decide +kernel
theorem dX0_lineUp_2 : decode cX0_lineUp 2 = .ok (.putfield 95, 3) := by decide +kernel
theorem dX0_lineUp_5 : decode cX0_lineUp 5 = .ok (.iconst 0, 1) := by decide +kernel
theorem dX0_lineUp_6 : decode cX0_lineUp 6 = .ok (.istore_n 1, 1) := by decide +kernel
theorem dX0_lineUp_7 : decode cX0_lineUp 7 = .ok (.iconst 0, 1) := by decide +kernel
theorem dX0_lineUp_8 : decode cX0_lineUp 8 = .ok (.istore_n 2, 1) := by decide +kernel
theorem dX0_lineUp_9 : decode cX0_lineUp 9 = .ok (.iload_n 2, 1) := by decide +kernel
theorem dX0_lineUp_10 : decode cX0_lineUp 10 = .ok (.bipush 8, 2) := by decide +kernel
theorem dX0_lineUp_12 : decode cX0_lineUp 12 = .ok (.if_icmp .ge 96, 3) := by decide +kernel
theorem dX0_lineUp_15 : decode cX0_lineUp 15 = .ok (.iconst (-1), 1) := by decide +kernel
theorem dX0_lineUp_16 : decode cX0_lineUp 16 = .ok (.istore_n 3, 1) := by decide +kernel
theorem dX0_lineUp_17 : decode cX0_lineUp 17 = .ok (.iconst 0, 1) := by decide +kernel
theorem dX0_lineUp_18 : decode cX0_lineUp 18 = .ok (.istore 4, 2) := by decide +kernel
theorem dX0_lineUp_20 : decode cX0_lineUp 20 = .ok (.iconst 0, 1) := by decide +kernel
theorem dX0_lineUp_21 : decode cX0_lineUp 21 = .ok (.istore 5, 2) := by decide +kernel
theorem dX0_lineUp_23 : decode cX0_lineUp 23 = .ok (.iload 5, 2) := by decide +kernel
theorem dX0_lineUp_25 : decode cX0_lineUp 25 = .ok (.bipush 8, 2) := by decide +kernel
theorem dX0_lineUp_27 : decode cX0_lineUp 27 = .ok (.if_icmp .ge 44, 3) := by decide +kernel
theorem dX0_lineUp_30 : decode cX0_lineUp 30 = .ok (.aload_n 0, 1) := by decide +kernel
theorem dX0_lineUp_31 : decode cX0_lineUp 31 = .ok (.getfield 20, 3) := by decide +kernel
theorem dX0_lineUp_34 : decode cX0_lineUp 34 = .ok (.iload 5, 2) := by decide +kernel
theorem dX0_lineUp_36 : decode cX0_lineUp 36 = .ok (.saload, 1) := by decide +kernel
theorem dX0_lineUp_37 : decode cX0_lineUp 37 = .ok (.invokestatic 112, 3) := by decide +kernel
theorem dX0_lineUp_40 : decode cX0_lineUp 40 = .ok (.istore 6, 2) := by decide +kernel
theorem dX0_lineUp_42 : decode cX0_lineUp 42 = .ok (.iload_n 1, 1) := by decide +kernel
theorem dX0_lineUp_43 : decode cX0_lineUp 43 = .ok (.iload 5, 2) := by decide +kernel
theorem dX0_lineUp_45 : decode cX0_lineUp 45 = .ok (.ishr, 1) := by decide +kernel
theorem dX0_lineUp_46 : decode cX0_lineUp 46 = .ok (.iconst 1, 1) := by decide +kernel
theorem dX0_lineUp_47 : decode cX0_lineUp 47 = .ok (.iand, 1) := by decide +kernel
theorem dX0_lineUp_48 : decode cX0_lineUp 48 = .ok (.ifCond .ne 17, 3) := by decide +kernel
theorem dX0_lineUp_51 : decode cX0_lineUp 51 = .ok (.iload 6, 2) := by decide +kernel
theorem dX0_lineUp_53 : decode cX0_lineUp 53 = .ok (.iload 4, 2) := by decide +kernel
theorem dX0_lineUp_55 : decode cX0_lineUp 55 = .ok (.if_icmp .le 10, 3) := by decide +kernel
theorem dX0_lineUp_58 : decode cX0_lineUp 58 = .ok (.iload 5, 2) := by decide +kernel
theorem dX0_lineUp_60 : decode cX0_lineUp 60 = .ok (.istore_n 3, 1) := by decide +kernel
theorem dX0_lineUp_61 : decode cX0_lineUp 61 = .ok (.iload 6, 2) := by decide +kernel
theorem dX0_lineUp_63 : decode cX0_lineUp 63 = .ok (.istore 4, 2) := by decide +kernel
theorem dX0_lineUp_65 : decode cX0_lineUp 65 = .ok (.iinc 5 1, 3) := by decide +kernel
theorem dX0_lineUp_68 : decode cX0_lineUp 68 = .ok (.goto (-45), 3) := by decide +kernel
theorem dX0_lineUp_71 : decode cX0_lineUp 71 = .ok (.iload_n 3, 1) := by decide +kernel
theorem dX0_lineUp_72 : decode cX0_lineUp 72 = .ok (.ifCond .lt 30, 3) := by decide +kernel
theorem dX0_lineUp_75 : decode cX0_lineUp 75 = .ok (.iload_n 1, 1) := by decide +kernel
theorem dX0_lineUp_76 : decode cX0_lineUp 76 = .ok (.iconst 1, 1) := by decide +kernel
theorem dX0_lineUp_77 : decode cX0_lineUp 77 = .ok (.iload_n 3, 1) := by decide +kernel
theorem dX0_lineUp_78 : decode cX0_lineUp 78 = .ok (.ishl, 1) := by decide +kernel
theorem dX0_lineUp_79 : decode cX0_lineUp 79 = .ok (.ior, 1) := by decide +kernel
theorem dX0_lineUp_80 : decode cX0_lineUp 80 = .ok (.istore_n 1, 1) := by decide +kernel
theorem dX0_lineUp_81 : decode cX0_lineUp 81 = .ok (.aload_n 0, 1) := by decide +kernel
theorem dX0_lineUp_82 : decode cX0_lineUp 82 = .ok (.getfield 29, 3) := by decide +kernel
theorem dX0_lineUp_85 : decode cX0_lineUp 85 = .ok (.aload_n 0, 1) := by decide +kernel
theorem dX0_lineUp_86 : decode cX0_lineUp 86 = .ok (.getfield 95, 3) := by decide +kernel
theorem dX0_lineUp_89 : decode cX0_lineUp 89 = .ok (.iload_n 3, 1) := by decide +kernel
theorem dX0_lineUp_90 : decode cX0_lineUp 90 = .ok (.i2b, 1) := by decide +kernel
theorem dX0_lineUp_91 : decode cX0_lineUp 91 = .ok (.bastore, 1) := by decide +kernel
theorem dX0_lineUp_92 : decode cX0_lineUp 92 = .ok (.aload_n 0, 1) := by decide +kernel
theorem dX0_lineUp_93 : decode cX0_lineUp 93 = .ok (.dup, 1) := by decide +kernel
theorem dX0_lineUp_94 : decode cX0_lineUp 94 = .ok (.getfield 95, 3) := by decide +kernel
theorem dX0_lineUp_97 : decode cX0_lineUp 97 = .ok (.iconst 1, 1) := by decide +kernel
theorem dX0_lineUp_98 : decode cX0_lineUp 98 = .ok (.iadd, 1) := by decide +kernel
theorem dX0_lineUp_99 : decode cX0_lineUp 99 = .ok (.putfield 95, 3) := by decide +kernel
theorem dX0_lineUp_102 : decode cX0_lineUp 102 = .ok (.iinc 2 1, 3) := by decide +kernel
theorem dX0_lineUp_105 : decode cX0_lineUp 105 = .ok (.goto (-96), 3) := by decide +kernel
theorem dX0_lineUp_108 : decode cX0_lineUp 108 = .ok (.return_, 1) := by decide +kernel
abbrev cX0_sizeOf : ByteArray := prog_1_method_18_code
def yX0_sizeOf : MethodName := ⟨RX0, "sizeOf", "(I)I"⟩
theorem dX0_sizeOf_0 : decode cX0_sizeOf 0 = .ok (.iconst 0, 1) := by decide +kernel
theorem dX0_sizeOf_1 : decode cX0_sizeOf 1 = .ok (.istore_n 1, 1) := by decide +kernel
theorem dX0_sizeOf_2 : decode cX0_sizeOf 2 = .ok (.iconst 0, 1) := by decide +kernel
theorem dX0_sizeOf_3 : decode cX0_sizeOf 3 = .ok (.istore_n 2, 1) := by decide +kernel
theorem dX0_sizeOf_4 : decode cX0_sizeOf 4 = .ok (.iload_n 2, 1) := by decide +kernel
theorem dX0_sizeOf_5 : decode cX0_sizeOf 5 = .ok (.bipush 8, 2) := by decide +kernel
theorem dX0_sizeOf_7 : decode cX0_sizeOf 7 = .ok (.if_icmp .ge 17, 3) := by decide +kernel
theorem dX0_sizeOf_10 : decode cX0_sizeOf 10 = .ok (.iload_n 1, 1) := by decide +kernel
theorem dX0_sizeOf_11 : decode cX0_sizeOf 11 = .ok (.iload_n 0, 1) := by decide +kernel
theorem dX0_sizeOf_12 : decode cX0_sizeOf 12 = .ok (.iload_n 2, 1) := by decide +kernel
theorem dX0_sizeOf_13 : decode cX0_sizeOf 13 = .ok (.ishr, 1) := by decide +kernel
theorem dX0_sizeOf_14 : decode cX0_sizeOf 14 = .ok (.iconst 1, 1) := by decide +kernel
theorem dX0_sizeOf_15 : decode cX0_sizeOf 15 = .ok (.iand, 1) := by decide +kernel
theorem dX0_sizeOf_16 : decode cX0_sizeOf 16 = .ok (.iadd, 1) := by decide +kernel
theorem dX0_sizeOf_17 : decode cX0_sizeOf 17 = .ok (.istore_n 1, 1) := by decide +kernel
theorem dX0_sizeOf_18 : decode cX0_sizeOf 18 = .ok (.iinc 2 1, 3) := by decide +kernel
theorem dX0_sizeOf_21 : decode cX0_sizeOf 21 = .ok (.goto (-17), 3) := by decide +kernel
theorem dX0_sizeOf_24 : decode cX0_sizeOf 24 = .ok (.iload_n 1, 1) := by decide +kernel
theorem dX0_sizeOf_25 : decode cX0_sizeOf 25 = .ok (.ireturn, 1) := by decide +kernel
abbrev cX0_opened : ByteArray := prog_1_method_19_code
def yX0_opened : MethodName := ⟨RX0, "opened", "(I)I"⟩
theorem dX0_opened_0 : decode cX0_opened 0 = .ok (.iconst 0, 1) := by decide +kernel
theorem dX0_opened_1 : decode cX0_opened 1 = .ok (.istore_n 2, 1) := by decide +kernel
theorem dX0_opened_2 : decode cX0_opened 2 = .ok (.iconst 0, 1) := by decide +kernel
theorem dX0_opened_3 : decode cX0_opened 3 = .ok (.istore_n 3, 1) := by decide +kernel
theorem dX0_opened_4 : decode cX0_opened 4 = .ok (.iload_n 3, 1) := by decide +kernel
theorem dX0_opened_5 : decode cX0_opened 5 = .ok (.iload_n 1, 1) := by decide +kernel
theorem dX0_opened_6 : decode cX0_opened 6 = .ok (.if_icmp .ge 38, 3) := by decide +kernel
theorem dX0_opened_9 : decode cX0_opened 9 = .ok (.aload_n 0, 1) := by decide +kernel
theorem dX0_opened_10 : decode cX0_opened 10 = .ok (.getfield 23, 3) := by decide +kernel
theorem dX0_opened_13 : decode cX0_opened 13 = .ok (.aload_n 0, 1) := by decide +kernel
theorem dX0_opened_14 : decode cX0_opened 14 = .ok (.getfield 29, 3) := by decide +kernel
theorem dX0_opened_17 : decode cX0_opened 17 = .ok (.iload_n 3, 1) := by decide +kernel
theorem dX0_opened_18 : decode cX0_opened 18 = .ok (.baload, 1) := by decide +kernel
theorem dX0_opened_19 : decode cX0_opened 19 = .ok (.baload, 1) := by decide +kernel
theorem dX0_opened_20 : decode cX0_opened 20 = .ok (.iload_n 2, 1) := by decide +kernel
theorem dX0_opened_21 : decode cX0_opened 21 = .ok (.if_icmp .lt 17, 3) := by decide +kernel
theorem dX0_opened_24 : decode cX0_opened 24 = .ok (.aload_n 0, 1) := by decide +kernel
theorem dX0_opened_25 : decode cX0_opened 25 = .ok (.getfield 23, 3) := by decide +kernel
theorem dX0_opened_28 : decode cX0_opened 28 = .ok (.aload_n 0, 1) := by decide +kernel
theorem dX0_opened_29 : decode cX0_opened 29 = .ok (.getfield 29, 3) := by decide +kernel
theorem dX0_opened_32 : decode cX0_opened 32 = .ok (.iload_n 3, 1) := by decide +kernel
theorem dX0_opened_33 : decode cX0_opened 33 = .ok (.baload, 1) := by decide +kernel
theorem dX0_opened_34 : decode cX0_opened 34 = .ok (.baload, 1) := by decide +kernel
theorem dX0_opened_35 : decode cX0_opened 35 = .ok (.iconst 1, 1) := by decide +kernel
theorem dX0_opened_36 : decode cX0_opened 36 = .ok (.iadd, 1) := by decide +kernel
theorem dX0_opened_37 : decode cX0_opened 37 = .ok (.istore_n 2, 1) := by decide +kernel
theorem dX0_opened_38 : decode cX0_opened 38 = .ok (.iinc 3 1, 3) := by decide +kernel
theorem dX0_opened_41 : decode cX0_opened 41 = .ok (.goto (-37), 3) := by decide +kernel
theorem dX0_opened_44 : decode cX0_opened 44 = .ok (.iload_n 2, 1) := by decide +kernel
theorem dX0_opened_45 : decode cX0_opened 45 = .ok (.ireturn, 1) := by decide +kernel
abbrev cX0_nextColour : ByteArray := prog_1_method_20_code
def yX0_nextColour : MethodName := ⟨RX0, "nextColour", "(III)I"⟩
theorem dX0_nextColour_0 : decode cX0_nextColour 0 = .ok (.iload_n 3, 1) := by decide +kernel
theorem dX0_nextColour_1 : decode cX0_nextColour 1 = .ok (.aload_n 0, 1) := by decide +kernel
theorem dX0_nextColour_2 : decode cX0_nextColour 2 = .ok (.getfield 98, 3) := by decide +kernel
theorem dX0_nextColour_5 : decode cX0_nextColour 5 = .ok (.if_icmp .lt 5, 3) := by decide +kernel
theorem dX0_nextColour_8 : decode cX0_nextColour 8 = .ok (.iconst (-1), 1) := by decide +kernel
theorem dX0_nextColour_9 : decode cX0_nextColour 9 = .ok (.ireturn, 1) := by decide +kernel
theorem dX0_nextColour_10 : decode cX0_nextColour 10 = .ok (.iconst 0, 1) := by decide +kernel
theorem dX0_nextColour_11 : decode cX0_nextColour 11 = .ok (.istore 4, 2) := by decide +kernel
theorem dX0_nextColour_13 : decode cX0_nextColour 13 = .ok (.iconst 0, 1) := by decide +kernel
theorem dX0_nextColour_14 : decode cX0_nextColour 14 = .ok (.istore 5, 2) := by decide +kernel
theorem dX0_nextColour_16 : decode cX0_nextColour 16 = .ok (.iload 5, 2) := by decide +kernel
theorem dX0_nextColour_18 : decode cX0_nextColour 18 = .ok (.iload_n 1, 1) := by decide +kernel
theorem dX0_nextColour_19 : decode cX0_nextColour 19 = .ok (.if_icmp .ge 52, 3) := by decide +kernel
theorem dX0_nextColour_22 : decode cX0_nextColour 22 = .ok (.aload_n 0, 1) := by decide +kernel
theorem dX0_nextColour_23 : decode cX0_nextColour 23 = .ok (.getfield 20, 3) := by decide +kernel
theorem dX0_nextColour_26 : decode cX0_nextColour 26 = .ok (.aload_n 0, 1) := by decide +kernel
theorem dX0_nextColour_27 : decode cX0_nextColour 27 = .ok (.getfield 29, 3) := by decide +kernel
theorem dX0_nextColour_30 : decode cX0_nextColour 30 = .ok (.iload_n 1, 1) := by decide +kernel
theorem dX0_nextColour_31 : decode cX0_nextColour 31 = .ok (.baload, 1) := by decide +kernel
theorem dX0_nextColour_32 : decode cX0_nextColour 32 = .ok (.saload, 1) := by decide +kernel
theorem dX0_nextColour_33 : decode cX0_nextColour 33 = .ok (.aload_n 0, 1) := by decide +kernel
theorem dX0_nextColour_34 : decode cX0_nextColour 34 = .ok (.getfield 29, 3) := by decide +kernel
theorem dX0_nextColour_37 : decode cX0_nextColour 37 = .ok (.iload 5, 2) := by decide +kernel
theorem dX0_nextColour_39 : decode cX0_nextColour 39 = .ok (.baload, 1) := by decide +kernel
theorem dX0_nextColour_40 : decode cX0_nextColour 40 = .ok (.ishr, 1) := by decide +kernel
theorem dX0_nextColour_41 : decode cX0_nextColour 41 = .ok (.iconst 1, 1) := by decide +kernel
theorem dX0_nextColour_42 : decode cX0_nextColour 42 = .ok (.iand, 1) := by decide +kernel
theorem dX0_nextColour_43 : decode cX0_nextColour 43 = .ok (.ifCond .eq 22, 3) := by decide +kernel
theorem dX0_nextColour_46 : decode cX0_nextColour 46 = .ok (.iload 4, 2) := by decide +kernel
theorem dX0_nextColour_48 : decode cX0_nextColour 48 = .ok (.iconst 1, 1) := by decide +kernel
theorem dX0_nextColour_49 : decode cX0_nextColour 49 = .ok (.aload_n 0, 1) := by decide +kernel
theorem dX0_nextColour_50 : decode cX0_nextColour 50 = .ok (.getfield 23, 3) := by decide +kernel
theorem dX0_nextColour_53 : decode cX0_nextColour 53 = .ok (.aload_n 0, 1) := by decide +kernel
theorem dX0_nextColour_54 : decode cX0_nextColour 54 = .ok (.getfield 29, 3) := by decide +kernel
theorem dX0_nextColour_57 : decode cX0_nextColour 57 = .ok (.iload 5, 2) := by decide +kernel
theorem dX0_nextColour_59 : decode cX0_nextColour 59 = .ok (.baload, 1) := by decide +kernel
theorem dX0_nextColour_60 : decode cX0_nextColour 60 = .ok (.baload, 1) := by decide +kernel
theorem dX0_nextColour_61 : decode cX0_nextColour 61 = .ok (.ishl, 1) := by decide +kernel
theorem dX0_nextColour_62 : decode cX0_nextColour 62 = .ok (.ior, 1) := by decide +kernel
theorem dX0_nextColour_63 : decode cX0_nextColour 63 = .ok (.istore 4, 2) := by decide +kernel
theorem dX0_nextColour_65 : decode cX0_nextColour 65 = .ok (.iinc 5 1, 3) := by decide +kernel
theorem dX0_nextColour_68 : decode cX0_nextColour 68 = .ok (.goto (-52), 3) := by decide +kernel
theorem dX0_nextColour_71 : decode cX0_nextColour 71 = .ok (.iload_n 2, 1) := by decide +kernel
theorem dX0_nextColour_72 : decode cX0_nextColour 72 = .ok (.istore 5, 2) := by decide +kernel
theorem dX0_nextColour_74 : decode cX0_nextColour 74 = .ok (.iload 5, 2) := by decide +kernel
theorem dX0_nextColour_76 : decode cX0_nextColour 76 = .ok (.iload_n 3, 1) := by decide +kernel
theorem dX0_nextColour_77 : decode cX0_nextColour 77 = .ok (.if_icmp .gt 33, 3) := by decide +kernel
theorem dX0_nextColour_80 : decode cX0_nextColour 80 = .ok (.iload 5, 2) := by decide +kernel
theorem dX0_nextColour_82 : decode cX0_nextColour 82 = .ok (.aload_n 0, 1) := by decide +kernel
theorem dX0_nextColour_83 : decode cX0_nextColour 83 = .ok (.getfield 98, 3) := by decide +kernel
theorem dX0_nextColour_86 : decode cX0_nextColour 86 = .ok (.iconst 1, 1) := by decide +kernel
theorem dX0_nextColour_87 : decode cX0_nextColour 87 = .ok (.isub, 1) := by decide +kernel
theorem dX0_nextColour_88 : decode cX0_nextColour 88 = .ok (.if_icmp .ge 22, 3) := by decide +kernel
theorem dX0_nextColour_91 : decode cX0_nextColour 91 = .ok (.iload 4, 2) := by decide +kernel
theorem dX0_nextColour_93 : decode cX0_nextColour 93 = .ok (.iload 5, 2) := by decide +kernel
theorem dX0_nextColour_95 : decode cX0_nextColour 95 = .ok (.ishr, 1) := by decide +kernel
theorem dX0_nextColour_96 : decode cX0_nextColour 96 = .ok (.iconst 1, 1) := by decide +kernel
theorem dX0_nextColour_97 : decode cX0_nextColour 97 = .ok (.iand, 1) := by decide +kernel
theorem dX0_nextColour_98 : decode cX0_nextColour 98 = .ok (.ifCond .ne 6, 3) := by decide +kernel
theorem dX0_nextColour_101 : decode cX0_nextColour 101 = .ok (.iload 5, 2) := by decide +kernel
theorem dX0_nextColour_103 : decode cX0_nextColour 103 = .ok (.ireturn, 1) := by decide +kernel
theorem dX0_nextColour_104 : decode cX0_nextColour 104 = .ok (.iinc 5 1, 3) := by decide +kernel
theorem dX0_nextColour_107 : decode cX0_nextColour 107 = .ok (.goto (-33), 3) := by decide +kernel
theorem dX0_nextColour_110 : decode cX0_nextColour 110 = .ok (.iconst (-1), 1) := by decide +kernel
theorem dX0_nextColour_111 : decode cX0_nextColour 111 = .ok (.ireturn, 1) := by decide +kernel
abbrev cX0_keep : ByteArray := prog_1_method_21_code
def yX0_keep : MethodName := ⟨RX0, "keep", "(I)V"⟩
theorem dX0_keep_0 : decode cX0_keep 0 = .ok (.aload_n 0, 1) := by decide +kernel
theorem dX0_keep_1 : decode cX0_keep 1 = .ok (.iload_n 1, 1) := by decide +kernel
theorem dX0_keep_2 : decode cX0_keep 2 = .ok (.putfield 98, 3) := by decide +kernel
theorem dX0_keep_5 : decode cX0_keep 5 = .ok (.iconst 0, 1) := by decide +kernel
theorem dX0_keep_6 : decode cX0_keep 6 = .ok (.istore_n 2, 1) := by decide +kernel
theorem dX0_keep_7 : decode cX0_keep 7 = .ok (.iload_n 2, 1) := by decide +kernel
theorem dX0_keep_8 : decode cX0_keep 8 = .ok (.aload_n 0, 1) := by decide +kernel
theorem dX0_keep_9 : decode cX0_keep 9 = .ok (.getfield 95, 3) := by decide +kernel
theorem dX0_keep_12 : decode cX0_keep 12 = .ok (.if_icmp .ge 31, 3) := by decide +kernel
theorem dX0_keep_15 : decode cX0_keep 15 = .ok (.aload_n 0, 1) := by decide +kernel
theorem dX0_keep_16 : decode cX0_keep 16 = .ok (.getfield 26, 3) := by decide +kernel
theorem dX0_keep_19 : decode cX0_keep 19 = .ok (.aload_n 0, 1) := by decide +kernel
theorem dX0_keep_20 : decode cX0_keep 20 = .ok (.getfield 29, 3) := by decide +kernel
theorem dX0_keep_23 : decode cX0_keep 23 = .ok (.iload_n 2, 1) := by decide +kernel
theorem dX0_keep_24 : decode cX0_keep 24 = .ok (.baload, 1) := by decide +kernel
theorem dX0_keep_25 : decode cX0_keep 25 = .ok (.aload_n 0, 1) := by decide +kernel
theorem dX0_keep_26 : decode cX0_keep 26 = .ok (.getfield 23, 3) := by decide +kernel
theorem dX0_keep_29 : decode cX0_keep 29 = .ok (.aload_n 0, 1) := by decide +kernel
theorem dX0_keep_30 : decode cX0_keep 30 = .ok (.getfield 29, 3) := by decide +kernel
theorem dX0_keep_33 : decode cX0_keep 33 = .ok (.iload_n 2, 1) := by decide +kernel
theorem dX0_keep_34 : decode cX0_keep 34 = .ok (.baload, 1) := by decide +kernel
theorem dX0_keep_35 : decode cX0_keep 35 = .ok (.baload, 1) := by decide +kernel
theorem dX0_keep_36 : decode cX0_keep 36 = .ok (.bastore, 1) := by decide +kernel
theorem dX0_keep_37 : decode cX0_keep 37 = .ok (.iinc 2 1, 3) := by decide +kernel
theorem dX0_keep_40 : decode cX0_keep 40 = .ok (.goto (-33), 3) := by decide +kernel
theorem dX0_keep_43 : decode cX0_keep 43 = .ok (.return_, 1) := by decide +kernel
end
section
set_option maxRecDepth 100000
abbrev cX0_pack : ByteArray := prog_1_method_22_code
def yX0_pack : MethodName := ⟨RX0, "pack", "(I)V"⟩
theorem dX0_pack_0 : decode cX0_pack 0 = .ok (.aload_n 0, 1) := by decide +kernel
theorem dX0_pack_1 : decode cX0_pack 1 = .ok (.iload_n 1, 1) := by decide +kernel
theorem dX0_pack_2 : decode cX0_pack 2 = .ok (.invokevirtual 115, 3) := by decide +kernel
theorem dX0_pack_5 : decode cX0_pack 5 = .ok (.iconst 0, 1) := by decide +kernel
theorem dX0_pack_6 : decode cX0_pack 6 = .ok (.istore_n 2, 1) := by decide +kernel
theorem dX0_pack_7 : decode cX0_pack 7 = .ok (.iconst 0, 1) := by decide +kernel
theorem dX0_pack_8 : decode cX0_pack 8 = .ok (.istore_n 3, 1) := by decide +kernel
theorem dX0_pack_9 : decode cX0_pack 9 = .ok (.iload_n 3, 1) := by decide +kernel
theorem dX0_pack_10 : decode cX0_pack 10 = .ok (.bipush 88, 2) := by decide +kernel
theorem dX0_pack_12 : decode cX0_pack 12 = .ok (.if_icmp .ge 21, 3) := by decide +kernel
theorem dX0_pack_15 : decode cX0_pack 15 = .ok (.aload_n 0, 1) := by decide +kernel
theorem dX0_pack_16 : decode cX0_pack 16 = .ok (.iload_n 1, 1) := by decide +kernel
theorem dX0_pack_17 : decode cX0_pack 17 = .ok (.iload_n 2, 1) := by decide +kernel
theorem dX0_pack_18 : decode cX0_pack 18 = .ok (.invokevirtual 118, 3) := by decide +kernel
theorem dX0_pack_21 : decode cX0_pack 21 = .ok (.ifCond .ne 12, 3) := by decide +kernel
theorem dX0_pack_24 : decode cX0_pack 24 = .ok (.iinc 2 1, 3) := by decide +kernel
theorem dX0_pack_27 : decode cX0_pack 27 = .ok (.iinc 3 1, 3) := by decide +kernel
theorem dX0_pack_30 : decode cX0_pack 30 = .ok (.goto (-21), 3) := by decide +kernel
theorem dX0_pack_33 : decode cX0_pack 33 = .ok (.aload_n 0, 1) := by decide +kernel
theorem dX0_pack_34 : decode cX0_pack 34 = .ok (.getfield 32, 3) := by decide +kernel
theorem dX0_pack_37 : decode cX0_pack 37 = .ok (.iload_n 1, 1) := by decide +kernel
theorem dX0_pack_38 : decode cX0_pack 38 = .ok (.iload_n 2, 1) := by decide +kernel
theorem dX0_pack_39 : decode cX0_pack 39 = .ok (.i2b, 1) := by decide +kernel
theorem dX0_pack_40 : decode cX0_pack 40 = .ok (.bastore, 1) := by decide +kernel
theorem dX0_pack_41 : decode cX0_pack 41 = .ok (.iconst 0, 1) := by decide +kernel
theorem dX0_pack_42 : decode cX0_pack 42 = .ok (.istore_n 3, 1) := by decide +kernel
theorem dX0_pack_43 : decode cX0_pack 43 = .ok (.iload_n 3, 1) := by decide +kernel
theorem dX0_pack_44 : decode cX0_pack 44 = .ok (.bipush 8, 2) := by decide +kernel
theorem dX0_pack_46 : decode cX0_pack 46 = .ok (.if_icmp .ge 87, 3) := by decide +kernel
theorem dX0_pack_49 : decode cX0_pack 49 = .ok (.aload_n 0, 1) := by decide +kernel
theorem dX0_pack_50 : decode cX0_pack 50 = .ok (.getfield 17, 3) := by decide +kernel
theorem dX0_pack_53 : decode cX0_pack 53 = .ok (.iload_n 1, 1) := by decide +kernel
theorem dX0_pack_54 : decode cX0_pack 54 = .ok (.saload, 1) := by decide +kernel
theorem dX0_pack_55 : decode cX0_pack 55 = .ok (.iload_n 3, 1) := by decide +kernel
theorem dX0_pack_56 : decode cX0_pack 56 = .ok (.ishr, 1) := by decide +kernel
theorem dX0_pack_57 : decode cX0_pack 57 = .ok (.iconst 1, 1) := by decide +kernel
theorem dX0_pack_58 : decode cX0_pack 58 = .ok (.iand, 1) := by decide +kernel
theorem dX0_pack_59 : decode cX0_pack 59 = .ok (.ifCond .eq 68, 3) := by decide +kernel
theorem dX0_pack_62 : decode cX0_pack 62 = .ok (.iload_n 2, 1) := by decide +kernel
theorem dX0_pack_63 : decode cX0_pack 63 = .ok (.aload_n 0, 1) := by decide +kernel
theorem dX0_pack_64 : decode cX0_pack 64 = .ok (.getfield 26, 3) := by decide +kernel
theorem dX0_pack_67 : decode cX0_pack 67 = .ok (.iload_n 3, 1) := by decide +kernel
theorem dX0_pack_68 : decode cX0_pack 68 = .ok (.baload, 1) := by decide +kernel
theorem dX0_pack_69 : decode cX0_pack 69 = .ok (.iadd, 1) := by decide +kernel
theorem dX0_pack_70 : decode cX0_pack 70 = .ok (.istore 4, 2) := by decide +kernel
theorem dX0_pack_72 : decode cX0_pack 72 = .ok (.aload_n 0, 1) := by decide +kernel
theorem dX0_pack_73 : decode cX0_pack 73 = .ok (.getfield 47, 3) := by decide +kernel
theorem dX0_pack_76 : decode cX0_pack 76 = .ok (.iload_n 3, 1) := by decide +kernel
theorem dX0_pack_77 : decode cX0_pack 77 = .ok (.baload, 1) := by decide +kernel
theorem dX0_pack_78 : decode cX0_pack 78 = .ok (.istore 5, 2) := by decide +kernel
theorem dX0_pack_80 : decode cX0_pack 80 = .ok (.aload_n 0, 1) := by decide +kernel
theorem dX0_pack_81 : decode cX0_pack 81 = .ok (.getfield 35, 3) := by decide +kernel
theorem dX0_pack_84 : decode cX0_pack 84 = .ok (.iload 4, 2) := by decide +kernel
theorem dX0_pack_86 : decode cX0_pack 86 = .ok (.iload_n 1, 1) := by decide +kernel
theorem dX0_pack_87 : decode cX0_pack 87 = .ok (.i2b, 1) := by decide +kernel
theorem dX0_pack_88 : decode cX0_pack 88 = .ok (.bastore, 1) := by decide +kernel
theorem dX0_pack_89 : decode cX0_pack 89 = .ok (.aload_n 0, 1) := by decide +kernel
theorem dX0_pack_90 : decode cX0_pack 90 = .ok (.getfield 38, 3) := by decide +kernel
theorem dX0_pack_93 : decode cX0_pack 93 = .ok (.iload 4, 2) := by decide +kernel
theorem dX0_pack_95 : decode cX0_pack 95 = .ok (.iload_n 3, 1) := by decide +kernel
theorem dX0_pack_96 : decode cX0_pack 96 = .ok (.i2b, 1) := by decide +kernel
theorem dX0_pack_97 : decode cX0_pack 97 = .ok (.bastore, 1) := by decide +kernel
theorem dX0_pack_98 : decode cX0_pack 98 = .ok (.aload_n 0, 1) := by decide +kernel
theorem dX0_pack_99 : decode cX0_pack 99 = .ok (.getfield 41, 3) := by decide +kernel
theorem dX0_pack_102 : decode cX0_pack 102 = .ok (.iload 4, 2) := by decide +kernel
theorem dX0_pack_104 : decode cX0_pack 104 = .ok (.iload 5, 2) := by decide +kernel
theorem dX0_pack_106 : decode cX0_pack 106 = .ok (.i2b, 1) := by decide +kernel
theorem dX0_pack_107 : decode cX0_pack 107 = .ok (.bastore, 1) := by decide +kernel
theorem dX0_pack_108 : decode cX0_pack 108 = .ok (.aload_n 0, 1) := by decide +kernel
theorem dX0_pack_109 : decode cX0_pack 109 = .ok (.getfield 44, 3) := by decide +kernel
theorem dX0_pack_112 : decode cX0_pack 112 = .ok (.iload 4, 2) := by decide +kernel
theorem dX0_pack_114 : decode cX0_pack 114 = .ok (.aload_n 0, 1) := by decide +kernel
theorem dX0_pack_115 : decode cX0_pack 115 = .ok (.getfield 13, 3) := by decide +kernel
theorem dX0_pack_118 : decode cX0_pack 118 = .ok (.iload 5, 2) := by decide +kernel
theorem dX0_pack_120 : decode cX0_pack 120 = .ok (.bipush 8, 2) := by decide +kernel
theorem dX0_pack_122 : decode cX0_pack 122 = .ok (.imul, 1) := by decide +kernel
theorem dX0_pack_123 : decode cX0_pack 123 = .ok (.iload_n 3, 1) := by decide +kernel
theorem dX0_pack_124 : decode cX0_pack 124 = .ok (.iadd, 1) := by decide +kernel
theorem dX0_pack_125 : decode cX0_pack 125 = .ok (.saload, 1) := by decide +kernel
theorem dX0_pack_126 : decode cX0_pack 126 = .ok (.sastore, 1) := by decide +kernel
theorem dX0_pack_127 : decode cX0_pack 127 = .ok (.iinc 3 1, 3) := by decide +kernel
theorem dX0_pack_130 : decode cX0_pack 130 = .ok (.goto (-87), 3) := by decide +kernel
theorem dX0_pack_133 : decode cX0_pack 133 = .ok (.return_, 1) := by decide +kernel
abbrev cX0_fillRow : ByteArray := prog_1_method_23_code
def yX0_fillRow : MethodName := ⟨RX0, "fillRow", "(I)V"⟩
theorem dX0_fillRow_0 : decode cX0_fillRow 0 = .ok (.aload_n 0, 1) := by decide +kernel
theorem dX0_fillRow_1 : decode cX0_fillRow 1 = .ok (.iload_n 1, 1) := by decide +kernel
theorem dX0_fillRow_2 : decode cX0_fillRow 2 = .ok (.invokevirtual 88, 3) := by decide +kernel
theorem dX0_fillRow_5 : decode cX0_fillRow 5 = .ok (.istore_n 2, 1) := by decide +kernel
theorem dX0_fillRow_6 : decode cX0_fillRow 6 = .ok (.iconst 0, 1) := by decide +kernel
theorem dX0_fillRow_7 : decode cX0_fillRow 7 = .ok (.istore_n 3, 1) := by decide +kernel
theorem dX0_fillRow_8 : decode cX0_fillRow 8 = .ok (.iload_n 3, 1) := by decide +kernel
theorem dX0_fillRow_9 : decode cX0_fillRow 9 = .ok (.bipush 8, 2) := by decide +kernel
theorem dX0_fillRow_11 : decode cX0_fillRow 11 = .ok (.if_icmp .ge 76, 3) := by decide +kernel
theorem dX0_fillRow_14 : decode cX0_fillRow 14 = .ok (.aload_n 0, 1) := by decide +kernel
theorem dX0_fillRow_15 : decode cX0_fillRow 15 = .ok (.getfield 17, 3) := by decide +kernel
theorem dX0_fillRow_18 : decode cX0_fillRow 18 = .ok (.iload_n 1, 1) := by decide +kernel
theorem dX0_fillRow_19 : decode cX0_fillRow 19 = .ok (.saload, 1) := by decide +kernel
theorem dX0_fillRow_20 : decode cX0_fillRow 20 = .ok (.iload_n 3, 1) := by decide +kernel
theorem dX0_fillRow_21 : decode cX0_fillRow 21 = .ok (.ishr, 1) := by decide +kernel
theorem dX0_fillRow_22 : decode cX0_fillRow 22 = .ok (.iconst 1, 1) := by decide +kernel
theorem dX0_fillRow_23 : decode cX0_fillRow 23 = .ok (.iand, 1) := by decide +kernel
theorem dX0_fillRow_24 : decode cX0_fillRow 24 = .ok (.ifCond .eq 57, 3) := by decide +kernel
theorem dX0_fillRow_27 : decode cX0_fillRow 27 = .ok (.iload_n 2, 1) := by decide +kernel
theorem dX0_fillRow_28 : decode cX0_fillRow 28 = .ok (.iload_n 3, 1) := by decide +kernel
theorem dX0_fillRow_29 : decode cX0_fillRow 29 = .ok (.ishr, 1) := by decide +kernel
theorem dX0_fillRow_30 : decode cX0_fillRow 30 = .ok (.iconst 1, 1) := by decide +kernel
theorem dX0_fillRow_31 : decode cX0_fillRow 31 = .ok (.iand, 1) := by decide +kernel
theorem dX0_fillRow_32 : decode cX0_fillRow 32 = .ok (.ifCond .eq 7, 3) := by decide +kernel
theorem dX0_fillRow_35 : decode cX0_fillRow 35 = .ok (.iconst 1, 1) := by decide +kernel
theorem dX0_fillRow_36 : decode cX0_fillRow 36 = .ok (.goto 4, 3) := by decide +kernel
theorem dX0_fillRow_39 : decode cX0_fillRow 39 = .ok (.iconst 0, 1) := by decide +kernel
theorem dX0_fillRow_40 : decode cX0_fillRow 40 = .ok (.istore 4, 2) := by decide +kernel
theorem dX0_fillRow_42 : decode cX0_fillRow 42 = .ok (.aload_n 0, 1) := by decide +kernel
theorem dX0_fillRow_43 : decode cX0_fillRow 43 = .ok (.getfield 47, 3) := by decide +kernel
theorem dX0_fillRow_46 : decode cX0_fillRow 46 = .ok (.iload_n 3, 1) := by decide +kernel
theorem dX0_fillRow_47 : decode cX0_fillRow 47 = .ok (.iload 4, 2) := by decide +kernel
theorem dX0_fillRow_49 : decode cX0_fillRow 49 = .ok (.ifCond .eq 8, 3) := by decide +kernel
theorem dX0_fillRow_52 : decode cX0_fillRow 52 = .ok (.iload_n 1, 1) := by decide +kernel
theorem dX0_fillRow_53 : decode cX0_fillRow 53 = .ok (.i2b, 1) := by decide +kernel
theorem dX0_fillRow_54 : decode cX0_fillRow 54 = .ok (.goto 26, 3) := by decide +kernel
theorem dX0_fillRow_57 : decode cX0_fillRow 57 = .ok (.aload_n 0, 1) := by decide +kernel
theorem dX0_fillRow_58 : decode cX0_fillRow 58 = .ok (.getfield 41, 3) := by decide +kernel
theorem dX0_fillRow_61 : decode cX0_fillRow 61 = .ok (.aload_n 0, 1) := by decide +kernel
theorem dX0_fillRow_62 : decode cX0_fillRow 62 = .ok (.getfield 32, 3) := by decide +kernel
theorem dX0_fillRow_65 : decode cX0_fillRow 65 = .ok (.aload_n 0, 1) := by decide +kernel
theorem dX0_fillRow_66 : decode cX0_fillRow 66 = .ok (.getfield 7, 3) := by decide +kernel
theorem dX0_fillRow_69 : decode cX0_fillRow 69 = .ok (.iload_n 1, 1) := by decide +kernel
theorem dX0_fillRow_70 : decode cX0_fillRow 70 = .ok (.baload, 1) := by decide +kernel
theorem dX0_fillRow_71 : decode cX0_fillRow 71 = .ok (.baload, 1) := by decide +kernel
theorem dX0_fillRow_72 : decode cX0_fillRow 72 = .ok (.aload_n 0, 1) := by decide +kernel
theorem dX0_fillRow_73 : decode cX0_fillRow 73 = .ok (.getfield 26, 3) := by decide +kernel
theorem dX0_fillRow_76 : decode cX0_fillRow 76 = .ok (.iload_n 3, 1) := by decide +kernel
theorem dX0_fillRow_77 : decode cX0_fillRow 77 = .ok (.baload, 1) := by decide +kernel
theorem dX0_fillRow_78 : decode cX0_fillRow 78 = .ok (.iadd, 1) := by decide +kernel
theorem dX0_fillRow_79 : decode cX0_fillRow 79 = .ok (.baload, 1) := by decide +kernel
theorem dX0_fillRow_80 : decode cX0_fillRow 80 = .ok (.bastore, 1) := by decide +kernel
theorem dX0_fillRow_81 : decode cX0_fillRow 81 = .ok (.iinc 3 1, 3) := by decide +kernel
theorem dX0_fillRow_84 : decode cX0_fillRow 84 = .ok (.goto (-76), 3) := by decide +kernel
theorem dX0_fillRow_87 : decode cX0_fillRow 87 = .ok (.return_, 1) := by decide +kernel
abbrev cX0_fits : ByteArray := prog_1_method_24_code
def yX0_fits : MethodName := ⟨RX0, "fits", "(II)Z"⟩
theorem dX0_fits_0 : decode cX0_fits 0 = .ok (.iconst 0, 1) := by decide +kernel
theorem dX0_fits_1 : decode cX0_fits 1 = .ok (.istore_n 3, 1) := by decide +kernel
theorem dX0_fits_2 : decode cX0_fits 2 = .ok (.iload_n 3, 1) := by decide +kernel
theorem dX0_fits_3 : decode cX0_fits 3 = .ok (.bipush 8, 2) := by decide +kernel
theorem dX0_fits_5 : decode cX0_fits 5 = .ok (.if_icmp .ge 40, 3) := by decide +kernel
theorem dX0_fits_8 : decode cX0_fits 8 = .ok (.aload_n 0, 1) := by decide +kernel
theorem dX0_fits_9 : decode cX0_fits 9 = .ok (.getfield 17, 3) := by decide +kernel
theorem dX0_fits_12 : decode cX0_fits 12 = .ok (.iload_n 1, 1) := by decide +kernel
theorem dX0_fits_13 : decode cX0_fits 13 = .ok (.saload, 1) := by decide +kernel
theorem dX0_fits_14 : decode cX0_fits 14 = .ok (.iload_n 3, 1) := by decide +kernel
theorem dX0_fits_15 : decode cX0_fits 15 = .ok (.ishr, 1) := by decide +kernel
theorem dX0_fits_16 : decode cX0_fits 16 = .ok (.iconst 1, 1) := by decide +kernel
theorem dX0_fits_17 : decode cX0_fits 17 = .ok (.iand, 1) := by decide +kernel
theorem dX0_fits_18 : decode cX0_fits 18 = .ok (.ifCond .eq 21, 3) := by decide +kernel
theorem dX0_fits_21 : decode cX0_fits 21 = .ok (.aload_n 0, 1) := by decide +kernel
theorem dX0_fits_22 : decode cX0_fits 22 = .ok (.getfield 35, 3) := by decide +kernel
theorem dX0_fits_25 : decode cX0_fits 25 = .ok (.iload_n 2, 1) := by decide +kernel
theorem dX0_fits_26 : decode cX0_fits 26 = .ok (.aload_n 0, 1) := by decide +kernel
theorem dX0_fits_27 : decode cX0_fits 27 = .ok (.getfield 26, 3) := by decide +kernel
theorem dX0_fits_30 : decode cX0_fits 30 = .ok (.iload_n 3, 1) := by decide +kernel
theorem dX0_fits_31 : decode cX0_fits 31 = .ok (.baload, 1) := by decide +kernel
theorem dX0_fits_32 : decode cX0_fits 32 = .ok (.iadd, 1) := by decide +kernel
theorem dX0_fits_33 : decode cX0_fits 33 = .ok (.baload, 1) := by decide +kernel
theorem dX0_fits_34 : decode cX0_fits 34 = .ok (.ifCond .lt 5, 3) := by decide +kernel
theorem dX0_fits_37 : decode cX0_fits 37 = .ok (.iconst 0, 1) := by decide +kernel
theorem dX0_fits_38 : decode cX0_fits 38 = .ok (.ireturn, 1) := by decide +kernel
theorem dX0_fits_39 : decode cX0_fits 39 = .ok (.iinc 3 1, 3) := by decide +kernel
theorem dX0_fits_42 : decode cX0_fits 42 = .ok (.goto (-40), 3) := by decide +kernel
theorem dX0_fits_45 : decode cX0_fits 45 = .ok (.iconst 1, 1) := by decide +kernel
theorem dX0_fits_46 : decode cX0_fits 46 = .ok (.ireturn, 1) := by decide +kernel
abbrev cX0_sendSuper : ByteArray := prog_1_method_27_code
def yX0_sendSuper : MethodName := ⟨RX0, "sendSuper", "(II)I"⟩
theorem dX0_sendSuper_0 : decode cX0_sendSuper 0 = .ok (.aload_n 0, 1) := by decide +kernel
theorem dX0_sendSuper_1 : decode cX0_sendSuper 1 = .ok (.iload_n 1, 1) := by decide +kernel
theorem dX0_sendSuper_2 : decode cX0_sendSuper 2 = .ok (.invokevirtual 57, 3) := by decide +kernel
theorem dX0_sendSuper_5 : decode cX0_sendSuper 5 = .ok (.ifCond .eq 12, 3) := by decide +kernel
theorem dX0_sendSuper_8 : decode cX0_sendSuper 8 = .ok (.aload_n 0, 1) := by decide +kernel
theorem dX0_sendSuper_9 : decode cX0_sendSuper 9 = .ok (.getfield 7, 3) := by decide +kernel
theorem dX0_sendSuper_12 : decode cX0_sendSuper 12 = .ok (.iload_n 1, 1) := by decide +kernel
theorem dX0_sendSuper_13 : decode cX0_sendSuper 13 = .ok (.baload, 1) := by decide +kernel
theorem dX0_sendSuper_14 : decode cX0_sendSuper 14 = .ok (.ifCond .ge 5, 3) := by decide +kernel
theorem dX0_sendSuper_17 : decode cX0_sendSuper 17 = .ok (.iconst 0, 1) := by decide +kernel
theorem dX0_sendSuper_18 : decode cX0_sendSuper 18 = .ok (.ireturn, 1) := by decide +kernel
theorem dX0_sendSuper_19 : decode cX0_sendSuper 19 = .ok (.aload_n 0, 1) := by decide +kernel
theorem dX0_sendSuper_20 : decode cX0_sendSuper 20 = .ok (.aload_n 0, 1) := by decide +kernel
theorem dX0_sendSuper_21 : decode cX0_sendSuper 21 = .ok (.getfield 7, 3) := by decide +kernel
theorem dX0_sendSuper_24 : decode cX0_sendSuper 24 = .ok (.iload_n 1, 1) := by decide +kernel
theorem dX0_sendSuper_25 : decode cX0_sendSuper 25 = .ok (.baload, 1) := by decide +kernel
theorem dX0_sendSuper_26 : decode cX0_sendSuper 26 = .ok (.iload_n 2, 1) := by decide +kernel
theorem dX0_sendSuper_27 : decode cX0_sendSuper 27 = .ok (.invokevirtual 128, 3) := by decide +kernel
theorem dX0_sendSuper_30 : decode cX0_sendSuper 30 = .ok (.ireturn, 1) := by decide +kernel
abbrev cX0_owner : ByteArray := prog_1_method_28_code
def yX0_owner : MethodName := ⟨RX0, "owner", "(II)I"⟩
theorem dX0_owner_0 : decode cX0_owner 0 = .ok (.aload_n 0, 1) := by decide +kernel
theorem dX0_owner_1 : decode cX0_owner 1 = .ok (.iload_n 1, 1) := by decide +kernel
theorem dX0_owner_2 : decode cX0_owner 2 = .ok (.iload_n 2, 1) := by decide +kernel
theorem dX0_owner_3 : decode cX0_owner 3 = .ok (.invokevirtual 124, 3) := by decide +kernel
theorem dX0_owner_6 : decode cX0_owner 6 = .ok (.istore_n 3, 1) := by decide +kernel
theorem dX0_owner_7 : decode cX0_owner 7 = .ok (.iload_n 3, 1) := by decide +kernel
theorem dX0_owner_8 : decode cX0_owner 8 = .ok (.ifCond .ge 7, 3) := by decide +kernel
theorem dX0_owner_11 : decode cX0_owner 11 = .ok (.iconst (-1), 1) := by decide +kernel
theorem dX0_owner_12 : decode cX0_owner 12 = .ok (.goto 9, 3) := by decide +kernel
theorem dX0_owner_15 : decode cX0_owner 15 = .ok (.aload_n 0, 1) := by decide +kernel
theorem dX0_owner_16 : decode cX0_owner 16 = .ok (.getfield 41, 3) := by decide +kernel
theorem dX0_owner_19 : decode cX0_owner 19 = .ok (.iload_n 3, 1) := by decide +kernel
theorem dX0_owner_20 : decode cX0_owner 20 = .ok (.baload, 1) := by decide +kernel
theorem dX0_owner_21 : decode cX0_owner 21 = .ok (.ireturn, 1) := by decide +kernel
abbrev cX0_understands : ByteArray := prog_1_method_29_code
def yX0_understands : MethodName := ⟨RX0, "understands", "(I)I"⟩
theorem dX0_understands_0 : decode cX0_understands 0 = .ok (.aload_n 0, 1) := by decide +kernel
theorem dX0_understands_1 : decode cX0_understands 1 = .ok (.iload_n 1, 1) := by decide +kernel
theorem dX0_understands_2 : decode cX0_understands 2 = .ok (.invokevirtual 57, 3) := by decide +kernel
theorem dX0_understands_5 : decode cX0_understands 5 = .ok (.ifCond .ne 5, 3) := by decide +kernel
theorem dX0_understands_8 : decode cX0_understands 8 = .ok (.iconst 0, 1) := by decide +kernel
theorem dX0_understands_9 : decode cX0_understands 9 = .ok (.ireturn, 1) := by decide +kernel
theorem dX0_understands_10 : decode cX0_understands 10 = .ok (.aload_n 0, 1) := by decide +kernel
theorem dX0_understands_11 : decode cX0_understands 11 = .ok (.invokevirtual 121, 3) := by decide +kernel
theorem dX0_understands_14 : decode cX0_understands 14 = .ok (.aload_n 0, 1) := by decide +kernel
theorem dX0_understands_15 : decode cX0_understands 15 = .ok (.getfield 17, 3) := by decide +kernel
theorem dX0_understands_18 : decode cX0_understands 18 = .ok (.iload_n 1, 1) := by decide +kernel
theorem dX0_understands_19 : decode cX0_understands 19 = .ok (.saload, 1) := by decide +kernel
theorem dX0_understands_20 : decode cX0_understands 20 = .ok (.ireturn, 1) := by decide +kernel
abbrev cX0_heirs : ByteArray := prog_1_method_30_code
def yX0_heirs : MethodName := ⟨RX0, "heirs", "(II)I"⟩
theorem dX0_heirs_0 : decode cX0_heirs 0 = .ok (.aload_n 0, 1) := by decide +kernel
theorem dX0_heirs_1 : decode cX0_heirs 1 = .ok (.iload_n 1, 1) := by decide +kernel
theorem dX0_heirs_2 : decode cX0_heirs 2 = .ok (.invokevirtual 57, 3) := by decide +kernel
theorem dX0_heirs_5 : decode cX0_heirs 5 = .ok (.ifCond .eq 24, 3) := by decide +kernel
theorem dX0_heirs_8 : decode cX0_heirs 8 = .ok (.iload_n 2, 1) := by decide +kernel
theorem dX0_heirs_9 : decode cX0_heirs 9 = .ok (.invokestatic 65, 3) := by decide +kernel
theorem dX0_heirs_12 : decode cX0_heirs 12 = .ok (.ifCond .eq 17, 3) := by decide +kernel
theorem dX0_heirs_15 : decode cX0_heirs 15 = .ok (.aload_n 0, 1) := by decide +kernel
theorem dX0_heirs_16 : decode cX0_heirs 16 = .ok (.getfield 13, 3) := by decide +kernel
theorem dX0_heirs_19 : decode cX0_heirs 19 = .ok (.iload_n 1, 1) := by decide +kernel
theorem dX0_heirs_20 : decode cX0_heirs 20 = .ok (.bipush 8, 2) := by decide +kernel
theorem dX0_heirs_22 : decode cX0_heirs 22 = .ok (.imul, 1) := by decide +kernel
theorem dX0_heirs_23 : decode cX0_heirs 23 = .ok (.iload_n 2, 1) := by decide +kernel
theorem dX0_heirs_24 : decode cX0_heirs 24 = .ok (.iadd, 1) := by decide +kernel
theorem dX0_heirs_25 : decode cX0_heirs 25 = .ok (.saload, 1) := by decide +kernel
theorem dX0_heirs_26 : decode cX0_heirs 26 = .ok (.ifCond .ne 5, 3) := by decide +kernel
theorem dX0_heirs_29 : decode cX0_heirs 29 = .ok (.iconst 0, 1) := by decide +kernel
theorem dX0_heirs_30 : decode cX0_heirs 30 = .ok (.ireturn, 1) := by decide +kernel
theorem dX0_heirs_31 : decode cX0_heirs 31 = .ok (.iconst 0, 1) := by decide +kernel
theorem dX0_heirs_32 : decode cX0_heirs 32 = .ok (.istore_n 3, 1) := by decide +kernel
theorem dX0_heirs_33 : decode cX0_heirs 33 = .ok (.iconst 0, 1) := by decide +kernel
theorem dX0_heirs_34 : decode cX0_heirs 34 = .ok (.istore 4, 2) := by decide +kernel
theorem dX0_heirs_36 : decode cX0_heirs 36 = .ok (.iload 4, 2) := by decide +kernel
theorem dX0_heirs_38 : decode cX0_heirs 38 = .ok (.aload_n 0, 1) := by decide +kernel
theorem dX0_heirs_39 : decode cX0_heirs 39 = .ok (.getfield 53, 3) := by decide +kernel
theorem dX0_heirs_42 : decode cX0_heirs 42 = .ok (.if_icmp .ge 41, 3) := by decide +kernel
theorem dX0_heirs_45 : decode cX0_heirs 45 = .ok (.aload_n 0, 1) := by decide +kernel
theorem dX0_heirs_46 : decode cX0_heirs 46 = .ok (.iload 4, 2) := by decide +kernel
theorem dX0_heirs_48 : decode cX0_heirs 48 = .ok (.iload_n 2, 1) := by decide +kernel
theorem dX0_heirs_49 : decode cX0_heirs 49 = .ok (.invokevirtual 124, 3) := by decide +kernel
theorem dX0_heirs_52 : decode cX0_heirs 52 = .ok (.istore 5, 2) := by decide +kernel
theorem dX0_heirs_54 : decode cX0_heirs 54 = .ok (.iload 5, 2) := by decide +kernel
theorem dX0_heirs_56 : decode cX0_heirs 56 = .ok (.ifCond .lt 21, 3) := by decide +kernel
theorem dX0_heirs_59 : decode cX0_heirs 59 = .ok (.aload_n 0, 1) := by decide +kernel
theorem dX0_heirs_60 : decode cX0_heirs 60 = .ok (.getfield 41, 3) := by decide +kernel
theorem dX0_heirs_63 : decode cX0_heirs 63 = .ok (.iload 5, 2) := by decide +kernel
theorem dX0_heirs_65 : decode cX0_heirs 65 = .ok (.baload, 1) := by decide +kernel
theorem dX0_heirs_66 : decode cX0_heirs 66 = .ok (.iload_n 1, 1) := by decide +kernel
theorem dX0_heirs_67 : decode cX0_heirs 67 = .ok (.if_icmp .ne 10, 3) := by decide +kernel
theorem dX0_heirs_70 : decode cX0_heirs 70 = .ok (.iload_n 3, 1) := by decide +kernel
theorem dX0_heirs_71 : decode cX0_heirs 71 = .ok (.iconst 1, 1) := by decide +kernel
theorem dX0_heirs_72 : decode cX0_heirs 72 = .ok (.iload 4, 2) := by decide +kernel
theorem dX0_heirs_74 : decode cX0_heirs 74 = .ok (.ishl, 1) := by decide +kernel
theorem dX0_heirs_75 : decode cX0_heirs 75 = .ok (.ior, 1) := by decide +kernel
theorem dX0_heirs_76 : decode cX0_heirs 76 = .ok (.istore_n 3, 1) := by decide +kernel
theorem dX0_heirs_77 : decode cX0_heirs 77 = .ok (.iinc 4 1, 3) := by decide +kernel
theorem dX0_heirs_80 : decode cX0_heirs 80 = .ok (.goto (-44), 3) := by decide +kernel
theorem dX0_heirs_83 : decode cX0_heirs 83 = .ok (.iload_n 3, 1) := by decide +kernel
theorem dX0_heirs_84 : decode cX0_heirs 84 = .ok (.ireturn, 1) := by decide +kernel
abbrev cX0_apart : ByteArray := prog_1_method_31_code
def yX0_apart : MethodName := ⟨RX0, "apart", "(I)I"⟩
theorem dX0_apart_0 : decode cX0_apart 0 = .ok (.iload_n 1, 1) := by decide +kernel
theorem dX0_apart_1 : decode cX0_apart 1 = .ok (.invokestatic 65, 3) := by decide +kernel
theorem dX0_apart_4 : decode cX0_apart 4 = .ok (.ifCond .ne 5, 3) := by decide +kernel
theorem dX0_apart_7 : decode cX0_apart 7 = .ok (.iconst 0, 1) := by decide +kernel
theorem dX0_apart_8 : decode cX0_apart 8 = .ok (.ireturn, 1) := by decide +kernel
theorem dX0_apart_9 : decode cX0_apart 9 = .ok (.aload_n 0, 1) := by decide +kernel
theorem dX0_apart_10 : decode cX0_apart 10 = .ok (.invokevirtual 121, 3) := by decide +kernel
theorem dX0_apart_13 : decode cX0_apart 13 = .ok (.sipush 255, 3) := by decide +kernel
theorem dX0_apart_16 : decode cX0_apart 16 = .ok (.aload_n 0, 1) := by decide +kernel
theorem dX0_apart_17 : decode cX0_apart 17 = .ok (.getfield 20, 3) := by decide +kernel
theorem dX0_apart_20 : decode cX0_apart 20 = .ok (.iload_n 1, 1) := by decide +kernel
theorem dX0_apart_21 : decode cX0_apart 21 = .ok (.saload, 1) := by decide +kernel
theorem dX0_apart_22 : decode cX0_apart 22 = .ok (.iconst (-1), 1) := by decide +kernel
theorem dX0_apart_23 : decode cX0_apart 23 = .ok (.ixor, 1) := by decide +kernel
theorem dX0_apart_24 : decode cX0_apart 24 = .ok (.iand, 1) := by decide +kernel
theorem dX0_apart_25 : decode cX0_apart 25 = .ok (.iconst 1, 1) := by decide +kernel
theorem dX0_apart_26 : decode cX0_apart 26 = .ok (.iload_n 1, 1) := by decide +kernel
theorem dX0_apart_27 : decode cX0_apart 27 = .ok (.ishl, 1) := by decide +kernel
theorem dX0_apart_28 : decode cX0_apart 28 = .ok (.iconst (-1), 1) := by decide +kernel
theorem dX0_apart_29 : decode cX0_apart 29 = .ok (.ixor, 1) := by decide +kernel
theorem dX0_apart_30 : decode cX0_apart 30 = .ok (.iand, 1) := by decide +kernel
theorem dX0_apart_31 : decode cX0_apart 31 = .ok (.ireturn, 1) := by decide +kernel
abbrev cX0_crowd : ByteArray := prog_1_method_32_code
def yX0_crowd : MethodName := ⟨RX0, "crowd", "()I"⟩
theorem dX0_crowd_0 : decode cX0_crowd 0 = .ok (.aload_n 0, 1) := by decide +kernel
theorem dX0_crowd_1 : decode cX0_crowd 1 = .ok (.invokevirtual 121, 3) := by decide +kernel
theorem dX0_crowd_4 : decode cX0_crowd 4 = .ok (.iconst 0, 1) := by decide +kernel
theorem dX0_crowd_5 : decode cX0_crowd 5 = .ok (.istore_n 1, 1) := by decide +kernel
theorem dX0_crowd_6 : decode cX0_crowd 6 = .ok (.iconst 1, 1) := by decide +kernel
theorem dX0_crowd_7 : decode cX0_crowd 7 = .ok (.istore_n 2, 1) := by decide +kernel
theorem dX0_crowd_8 : decode cX0_crowd 8 = .ok (.iload_n 2, 1) := by decide +kernel
theorem dX0_crowd_9 : decode cX0_crowd 9 = .ok (.sipush 256, 3) := by decide +kernel
theorem dX0_crowd_12 : decode cX0_crowd 12 = .ok (.if_icmp .ge 29, 3) := by decide +kernel
theorem dX0_crowd_15 : decode cX0_crowd 15 = .ok (.iload_n 2, 1) := by decide +kernel
theorem dX0_crowd_16 : decode cX0_crowd 16 = .ok (.invokestatic 112, 3) := by decide +kernel
theorem dX0_crowd_19 : decode cX0_crowd 19 = .ok (.istore_n 3, 1) := by decide +kernel
theorem dX0_crowd_20 : decode cX0_crowd 20 = .ok (.iload_n 3, 1) := by decide +kernel
theorem dX0_crowd_21 : decode cX0_crowd 21 = .ok (.iload_n 1, 1) := by decide +kernel
theorem dX0_crowd_22 : decode cX0_crowd 22 = .ok (.if_icmp .le 13, 3) := by decide +kernel
theorem dX0_crowd_25 : decode cX0_crowd 25 = .ok (.aload_n 0, 1) := by decide +kernel
theorem dX0_crowd_26 : decode cX0_crowd 26 = .ok (.iload_n 2, 1) := by decide +kernel
theorem dX0_crowd_27 : decode cX0_crowd 27 = .ok (.invokevirtual 131, 3) := by decide +kernel
theorem dX0_crowd_30 : decode cX0_crowd 30 = .ok (.ifCond .eq 5, 3) := by decide +kernel
theorem dX0_crowd_33 : decode cX0_crowd 33 = .ok (.iload_n 3, 1) := by decide +kernel
theorem dX0_crowd_34 : decode cX0_crowd 34 = .ok (.istore_n 1, 1) := by decide +kernel
theorem dX0_crowd_35 : decode cX0_crowd 35 = .ok (.iinc 2 1, 3) := by decide +kernel
theorem dX0_crowd_38 : decode cX0_crowd 38 = .ok (.goto (-30), 3) := by decide +kernel
theorem dX0_crowd_41 : decode cX0_crowd 41 = .ok (.iload_n 1, 1) := by decide +kernel
theorem dX0_crowd_42 : decode cX0_crowd 42 = .ok (.ireturn, 1) := by decide +kernel
abbrev cX0_crowded : ByteArray := prog_1_method_33_code
def yX0_crowded : MethodName := ⟨RX0, "crowded", "(I)Z"⟩
theorem dX0_crowded_0 : decode cX0_crowded 0 = .ok (.iconst 0, 1) := by decide +kernel
theorem dX0_crowded_1 : decode cX0_crowded 1 = .ok (.istore_n 2, 1) := by decide +kernel
theorem dX0_crowded_2 : decode cX0_crowded 2 = .ok (.iload_n 2, 1) := by decide +kernel
theorem dX0_crowded_3 : decode cX0_crowded 3 = .ok (.bipush 8, 2) := by decide +kernel
theorem dX0_crowded_5 : decode cX0_crowded 5 = .ok (.if_icmp .ge 32, 3) := by decide +kernel
theorem dX0_crowded_8 : decode cX0_crowded 8 = .ok (.iload_n 1, 1) := by decide +kernel
theorem dX0_crowded_9 : decode cX0_crowded 9 = .ok (.iload_n 2, 1) := by decide +kernel
theorem dX0_crowded_10 : decode cX0_crowded 10 = .ok (.ishr, 1) := by decide +kernel
theorem dX0_crowded_11 : decode cX0_crowded 11 = .ok (.iconst 1, 1) := by decide +kernel
theorem dX0_crowded_12 : decode cX0_crowded 12 = .ok (.iand, 1) := by decide +kernel
theorem dX0_crowded_13 : decode cX0_crowded 13 = .ok (.ifCond .eq 18, 3) := by decide +kernel
theorem dX0_crowded_16 : decode cX0_crowded 16 = .ok (.iload_n 1, 1) := by decide +kernel
theorem dX0_crowded_17 : decode cX0_crowded 17 = .ok (.aload_n 0, 1) := by decide +kernel
theorem dX0_crowded_18 : decode cX0_crowded 18 = .ok (.getfield 20, 3) := by decide +kernel
theorem dX0_crowded_21 : decode cX0_crowded 21 = .ok (.iload_n 2, 1) := by decide +kernel
theorem dX0_crowded_22 : decode cX0_crowded 22 = .ok (.saload, 1) := by decide +kernel
theorem dX0_crowded_23 : decode cX0_crowded 23 = .ok (.iconst (-1), 1) := by decide +kernel
theorem dX0_crowded_24 : decode cX0_crowded 24 = .ok (.ixor, 1) := by decide +kernel
theorem dX0_crowded_25 : decode cX0_crowded 25 = .ok (.iand, 1) := by decide +kernel
theorem dX0_crowded_26 : decode cX0_crowded 26 = .ok (.ifCond .eq 5, 3) := by decide +kernel
theorem dX0_crowded_29 : decode cX0_crowded 29 = .ok (.iconst 0, 1) := by decide +kernel
theorem dX0_crowded_30 : decode cX0_crowded 30 = .ok (.ireturn, 1) := by decide +kernel
theorem dX0_crowded_31 : decode cX0_crowded 31 = .ok (.iinc 2 1, 3) := by decide +kernel
theorem dX0_crowded_34 : decode cX0_crowded 34 = .ok (.goto (-32), 3) := by decide +kernel
theorem dX0_crowded_37 : decode cX0_crowded 37 = .ok (.iconst 1, 1) := by decide +kernel
theorem dX0_crowded_38 : decode cX0_crowded 38 = .ok (.ireturn, 1) := by decide +kernel
abbrev cX0_colours : ByteArray := prog_1_method_34_code
def yX0_colours : MethodName := ⟨RX0, "colours", "()I"⟩
theorem dX0_colours_0 : decode cX0_colours 0 = .ok (.aload_n 0, 1) := by decide +kernel
theorem dX0_colours_1 : decode cX0_colours 1 = .ok (.invokevirtual 121, 3) := by decide +kernel
theorem dX0_colours_4 : decode cX0_colours 4 = .ok (.aload_n 0, 1) := by decide +kernel
theorem dX0_colours_5 : decode cX0_colours 5 = .ok (.getfield 98, 3) := by decide +kernel
theorem dX0_colours_8 : decode cX0_colours 8 = .ok (.ireturn, 1) := by decide +kernel
end
section
set_option maxRecDepth 100000
theorem q24 : (Jvm.Cond.initialized "SendTable") ∈ lw_all := lw_g (lw_at lw_m1 1 rfl) rfl
theorem q27 : (Jvm.Cond.instantiable "SendTable" (18 : Nat)) ∈ lw_all := lw_g (lw_at lw_m1 4 rfl) rfl
theorem q29 : (Jvm.Cond.instanceMethod ({ cls := "SendTable", name := "<init>", desc := "()V" } : Jvm.MethodName)) ∈ lw_all := lw_g (lw_at lw_m1 6 rfl) rfl
theorem q30 : (Jvm.Cond.code ({ cls := "SendTable", name := "<init>", desc := "()V" } : Jvm.MethodName) prog_1_method_1_code (1 : Nat) (Option.none : Option Jvm.ClassFile.FieldType)) ∈ lw_all := lw_g (lw_at lw_m1 7 rfl) rfl
theorem q31 : (Jvm.Cond.methodLink "SendTable" (1 : Nat) ({ cls := "java/lang/Object", name := "<init>", desc := "()V" } : Jvm.MethodName)) ∈ lw_all := lw_g (lw_at lw_m1 8 rfl) rfl
theorem q34 : (Jvm.Cond.fieldLink "SendTable" (53 : Nat) "SendTable" "count" "I") ∈ lw_all := lw_g (lw_at lw_m1 11 rfl) rfl
theorem q35 : (Jvm.Cond.fieldLink "SendTable" (7 : Nat) "SendTable" "above" "[B") ∈ lw_all := lw_g (lw_at lw_m1 12 rfl) rfl
theorem q36 : (Jvm.Cond.fieldLink "SendTable" (13 : Nat) "SendTable" "defined" "[S") ∈ lw_all := lw_g (lw_at lw_m1 13 rfl) rfl
theorem q37 : (Jvm.Cond.fieldLink "SendTable" (61 : Nat) "SendTable" "built" "Z") ∈ lw_all := lw_g (lw_at lw_m1 14 rfl) rfl
theorem q38 : (Jvm.Cond.fieldLink "SendTable" (17 : Nat) "SendTable" "known" "[S") ∈ lw_all := lw_g (lw_at lw_m1 15 rfl) rfl
theorem q39 : (Jvm.Cond.fieldLink "SendTable" (20 : Nat) "SendTable" "meets" "[S") ∈ lw_all := lw_g (lw_at lw_m1 16 rfl) rfl
theorem q40 : (Jvm.Cond.fieldLink "SendTable" (23 : Nat) "SendTable" "colour" "[B") ∈ lw_all := lw_g (lw_at lw_m1 17 rfl) rfl
theorem q41 : (Jvm.Cond.fieldLink "SendTable" (26 : Nat) "SendTable" "best" "[B") ∈ lw_all := lw_g (lw_at lw_m1 18 rfl) rfl
theorem q42 : (Jvm.Cond.fieldLink "SendTable" (29 : Nat) "SendTable" "line" "[B") ∈ lw_all := lw_g (lw_at lw_m1 19 rfl) rfl
theorem q43 : (Jvm.Cond.fieldLink "SendTable" (95 : Nat) "SendTable" "lineLength" "I") ∈ lw_all := lw_g (lw_at lw_m1 20 rfl) rfl
theorem q44 : (Jvm.Cond.fieldLink "SendTable" (98 : Nat) "SendTable" "colourCount" "I") ∈ lw_all := lw_g (lw_at lw_m1 21 rfl) rfl
theorem q45 : (Jvm.Cond.fieldLink "SendTable" (32 : Nat) "SendTable" "shift" "[B") ∈ lw_all := lw_g (lw_at lw_m1 22 rfl) rfl
theorem q46 : (Jvm.Cond.fieldLink "SendTable" (35 : Nat) "SendTable" "entryClass" "[B") ∈ lw_all := lw_g (lw_at lw_m1 23 rfl) rfl
theorem q47 : (Jvm.Cond.fieldLink "SendTable" (38 : Nat) "SendTable" "entrySelector" "[B") ∈ lw_all := lw_g (lw_at lw_m1 24 rfl) rfl
theorem q48 : (Jvm.Cond.fieldLink "SendTable" (41 : Nat) "SendTable" "entryOwner" "[B") ∈ lw_all := lw_g (lw_at lw_m1 25 rfl) rfl
theorem q49 : (Jvm.Cond.fieldLink "SendTable" (44 : Nat) "SendTable" "entryMethod" "[S") ∈ lw_all := lw_g (lw_at lw_m1 26 rfl) rfl
theorem q50 : (Jvm.Cond.fieldLink "SendTable" (47 : Nat) "SendTable" "rowOwner" "[B") ∈ lw_all := lw_g (lw_at lw_m1 27 rfl) rfl
theorem q51 : (Jvm.Cond.fieldLink "SendTable" (50 : Nat) "SendTable" "down" "[B") ∈ lw_all := lw_g (lw_at lw_m1 28 rfl) rfl
theorem q52 : (Jvm.Cond.lays "SendTable" "SendTable" "count" "I") ∈ lw_all := lw_g (lw_at lw_m1 29 rfl) rfl
theorem q53 : (Jvm.Cond.soleField "SendTable" "count") ∈ lw_all := lw_g (lw_at lw_m1 30 rfl) rfl
theorem q54 : (Jvm.Cond.laysFinal "SendTable" "SendTable" "above" "[B") ∈ lw_all := lw_g (lw_at lw_m1 31 rfl) rfl
theorem q55 : (Jvm.Cond.soleField "SendTable" "above") ∈ lw_all := lw_g (lw_at lw_m1 32 rfl) rfl
theorem q56 : (Jvm.Cond.laysFinal "SendTable" "SendTable" "defined" "[S") ∈ lw_all := lw_g (lw_at lw_m1 33 rfl) rfl
theorem q57 : (Jvm.Cond.soleField "SendTable" "defined") ∈ lw_all := lw_g (lw_at lw_m1 34 rfl) rfl
theorem q58 : (Jvm.Cond.lays "SendTable" "SendTable" "built" "Z") ∈ lw_all := lw_g (lw_at lw_m1 35 rfl) rfl
theorem q59 : (Jvm.Cond.soleField "SendTable" "built") ∈ lw_all := lw_g (lw_at lw_m1 36 rfl) rfl
theorem q60 : (Jvm.Cond.laysFinal "SendTable" "SendTable" "known" "[S") ∈ lw_all := lw_g (lw_at lw_m1 37 rfl) rfl
theorem q61 : (Jvm.Cond.soleField "SendTable" "known") ∈ lw_all := lw_g (lw_at lw_m1 38 rfl) rfl
theorem q62 : (Jvm.Cond.laysFinal "SendTable" "SendTable" "meets" "[S") ∈ lw_all := lw_g (lw_at lw_m1 39 rfl) rfl
theorem q63 : (Jvm.Cond.soleField "SendTable" "meets") ∈ lw_all := lw_g (lw_at lw_m1 40 rfl) rfl
theorem q64 : (Jvm.Cond.laysFinal "SendTable" "SendTable" "colour" "[B") ∈ lw_all := lw_g (lw_at lw_m1 41 rfl) rfl
theorem q65 : (Jvm.Cond.soleField "SendTable" "colour") ∈ lw_all := lw_g (lw_at lw_m1 42 rfl) rfl
theorem q66 : (Jvm.Cond.laysFinal "SendTable" "SendTable" "best" "[B") ∈ lw_all := lw_g (lw_at lw_m1 43 rfl) rfl
theorem q67 : (Jvm.Cond.soleField "SendTable" "best") ∈ lw_all := lw_g (lw_at lw_m1 44 rfl) rfl
theorem q68 : (Jvm.Cond.laysFinal "SendTable" "SendTable" "line" "[B") ∈ lw_all := lw_g (lw_at lw_m1 45 rfl) rfl
theorem q69 : (Jvm.Cond.soleField "SendTable" "line") ∈ lw_all := lw_g (lw_at lw_m1 46 rfl) rfl
theorem q70 : (Jvm.Cond.lays "SendTable" "SendTable" "lineLength" "I") ∈ lw_all := lw_g (lw_at lw_m1 47 rfl) rfl
theorem q71 : (Jvm.Cond.soleField "SendTable" "lineLength") ∈ lw_all := lw_g (lw_at lw_m1 48 rfl) rfl
theorem q72 : (Jvm.Cond.lays "SendTable" "SendTable" "colourCount" "I") ∈ lw_all := lw_g (lw_at lw_m1 49 rfl) rfl
theorem q73 : (Jvm.Cond.soleField "SendTable" "colourCount") ∈ lw_all := lw_g (lw_at lw_m1 50 rfl) rfl
theorem q74 : (Jvm.Cond.laysFinal "SendTable" "SendTable" "shift" "[B") ∈ lw_all := lw_g (lw_at lw_m1 51 rfl) rfl
theorem q75 : (Jvm.Cond.soleField "SendTable" "shift") ∈ lw_all := lw_g (lw_at lw_m1 52 rfl) rfl
theorem q76 : (Jvm.Cond.laysFinal "SendTable" "SendTable" "entryClass" "[B") ∈ lw_all := lw_g (lw_at lw_m1 53 rfl) rfl
theorem q77 : (Jvm.Cond.soleField "SendTable" "entryClass") ∈ lw_all := lw_g (lw_at lw_m1 54 rfl) rfl
theorem q78 : (Jvm.Cond.laysFinal "SendTable" "SendTable" "entrySelector" "[B") ∈ lw_all := lw_g (lw_at lw_m1 55 rfl) rfl
theorem q79 : (Jvm.Cond.soleField "SendTable" "entrySelector") ∈ lw_all := lw_g (lw_at lw_m1 56 rfl) rfl
theorem q80 : (Jvm.Cond.laysFinal "SendTable" "SendTable" "entryOwner" "[B") ∈ lw_all := lw_g (lw_at lw_m1 57 rfl) rfl
theorem q81 : (Jvm.Cond.soleField "SendTable" "entryOwner") ∈ lw_all := lw_g (lw_at lw_m1 58 rfl) rfl
theorem q82 : (Jvm.Cond.laysFinal "SendTable" "SendTable" "entryMethod" "[S") ∈ lw_all := lw_g (lw_at lw_m1 59 rfl) rfl
theorem q83 : (Jvm.Cond.soleField "SendTable" "entryMethod") ∈ lw_all := lw_g (lw_at lw_m1 60 rfl) rfl
theorem q84 : (Jvm.Cond.laysFinal "SendTable" "SendTable" "rowOwner" "[B") ∈ lw_all := lw_g (lw_at lw_m1 61 rfl) rfl
theorem q85 : (Jvm.Cond.soleField "SendTable" "rowOwner") ∈ lw_all := lw_g (lw_at lw_m1 62 rfl) rfl
theorem q86 : (Jvm.Cond.laysFinal "SendTable" "SendTable" "down" "[B") ∈ lw_all := lw_g (lw_at lw_m1 63 rfl) rfl
theorem q87 : (Jvm.Cond.soleField "SendTable" "down") ∈ lw_all := lw_g (lw_at lw_m1 64 rfl) rfl
theorem q88 : (Jvm.Cond.superclass "SendTable" "java/lang/Object") ∈ lw_all := lw_g (lw_at lw_m1 65 rfl) rfl
theorem q92 : (Jvm.Cond.instanceMethod ({ cls := "SendTable", name := "addClass", desc := "(I)I" } : Jvm.MethodName)) ∈ lw_all := lw_g (lw_at lw_m1 69 rfl) rfl
theorem q93 : (Jvm.Cond.selects "SendTable" ({ cls := "SendTable", name := "addClass", desc := "(I)I" } : Jvm.MethodName) ({ cls := "SendTable", name := "addClass", desc := "(I)I" } : Jvm.MethodName)) ∈ lw_all := lw_g (lw_at lw_m1 70 rfl) rfl
theorem q94 : (Jvm.Cond.code ({ cls := "SendTable", name := "addClass", desc := "(I)I" } : Jvm.MethodName) prog_1_method_4_code (3 : Nat) (Option.some Jvm.ClassFile.FieldType.int)) ∈ lw_all := lw_g (lw_at lw_m1 71 rfl) rfl
theorem q95 : (Jvm.Cond.methodLink "SendTable" (57 : Nat) ({ cls := "SendTable", name := "isClass", desc := "(I)Z" } : Jvm.MethodName)) ∈ lw_all := lw_g (lw_at lw_m1 72 rfl) rfl
theorem q96 : (Jvm.Cond.privateMethod ({ cls := "SendTable", name := "isClass", desc := "(I)Z" } : Jvm.MethodName)) ∈ lw_tbl := lw_at lw_m1 73 rfl
theorem q97 : (Jvm.Cond.instanceMethod ({ cls := "SendTable", name := "isClass", desc := "(I)Z" } : Jvm.MethodName)) ∈ lw_all := lw_g (lw_at lw_m1 74 rfl) rfl
theorem q98 : (Jvm.Cond.code ({ cls := "SendTable", name := "isClass", desc := "(I)Z" } : Jvm.MethodName) prog_1_method_2_code (2 : Nat) (Option.some Jvm.ClassFile.FieldType.boolean)) ∈ lw_all := lw_g (lw_at lw_m1 75 rfl) rfl
theorem q100 : (Jvm.Cond.instanceMethod ({ cls := "SendTable", name := "define", desc := "(III)Z" } : Jvm.MethodName)) ∈ lw_all := lw_g (lw_at lw_m1 77 rfl) rfl
theorem q101 : (Jvm.Cond.selects "SendTable" ({ cls := "SendTable", name := "define", desc := "(III)Z" } : Jvm.MethodName) ({ cls := "SendTable", name := "define", desc := "(III)Z" } : Jvm.MethodName)) ∈ lw_all := lw_g (lw_at lw_m1 78 rfl) rfl
theorem q102 : (Jvm.Cond.code ({ cls := "SendTable", name := "define", desc := "(III)Z" } : Jvm.MethodName) prog_1_method_5_code (4 : Nat) (Option.some Jvm.ClassFile.FieldType.boolean)) ∈ lw_all := lw_g (lw_at lw_m1 79 rfl) rfl
theorem q103 : (Jvm.Cond.methodLink "SendTable" (65 : Nat) ({ cls := "SendTable", name := "isSelector", desc := "(I)Z" } : Jvm.MethodName)) ∈ lw_all := lw_g (lw_at lw_m1 80 rfl) rfl
theorem q104 : (Jvm.Cond.static ({ cls := "SendTable", name := "isSelector", desc := "(I)Z" } : Jvm.MethodName)) ∈ lw_all := lw_g (lw_at lw_m1 81 rfl) rfl
theorem q105 : (Jvm.Cond.code ({ cls := "SendTable", name := "isSelector", desc := "(I)Z" } : Jvm.MethodName) prog_1_method_3_code (1 : Nat) (Option.some Jvm.ClassFile.FieldType.boolean)) ∈ lw_all := lw_g (lw_at lw_m1 82 rfl) rfl
theorem q107 : (Jvm.Cond.instanceMethod ({ cls := "SendTable", name := "drop", desc := "(II)Z" } : Jvm.MethodName)) ∈ lw_all := lw_g (lw_at lw_m1 84 rfl) rfl
theorem q108 : (Jvm.Cond.selects "SendTable" ({ cls := "SendTable", name := "drop", desc := "(II)Z" } : Jvm.MethodName) ({ cls := "SendTable", name := "drop", desc := "(II)Z" } : Jvm.MethodName)) ∈ lw_all := lw_g (lw_at lw_m1 85 rfl) rfl
theorem q109 : (Jvm.Cond.code ({ cls := "SendTable", name := "drop", desc := "(II)Z" } : Jvm.MethodName) prog_1_method_6_code (3 : Nat) (Option.some Jvm.ClassFile.FieldType.boolean)) ∈ lw_all := lw_g (lw_at lw_m1 86 rfl) rfl
theorem q111 : (Jvm.Cond.instanceMethod ({ cls := "SendTable", name := "move", desc := "(II)Z" } : Jvm.MethodName)) ∈ lw_all := lw_g (lw_at lw_m1 88 rfl) rfl
theorem q112 : (Jvm.Cond.selects "SendTable" ({ cls := "SendTable", name := "move", desc := "(II)Z" } : Jvm.MethodName) ({ cls := "SendTable", name := "move", desc := "(II)Z" } : Jvm.MethodName)) ∈ lw_all := lw_g (lw_at lw_m1 89 rfl) rfl
theorem q113 : (Jvm.Cond.code ({ cls := "SendTable", name := "move", desc := "(II)Z" } : Jvm.MethodName) prog_1_method_7_code (3 : Nat) (Option.some Jvm.ClassFile.FieldType.boolean)) ∈ lw_all := lw_g (lw_at lw_m1 90 rfl) rfl
theorem q114 : (Jvm.Cond.methodLink "SendTable" (68 : Nat) ({ cls := "SendTable", name := "under", desc := "(II)Z" } : Jvm.MethodName)) ∈ lw_all := lw_g (lw_at lw_m1 91 rfl) rfl
theorem q115 : (Jvm.Cond.privateMethod ({ cls := "SendTable", name := "under", desc := "(II)Z" } : Jvm.MethodName)) ∈ lw_tbl := lw_at lw_m1 92 rfl
theorem q116 : (Jvm.Cond.instanceMethod ({ cls := "SendTable", name := "under", desc := "(II)Z" } : Jvm.MethodName)) ∈ lw_all := lw_g (lw_at lw_m1 93 rfl) rfl
theorem q117 : (Jvm.Cond.code ({ cls := "SendTable", name := "under", desc := "(II)Z" } : Jvm.MethodName) prog_1_method_8_code (5 : Nat) (Option.some Jvm.ClassFile.FieldType.boolean)) ∈ lw_all := lw_g (lw_at lw_m1 94 rfl) rfl
theorem q119 : (Jvm.Cond.instanceMethod ({ cls := "SendTable", name := "classes", desc := "()I" } : Jvm.MethodName)) ∈ lw_all := lw_g (lw_at lw_m1 96 rfl) rfl
theorem q120 : (Jvm.Cond.selects "SendTable" ({ cls := "SendTable", name := "classes", desc := "()I" } : Jvm.MethodName) ({ cls := "SendTable", name := "classes", desc := "()I" } : Jvm.MethodName)) ∈ lw_all := lw_g (lw_at lw_m1 97 rfl) rfl
theorem q121 : (Jvm.Cond.code ({ cls := "SendTable", name := "classes", desc := "()I" } : Jvm.MethodName) prog_1_method_9_code (1 : Nat) (Option.some Jvm.ClassFile.FieldType.int)) ∈ lw_all := lw_g (lw_at lw_m1 98 rfl) rfl
theorem q123 : (Jvm.Cond.instanceMethod ({ cls := "SendTable", name := "parent", desc := "(I)I" } : Jvm.MethodName)) ∈ lw_all := lw_g (lw_at lw_m1 100 rfl) rfl
theorem q124 : (Jvm.Cond.selects "SendTable" ({ cls := "SendTable", name := "parent", desc := "(I)I" } : Jvm.MethodName) ({ cls := "SendTable", name := "parent", desc := "(I)I" } : Jvm.MethodName)) ∈ lw_all := lw_g (lw_at lw_m1 101 rfl) rfl
theorem q125 : (Jvm.Cond.code ({ cls := "SendTable", name := "parent", desc := "(I)I" } : Jvm.MethodName) prog_1_method_10_code (2 : Nat) (Option.some Jvm.ClassFile.FieldType.int)) ∈ lw_all := lw_g (lw_at lw_m1 102 rfl) rfl
theorem q127 : (Jvm.Cond.instanceMethod ({ cls := "SendTable", name := "send", desc := "(II)I" } : Jvm.MethodName)) ∈ lw_all := lw_g (lw_at lw_m1 104 rfl) rfl
theorem q128 : (Jvm.Cond.selects "SendTable" ({ cls := "SendTable", name := "send", desc := "(II)I" } : Jvm.MethodName) ({ cls := "SendTable", name := "send", desc := "(II)I" } : Jvm.MethodName)) ∈ lw_all := lw_g (lw_at lw_m1 105 rfl) rfl
theorem q129 : (Jvm.Cond.code ({ cls := "SendTable", name := "send", desc := "(II)I" } : Jvm.MethodName) prog_1_method_26_code (4 : Nat) (Option.some Jvm.ClassFile.FieldType.int)) ∈ lw_all := lw_g (lw_at lw_m1 106 rfl) rfl
theorem q130 : (Jvm.Cond.methodLink "SendTable" (124 : Nat) ({ cls := "SendTable", name := "entry", desc := "(II)I" } : Jvm.MethodName)) ∈ lw_all := lw_g (lw_at lw_m1 107 rfl) rfl
theorem q131 : (Jvm.Cond.privateMethod ({ cls := "SendTable", name := "entry", desc := "(II)I" } : Jvm.MethodName)) ∈ lw_tbl := lw_at lw_m1 108 rfl
theorem q132 : (Jvm.Cond.instanceMethod ({ cls := "SendTable", name := "entry", desc := "(II)I" } : Jvm.MethodName)) ∈ lw_all := lw_g (lw_at lw_m1 109 rfl) rfl
theorem q133 : (Jvm.Cond.code ({ cls := "SendTable", name := "entry", desc := "(II)I" } : Jvm.MethodName) prog_1_method_25_code (4 : Nat) (Option.some Jvm.ClassFile.FieldType.int)) ∈ lw_all := lw_g (lw_at lw_m1 110 rfl) rfl
theorem q134 : (Jvm.Cond.methodLink "SendTable" (121 : Nat) ({ cls := "SendTable", name := "build", desc := "()V" } : Jvm.MethodName)) ∈ lw_all := lw_g (lw_at lw_m1 111 rfl) rfl
theorem q135 : (Jvm.Cond.privateMethod ({ cls := "SendTable", name := "build", desc := "()V" } : Jvm.MethodName)) ∈ lw_tbl := lw_at lw_m1 112 rfl
theorem q136 : (Jvm.Cond.instanceMethod ({ cls := "SendTable", name := "build", desc := "()V" } : Jvm.MethodName)) ∈ lw_all := lw_g (lw_at lw_m1 113 rfl) rfl
theorem q137 : (Jvm.Cond.code ({ cls := "SendTable", name := "build", desc := "()V" } : Jvm.MethodName) prog_1_method_11_code (2 : Nat) (Option.none : Option Jvm.ClassFile.FieldType)) ∈ lw_all := lw_g (lw_at lw_m1 114 rfl) rfl
theorem q138 : (Jvm.Cond.methodLink "SendTable" (72 : Nat) ({ cls := "SendTable", name := "sortDown", desc := "()V" } : Jvm.MethodName)) ∈ lw_all := lw_g (lw_at lw_m1 115 rfl) rfl
theorem q139 : (Jvm.Cond.privateMethod ({ cls := "SendTable", name := "sortDown", desc := "()V" } : Jvm.MethodName)) ∈ lw_tbl := lw_at lw_m1 116 rfl
theorem q140 : (Jvm.Cond.instanceMethod ({ cls := "SendTable", name := "sortDown", desc := "()V" } : Jvm.MethodName)) ∈ lw_all := lw_g (lw_at lw_m1 117 rfl) rfl
theorem q141 : (Jvm.Cond.code ({ cls := "SendTable", name := "sortDown", desc := "()V" } : Jvm.MethodName) prog_1_method_12_code (7 : Nat) (Option.none : Option Jvm.ClassFile.FieldType)) ∈ lw_all := lw_g (lw_at lw_m1 118 rfl) rfl
theorem q142 : (Jvm.Cond.methodLink "SendTable" (75 : Nat) ({ cls := "SendTable", name := "learn", desc := "()V" } : Jvm.MethodName)) ∈ lw_all := lw_g (lw_at lw_m1 119 rfl) rfl
theorem q143 : (Jvm.Cond.privateMethod ({ cls := "SendTable", name := "learn", desc := "()V" } : Jvm.MethodName)) ∈ lw_tbl := lw_at lw_m1 120 rfl
theorem q144 : (Jvm.Cond.instanceMethod ({ cls := "SendTable", name := "learn", desc := "()V" } : Jvm.MethodName)) ∈ lw_all := lw_g (lw_at lw_m1 121 rfl) rfl
theorem q145 : (Jvm.Cond.code ({ cls := "SendTable", name := "learn", desc := "()V" } : Jvm.MethodName) prog_1_method_14_code (4 : Nat) (Option.none : Option Jvm.ClassFile.FieldType)) ∈ lw_all := lw_g (lw_at lw_m1 122 rfl) rfl
theorem q146 : (Jvm.Cond.methodLink "SendTable" (88 : Nat) ({ cls := "SendTable", name := "own", desc := "(I)I" } : Jvm.MethodName)) ∈ lw_all := lw_g (lw_at lw_m1 123 rfl) rfl
theorem q147 : (Jvm.Cond.privateMethod ({ cls := "SendTable", name := "own", desc := "(I)I" } : Jvm.MethodName)) ∈ lw_tbl := lw_at lw_m1 124 rfl
theorem q148 : (Jvm.Cond.instanceMethod ({ cls := "SendTable", name := "own", desc := "(I)I" } : Jvm.MethodName)) ∈ lw_all := lw_g (lw_at lw_m1 125 rfl) rfl
theorem q149 : (Jvm.Cond.code ({ cls := "SendTable", name := "own", desc := "(I)I" } : Jvm.MethodName) prog_1_method_13_code (4 : Nat) (Option.some Jvm.ClassFile.FieldType.int)) ∈ lw_all := lw_g (lw_at lw_m1 126 rfl) rfl
theorem q150 : (Jvm.Cond.methodLink "SendTable" (78 : Nat) ({ cls := "SendTable", name := "meet", desc := "()V" } : Jvm.MethodName)) ∈ lw_all := lw_g (lw_at lw_m1 127 rfl) rfl
theorem q151 : (Jvm.Cond.privateMethod ({ cls := "SendTable", name := "meet", desc := "()V" } : Jvm.MethodName)) ∈ lw_tbl := lw_at lw_m1 128 rfl
theorem q152 : (Jvm.Cond.instanceMethod ({ cls := "SendTable", name := "meet", desc := "()V" } : Jvm.MethodName)) ∈ lw_all := lw_g (lw_at lw_m1 129 rfl) rfl
theorem q153 : (Jvm.Cond.code ({ cls := "SendTable", name := "meet", desc := "()V" } : Jvm.MethodName) prog_1_method_15_code (4 : Nat) (Option.none : Option Jvm.ClassFile.FieldType)) ∈ lw_all := lw_g (lw_at lw_m1 130 rfl) rfl
theorem q154 : (Jvm.Cond.methodLink "SendTable" (81 : Nat) ({ cls := "SendTable", name := "paint", desc := "()V" } : Jvm.MethodName)) ∈ lw_all := lw_g (lw_at lw_m1 131 rfl) rfl
theorem q155 : (Jvm.Cond.privateMethod ({ cls := "SendTable", name := "paint", desc := "()V" } : Jvm.MethodName)) ∈ lw_tbl := lw_at lw_m1 132 rfl
theorem q156 : (Jvm.Cond.instanceMethod ({ cls := "SendTable", name := "paint", desc := "()V" } : Jvm.MethodName)) ∈ lw_all := lw_g (lw_at lw_m1 133 rfl) rfl
theorem q157 : (Jvm.Cond.code ({ cls := "SendTable", name := "paint", desc := "()V" } : Jvm.MethodName) prog_1_method_16_code (6 : Nat) (Option.none : Option Jvm.ClassFile.FieldType)) ∈ lw_all := lw_g (lw_at lw_m1 134 rfl) rfl
theorem q158 : (Jvm.Cond.methodLink "SendTable" (92 : Nat) ({ cls := "SendTable", name := "lineUp", desc := "()V" } : Jvm.MethodName)) ∈ lw_all := lw_g (lw_at lw_m1 135 rfl) rfl
theorem q159 : (Jvm.Cond.privateMethod ({ cls := "SendTable", name := "lineUp", desc := "()V" } : Jvm.MethodName)) ∈ lw_tbl := lw_at lw_m1 136 rfl
theorem q160 : (Jvm.Cond.instanceMethod ({ cls := "SendTable", name := "lineUp", desc := "()V" } : Jvm.MethodName)) ∈ lw_all := lw_g (lw_at lw_m1 137 rfl) rfl
theorem q161 : (Jvm.Cond.code ({ cls := "SendTable", name := "lineUp", desc := "()V" } : Jvm.MethodName) prog_1_method_17_code (7 : Nat) (Option.none : Option Jvm.ClassFile.FieldType)) ∈ lw_all := lw_g (lw_at lw_m1 138 rfl) rfl
theorem q162 : (Jvm.Cond.methodLink "SendTable" (112 : Nat) ({ cls := "SendTable", name := "sizeOf", desc := "(I)I" } : Jvm.MethodName)) ∈ lw_all := lw_g (lw_at lw_m1 139 rfl) rfl
theorem q163 : (Jvm.Cond.static ({ cls := "SendTable", name := "sizeOf", desc := "(I)I" } : Jvm.MethodName)) ∈ lw_all := lw_g (lw_at lw_m1 140 rfl) rfl
theorem q164 : (Jvm.Cond.code ({ cls := "SendTable", name := "sizeOf", desc := "(I)I" } : Jvm.MethodName) prog_1_method_18_code (3 : Nat) (Option.some Jvm.ClassFile.FieldType.int)) ∈ lw_all := lw_g (lw_at lw_m1 141 rfl) rfl
theorem q165 : (Jvm.Cond.constant "SendTable" (101 : Nat) (65536 : Int32)) ∈ lw_all := lw_g (lw_at lw_m1 142 rfl) rfl
theorem q166 : (Jvm.Cond.methodLink "SendTable" (102 : Nat) ({ cls := "SendTable", name := "opened", desc := "(I)I" } : Jvm.MethodName)) ∈ lw_all := lw_g (lw_at lw_m1 143 rfl) rfl
theorem q167 : (Jvm.Cond.privateMethod ({ cls := "SendTable", name := "opened", desc := "(I)I" } : Jvm.MethodName)) ∈ lw_tbl := lw_at lw_m1 144 rfl
theorem q168 : (Jvm.Cond.instanceMethod ({ cls := "SendTable", name := "opened", desc := "(I)I" } : Jvm.MethodName)) ∈ lw_all := lw_g (lw_at lw_m1 145 rfl) rfl
theorem q169 : (Jvm.Cond.code ({ cls := "SendTable", name := "opened", desc := "(I)I" } : Jvm.MethodName) prog_1_method_19_code (4 : Nat) (Option.some Jvm.ClassFile.FieldType.int)) ∈ lw_all := lw_g (lw_at lw_m1 146 rfl) rfl
theorem q170 : (Jvm.Cond.methodLink "SendTable" (105 : Nat) ({ cls := "SendTable", name := "nextColour", desc := "(III)I" } : Jvm.MethodName)) ∈ lw_all := lw_g (lw_at lw_m1 147 rfl) rfl
theorem q171 : (Jvm.Cond.privateMethod ({ cls := "SendTable", name := "nextColour", desc := "(III)I" } : Jvm.MethodName)) ∈ lw_tbl := lw_at lw_m1 148 rfl
theorem q172 : (Jvm.Cond.instanceMethod ({ cls := "SendTable", name := "nextColour", desc := "(III)I" } : Jvm.MethodName)) ∈ lw_all := lw_g (lw_at lw_m1 149 rfl) rfl
theorem q173 : (Jvm.Cond.code ({ cls := "SendTable", name := "nextColour", desc := "(III)I" } : Jvm.MethodName) prog_1_method_20_code (6 : Nat) (Option.some Jvm.ClassFile.FieldType.int)) ∈ lw_all := lw_g (lw_at lw_m1 150 rfl) rfl
theorem q174 : (Jvm.Cond.methodLink "SendTable" (109 : Nat) ({ cls := "SendTable", name := "keep", desc := "(I)V" } : Jvm.MethodName)) ∈ lw_all := lw_g (lw_at lw_m1 151 rfl) rfl
theorem q175 : (Jvm.Cond.privateMethod ({ cls := "SendTable", name := "keep", desc := "(I)V" } : Jvm.MethodName)) ∈ lw_tbl := lw_at lw_m1 152 rfl
theorem q176 : (Jvm.Cond.instanceMethod ({ cls := "SendTable", name := "keep", desc := "(I)V" } : Jvm.MethodName)) ∈ lw_all := lw_g (lw_at lw_m1 153 rfl) rfl
theorem q177 : (Jvm.Cond.code ({ cls := "SendTable", name := "keep", desc := "(I)V" } : Jvm.MethodName) prog_1_method_21_code (3 : Nat) (Option.none : Option Jvm.ClassFile.FieldType)) ∈ lw_all := lw_g (lw_at lw_m1 154 rfl) rfl
theorem q178 : (Jvm.Cond.methodLink "SendTable" (84 : Nat) ({ cls := "SendTable", name := "pack", desc := "(I)V" } : Jvm.MethodName)) ∈ lw_all := lw_g (lw_at lw_m1 155 rfl) rfl
theorem q179 : (Jvm.Cond.privateMethod ({ cls := "SendTable", name := "pack", desc := "(I)V" } : Jvm.MethodName)) ∈ lw_tbl := lw_at lw_m1 156 rfl
theorem q180 : (Jvm.Cond.instanceMethod ({ cls := "SendTable", name := "pack", desc := "(I)V" } : Jvm.MethodName)) ∈ lw_all := lw_g (lw_at lw_m1 157 rfl) rfl
theorem q181 : (Jvm.Cond.code ({ cls := "SendTable", name := "pack", desc := "(I)V" } : Jvm.MethodName) prog_1_method_22_code (6 : Nat) (Option.none : Option Jvm.ClassFile.FieldType)) ∈ lw_all := lw_g (lw_at lw_m1 158 rfl) rfl
theorem q182 : (Jvm.Cond.methodLink "SendTable" (115 : Nat) ({ cls := "SendTable", name := "fillRow", desc := "(I)V" } : Jvm.MethodName)) ∈ lw_all := lw_g (lw_at lw_m1 159 rfl) rfl
theorem q183 : (Jvm.Cond.privateMethod ({ cls := "SendTable", name := "fillRow", desc := "(I)V" } : Jvm.MethodName)) ∈ lw_tbl := lw_at lw_m1 160 rfl
theorem q184 : (Jvm.Cond.instanceMethod ({ cls := "SendTable", name := "fillRow", desc := "(I)V" } : Jvm.MethodName)) ∈ lw_all := lw_g (lw_at lw_m1 161 rfl) rfl
theorem q185 : (Jvm.Cond.code ({ cls := "SendTable", name := "fillRow", desc := "(I)V" } : Jvm.MethodName) prog_1_method_23_code (5 : Nat) (Option.none : Option Jvm.ClassFile.FieldType)) ∈ lw_all := lw_g (lw_at lw_m1 162 rfl) rfl
theorem q186 : (Jvm.Cond.methodLink "SendTable" (118 : Nat) ({ cls := "SendTable", name := "fits", desc := "(II)Z" } : Jvm.MethodName)) ∈ lw_all := lw_g (lw_at lw_m1 163 rfl) rfl
theorem q187 : (Jvm.Cond.privateMethod ({ cls := "SendTable", name := "fits", desc := "(II)Z" } : Jvm.MethodName)) ∈ lw_tbl := lw_at lw_m1 164 rfl
theorem q188 : (Jvm.Cond.instanceMethod ({ cls := "SendTable", name := "fits", desc := "(II)Z" } : Jvm.MethodName)) ∈ lw_all := lw_g (lw_at lw_m1 165 rfl) rfl
theorem q189 : (Jvm.Cond.code ({ cls := "SendTable", name := "fits", desc := "(II)Z" } : Jvm.MethodName) prog_1_method_24_code (4 : Nat) (Option.some Jvm.ClassFile.FieldType.boolean)) ∈ lw_all := lw_g (lw_at lw_m1 166 rfl) rfl
theorem q191 : (Jvm.Cond.instanceMethod ({ cls := "SendTable", name := "sendSuper", desc := "(II)I" } : Jvm.MethodName)) ∈ lw_all := lw_g (lw_at lw_m1 168 rfl) rfl
theorem q192 : (Jvm.Cond.selects "SendTable" ({ cls := "SendTable", name := "sendSuper", desc := "(II)I" } : Jvm.MethodName) ({ cls := "SendTable", name := "sendSuper", desc := "(II)I" } : Jvm.MethodName)) ∈ lw_all := lw_g (lw_at lw_m1 169 rfl) rfl
theorem q193 : (Jvm.Cond.code ({ cls := "SendTable", name := "sendSuper", desc := "(II)I" } : Jvm.MethodName) prog_1_method_27_code (3 : Nat) (Option.some Jvm.ClassFile.FieldType.int)) ∈ lw_all := lw_g (lw_at lw_m1 170 rfl) rfl
theorem q194 : (Jvm.Cond.methodLink "SendTable" (128 : Nat) ({ cls := "SendTable", name := "send", desc := "(II)I" } : Jvm.MethodName)) ∈ lw_all := lw_g (lw_at lw_m1 171 rfl) rfl
theorem q196 : (Jvm.Cond.instanceMethod ({ cls := "SendTable", name := "owner", desc := "(II)I" } : Jvm.MethodName)) ∈ lw_all := lw_g (lw_at lw_m1 173 rfl) rfl
theorem q197 : (Jvm.Cond.selects "SendTable" ({ cls := "SendTable", name := "owner", desc := "(II)I" } : Jvm.MethodName) ({ cls := "SendTable", name := "owner", desc := "(II)I" } : Jvm.MethodName)) ∈ lw_all := lw_g (lw_at lw_m1 174 rfl) rfl
theorem q198 : (Jvm.Cond.code ({ cls := "SendTable", name := "owner", desc := "(II)I" } : Jvm.MethodName) prog_1_method_28_code (4 : Nat) (Option.some Jvm.ClassFile.FieldType.int)) ∈ lw_all := lw_g (lw_at lw_m1 175 rfl) rfl
theorem q200 : (Jvm.Cond.instanceMethod ({ cls := "SendTable", name := "understands", desc := "(I)I" } : Jvm.MethodName)) ∈ lw_all := lw_g (lw_at lw_m1 177 rfl) rfl
theorem q201 : (Jvm.Cond.selects "SendTable" ({ cls := "SendTable", name := "understands", desc := "(I)I" } : Jvm.MethodName) ({ cls := "SendTable", name := "understands", desc := "(I)I" } : Jvm.MethodName)) ∈ lw_all := lw_g (lw_at lw_m1 178 rfl) rfl
theorem q202 : (Jvm.Cond.code ({ cls := "SendTable", name := "understands", desc := "(I)I" } : Jvm.MethodName) prog_1_method_29_code (2 : Nat) (Option.some Jvm.ClassFile.FieldType.int)) ∈ lw_all := lw_g (lw_at lw_m1 179 rfl) rfl
theorem q204 : (Jvm.Cond.instanceMethod ({ cls := "SendTable", name := "heirs", desc := "(II)I" } : Jvm.MethodName)) ∈ lw_all := lw_g (lw_at lw_m1 181 rfl) rfl
theorem q205 : (Jvm.Cond.selects "SendTable" ({ cls := "SendTable", name := "heirs", desc := "(II)I" } : Jvm.MethodName) ({ cls := "SendTable", name := "heirs", desc := "(II)I" } : Jvm.MethodName)) ∈ lw_all := lw_g (lw_at lw_m1 182 rfl) rfl
theorem q206 : (Jvm.Cond.code ({ cls := "SendTable", name := "heirs", desc := "(II)I" } : Jvm.MethodName) prog_1_method_30_code (6 : Nat) (Option.some Jvm.ClassFile.FieldType.int)) ∈ lw_all := lw_g (lw_at lw_m1 183 rfl) rfl
theorem q208 : (Jvm.Cond.instanceMethod ({ cls := "SendTable", name := "apart", desc := "(I)I" } : Jvm.MethodName)) ∈ lw_all := lw_g (lw_at lw_m1 185 rfl) rfl
theorem q209 : (Jvm.Cond.selects "SendTable" ({ cls := "SendTable", name := "apart", desc := "(I)I" } : Jvm.MethodName) ({ cls := "SendTable", name := "apart", desc := "(I)I" } : Jvm.MethodName)) ∈ lw_all := lw_g (lw_at lw_m1 186 rfl) rfl
theorem q210 : (Jvm.Cond.code ({ cls := "SendTable", name := "apart", desc := "(I)I" } : Jvm.MethodName) prog_1_method_31_code (2 : Nat) (Option.some Jvm.ClassFile.FieldType.int)) ∈ lw_all := lw_g (lw_at lw_m1 187 rfl) rfl
theorem q212 : (Jvm.Cond.instanceMethod ({ cls := "SendTable", name := "crowd", desc := "()I" } : Jvm.MethodName)) ∈ lw_all := lw_g (lw_at lw_m1 189 rfl) rfl
theorem q213 : (Jvm.Cond.selects "SendTable" ({ cls := "SendTable", name := "crowd", desc := "()I" } : Jvm.MethodName) ({ cls := "SendTable", name := "crowd", desc := "()I" } : Jvm.MethodName)) ∈ lw_all := lw_g (lw_at lw_m1 190 rfl) rfl
theorem q214 : (Jvm.Cond.code ({ cls := "SendTable", name := "crowd", desc := "()I" } : Jvm.MethodName) prog_1_method_32_code (4 : Nat) (Option.some Jvm.ClassFile.FieldType.int)) ∈ lw_all := lw_g (lw_at lw_m1 191 rfl) rfl
theorem q215 : (Jvm.Cond.methodLink "SendTable" (131 : Nat) ({ cls := "SendTable", name := "crowded", desc := "(I)Z" } : Jvm.MethodName)) ∈ lw_all := lw_g (lw_at lw_m1 192 rfl) rfl
theorem q216 : (Jvm.Cond.privateMethod ({ cls := "SendTable", name := "crowded", desc := "(I)Z" } : Jvm.MethodName)) ∈ lw_tbl := lw_at lw_m1 193 rfl
theorem q217 : (Jvm.Cond.instanceMethod ({ cls := "SendTable", name := "crowded", desc := "(I)Z" } : Jvm.MethodName)) ∈ lw_all := lw_g (lw_at lw_m1 194 rfl) rfl
theorem q218 : (Jvm.Cond.code ({ cls := "SendTable", name := "crowded", desc := "(I)Z" } : Jvm.MethodName) prog_1_method_33_code (3 : Nat) (Option.some Jvm.ClassFile.FieldType.boolean)) ∈ lw_all := lw_g (lw_at lw_m1 195 rfl) rfl
theorem q220 : (Jvm.Cond.instanceMethod ({ cls := "SendTable", name := "colours", desc := "()I" } : Jvm.MethodName)) ∈ lw_all := lw_g (lw_at lw_m1 197 rfl) rfl
theorem q221 : (Jvm.Cond.selects "SendTable" ({ cls := "SendTable", name := "colours", desc := "()I" } : Jvm.MethodName) ({ cls := "SendTable", name := "colours", desc := "()I" } : Jvm.MethodName)) ∈ lw_all := lw_g (lw_at lw_m1 198 rfl) rfl
theorem q222 : (Jvm.Cond.code ({ cls := "SendTable", name := "colours", desc := "()I" } : Jvm.MethodName) prog_1_method_34_code (1 : Nat) (Option.some Jvm.ClassFile.FieldType.int)) ∈ lw_all := lw_g (lw_at lw_m1 199 rfl) rfl
theorem in_X0 : ∀ w ∈ wsX00, w ∈ lw_all := lw_in wsX00 [52, 54, 56, 58, 60, 62, 64, 66, 68, 70, 72, 74, 76, 78, 80, 82, 84, 86] (by decide +kernel) (by decide +kernel)

theorem q89 : (Jvm.Cond.arrayClass Jvm.ClassFile.FieldType.byte) ∈ lw_all := lw_g (lw_at lw_m1 66 rfl) rfl
set_option maxRecDepth 100000
theorem q90 : (Jvm.Cond.arrayClass Jvm.ClassFile.FieldType.short) ∈ lw_all := lw_g (lw_at lw_m1 67 rfl) rfl
theorem q248 : (Jvm.Cond.arrayClass Jvm.ClassFile.FieldType.int) ∈ lw_all := lw_g (lw_at lw_m1 225 rfl) rfl
theorem q249 : (Jvm.Cond.arrayClass Jvm.ClassFile.FieldType.boolean) ∈ lw_all := lw_g (lw_at lw_m1 226 rfl) rfl
theorem q23 : (Jvm.Cond.initialized "SendTableLaw") ∈ lw_all := lw_g (lw_at lw_m1 0 rfl) rfl
set_option maxRecDepth 100000
theorem q26 : (Jvm.Cond.classLink "SendTableLaw" (7 : Nat) "SendTable") ∈ lw_all := lw_g (lw_at lw_m1 3 rfl) rfl
theorem q28 : (Jvm.Cond.methodLink "SendTableLaw" (9 : Nat) ({ cls := "SendTable", name := "<init>", desc := "()V" } : Jvm.MethodName)) ∈ lw_all := lw_g (lw_at lw_m1 5 rfl) rfl
theorem q91 : (Jvm.Cond.methodLink "SendTableLaw" (13 : Nat) ({ cls := "SendTable", name := "addClass", desc := "(I)I" } : Jvm.MethodName)) ∈ lw_all := lw_g (lw_at lw_m1 68 rfl) rfl
theorem q99 : (Jvm.Cond.methodLink "SendTableLaw" (18 : Nat) ({ cls := "SendTable", name := "define", desc := "(III)Z" } : Jvm.MethodName)) ∈ lw_all := lw_g (lw_at lw_m1 76 rfl) rfl
theorem q106 : (Jvm.Cond.methodLink "SendTableLaw" (23 : Nat) ({ cls := "SendTable", name := "drop", desc := "(II)Z" } : Jvm.MethodName)) ∈ lw_all := lw_g (lw_at lw_m1 83 rfl) rfl
theorem q110 : (Jvm.Cond.methodLink "SendTableLaw" (28 : Nat) ({ cls := "SendTable", name := "move", desc := "(II)Z" } : Jvm.MethodName)) ∈ lw_all := lw_g (lw_at lw_m1 87 rfl) rfl
theorem q118 : (Jvm.Cond.methodLink "SendTableLaw" (32 : Nat) ({ cls := "SendTable", name := "classes", desc := "()I" } : Jvm.MethodName)) ∈ lw_all := lw_g (lw_at lw_m1 95 rfl) rfl
theorem q122 : (Jvm.Cond.methodLink "SendTableLaw" (37 : Nat) ({ cls := "SendTable", name := "parent", desc := "(I)I" } : Jvm.MethodName)) ∈ lw_all := lw_g (lw_at lw_m1 99 rfl) rfl
theorem q126 : (Jvm.Cond.methodLink "SendTableLaw" (41 : Nat) ({ cls := "SendTable", name := "send", desc := "(II)I" } : Jvm.MethodName)) ∈ lw_all := lw_g (lw_at lw_m1 103 rfl) rfl
theorem q190 : (Jvm.Cond.methodLink "SendTableLaw" (46 : Nat) ({ cls := "SendTable", name := "sendSuper", desc := "(II)I" } : Jvm.MethodName)) ∈ lw_all := lw_g (lw_at lw_m1 167 rfl) rfl
theorem q195 : (Jvm.Cond.methodLink "SendTableLaw" (50 : Nat) ({ cls := "SendTable", name := "owner", desc := "(II)I" } : Jvm.MethodName)) ∈ lw_all := lw_g (lw_at lw_m1 172 rfl) rfl
theorem q199 : (Jvm.Cond.methodLink "SendTableLaw" (54 : Nat) ({ cls := "SendTable", name := "understands", desc := "(I)I" } : Jvm.MethodName)) ∈ lw_all := lw_g (lw_at lw_m1 176 rfl) rfl
theorem q203 : (Jvm.Cond.methodLink "SendTableLaw" (58 : Nat) ({ cls := "SendTable", name := "heirs", desc := "(II)I" } : Jvm.MethodName)) ∈ lw_all := lw_g (lw_at lw_m1 180 rfl) rfl
theorem q207 : (Jvm.Cond.methodLink "SendTableLaw" (62 : Nat) ({ cls := "SendTable", name := "apart", desc := "(I)I" } : Jvm.MethodName)) ∈ lw_all := lw_g (lw_at lw_m1 184 rfl) rfl
theorem q211 : (Jvm.Cond.methodLink "SendTableLaw" (66 : Nat) ({ cls := "SendTable", name := "crowd", desc := "()I" } : Jvm.MethodName)) ∈ lw_all := lw_g (lw_at lw_m1 188 rfl) rfl
theorem q219 : (Jvm.Cond.methodLink "SendTableLaw" (70 : Nat) ({ cls := "SendTable", name := "colours", desc := "()I" } : Jvm.MethodName)) ∈ lw_all := lw_g (lw_at lw_m1 196 rfl) rfl
theorem q223 : (Jvm.Cond.classLink "SendTableLaw" (10 : Nat) "SendTableModel") ∈ lw_all := lw_g (lw_at lw_m1 200 rfl) rfl
theorem q225 : (Jvm.Cond.methodLink "SendTableLaw" (12 : Nat) ({ cls := "SendTableModel", name := "<init>", desc := "()V" } : Jvm.MethodName)) ∈ lw_all := lw_g (lw_at lw_m1 202 rfl) rfl
theorem q250 : (Jvm.Cond.methodLink "SendTableLaw" (17 : Nat) ({ cls := "SendTableModel", name := "addClass", desc := "(I)I" } : Jvm.MethodName)) ∈ lw_all := lw_g (lw_at lw_m1 227 rfl) rfl
theorem q258 : (Jvm.Cond.methodLink "SendTableLaw" (22 : Nat) ({ cls := "SendTableModel", name := "define", desc := "(III)Z" } : Jvm.MethodName)) ∈ lw_all := lw_g (lw_at lw_m1 235 rfl) rfl
theorem q262 : (Jvm.Cond.methodLink "SendTableLaw" (27 : Nat) ({ cls := "SendTableModel", name := "drop", desc := "(II)Z" } : Jvm.MethodName)) ∈ lw_all := lw_g (lw_at lw_m1 239 rfl) rfl
theorem q266 : (Jvm.Cond.methodLink "SendTableLaw" (31 : Nat) ({ cls := "SendTableModel", name := "move", desc := "(II)Z" } : Jvm.MethodName)) ∈ lw_all := lw_g (lw_at lw_m2 3 rfl) rfl
theorem q270 : (Jvm.Cond.methodLink "SendTableLaw" (36 : Nat) ({ cls := "SendTableModel", name := "classes", desc := "()I" } : Jvm.MethodName)) ∈ lw_all := lw_g (lw_at lw_m2 7 rfl) rfl
theorem q274 : (Jvm.Cond.methodLink "SendTableLaw" (40 : Nat) ({ cls := "SendTableModel", name := "parent", desc := "(I)I" } : Jvm.MethodName)) ∈ lw_all := lw_g (lw_at lw_m2 11 rfl) rfl
theorem q278 : (Jvm.Cond.methodLink "SendTableLaw" (45 : Nat) ({ cls := "SendTableModel", name := "send", desc := "(II)I" } : Jvm.MethodName)) ∈ lw_all := lw_g (lw_at lw_m2 15 rfl) rfl
theorem q286 : (Jvm.Cond.methodLink "SendTableLaw" (49 : Nat) ({ cls := "SendTableModel", name := "sendSuper", desc := "(II)I" } : Jvm.MethodName)) ∈ lw_all := lw_g (lw_at lw_m2 23 rfl) rfl
theorem q292 : (Jvm.Cond.methodLink "SendTableLaw" (53 : Nat) ({ cls := "SendTableModel", name := "owner", desc := "(II)I" } : Jvm.MethodName)) ∈ lw_all := lw_g (lw_at lw_m2 29 rfl) rfl
theorem q293 : (Jvm.Cond.methodLink "SendTableLaw" (57 : Nat) ({ cls := "SendTableModel", name := "understands", desc := "(I)I" } : Jvm.MethodName)) ∈ lw_all := lw_g (lw_at lw_m2 30 rfl) rfl
theorem q297 : (Jvm.Cond.methodLink "SendTableLaw" (61 : Nat) ({ cls := "SendTableModel", name := "heirs", desc := "(II)I" } : Jvm.MethodName)) ∈ lw_all := lw_g (lw_at lw_m2 34 rfl) rfl
theorem q301 : (Jvm.Cond.methodLink "SendTableLaw" (65 : Nat) ({ cls := "SendTableModel", name := "apart", desc := "(I)I" } : Jvm.MethodName)) ∈ lw_all := lw_g (lw_at lw_m2 38 rfl) rfl
theorem q310 : (Jvm.Cond.methodLink "SendTableLaw" (69 : Nat) ({ cls := "SendTableModel", name := "crowd", desc := "()I" } : Jvm.MethodName)) ∈ lw_all := lw_g (lw_at lw_m2 47 rfl) rfl
theorem q326 : (Jvm.Cond.methodLink "SendTableLaw" (73 : Nat) ({ cls := "SendTableModel", name := "colours", desc := "()I" } : Jvm.MethodName)) ∈ lw_all := lw_g (lw_at lw_m2 63 rfl) rfl
/-! java/lang/Object -/
set_option maxRecDepth 100000
def RJ0 : String := "java/lang/Object"
abbrev cJ0_init : ByteArray := object_method_1_code
def yJ0_init : MethodName := ⟨RJ0, "<init>", "()V"⟩
theorem dJ0_init_0 : decode cJ0_init 0 = .ok (.return_, 1) := by decide +kernel
theorem q32 : (Jvm.Cond.instanceMethod ({ cls := "java/lang/Object", name := "<init>", desc := "()V" } : Jvm.MethodName)) ∈ lw_all := lw_g (lw_at lw_m1 9 rfl) rfl
theorem q33 : (Jvm.Cond.code ({ cls := "java/lang/Object", name := "<init>", desc := "()V" } : Jvm.MethodName) object_method_1_code (1 : Nat) (Option.none : Option Jvm.ClassFile.FieldType)) ∈ lw_all := lw_g (lw_at lw_m1 10 rfl) rfl
end
section
/-! SendTableModel -/
set_option maxRecDepth 100000
def RX1 : String := "SendTableModel"
def TX1 : u_T := fun k => match k with
  | 0 => ("SendTableModel", "count", "I", false)
  | 1 => ("SendTableModel", "up", "[I", false)
  | 2 => ("SendTableModel", "own", "[I", false)
  | 3 => ("SendTableModel", "mates", "[I", false)
  | 4 => ("SendTableModel", "alone", "[Z", false)
  | _ => ("SendTableModel", "least", "[I", false)
def tyX1 : Nat → FieldType := fun k => match k with
  | 0 => .int
  | 1 => .array .int
  | 2 => .array .int
  | 3 => .array .int
  | 4 => .array .boolean
  | _ => .array .int
abbrev wsX10 : List Cond := u_ws RX1 TX1 6
theorem nmX1 : ∀ a, a < 6 → ∀ b, b < 6 → a ≠ b → (TX1 a).2.1 ≠ (TX1 b).2.1 := by decide +kernel
theorem tyX1_ok : ∀ k, k < 6 → parseFieldDescriptor (TX1 k).2.2.1 = some (tyX1 k) := by decide +kernel
abbrev cX1_init : ByteArray := prog_3_method_1_code
def yX1_init : MethodName := ⟨RX1, "<init>", "()V"⟩
theorem dX1_init_0 : decode cX1_init 0 = .ok (.aload_n 0, 1) := by decide +kernel
theorem dX1_init_1 : decode cX1_init 1 = .ok (.invokespecial 1, 3) := by decide +kernel
theorem dX1_init_4 : decode cX1_init 4 = .ok (.aload_n 0, 1) := by decide +kernel
theorem dX1_init_5 : decode cX1_init 5 = .ok (.bipush 10, 2) := by decide +kernel
theorem dX1_init_7 : decode cX1_init 7 = .ok (.newarray .int, 2) := by decide +kernel
theorem dX1_init_9 : decode cX1_init 9 = .ok (.putfield 7, 3) := by decide +kernel
theorem dX1_init_12 : decode cX1_init 12 = .ok (.aload_n 0, 1) := by decide +kernel
theorem dX1_init_13 : decode cX1_init 13 = .ok (.bipush 80, 2) := by decide +kernel
theorem dX1_init_15 : decode cX1_init 15 = .ok (.newarray .int, 2) := by decide +kernel
theorem dX1_init_17 : decode cX1_init 17 = .ok (.putfield 13, 3) := by decide +kernel
theorem dX1_init_20 : decode cX1_init 20 = .ok (.aload_n 0, 1) := by decide +kernel
theorem dX1_init_21 : decode cX1_init 21 = .ok (.bipush 8, 2) := by decide +kernel
theorem dX1_init_23 : decode cX1_init 23 = .ok (.newarray .int, 2) := by decide +kernel
theorem dX1_init_25 : decode cX1_init 25 = .ok (.putfield 16, 3) := by decide +kernel
theorem dX1_init_28 : decode cX1_init 28 = .ok (.aload_n 0, 1) := by decide +kernel
theorem dX1_init_29 : decode cX1_init 29 = .ok (.sipush 256, 3) := by decide +kernel
theorem dX1_init_32 : decode cX1_init 32 = .ok (.newarray .boolean, 2) := by decide +kernel
theorem dX1_init_34 : decode cX1_init 34 = .ok (.putfield 19, 3) := by decide +kernel
theorem dX1_init_37 : decode cX1_init 37 = .ok (.aload_n 0, 1) := by decide +kernel
theorem dX1_init_38 : decode cX1_init 38 = .ok (.sipush 256, 3) := by decide +kernel
theorem dX1_init_41 : decode cX1_init 41 = .ok (.newarray .int, 2) := by decide +kernel
theorem dX1_init_43 : decode cX1_init 43 = .ok (.putfield 23, 3) := by decide +kernel
theorem dX1_init_46 : decode cX1_init 46 = .ok (.return_, 1) := by decide +kernel
abbrev cX1_addClass : ByteArray := prog_3_method_3_code
def yX1_addClass : MethodName := ⟨RX1, "addClass", "(I)I"⟩
theorem dX1_addClass_0 : decode cX1_addClass 0 = .ok (.iload_n 1, 1) := by decide +kernel
theorem dX1_addClass_1 : decode cX1_addClass 1 = .ok (.iconst (-1), 1) := by decide +kernel
theorem dX1_addClass_2 : decode cX1_addClass 2 = .ok (.if_icmp .eq 13, 3) := by decide +kernel
theorem dX1_addClass_5 : decode cX1_addClass 5 = .ok (.aload_n 0, 1) := by decide +kernel
theorem dX1_addClass_6 : decode cX1_addClass 6 = .ok (.iload_n 1, 1) := by decide +kernel
theorem dX1_addClass_7 : decode cX1_addClass 7 = .ok (.invokevirtual 30, 3) := by decide +kernel
theorem dX1_addClass_10 : decode cX1_addClass 10 = .ok (.ifCond .ne 5, 3) := by decide +kernel
theorem dX1_addClass_13 : decode cX1_addClass 13 = .ok (.iconst (-1), 1) := by decide +kernel
theorem dX1_addClass_14 : decode cX1_addClass 14 = .ok (.ireturn, 1) := by decide +kernel
theorem dX1_addClass_15 : decode cX1_addClass 15 = .ok (.aload_n 0, 1) := by decide +kernel
theorem dX1_addClass_16 : decode cX1_addClass 16 = .ok (.getfield 26, 3) := by decide +kernel
theorem dX1_addClass_19 : decode cX1_addClass 19 = .ok (.bipush 10, 2) := by decide +kernel
theorem dX1_addClass_21 : decode cX1_addClass 21 = .ok (.if_icmp .lt 6, 3) := by decide +kernel
theorem dX1_addClass_24 : decode cX1_addClass 24 = .ok (.bipush (-2), 2) := by decide +kernel
theorem dX1_addClass_26 : decode cX1_addClass 26 = .ok (.ireturn, 1) := by decide +kernel
theorem dX1_addClass_27 : decode cX1_addClass 27 = .ok (.aload_n 0, 1) := by decide +kernel
theorem dX1_addClass_28 : decode cX1_addClass 28 = .ok (.getfield 7, 3) := by decide +kernel
theorem dX1_addClass_31 : decode cX1_addClass 31 = .ok (.aload_n 0, 1) := by decide +kernel
theorem dX1_addClass_32 : decode cX1_addClass 32 = .ok (.getfield 26, 3) := by decide +kernel
theorem dX1_addClass_35 : decode cX1_addClass 35 = .ok (.iload_n 1, 1) := by decide +kernel
theorem dX1_addClass_36 : decode cX1_addClass 36 = .ok (.iastore, 1) := by decide +kernel
theorem dX1_addClass_37 : decode cX1_addClass 37 = .ok (.aload_n 0, 1) := by decide +kernel
theorem dX1_addClass_38 : decode cX1_addClass 38 = .ok (.dup, 1) := by decide +kernel
theorem dX1_addClass_39 : decode cX1_addClass 39 = .ok (.getfield 26, 3) := by decide +kernel
theorem dX1_addClass_42 : decode cX1_addClass 42 = .ok (.iconst 1, 1) := by decide +kernel
theorem dX1_addClass_43 : decode cX1_addClass 43 = .ok (.iadd, 1) := by decide +kernel
theorem dX1_addClass_44 : decode cX1_addClass 44 = .ok (.putfield 26, 3) := by decide +kernel
theorem dX1_addClass_47 : decode cX1_addClass 47 = .ok (.aload_n 0, 1) := by decide +kernel
theorem dX1_addClass_48 : decode cX1_addClass 48 = .ok (.getfield 26, 3) := by decide +kernel
theorem dX1_addClass_51 : decode cX1_addClass 51 = .ok (.iconst 1, 1) := by decide +kernel
theorem dX1_addClass_52 : decode cX1_addClass 52 = .ok (.isub, 1) := by decide +kernel
theorem dX1_addClass_53 : decode cX1_addClass 53 = .ok (.ireturn, 1) := by decide +kernel
abbrev cX1_is : ByteArray := prog_3_method_2_code
def yX1_is : MethodName := ⟨RX1, "is", "(I)Z"⟩
theorem dX1_is_0 : decode cX1_is 0 = .ok (.iload_n 1, 1) := by decide +kernel
theorem dX1_is_1 : decode cX1_is 1 = .ok (.ifCond .lt 15, 3) := by decide +kernel
theorem dX1_is_4 : decode cX1_is 4 = .ok (.iload_n 1, 1) := by decide +kernel
theorem dX1_is_5 : decode cX1_is 5 = .ok (.aload_n 0, 1) := by decide +kernel
theorem dX1_is_6 : decode cX1_is 6 = .ok (.getfield 26, 3) := by decide +kernel
theorem dX1_is_9 : decode cX1_is 9 = .ok (.if_icmp .ge 7, 3) := by decide +kernel
theorem dX1_is_12 : decode cX1_is 12 = .ok (.iconst 1, 1) := by decide +kernel
theorem dX1_is_13 : decode cX1_is 13 = .ok (.goto 4, 3) := by decide +kernel
theorem dX1_is_16 : decode cX1_is 16 = .ok (.iconst 0, 1) := by decide +kernel
theorem dX1_is_17 : decode cX1_is 17 = .ok (.ireturn, 1) := by decide +kernel
abbrev cX1_define : ByteArray := prog_3_method_4_code
def yX1_define : MethodName := ⟨RX1, "define", "(III)Z"⟩
theorem dX1_define_0 : decode cX1_define 0 = .ok (.aload_n 0, 1) := by decide +kernel
theorem dX1_define_1 : decode cX1_define 1 = .ok (.iload_n 1, 1) := by decide +kernel
theorem dX1_define_2 : decode cX1_define 2 = .ok (.invokevirtual 30, 3) := by decide +kernel
theorem dX1_define_5 : decode cX1_define 5 = .ok (.ifCond .eq 25, 3) := by decide +kernel
theorem dX1_define_8 : decode cX1_define 8 = .ok (.iload_n 2, 1) := by decide +kernel
theorem dX1_define_9 : decode cX1_define 9 = .ok (.ifCond .lt 21, 3) := by decide +kernel
theorem dX1_define_12 : decode cX1_define 12 = .ok (.iload_n 2, 1) := by decide +kernel
theorem dX1_define_13 : decode cX1_define 13 = .ok (.bipush 7, 2) := by decide +kernel
theorem dX1_define_15 : decode cX1_define 15 = .ok (.if_icmp .gt 15, 3) := by decide +kernel
theorem dX1_define_18 : decode cX1_define 18 = .ok (.iload_n 3, 1) := by decide +kernel
theorem dX1_define_19 : decode cX1_define 19 = .ok (.iconst 1, 1) := by decide +kernel
theorem dX1_define_20 : decode cX1_define 20 = .ok (.if_icmp .lt 10, 3) := by decide +kernel
theorem dX1_define_23 : decode cX1_define 23 = .ok (.iload_n 3, 1) := by decide +kernel
theorem dX1_define_24 : decode cX1_define 24 = .ok (.sipush 1000, 3) := by decide +kernel
theorem dX1_define_27 : decode cX1_define 27 = .ok (.if_icmp .le 5, 3) := by decide +kernel
theorem dX1_define_30 : decode cX1_define 30 = .ok (.iconst 0, 1) := by decide +kernel
theorem dX1_define_31 : decode cX1_define 31 = .ok (.ireturn, 1) := by decide +kernel
theorem dX1_define_32 : decode cX1_define 32 = .ok (.aload_n 0, 1) := by decide +kernel
theorem dX1_define_33 : decode cX1_define 33 = .ok (.getfield 13, 3) := by decide +kernel
theorem dX1_define_36 : decode cX1_define 36 = .ok (.bipush 8, 2) := by decide +kernel
theorem dX1_define_38 : decode cX1_define 38 = .ok (.iload_n 1, 1) := by decide +kernel
theorem dX1_define_39 : decode cX1_define 39 = .ok (.imul, 1) := by decide +kernel
theorem dX1_define_40 : decode cX1_define 40 = .ok (.iload_n 2, 1) := by decide +kernel
theorem dX1_define_41 : decode cX1_define 41 = .ok (.iadd, 1) := by decide +kernel
theorem dX1_define_42 : decode cX1_define 42 = .ok (.iload_n 3, 1) := by decide +kernel
theorem dX1_define_43 : decode cX1_define 43 = .ok (.iastore, 1) := by decide +kernel
theorem dX1_define_44 : decode cX1_define 44 = .ok (.iconst 1, 1) := by decide +kernel
theorem dX1_define_45 : decode cX1_define 45 = .ok (.ireturn, 1) := by decide +kernel
abbrev cX1_drop : ByteArray := prog_3_method_5_code
def yX1_drop : MethodName := ⟨RX1, "drop", "(II)Z"⟩
theorem dX1_drop_0 : decode cX1_drop 0 = .ok (.aload_n 0, 1) := by decide +kernel
theorem dX1_drop_1 : decode cX1_drop 1 = .ok (.iload_n 1, 1) := by decide +kernel
theorem dX1_drop_2 : decode cX1_drop 2 = .ok (.invokevirtual 30, 3) := by decide +kernel
theorem dX1_drop_5 : decode cX1_drop 5 = .ok (.ifCond .eq 27, 3) := by decide +kernel
theorem dX1_drop_8 : decode cX1_drop 8 = .ok (.iload_n 2, 1) := by decide +kernel
theorem dX1_drop_9 : decode cX1_drop 9 = .ok (.ifCond .lt 23, 3) := by decide +kernel
theorem dX1_drop_12 : decode cX1_drop 12 = .ok (.iload_n 2, 1) := by decide +kernel
theorem dX1_drop_13 : decode cX1_drop 13 = .ok (.bipush 7, 2) := by decide +kernel
theorem dX1_drop_15 : decode cX1_drop 15 = .ok (.if_icmp .gt 17, 3) := by decide +kernel
theorem dX1_drop_18 : decode cX1_drop 18 = .ok (.aload_n 0, 1) := by decide +kernel
theorem dX1_drop_19 : decode cX1_drop 19 = .ok (.getfield 13, 3) := by decide +kernel
theorem dX1_drop_22 : decode cX1_drop 22 = .ok (.bipush 8, 2) := by decide +kernel
theorem dX1_drop_24 : decode cX1_drop 24 = .ok (.iload_n 1, 1) := by decide +kernel
theorem dX1_drop_25 : decode cX1_drop 25 = .ok (.imul, 1) := by decide +kernel
theorem dX1_drop_26 : decode cX1_drop 26 = .ok (.iload_n 2, 1) := by decide +kernel
theorem dX1_drop_27 : decode cX1_drop 27 = .ok (.iadd, 1) := by decide +kernel
theorem dX1_drop_28 : decode cX1_drop 28 = .ok (.iaload, 1) := by decide +kernel
theorem dX1_drop_29 : decode cX1_drop 29 = .ok (.ifCond .ne 5, 3) := by decide +kernel
theorem dX1_drop_32 : decode cX1_drop 32 = .ok (.iconst 0, 1) := by decide +kernel
theorem dX1_drop_33 : decode cX1_drop 33 = .ok (.ireturn, 1) := by decide +kernel
theorem dX1_drop_34 : decode cX1_drop 34 = .ok (.aload_n 0, 1) := by decide +kernel
theorem dX1_drop_35 : decode cX1_drop 35 = .ok (.getfield 13, 3) := by decide +kernel
theorem dX1_drop_38 : decode cX1_drop 38 = .ok (.bipush 8, 2) := by decide +kernel
theorem dX1_drop_40 : decode cX1_drop 40 = .ok (.iload_n 1, 1) := by decide +kernel
theorem dX1_drop_41 : decode cX1_drop 41 = .ok (.imul, 1) := by decide +kernel
theorem dX1_drop_42 : decode cX1_drop 42 = .ok (.iload_n 2, 1) := by decide +kernel
theorem dX1_drop_43 : decode cX1_drop 43 = .ok (.iadd, 1) := by decide +kernel
theorem dX1_drop_44 : decode cX1_drop 44 = .ok (.iconst 0, 1) := by decide +kernel
theorem dX1_drop_45 : decode cX1_drop 45 = .ok (.iastore, 1) := by decide +kernel
theorem dX1_drop_46 : decode cX1_drop 46 = .ok (.iconst 1, 1) := by decide +kernel
theorem dX1_drop_47 : decode cX1_drop 47 = .ok (.ireturn, 1) := by decide +kernel
abbrev cX1_move : ByteArray := prog_3_method_6_code
def yX1_move : MethodName := ⟨RX1, "move", "(II)Z"⟩
theorem dX1_move_0 : decode cX1_move 0 = .ok (.aload_n 0, 1) := by decide +kernel
theorem dX1_move_1 : decode cX1_move 1 = .ok (.iload_n 1, 1) := by decide +kernel
theorem dX1_move_2 : decode cX1_move 2 = .ok (.invokevirtual 30, 3) := by decide +kernel
theorem dX1_move_5 : decode cX1_move 5 = .ok (.ifCond .eq 16, 3) := by decide +kernel
theorem dX1_move_8 : decode cX1_move 8 = .ok (.iload_n 2, 1) := by decide +kernel
theorem dX1_move_9 : decode cX1_move 9 = .ok (.iconst (-1), 1) := by decide +kernel
theorem dX1_move_10 : decode cX1_move 10 = .ok (.if_icmp .eq 13, 3) := by decide +kernel
theorem dX1_move_13 : decode cX1_move 13 = .ok (.aload_n 0, 1) := by decide +kernel
theorem dX1_move_14 : decode cX1_move 14 = .ok (.iload_n 2, 1) := by decide +kernel
theorem dX1_move_15 : decode cX1_move 15 = .ok (.invokevirtual 30, 3) := by decide +kernel
theorem dX1_move_18 : decode cX1_move 18 = .ok (.ifCond .ne 5, 3) := by decide +kernel
theorem dX1_move_21 : decode cX1_move 21 = .ok (.iconst 0, 1) := by decide +kernel
theorem dX1_move_22 : decode cX1_move 22 = .ok (.ireturn, 1) := by decide +kernel
theorem dX1_move_23 : decode cX1_move 23 = .ok (.iload_n 2, 1) := by decide +kernel
theorem dX1_move_24 : decode cX1_move 24 = .ok (.istore_n 3, 1) := by decide +kernel
theorem dX1_move_25 : decode cX1_move 25 = .ok (.iconst 0, 1) := by decide +kernel
theorem dX1_move_26 : decode cX1_move 26 = .ok (.istore 4, 2) := by decide +kernel
theorem dX1_move_28 : decode cX1_move 28 = .ok (.iload 4, 2) := by decide +kernel
theorem dX1_move_30 : decode cX1_move 30 = .ok (.bipush 10, 2) := by decide +kernel
theorem dX1_move_32 : decode cX1_move 32 = .ok (.if_icmp .ge 27, 3) := by decide +kernel
theorem dX1_move_35 : decode cX1_move 35 = .ok (.iload_n 3, 1) := by decide +kernel
theorem dX1_move_36 : decode cX1_move 36 = .ok (.ifCond .lt 23, 3) := by decide +kernel
theorem dX1_move_39 : decode cX1_move 39 = .ok (.iload_n 3, 1) := by decide +kernel
theorem dX1_move_40 : decode cX1_move 40 = .ok (.iload_n 1, 1) := by decide +kernel
theorem dX1_move_41 : decode cX1_move 41 = .ok (.if_icmp .ne 5, 3) := by decide +kernel
theorem dX1_move_44 : decode cX1_move 44 = .ok (.iconst 0, 1) := by decide +kernel
theorem dX1_move_45 : decode cX1_move 45 = .ok (.ireturn, 1) := by decide +kernel
theorem dX1_move_46 : decode cX1_move 46 = .ok (.aload_n 0, 1) := by decide +kernel
theorem dX1_move_47 : decode cX1_move 47 = .ok (.getfield 7, 3) := by decide +kernel
theorem dX1_move_50 : decode cX1_move 50 = .ok (.iload_n 3, 1) := by decide +kernel
theorem dX1_move_51 : decode cX1_move 51 = .ok (.iaload, 1) := by decide +kernel
theorem dX1_move_52 : decode cX1_move 52 = .ok (.istore_n 3, 1) := by decide +kernel
theorem dX1_move_53 : decode cX1_move 53 = .ok (.iinc 4 1, 3) := by decide +kernel
theorem dX1_move_56 : decode cX1_move 56 = .ok (.goto (-28), 3) := by decide +kernel
theorem dX1_move_59 : decode cX1_move 59 = .ok (.aload_n 0, 1) := by decide +kernel
theorem dX1_move_60 : decode cX1_move 60 = .ok (.getfield 7, 3) := by decide +kernel
theorem dX1_move_63 : decode cX1_move 63 = .ok (.iload_n 1, 1) := by decide +kernel
theorem dX1_move_64 : decode cX1_move 64 = .ok (.iload_n 2, 1) := by decide +kernel
theorem dX1_move_65 : decode cX1_move 65 = .ok (.iastore, 1) := by decide +kernel
theorem dX1_move_66 : decode cX1_move 66 = .ok (.iconst 1, 1) := by decide +kernel
theorem dX1_move_67 : decode cX1_move 67 = .ok (.ireturn, 1) := by decide +kernel
abbrev cX1_classes : ByteArray := prog_3_method_7_code
def yX1_classes : MethodName := ⟨RX1, "classes", "()I"⟩
theorem dX1_classes_0 : decode cX1_classes 0 = .ok (.aload_n 0, 1) := by decide +kernel
theorem dX1_classes_1 : decode cX1_classes 1 = .ok (.getfield 26, 3) := by decide +kernel
theorem dX1_classes_4 : decode cX1_classes 4 = .ok (.ireturn, 1) := by decide +kernel
abbrev cX1_parent : ByteArray := prog_3_method_8_code
def yX1_parent : MethodName := ⟨RX1, "parent", "(I)I"⟩
theorem dX1_parent_0 : decode cX1_parent 0 = .ok (.aload_n 0, 1) := by decide +kernel
theorem dX1_parent_1 : decode cX1_parent 1 = .ok (.iload_n 1, 1) := by decide +kernel
theorem dX1_parent_2 : decode cX1_parent 2 = .ok (.invokevirtual 30, 3) := by decide +kernel
theorem dX1_parent_5 : decode cX1_parent 5 = .ok (.ifCond .eq 12, 3) := by decide +kernel
theorem dX1_parent_8 : decode cX1_parent 8 = .ok (.aload_n 0, 1) := by decide +kernel
theorem dX1_parent_9 : decode cX1_parent 9 = .ok (.getfield 7, 3) := by decide +kernel
theorem dX1_parent_12 : decode cX1_parent 12 = .ok (.iload_n 1, 1) := by decide +kernel
theorem dX1_parent_13 : decode cX1_parent 13 = .ok (.iaload, 1) := by decide +kernel
theorem dX1_parent_14 : decode cX1_parent 14 = .ok (.goto 4, 3) := by decide +kernel
theorem dX1_parent_17 : decode cX1_parent 17 = .ok (.iconst (-1), 1) := by decide +kernel
theorem dX1_parent_18 : decode cX1_parent 18 = .ok (.ireturn, 1) := by decide +kernel
abbrev cX1_send : ByteArray := prog_3_method_9_code
def yX1_send : MethodName := ⟨RX1, "send", "(II)I"⟩
theorem dX1_send_0 : decode cX1_send 0 = .ok (.aload_n 0, 1) := by decide +kernel
theorem dX1_send_1 : decode cX1_send 1 = .ok (.iload_n 1, 1) := by decide +kernel
theorem dX1_send_2 : decode cX1_send 2 = .ok (.iload_n 2, 1) := by decide +kernel
theorem dX1_send_3 : decode cX1_send 3 = .ok (.invokevirtual 34, 3) := by decide +kernel
theorem dX1_send_6 : decode cX1_send 6 = .ok (.istore_n 3, 1) := by decide +kernel
theorem dX1_send_7 : decode cX1_send 7 = .ok (.iload_n 3, 1) := by decide +kernel
theorem dX1_send_8 : decode cX1_send 8 = .ok (.ifCond .ge 7, 3) := by decide +kernel
theorem dX1_send_11 : decode cX1_send 11 = .ok (.iconst 0, 1) := by decide +kernel
theorem dX1_send_12 : decode cX1_send 12 = .ok (.goto 14, 3) := by decide +kernel
theorem dX1_send_15 : decode cX1_send 15 = .ok (.aload_n 0, 1) := by decide +kernel
theorem dX1_send_16 : decode cX1_send 16 = .ok (.getfield 13, 3) := by decide +kernel
theorem dX1_send_19 : decode cX1_send 19 = .ok (.bipush 8, 2) := by decide +kernel
theorem dX1_send_21 : decode cX1_send 21 = .ok (.iload_n 3, 1) := by decide +kernel
theorem dX1_send_22 : decode cX1_send 22 = .ok (.imul, 1) := by decide +kernel
theorem dX1_send_23 : decode cX1_send 23 = .ok (.iload_n 2, 1) := by decide +kernel
theorem dX1_send_24 : decode cX1_send 24 = .ok (.iadd, 1) := by decide +kernel
theorem dX1_send_25 : decode cX1_send 25 = .ok (.iaload, 1) := by decide +kernel
theorem dX1_send_26 : decode cX1_send 26 = .ok (.ireturn, 1) := by decide +kernel
abbrev cX1_owner : ByteArray := prog_3_method_11_code
def yX1_owner : MethodName := ⟨RX1, "owner", "(II)I"⟩
theorem dX1_owner_0 : decode cX1_owner 0 = .ok (.aload_n 0, 1) := by decide +kernel
theorem dX1_owner_1 : decode cX1_owner 1 = .ok (.iload_n 1, 1) := by decide +kernel
theorem dX1_owner_2 : decode cX1_owner 2 = .ok (.invokevirtual 30, 3) := by decide +kernel
theorem dX1_owner_5 : decode cX1_owner 5 = .ok (.ifCond .eq 13, 3) := by decide +kernel
theorem dX1_owner_8 : decode cX1_owner 8 = .ok (.iload_n 2, 1) := by decide +kernel
theorem dX1_owner_9 : decode cX1_owner 9 = .ok (.ifCond .lt 9, 3) := by decide +kernel
theorem dX1_owner_12 : decode cX1_owner 12 = .ok (.iload_n 2, 1) := by decide +kernel
theorem dX1_owner_13 : decode cX1_owner 13 = .ok (.bipush 7, 2) := by decide +kernel
theorem dX1_owner_15 : decode cX1_owner 15 = .ok (.if_icmp .le 5, 3) := by decide +kernel
theorem dX1_owner_18 : decode cX1_owner 18 = .ok (.iconst (-1), 1) := by decide +kernel
theorem dX1_owner_19 : decode cX1_owner 19 = .ok (.ireturn, 1) := by decide +kernel
theorem dX1_owner_20 : decode cX1_owner 20 = .ok (.iload_n 1, 1) := by decide +kernel
theorem dX1_owner_21 : decode cX1_owner 21 = .ok (.istore_n 3, 1) := by decide +kernel
theorem dX1_owner_22 : decode cX1_owner 22 = .ok (.iconst 0, 1) := by decide +kernel
theorem dX1_owner_23 : decode cX1_owner 23 = .ok (.istore 4, 2) := by decide +kernel
theorem dX1_owner_25 : decode cX1_owner 25 = .ok (.iload 4, 2) := by decide +kernel
theorem dX1_owner_27 : decode cX1_owner 27 = .ok (.bipush 10, 2) := by decide +kernel
theorem dX1_owner_29 : decode cX1_owner 29 = .ok (.if_icmp .ge 36, 3) := by decide +kernel
theorem dX1_owner_32 : decode cX1_owner 32 = .ok (.iload_n 3, 1) := by decide +kernel
theorem dX1_owner_33 : decode cX1_owner 33 = .ok (.ifCond .lt 32, 3) := by decide +kernel
theorem dX1_owner_36 : decode cX1_owner 36 = .ok (.aload_n 0, 1) := by decide +kernel
theorem dX1_owner_37 : decode cX1_owner 37 = .ok (.getfield 13, 3) := by decide +kernel
theorem dX1_owner_40 : decode cX1_owner 40 = .ok (.bipush 8, 2) := by decide +kernel
theorem dX1_owner_42 : decode cX1_owner 42 = .ok (.iload_n 3, 1) := by decide +kernel
theorem dX1_owner_43 : decode cX1_owner 43 = .ok (.imul, 1) := by decide +kernel
theorem dX1_owner_44 : decode cX1_owner 44 = .ok (.iload_n 2, 1) := by decide +kernel
theorem dX1_owner_45 : decode cX1_owner 45 = .ok (.iadd, 1) := by decide +kernel
theorem dX1_owner_46 : decode cX1_owner 46 = .ok (.iaload, 1) := by decide +kernel
theorem dX1_owner_47 : decode cX1_owner 47 = .ok (.ifCond .le 5, 3) := by decide +kernel
theorem dX1_owner_50 : decode cX1_owner 50 = .ok (.iload_n 3, 1) := by decide +kernel
theorem dX1_owner_51 : decode cX1_owner 51 = .ok (.ireturn, 1) := by decide +kernel
theorem dX1_owner_52 : decode cX1_owner 52 = .ok (.aload_n 0, 1) := by decide +kernel
theorem dX1_owner_53 : decode cX1_owner 53 = .ok (.getfield 7, 3) := by decide +kernel
theorem dX1_owner_56 : decode cX1_owner 56 = .ok (.iload_n 3, 1) := by decide +kernel
theorem dX1_owner_57 : decode cX1_owner 57 = .ok (.iaload, 1) := by decide +kernel
theorem dX1_owner_58 : decode cX1_owner 58 = .ok (.istore_n 3, 1) := by decide +kernel
theorem dX1_owner_59 : decode cX1_owner 59 = .ok (.iinc 4 1, 3) := by decide +kernel
theorem dX1_owner_62 : decode cX1_owner 62 = .ok (.goto (-37), 3) := by decide +kernel
theorem dX1_owner_65 : decode cX1_owner 65 = .ok (.iconst (-1), 1) := by decide +kernel
theorem dX1_owner_66 : decode cX1_owner 66 = .ok (.ireturn, 1) := by decide +kernel
abbrev cX1_sendSuper : ByteArray := prog_3_method_10_code
def yX1_sendSuper : MethodName := ⟨RX1, "sendSuper", "(II)I"⟩
theorem dX1_sendSuper_0 : decode cX1_sendSuper 0 = .ok (.aload_n 0, 1) := by decide +kernel
theorem dX1_sendSuper_1 : decode cX1_sendSuper 1 = .ok (.iload_n 1, 1) := by decide +kernel
theorem dX1_sendSuper_2 : decode cX1_sendSuper 2 = .ok (.invokevirtual 38, 3) := by decide +kernel
theorem dX1_sendSuper_5 : decode cX1_sendSuper 5 = .ok (.istore_n 3, 1) := by decide +kernel
theorem dX1_sendSuper_6 : decode cX1_sendSuper 6 = .ok (.aload_n 0, 1) := by decide +kernel
theorem dX1_sendSuper_7 : decode cX1_sendSuper 7 = .ok (.iload_n 3, 1) := by decide +kernel
theorem dX1_sendSuper_8 : decode cX1_sendSuper 8 = .ok (.iload_n 2, 1) := by decide +kernel
theorem dX1_sendSuper_9 : decode cX1_sendSuper 9 = .ok (.invokevirtual 42, 3) := by decide +kernel
theorem dX1_sendSuper_12 : decode cX1_sendSuper 12 = .ok (.ireturn, 1) := by decide +kernel
abbrev cX1_understands : ByteArray := prog_3_method_12_code
def yX1_understands : MethodName := ⟨RX1, "understands", "(I)I"⟩
theorem dX1_understands_0 : decode cX1_understands 0 = .ok (.iconst 0, 1) := by decide +kernel
theorem dX1_understands_1 : decode cX1_understands 1 = .ok (.istore_n 2, 1) := by decide +kernel
theorem dX1_understands_2 : decode cX1_understands 2 = .ok (.iconst 0, 1) := by decide +kernel
theorem dX1_understands_3 : decode cX1_understands 3 = .ok (.istore_n 3, 1) := by decide +kernel
theorem dX1_understands_4 : decode cX1_understands 4 = .ok (.iload_n 3, 1) := by decide +kernel
theorem dX1_understands_5 : decode cX1_understands 5 = .ok (.bipush 8, 2) := by decide +kernel
theorem dX1_understands_7 : decode cX1_understands 7 = .ok (.if_icmp .ge 28, 3) := by decide +kernel
theorem dX1_understands_10 : decode cX1_understands 10 = .ok (.iload_n 2, 1) := by decide +kernel
theorem dX1_understands_11 : decode cX1_understands 11 = .ok (.aload_n 0, 1) := by decide +kernel
theorem dX1_understands_12 : decode cX1_understands 12 = .ok (.iload_n 1, 1) := by decide +kernel
theorem dX1_understands_13 : decode cX1_understands 13 = .ok (.iload_n 3, 1) := by decide +kernel
theorem dX1_understands_14 : decode cX1_understands 14 = .ok (.invokevirtual 34, 3) := by decide +kernel
theorem dX1_understands_17 : decode cX1_understands 17 = .ok (.ifCond .lt 9, 3) := by decide +kernel
theorem dX1_understands_20 : decode cX1_understands 20 = .ok (.iconst 1, 1) := by decide +kernel
theorem dX1_understands_21 : decode cX1_understands 21 = .ok (.iload_n 3, 1) := by decide +kernel
theorem dX1_understands_22 : decode cX1_understands 22 = .ok (.ishl, 1) := by decide +kernel
theorem dX1_understands_23 : decode cX1_understands 23 = .ok (.goto 4, 3) := by decide +kernel
theorem dX1_understands_26 : decode cX1_understands 26 = .ok (.iconst 0, 1) := by decide +kernel
theorem dX1_understands_27 : decode cX1_understands 27 = .ok (.ior, 1) := by decide +kernel
theorem dX1_understands_28 : decode cX1_understands 28 = .ok (.istore_n 2, 1) := by decide +kernel
theorem dX1_understands_29 : decode cX1_understands 29 = .ok (.iinc 3 1, 3) := by decide +kernel
theorem dX1_understands_32 : decode cX1_understands 32 = .ok (.goto (-28), 3) := by decide +kernel
theorem dX1_understands_35 : decode cX1_understands 35 = .ok (.iload_n 2, 1) := by decide +kernel
theorem dX1_understands_36 : decode cX1_understands 36 = .ok (.ireturn, 1) := by decide +kernel
abbrev cX1_heirs : ByteArray := prog_3_method_13_code
def yX1_heirs : MethodName := ⟨RX1, "heirs", "(II)I"⟩
theorem dX1_heirs_0 : decode cX1_heirs 0 = .ok (.iconst 0, 1) := by decide +kernel
theorem dX1_heirs_1 : decode cX1_heirs 1 = .ok (.istore_n 3, 1) := by decide +kernel
theorem dX1_heirs_2 : decode cX1_heirs 2 = .ok (.iconst 0, 1) := by decide +kernel
theorem dX1_heirs_3 : decode cX1_heirs 3 = .ok (.istore 4, 2) := by decide +kernel
theorem dX1_heirs_5 : decode cX1_heirs 5 = .ok (.iload 4, 2) := by decide +kernel
theorem dX1_heirs_7 : decode cX1_heirs 7 = .ok (.aload_n 0, 1) := by decide +kernel
theorem dX1_heirs_8 : decode cX1_heirs 8 = .ok (.getfield 26, 3) := by decide +kernel
theorem dX1_heirs_11 : decode cX1_heirs 11 = .ok (.if_icmp .ge 39, 3) := by decide +kernel
theorem dX1_heirs_14 : decode cX1_heirs 14 = .ok (.aload_n 0, 1) := by decide +kernel
theorem dX1_heirs_15 : decode cX1_heirs 15 = .ok (.iload_n 1, 1) := by decide +kernel
theorem dX1_heirs_16 : decode cX1_heirs 16 = .ok (.invokevirtual 30, 3) := by decide +kernel
theorem dX1_heirs_19 : decode cX1_heirs 19 = .ok (.ifCond .eq 31, 3) := by decide +kernel
theorem dX1_heirs_22 : decode cX1_heirs 22 = .ok (.iload_n 3, 1) := by decide +kernel
theorem dX1_heirs_23 : decode cX1_heirs 23 = .ok (.aload_n 0, 1) := by decide +kernel
theorem dX1_heirs_24 : decode cX1_heirs 24 = .ok (.iload 4, 2) := by decide +kernel
theorem dX1_heirs_26 : decode cX1_heirs 26 = .ok (.iload_n 2, 1) := by decide +kernel
theorem dX1_heirs_27 : decode cX1_heirs 27 = .ok (.invokevirtual 34, 3) := by decide +kernel
theorem dX1_heirs_30 : decode cX1_heirs 30 = .ok (.iload_n 1, 1) := by decide +kernel
theorem dX1_heirs_31 : decode cX1_heirs 31 = .ok (.if_icmp .ne 10, 3) := by decide +kernel
theorem dX1_heirs_34 : decode cX1_heirs 34 = .ok (.iconst 1, 1) := by decide +kernel
theorem dX1_heirs_35 : decode cX1_heirs 35 = .ok (.iload 4, 2) := by decide +kernel
theorem dX1_heirs_37 : decode cX1_heirs 37 = .ok (.ishl, 1) := by decide +kernel
theorem dX1_heirs_38 : decode cX1_heirs 38 = .ok (.goto 4, 3) := by decide +kernel
theorem dX1_heirs_41 : decode cX1_heirs 41 = .ok (.iconst 0, 1) := by decide +kernel
theorem dX1_heirs_42 : decode cX1_heirs 42 = .ok (.ior, 1) := by decide +kernel
theorem dX1_heirs_43 : decode cX1_heirs 43 = .ok (.istore_n 3, 1) := by decide +kernel
theorem dX1_heirs_44 : decode cX1_heirs 44 = .ok (.iinc 4 1, 3) := by decide +kernel
theorem dX1_heirs_47 : decode cX1_heirs 47 = .ok (.goto (-42), 3) := by decide +kernel
theorem dX1_heirs_50 : decode cX1_heirs 50 = .ok (.iload_n 3, 1) := by decide +kernel
theorem dX1_heirs_51 : decode cX1_heirs 51 = .ok (.ireturn, 1) := by decide +kernel
abbrev cX1_apart : ByteArray := prog_3_method_15_code
def yX1_apart : MethodName := ⟨RX1, "apart", "(I)I"⟩
theorem dX1_apart_0 : decode cX1_apart 0 = .ok (.iload_n 1, 1) := by decide +kernel
theorem dX1_apart_1 : decode cX1_apart 1 = .ok (.ifCond .lt 9, 3) := by decide +kernel
theorem dX1_apart_4 : decode cX1_apart 4 = .ok (.iload_n 1, 1) := by decide +kernel
theorem dX1_apart_5 : decode cX1_apart 5 = .ok (.bipush 7, 2) := by decide +kernel
theorem dX1_apart_7 : decode cX1_apart 7 = .ok (.if_icmp .le 7, 3) := by decide +kernel
theorem dX1_apart_10 : decode cX1_apart 10 = .ok (.iconst 0, 1) := by decide +kernel
theorem dX1_apart_11 : decode cX1_apart 11 = .ok (.goto 20, 3) := by decide +kernel
theorem dX1_apart_14 : decode cX1_apart 14 = .ok (.sipush 255, 3) := by decide +kernel
theorem dX1_apart_17 : decode cX1_apart 17 = .ok (.aload_n 0, 1) := by decide +kernel
theorem dX1_apart_18 : decode cX1_apart 18 = .ok (.iload_n 1, 1) := by decide +kernel
theorem dX1_apart_19 : decode cX1_apart 19 = .ok (.invokevirtual 48, 3) := by decide +kernel
theorem dX1_apart_22 : decode cX1_apart 22 = .ok (.iconst (-1), 1) := by decide +kernel
theorem dX1_apart_23 : decode cX1_apart 23 = .ok (.ixor, 1) := by decide +kernel
theorem dX1_apart_24 : decode cX1_apart 24 = .ok (.iand, 1) := by decide +kernel
theorem dX1_apart_25 : decode cX1_apart 25 = .ok (.iconst 1, 1) := by decide +kernel
theorem dX1_apart_26 : decode cX1_apart 26 = .ok (.iload_n 1, 1) := by decide +kernel
theorem dX1_apart_27 : decode cX1_apart 27 = .ok (.ishl, 1) := by decide +kernel
theorem dX1_apart_28 : decode cX1_apart 28 = .ok (.iconst (-1), 1) := by decide +kernel
theorem dX1_apart_29 : decode cX1_apart 29 = .ok (.ixor, 1) := by decide +kernel
theorem dX1_apart_30 : decode cX1_apart 30 = .ok (.iand, 1) := by decide +kernel
theorem dX1_apart_31 : decode cX1_apart 31 = .ok (.ireturn, 1) := by decide +kernel
abbrev cX1_with : ByteArray := prog_3_method_14_code
def yX1_with : MethodName := ⟨RX1, "with", "(I)I"⟩
theorem dX1_with_0 : decode cX1_with 0 = .ok (.iconst 0, 1) := by decide +kernel
theorem dX1_with_1 : decode cX1_with 1 = .ok (.istore_n 2, 1) := by decide +kernel
theorem dX1_with_2 : decode cX1_with 2 = .ok (.iconst 0, 1) := by decide +kernel
theorem dX1_with_3 : decode cX1_with 3 = .ok (.istore_n 3, 1) := by decide +kernel
theorem dX1_with_4 : decode cX1_with 4 = .ok (.iload_n 3, 1) := by decide +kernel
theorem dX1_with_5 : decode cX1_with 5 = .ok (.aload_n 0, 1) := by decide +kernel
theorem dX1_with_6 : decode cX1_with 6 = .ok (.getfield 26, 3) := by decide +kernel
theorem dX1_with_9 : decode cX1_with 9 = .ok (.if_icmp .ge 35, 3) := by decide +kernel
theorem dX1_with_12 : decode cX1_with 12 = .ok (.aload_n 0, 1) := by decide +kernel
theorem dX1_with_13 : decode cX1_with 13 = .ok (.iload_n 3, 1) := by decide +kernel
theorem dX1_with_14 : decode cX1_with 14 = .ok (.invokevirtual 45, 3) := by decide +kernel
theorem dX1_with_17 : decode cX1_with 17 = .ok (.istore 4, 2) := by decide +kernel
theorem dX1_with_19 : decode cX1_with 19 = .ok (.iload 4, 2) := by decide +kernel
theorem dX1_with_21 : decode cX1_with 21 = .ok (.iload_n 1, 1) := by decide +kernel
theorem dX1_with_22 : decode cX1_with 22 = .ok (.ishr, 1) := by decide +kernel
theorem dX1_with_23 : decode cX1_with 23 = .ok (.iconst 1, 1) := by decide +kernel
theorem dX1_with_24 : decode cX1_with 24 = .ok (.iand, 1) := by decide +kernel
theorem dX1_with_25 : decode cX1_with 25 = .ok (.iconst 1, 1) := by decide +kernel
theorem dX1_with_26 : decode cX1_with 26 = .ok (.if_icmp .ne 10, 3) := by decide +kernel
theorem dX1_with_29 : decode cX1_with 29 = .ok (.iload_n 2, 1) := by decide +kernel
theorem dX1_with_30 : decode cX1_with 30 = .ok (.iload 4, 2) := by decide +kernel
theorem dX1_with_32 : decode cX1_with 32 = .ok (.ior, 1) := by decide +kernel
theorem dX1_with_33 : decode cX1_with 33 = .ok (.goto 4, 3) := by decide +kernel
theorem dX1_with_36 : decode cX1_with 36 = .ok (.iload_n 2, 1) := by decide +kernel
theorem dX1_with_37 : decode cX1_with 37 = .ok (.istore_n 2, 1) := by decide +kernel
theorem dX1_with_38 : decode cX1_with 38 = .ok (.iinc 3 1, 3) := by decide +kernel
theorem dX1_with_41 : decode cX1_with 41 = .ok (.goto (-37), 3) := by decide +kernel
theorem dX1_with_44 : decode cX1_with 44 = .ok (.iload_n 2, 1) := by decide +kernel
theorem dX1_with_45 : decode cX1_with 45 = .ok (.ireturn, 1) := by decide +kernel
abbrev cX1_crowd : ByteArray := prog_3_method_20_code
def yX1_crowd : MethodName := ⟨RX1, "crowd", "()I"⟩
theorem dX1_crowd_0 : decode cX1_crowd 0 = .ok (.aload_n 0, 1) := by decide +kernel
theorem dX1_crowd_1 : decode cX1_crowd 1 = .ok (.invokevirtual 51, 3) := by decide +kernel
theorem dX1_crowd_4 : decode cX1_crowd 4 = .ok (.iconst 0, 1) := by decide +kernel
theorem dX1_crowd_5 : decode cX1_crowd 5 = .ok (.istore_n 1, 1) := by decide +kernel
theorem dX1_crowd_6 : decode cX1_crowd 6 = .ok (.iconst 1, 1) := by decide +kernel
theorem dX1_crowd_7 : decode cX1_crowd 7 = .ok (.istore_n 2, 1) := by decide +kernel
theorem dX1_crowd_8 : decode cX1_crowd 8 = .ok (.iload_n 2, 1) := by decide +kernel
theorem dX1_crowd_9 : decode cX1_crowd 9 = .ok (.sipush 256, 3) := by decide +kernel
theorem dX1_crowd_12 : decode cX1_crowd 12 = .ok (.if_icmp .ge 30, 3) := by decide +kernel
theorem dX1_crowd_15 : decode cX1_crowd 15 = .ok (.aload_n 0, 1) := by decide +kernel
theorem dX1_crowd_16 : decode cX1_crowd 16 = .ok (.iload_n 2, 1) := by decide +kernel
theorem dX1_crowd_17 : decode cX1_crowd 17 = .ok (.invokevirtual 54, 3) := by decide +kernel
theorem dX1_crowd_20 : decode cX1_crowd 20 = .ok (.istore_n 3, 1) := by decide +kernel
theorem dX1_crowd_21 : decode cX1_crowd 21 = .ok (.iload_n 3, 1) := by decide +kernel
theorem dX1_crowd_22 : decode cX1_crowd 22 = .ok (.iload_n 1, 1) := by decide +kernel
theorem dX1_crowd_23 : decode cX1_crowd 23 = .ok (.if_icmp .le 13, 3) := by decide +kernel
theorem dX1_crowd_26 : decode cX1_crowd 26 = .ok (.aload_n 0, 1) := by decide +kernel
theorem dX1_crowd_27 : decode cX1_crowd 27 = .ok (.iload_n 2, 1) := by decide +kernel
theorem dX1_crowd_28 : decode cX1_crowd 28 = .ok (.invokevirtual 57, 3) := by decide +kernel
theorem dX1_crowd_31 : decode cX1_crowd 31 = .ok (.ifCond .eq 5, 3) := by decide +kernel
theorem dX1_crowd_34 : decode cX1_crowd 34 = .ok (.iload_n 3, 1) := by decide +kernel
theorem dX1_crowd_35 : decode cX1_crowd 35 = .ok (.istore_n 1, 1) := by decide +kernel
theorem dX1_crowd_36 : decode cX1_crowd 36 = .ok (.iinc 2 1, 3) := by decide +kernel
theorem dX1_crowd_39 : decode cX1_crowd 39 = .ok (.goto (-31), 3) := by decide +kernel
theorem dX1_crowd_42 : decode cX1_crowd 42 = .ok (.iload_n 1, 1) := by decide +kernel
theorem dX1_crowd_43 : decode cX1_crowd 43 = .ok (.ireturn, 1) := by decide +kernel
abbrev cX1_findMates : ByteArray := prog_3_method_16_code
def yX1_findMates : MethodName := ⟨RX1, "findMates", "()V"⟩
theorem dX1_findMates_0 : decode cX1_findMates 0 = .ok (.iconst 0, 1) := by decide +kernel
theorem dX1_findMates_1 : decode cX1_findMates 1 = .ok (.istore_n 1, 1) := by decide +kernel
theorem dX1_findMates_2 : decode cX1_findMates 2 = .ok (.iload_n 1, 1) := by decide +kernel
theorem dX1_findMates_3 : decode cX1_findMates 3 = .ok (.bipush 8, 2) := by decide +kernel
theorem dX1_findMates_5 : decode cX1_findMates 5 = .ok (.if_icmp .ge 20, 3) := by decide +kernel
theorem dX1_findMates_8 : decode cX1_findMates 8 = .ok (.aload_n 0, 1) := by decide +kernel
theorem dX1_findMates_9 : decode cX1_findMates 9 = .ok (.getfield 16, 3) := by decide +kernel
theorem dX1_findMates_12 : decode cX1_findMates 12 = .ok (.iload_n 1, 1) := by decide +kernel
theorem dX1_findMates_13 : decode cX1_findMates 13 = .ok (.aload_n 0, 1) := by decide +kernel
theorem dX1_findMates_14 : decode cX1_findMates 14 = .ok (.iload_n 1, 1) := by decide +kernel
theorem dX1_findMates_15 : decode cX1_findMates 15 = .ok (.invokevirtual 48, 3) := by decide +kernel
theorem dX1_findMates_18 : decode cX1_findMates 18 = .ok (.iastore, 1) := by decide +kernel
theorem dX1_findMates_19 : decode cX1_findMates 19 = .ok (.iinc 1 1, 3) := by decide +kernel
theorem dX1_findMates_22 : decode cX1_findMates 22 = .ok (.goto (-20), 3) := by decide +kernel
theorem dX1_findMates_25 : decode cX1_findMates 25 = .ok (.return_, 1) := by decide +kernel
abbrev cX1_sizeOf : ByteArray := prog_3_method_19_code
def yX1_sizeOf : MethodName := ⟨RX1, "sizeOf", "(I)I"⟩
theorem dX1_sizeOf_0 : decode cX1_sizeOf 0 = .ok (.iconst 0, 1) := by decide +kernel
theorem dX1_sizeOf_1 : decode cX1_sizeOf 1 = .ok (.istore_n 2, 1) := by decide +kernel
theorem dX1_sizeOf_2 : decode cX1_sizeOf 2 = .ok (.iconst 0, 1) := by decide +kernel
theorem dX1_sizeOf_3 : decode cX1_sizeOf 3 = .ok (.istore_n 3, 1) := by decide +kernel
theorem dX1_sizeOf_4 : decode cX1_sizeOf 4 = .ok (.iload_n 3, 1) := by decide +kernel
theorem dX1_sizeOf_5 : decode cX1_sizeOf 5 = .ok (.bipush 8, 2) := by decide +kernel
theorem dX1_sizeOf_7 : decode cX1_sizeOf 7 = .ok (.if_icmp .ge 17, 3) := by decide +kernel
theorem dX1_sizeOf_10 : decode cX1_sizeOf 10 = .ok (.iload_n 2, 1) := by decide +kernel
theorem dX1_sizeOf_11 : decode cX1_sizeOf 11 = .ok (.iload_n 1, 1) := by decide +kernel
theorem dX1_sizeOf_12 : decode cX1_sizeOf 12 = .ok (.iload_n 3, 1) := by decide +kernel
theorem dX1_sizeOf_13 : decode cX1_sizeOf 13 = .ok (.ishr, 1) := by decide +kernel
theorem dX1_sizeOf_14 : decode cX1_sizeOf 14 = .ok (.iconst 1, 1) := by decide +kernel
theorem dX1_sizeOf_15 : decode cX1_sizeOf 15 = .ok (.iand, 1) := by decide +kernel
theorem dX1_sizeOf_16 : decode cX1_sizeOf 16 = .ok (.iadd, 1) := by decide +kernel
theorem dX1_sizeOf_17 : decode cX1_sizeOf 17 = .ok (.istore_n 2, 1) := by decide +kernel
theorem dX1_sizeOf_18 : decode cX1_sizeOf 18 = .ok (.iinc 3 1, 3) := by decide +kernel
theorem dX1_sizeOf_21 : decode cX1_sizeOf 21 = .ok (.goto (-17), 3) := by decide +kernel
theorem dX1_sizeOf_24 : decode cX1_sizeOf 24 = .ok (.iload_n 2, 1) := by decide +kernel
theorem dX1_sizeOf_25 : decode cX1_sizeOf 25 = .ok (.ireturn, 1) := by decide +kernel
abbrev cX1_together : ByteArray := prog_3_method_17_code
def yX1_together : MethodName := ⟨RX1, "together", "(I)Z"⟩
theorem dX1_together_0 : decode cX1_together 0 = .ok (.iconst 1, 1) := by decide +kernel
theorem dX1_together_1 : decode cX1_together 1 = .ok (.istore_n 2, 1) := by decide +kernel
theorem dX1_together_2 : decode cX1_together 2 = .ok (.iconst 0, 1) := by decide +kernel
theorem dX1_together_3 : decode cX1_together 3 = .ok (.istore_n 3, 1) := by decide +kernel
theorem dX1_together_4 : decode cX1_together 4 = .ok (.iload_n 3, 1) := by decide +kernel
theorem dX1_together_5 : decode cX1_together 5 = .ok (.bipush 8, 2) := by decide +kernel
theorem dX1_together_7 : decode cX1_together 7 = .ok (.if_icmp .ge 41, 3) := by decide +kernel
theorem dX1_together_10 : decode cX1_together 10 = .ok (.iload_n 1, 1) := by decide +kernel
theorem dX1_together_11 : decode cX1_together 11 = .ok (.iload_n 3, 1) := by decide +kernel
theorem dX1_together_12 : decode cX1_together 12 = .ok (.ishr, 1) := by decide +kernel
theorem dX1_together_13 : decode cX1_together 13 = .ok (.iconst 1, 1) := by decide +kernel
theorem dX1_together_14 : decode cX1_together 14 = .ok (.iand, 1) := by decide +kernel
theorem dX1_together_15 : decode cX1_together 15 = .ok (.iconst 1, 1) := by decide +kernel
theorem dX1_together_16 : decode cX1_together 16 = .ok (.if_icmp .ne 26, 3) := by decide +kernel
theorem dX1_together_19 : decode cX1_together 19 = .ok (.iload_n 2, 1) := by decide +kernel
theorem dX1_together_20 : decode cX1_together 20 = .ok (.ifCond .eq 20, 3) := by decide +kernel
theorem dX1_together_23 : decode cX1_together 23 = .ok (.iload_n 1, 1) := by decide +kernel
theorem dX1_together_24 : decode cX1_together 24 = .ok (.aload_n 0, 1) := by decide +kernel
theorem dX1_together_25 : decode cX1_together 25 = .ok (.getfield 16, 3) := by decide +kernel
theorem dX1_together_28 : decode cX1_together 28 = .ok (.iload_n 3, 1) := by decide +kernel
theorem dX1_together_29 : decode cX1_together 29 = .ok (.iaload, 1) := by decide +kernel
theorem dX1_together_30 : decode cX1_together 30 = .ok (.iconst (-1), 1) := by decide +kernel
theorem dX1_together_31 : decode cX1_together 31 = .ok (.ixor, 1) := by decide +kernel
theorem dX1_together_32 : decode cX1_together 32 = .ok (.iand, 1) := by decide +kernel
theorem dX1_together_33 : decode cX1_together 33 = .ok (.ifCond .ne 7, 3) := by decide +kernel
theorem dX1_together_36 : decode cX1_together 36 = .ok (.iconst 1, 1) := by decide +kernel
theorem dX1_together_37 : decode cX1_together 37 = .ok (.goto 4, 3) := by decide +kernel
theorem dX1_together_40 : decode cX1_together 40 = .ok (.iconst 0, 1) := by decide +kernel
theorem dX1_together_41 : decode cX1_together 41 = .ok (.istore_n 2, 1) := by decide +kernel
theorem dX1_together_42 : decode cX1_together 42 = .ok (.iinc 3 1, 3) := by decide +kernel
theorem dX1_together_45 : decode cX1_together 45 = .ok (.goto (-41), 3) := by decide +kernel
theorem dX1_together_48 : decode cX1_together 48 = .ok (.iload_n 2, 1) := by decide +kernel
theorem dX1_together_49 : decode cX1_together 49 = .ok (.ireturn, 1) := by decide +kernel
abbrev cX1_colours : ByteArray := prog_3_method_21_code
def yX1_colours : MethodName := ⟨RX1, "colours", "()I"⟩
theorem dX1_colours_0 : decode cX1_colours 0 = .ok (.aload_n 0, 1) := by decide +kernel
theorem dX1_colours_1 : decode cX1_colours 1 = .ok (.invokevirtual 51, 3) := by decide +kernel
theorem dX1_colours_4 : decode cX1_colours 4 = .ok (.iconst 0, 1) := by decide +kernel
theorem dX1_colours_5 : decode cX1_colours 5 = .ok (.istore_n 1, 1) := by decide +kernel
theorem dX1_colours_6 : decode cX1_colours 6 = .ok (.iconst 0, 1) := by decide +kernel
theorem dX1_colours_7 : decode cX1_colours 7 = .ok (.istore_n 2, 1) := by decide +kernel
theorem dX1_colours_8 : decode cX1_colours 8 = .ok (.iload_n 2, 1) := by decide +kernel
theorem dX1_colours_9 : decode cX1_colours 9 = .ok (.bipush 8, 2) := by decide +kernel
theorem dX1_colours_11 : decode cX1_colours 11 = .ok (.if_icmp .ge 18, 3) := by decide +kernel
theorem dX1_colours_14 : decode cX1_colours 14 = .ok (.iload_n 1, 1) := by decide +kernel
theorem dX1_colours_15 : decode cX1_colours 15 = .ok (.aload_n 0, 1) := by decide +kernel
theorem dX1_colours_16 : decode cX1_colours 16 = .ok (.getfield 16, 3) := by decide +kernel
theorem dX1_colours_19 : decode cX1_colours 19 = .ok (.iload_n 2, 1) := by decide +kernel
theorem dX1_colours_20 : decode cX1_colours 20 = .ok (.iaload, 1) := by decide +kernel
theorem dX1_colours_21 : decode cX1_colours 21 = .ok (.ior, 1) := by decide +kernel
theorem dX1_colours_22 : decode cX1_colours 22 = .ok (.istore_n 1, 1) := by decide +kernel
theorem dX1_colours_23 : decode cX1_colours 23 = .ok (.iinc 2 1, 3) := by decide +kernel
theorem dX1_colours_26 : decode cX1_colours 26 = .ok (.goto (-18), 3) := by decide +kernel
theorem dX1_colours_29 : decode cX1_colours 29 = .ok (.iconst 0, 1) := by decide +kernel
theorem dX1_colours_30 : decode cX1_colours 30 = .ok (.istore_n 2, 1) := by decide +kernel
theorem dX1_colours_31 : decode cX1_colours 31 = .ok (.iload_n 2, 1) := by decide +kernel
theorem dX1_colours_32 : decode cX1_colours 32 = .ok (.sipush 256, 3) := by decide +kernel
theorem dX1_colours_35 : decode cX1_colours 35 = .ok (.if_icmp .ge 36, 3) := by decide +kernel
theorem dX1_colours_38 : decode cX1_colours 38 = .ok (.aload_n 0, 1) := by decide +kernel
theorem dX1_colours_39 : decode cX1_colours 39 = .ok (.getfield 19, 3) := by decide +kernel
theorem dX1_colours_42 : decode cX1_colours 42 = .ok (.iload_n 2, 1) := by decide +kernel
theorem dX1_colours_43 : decode cX1_colours 43 = .ok (.aload_n 0, 1) := by decide +kernel
theorem dX1_colours_44 : decode cX1_colours 44 = .ok (.iload_n 2, 1) := by decide +kernel
theorem dX1_colours_45 : decode cX1_colours 45 = .ok (.invokevirtual 60, 3) := by decide +kernel
theorem dX1_colours_48 : decode cX1_colours 48 = .ok (.bastore, 1) := by decide +kernel
theorem dX1_colours_49 : decode cX1_colours 49 = .ok (.aload_n 0, 1) := by decide +kernel
theorem dX1_colours_50 : decode cX1_colours 50 = .ok (.getfield 23, 3) := by decide +kernel
theorem dX1_colours_53 : decode cX1_colours 53 = .ok (.iload_n 2, 1) := by decide +kernel
theorem dX1_colours_54 : decode cX1_colours 54 = .ok (.iload_n 2, 1) := by decide +kernel
theorem dX1_colours_55 : decode cX1_colours 55 = .ok (.ifCond .ne 7, 3) := by decide +kernel
theorem dX1_colours_58 : decode cX1_colours 58 = .ok (.iconst 0, 1) := by decide +kernel
theorem dX1_colours_59 : decode cX1_colours 59 = .ok (.goto 5, 3) := by decide +kernel
theorem dX1_colours_62 : decode cX1_colours 62 = .ok (.bipush 8, 2) := by decide +kernel
theorem dX1_colours_64 : decode cX1_colours 64 = .ok (.iastore, 1) := by decide +kernel
theorem dX1_colours_65 : decode cX1_colours 65 = .ok (.iinc 2 1, 3) := by decide +kernel
theorem dX1_colours_68 : decode cX1_colours 68 = .ok (.goto (-37), 3) := by decide +kernel
theorem dX1_colours_71 : decode cX1_colours 71 = .ok (.iconst 1, 1) := by decide +kernel
theorem dX1_colours_72 : decode cX1_colours 72 = .ok (.istore_n 2, 1) := by decide +kernel
theorem dX1_colours_73 : decode cX1_colours 73 = .ok (.iload_n 2, 1) := by decide +kernel
theorem dX1_colours_74 : decode cX1_colours 74 = .ok (.sipush 256, 3) := by decide +kernel
theorem dX1_colours_77 : decode cX1_colours 77 = .ok (.if_icmp .ge 89, 3) := by decide +kernel
theorem dX1_colours_80 : decode cX1_colours 80 = .ok (.iconst 1, 1) := by decide +kernel
theorem dX1_colours_81 : decode cX1_colours 81 = .ok (.istore_n 3, 1) := by decide +kernel
theorem dX1_colours_82 : decode cX1_colours 82 = .ok (.iload_n 3, 1) := by decide +kernel
theorem dX1_colours_83 : decode cX1_colours 83 = .ok (.iload_n 2, 1) := by decide +kernel
theorem dX1_colours_84 : decode cX1_colours 84 = .ok (.if_icmp .gt 76, 3) := by decide +kernel
theorem dX1_colours_87 : decode cX1_colours 87 = .ok (.iload_n 2, 1) := by decide +kernel
theorem dX1_colours_88 : decode cX1_colours 88 = .ok (.iload_n 1, 1) := by decide +kernel
theorem dX1_colours_89 : decode cX1_colours 89 = .ok (.iconst (-1), 1) := by decide +kernel
theorem dX1_colours_90 : decode cX1_colours 90 = .ok (.ixor, 1) := by decide +kernel
theorem dX1_colours_91 : decode cX1_colours 91 = .ok (.iand, 1) := by decide +kernel
theorem dX1_colours_92 : decode cX1_colours 92 = .ok (.ifCond .ne 68, 3) := by decide +kernel
theorem dX1_colours_95 : decode cX1_colours 95 = .ok (.iload_n 3, 1) := by decide +kernel
theorem dX1_colours_96 : decode cX1_colours 96 = .ok (.iload_n 2, 1) := by decide +kernel
theorem dX1_colours_97 : decode cX1_colours 97 = .ok (.iconst (-1), 1) := by decide +kernel
theorem dX1_colours_98 : decode cX1_colours 98 = .ok (.ixor, 1) := by decide +kernel
theorem dX1_colours_99 : decode cX1_colours 99 = .ok (.iand, 1) := by decide +kernel
theorem dX1_colours_100 : decode cX1_colours 100 = .ok (.ifCond .ne 54, 3) := by decide +kernel
theorem dX1_colours_103 : decode cX1_colours 103 = .ok (.aload_n 0, 1) := by decide +kernel
theorem dX1_colours_104 : decode cX1_colours 104 = .ok (.getfield 19, 3) := by decide +kernel
theorem dX1_colours_107 : decode cX1_colours 107 = .ok (.iload_n 3, 1) := by decide +kernel
theorem dX1_colours_108 : decode cX1_colours 108 = .ok (.baload, 1) := by decide +kernel
theorem dX1_colours_109 : decode cX1_colours 109 = .ok (.ifCond .eq 45, 3) := by decide +kernel
theorem dX1_colours_112 : decode cX1_colours 112 = .ok (.aload_n 0, 1) := by decide +kernel
theorem dX1_colours_113 : decode cX1_colours 113 = .ok (.getfield 23, 3) := by decide +kernel
theorem dX1_colours_116 : decode cX1_colours 116 = .ok (.iload_n 2, 1) := by decide +kernel
theorem dX1_colours_117 : decode cX1_colours 117 = .ok (.iload_n 3, 1) := by decide +kernel
theorem dX1_colours_118 : decode cX1_colours 118 = .ok (.iconst (-1), 1) := by decide +kernel
theorem dX1_colours_119 : decode cX1_colours 119 = .ok (.ixor, 1) := by decide +kernel
theorem dX1_colours_120 : decode cX1_colours 120 = .ok (.iand, 1) := by decide +kernel
theorem dX1_colours_121 : decode cX1_colours 121 = .ok (.iaload, 1) := by decide +kernel
theorem dX1_colours_122 : decode cX1_colours 122 = .ok (.iconst 1, 1) := by decide +kernel
theorem dX1_colours_123 : decode cX1_colours 123 = .ok (.iadd, 1) := by decide +kernel
theorem dX1_colours_124 : decode cX1_colours 124 = .ok (.istore 4, 2) := by decide +kernel
theorem dX1_colours_126 : decode cX1_colours 126 = .ok (.aload_n 0, 1) := by decide +kernel
theorem dX1_colours_127 : decode cX1_colours 127 = .ok (.getfield 23, 3) := by decide +kernel
theorem dX1_colours_130 : decode cX1_colours 130 = .ok (.iload_n 2, 1) := by decide +kernel
theorem dX1_colours_131 : decode cX1_colours 131 = .ok (.iload 4, 2) := by decide +kernel
theorem dX1_colours_133 : decode cX1_colours 133 = .ok (.aload_n 0, 1) := by decide +kernel
theorem dX1_colours_134 : decode cX1_colours 134 = .ok (.getfield 23, 3) := by decide +kernel
theorem dX1_colours_137 : decode cX1_colours 137 = .ok (.iload_n 2, 1) := by decide +kernel
theorem dX1_colours_138 : decode cX1_colours 138 = .ok (.iaload, 1) := by decide +kernel
theorem dX1_colours_139 : decode cX1_colours 139 = .ok (.if_icmp .ge 8, 3) := by decide +kernel
theorem dX1_colours_142 : decode cX1_colours 142 = .ok (.iload 4, 2) := by decide +kernel
theorem dX1_colours_144 : decode cX1_colours 144 = .ok (.goto 9, 3) := by decide +kernel
theorem dX1_colours_147 : decode cX1_colours 147 = .ok (.aload_n 0, 1) := by decide +kernel
theorem dX1_colours_148 : decode cX1_colours 148 = .ok (.getfield 23, 3) := by decide +kernel
theorem dX1_colours_151 : decode cX1_colours 151 = .ok (.iload_n 2, 1) := by decide +kernel
theorem dX1_colours_152 : decode cX1_colours 152 = .ok (.iaload, 1) := by decide +kernel
theorem dX1_colours_153 : decode cX1_colours 153 = .ok (.iastore, 1) := by decide +kernel
theorem dX1_colours_154 : decode cX1_colours 154 = .ok (.iinc 3 1, 3) := by decide +kernel
theorem dX1_colours_157 : decode cX1_colours 157 = .ok (.goto (-75), 3) := by decide +kernel
theorem dX1_colours_160 : decode cX1_colours 160 = .ok (.iinc 2 1, 3) := by decide +kernel
theorem dX1_colours_163 : decode cX1_colours 163 = .ok (.goto (-90), 3) := by decide +kernel
theorem dX1_colours_166 : decode cX1_colours 166 = .ok (.aload_n 0, 1) := by decide +kernel
theorem dX1_colours_167 : decode cX1_colours 167 = .ok (.getfield 23, 3) := by decide +kernel
theorem dX1_colours_170 : decode cX1_colours 170 = .ok (.iload_n 1, 1) := by decide +kernel
theorem dX1_colours_171 : decode cX1_colours 171 = .ok (.iaload, 1) := by decide +kernel
theorem dX1_colours_172 : decode cX1_colours 172 = .ok (.ireturn, 1) := by decide +kernel
abbrev cX1_strangers : ByteArray := prog_3_method_18_code
def yX1_strangers : MethodName := ⟨RX1, "strangers", "(I)Z"⟩
theorem dX1_strangers_0 : decode cX1_strangers 0 = .ok (.iconst 1, 1) := by decide +kernel
theorem dX1_strangers_1 : decode cX1_strangers 1 = .ok (.istore_n 2, 1) := by decide +kernel
theorem dX1_strangers_2 : decode cX1_strangers 2 = .ok (.iconst 0, 1) := by decide +kernel
theorem dX1_strangers_3 : decode cX1_strangers 3 = .ok (.istore_n 3, 1) := by decide +kernel
theorem dX1_strangers_4 : decode cX1_strangers 4 = .ok (.iload_n 3, 1) := by decide +kernel
theorem dX1_strangers_5 : decode cX1_strangers 5 = .ok (.bipush 8, 2) := by decide +kernel
theorem dX1_strangers_7 : decode cX1_strangers 7 = .ok (.if_icmp .ge 45, 3) := by decide +kernel
theorem dX1_strangers_10 : decode cX1_strangers 10 = .ok (.iload_n 1, 1) := by decide +kernel
theorem dX1_strangers_11 : decode cX1_strangers 11 = .ok (.iload_n 3, 1) := by decide +kernel
theorem dX1_strangers_12 : decode cX1_strangers 12 = .ok (.ishr, 1) := by decide +kernel
theorem dX1_strangers_13 : decode cX1_strangers 13 = .ok (.iconst 1, 1) := by decide +kernel
theorem dX1_strangers_14 : decode cX1_strangers 14 = .ok (.iand, 1) := by decide +kernel
theorem dX1_strangers_15 : decode cX1_strangers 15 = .ok (.iconst 1, 1) := by decide +kernel
theorem dX1_strangers_16 : decode cX1_strangers 16 = .ok (.if_icmp .ne 30, 3) := by decide +kernel
theorem dX1_strangers_19 : decode cX1_strangers 19 = .ok (.iload_n 2, 1) := by decide +kernel
theorem dX1_strangers_20 : decode cX1_strangers 20 = .ok (.ifCond .eq 24, 3) := by decide +kernel
theorem dX1_strangers_23 : decode cX1_strangers 23 = .ok (.iload_n 1, 1) := by decide +kernel
theorem dX1_strangers_24 : decode cX1_strangers 24 = .ok (.aload_n 0, 1) := by decide +kernel
theorem dX1_strangers_25 : decode cX1_strangers 25 = .ok (.getfield 16, 3) := by decide +kernel
theorem dX1_strangers_28 : decode cX1_strangers 28 = .ok (.iload_n 3, 1) := by decide +kernel
theorem dX1_strangers_29 : decode cX1_strangers 29 = .ok (.iaload, 1) := by decide +kernel
theorem dX1_strangers_30 : decode cX1_strangers 30 = .ok (.iand, 1) := by decide +kernel
theorem dX1_strangers_31 : decode cX1_strangers 31 = .ok (.iconst 1, 1) := by decide +kernel
theorem dX1_strangers_32 : decode cX1_strangers 32 = .ok (.iload_n 3, 1) := by decide +kernel
theorem dX1_strangers_33 : decode cX1_strangers 33 = .ok (.ishl, 1) := by decide +kernel
theorem dX1_strangers_34 : decode cX1_strangers 34 = .ok (.iconst (-1), 1) := by decide +kernel
theorem dX1_strangers_35 : decode cX1_strangers 35 = .ok (.ixor, 1) := by decide +kernel
theorem dX1_strangers_36 : decode cX1_strangers 36 = .ok (.iand, 1) := by decide +kernel
theorem dX1_strangers_37 : decode cX1_strangers 37 = .ok (.ifCond .ne 7, 3) := by decide +kernel
theorem dX1_strangers_40 : decode cX1_strangers 40 = .ok (.iconst 1, 1) := by decide +kernel
theorem dX1_strangers_41 : decode cX1_strangers 41 = .ok (.goto 4, 3) := by decide +kernel
theorem dX1_strangers_44 : decode cX1_strangers 44 = .ok (.iconst 0, 1) := by decide +kernel
theorem dX1_strangers_45 : decode cX1_strangers 45 = .ok (.istore_n 2, 1) := by decide +kernel
theorem dX1_strangers_46 : decode cX1_strangers 46 = .ok (.iinc 3 1, 3) := by decide +kernel
theorem dX1_strangers_49 : decode cX1_strangers 49 = .ok (.goto (-45), 3) := by decide +kernel
theorem dX1_strangers_52 : decode cX1_strangers 52 = .ok (.iload_n 2, 1) := by decide +kernel
theorem dX1_strangers_53 : decode cX1_strangers 53 = .ok (.ireturn, 1) := by decide +kernel
theorem q25 : (Jvm.Cond.initialized "SendTableModel") ∈ lw_all := lw_g (lw_at lw_m1 2 rfl) rfl
theorem q224 : (Jvm.Cond.instantiable "SendTableModel" (6 : Nat)) ∈ lw_all := lw_g (lw_at lw_m1 201 rfl) rfl
theorem q226 : (Jvm.Cond.instanceMethod ({ cls := "SendTableModel", name := "<init>", desc := "()V" } : Jvm.MethodName)) ∈ lw_all := lw_g (lw_at lw_m1 203 rfl) rfl
theorem q227 : (Jvm.Cond.code ({ cls := "SendTableModel", name := "<init>", desc := "()V" } : Jvm.MethodName) prog_3_method_1_code (1 : Nat) (Option.none : Option Jvm.ClassFile.FieldType)) ∈ lw_all := lw_g (lw_at lw_m1 204 rfl) rfl
theorem q228 : (Jvm.Cond.methodLink "SendTableModel" (1 : Nat) ({ cls := "java/lang/Object", name := "<init>", desc := "()V" } : Jvm.MethodName)) ∈ lw_all := lw_g (lw_at lw_m1 205 rfl) rfl
theorem q229 : (Jvm.Cond.fieldLink "SendTableModel" (26 : Nat) "SendTableModel" "count" "I") ∈ lw_all := lw_g (lw_at lw_m1 206 rfl) rfl
theorem q230 : (Jvm.Cond.fieldLink "SendTableModel" (7 : Nat) "SendTableModel" "up" "[I") ∈ lw_all := lw_g (lw_at lw_m1 207 rfl) rfl
theorem q231 : (Jvm.Cond.fieldLink "SendTableModel" (13 : Nat) "SendTableModel" "own" "[I") ∈ lw_all := lw_g (lw_at lw_m1 208 rfl) rfl
theorem q232 : (Jvm.Cond.fieldLink "SendTableModel" (16 : Nat) "SendTableModel" "mates" "[I") ∈ lw_all := lw_g (lw_at lw_m1 209 rfl) rfl
theorem q233 : (Jvm.Cond.fieldLink "SendTableModel" (19 : Nat) "SendTableModel" "alone" "[Z") ∈ lw_all := lw_g (lw_at lw_m1 210 rfl) rfl
theorem q234 : (Jvm.Cond.fieldLink "SendTableModel" (23 : Nat) "SendTableModel" "least" "[I") ∈ lw_all := lw_g (lw_at lw_m1 211 rfl) rfl
theorem q235 : (Jvm.Cond.lays "SendTableModel" "SendTableModel" "count" "I") ∈ lw_all := lw_g (lw_at lw_m1 212 rfl) rfl
theorem q236 : (Jvm.Cond.soleField "SendTableModel" "count") ∈ lw_all := lw_g (lw_at lw_m1 213 rfl) rfl
theorem q237 : (Jvm.Cond.lays "SendTableModel" "SendTableModel" "up" "[I") ∈ lw_all := lw_g (lw_at lw_m1 214 rfl) rfl
theorem q238 : (Jvm.Cond.soleField "SendTableModel" "up") ∈ lw_all := lw_g (lw_at lw_m1 215 rfl) rfl
theorem q239 : (Jvm.Cond.lays "SendTableModel" "SendTableModel" "own" "[I") ∈ lw_all := lw_g (lw_at lw_m1 216 rfl) rfl
theorem q240 : (Jvm.Cond.soleField "SendTableModel" "own") ∈ lw_all := lw_g (lw_at lw_m1 217 rfl) rfl
theorem q241 : (Jvm.Cond.lays "SendTableModel" "SendTableModel" "mates" "[I") ∈ lw_all := lw_g (lw_at lw_m1 218 rfl) rfl
theorem q242 : (Jvm.Cond.soleField "SendTableModel" "mates") ∈ lw_all := lw_g (lw_at lw_m1 219 rfl) rfl
theorem q243 : (Jvm.Cond.lays "SendTableModel" "SendTableModel" "alone" "[Z") ∈ lw_all := lw_g (lw_at lw_m1 220 rfl) rfl
theorem q244 : (Jvm.Cond.soleField "SendTableModel" "alone") ∈ lw_all := lw_g (lw_at lw_m1 221 rfl) rfl
theorem q245 : (Jvm.Cond.lays "SendTableModel" "SendTableModel" "least" "[I") ∈ lw_all := lw_g (lw_at lw_m1 222 rfl) rfl
theorem q246 : (Jvm.Cond.soleField "SendTableModel" "least") ∈ lw_all := lw_g (lw_at lw_m1 223 rfl) rfl
theorem q247 : (Jvm.Cond.superclass "SendTableModel" "java/lang/Object") ∈ lw_all := lw_g (lw_at lw_m1 224 rfl) rfl
theorem q251 : (Jvm.Cond.instanceMethod ({ cls := "SendTableModel", name := "addClass", desc := "(I)I" } : Jvm.MethodName)) ∈ lw_all := lw_g (lw_at lw_m1 228 rfl) rfl
theorem q252 : (Jvm.Cond.selects "SendTableModel" ({ cls := "SendTableModel", name := "addClass", desc := "(I)I" } : Jvm.MethodName) ({ cls := "SendTableModel", name := "addClass", desc := "(I)I" } : Jvm.MethodName)) ∈ lw_all := lw_g (lw_at lw_m1 229 rfl) rfl
theorem q253 : (Jvm.Cond.code ({ cls := "SendTableModel", name := "addClass", desc := "(I)I" } : Jvm.MethodName) prog_3_method_3_code (2 : Nat) (Option.some Jvm.ClassFile.FieldType.int)) ∈ lw_all := lw_g (lw_at lw_m1 230 rfl) rfl
theorem q254 : (Jvm.Cond.methodLink "SendTableModel" (30 : Nat) ({ cls := "SendTableModel", name := "is", desc := "(I)Z" } : Jvm.MethodName)) ∈ lw_all := lw_g (lw_at lw_m1 231 rfl) rfl
theorem q255 : (Jvm.Cond.privateMethod ({ cls := "SendTableModel", name := "is", desc := "(I)Z" } : Jvm.MethodName)) ∈ lw_tbl := lw_at lw_m1 232 rfl
theorem q256 : (Jvm.Cond.instanceMethod ({ cls := "SendTableModel", name := "is", desc := "(I)Z" } : Jvm.MethodName)) ∈ lw_all := lw_g (lw_at lw_m1 233 rfl) rfl
theorem q257 : (Jvm.Cond.code ({ cls := "SendTableModel", name := "is", desc := "(I)Z" } : Jvm.MethodName) prog_3_method_2_code (2 : Nat) (Option.some Jvm.ClassFile.FieldType.boolean)) ∈ lw_all := lw_g (lw_at lw_m1 234 rfl) rfl
theorem q259 : (Jvm.Cond.instanceMethod ({ cls := "SendTableModel", name := "define", desc := "(III)Z" } : Jvm.MethodName)) ∈ lw_all := lw_g (lw_at lw_m1 236 rfl) rfl
theorem q260 : (Jvm.Cond.selects "SendTableModel" ({ cls := "SendTableModel", name := "define", desc := "(III)Z" } : Jvm.MethodName) ({ cls := "SendTableModel", name := "define", desc := "(III)Z" } : Jvm.MethodName)) ∈ lw_all := lw_g (lw_at lw_m1 237 rfl) rfl
theorem q261 : (Jvm.Cond.code ({ cls := "SendTableModel", name := "define", desc := "(III)Z" } : Jvm.MethodName) prog_3_method_4_code (4 : Nat) (Option.some Jvm.ClassFile.FieldType.boolean)) ∈ lw_all := lw_g (lw_at lw_m1 238 rfl) rfl
theorem q263 : (Jvm.Cond.instanceMethod ({ cls := "SendTableModel", name := "drop", desc := "(II)Z" } : Jvm.MethodName)) ∈ lw_all := lw_g (lw_at lw_m2 0 rfl) rfl
theorem q264 : (Jvm.Cond.selects "SendTableModel" ({ cls := "SendTableModel", name := "drop", desc := "(II)Z" } : Jvm.MethodName) ({ cls := "SendTableModel", name := "drop", desc := "(II)Z" } : Jvm.MethodName)) ∈ lw_all := lw_g (lw_at lw_m2 1 rfl) rfl
theorem q265 : (Jvm.Cond.code ({ cls := "SendTableModel", name := "drop", desc := "(II)Z" } : Jvm.MethodName) prog_3_method_5_code (3 : Nat) (Option.some Jvm.ClassFile.FieldType.boolean)) ∈ lw_all := lw_g (lw_at lw_m2 2 rfl) rfl
theorem q267 : (Jvm.Cond.instanceMethod ({ cls := "SendTableModel", name := "move", desc := "(II)Z" } : Jvm.MethodName)) ∈ lw_all := lw_g (lw_at lw_m2 4 rfl) rfl
theorem q268 : (Jvm.Cond.selects "SendTableModel" ({ cls := "SendTableModel", name := "move", desc := "(II)Z" } : Jvm.MethodName) ({ cls := "SendTableModel", name := "move", desc := "(II)Z" } : Jvm.MethodName)) ∈ lw_all := lw_g (lw_at lw_m2 5 rfl) rfl
theorem q269 : (Jvm.Cond.code ({ cls := "SendTableModel", name := "move", desc := "(II)Z" } : Jvm.MethodName) prog_3_method_6_code (5 : Nat) (Option.some Jvm.ClassFile.FieldType.boolean)) ∈ lw_all := lw_g (lw_at lw_m2 6 rfl) rfl
theorem q271 : (Jvm.Cond.instanceMethod ({ cls := "SendTableModel", name := "classes", desc := "()I" } : Jvm.MethodName)) ∈ lw_all := lw_g (lw_at lw_m2 8 rfl) rfl
theorem q272 : (Jvm.Cond.selects "SendTableModel" ({ cls := "SendTableModel", name := "classes", desc := "()I" } : Jvm.MethodName) ({ cls := "SendTableModel", name := "classes", desc := "()I" } : Jvm.MethodName)) ∈ lw_all := lw_g (lw_at lw_m2 9 rfl) rfl
theorem q273 : (Jvm.Cond.code ({ cls := "SendTableModel", name := "classes", desc := "()I" } : Jvm.MethodName) prog_3_method_7_code (1 : Nat) (Option.some Jvm.ClassFile.FieldType.int)) ∈ lw_all := lw_g (lw_at lw_m2 10 rfl) rfl
theorem q275 : (Jvm.Cond.instanceMethod ({ cls := "SendTableModel", name := "parent", desc := "(I)I" } : Jvm.MethodName)) ∈ lw_all := lw_g (lw_at lw_m2 12 rfl) rfl
theorem q276 : (Jvm.Cond.selects "SendTableModel" ({ cls := "SendTableModel", name := "parent", desc := "(I)I" } : Jvm.MethodName) ({ cls := "SendTableModel", name := "parent", desc := "(I)I" } : Jvm.MethodName)) ∈ lw_all := lw_g (lw_at lw_m2 13 rfl) rfl
theorem q277 : (Jvm.Cond.code ({ cls := "SendTableModel", name := "parent", desc := "(I)I" } : Jvm.MethodName) prog_3_method_8_code (2 : Nat) (Option.some Jvm.ClassFile.FieldType.int)) ∈ lw_all := lw_g (lw_at lw_m2 14 rfl) rfl
theorem q279 : (Jvm.Cond.instanceMethod ({ cls := "SendTableModel", name := "send", desc := "(II)I" } : Jvm.MethodName)) ∈ lw_all := lw_g (lw_at lw_m2 16 rfl) rfl
theorem q280 : (Jvm.Cond.selects "SendTableModel" ({ cls := "SendTableModel", name := "send", desc := "(II)I" } : Jvm.MethodName) ({ cls := "SendTableModel", name := "send", desc := "(II)I" } : Jvm.MethodName)) ∈ lw_all := lw_g (lw_at lw_m2 17 rfl) rfl
theorem q281 : (Jvm.Cond.code ({ cls := "SendTableModel", name := "send", desc := "(II)I" } : Jvm.MethodName) prog_3_method_9_code (4 : Nat) (Option.some Jvm.ClassFile.FieldType.int)) ∈ lw_all := lw_g (lw_at lw_m2 18 rfl) rfl
theorem q282 : (Jvm.Cond.methodLink "SendTableModel" (34 : Nat) ({ cls := "SendTableModel", name := "owner", desc := "(II)I" } : Jvm.MethodName)) ∈ lw_all := lw_g (lw_at lw_m2 19 rfl) rfl
theorem q283 : (Jvm.Cond.instanceMethod ({ cls := "SendTableModel", name := "owner", desc := "(II)I" } : Jvm.MethodName)) ∈ lw_all := lw_g (lw_at lw_m2 20 rfl) rfl
theorem q284 : (Jvm.Cond.selects "SendTableModel" ({ cls := "SendTableModel", name := "owner", desc := "(II)I" } : Jvm.MethodName) ({ cls := "SendTableModel", name := "owner", desc := "(II)I" } : Jvm.MethodName)) ∈ lw_all := lw_g (lw_at lw_m2 21 rfl) rfl
theorem q285 : (Jvm.Cond.code ({ cls := "SendTableModel", name := "owner", desc := "(II)I" } : Jvm.MethodName) prog_3_method_11_code (5 : Nat) (Option.some Jvm.ClassFile.FieldType.int)) ∈ lw_all := lw_g (lw_at lw_m2 22 rfl) rfl
theorem q287 : (Jvm.Cond.instanceMethod ({ cls := "SendTableModel", name := "sendSuper", desc := "(II)I" } : Jvm.MethodName)) ∈ lw_all := lw_g (lw_at lw_m2 24 rfl) rfl
theorem q288 : (Jvm.Cond.selects "SendTableModel" ({ cls := "SendTableModel", name := "sendSuper", desc := "(II)I" } : Jvm.MethodName) ({ cls := "SendTableModel", name := "sendSuper", desc := "(II)I" } : Jvm.MethodName)) ∈ lw_all := lw_g (lw_at lw_m2 25 rfl) rfl
theorem q289 : (Jvm.Cond.code ({ cls := "SendTableModel", name := "sendSuper", desc := "(II)I" } : Jvm.MethodName) prog_3_method_10_code (4 : Nat) (Option.some Jvm.ClassFile.FieldType.int)) ∈ lw_all := lw_g (lw_at lw_m2 26 rfl) rfl
theorem q290 : (Jvm.Cond.methodLink "SendTableModel" (38 : Nat) ({ cls := "SendTableModel", name := "parent", desc := "(I)I" } : Jvm.MethodName)) ∈ lw_all := lw_g (lw_at lw_m2 27 rfl) rfl
theorem q291 : (Jvm.Cond.methodLink "SendTableModel" (42 : Nat) ({ cls := "SendTableModel", name := "send", desc := "(II)I" } : Jvm.MethodName)) ∈ lw_all := lw_g (lw_at lw_m2 28 rfl) rfl
theorem q294 : (Jvm.Cond.instanceMethod ({ cls := "SendTableModel", name := "understands", desc := "(I)I" } : Jvm.MethodName)) ∈ lw_all := lw_g (lw_at lw_m2 31 rfl) rfl
theorem q295 : (Jvm.Cond.selects "SendTableModel" ({ cls := "SendTableModel", name := "understands", desc := "(I)I" } : Jvm.MethodName) ({ cls := "SendTableModel", name := "understands", desc := "(I)I" } : Jvm.MethodName)) ∈ lw_all := lw_g (lw_at lw_m2 32 rfl) rfl
theorem q296 : (Jvm.Cond.code ({ cls := "SendTableModel", name := "understands", desc := "(I)I" } : Jvm.MethodName) prog_3_method_12_code (4 : Nat) (Option.some Jvm.ClassFile.FieldType.int)) ∈ lw_all := lw_g (lw_at lw_m2 33 rfl) rfl
theorem q298 : (Jvm.Cond.instanceMethod ({ cls := "SendTableModel", name := "heirs", desc := "(II)I" } : Jvm.MethodName)) ∈ lw_all := lw_g (lw_at lw_m2 35 rfl) rfl
theorem q299 : (Jvm.Cond.selects "SendTableModel" ({ cls := "SendTableModel", name := "heirs", desc := "(II)I" } : Jvm.MethodName) ({ cls := "SendTableModel", name := "heirs", desc := "(II)I" } : Jvm.MethodName)) ∈ lw_all := lw_g (lw_at lw_m2 36 rfl) rfl
theorem q300 : (Jvm.Cond.code ({ cls := "SendTableModel", name := "heirs", desc := "(II)I" } : Jvm.MethodName) prog_3_method_13_code (5 : Nat) (Option.some Jvm.ClassFile.FieldType.int)) ∈ lw_all := lw_g (lw_at lw_m2 37 rfl) rfl
theorem q302 : (Jvm.Cond.instanceMethod ({ cls := "SendTableModel", name := "apart", desc := "(I)I" } : Jvm.MethodName)) ∈ lw_all := lw_g (lw_at lw_m2 39 rfl) rfl
theorem q303 : (Jvm.Cond.selects "SendTableModel" ({ cls := "SendTableModel", name := "apart", desc := "(I)I" } : Jvm.MethodName) ({ cls := "SendTableModel", name := "apart", desc := "(I)I" } : Jvm.MethodName)) ∈ lw_all := lw_g (lw_at lw_m2 40 rfl) rfl
theorem q304 : (Jvm.Cond.code ({ cls := "SendTableModel", name := "apart", desc := "(I)I" } : Jvm.MethodName) prog_3_method_15_code (2 : Nat) (Option.some Jvm.ClassFile.FieldType.int)) ∈ lw_all := lw_g (lw_at lw_m2 41 rfl) rfl
theorem q305 : (Jvm.Cond.methodLink "SendTableModel" (48 : Nat) ({ cls := "SendTableModel", name := "with", desc := "(I)I" } : Jvm.MethodName)) ∈ lw_all := lw_g (lw_at lw_m2 42 rfl) rfl
theorem q306 : (Jvm.Cond.privateMethod ({ cls := "SendTableModel", name := "with", desc := "(I)I" } : Jvm.MethodName)) ∈ lw_tbl := lw_at lw_m2 43 rfl
theorem q307 : (Jvm.Cond.instanceMethod ({ cls := "SendTableModel", name := "with", desc := "(I)I" } : Jvm.MethodName)) ∈ lw_all := lw_g (lw_at lw_m2 44 rfl) rfl
theorem q308 : (Jvm.Cond.code ({ cls := "SendTableModel", name := "with", desc := "(I)I" } : Jvm.MethodName) prog_3_method_14_code (5 : Nat) (Option.some Jvm.ClassFile.FieldType.int)) ∈ lw_all := lw_g (lw_at lw_m2 45 rfl) rfl
theorem q309 : (Jvm.Cond.methodLink "SendTableModel" (45 : Nat) ({ cls := "SendTableModel", name := "understands", desc := "(I)I" } : Jvm.MethodName)) ∈ lw_all := lw_g (lw_at lw_m2 46 rfl) rfl
theorem q311 : (Jvm.Cond.instanceMethod ({ cls := "SendTableModel", name := "crowd", desc := "()I" } : Jvm.MethodName)) ∈ lw_all := lw_g (lw_at lw_m2 48 rfl) rfl
theorem q312 : (Jvm.Cond.selects "SendTableModel" ({ cls := "SendTableModel", name := "crowd", desc := "()I" } : Jvm.MethodName) ({ cls := "SendTableModel", name := "crowd", desc := "()I" } : Jvm.MethodName)) ∈ lw_all := lw_g (lw_at lw_m2 49 rfl) rfl
theorem q313 : (Jvm.Cond.code ({ cls := "SendTableModel", name := "crowd", desc := "()I" } : Jvm.MethodName) prog_3_method_20_code (4 : Nat) (Option.some Jvm.ClassFile.FieldType.int)) ∈ lw_all := lw_g (lw_at lw_m2 50 rfl) rfl
theorem q314 : (Jvm.Cond.methodLink "SendTableModel" (51 : Nat) ({ cls := "SendTableModel", name := "findMates", desc := "()V" } : Jvm.MethodName)) ∈ lw_all := lw_g (lw_at lw_m2 51 rfl) rfl
theorem q315 : (Jvm.Cond.privateMethod ({ cls := "SendTableModel", name := "findMates", desc := "()V" } : Jvm.MethodName)) ∈ lw_tbl := lw_at lw_m2 52 rfl
theorem q316 : (Jvm.Cond.instanceMethod ({ cls := "SendTableModel", name := "findMates", desc := "()V" } : Jvm.MethodName)) ∈ lw_all := lw_g (lw_at lw_m2 53 rfl) rfl
theorem q317 : (Jvm.Cond.code ({ cls := "SendTableModel", name := "findMates", desc := "()V" } : Jvm.MethodName) prog_3_method_16_code (2 : Nat) (Option.none : Option Jvm.ClassFile.FieldType)) ∈ lw_all := lw_g (lw_at lw_m2 54 rfl) rfl
theorem q318 : (Jvm.Cond.methodLink "SendTableModel" (54 : Nat) ({ cls := "SendTableModel", name := "sizeOf", desc := "(I)I" } : Jvm.MethodName)) ∈ lw_all := lw_g (lw_at lw_m2 55 rfl) rfl
theorem q319 : (Jvm.Cond.privateMethod ({ cls := "SendTableModel", name := "sizeOf", desc := "(I)I" } : Jvm.MethodName)) ∈ lw_tbl := lw_at lw_m2 56 rfl
theorem q320 : (Jvm.Cond.instanceMethod ({ cls := "SendTableModel", name := "sizeOf", desc := "(I)I" } : Jvm.MethodName)) ∈ lw_all := lw_g (lw_at lw_m2 57 rfl) rfl
theorem q321 : (Jvm.Cond.code ({ cls := "SendTableModel", name := "sizeOf", desc := "(I)I" } : Jvm.MethodName) prog_3_method_19_code (4 : Nat) (Option.some Jvm.ClassFile.FieldType.int)) ∈ lw_all := lw_g (lw_at lw_m2 58 rfl) rfl
theorem q322 : (Jvm.Cond.methodLink "SendTableModel" (57 : Nat) ({ cls := "SendTableModel", name := "together", desc := "(I)Z" } : Jvm.MethodName)) ∈ lw_all := lw_g (lw_at lw_m2 59 rfl) rfl
theorem q323 : (Jvm.Cond.privateMethod ({ cls := "SendTableModel", name := "together", desc := "(I)Z" } : Jvm.MethodName)) ∈ lw_tbl := lw_at lw_m2 60 rfl
theorem q324 : (Jvm.Cond.instanceMethod ({ cls := "SendTableModel", name := "together", desc := "(I)Z" } : Jvm.MethodName)) ∈ lw_all := lw_g (lw_at lw_m2 61 rfl) rfl
theorem q325 : (Jvm.Cond.code ({ cls := "SendTableModel", name := "together", desc := "(I)Z" } : Jvm.MethodName) prog_3_method_17_code (4 : Nat) (Option.some Jvm.ClassFile.FieldType.boolean)) ∈ lw_all := lw_g (lw_at lw_m2 62 rfl) rfl
theorem q327 : (Jvm.Cond.instanceMethod ({ cls := "SendTableModel", name := "colours", desc := "()I" } : Jvm.MethodName)) ∈ lw_all := lw_g (lw_at lw_m2 64 rfl) rfl
theorem q328 : (Jvm.Cond.selects "SendTableModel" ({ cls := "SendTableModel", name := "colours", desc := "()I" } : Jvm.MethodName) ({ cls := "SendTableModel", name := "colours", desc := "()I" } : Jvm.MethodName)) ∈ lw_all := lw_g (lw_at lw_m2 65 rfl) rfl
theorem q329 : (Jvm.Cond.code ({ cls := "SendTableModel", name := "colours", desc := "()I" } : Jvm.MethodName) prog_3_method_21_code (5 : Nat) (Option.some Jvm.ClassFile.FieldType.int)) ∈ lw_all := lw_g (lw_at lw_m2 66 rfl) rfl
theorem q330 : (Jvm.Cond.methodLink "SendTableModel" (60 : Nat) ({ cls := "SendTableModel", name := "strangers", desc := "(I)Z" } : Jvm.MethodName)) ∈ lw_all := lw_g (lw_at lw_m2 67 rfl) rfl
theorem q331 : (Jvm.Cond.privateMethod ({ cls := "SendTableModel", name := "strangers", desc := "(I)Z" } : Jvm.MethodName)) ∈ lw_tbl := lw_at lw_m2 68 rfl
theorem q332 : (Jvm.Cond.instanceMethod ({ cls := "SendTableModel", name := "strangers", desc := "(I)Z" } : Jvm.MethodName)) ∈ lw_all := lw_g (lw_at lw_m2 69 rfl) rfl
theorem q333 : (Jvm.Cond.code ({ cls := "SendTableModel", name := "strangers", desc := "(I)Z" } : Jvm.MethodName) prog_3_method_18_code (4 : Nat) (Option.some Jvm.ClassFile.FieldType.boolean)) ∈ lw_all := lw_g (lw_at lw_m2 70 rfl) rfl
theorem in_X1 : ∀ w ∈ wsX10, w ∈ lw_all := lw_in wsX10 [235, 237, 239, 241, 243, 245] (by decide +kernel) (by decide +kernel)
end
section
/-! the law's own entry -/
set_option maxRecDepth 100000
abbrev cL_law : ByteArray := code
theorem dL_law_0 : decode cL_law 0 = .ok (.new 7, 3) := by decide +kernel
theorem dL_law_3 : decode cL_law 3 = .ok (.dup, 1) := by decide +kernel
theorem dL_law_4 : decode cL_law 4 = .ok (.invokespecial 9, 3) := by decide +kernel
theorem dL_law_7 : decode cL_law 7 = .ok (.astore_n 1, 1) := by decide +kernel
theorem dL_law_8 : decode cL_law 8 = .ok (.new 10, 3) := by decide +kernel
theorem dL_law_11 : decode cL_law 11 = .ok (.dup, 1) := by decide +kernel
theorem dL_law_12 : decode cL_law 12 = .ok (.invokespecial 12, 3) := by decide +kernel
theorem dL_law_15 : decode cL_law 15 = .ok (.astore_n 2, 1) := by decide +kernel
theorem dL_law_16 : decode cL_law 16 = .ok (.iconst 0, 1) := by decide +kernel
theorem dL_law_17 : decode cL_law 17 = .ok (.istore_n 3, 1) := by decide +kernel
theorem dL_law_18 : decode cL_law 18 = .ok (.iload_n 3, 1) := by decide +kernel
theorem dL_law_19 : decode cL_law 19 = .ok (.aload_n 0, 1) := by decide +kernel
theorem dL_law_20 : decode cL_law 20 = .ok (.arraylength, 1) := by decide +kernel
theorem dL_law_21 : decode cL_law 21 = .ok (.iconst 4, 1) := by decide +kernel
theorem dL_law_22 : decode cL_law 22 = .ok (.isub, 1) := by decide +kernel
theorem dL_law_23 : decode cL_law 23 = .ok (.if_icmp .gt 459, 3) := by decide +kernel
theorem dL_law_26 : decode cL_law 26 = .ok (.aload_n 0, 1) := by decide +kernel
theorem dL_law_27 : decode cL_law 27 = .ok (.iload_n 3, 1) := by decide +kernel
theorem dL_law_28 : decode cL_law 28 = .ok (.iaload, 1) := by decide +kernel
theorem dL_law_29 : decode cL_law 29 = .ok (.bipush 15, 2) := by decide +kernel
theorem dL_law_31 : decode cL_law 31 = .ok (.iand, 1) := by decide +kernel
theorem dL_law_32 : decode cL_law 32 = .ok (.tableswitch 444 0 13 #[72, 95, 138, 171, 204, 217, 240, 273, 306, 339, 362, 395, 418, 431], 72) := by decide +kernel
theorem dL_law_104 : decode cL_law 104 = .ok (.aload_n 1, 1) := by decide +kernel
theorem dL_law_105 : decode cL_law 105 = .ok (.aload_n 0, 1) := by decide +kernel
theorem dL_law_106 : decode cL_law 106 = .ok (.iload_n 3, 1) := by decide +kernel
theorem dL_law_107 : decode cL_law 107 = .ok (.iconst 1, 1) := by decide +kernel
theorem dL_law_108 : decode cL_law 108 = .ok (.iadd, 1) := by decide +kernel
theorem dL_law_109 : decode cL_law 109 = .ok (.iaload, 1) := by decide +kernel
theorem dL_law_110 : decode cL_law 110 = .ok (.invokevirtual 13, 3) := by decide +kernel
theorem dL_law_113 : decode cL_law 113 = .ok (.aload_n 2, 1) := by decide +kernel
theorem dL_law_114 : decode cL_law 114 = .ok (.aload_n 0, 1) := by decide +kernel
theorem dL_law_115 : decode cL_law 115 = .ok (.iload_n 3, 1) := by decide +kernel
theorem dL_law_116 : decode cL_law 116 = .ok (.iconst 1, 1) := by decide +kernel
theorem dL_law_117 : decode cL_law 117 = .ok (.iadd, 1) := by decide +kernel
theorem dL_law_118 : decode cL_law 118 = .ok (.iaload, 1) := by decide +kernel
theorem dL_law_119 : decode cL_law 119 = .ok (.invokevirtual 17, 3) := by decide +kernel
theorem dL_law_122 : decode cL_law 122 = .ok (.if_icmp .eq 354, 3) := by decide +kernel
theorem dL_law_125 : decode cL_law 125 = .ok (.iconst 0, 1) := by decide +kernel
theorem dL_law_126 : decode cL_law 126 = .ok (.ireturn, 1) := by decide +kernel
theorem dL_law_127 : decode cL_law 127 = .ok (.aload_n 1, 1) := by decide +kernel
theorem dL_law_128 : decode cL_law 128 = .ok (.aload_n 0, 1) := by decide +kernel
theorem dL_law_129 : decode cL_law 129 = .ok (.iload_n 3, 1) := by decide +kernel
theorem dL_law_130 : decode cL_law 130 = .ok (.iconst 1, 1) := by decide +kernel
theorem dL_law_131 : decode cL_law 131 = .ok (.iadd, 1) := by decide +kernel
theorem dL_law_132 : decode cL_law 132 = .ok (.iaload, 1) := by decide +kernel
theorem dL_law_133 : decode cL_law 133 = .ok (.aload_n 0, 1) := by decide +kernel
theorem dL_law_134 : decode cL_law 134 = .ok (.iload_n 3, 1) := by decide +kernel
theorem dL_law_135 : decode cL_law 135 = .ok (.iconst 2, 1) := by decide +kernel
theorem dL_law_136 : decode cL_law 136 = .ok (.iadd, 1) := by decide +kernel
theorem dL_law_137 : decode cL_law 137 = .ok (.iaload, 1) := by decide +kernel
theorem dL_law_138 : decode cL_law 138 = .ok (.aload_n 0, 1) := by decide +kernel
theorem dL_law_139 : decode cL_law 139 = .ok (.iload_n 3, 1) := by decide +kernel
theorem dL_law_140 : decode cL_law 140 = .ok (.iconst 3, 1) := by decide +kernel
theorem dL_law_141 : decode cL_law 141 = .ok (.iadd, 1) := by decide +kernel
theorem dL_law_142 : decode cL_law 142 = .ok (.iaload, 1) := by decide +kernel
theorem dL_law_143 : decode cL_law 143 = .ok (.invokevirtual 18, 3) := by decide +kernel
theorem dL_law_146 : decode cL_law 146 = .ok (.aload_n 2, 1) := by decide +kernel
theorem dL_law_147 : decode cL_law 147 = .ok (.aload_n 0, 1) := by decide +kernel
theorem dL_law_148 : decode cL_law 148 = .ok (.iload_n 3, 1) := by decide +kernel
theorem dL_law_149 : decode cL_law 149 = .ok (.iconst 1, 1) := by decide +kernel
theorem dL_law_150 : decode cL_law 150 = .ok (.iadd, 1) := by decide +kernel
theorem dL_law_151 : decode cL_law 151 = .ok (.iaload, 1) := by decide +kernel
theorem dL_law_152 : decode cL_law 152 = .ok (.aload_n 0, 1) := by decide +kernel
theorem dL_law_153 : decode cL_law 153 = .ok (.iload_n 3, 1) := by decide +kernel
theorem dL_law_154 : decode cL_law 154 = .ok (.iconst 2, 1) := by decide +kernel
theorem dL_law_155 : decode cL_law 155 = .ok (.iadd, 1) := by decide +kernel
theorem dL_law_156 : decode cL_law 156 = .ok (.iaload, 1) := by decide +kernel
theorem dL_law_157 : decode cL_law 157 = .ok (.aload_n 0, 1) := by decide +kernel
theorem dL_law_158 : decode cL_law 158 = .ok (.iload_n 3, 1) := by decide +kernel
theorem dL_law_159 : decode cL_law 159 = .ok (.iconst 3, 1) := by decide +kernel
theorem dL_law_160 : decode cL_law 160 = .ok (.iadd, 1) := by decide +kernel
theorem dL_law_161 : decode cL_law 161 = .ok (.iaload, 1) := by decide +kernel
theorem dL_law_162 : decode cL_law 162 = .ok (.invokevirtual 22, 3) := by decide +kernel
theorem dL_law_165 : decode cL_law 165 = .ok (.if_icmp .eq 311, 3) := by decide +kernel
theorem dL_law_168 : decode cL_law 168 = .ok (.iconst 0, 1) := by decide +kernel
theorem dL_law_169 : decode cL_law 169 = .ok (.ireturn, 1) := by decide +kernel
theorem dL_law_170 : decode cL_law 170 = .ok (.aload_n 1, 1) := by decide +kernel
theorem dL_law_171 : decode cL_law 171 = .ok (.aload_n 0, 1) := by decide +kernel
theorem dL_law_172 : decode cL_law 172 = .ok (.iload_n 3, 1) := by decide +kernel
theorem dL_law_173 : decode cL_law 173 = .ok (.iconst 1, 1) := by decide +kernel
theorem dL_law_174 : decode cL_law 174 = .ok (.iadd, 1) := by decide +kernel
theorem dL_law_175 : decode cL_law 175 = .ok (.iaload, 1) := by decide +kernel
theorem dL_law_176 : decode cL_law 176 = .ok (.aload_n 0, 1) := by decide +kernel
theorem dL_law_177 : decode cL_law 177 = .ok (.iload_n 3, 1) := by decide +kernel
theorem dL_law_178 : decode cL_law 178 = .ok (.iconst 2, 1) := by decide +kernel
theorem dL_law_179 : decode cL_law 179 = .ok (.iadd, 1) := by decide +kernel
theorem dL_law_180 : decode cL_law 180 = .ok (.iaload, 1) := by decide +kernel
theorem dL_law_181 : decode cL_law 181 = .ok (.invokevirtual 23, 3) := by decide +kernel
theorem dL_law_184 : decode cL_law 184 = .ok (.aload_n 2, 1) := by decide +kernel
theorem dL_law_185 : decode cL_law 185 = .ok (.aload_n 0, 1) := by decide +kernel
theorem dL_law_186 : decode cL_law 186 = .ok (.iload_n 3, 1) := by decide +kernel
theorem dL_law_187 : decode cL_law 187 = .ok (.iconst 1, 1) := by decide +kernel
theorem dL_law_188 : decode cL_law 188 = .ok (.iadd, 1) := by decide +kernel
theorem dL_law_189 : decode cL_law 189 = .ok (.iaload, 1) := by decide +kernel
theorem dL_law_190 : decode cL_law 190 = .ok (.aload_n 0, 1) := by decide +kernel
theorem dL_law_191 : decode cL_law 191 = .ok (.iload_n 3, 1) := by decide +kernel
theorem dL_law_192 : decode cL_law 192 = .ok (.iconst 2, 1) := by decide +kernel
theorem dL_law_193 : decode cL_law 193 = .ok (.iadd, 1) := by decide +kernel
theorem dL_law_194 : decode cL_law 194 = .ok (.iaload, 1) := by decide +kernel
theorem dL_law_195 : decode cL_law 195 = .ok (.invokevirtual 27, 3) := by decide +kernel
theorem dL_law_198 : decode cL_law 198 = .ok (.if_icmp .eq 278, 3) := by decide +kernel
theorem dL_law_201 : decode cL_law 201 = .ok (.iconst 0, 1) := by decide +kernel
theorem dL_law_202 : decode cL_law 202 = .ok (.ireturn, 1) := by decide +kernel
theorem dL_law_203 : decode cL_law 203 = .ok (.aload_n 1, 1) := by decide +kernel
theorem dL_law_204 : decode cL_law 204 = .ok (.aload_n 0, 1) := by decide +kernel
theorem dL_law_205 : decode cL_law 205 = .ok (.iload_n 3, 1) := by decide +kernel
theorem dL_law_206 : decode cL_law 206 = .ok (.iconst 1, 1) := by decide +kernel
theorem dL_law_207 : decode cL_law 207 = .ok (.iadd, 1) := by decide +kernel
theorem dL_law_208 : decode cL_law 208 = .ok (.iaload, 1) := by decide +kernel
theorem dL_law_209 : decode cL_law 209 = .ok (.aload_n 0, 1) := by decide +kernel
theorem dL_law_210 : decode cL_law 210 = .ok (.iload_n 3, 1) := by decide +kernel
theorem dL_law_211 : decode cL_law 211 = .ok (.iconst 2, 1) := by decide +kernel
theorem dL_law_212 : decode cL_law 212 = .ok (.iadd, 1) := by decide +kernel
theorem dL_law_213 : decode cL_law 213 = .ok (.iaload, 1) := by decide +kernel
theorem dL_law_214 : decode cL_law 214 = .ok (.invokevirtual 28, 3) := by decide +kernel
theorem dL_law_217 : decode cL_law 217 = .ok (.aload_n 2, 1) := by decide +kernel
theorem dL_law_218 : decode cL_law 218 = .ok (.aload_n 0, 1) := by decide +kernel
theorem dL_law_219 : decode cL_law 219 = .ok (.iload_n 3, 1) := by decide +kernel
theorem dL_law_220 : decode cL_law 220 = .ok (.iconst 1, 1) := by decide +kernel
theorem dL_law_221 : decode cL_law 221 = .ok (.iadd, 1) := by decide +kernel
theorem dL_law_222 : decode cL_law 222 = .ok (.iaload, 1) := by decide +kernel
theorem dL_law_223 : decode cL_law 223 = .ok (.aload_n 0, 1) := by decide +kernel
theorem dL_law_224 : decode cL_law 224 = .ok (.iload_n 3, 1) := by decide +kernel
theorem dL_law_225 : decode cL_law 225 = .ok (.iconst 2, 1) := by decide +kernel
theorem dL_law_226 : decode cL_law 226 = .ok (.iadd, 1) := by decide +kernel
theorem dL_law_227 : decode cL_law 227 = .ok (.iaload, 1) := by decide +kernel
theorem dL_law_228 : decode cL_law 228 = .ok (.invokevirtual 31, 3) := by decide +kernel
theorem dL_law_231 : decode cL_law 231 = .ok (.if_icmp .eq 245, 3) := by decide +kernel
theorem dL_law_234 : decode cL_law 234 = .ok (.iconst 0, 1) := by decide +kernel
theorem dL_law_235 : decode cL_law 235 = .ok (.ireturn, 1) := by decide +kernel
theorem dL_law_236 : decode cL_law 236 = .ok (.aload_n 1, 1) := by decide +kernel
theorem dL_law_237 : decode cL_law 237 = .ok (.invokevirtual 32, 3) := by decide +kernel
theorem dL_law_240 : decode cL_law 240 = .ok (.aload_n 2, 1) := by decide +kernel
theorem dL_law_241 : decode cL_law 241 = .ok (.invokevirtual 36, 3) := by decide +kernel
theorem dL_law_244 : decode cL_law 244 = .ok (.if_icmp .eq 232, 3) := by decide +kernel
theorem dL_law_247 : decode cL_law 247 = .ok (.iconst 0, 1) := by decide +kernel
theorem dL_law_248 : decode cL_law 248 = .ok (.ireturn, 1) := by decide +kernel
theorem dL_law_249 : decode cL_law 249 = .ok (.aload_n 1, 1) := by decide +kernel
theorem dL_law_250 : decode cL_law 250 = .ok (.aload_n 0, 1) := by decide +kernel
theorem dL_law_251 : decode cL_law 251 = .ok (.iload_n 3, 1) := by decide +kernel
theorem dL_law_252 : decode cL_law 252 = .ok (.iconst 1, 1) := by decide +kernel
theorem dL_law_253 : decode cL_law 253 = .ok (.iadd, 1) := by decide +kernel
theorem dL_law_254 : decode cL_law 254 = .ok (.iaload, 1) := by decide +kernel
theorem dL_law_255 : decode cL_law 255 = .ok (.invokevirtual 37, 3) := by decide +kernel
theorem dL_law_258 : decode cL_law 258 = .ok (.aload_n 2, 1) := by decide +kernel
theorem dL_law_259 : decode cL_law 259 = .ok (.aload_n 0, 1) := by decide +kernel
theorem dL_law_260 : decode cL_law 260 = .ok (.iload_n 3, 1) := by decide +kernel
theorem dL_law_261 : decode cL_law 261 = .ok (.iconst 1, 1) := by decide +kernel
theorem dL_law_262 : decode cL_law 262 = .ok (.iadd, 1) := by decide +kernel
theorem dL_law_263 : decode cL_law 263 = .ok (.iaload, 1) := by decide +kernel
theorem dL_law_264 : decode cL_law 264 = .ok (.invokevirtual 40, 3) := by decide +kernel
theorem dL_law_267 : decode cL_law 267 = .ok (.if_icmp .eq 209, 3) := by decide +kernel
theorem dL_law_270 : decode cL_law 270 = .ok (.iconst 0, 1) := by decide +kernel
theorem dL_law_271 : decode cL_law 271 = .ok (.ireturn, 1) := by decide +kernel
theorem dL_law_272 : decode cL_law 272 = .ok (.aload_n 1, 1) := by decide +kernel
theorem dL_law_273 : decode cL_law 273 = .ok (.aload_n 0, 1) := by decide +kernel
theorem dL_law_274 : decode cL_law 274 = .ok (.iload_n 3, 1) := by decide +kernel
theorem dL_law_275 : decode cL_law 275 = .ok (.iconst 1, 1) := by decide +kernel
theorem dL_law_276 : decode cL_law 276 = .ok (.iadd, 1) := by decide +kernel
theorem dL_law_277 : decode cL_law 277 = .ok (.iaload, 1) := by decide +kernel
theorem dL_law_278 : decode cL_law 278 = .ok (.aload_n 0, 1) := by decide +kernel
theorem dL_law_279 : decode cL_law 279 = .ok (.iload_n 3, 1) := by decide +kernel
theorem dL_law_280 : decode cL_law 280 = .ok (.iconst 2, 1) := by decide +kernel
theorem dL_law_281 : decode cL_law 281 = .ok (.iadd, 1) := by decide +kernel
theorem dL_law_282 : decode cL_law 282 = .ok (.iaload, 1) := by decide +kernel
theorem dL_law_283 : decode cL_law 283 = .ok (.invokevirtual 41, 3) := by decide +kernel
theorem dL_law_286 : decode cL_law 286 = .ok (.aload_n 2, 1) := by decide +kernel
theorem dL_law_287 : decode cL_law 287 = .ok (.aload_n 0, 1) := by decide +kernel
theorem dL_law_288 : decode cL_law 288 = .ok (.iload_n 3, 1) := by decide +kernel
theorem dL_law_289 : decode cL_law 289 = .ok (.iconst 1, 1) := by decide +kernel
theorem dL_law_290 : decode cL_law 290 = .ok (.iadd, 1) := by decide +kernel
theorem dL_law_291 : decode cL_law 291 = .ok (.iaload, 1) := by decide +kernel
theorem dL_law_292 : decode cL_law 292 = .ok (.aload_n 0, 1) := by decide +kernel
theorem dL_law_293 : decode cL_law 293 = .ok (.iload_n 3, 1) := by decide +kernel
theorem dL_law_294 : decode cL_law 294 = .ok (.iconst 2, 1) := by decide +kernel
theorem dL_law_295 : decode cL_law 295 = .ok (.iadd, 1) := by decide +kernel
theorem dL_law_296 : decode cL_law 296 = .ok (.iaload, 1) := by decide +kernel
theorem dL_law_297 : decode cL_law 297 = .ok (.invokevirtual 45, 3) := by decide +kernel
theorem dL_law_300 : decode cL_law 300 = .ok (.if_icmp .eq 176, 3) := by decide +kernel
theorem dL_law_303 : decode cL_law 303 = .ok (.iconst 0, 1) := by decide +kernel
theorem dL_law_304 : decode cL_law 304 = .ok (.ireturn, 1) := by decide +kernel
theorem dL_law_305 : decode cL_law 305 = .ok (.aload_n 1, 1) := by decide +kernel
theorem dL_law_306 : decode cL_law 306 = .ok (.aload_n 0, 1) := by decide +kernel
theorem dL_law_307 : decode cL_law 307 = .ok (.iload_n 3, 1) := by decide +kernel
theorem dL_law_308 : decode cL_law 308 = .ok (.iconst 1, 1) := by decide +kernel
theorem dL_law_309 : decode cL_law 309 = .ok (.iadd, 1) := by decide +kernel
theorem dL_law_310 : decode cL_law 310 = .ok (.iaload, 1) := by decide +kernel
theorem dL_law_311 : decode cL_law 311 = .ok (.aload_n 0, 1) := by decide +kernel
theorem dL_law_312 : decode cL_law 312 = .ok (.iload_n 3, 1) := by decide +kernel
theorem dL_law_313 : decode cL_law 313 = .ok (.iconst 2, 1) := by decide +kernel
theorem dL_law_314 : decode cL_law 314 = .ok (.iadd, 1) := by decide +kernel
theorem dL_law_315 : decode cL_law 315 = .ok (.iaload, 1) := by decide +kernel
theorem dL_law_316 : decode cL_law 316 = .ok (.invokevirtual 46, 3) := by decide +kernel
theorem dL_law_319 : decode cL_law 319 = .ok (.aload_n 2, 1) := by decide +kernel
theorem dL_law_320 : decode cL_law 320 = .ok (.aload_n 0, 1) := by decide +kernel
theorem dL_law_321 : decode cL_law 321 = .ok (.iload_n 3, 1) := by decide +kernel
theorem dL_law_322 : decode cL_law 322 = .ok (.iconst 1, 1) := by decide +kernel
theorem dL_law_323 : decode cL_law 323 = .ok (.iadd, 1) := by decide +kernel
theorem dL_law_324 : decode cL_law 324 = .ok (.iaload, 1) := by decide +kernel
theorem dL_law_325 : decode cL_law 325 = .ok (.aload_n 0, 1) := by decide +kernel
theorem dL_law_326 : decode cL_law 326 = .ok (.iload_n 3, 1) := by decide +kernel
theorem dL_law_327 : decode cL_law 327 = .ok (.iconst 2, 1) := by decide +kernel
theorem dL_law_328 : decode cL_law 328 = .ok (.iadd, 1) := by decide +kernel
theorem dL_law_329 : decode cL_law 329 = .ok (.iaload, 1) := by decide +kernel
theorem dL_law_330 : decode cL_law 330 = .ok (.invokevirtual 49, 3) := by decide +kernel
theorem dL_law_333 : decode cL_law 333 = .ok (.if_icmp .eq 143, 3) := by decide +kernel
theorem dL_law_336 : decode cL_law 336 = .ok (.iconst 0, 1) := by decide +kernel
theorem dL_law_337 : decode cL_law 337 = .ok (.ireturn, 1) := by decide +kernel
theorem dL_law_338 : decode cL_law 338 = .ok (.aload_n 1, 1) := by decide +kernel
theorem dL_law_339 : decode cL_law 339 = .ok (.aload_n 0, 1) := by decide +kernel
theorem dL_law_340 : decode cL_law 340 = .ok (.iload_n 3, 1) := by decide +kernel
theorem dL_law_341 : decode cL_law 341 = .ok (.iconst 1, 1) := by decide +kernel
theorem dL_law_342 : decode cL_law 342 = .ok (.iadd, 1) := by decide +kernel
theorem dL_law_343 : decode cL_law 343 = .ok (.iaload, 1) := by decide +kernel
theorem dL_law_344 : decode cL_law 344 = .ok (.aload_n 0, 1) := by decide +kernel
theorem dL_law_345 : decode cL_law 345 = .ok (.iload_n 3, 1) := by decide +kernel
theorem dL_law_346 : decode cL_law 346 = .ok (.iconst 2, 1) := by decide +kernel
theorem dL_law_347 : decode cL_law 347 = .ok (.iadd, 1) := by decide +kernel
theorem dL_law_348 : decode cL_law 348 = .ok (.iaload, 1) := by decide +kernel
theorem dL_law_349 : decode cL_law 349 = .ok (.invokevirtual 50, 3) := by decide +kernel
theorem dL_law_352 : decode cL_law 352 = .ok (.aload_n 2, 1) := by decide +kernel
theorem dL_law_353 : decode cL_law 353 = .ok (.aload_n 0, 1) := by decide +kernel
theorem dL_law_354 : decode cL_law 354 = .ok (.iload_n 3, 1) := by decide +kernel
theorem dL_law_355 : decode cL_law 355 = .ok (.iconst 1, 1) := by decide +kernel
theorem dL_law_356 : decode cL_law 356 = .ok (.iadd, 1) := by decide +kernel
theorem dL_law_357 : decode cL_law 357 = .ok (.iaload, 1) := by decide +kernel
theorem dL_law_358 : decode cL_law 358 = .ok (.aload_n 0, 1) := by decide +kernel
theorem dL_law_359 : decode cL_law 359 = .ok (.iload_n 3, 1) := by decide +kernel
theorem dL_law_360 : decode cL_law 360 = .ok (.iconst 2, 1) := by decide +kernel
theorem dL_law_361 : decode cL_law 361 = .ok (.iadd, 1) := by decide +kernel
theorem dL_law_362 : decode cL_law 362 = .ok (.iaload, 1) := by decide +kernel
theorem dL_law_363 : decode cL_law 363 = .ok (.invokevirtual 53, 3) := by decide +kernel
theorem dL_law_366 : decode cL_law 366 = .ok (.if_icmp .eq 110, 3) := by decide +kernel
theorem dL_law_369 : decode cL_law 369 = .ok (.iconst 0, 1) := by decide +kernel
theorem dL_law_370 : decode cL_law 370 = .ok (.ireturn, 1) := by decide +kernel
theorem dL_law_371 : decode cL_law 371 = .ok (.aload_n 1, 1) := by decide +kernel
theorem dL_law_372 : decode cL_law 372 = .ok (.aload_n 0, 1) := by decide +kernel
theorem dL_law_373 : decode cL_law 373 = .ok (.iload_n 3, 1) := by decide +kernel
theorem dL_law_374 : decode cL_law 374 = .ok (.iconst 1, 1) := by decide +kernel
theorem dL_law_375 : decode cL_law 375 = .ok (.iadd, 1) := by decide +kernel
theorem dL_law_376 : decode cL_law 376 = .ok (.iaload, 1) := by decide +kernel
theorem dL_law_377 : decode cL_law 377 = .ok (.invokevirtual 54, 3) := by decide +kernel
theorem dL_law_380 : decode cL_law 380 = .ok (.aload_n 2, 1) := by decide +kernel
theorem dL_law_381 : decode cL_law 381 = .ok (.aload_n 0, 1) := by decide +kernel
theorem dL_law_382 : decode cL_law 382 = .ok (.iload_n 3, 1) := by decide +kernel
theorem dL_law_383 : decode cL_law 383 = .ok (.iconst 1, 1) := by decide +kernel
theorem dL_law_384 : decode cL_law 384 = .ok (.iadd, 1) := by decide +kernel
theorem dL_law_385 : decode cL_law 385 = .ok (.iaload, 1) := by decide +kernel
theorem dL_law_386 : decode cL_law 386 = .ok (.invokevirtual 57, 3) := by decide +kernel
theorem dL_law_389 : decode cL_law 389 = .ok (.if_icmp .eq 87, 3) := by decide +kernel
theorem dL_law_392 : decode cL_law 392 = .ok (.iconst 0, 1) := by decide +kernel
theorem dL_law_393 : decode cL_law 393 = .ok (.ireturn, 1) := by decide +kernel
theorem dL_law_394 : decode cL_law 394 = .ok (.aload_n 1, 1) := by decide +kernel
theorem dL_law_395 : decode cL_law 395 = .ok (.aload_n 0, 1) := by decide +kernel
theorem dL_law_396 : decode cL_law 396 = .ok (.iload_n 3, 1) := by decide +kernel
theorem dL_law_397 : decode cL_law 397 = .ok (.iconst 1, 1) := by decide +kernel
theorem dL_law_398 : decode cL_law 398 = .ok (.iadd, 1) := by decide +kernel
theorem dL_law_399 : decode cL_law 399 = .ok (.iaload, 1) := by decide +kernel
theorem dL_law_400 : decode cL_law 400 = .ok (.aload_n 0, 1) := by decide +kernel
theorem dL_law_401 : decode cL_law 401 = .ok (.iload_n 3, 1) := by decide +kernel
theorem dL_law_402 : decode cL_law 402 = .ok (.iconst 2, 1) := by decide +kernel
theorem dL_law_403 : decode cL_law 403 = .ok (.iadd, 1) := by decide +kernel
theorem dL_law_404 : decode cL_law 404 = .ok (.iaload, 1) := by decide +kernel
theorem dL_law_405 : decode cL_law 405 = .ok (.invokevirtual 58, 3) := by decide +kernel
theorem dL_law_408 : decode cL_law 408 = .ok (.aload_n 2, 1) := by decide +kernel
theorem dL_law_409 : decode cL_law 409 = .ok (.aload_n 0, 1) := by decide +kernel
theorem dL_law_410 : decode cL_law 410 = .ok (.iload_n 3, 1) := by decide +kernel
theorem dL_law_411 : decode cL_law 411 = .ok (.iconst 1, 1) := by decide +kernel
theorem dL_law_412 : decode cL_law 412 = .ok (.iadd, 1) := by decide +kernel
theorem dL_law_413 : decode cL_law 413 = .ok (.iaload, 1) := by decide +kernel
theorem dL_law_414 : decode cL_law 414 = .ok (.aload_n 0, 1) := by decide +kernel
theorem dL_law_415 : decode cL_law 415 = .ok (.iload_n 3, 1) := by decide +kernel
theorem dL_law_416 : decode cL_law 416 = .ok (.iconst 2, 1) := by decide +kernel
theorem dL_law_417 : decode cL_law 417 = .ok (.iadd, 1) := by decide +kernel
theorem dL_law_418 : decode cL_law 418 = .ok (.iaload, 1) := by decide +kernel
theorem dL_law_419 : decode cL_law 419 = .ok (.invokevirtual 61, 3) := by decide +kernel
theorem dL_law_422 : decode cL_law 422 = .ok (.if_icmp .eq 54, 3) := by decide +kernel
theorem dL_law_425 : decode cL_law 425 = .ok (.iconst 0, 1) := by decide +kernel
theorem dL_law_426 : decode cL_law 426 = .ok (.ireturn, 1) := by decide +kernel
theorem dL_law_427 : decode cL_law 427 = .ok (.aload_n 1, 1) := by decide +kernel
theorem dL_law_428 : decode cL_law 428 = .ok (.aload_n 0, 1) := by decide +kernel
theorem dL_law_429 : decode cL_law 429 = .ok (.iload_n 3, 1) := by decide +kernel
theorem dL_law_430 : decode cL_law 430 = .ok (.iconst 1, 1) := by decide +kernel
theorem dL_law_431 : decode cL_law 431 = .ok (.iadd, 1) := by decide +kernel
theorem dL_law_432 : decode cL_law 432 = .ok (.iaload, 1) := by decide +kernel
theorem dL_law_433 : decode cL_law 433 = .ok (.invokevirtual 62, 3) := by decide +kernel
theorem dL_law_436 : decode cL_law 436 = .ok (.aload_n 2, 1) := by decide +kernel
theorem dL_law_437 : decode cL_law 437 = .ok (.aload_n 0, 1) := by decide +kernel
theorem dL_law_438 : decode cL_law 438 = .ok (.iload_n 3, 1) := by decide +kernel
theorem dL_law_439 : decode cL_law 439 = .ok (.iconst 1, 1) := by decide +kernel
theorem dL_law_440 : decode cL_law 440 = .ok (.iadd, 1) := by decide +kernel
theorem dL_law_441 : decode cL_law 441 = .ok (.iaload, 1) := by decide +kernel
theorem dL_law_442 : decode cL_law 442 = .ok (.invokevirtual 65, 3) := by decide +kernel
theorem dL_law_445 : decode cL_law 445 = .ok (.if_icmp .eq 31, 3) := by decide +kernel
theorem dL_law_448 : decode cL_law 448 = .ok (.iconst 0, 1) := by decide +kernel
theorem dL_law_449 : decode cL_law 449 = .ok (.ireturn, 1) := by decide +kernel
theorem dL_law_450 : decode cL_law 450 = .ok (.aload_n 1, 1) := by decide +kernel
theorem dL_law_451 : decode cL_law 451 = .ok (.invokevirtual 66, 3) := by decide +kernel
theorem dL_law_454 : decode cL_law 454 = .ok (.aload_n 2, 1) := by decide +kernel
theorem dL_law_455 : decode cL_law 455 = .ok (.invokevirtual 69, 3) := by decide +kernel
theorem dL_law_458 : decode cL_law 458 = .ok (.if_icmp .eq 18, 3) := by decide +kernel
theorem dL_law_461 : decode cL_law 461 = .ok (.iconst 0, 1) := by decide +kernel
theorem dL_law_462 : decode cL_law 462 = .ok (.ireturn, 1) := by decide +kernel
theorem dL_law_463 : decode cL_law 463 = .ok (.aload_n 1, 1) := by decide +kernel
theorem dL_law_464 : decode cL_law 464 = .ok (.invokevirtual 70, 3) := by decide +kernel
theorem dL_law_467 : decode cL_law 467 = .ok (.aload_n 2, 1) := by decide +kernel
theorem dL_law_468 : decode cL_law 468 = .ok (.invokevirtual 73, 3) := by decide +kernel
theorem dL_law_471 : decode cL_law 471 = .ok (.if_icmp .eq 5, 3) := by decide +kernel
theorem dL_law_474 : decode cL_law 474 = .ok (.iconst 0, 1) := by decide +kernel
theorem dL_law_475 : decode cL_law 475 = .ok (.ireturn, 1) := by decide +kernel
theorem dL_law_476 : decode cL_law 476 = .ok (.iinc 3 4, 3) := by decide +kernel
theorem dL_law_479 : decode cL_law 479 = .ok (.goto (-461), 3) := by decide +kernel
theorem dL_law_482 : decode cL_law 482 = .ok (.iconst 1, 1) := by decide +kernel
theorem dL_law_483 : decode cL_law 483 = .ok (.ireturn, 1) := by decide +kernel
end
section
/-! plain facts on numbers and arrays, to paste: each family by itself; over the kit's rows on nI and upd -/
/-! ===== order of ints, in all its forms, and through longs ===== -/
theorem fa_lt (a b : Int32) : a < b ↔ a.toInt < b.toInt := Int32.lt_iff_toInt_lt
theorem fa_le (a b : Int32) : a ≤ b ↔ a.toInt ≤ b.toInt := Int32.le_iff_toInt_le
theorem fa_eq (a b : Int32) : a = b ↔ a.toInt = b.toInt := Int32.toInt_inj.symm
theorem fa_lt64 (a b : Int64) : a < b ↔ a.toInt < b.toInt := Int64.lt_iff_toInt_lt
theorem fa_le64 (a b : Int64) : a ≤ b ↔ a.toInt ≤ b.toInt := Int64.le_iff_toInt_le
theorem fa_eq64 (a b : Int64) : a = b ↔ a.toInt = b.toInt := Int64.toInt_inj.symm
/-- a comparison of two ints taken as longs -/
theorem fa_wide_lt (a b : Int32) : a.toInt64 < b.toInt64 ↔ a < b := by rw [fa_lt64, fa_lt, Int32.toInt_toInt64, Int32.toInt_toInt64]
theorem fa_wide_le (a b : Int32) : a.toInt64 ≤ b.toInt64 ↔ a ≤ b := by rw [fa_le64, fa_le, Int32.toInt_toInt64, Int32.toInt_toInt64]
theorem fa_wide_eq (a b : Int32) : a.toInt64 = b.toInt64 ↔ a = b := by rw [fa_eq64, fa_eq, Int32.toInt_toInt64, Int32.toInt_toInt64]
/-- one strict comparison gives all the others -/
theorem fa_of_lt {a b : Int32} (h : a < b) : a ≤ b ∧ ¬ b ≤ a ∧ ¬ b < a ∧ a ≠ b ∧ b ≠ a := by
  rw [fa_lt] at h
  refine ⟨?_, ?_, ?_, ?_, ?_⟩
  · rw [fa_le]; omega
  · rw [fa_le]; omega
  · rw [fa_lt]; omega
  · intro e; rw [fa_eq] at e; omega
  · intro e; rw [fa_eq] at e; omega
theorem fa_of_nlt {a b : Int32} (h : ¬ a < b) : b ≤ a := by
  rw [fa_lt] at h
  rw [fa_le]
  omega
theorem fa_of_nle {a b : Int32} (h : ¬ a ≤ b) : b < a := by
  rw [fa_le] at h
  rw [fa_lt]
  omega
theorem fa_le_ne {a b : Int32} (h : a ≤ b) (h2 : a ≠ b) : a < b := by
  rw [fa_le] at h
  rw [fa_lt]
  have h3 : a.toInt ≠ b.toInt := fun e => h2 ((fa_eq a b).mpr e)
  omega
theorem fa_three (a b : Int32) : a < b ∨ a = b ∨ b < a := by
  rw [fa_lt, fa_lt, fa_eq]
  omega
theorem fa_trans {a b c : Int32} (h : a < b) (h2 : b ≤ c) : a < c := by
  rw [fa_lt] at *
  rw [fa_le] at h2
  omega
/-! ===== small literals as numbers ===== -/
theorem fa_lit (n : Nat) : (OfNat.ofNat n : Int32) = nI n := rfl
theorem fa_litL (n : Nat) : (OfNat.ofNat n : Int64) = lN n := rfl
/-! ===== bits of a number: 'or', masks, one bit ===== -/
theorem fa_and (a b : Nat) : nI a &&& nI b = nI (a &&& b) := by
  apply Int32.toBitVec_inj.1
  show BitVec.ofNat 32 a &&& BitVec.ofNat 32 b = BitVec.ofNat 32 (a &&& b)
  apply BitVec.eq_of_getLsbD_eq
  intro i hi
  simp [hi]
theorem fa_or (a b : Nat) : nI a ||| nI b = nI (a ||| b) := by
  apply Int32.toBitVec_inj.1
  show BitVec.ofNat 32 a ||| BitVec.ofNat 32 b = BitVec.ofNat 32 (a ||| b)
  apply BitVec.eq_of_getLsbD_eq
  intro i hi
  simp [hi]
/-- a remainder by a power of two, as a mask -/
theorem fa_mask (n k : Nat) : nI n &&& nI (2 ^ k - 1) = nI (n % 2 ^ k) := by rw [fa_and, Nat.and_two_pow_sub_one_eq_mod]
/-- 'or' of a high part and a low one that don't meet is their sum -/
theorem fa_or_sum {a k : Nat} (b : Nat) (h : a < 2 ^ k) : nI (2 ^ k * b) ||| nI a = nI (2 ^ k * b + a) := by rw [fa_or, Nat.two_pow_add_eq_or_of_lt h]
/-- one bit, by 'and' with a power of two -/
theorem fa_bit {n j : Nat} (hj : j < 31) : nI n &&& nI (2 ^ j) = 0 ↔ n.testBit j = false := by
  have h2 : (2 : Nat) ^ j < 2 ^ 31 := Nat.pow_lt_pow_right (by decide) hj
  have hle : n &&& 2 ^ j ≤ 2 ^ j := Nat.and_le_right
  have e : n &&& 2 ^ j = 0 ↔ n.testBit j = false := by
    constructor
    · intro h
      have h1 : (n &&& 2 ^ j).testBit j = false := by rw [h]; simp
      rw [Nat.testBit_and] at h1
      first | simpa using h1 | simpa [Nat.testBit_two_pow_self] using h1 | simpa [Nat.testBit_two_pow] using h1
    · intro h
      apply Nat.eq_of_testBit_eq
      intro i
      rw [Nat.testBit_and]
      by_cases hi : j = i
      · subst hi; simp [h]
      · first | (simp [Nat.testBit_two_pow, hi]; done) | (simp [Nat.testBit_two_pow_of_ne hi]; done)
  rw [fa_and]
  constructor
  · intro h
    apply e.mp
    rcases Nat.eq_zero_or_pos (n &&& 2 ^ j) with z | z
    · exact z
    · exact absurd h (nI_ne0 z (Nat.lt_of_le_of_lt hle h2))
  · intro h
    rw [e.mpr h]; exact nI_0
/-- a remainder by a power of two of a number that isn't negative, as Java divides -/
theorem fa_rem {a k : Nat} (ha : a < 2 ^ 31) (hk : k < 31) : nI a - nI a / nI (2 ^ k) * nI (2 ^ k) = nI (a % 2 ^ k) := pk_rem ha (Nat.two_pow_pos k) (Nat.pow_lt_pow_right (by decide) hk)
theorem s_l : ∀ n, n < 32 → ((nI n &&& 31).toBitVec.smod 32).toNat = n := by decide +kernel
theorem z_inc (a : Nat) : nI a + Int32.ofInt 1 = nI (a + 1) := nI_1 a
theorem z_le {a b : Nat} (ha : a < 2147483648) (hb : b < 2147483648) (h : nI a ≤ nI b) : a ≤ b := (nI_leI (by omega) (by omega)).mp h
theorem z_nle {a b : Nat} (ha : a < 2147483648) (hb : b < 2147483648) (h : ¬ nI b ≤ nI a) : a < b := Nat.not_le.mp fun q => h ((nI_leI (by omega) (by omega)).mpr q)
theorem z_lt {a b : Nat} (ha : a < 2147483648) (hb : b < 2147483648) (h : nI a < nI b) : a < b := (nI_ltI (by omega) (by omega)).mp h
theorem z_nlt {a b : Nat} (ha : a < 2147483648) (hb : b < 2147483648) (h : ¬ nI b < nI a) : a ≤ b := Nat.not_lt.mp fun q => h ((nI_ltI (by omega) (by omega)).mpr q)
theorem z_eq {a b : Nat} (ha : a < 2147483648) (hb : b < 2147483648) (h : nI a = nI b) : a = b := (nI_eq (by omega) (by omega)).mp h
theorem z_ne {a b : Nat} (h : ¬ nI a = nI b) : a ≠ b := fun q => h (by rw [q])
theorem z_eq0 {a : Nat} (ha : a < 2147483648) (h : nI a = 0) : a = 0 := z_eq ha (by omega) (h.trans nI_0.symm)
theorem z_ne0 {a : Nat} (h : ¬ nI a = 0) : 0 < a := Nat.pos_of_ne_zero fun q => h (by rw [q]; exact nI_0)
theorem z_gt0 {a : Nat} (h : 0 < nI a) : 0 < a := Nat.pos_of_ne_zero fun q => by rw [q, nI_0] at h; exact absurd h (by decide)
theorem z_ngt0 {a : Nat} (ha : a < 2147483648) (h : ¬ 0 < nI a) : a = 0 := by
  rcases Nat.eq_zero_or_pos a with q | q
  · exact q
  · exact absurd (by rw [← nI_0]; exact nI_lt q (by omega)) h
theorem z_le0 {a : Nat} (ha : a < 2147483648) (h : nI a ≤ 0) : a = 0 := by
  rcases Nat.eq_zero_or_pos a with q | q
  · exact q
  · exact absurd h (nI_nle q (by omega))
theorem z_nle0 {a : Nat} (h : ¬ nI a ≤ 0) : 0 < a := Nat.pos_of_ne_zero fun q => h (by rw [q, nI_0]; decide)
theorem z_shl1' : ∀ i, i < 31 → nI 1 <<< (nI i &&& 31) = nI (2 ^ i) := by decide +kernel
theorem z_shl1 {i : Nat} (h : i < 31) : nI 1 <<< (nI i &&& 31) = nI (2 ^ i) := z_shl1' i h
theorem z_bit {a s : Nat} (ha : a < 2147483648) (hs : s < 31) : (nI a >>> (nI s &&& 31)) &&& nI 1 = nI (a.testBit s).toNat := by
  rw [pk_shrN (by omega) _ s (s_l s (by omega)), fa_and, Nat.and_one_is_mod, Nat.testBit_eq_decide_div_mod_eq]
  rcases Nat.mod_two_eq_zero_or_one (a / 2 ^ s) with q | q <;> rw [q] <;> rfl
theorem z_b0 {b : Bool} (h : nI b.toNat = 0) : b = false := by cases b; rfl; exact absurd h (by decide)
theorem z_b1 {b : Bool} (h : ¬ nI b.toNat = 0) : b = true := by cases b; exact absurd rfl h; rfl
theorem z_be1 {b : Bool} (h : nI b.toNat = nI 1) : b = true := by cases b; exact absurd h (by decide); rfl
theorem z_bn1 {b : Bool} (h : ¬ nI b.toNat = nI 1) : b = false := by cases b; rfl; exact absurd rfl h
theorem z_i2b' : ∀ a, a < 128 → (nI a).toInt8.toInt32 = nI a := by decide +kernel
theorem z_i2b {a : Nat} (h : a < 128) : (nI a).toInt8.toInt32 = nI a := z_i2b' a h
theorem z_i2s' : ∀ a, a < 1024 → (nI a).toInt16.toInt32 = nI a := by decide +kernel
theorem z_i2s {a : Nat} (h : a < 1024) : (nI a).toInt16.toInt32 = nI a := z_i2s' a h
theorem z_narb {a : Nat} (h : a < 128) : vp_nar .byte (nI a) = nI a := by rw [vp_nar_byte]; exact z_i2b h
theorem z_nars {a : Nat} (h : a < 1024) : vp_nar .short (nI a) = nI a := by rw [vp_nar_short]; exact z_i2s h
theorem z_narz {b : Bool} : vp_nar .boolean (nI b.toNat) = nI b.toNat := by cases b <;> decide
theorem z_narzb (b : Bool) : narrow .boolean (.int (nI b.toNat)) = .int (nI b.toNat) := by cases b <;> rfl
theorem zin_neg {n : Nat} {c : Int32} (hn : n < 2147483648) (h : c < 0) : ∀ k, k < n → c ≠ nI k := fun k hk e => by rw [e] at h; exact absurd h (nI_pos (by omega))
theorem zin_ge {n : Nat} {c : Int32} (hn : n < 2147483648) (h : nI n ≤ c) : ∀ k, k < n → c ≠ nI k := fun k hk e => by rw [e] at h; exact absurd (z_le (by omega) (by omega) h) (by omega)
theorem zin_in {n : Nat} {c : Int32} (hn : n < 2147483648) (h1 : ¬ c < 0) (h2 : ¬ nI n ≤ c) : ∃ k, k < n ∧ c = nI k := by
  rcases pk_ix c (n := n) (by omega) with q | q | q
  · exact absurd q h1
  · exact absurd q h2
  · exact q
theorem zin_gt {b n : Nat} {c : Int32} (hb : b < 2147483648) (hn : n ≤ b + 1) (h : nI b < c) : ∀ k, k < n → c ≠ nI k := fun k hk e => by rw [e] at h; exact absurd (z_lt (by omega) (by omega) h) (by omega)
theorem zin_le {b : Nat} {c : Int32} (hb : b < 2147483647) (h1 : ¬ c < 0) (h2 : ¬ nI b < c) : ∃ k, k < b + 1 ∧ c = nI k := by
  refine zin_in (by omega) h1 fun q => h2 ?_
  rw [Int32.le_iff_toInt_le, nI_toInt (by omega)] at q
  rw [Int32.lt_iff_toInt_lt, nI_toInt (by omega)]
  omega
theorem zin_le' {b : Nat} {c : Int32} (hb : b < 2147483647) (h1 : ¬ c < 0) (h2 : c ≤ nI b) : ∃ k, k < b + 1 ∧ c = nI k := zin_le hb h1 (by
  intro q
  rw [Int32.lt_iff_toInt_lt] at q
  rw [Int32.le_iff_toInt_le] at h2
  omega)
/-- a number between a and b -/
theorem zin_ab {a b : Nat} {c : Int32} (ha : a < 2147483648) (hb : b < 2147483647) (h1 : ¬ c < nI a) (h2 : c ≤ nI b) : ∃ k, a ≤ k ∧ k ≤ b ∧ c = nI k := by
  have h3 : ¬ c < 0 := by
    intro q
    apply h1
    rw [Int32.lt_iff_toInt_lt] at q ⊢
    rw [nI_toInt (by omega)]
    have : (0 : Int32).toInt = 0 := rfl
    omega
  obtain ⟨k, hk, rfl⟩ := zin_le' hb h3 h2
  exact ⟨k, Nat.not_lt.mp fun q => h1 (nI_lt q (by omega)), by omega, rfl⟩
end
section
/-! pure words of the model: what its methods compute -/
def mk (P : Nat → Bool) : Nat → Nat
  | 0 => 0
  | i + 1 => if P i then mk P i ||| 2 ^ i else mk P i
theorem mk_lt (P : Nat → Bool) : ∀ m, mk P m < 2 ^ m
  | 0 => by show 0 < 1; omega
  | m + 1 => by
    have h := mk_lt P m
    have h2 : 2 ^ m < 2 ^ (m + 1) := Nat.pow_lt_pow_right (by decide) (by omega)
    unfold mk
    split
    · exact Nat.or_lt_two_pow (by omega) h2
    · omega
theorem mk_bit (P : Nat → Bool) : ∀ m i, (mk P m).testBit i = (decide (i < m) && P i)
  | 0, i => by simp [mk]
  | m + 1, i => by
    have ih := mk_bit P m i
    unfold mk
    by_cases hP : P m = true
    · rw [if_pos hP, Nat.testBit_or, ih, Nat.testBit_two_pow]
      by_cases h : m = i
      · subst h; simp [hP]
      · by_cases h2 : i < m
        · simp [h, h2, show i < m + 1 by omega]
        · simp [h, h2, show ¬ i < m + 1 by omega]
    · rw [if_neg hP, ih]
      by_cases h : m = i
      · subst h; simp [hP]
      · by_cases h2 : i < m
        · simp [h2, show i < m + 1 by omega]
        · simp [h2, show ¬ i < m + 1 by omega]
theorem mk_cong {P R : Nat → Bool} : ∀ {m : Nat}, (∀ i, i < m → P i = R i) → mk P m = mk R m
  | 0, _ => rfl
  | m + 1, h => by
    unfold mk
    rw [h m (by omega), mk_cong (fun i hi => h i (by omega))]
def pcnt (a : Nat) : Nat → Nat
  | 0 => 0
  | s + 1 => pcnt a s + (a.testBit s).toNat
theorem pcnt_le (a : Nat) : ∀ s, pcnt a s ≤ s
  | 0 => Nat.le_refl _
  | s + 1 => by
    have := pcnt_le a s
    unfold pcnt
    have h2 : (a.testBit s).toNat ≤ 1 := Bool.toNat_le _
    omega
/-- the owner of a message: the first class upwards that defines it, within f steps -/
def ownF (U d : Nat → Int32) (s : Nat) : Nat → Int32 → Int32
  | 0, _ => -1
  | f + 1, e => if e < 0 then -1 else if 0 < d (8 * e.toNatClampNeg + s) then e else ownF U d s f (U e.toNatClampNeg)
/-- whether c is met on the way up from e, within f steps -/
def undF (U : Nat → Int32) (c : Int32) : Nat → Int32 → Bool
  | 0, _ => false
  | f + 1, e => if e < 0 then false else if e = c then true else undF U c f (U e.toNatClampNeg)
/-- -1 or a class -/
def Par (n : Nat) (e : Int32) : Prop := e = -1 ∨ ∃ j, j < n ∧ e = nI j
def Kf (U d : Nat → Int32) (k : Nat) : Nat := mk (fun s => decide (0 ≤ ownF U d s 10 (nI k))) 8
theorem Kf_lt (U d : Nat → Int32) (k : Nat) : Kf U d k < 256 := mk_lt _ 8
def Mf (U d : Nat → Int32) (s : Nat) : Nat → Nat
  | 0 => 0
  | c + 1 => if (Kf U d c).testBit s then Mf U d s c ||| Kf U d c else Mf U d s c
theorem Mf_lt (U d : Nat → Int32) (s : Nat) : ∀ n, Mf U d s n < 256
  | 0 => by show 0 < 256; omega
  | c + 1 => by
    have h := Mf_lt U d s c
    unfold Mf
    split
    · exact Nat.or_lt_two_pow (n := 8) h (Kf_lt U d c)
    · exact h
def tog (M : Nat → Nat) (t : Nat) : Nat → Bool
  | 0 => true
  | s + 1 => if t.testBit s then (tog M t s && decide ((nI t &&& (nI (M s) ^^^ (-1))) = 0)) else tog M t s
def strg (M : Nat → Nat) (t : Nat) : Nat → Bool
  | 0 => true
  | s + 1 => if t.testBit s then (strg M t s && decide ((nI (t &&& M s) &&& (nI (2 ^ s) ^^^ (-1))) = 0)) else strg M t s
def crd (M : Nat → Nat) : Nat → Nat
  | 0 => 0
  | t + 1 => if crd M t < pcnt t 8 ∧ tog M t 8 = true then pcnt t 8 else crd M t
theorem crd_le (M : Nat → Nat) : ∀ t, crd M t ≤ 8
  | 0 => by show 0 ≤ 8; omega
  | t + 1 => by
    have := crd_le M t
    have := pcnt_le t 8
    unfold crd
    split <;> omega
def usd (M : Nat → Nat) : Nat → Nat
  | 0 => 0
  | j + 1 => usd M j ||| M j
theorem usd_lt {M : Nat → Nat} (h : ∀ s, s < 8 → M s < 256) : ∀ j, j ≤ 8 → usd M j < 256
  | 0, _ => by show 0 < 256; omega
  | j + 1, hj => Nat.or_lt_two_pow (n := 8) (usd_lt h j (by omega)) (h j (by omega))
def fup (g : Nat → Nat) (k v : Nat) : Nat → Nat := fun j => if j = k then v else g j
/-- the least number of colours of the set t by its parts below q -/
def inn (M g : Nat → Nat) (t : Nat) : Nat → Nat
  | 0 => 8
  | q + 1 => if q ≠ 0 ∧ q &&& t = q ∧ strg M q 8 = true then (if g (t ^^^ q) + 1 < inn M g t q then g (t ^^^ q) + 1 else inn M g t q) else inn M g t q
def gF (M : Nat → Nat) (used : Nat) : Nat → (Nat → Nat)
  | 0 => fun x => if x = 0 then 0 else 8
  | t + 1 => if t ≠ 0 ∧ t &&& used = t then fup (gF M used t) t (inn M (gF M used t) t (t + 1)) else gF M used t
theorem inn_le (M g : Nat → Nat) (t : Nat) : ∀ q, inn M g t q ≤ 8
  | 0 => by show 8 ≤ 8; omega
  | q + 1 => by
    have := inn_le M g t q
    unfold inn
    split
    · split <;> omega
    · exact this
theorem gF_le (M : Nat → Nat) (used : Nat) : ∀ t x, gF M used t x ≤ 8
  | 0, x => by unfold gF; split <;> omega
  | t + 1, x => by
    have := gF_le M used t x
    unfold gF
    split
    · unfold fup
      split
      · exact inn_le _ _ _ _
      · exact this
    · exact this
/-! what the public methods do to the state (n, U, d) and answer -/
def AddR (n : Nat) (U : Nat → Int32) (p v : Int32) (n' : Nat) (U' : Nat → Int32) : Prop :=
  (¬ Par n p ∧ v = -1 ∧ n' = n ∧ U' = U) ∨ (Par n p ∧ 10 ≤ n ∧ v = -2 ∧ n' = n ∧ U' = U) ∨ (Par n p ∧ n < 10 ∧ v = nI n ∧ n' = n + 1 ∧ U' = upd U n p)
def DefC (n : Nat) (c s m : Int32) (k j q : Nat) : Prop := k < n ∧ j < 8 ∧ (1 ≤ q ∧ q ≤ 1000) ∧ c = nI k ∧ s = nI j ∧ m = nI q
def DefR (n : Nat) (d : Nat → Int32) (c s m v : Int32) (d' : Nat → Int32) : Prop :=
  (∃ k j q, DefC n c s m k j q ∧ v = nI 1 ∧ d' = upd d (8 * k + j) (nI q)) ∨ ((∀ k j q, ¬ DefC n c s m k j q) ∧ v = nI 0 ∧ d' = d)
def CS (n : Nat) (c s : Int32) (k j : Nat) : Prop := k < n ∧ j < 8 ∧ c = nI k ∧ s = nI j
def DropR (n : Nat) (d : Nat → Int32) (c s v : Int32) (d' : Nat → Int32) : Prop :=
  (∃ k j, CS n c s k j ∧ d (8 * k + j) ≠ 0 ∧ v = nI 1 ∧ d' = upd d (8 * k + j) (nI 0)) ∨ ((∀ k j, CS n c s k j → d (8 * k + j) = 0) ∧ v = nI 0 ∧ d' = d)
def MoveR (n : Nat) (U : Nat → Int32) (c p v : Int32) (U' : Nat → Int32) : Prop :=
  (∃ k, k < n ∧ c = nI k ∧ Par n p ∧ undF U c 10 p = false ∧ v = nI 1 ∧ U' = upd U k p) ∨ ((∀ k, k < n → c = nI k → Par n p → undF U c 10 p = true) ∧ v = nI 0 ∧ U' = U)
def ParR (n : Nat) (U : Nat → Int32) (c v : Int32) : Prop := (∃ k, k < n ∧ c = nI k ∧ v = U k) ∨ ((∀ k, k < n → c ≠ nI k) ∧ v = -1)
def OwnR (n : Nat) (U d : Nat → Int32) (c s v : Int32) : Prop := (∃ k j, CS n c s k j ∧ v = ownF U d j 10 (nI k)) ∨ ((∀ k j, ¬ CS n c s k j) ∧ v = -1)
/-- what a class answers to a message -/
def sndF (U d : Nat → Int32) (j k : Nat) : Int32 := if ownF U d j 10 (nI k) < 0 then nI 0 else d (8 * (ownF U d j 10 (nI k)).toNatClampNeg + j)
def SndR (n : Nat) (U d : Nat → Int32) (c s v : Int32) : Prop := (∃ k j, CS n c s k j ∧ v = sndF U d j k) ∨ ((∀ k j, ¬ CS n c s k j) ∧ v = nI 0)
def SupR (n : Nat) (U d : Nat → Int32) (c s v : Int32) : Prop := (∃ k, k < n ∧ c = nI k ∧ SndR n U d (U k) s v) ∨ ((∀ k, k < n → c ≠ nI k) ∧ v = nI 0)
def UndR (n : Nat) (U d : Nat → Int32) (c v : Int32) : Prop := (∃ k, k < n ∧ c = nI k ∧ v = nI (Kf U d k)) ∨ ((∀ k, k < n → c ≠ nI k) ∧ v = nI 0)
/-- the classes below m whose owner for j is k -/
def hrs (U d : Nat → Int32) (j k m : Nat) : Nat := mk (fun x => decide (ownF U d j 10 (nI x) = nI k)) m
def HeiR (n : Nat) (U d : Nat → Int32) (c s v : Int32) : Prop := (∃ k j, CS n c s k j ∧ v = nI (hrs U d j k n)) ∨ ((∀ k j, ¬ CS n c s k j) ∧ v = nI 0)
def ApaR (n : Nat) (U d : Nat → Int32) (s v : Int32) : Prop := (∃ j, j < 8 ∧ s = nI j ∧ v = ((nI 255 &&& (nI (Mf U d j n) ^^^ (-1))) &&& (nI (2 ^ j) ^^^ (-1)))) ∨ ((∀ j, j < 8 → s ≠ nI j) ∧ v = nI 0)
def CrdR (n : Nat) (U d : Nat → Int32) (v : Int32) : Prop := v = nI (crd (fun s => Mf U d s n) 256)
end
section
set_option maxRecDepth 100000
/-! own layer over the kit: one shape of contract, one row a call, rows for fields and arrays by Nat places -/
def zR (k : Nat) : Room := { frames := k, cells := 0, slots := 0, locals := 30 * k }
abbrev vwCl : List vw_C := [(RX0, TX0, 18), (RX1, TX1, 6)]
abbrev zT (dB dS dN dZ : ClassId) : List (ClassId × FieldType) := [(dB, .byte), (dS, .short), (dN, .int), (dZ, .boolean)]
/-- the world w lies in the heap H, in the method's own part A, and nothing else has changed -/
def zH (D : va_G) (A : Nat → Prop) (s : State) (w : va_W) (H : Heap) (locs : List Loc) : Prop := va_P D vwCl w H ∧ va_D A w ∧ va_S A s.heap H locs ∧ ∀ q : Nat, s.heap.size ≤ q → A q
def zPc (D : va_G) (tys : List (ClassId × FieldType)) (As : List Value) (w0 : va_W) (sz : Nat) : Array Value → State → Prop := va_Pc As (fun U => U.heap.size = sz ∧ va_P D vwCl w0 U.heap ∧ va_K D vwCl tys U ∧ va_D (fun _ => True) w0)
def zB (D : va_G) (tys : List (ClassId × FieldType)) (A : Nat → Prop) (w : va_W) (t : State) : Prop := va_P D vwCl w t.heap ∧ va_K D vwCl tys t ∧ va_D A w
/-- a contract of a method with an int or boolean answer -/
def zMI {S : Type} (l : Launch) (D : va_G) (tys : List (ClassId × FieldType)) (y : MethodName) (cc : ByteArray) (L : Nat) (ret : FieldType) (k : Nat) (As : List Value) (w0 : va_W) (post : Int32 → S → Prop) (wf : S → va_W) : Prop :=
  ∀ sz : Nat, Met l y (ws_ y cc L (some ret)) (zR k) (zPc D tys As w0 sz) (va_Qi post (fun u t => zB D tys (va_A w0 sz) (wf u) t) (va_A w0 sz)) 0 0 (va_A w0 sz)
/-- a contract of a method without an answer -/
def zMV {S : Type} (l : Launch) (D : va_G) (tys : List (ClassId × FieldType)) (y : MethodName) (cc : ByteArray) (L : Nat) (k : Nat) (As : List Value) (w0 : va_W) (post : S → Prop) (wf : S → va_W) : Prop :=
  ∀ sz : Nat, Met l y (ws_ y cc L none) (zR k) (zPc D tys As w0 sz) (va_Qv post (fun u t => zB D tys (va_A w0 sz) (wf u) t) (va_A w0 sz)) 0 0 (va_A w0 sz)
theorem zStartI {S : Type} {l : Launch} {D : va_G} {tys : List (ClassId × FieldType)} {y : MethodName} {cc : ByteArray} {L : Nat} {ret : FieldType} {k : Nat} {As : List Value} {w0 : va_W} {post : Int32 → S → Prop} {wf : S → va_W}
    (hy : plainName y.cls = true) (hAs : (lg_sl As).length ≤ L)
    (body : ∀ (p : Program) (e : Env) (s : State) (m : MethodId) (args : Array Value) (below : List Frame) (meth : Method) (c : Code) (A : Nat → Prop) (Q : State → Prop) (ls : Array Slot), p.tables.exec = Jvm.exec → c.code = cc → c.maxLocals = L → s.vm.findClass y.cls = some m.cls → (∀ w ∈ lw_all, w.before args s = true) → va_K D vwCl tys s →
      (∀ (v : Int32) (u : S) (H : Heap) (locs : List Loc) (pc : Nat) (ls : Array Slot), narrow ret (.int v) = .int v → post v u → zH D A s (wf u) H locs → decode cc pc = .ok (.ireturn, 1) → W p l e (zR k) s m args below meth c H locs 0 0 Q (F0 m pc ls [.int v])) →
      zH D A s w0 s.heap [] → lv_has ls L (lv_args 0 As) → W p l e (zR k) s m args below meth c s.heap [] 0 0 Q (F0 m 0 ls [])) : zMI l D tys y cc L ret k As w0 post wf := by
  intro sz
  refine Met.ofW (cc := cc) (maxL := L) (ret := some ret) hy rfl ?_
  intro p e s m args below meth c s₁ B hml hv
  obtain ⟨rfl, hsz, hP, hK, hD0⟩ := hv
  have hx := B.exec
  have hb := B.bytes
  have hr := B.returns
  have hts := atoms_spec (ws := ws_ y cc L (some ret)) B.pre
  have hts : ∀ w ∈ lw_all, w.before _ s = true := fun w h => hts w (List.mem_cons_of_mem _ h)
  have hown : s.vm.findClass y.cls = some m.cls := findClass_of_methodNamed B.named
  have hlocks := B.notSynchronized
  subst hsz
  have hD := hD0.self (sz := s.heap.size)
  generalize hAe : va_A w0 s.heap.size = A at hD ⊢
  have hA : ∀ q : Nat, s.heap.size ≤ q → A q := fun q h => by rw [← hAe]; exact Or.inr h
  have hl := lv_entry As (n := L) hAs
  rw [lg_entry_eq]
  generalize (lg_sl As ++ List.replicate (L - (lg_sl As).length) Slot.unset).toArray = ls at hl ⊢
  refine body p e s m _ below meth c A _ ls hx hb hml hown hts hK ?_ ⟨hP, hD, va_S.rf, hA⟩ hl
  intro v u H locs pc ls hn hp hH hd
  exact W.zret (v := v) hx hb hr hn (fun t ht hW => ⟨⟨v, u, rfl, hp, by rw [ht]; exact hH.1, va_K.moved hW.alike hK, hH.2.1⟩, hH.2.2.1.F ht⟩) hH.2.2.1.2.2 hd
theorem zStartV {S : Type} {l : Launch} {D : va_G} {tys : List (ClassId × FieldType)} {y : MethodName} {cc : ByteArray} {L : Nat} {k : Nat} {As : List Value} {w0 : va_W} {post : S → Prop} {wf : S → va_W}
    (hy : plainName y.cls = true) (hAs : (lg_sl As).length ≤ L)
    (body : ∀ (p : Program) (e : Env) (s : State) (m : MethodId) (args : Array Value) (below : List Frame) (meth : Method) (c : Code) (A : Nat → Prop) (Q : State → Prop) (ls : Array Slot), p.tables.exec = Jvm.exec → c.code = cc → c.maxLocals = L → s.vm.findClass y.cls = some m.cls → (∀ w ∈ lw_all, w.before args s = true) → va_K D vwCl tys s →
      (∀ (u : S) (H : Heap) (locs : List Loc) (pc : Nat) (ls : Array Slot), post u → zH D A s (wf u) H locs → decode cc pc = .ok (.return_, 1) → W p l e (zR k) s m args below meth c H locs 0 0 Q (F0 m pc ls [])) →
      zH D A s w0 s.heap [] → lv_has ls L (lv_args 0 As) → W p l e (zR k) s m args below meth c s.heap [] 0 0 Q (F0 m 0 ls [])) : zMV l D tys y cc L k As w0 post wf := by
  intro sz
  refine Met.ofW (cc := cc) (maxL := L) (ret := none) hy rfl ?_
  intro p e s m args below meth c s₁ B hml hv
  obtain ⟨rfl, hsz, hP, hK, hD0⟩ := hv
  have hx := B.exec
  have hb := B.bytes
  have hr := B.returns
  have hts := atoms_spec (ws := ws_ y cc L none) B.pre
  have hts : ∀ w ∈ lw_all, w.before _ s = true := fun w h => hts w (List.mem_cons_of_mem _ h)
  have hown : s.vm.findClass y.cls = some m.cls := findClass_of_methodNamed B.named
  have hlocks := B.notSynchronized
  subst hsz
  have hD := hD0.self (sz := s.heap.size)
  generalize hAe : va_A w0 s.heap.size = A at hD ⊢
  have hA : ∀ q : Nat, s.heap.size ≤ q → A q := fun q h => by rw [← hAe]; exact Or.inr h
  have hl := lv_entry As (n := L) hAs
  rw [lg_entry_eq]
  generalize (lg_sl As ++ List.replicate (L - (lg_sl As).length) Slot.unset).toArray = ls at hl ⊢
  refine body p e s m _ below meth c A _ ls hx hb hml hown hts hK ?_ ⟨hP, hD, va_S.rf, hA⟩ hl
  intro u H locs pc ls hp hH hd
  exact W.vret hx hb hr (fun t ht hW => ⟨⟨u, rfl, hp, by rw [ht]; exact hH.1, va_K.moved hW.alike hK, hH.2.1⟩, hH.2.2.1.F ht⟩) hH.2.2.1.2.2 hd
/-- the words of a call through an object -/
def zCl (own C : String) (index : Nat) (y : MethodName) (cb : ByteArray) (Lb : Nat) (rt : Option FieldType) (n : Nat) : Prop := GoodIn lw_all (wsV own index C y (ws_ y cb Lb rt)) ∧ (y.cls = C ∧ y.cls ≠ "java/lang/invoke/MethodHandle" ∧ y.cls ≠ "java/lang/invoke/VarHandle" ∧ (parseMethodDescriptor y.desc).map (fun d => d.parameters.length) = some n)
/-- the words of a static call -/
def zCs (own : String) (index : Nat) (y : MethodName) (cb : ByteArray) (Lb : Nat) (rt : Option FieldType) (n : Nat) : Prop := GoodIn lw_all (va_wsS own index y (ws_ y cb Lb rt)) ∧ (y.cls ≠ "java/lang/invoke/MethodHandle" ∧ y.cls ≠ "java/lang/invoke/VarHandle" ∧ (parseMethodDescriptor y.desc).map (fun d => d.parameters.length) = some n)
/-- the receiver stands first in the callee's world -/
def zRv (C : String) (b : Nat) (w : va_W) : Prop := ∃ (ci : Nat) (q : vw_C) (fs : List Value), vwCl[ci]? = some q ∧ q.1 = C ∧ w[0]? = some (b, .inr (ci, fs))
theorem zblind {D : va_G} {tys : List (ClassId × FieldType)} {As : List Value} {w0 : va_W} {sz : Nat} : FrameBlind (zPc D tys As w0 sz) := fun a U g mk q => by
  obtain ⟨q0, q1, qP, qK, qD⟩ := q
  exact ⟨q0, q1, qP, va_K.moved (u := U) (U := U.calling g mk a) (Vm.Alike.refl U.vm) qK, qD⟩
theorem zrecv {s : State} {H : Heap} {D : va_G} {tys : List (ClassId × FieldType)} {C : String} {b : Nat} {w : va_W} (hK : va_K D vwCl tys s) (hP : va_P D vwCl w H) (h : zRv C b w) : ∃ cell : Cell, H[b]? = some cell ∧ cell.vm.isStatics = false ∧ s.vm.findClass C = some cell.cls := by
  obtain ⟨ci, q, fs, h1, h2, h3⟩ := h
  subst h2
  exact va_recv hK hP h1 h3
theorem zfree {D : va_G} {A : Nat → Prop} {s : State} {w : va_W} {H : Heap} {locs : List Loc} (hW : zH D A s w H locs) : ∀ q, va_A w H.size q → A q := by
  intro q h
  rcases h with ⟨k, e, h⟩ | h
  · exact hW.2.1.2 k _ h
  · exact hW.2.2.2 q (Nat.le_trans hW.2.2.1.1 h)
section ZC
variable {p : Program} {l : Launch} {e : Env} {R : Room} {s : State} {m : MethodId} {args : Array Value} {below : List Frame} {meth : Method} {c : Code} {H : Heap} {locs : List Loc} {cells slots : Nat} {Q : State → Prop}
variable {cc cb : ByteArray} {pc nL Lb k n index : Nat} {ls : Array Slot} {rest st0 As : List Value} {D : va_G} {A : Nat → Prop} {tys : List (ClassId × FieldType)} {w w0 : va_W} {own C : String} {y : MethodName} {b : Nat}
theorem z_top {x z : Int32} (h : x = z) (kk : W p l e R s m args below meth c H locs cells slots Q (F0 m pc ls (.int z :: rest))) : W p l e R s m args below meth c H locs cells slots Q (F0 m pc ls (.int x :: rest)) := by
  subst h
  exact kk
theorem z_top2 {x z : Int32} {v : Value} (h : x = z) (kk : W p l e R s m args below meth c H locs cells slots Q (F0 m pc ls (v :: .int z :: rest))) : W p l e R s m args below meth c H locs cells slots Q (F0 m pc ls (v :: .int x :: rest)) := by
  subst h
  exact kk
theorem zcallI {S : Type} {post : Int32 → S → Prop} {wf : S → va_W} {rt : FieldType} (hx : p.tables.exec = Jvm.exec) (hb : c.code = cc) (hml : c.maxLocals = nL) (hown : s.vm.findClass own = some m.cls) (hts : ∀ w ∈ lw_all, w.before args s = true) (hK : va_K D vwCl tys s)
    (hcl : zCl own C index y cb Lb (some rt) n) (hM : zMI l D tys y cb Lb rt k (.ref b :: As) w0 post wf) (hR : k + 1 ≤ R.frames ∧ 8 + (Lb + 11) + 30 * k ≤ R.locals) (hW : zH D A s w0 H locs) (hrv : zRv C b w0) (hn : As.length = n) (hsz : ls.size = nL) (hst : st0 = As.reverse ++ .ref b :: rest) (hroom : (rest.map fun v => v.category).sum ≤ 8) (hdg : decode cc pc = .ok (.invokevirtual index, 3)) (hcs : cells + 0 ≤ R.cells ∧ slots + 0 ≤ R.slots)
    (kk : ∀ (v : Int32) (u : S) (H : Heap) (locs : List Loc), post v u → zH D A s (wf u) H locs → W p l e R s m args below meth c H locs cells slots Q (F0 m (pc + 3) ls (.int v :: rest))) : W p l e R s m args below meth c H locs cells slots Q (F0 m pc ls st0) := by
  have hFc := zfree hW
  refine va_calli (va_runV (As := As) (rest := rest) ⟨hx, hb, hml, hown, hts⟩ (hM H.size) (cwV n hts hcl.1 rfl rfl rfl hcl.2 hR) ⟨zblind, zrecv hK hW.1 hrv, fun U hU hW' => ⟨rfl, by rw [hU], by rw [hU]; exact hW.1, va_K.moved hW'.alike hK, hW.2.1.weaken (fun _ _ _ _ => trivial)⟩⟩ rfl hn hsz hst (lv_room hroom) hdg hcs) hW.2.2.1 (fun q _ h => hFc q h) hFc (fun r u t H1 locs1 ht hvm hw hB hz1 hk1 hS1 => ?_)
  obtain ⟨hP1, -, hD1⟩ := hB
  rw [ht] at hP1
  exact kk r u H1 locs1 hw ⟨hP1, hD1.weaken (fun _ q _ h => hFc q.1 h), hS1, hW.2.2.2⟩
theorem zcallV {S : Type} {post : S → Prop} {wf : S → va_W} (hx : p.tables.exec = Jvm.exec) (hb : c.code = cc) (hml : c.maxLocals = nL) (hown : s.vm.findClass own = some m.cls) (hts : ∀ w ∈ lw_all, w.before args s = true) (hK : va_K D vwCl tys s)
    (hcl : zCl own C index y cb Lb none n) (hM : zMV l D tys y cb Lb k (.ref b :: As) w0 post wf) (hR : k + 1 ≤ R.frames ∧ 8 + (Lb + 11) + 30 * k ≤ R.locals) (hW : zH D A s w0 H locs) (hrv : zRv C b w0) (hn : As.length = n) (hsz : ls.size = nL) (hst : st0 = As.reverse ++ .ref b :: rest) (hroom : (rest.map fun v => v.category).sum ≤ 8) (hdg : decode cc pc = .ok (.invokevirtual index, 3)) (hcs : cells + 0 ≤ R.cells ∧ slots + 0 ≤ R.slots)
    (kk : ∀ (u : S) (H : Heap) (locs : List Loc), post u → zH D A s (wf u) H locs → W p l e R s m args below meth c H locs cells slots Q (F0 m (pc + 3) ls rest)) : W p l e R s m args below meth c H locs cells slots Q (F0 m pc ls st0) := by
  have hFc := zfree hW
  refine va_callv (va_runV (As := As) (rest := rest) ⟨hx, hb, hml, hown, hts⟩ (hM H.size) (cwV n hts hcl.1 rfl rfl rfl hcl.2 hR) ⟨zblind, zrecv hK hW.1 hrv, fun U hU hW' => ⟨rfl, by rw [hU], by rw [hU]; exact hW.1, va_K.moved hW'.alike hK, hW.2.1.weaken (fun _ _ _ _ => trivial)⟩⟩ rfl hn hsz hst (lv_room hroom) hdg hcs) hW.2.2.1 (fun q _ h => hFc q h) hFc (fun u t H1 locs1 ht hvm hw hB hz1 hk1 hS1 => ?_)
  obtain ⟨hP1, -, hD1⟩ := hB
  rw [ht] at hP1
  exact kk u H1 locs1 hw ⟨hP1, hD1.weaken (fun _ q _ h => hFc q.1 h), hS1, hW.2.2.2⟩
theorem zcallS {S : Type} {post : Int32 → S → Prop} {wf : S → va_W} {rt : FieldType} (hx : p.tables.exec = Jvm.exec) (hb : c.code = cc) (hml : c.maxLocals = nL) (hown : s.vm.findClass own = some m.cls) (hts : ∀ w ∈ lw_all, w.before args s = true) (hK : va_K D vwCl tys s)
    (hcl : zCs own index y cb Lb (some rt) n) (hM : zMI l D tys y cb Lb rt k As w0 post wf) (hR : k + 1 ≤ R.frames ∧ 8 + (Lb + 11) + 30 * k ≤ R.locals) (hW : zH D A s w0 H locs) (hn : As.length = n) (hsz : ls.size = nL) (hst : st0 = As.reverse ++ rest) (hroom : (rest.map fun v => v.category).sum ≤ 8) (hdg : decode cc pc = .ok (.invokestatic index, 3)) (hcs : cells + 0 ≤ R.cells ∧ slots + 0 ≤ R.slots)
    (kk : ∀ (v : Int32) (u : S) (H : Heap) (locs : List Loc), post v u → zH D A s (wf u) H locs → W p l e R s m args below meth c H locs cells slots Q (F0 m (pc + 3) ls (.int v :: rest))) : W p l e R s m args below meth c H locs cells slots Q (F0 m pc ls st0) := by
  have hFc := zfree hW
  refine va_calli (va_runS (As := As) (rest := rest) ⟨hx, hb, hml, hown, hts⟩ (hM H.size) (va_cwS n hts hcl.1 rfl rfl rfl hcl.2 hR) ⟨zblind, fun U hU hW' => ⟨rfl, by rw [hU], by rw [hU]; exact hW.1, va_K.moved hW'.alike hK, hW.2.1.weaken (fun _ _ _ _ => trivial)⟩⟩ rfl hn hsz hst (lv_room hroom) hdg hcs) hW.2.2.1 (fun q _ h => hFc q h) hFc (fun r u t H1 locs1 ht hvm hw hB hz1 hk1 hS1 => ?_)
  obtain ⟨hP1, -, hD1⟩ := hB
  rw [ht] at hP1
  exact kk r u H1 locs1 hw ⟨hP1, hD1.weaken (fun _ q _ h => hFc q.1 h), hS1, hW.2.2.2⟩
theorem z_bald (hx : p.tables.exec = Jvm.exec) (hb : c.code = cc) (hK : va_K D vwCl tys s) (hW : zH D A s w H locs) (q0 t0 : Nat) {a : Nat} {cA : ClassId} {N : Nat} {f : Nat → Int32} (ha : w[q0]? = some (a, .inl (cA, N, .inl f))) (ht : tys[t0]? = some (cA, .byte)) {i : Int32} (j : Nat) (hi : i = nI j) (hj : j < N) (hN : N < 1000) (hdg : decode cc pc = .ok (.baload, 1))
    (kk : W p l e R s m args below meth c H locs cells slots Q (F0 m (pc + 1) ls (.int (f j) :: rest))) : W p l e R s m args below meth c H locs cells slots Q (F0 m pc ls (.int i :: .ref a :: rest)) := by
  subst hi
  refine va_bald hx hb hK hW.1 q0 t0 ha ht (vp_in_nI hj (by omega)) hdg ?_
  rw [nI_clamp (by omega)]
  exact kk
theorem z_bast (hx : p.tables.exec = Jvm.exec) (hb : c.code = cc) (hK : va_K D vwCl tys s) (hW : zH D A s w H locs) (q0 t0 : Nat) {a : Nat} {cA : ClassId} {N : Nat} {f : Nat → Int32} (ha : w[q0]? = some (a, .inl (cA, N, .inl f))) (ht : tys[t0]? = some (cA, .byte)) {i x v : Int32} (j : Nat) (hi : i = nI j) (hj : j < N) (hN : N < 1000) (hv : vp_nar .byte x = v) (hdg : decode cc pc = .ok (.bastore, 1))
    (kk : ∀ (H : Heap) (locs : List Loc), zH D A s (w.set q0 (a, .inl (cA, N, .inl (upd f j v)))) H locs → W p l e R s m args below meth c H locs cells slots Q (F0 m (pc + 1) ls rest)) : W p l e R s m args below meth c H locs cells slots Q (F0 m pc ls (.int x :: .int i :: .ref a :: rest)) := by
  subst hi
  subst hv
  refine va_bast hx hb hK hW.1 hW.2.1 hW.2.2.1 q0 t0 ha ht (vp_in_nI hj (by omega)) hdg (fun H1 locs1 hP hD hS => ?_)
  rw [nI_clamp (by omega)] at hP hD
  exact kk H1 locs1 ⟨hP, hD, hS, hW.2.2.2⟩
theorem z_zald (hx : p.tables.exec = Jvm.exec) (hb : c.code = cc) (hK : va_K D vwCl tys s) (hW : zH D A s w H locs) (q0 t0 : Nat) {a : Nat} {cA : ClassId} {N : Nat} {f : Nat → Int32} (ha : w[q0]? = some (a, .inl (cA, N, .inl f))) (ht : tys[t0]? = some (cA, .boolean)) {i : Int32} (j : Nat) (hi : i = nI j) (hj : j < N) (hN : N < 1000) (hdg : decode cc pc = .ok (.baload, 1))
    (kk : W p l e R s m args below meth c H locs cells slots Q (F0 m (pc + 1) ls (.int (f j) :: rest))) : W p l e R s m args below meth c H locs cells slots Q (F0 m pc ls (.int i :: .ref a :: rest)) := by
  subst hi
  refine va_zald hx hb hK hW.1 q0 t0 ha ht (vp_in_nI hj (by omega)) hdg ?_
  rw [nI_clamp (by omega)]
  exact kk
theorem z_zast (hx : p.tables.exec = Jvm.exec) (hb : c.code = cc) (hK : va_K D vwCl tys s) (hW : zH D A s w H locs) (q0 t0 : Nat) {a : Nat} {cA : ClassId} {N : Nat} {f : Nat → Int32} (ha : w[q0]? = some (a, .inl (cA, N, .inl f))) (ht : tys[t0]? = some (cA, .boolean)) {i x v : Int32} (j : Nat) (hi : i = nI j) (hj : j < N) (hN : N < 1000) (hv : vp_nar .boolean x = v) (hdg : decode cc pc = .ok (.bastore, 1))
    (kk : ∀ (H : Heap) (locs : List Loc), zH D A s (w.set q0 (a, .inl (cA, N, .inl (upd f j v)))) H locs → W p l e R s m args below meth c H locs cells slots Q (F0 m (pc + 1) ls rest)) : W p l e R s m args below meth c H locs cells slots Q (F0 m pc ls (.int x :: .int i :: .ref a :: rest)) := by
  subst hi
  subst hv
  refine va_zast hx hb hK hW.1 hW.2.1 hW.2.2.1 q0 t0 ha ht (vp_in_nI hj (by omega)) hdg (fun H1 locs1 hP hD hS => ?_)
  rw [nI_clamp (by omega)] at hP hD
  exact kk H1 locs1 ⟨hP, hD, hS, hW.2.2.2⟩
theorem z_sald (hx : p.tables.exec = Jvm.exec) (hb : c.code = cc) (hK : va_K D vwCl tys s) (hW : zH D A s w H locs) (q0 t0 : Nat) {a : Nat} {cA : ClassId} {N : Nat} {f : Nat → Int32} (ha : w[q0]? = some (a, .inl (cA, N, .inl f))) (ht : tys[t0]? = some (cA, .short)) {i : Int32} (j : Nat) (hi : i = nI j) (hj : j < N) (hN : N < 1000) (hdg : decode cc pc = .ok (.saload, 1))
    (kk : W p l e R s m args below meth c H locs cells slots Q (F0 m (pc + 1) ls (.int (f j) :: rest))) : W p l e R s m args below meth c H locs cells slots Q (F0 m pc ls (.int i :: .ref a :: rest)) := by
  subst hi
  refine va_sald hx hb hK hW.1 q0 t0 ha ht (vp_in_nI hj (by omega)) hdg ?_
  rw [nI_clamp (by omega)]
  exact kk
theorem z_sast (hx : p.tables.exec = Jvm.exec) (hb : c.code = cc) (hK : va_K D vwCl tys s) (hW : zH D A s w H locs) (q0 t0 : Nat) {a : Nat} {cA : ClassId} {N : Nat} {f : Nat → Int32} (ha : w[q0]? = some (a, .inl (cA, N, .inl f))) (ht : tys[t0]? = some (cA, .short)) {i x v : Int32} (j : Nat) (hi : i = nI j) (hj : j < N) (hN : N < 1000) (hv : vp_nar .short x = v) (hdg : decode cc pc = .ok (.sastore, 1))
    (kk : ∀ (H : Heap) (locs : List Loc), zH D A s (w.set q0 (a, .inl (cA, N, .inl (upd f j v)))) H locs → W p l e R s m args below meth c H locs cells slots Q (F0 m (pc + 1) ls rest)) : W p l e R s m args below meth c H locs cells slots Q (F0 m pc ls (.int x :: .int i :: .ref a :: rest)) := by
  subst hi
  subst hv
  refine va_sast hx hb hK hW.1 hW.2.1 hW.2.2.1 q0 t0 ha ht (vp_in_nI hj (by omega)) hdg (fun H1 locs1 hP hD hS => ?_)
  rw [nI_clamp (by omega)] at hP hD
  exact kk H1 locs1 ⟨hP, hD, hS, hW.2.2.2⟩
theorem z_iald (hx : p.tables.exec = Jvm.exec) (hb : c.code = cc) (hK : va_K D vwCl tys s) (hW : zH D A s w H locs) (q0 t0 : Nat) {a : Nat} {cA : ClassId} {N : Nat} {f : Nat → Int32} (ha : w[q0]? = some (a, .inl (cA, N, .inl f))) (ht : tys[t0]? = some (cA, .int)) {i : Int32} (j : Nat) (hi : i = nI j) (hj : j < N) (hN : N < 1000) (hdg : decode cc pc = .ok (.iaload, 1))
    (kk : W p l e R s m args below meth c H locs cells slots Q (F0 m (pc + 1) ls (.int (f j) :: rest))) : W p l e R s m args below meth c H locs cells slots Q (F0 m pc ls (.int i :: .ref a :: rest)) := by
  subst hi
  refine va_iald hx hb hK hW.1 q0 t0 ha ht (vp_in_nI hj (by omega)) hdg ?_
  rw [nI_clamp (by omega)]
  exact kk
theorem z_iast (hx : p.tables.exec = Jvm.exec) (hb : c.code = cc) (hK : va_K D vwCl tys s) (hW : zH D A s w H locs) (q0 t0 : Nat) {a : Nat} {cA : ClassId} {N : Nat} {f : Nat → Int32} (ha : w[q0]? = some (a, .inl (cA, N, .inl f))) (ht : tys[t0]? = some (cA, .int)) {i x v : Int32} (j : Nat) (hi : i = nI j) (hj : j < N) (hN : N < 1000) (hv : x = v) (hdg : decode cc pc = .ok (.iastore, 1))
    (kk : ∀ (H : Heap) (locs : List Loc), zH D A s (w.set q0 (a, .inl (cA, N, .inl (upd f j v)))) H locs → W p l e R s m args below meth c H locs cells slots Q (F0 m (pc + 1) ls rest)) : W p l e R s m args below meth c H locs cells slots Q (F0 m pc ls (.int x :: .int i :: .ref a :: rest)) := by
  subst hi
  subst hv
  refine va_iast hx hb hK hW.1 hW.2.1 hW.2.2.1 q0 t0 ha ht (vp_in_nI hj (by omega)) hdg (fun H1 locs1 hP hD hS => ?_)
  rw [nI_clamp (by omega)] at hP hD
  exact kk H1 locs1 ⟨hP, hD, hS, hW.2.2.2⟩
end ZC
end
section
set_option maxRecDepth 100000
abbrev wX (h : Nat) (ad : Nat → Nat) (dB dS : ClassId) (cn : Int32) (ab : Nat → Int32) (df : Nat → Int32) (bt : Int32) (kn : Nat → Int32) (mt : Nat → Int32) (co : Nat → Int32) (be : Nat → Int32) (li : Nat → Int32) (ll : Int32) (ck : Int32) (sh : Nat → Int32) (ec : Nat → Int32) (es : Nat → Int32) (eo : Nat → Int32) (em : Nat → Int32) (ro : Nat → Int32) (dn : Nat → Int32) : va_W := [(h, .inr (0, [.int cn, .ref (ad 1), .ref (ad 2), .int bt, .ref (ad 4), .ref (ad 5), .ref (ad 6), .ref (ad 7), .ref (ad 8), .int ll, .int ck, .ref (ad 11), .ref (ad 12), .ref (ad 13), .ref (ad 14), .ref (ad 15), .ref (ad 16), .ref (ad 17)])), (ad 1, .inl (dB, 10, .inl ab)), (ad 2, .inl (dS, 80, .inl df)), (ad 4, .inl (dS, 10, .inl kn)), (ad 5, .inl (dS, 8, .inl mt)), (ad 6, .inl (dB, 8, .inl co)), (ad 7, .inl (dB, 8, .inl be)), (ad 8, .inl (dB, 8, .inl li)), (ad 11, .inl (dB, 10, .inl sh)), (ad 12, .inl (dB, 96, .inl ec)), (ad 13, .inl (dB, 96, .inl es)), (ad 14, .inl (dB, 96, .inl eo)), (ad 15, .inl (dS, 96, .inl em)), (ad 16, .inl (dB, 8, .inl ro)), (ad 17, .inl (dB, 10, .inl dn))]
abbrev wM (h : Nat) (ad : Nat → Nat) (dN dZ : ClassId) (cn : Int32) (up : Nat → Int32) (ow : Nat → Int32) (ma : Nat → Int32) (al : Nat → Int32) (le : Nat → Int32) : va_W := [(h, .inr (1, [.int cn, .ref (ad 1), .ref (ad 2), .ref (ad 3), .ref (ad 4), .ref (ad 5)])), (ad 1, .inl (dN, 10, .inl up)), (ad 2, .inl (dN, 80, .inl ow)), (ad 3, .inl (dN, 8, .inl ma)), (ad 4, .inl (dZ, 256, .inl al)), (ad 5, .inl (dN, 256, .inl le))]
section ZF
variable {p : Program} {l : Launch} {e : Env} {R : Room} {s : State} {m : MethodId} {args : Array Value} {below : List Frame} {meth : Method} {c : Code} {H : Heap} {locs : List Loc} {cells slots : Nat} {Q : State → Prop}
variable {cc : ByteArray} {pc : Nat} {ls : Array Slot} {rest : List Value} {D : va_G} {A : Nat → Prop} {tys : List (ClassId × FieldType)} {h : Nat} {ad : Nat → Nat} {dB dS dN dZ : ClassId}
theorem zg0_cn (hx : p.tables.exec = Jvm.exec) (hb : c.code = cc) (hts : ∀ w ∈ lw_all, w.before args s = true) (hown : s.vm.findClass RX0 = some m.cls) (hK : va_K D vwCl tys s) {cn : Int32} {ab : Nat → Int32} {df : Nat → Int32} {bt : Int32} {kn : Nat → Int32} {mt : Nat → Int32} {co : Nat → Int32} {be : Nat → Int32} {li : Nat → Int32} {ll : Int32} {ck : Int32} {sh : Nat → Int32} {ec : Nat → Int32} {es : Nat → Int32} {eo : Nat → Int32} {em : Nat → Int32} {ro : Nat → Int32} {dn : Nat → Int32} (hW : zH D A s (wX h ad dB dS cn ab df bt kn mt co be li ll ck sh ec es eo em ro dn) H locs) (hdg : decode cc pc = .ok (.getfield 53, 3)) (kk : W p l e R s m args below meth c H locs cells slots Q (F0 m (pc + 3) ls (.int cn :: rest))) : W p l e R s m args below meth c H locs cells slots Q (F0 m pc ls (.ref h :: rest)) := va_get (D := D) (ci := 0) (v := .int cn) (C := RX0) (T := TX0) (N := 18) hx hb hts in_X0 hown hK hW.1 0 rfl rfl 0 (by decide) (hts _ q34) (fun _ h9 => h9) rfl hdg kk
theorem zp0_cn (hx : p.tables.exec = Jvm.exec) (hb : c.code = cc) (hts : ∀ w ∈ lw_all, w.before args s = true) (hown : s.vm.findClass RX0 = some m.cls) (hK : va_K D vwCl tys s) {cn : Int32} {ab : Nat → Int32} {df : Nat → Int32} {bt : Int32} {kn : Nat → Int32} {mt : Nat → Int32} {co : Nat → Int32} {be : Nat → Int32} {li : Nat → Int32} {ll : Int32} {ck : Int32} {sh : Nat → Int32} {ec : Nat → Int32} {es : Nat → Int32} {eo : Nat → Int32} {em : Nat → Int32} {ro : Nat → Int32} {dn : Nat → Int32} {z : Int32} (hW : zH D A s (wX h ad dB dS cn ab df bt kn mt co be li ll ck sh ec es eo em ro dn) H locs) (hn : narrow .int (.int z) = .int z) (hf : fits .int (.int z) = true) (hdg : decode cc pc = .ok (.putfield 53, 3)) (kk : ∀ (H : Heap) (locs : List Loc), zH D A s (wX h ad dB dS z ab df bt kn mt co be li ll ck sh ec es eo em ro dn) H locs → W p l e R s m args below meth c H locs cells slots Q (F0 m (pc + 3) ls rest)) : W p l e R s m args below meth c H locs cells slots Q (F0 m pc ls (.int z :: .ref h :: rest)) := va_put (D := D) (ci := 0) (v := .int z) (ty := .int) (C := RX0) (T := TX0) (N := 18) hx hb hts in_X0 tyX0 tyX0_ok nmX0 hown hK hW.1 hW.2.1 hW.2.2.1 0 rfl rfl 0 (by decide) (hts _ q34) (fun _ h9 => h9) rfl (by decide +kernel) hn hf (Nat.le_of_ble_eq_true rfl) hdg (fun H1 locs1 hP hD hS => kk H1 locs1 ⟨hP, hD, hS, hW.2.2.2⟩)
theorem zg0_ab (hx : p.tables.exec = Jvm.exec) (hb : c.code = cc) (hts : ∀ w ∈ lw_all, w.before args s = true) (hown : s.vm.findClass RX0 = some m.cls) (hK : va_K D vwCl tys s) {cn : Int32} {ab : Nat → Int32} {df : Nat → Int32} {bt : Int32} {kn : Nat → Int32} {mt : Nat → Int32} {co : Nat → Int32} {be : Nat → Int32} {li : Nat → Int32} {ll : Int32} {ck : Int32} {sh : Nat → Int32} {ec : Nat → Int32} {es : Nat → Int32} {eo : Nat → Int32} {em : Nat → Int32} {ro : Nat → Int32} {dn : Nat → Int32} (hW : zH D A s (wX h ad dB dS cn ab df bt kn mt co be li ll ck sh ec es eo em ro dn) H locs) (hdg : decode cc pc = .ok (.getfield 7, 3)) (kk : W p l e R s m args below meth c H locs cells slots Q (F0 m (pc + 3) ls (.ref (ad 1) :: rest))) : W p l e R s m args below meth c H locs cells slots Q (F0 m pc ls (.ref h :: rest)) := va_get (D := D) (ci := 0) (v := .ref (ad 1)) (C := RX0) (T := TX0) (N := 18) hx hb hts in_X0 hown hK hW.1 0 rfl rfl 1 (by decide) (hts _ q35) (fun _ h9 => h9) rfl hdg kk
theorem zg0_df (hx : p.tables.exec = Jvm.exec) (hb : c.code = cc) (hts : ∀ w ∈ lw_all, w.before args s = true) (hown : s.vm.findClass RX0 = some m.cls) (hK : va_K D vwCl tys s) {cn : Int32} {ab : Nat → Int32} {df : Nat → Int32} {bt : Int32} {kn : Nat → Int32} {mt : Nat → Int32} {co : Nat → Int32} {be : Nat → Int32} {li : Nat → Int32} {ll : Int32} {ck : Int32} {sh : Nat → Int32} {ec : Nat → Int32} {es : Nat → Int32} {eo : Nat → Int32} {em : Nat → Int32} {ro : Nat → Int32} {dn : Nat → Int32} (hW : zH D A s (wX h ad dB dS cn ab df bt kn mt co be li ll ck sh ec es eo em ro dn) H locs) (hdg : decode cc pc = .ok (.getfield 13, 3)) (kk : W p l e R s m args below meth c H locs cells slots Q (F0 m (pc + 3) ls (.ref (ad 2) :: rest))) : W p l e R s m args below meth c H locs cells slots Q (F0 m pc ls (.ref h :: rest)) := va_get (D := D) (ci := 0) (v := .ref (ad 2)) (C := RX0) (T := TX0) (N := 18) hx hb hts in_X0 hown hK hW.1 0 rfl rfl 2 (by decide) (hts _ q36) (fun _ h9 => h9) rfl hdg kk
theorem zg0_bt (hx : p.tables.exec = Jvm.exec) (hb : c.code = cc) (hts : ∀ w ∈ lw_all, w.before args s = true) (hown : s.vm.findClass RX0 = some m.cls) (hK : va_K D vwCl tys s) {cn : Int32} {ab : Nat → Int32} {df : Nat → Int32} {bt : Int32} {kn : Nat → Int32} {mt : Nat → Int32} {co : Nat → Int32} {be : Nat → Int32} {li : Nat → Int32} {ll : Int32} {ck : Int32} {sh : Nat → Int32} {ec : Nat → Int32} {es : Nat → Int32} {eo : Nat → Int32} {em : Nat → Int32} {ro : Nat → Int32} {dn : Nat → Int32} (hW : zH D A s (wX h ad dB dS cn ab df bt kn mt co be li ll ck sh ec es eo em ro dn) H locs) (hdg : decode cc pc = .ok (.getfield 61, 3)) (kk : W p l e R s m args below meth c H locs cells slots Q (F0 m (pc + 3) ls (.int bt :: rest))) : W p l e R s m args below meth c H locs cells slots Q (F0 m pc ls (.ref h :: rest)) := va_get (D := D) (ci := 0) (v := .int bt) (C := RX0) (T := TX0) (N := 18) hx hb hts in_X0 hown hK hW.1 0 rfl rfl 3 (by decide) (hts _ q37) (fun _ h9 => h9) rfl hdg kk
theorem zp0_bt (hx : p.tables.exec = Jvm.exec) (hb : c.code = cc) (hts : ∀ w ∈ lw_all, w.before args s = true) (hown : s.vm.findClass RX0 = some m.cls) (hK : va_K D vwCl tys s) {cn : Int32} {ab : Nat → Int32} {df : Nat → Int32} {bt : Int32} {kn : Nat → Int32} {mt : Nat → Int32} {co : Nat → Int32} {be : Nat → Int32} {li : Nat → Int32} {ll : Int32} {ck : Int32} {sh : Nat → Int32} {ec : Nat → Int32} {es : Nat → Int32} {eo : Nat → Int32} {em : Nat → Int32} {ro : Nat → Int32} {dn : Nat → Int32} {z : Int32} (hW : zH D A s (wX h ad dB dS cn ab df bt kn mt co be li ll ck sh ec es eo em ro dn) H locs) (hn : narrow .boolean (.int z) = .int z) (hf : fits .boolean (.int z) = true) (hdg : decode cc pc = .ok (.putfield 61, 3)) (kk : ∀ (H : Heap) (locs : List Loc), zH D A s (wX h ad dB dS cn ab df z kn mt co be li ll ck sh ec es eo em ro dn) H locs → W p l e R s m args below meth c H locs cells slots Q (F0 m (pc + 3) ls rest)) : W p l e R s m args below meth c H locs cells slots Q (F0 m pc ls (.int z :: .ref h :: rest)) := va_put (D := D) (ci := 0) (v := .int z) (ty := .boolean) (C := RX0) (T := TX0) (N := 18) hx hb hts in_X0 tyX0 tyX0_ok nmX0 hown hK hW.1 hW.2.1 hW.2.2.1 0 rfl rfl 3 (by decide) (hts _ q37) (fun _ h9 => h9) rfl (by decide +kernel) hn hf (Nat.le_of_ble_eq_true rfl) hdg (fun H1 locs1 hP hD hS => kk H1 locs1 ⟨hP, hD, hS, hW.2.2.2⟩)
theorem zg0_kn (hx : p.tables.exec = Jvm.exec) (hb : c.code = cc) (hts : ∀ w ∈ lw_all, w.before args s = true) (hown : s.vm.findClass RX0 = some m.cls) (hK : va_K D vwCl tys s) {cn : Int32} {ab : Nat → Int32} {df : Nat → Int32} {bt : Int32} {kn : Nat → Int32} {mt : Nat → Int32} {co : Nat → Int32} {be : Nat → Int32} {li : Nat → Int32} {ll : Int32} {ck : Int32} {sh : Nat → Int32} {ec : Nat → Int32} {es : Nat → Int32} {eo : Nat → Int32} {em : Nat → Int32} {ro : Nat → Int32} {dn : Nat → Int32} (hW : zH D A s (wX h ad dB dS cn ab df bt kn mt co be li ll ck sh ec es eo em ro dn) H locs) (hdg : decode cc pc = .ok (.getfield 17, 3)) (kk : W p l e R s m args below meth c H locs cells slots Q (F0 m (pc + 3) ls (.ref (ad 4) :: rest))) : W p l e R s m args below meth c H locs cells slots Q (F0 m pc ls (.ref h :: rest)) := va_get (D := D) (ci := 0) (v := .ref (ad 4)) (C := RX0) (T := TX0) (N := 18) hx hb hts in_X0 hown hK hW.1 0 rfl rfl 4 (by decide) (hts _ q38) (fun _ h9 => h9) rfl hdg kk
theorem zg0_mt (hx : p.tables.exec = Jvm.exec) (hb : c.code = cc) (hts : ∀ w ∈ lw_all, w.before args s = true) (hown : s.vm.findClass RX0 = some m.cls) (hK : va_K D vwCl tys s) {cn : Int32} {ab : Nat → Int32} {df : Nat → Int32} {bt : Int32} {kn : Nat → Int32} {mt : Nat → Int32} {co : Nat → Int32} {be : Nat → Int32} {li : Nat → Int32} {ll : Int32} {ck : Int32} {sh : Nat → Int32} {ec : Nat → Int32} {es : Nat → Int32} {eo : Nat → Int32} {em : Nat → Int32} {ro : Nat → Int32} {dn : Nat → Int32} (hW : zH D A s (wX h ad dB dS cn ab df bt kn mt co be li ll ck sh ec es eo em ro dn) H locs) (hdg : decode cc pc = .ok (.getfield 20, 3)) (kk : W p l e R s m args below meth c H locs cells slots Q (F0 m (pc + 3) ls (.ref (ad 5) :: rest))) : W p l e R s m args below meth c H locs cells slots Q (F0 m pc ls (.ref h :: rest)) := va_get (D := D) (ci := 0) (v := .ref (ad 5)) (C := RX0) (T := TX0) (N := 18) hx hb hts in_X0 hown hK hW.1 0 rfl rfl 5 (by decide) (hts _ q39) (fun _ h9 => h9) rfl hdg kk
theorem zg0_co (hx : p.tables.exec = Jvm.exec) (hb : c.code = cc) (hts : ∀ w ∈ lw_all, w.before args s = true) (hown : s.vm.findClass RX0 = some m.cls) (hK : va_K D vwCl tys s) {cn : Int32} {ab : Nat → Int32} {df : Nat → Int32} {bt : Int32} {kn : Nat → Int32} {mt : Nat → Int32} {co : Nat → Int32} {be : Nat → Int32} {li : Nat → Int32} {ll : Int32} {ck : Int32} {sh : Nat → Int32} {ec : Nat → Int32} {es : Nat → Int32} {eo : Nat → Int32} {em : Nat → Int32} {ro : Nat → Int32} {dn : Nat → Int32} (hW : zH D A s (wX h ad dB dS cn ab df bt kn mt co be li ll ck sh ec es eo em ro dn) H locs) (hdg : decode cc pc = .ok (.getfield 23, 3)) (kk : W p l e R s m args below meth c H locs cells slots Q (F0 m (pc + 3) ls (.ref (ad 6) :: rest))) : W p l e R s m args below meth c H locs cells slots Q (F0 m pc ls (.ref h :: rest)) := va_get (D := D) (ci := 0) (v := .ref (ad 6)) (C := RX0) (T := TX0) (N := 18) hx hb hts in_X0 hown hK hW.1 0 rfl rfl 6 (by decide) (hts _ q40) (fun _ h9 => h9) rfl hdg kk
theorem zg0_be (hx : p.tables.exec = Jvm.exec) (hb : c.code = cc) (hts : ∀ w ∈ lw_all, w.before args s = true) (hown : s.vm.findClass RX0 = some m.cls) (hK : va_K D vwCl tys s) {cn : Int32} {ab : Nat → Int32} {df : Nat → Int32} {bt : Int32} {kn : Nat → Int32} {mt : Nat → Int32} {co : Nat → Int32} {be : Nat → Int32} {li : Nat → Int32} {ll : Int32} {ck : Int32} {sh : Nat → Int32} {ec : Nat → Int32} {es : Nat → Int32} {eo : Nat → Int32} {em : Nat → Int32} {ro : Nat → Int32} {dn : Nat → Int32} (hW : zH D A s (wX h ad dB dS cn ab df bt kn mt co be li ll ck sh ec es eo em ro dn) H locs) (hdg : decode cc pc = .ok (.getfield 26, 3)) (kk : W p l e R s m args below meth c H locs cells slots Q (F0 m (pc + 3) ls (.ref (ad 7) :: rest))) : W p l e R s m args below meth c H locs cells slots Q (F0 m pc ls (.ref h :: rest)) := va_get (D := D) (ci := 0) (v := .ref (ad 7)) (C := RX0) (T := TX0) (N := 18) hx hb hts in_X0 hown hK hW.1 0 rfl rfl 7 (by decide) (hts _ q41) (fun _ h9 => h9) rfl hdg kk
theorem zg0_li (hx : p.tables.exec = Jvm.exec) (hb : c.code = cc) (hts : ∀ w ∈ lw_all, w.before args s = true) (hown : s.vm.findClass RX0 = some m.cls) (hK : va_K D vwCl tys s) {cn : Int32} {ab : Nat → Int32} {df : Nat → Int32} {bt : Int32} {kn : Nat → Int32} {mt : Nat → Int32} {co : Nat → Int32} {be : Nat → Int32} {li : Nat → Int32} {ll : Int32} {ck : Int32} {sh : Nat → Int32} {ec : Nat → Int32} {es : Nat → Int32} {eo : Nat → Int32} {em : Nat → Int32} {ro : Nat → Int32} {dn : Nat → Int32} (hW : zH D A s (wX h ad dB dS cn ab df bt kn mt co be li ll ck sh ec es eo em ro dn) H locs) (hdg : decode cc pc = .ok (.getfield 29, 3)) (kk : W p l e R s m args below meth c H locs cells slots Q (F0 m (pc + 3) ls (.ref (ad 8) :: rest))) : W p l e R s m args below meth c H locs cells slots Q (F0 m pc ls (.ref h :: rest)) := va_get (D := D) (ci := 0) (v := .ref (ad 8)) (C := RX0) (T := TX0) (N := 18) hx hb hts in_X0 hown hK hW.1 0 rfl rfl 8 (by decide) (hts _ q42) (fun _ h9 => h9) rfl hdg kk
theorem zg0_ll (hx : p.tables.exec = Jvm.exec) (hb : c.code = cc) (hts : ∀ w ∈ lw_all, w.before args s = true) (hown : s.vm.findClass RX0 = some m.cls) (hK : va_K D vwCl tys s) {cn : Int32} {ab : Nat → Int32} {df : Nat → Int32} {bt : Int32} {kn : Nat → Int32} {mt : Nat → Int32} {co : Nat → Int32} {be : Nat → Int32} {li : Nat → Int32} {ll : Int32} {ck : Int32} {sh : Nat → Int32} {ec : Nat → Int32} {es : Nat → Int32} {eo : Nat → Int32} {em : Nat → Int32} {ro : Nat → Int32} {dn : Nat → Int32} (hW : zH D A s (wX h ad dB dS cn ab df bt kn mt co be li ll ck sh ec es eo em ro dn) H locs) (hdg : decode cc pc = .ok (.getfield 95, 3)) (kk : W p l e R s m args below meth c H locs cells slots Q (F0 m (pc + 3) ls (.int ll :: rest))) : W p l e R s m args below meth c H locs cells slots Q (F0 m pc ls (.ref h :: rest)) := va_get (D := D) (ci := 0) (v := .int ll) (C := RX0) (T := TX0) (N := 18) hx hb hts in_X0 hown hK hW.1 0 rfl rfl 9 (by decide) (hts _ q43) (fun _ h9 => h9) rfl hdg kk
theorem zp0_ll (hx : p.tables.exec = Jvm.exec) (hb : c.code = cc) (hts : ∀ w ∈ lw_all, w.before args s = true) (hown : s.vm.findClass RX0 = some m.cls) (hK : va_K D vwCl tys s) {cn : Int32} {ab : Nat → Int32} {df : Nat → Int32} {bt : Int32} {kn : Nat → Int32} {mt : Nat → Int32} {co : Nat → Int32} {be : Nat → Int32} {li : Nat → Int32} {ll : Int32} {ck : Int32} {sh : Nat → Int32} {ec : Nat → Int32} {es : Nat → Int32} {eo : Nat → Int32} {em : Nat → Int32} {ro : Nat → Int32} {dn : Nat → Int32} {z : Int32} (hW : zH D A s (wX h ad dB dS cn ab df bt kn mt co be li ll ck sh ec es eo em ro dn) H locs) (hn : narrow .int (.int z) = .int z) (hf : fits .int (.int z) = true) (hdg : decode cc pc = .ok (.putfield 95, 3)) (kk : ∀ (H : Heap) (locs : List Loc), zH D A s (wX h ad dB dS cn ab df bt kn mt co be li z ck sh ec es eo em ro dn) H locs → W p l e R s m args below meth c H locs cells slots Q (F0 m (pc + 3) ls rest)) : W p l e R s m args below meth c H locs cells slots Q (F0 m pc ls (.int z :: .ref h :: rest)) := va_put (D := D) (ci := 0) (v := .int z) (ty := .int) (C := RX0) (T := TX0) (N := 18) hx hb hts in_X0 tyX0 tyX0_ok nmX0 hown hK hW.1 hW.2.1 hW.2.2.1 0 rfl rfl 9 (by decide) (hts _ q43) (fun _ h9 => h9) rfl (by decide +kernel) hn hf (Nat.le_of_ble_eq_true rfl) hdg (fun H1 locs1 hP hD hS => kk H1 locs1 ⟨hP, hD, hS, hW.2.2.2⟩)
theorem zg0_ck (hx : p.tables.exec = Jvm.exec) (hb : c.code = cc) (hts : ∀ w ∈ lw_all, w.before args s = true) (hown : s.vm.findClass RX0 = some m.cls) (hK : va_K D vwCl tys s) {cn : Int32} {ab : Nat → Int32} {df : Nat → Int32} {bt : Int32} {kn : Nat → Int32} {mt : Nat → Int32} {co : Nat → Int32} {be : Nat → Int32} {li : Nat → Int32} {ll : Int32} {ck : Int32} {sh : Nat → Int32} {ec : Nat → Int32} {es : Nat → Int32} {eo : Nat → Int32} {em : Nat → Int32} {ro : Nat → Int32} {dn : Nat → Int32} (hW : zH D A s (wX h ad dB dS cn ab df bt kn mt co be li ll ck sh ec es eo em ro dn) H locs) (hdg : decode cc pc = .ok (.getfield 98, 3)) (kk : W p l e R s m args below meth c H locs cells slots Q (F0 m (pc + 3) ls (.int ck :: rest))) : W p l e R s m args below meth c H locs cells slots Q (F0 m pc ls (.ref h :: rest)) := va_get (D := D) (ci := 0) (v := .int ck) (C := RX0) (T := TX0) (N := 18) hx hb hts in_X0 hown hK hW.1 0 rfl rfl 10 (by decide) (hts _ q44) (fun _ h9 => h9) rfl hdg kk
theorem zp0_ck (hx : p.tables.exec = Jvm.exec) (hb : c.code = cc) (hts : ∀ w ∈ lw_all, w.before args s = true) (hown : s.vm.findClass RX0 = some m.cls) (hK : va_K D vwCl tys s) {cn : Int32} {ab : Nat → Int32} {df : Nat → Int32} {bt : Int32} {kn : Nat → Int32} {mt : Nat → Int32} {co : Nat → Int32} {be : Nat → Int32} {li : Nat → Int32} {ll : Int32} {ck : Int32} {sh : Nat → Int32} {ec : Nat → Int32} {es : Nat → Int32} {eo : Nat → Int32} {em : Nat → Int32} {ro : Nat → Int32} {dn : Nat → Int32} {z : Int32} (hW : zH D A s (wX h ad dB dS cn ab df bt kn mt co be li ll ck sh ec es eo em ro dn) H locs) (hn : narrow .int (.int z) = .int z) (hf : fits .int (.int z) = true) (hdg : decode cc pc = .ok (.putfield 98, 3)) (kk : ∀ (H : Heap) (locs : List Loc), zH D A s (wX h ad dB dS cn ab df bt kn mt co be li ll z sh ec es eo em ro dn) H locs → W p l e R s m args below meth c H locs cells slots Q (F0 m (pc + 3) ls rest)) : W p l e R s m args below meth c H locs cells slots Q (F0 m pc ls (.int z :: .ref h :: rest)) := va_put (D := D) (ci := 0) (v := .int z) (ty := .int) (C := RX0) (T := TX0) (N := 18) hx hb hts in_X0 tyX0 tyX0_ok nmX0 hown hK hW.1 hW.2.1 hW.2.2.1 0 rfl rfl 10 (by decide) (hts _ q44) (fun _ h9 => h9) rfl (by decide +kernel) hn hf (Nat.le_of_ble_eq_true rfl) hdg (fun H1 locs1 hP hD hS => kk H1 locs1 ⟨hP, hD, hS, hW.2.2.2⟩)
theorem zg0_sh (hx : p.tables.exec = Jvm.exec) (hb : c.code = cc) (hts : ∀ w ∈ lw_all, w.before args s = true) (hown : s.vm.findClass RX0 = some m.cls) (hK : va_K D vwCl tys s) {cn : Int32} {ab : Nat → Int32} {df : Nat → Int32} {bt : Int32} {kn : Nat → Int32} {mt : Nat → Int32} {co : Nat → Int32} {be : Nat → Int32} {li : Nat → Int32} {ll : Int32} {ck : Int32} {sh : Nat → Int32} {ec : Nat → Int32} {es : Nat → Int32} {eo : Nat → Int32} {em : Nat → Int32} {ro : Nat → Int32} {dn : Nat → Int32} (hW : zH D A s (wX h ad dB dS cn ab df bt kn mt co be li ll ck sh ec es eo em ro dn) H locs) (hdg : decode cc pc = .ok (.getfield 32, 3)) (kk : W p l e R s m args below meth c H locs cells slots Q (F0 m (pc + 3) ls (.ref (ad 11) :: rest))) : W p l e R s m args below meth c H locs cells slots Q (F0 m pc ls (.ref h :: rest)) := va_get (D := D) (ci := 0) (v := .ref (ad 11)) (C := RX0) (T := TX0) (N := 18) hx hb hts in_X0 hown hK hW.1 0 rfl rfl 11 (by decide) (hts _ q45) (fun _ h9 => h9) rfl hdg kk
theorem zg0_ec (hx : p.tables.exec = Jvm.exec) (hb : c.code = cc) (hts : ∀ w ∈ lw_all, w.before args s = true) (hown : s.vm.findClass RX0 = some m.cls) (hK : va_K D vwCl tys s) {cn : Int32} {ab : Nat → Int32} {df : Nat → Int32} {bt : Int32} {kn : Nat → Int32} {mt : Nat → Int32} {co : Nat → Int32} {be : Nat → Int32} {li : Nat → Int32} {ll : Int32} {ck : Int32} {sh : Nat → Int32} {ec : Nat → Int32} {es : Nat → Int32} {eo : Nat → Int32} {em : Nat → Int32} {ro : Nat → Int32} {dn : Nat → Int32} (hW : zH D A s (wX h ad dB dS cn ab df bt kn mt co be li ll ck sh ec es eo em ro dn) H locs) (hdg : decode cc pc = .ok (.getfield 35, 3)) (kk : W p l e R s m args below meth c H locs cells slots Q (F0 m (pc + 3) ls (.ref (ad 12) :: rest))) : W p l e R s m args below meth c H locs cells slots Q (F0 m pc ls (.ref h :: rest)) := va_get (D := D) (ci := 0) (v := .ref (ad 12)) (C := RX0) (T := TX0) (N := 18) hx hb hts in_X0 hown hK hW.1 0 rfl rfl 12 (by decide) (hts _ q46) (fun _ h9 => h9) rfl hdg kk
theorem zg0_es (hx : p.tables.exec = Jvm.exec) (hb : c.code = cc) (hts : ∀ w ∈ lw_all, w.before args s = true) (hown : s.vm.findClass RX0 = some m.cls) (hK : va_K D vwCl tys s) {cn : Int32} {ab : Nat → Int32} {df : Nat → Int32} {bt : Int32} {kn : Nat → Int32} {mt : Nat → Int32} {co : Nat → Int32} {be : Nat → Int32} {li : Nat → Int32} {ll : Int32} {ck : Int32} {sh : Nat → Int32} {ec : Nat → Int32} {es : Nat → Int32} {eo : Nat → Int32} {em : Nat → Int32} {ro : Nat → Int32} {dn : Nat → Int32} (hW : zH D A s (wX h ad dB dS cn ab df bt kn mt co be li ll ck sh ec es eo em ro dn) H locs) (hdg : decode cc pc = .ok (.getfield 38, 3)) (kk : W p l e R s m args below meth c H locs cells slots Q (F0 m (pc + 3) ls (.ref (ad 13) :: rest))) : W p l e R s m args below meth c H locs cells slots Q (F0 m pc ls (.ref h :: rest)) := va_get (D := D) (ci := 0) (v := .ref (ad 13)) (C := RX0) (T := TX0) (N := 18) hx hb hts in_X0 hown hK hW.1 0 rfl rfl 13 (by decide) (hts _ q47) (fun _ h9 => h9) rfl hdg kk
theorem zg0_eo (hx : p.tables.exec = Jvm.exec) (hb : c.code = cc) (hts : ∀ w ∈ lw_all, w.before args s = true) (hown : s.vm.findClass RX0 = some m.cls) (hK : va_K D vwCl tys s) {cn : Int32} {ab : Nat → Int32} {df : Nat → Int32} {bt : Int32} {kn : Nat → Int32} {mt : Nat → Int32} {co : Nat → Int32} {be : Nat → Int32} {li : Nat → Int32} {ll : Int32} {ck : Int32} {sh : Nat → Int32} {ec : Nat → Int32} {es : Nat → Int32} {eo : Nat → Int32} {em : Nat → Int32} {ro : Nat → Int32} {dn : Nat → Int32} (hW : zH D A s (wX h ad dB dS cn ab df bt kn mt co be li ll ck sh ec es eo em ro dn) H locs) (hdg : decode cc pc = .ok (.getfield 41, 3)) (kk : W p l e R s m args below meth c H locs cells slots Q (F0 m (pc + 3) ls (.ref (ad 14) :: rest))) : W p l e R s m args below meth c H locs cells slots Q (F0 m pc ls (.ref h :: rest)) := va_get (D := D) (ci := 0) (v := .ref (ad 14)) (C := RX0) (T := TX0) (N := 18) hx hb hts in_X0 hown hK hW.1 0 rfl rfl 14 (by decide) (hts _ q48) (fun _ h9 => h9) rfl hdg kk
theorem zg0_em (hx : p.tables.exec = Jvm.exec) (hb : c.code = cc) (hts : ∀ w ∈ lw_all, w.before args s = true) (hown : s.vm.findClass RX0 = some m.cls) (hK : va_K D vwCl tys s) {cn : Int32} {ab : Nat → Int32} {df : Nat → Int32} {bt : Int32} {kn : Nat → Int32} {mt : Nat → Int32} {co : Nat → Int32} {be : Nat → Int32} {li : Nat → Int32} {ll : Int32} {ck : Int32} {sh : Nat → Int32} {ec : Nat → Int32} {es : Nat → Int32} {eo : Nat → Int32} {em : Nat → Int32} {ro : Nat → Int32} {dn : Nat → Int32} (hW : zH D A s (wX h ad dB dS cn ab df bt kn mt co be li ll ck sh ec es eo em ro dn) H locs) (hdg : decode cc pc = .ok (.getfield 44, 3)) (kk : W p l e R s m args below meth c H locs cells slots Q (F0 m (pc + 3) ls (.ref (ad 15) :: rest))) : W p l e R s m args below meth c H locs cells slots Q (F0 m pc ls (.ref h :: rest)) := va_get (D := D) (ci := 0) (v := .ref (ad 15)) (C := RX0) (T := TX0) (N := 18) hx hb hts in_X0 hown hK hW.1 0 rfl rfl 15 (by decide) (hts _ q49) (fun _ h9 => h9) rfl hdg kk
theorem zg0_ro (hx : p.tables.exec = Jvm.exec) (hb : c.code = cc) (hts : ∀ w ∈ lw_all, w.before args s = true) (hown : s.vm.findClass RX0 = some m.cls) (hK : va_K D vwCl tys s) {cn : Int32} {ab : Nat → Int32} {df : Nat → Int32} {bt : Int32} {kn : Nat → Int32} {mt : Nat → Int32} {co : Nat → Int32} {be : Nat → Int32} {li : Nat → Int32} {ll : Int32} {ck : Int32} {sh : Nat → Int32} {ec : Nat → Int32} {es : Nat → Int32} {eo : Nat → Int32} {em : Nat → Int32} {ro : Nat → Int32} {dn : Nat → Int32} (hW : zH D A s (wX h ad dB dS cn ab df bt kn mt co be li ll ck sh ec es eo em ro dn) H locs) (hdg : decode cc pc = .ok (.getfield 47, 3)) (kk : W p l e R s m args below meth c H locs cells slots Q (F0 m (pc + 3) ls (.ref (ad 16) :: rest))) : W p l e R s m args below meth c H locs cells slots Q (F0 m pc ls (.ref h :: rest)) := va_get (D := D) (ci := 0) (v := .ref (ad 16)) (C := RX0) (T := TX0) (N := 18) hx hb hts in_X0 hown hK hW.1 0 rfl rfl 16 (by decide) (hts _ q50) (fun _ h9 => h9) rfl hdg kk
theorem zg0_dn (hx : p.tables.exec = Jvm.exec) (hb : c.code = cc) (hts : ∀ w ∈ lw_all, w.before args s = true) (hown : s.vm.findClass RX0 = some m.cls) (hK : va_K D vwCl tys s) {cn : Int32} {ab : Nat → Int32} {df : Nat → Int32} {bt : Int32} {kn : Nat → Int32} {mt : Nat → Int32} {co : Nat → Int32} {be : Nat → Int32} {li : Nat → Int32} {ll : Int32} {ck : Int32} {sh : Nat → Int32} {ec : Nat → Int32} {es : Nat → Int32} {eo : Nat → Int32} {em : Nat → Int32} {ro : Nat → Int32} {dn : Nat → Int32} (hW : zH D A s (wX h ad dB dS cn ab df bt kn mt co be li ll ck sh ec es eo em ro dn) H locs) (hdg : decode cc pc = .ok (.getfield 50, 3)) (kk : W p l e R s m args below meth c H locs cells slots Q (F0 m (pc + 3) ls (.ref (ad 17) :: rest))) : W p l e R s m args below meth c H locs cells slots Q (F0 m pc ls (.ref h :: rest)) := va_get (D := D) (ci := 0) (v := .ref (ad 17)) (C := RX0) (T := TX0) (N := 18) hx hb hts in_X0 hown hK hW.1 0 rfl rfl 17 (by decide) (hts _ q51) (fun _ h9 => h9) rfl hdg kk
theorem zg1_cn (hx : p.tables.exec = Jvm.exec) (hb : c.code = cc) (hts : ∀ w ∈ lw_all, w.before args s = true) (hown : s.vm.findClass RX1 = some m.cls) (hK : va_K D vwCl tys s) {cn : Int32} {up : Nat → Int32} {ow : Nat → Int32} {ma : Nat → Int32} {al : Nat → Int32} {le : Nat → Int32} (hW : zH D A s (wM h ad dN dZ cn up ow ma al le) H locs) (hdg : decode cc pc = .ok (.getfield 26, 3)) (kk : W p l e R s m args below meth c H locs cells slots Q (F0 m (pc + 3) ls (.int cn :: rest))) : W p l e R s m args below meth c H locs cells slots Q (F0 m pc ls (.ref h :: rest)) := va_get (D := D) (ci := 1) (v := .int cn) (C := RX1) (T := TX1) (N := 6) hx hb hts in_X1 hown hK hW.1 0 rfl rfl 0 (by decide) (hts _ q229) (fun _ h9 => h9) rfl hdg kk
theorem zp1_cn (hx : p.tables.exec = Jvm.exec) (hb : c.code = cc) (hts : ∀ w ∈ lw_all, w.before args s = true) (hown : s.vm.findClass RX1 = some m.cls) (hK : va_K D vwCl tys s) {cn : Int32} {up : Nat → Int32} {ow : Nat → Int32} {ma : Nat → Int32} {al : Nat → Int32} {le : Nat → Int32} {z : Int32} (hW : zH D A s (wM h ad dN dZ cn up ow ma al le) H locs) (hn : narrow .int (.int z) = .int z) (hf : fits .int (.int z) = true) (hdg : decode cc pc = .ok (.putfield 26, 3)) (kk : ∀ (H : Heap) (locs : List Loc), zH D A s (wM h ad dN dZ z up ow ma al le) H locs → W p l e R s m args below meth c H locs cells slots Q (F0 m (pc + 3) ls rest)) : W p l e R s m args below meth c H locs cells slots Q (F0 m pc ls (.int z :: .ref h :: rest)) := va_put (D := D) (ci := 1) (v := .int z) (ty := .int) (C := RX1) (T := TX1) (N := 6) hx hb hts in_X1 tyX1 tyX1_ok nmX1 hown hK hW.1 hW.2.1 hW.2.2.1 0 rfl rfl 0 (by decide) (hts _ q229) (fun _ h9 => h9) rfl (by decide +kernel) hn hf (Nat.le_of_ble_eq_true rfl) hdg (fun H1 locs1 hP hD hS => kk H1 locs1 ⟨hP, hD, hS, hW.2.2.2⟩)
theorem zg1_up (hx : p.tables.exec = Jvm.exec) (hb : c.code = cc) (hts : ∀ w ∈ lw_all, w.before args s = true) (hown : s.vm.findClass RX1 = some m.cls) (hK : va_K D vwCl tys s) {cn : Int32} {up : Nat → Int32} {ow : Nat → Int32} {ma : Nat → Int32} {al : Nat → Int32} {le : Nat → Int32} (hW : zH D A s (wM h ad dN dZ cn up ow ma al le) H locs) (hdg : decode cc pc = .ok (.getfield 7, 3)) (kk : W p l e R s m args below meth c H locs cells slots Q (F0 m (pc + 3) ls (.ref (ad 1) :: rest))) : W p l e R s m args below meth c H locs cells slots Q (F0 m pc ls (.ref h :: rest)) := va_get (D := D) (ci := 1) (v := .ref (ad 1)) (C := RX1) (T := TX1) (N := 6) hx hb hts in_X1 hown hK hW.1 0 rfl rfl 1 (by decide) (hts _ q230) (fun _ h9 => h9) rfl hdg kk
theorem zg1_ow (hx : p.tables.exec = Jvm.exec) (hb : c.code = cc) (hts : ∀ w ∈ lw_all, w.before args s = true) (hown : s.vm.findClass RX1 = some m.cls) (hK : va_K D vwCl tys s) {cn : Int32} {up : Nat → Int32} {ow : Nat → Int32} {ma : Nat → Int32} {al : Nat → Int32} {le : Nat → Int32} (hW : zH D A s (wM h ad dN dZ cn up ow ma al le) H locs) (hdg : decode cc pc = .ok (.getfield 13, 3)) (kk : W p l e R s m args below meth c H locs cells slots Q (F0 m (pc + 3) ls (.ref (ad 2) :: rest))) : W p l e R s m args below meth c H locs cells slots Q (F0 m pc ls (.ref h :: rest)) := va_get (D := D) (ci := 1) (v := .ref (ad 2)) (C := RX1) (T := TX1) (N := 6) hx hb hts in_X1 hown hK hW.1 0 rfl rfl 2 (by decide) (hts _ q231) (fun _ h9 => h9) rfl hdg kk
theorem zg1_ma (hx : p.tables.exec = Jvm.exec) (hb : c.code = cc) (hts : ∀ w ∈ lw_all, w.before args s = true) (hown : s.vm.findClass RX1 = some m.cls) (hK : va_K D vwCl tys s) {cn : Int32} {up : Nat → Int32} {ow : Nat → Int32} {ma : Nat → Int32} {al : Nat → Int32} {le : Nat → Int32} (hW : zH D A s (wM h ad dN dZ cn up ow ma al le) H locs) (hdg : decode cc pc = .ok (.getfield 16, 3)) (kk : W p l e R s m args below meth c H locs cells slots Q (F0 m (pc + 3) ls (.ref (ad 3) :: rest))) : W p l e R s m args below meth c H locs cells slots Q (F0 m pc ls (.ref h :: rest)) := va_get (D := D) (ci := 1) (v := .ref (ad 3)) (C := RX1) (T := TX1) (N := 6) hx hb hts in_X1 hown hK hW.1 0 rfl rfl 3 (by decide) (hts _ q232) (fun _ h9 => h9) rfl hdg kk
theorem zg1_al (hx : p.tables.exec = Jvm.exec) (hb : c.code = cc) (hts : ∀ w ∈ lw_all, w.before args s = true) (hown : s.vm.findClass RX1 = some m.cls) (hK : va_K D vwCl tys s) {cn : Int32} {up : Nat → Int32} {ow : Nat → Int32} {ma : Nat → Int32} {al : Nat → Int32} {le : Nat → Int32} (hW : zH D A s (wM h ad dN dZ cn up ow ma al le) H locs) (hdg : decode cc pc = .ok (.getfield 19, 3)) (kk : W p l e R s m args below meth c H locs cells slots Q (F0 m (pc + 3) ls (.ref (ad 4) :: rest))) : W p l e R s m args below meth c H locs cells slots Q (F0 m pc ls (.ref h :: rest)) := va_get (D := D) (ci := 1) (v := .ref (ad 4)) (C := RX1) (T := TX1) (N := 6) hx hb hts in_X1 hown hK hW.1 0 rfl rfl 4 (by decide) (hts _ q233) (fun _ h9 => h9) rfl hdg kk
theorem zg1_le (hx : p.tables.exec = Jvm.exec) (hb : c.code = cc) (hts : ∀ w ∈ lw_all, w.before args s = true) (hown : s.vm.findClass RX1 = some m.cls) (hK : va_K D vwCl tys s) {cn : Int32} {up : Nat → Int32} {ow : Nat → Int32} {ma : Nat → Int32} {al : Nat → Int32} {le : Nat → Int32} (hW : zH D A s (wM h ad dN dZ cn up ow ma al le) H locs) (hdg : decode cc pc = .ok (.getfield 23, 3)) (kk : W p l e R s m args below meth c H locs cells slots Q (F0 m (pc + 3) ls (.ref (ad 5) :: rest))) : W p l e R s m args below meth c H locs cells slots Q (F0 m pc ls (.ref h :: rest)) := va_get (D := D) (ci := 1) (v := .ref (ad 5)) (C := RX1) (T := TX1) (N := 6) hx hb hts in_X1 hown hK hW.1 0 rfl rfl 5 (by decide) (hts _ q234) (fun _ h9 => h9) rfl hdg kk
end ZF
theorem clX0_0_isClass : zCl RX0 RX0 57 yX0_isClass cX0_isClass 2 (some .boolean) 1 := ⟨lw_V q95 q97 qs0 q24 q98, by decide +kernel⟩
theorem clX0_0_isSelector : zCs RX0 65 yX0_isSelector cX0_isSelector 1 (some .boolean) 1 := ⟨lw_S q103 q104 q24 q105, by decide +kernel⟩
theorem clX0_0_under : zCl RX0 RX0 68 yX0_under cX0_under 5 (some .boolean) 2 := ⟨lw_V q114 q116 qs1 q24 q117, by decide +kernel⟩
theorem clX0_0_sortDown : zCl RX0 RX0 72 yX0_sortDown cX0_sortDown 7 none 0 := ⟨lw_V q138 q140 qs4 q24 q141, by decide +kernel⟩
theorem clX0_0_learn : zCl RX0 RX0 75 yX0_learn cX0_learn 4 none 0 := ⟨lw_V q142 q144 qs5 q24 q145, by decide +kernel⟩
theorem clX0_0_meet : zCl RX0 RX0 78 yX0_meet cX0_meet 4 none 0 := ⟨lw_V q150 q152 qs7 q24 q153, by decide +kernel⟩
theorem clX0_0_paint : zCl RX0 RX0 81 yX0_paint cX0_paint 6 none 0 := ⟨lw_V q154 q156 qs8 q24 q157, by decide +kernel⟩
theorem clX0_0_pack : zCl RX0 RX0 84 yX0_pack cX0_pack 6 none 1 := ⟨lw_V q178 q180 qs13 q24 q181, by decide +kernel⟩
theorem clX0_0_own : zCl RX0 RX0 88 yX0_own cX0_own 4 (some .int) 1 := ⟨lw_V q146 q148 qs6 q24 q149, by decide +kernel⟩
theorem clX0_0_lineUp : zCl RX0 RX0 92 yX0_lineUp cX0_lineUp 7 none 0 := ⟨lw_V q158 q160 qs9 q24 q161, by decide +kernel⟩
theorem clX0_0_opened : zCl RX0 RX0 102 yX0_opened cX0_opened 4 (some .int) 1 := ⟨lw_V q166 q168 qs10 q24 q169, by decide +kernel⟩
theorem clX0_0_nextColour : zCl RX0 RX0 105 yX0_nextColour cX0_nextColour 6 (some .int) 3 := ⟨lw_V q170 q172 qs11 q24 q173, by decide +kernel⟩
theorem clX0_0_keep : zCl RX0 RX0 109 yX0_keep cX0_keep 3 none 1 := ⟨lw_V q174 q176 qs12 q24 q177, by decide +kernel⟩
theorem clX0_0_sizeOf : zCs RX0 112 yX0_sizeOf cX0_sizeOf 3 (some .int) 1 := ⟨lw_S q162 q163 q24 q164, by decide +kernel⟩
theorem clX0_0_fillRow : zCl RX0 RX0 115 yX0_fillRow cX0_fillRow 5 none 1 := ⟨lw_V q182 q184 qs14 q24 q185, by decide +kernel⟩
theorem clX0_0_fits : zCl RX0 RX0 118 yX0_fits cX0_fits 4 (some .boolean) 2 := ⟨lw_V q186 q188 qs15 q24 q189, by decide +kernel⟩
theorem clX0_0_build : zCl RX0 RX0 121 yX0_build cX0_build 2 none 0 := ⟨lw_V q134 q136 qs3 q24 q137, by decide +kernel⟩
theorem clX0_0_entry : zCl RX0 RX0 124 yX0_entry cX0_entry 4 (some .int) 2 := ⟨lw_V q130 q132 qs2 q24 q133, by decide +kernel⟩
theorem clX0_0_send : zCl RX0 RX0 128 yX0_send cX0_send 4 (some .int) 2 := ⟨lw_V q194 q127 q128 q24 q129, by decide +kernel⟩
theorem clX0_0_crowded : zCl RX0 RX0 131 yX0_crowded cX0_crowded 3 (some .boolean) 1 := ⟨lw_V q215 q217 qs16 q24 q218, by decide +kernel⟩
theorem clL_0_addClass : zCl "SendTableLaw" RX0 13 yX0_addClass cX0_addClass 3 (some .int) 1 := ⟨lw_V q91 q92 q93 q24 q94, by decide +kernel⟩
theorem clL_1_addClass : zCl "SendTableLaw" RX1 17 yX1_addClass cX1_addClass 2 (some .int) 1 := ⟨lw_V q250 q251 q252 q25 q253, by decide +kernel⟩
theorem clL_0_define : zCl "SendTableLaw" RX0 18 yX0_define cX0_define 4 (some .boolean) 3 := ⟨lw_V q99 q100 q101 q24 q102, by decide +kernel⟩
theorem clL_1_define : zCl "SendTableLaw" RX1 22 yX1_define cX1_define 4 (some .boolean) 3 := ⟨lw_V q258 q259 q260 q25 q261, by decide +kernel⟩
theorem clL_0_drop : zCl "SendTableLaw" RX0 23 yX0_drop cX0_drop 3 (some .boolean) 2 := ⟨lw_V q106 q107 q108 q24 q109, by decide +kernel⟩
theorem clL_1_drop : zCl "SendTableLaw" RX1 27 yX1_drop cX1_drop 3 (some .boolean) 2 := ⟨lw_V q262 q263 q264 q25 q265, by decide +kernel⟩
theorem clL_0_move : zCl "SendTableLaw" RX0 28 yX0_move cX0_move 3 (some .boolean) 2 := ⟨lw_V q110 q111 q112 q24 q113, by decide +kernel⟩
theorem clL_1_move : zCl "SendTableLaw" RX1 31 yX1_move cX1_move 5 (some .boolean) 2 := ⟨lw_V q266 q267 q268 q25 q269, by decide +kernel⟩
theorem clL_0_classes : zCl "SendTableLaw" RX0 32 yX0_classes cX0_classes 1 (some .int) 0 := ⟨lw_V q118 q119 q120 q24 q121, by decide +kernel⟩
theorem clL_1_classes : zCl "SendTableLaw" RX1 36 yX1_classes cX1_classes 1 (some .int) 0 := ⟨lw_V q270 q271 q272 q25 q273, by decide +kernel⟩
theorem clL_0_parent : zCl "SendTableLaw" RX0 37 yX0_parent cX0_parent 2 (some .int) 1 := ⟨lw_V q122 q123 q124 q24 q125, by decide +kernel⟩
theorem clL_1_parent : zCl "SendTableLaw" RX1 40 yX1_parent cX1_parent 2 (some .int) 1 := ⟨lw_V q274 q275 q276 q25 q277, by decide +kernel⟩
theorem clL_0_send : zCl "SendTableLaw" RX0 41 yX0_send cX0_send 4 (some .int) 2 := ⟨lw_V q126 q127 q128 q24 q129, by decide +kernel⟩
theorem clL_1_send : zCl "SendTableLaw" RX1 45 yX1_send cX1_send 4 (some .int) 2 := ⟨lw_V q278 q279 q280 q25 q281, by decide +kernel⟩
theorem clL_0_sendSuper : zCl "SendTableLaw" RX0 46 yX0_sendSuper cX0_sendSuper 3 (some .int) 2 := ⟨lw_V q190 q191 q192 q24 q193, by decide +kernel⟩
theorem clL_1_sendSuper : zCl "SendTableLaw" RX1 49 yX1_sendSuper cX1_sendSuper 4 (some .int) 2 := ⟨lw_V q286 q287 q288 q25 q289, by decide +kernel⟩
theorem clL_0_owner : zCl "SendTableLaw" RX0 50 yX0_owner cX0_owner 4 (some .int) 2 := ⟨lw_V q195 q196 q197 q24 q198, by decide +kernel⟩
theorem clL_1_owner : zCl "SendTableLaw" RX1 53 yX1_owner cX1_owner 5 (some .int) 2 := ⟨lw_V q292 q283 q284 q25 q285, by decide +kernel⟩
theorem clL_0_understands : zCl "SendTableLaw" RX0 54 yX0_understands cX0_understands 2 (some .int) 1 := ⟨lw_V q199 q200 q201 q24 q202, by decide +kernel⟩
theorem clL_1_understands : zCl "SendTableLaw" RX1 57 yX1_understands cX1_understands 4 (some .int) 1 := ⟨lw_V q293 q294 q295 q25 q296, by decide +kernel⟩
theorem clL_0_heirs : zCl "SendTableLaw" RX0 58 yX0_heirs cX0_heirs 6 (some .int) 2 := ⟨lw_V q203 q204 q205 q24 q206, by decide +kernel⟩
theorem clL_1_heirs : zCl "SendTableLaw" RX1 61 yX1_heirs cX1_heirs 5 (some .int) 2 := ⟨lw_V q297 q298 q299 q25 q300, by decide +kernel⟩
theorem clL_0_apart : zCl "SendTableLaw" RX0 62 yX0_apart cX0_apart 2 (some .int) 1 := ⟨lw_V q207 q208 q209 q24 q210, by decide +kernel⟩
theorem clL_1_apart : zCl "SendTableLaw" RX1 65 yX1_apart cX1_apart 2 (some .int) 1 := ⟨lw_V q301 q302 q303 q25 q304, by decide +kernel⟩
theorem clL_0_crowd : zCl "SendTableLaw" RX0 66 yX0_crowd cX0_crowd 4 (some .int) 0 := ⟨lw_V q211 q212 q213 q24 q214, by decide +kernel⟩
theorem clL_1_crowd : zCl "SendTableLaw" RX1 69 yX1_crowd cX1_crowd 4 (some .int) 0 := ⟨lw_V q310 q311 q312 q25 q313, by decide +kernel⟩
theorem clL_0_colours : zCl "SendTableLaw" RX0 70 yX0_colours cX0_colours 1 (some .int) 0 := ⟨lw_V q219 q220 q221 q24 q222, by decide +kernel⟩
theorem clL_1_colours : zCl "SendTableLaw" RX1 73 yX1_colours cX1_colours 5 (some .int) 0 := ⟨lw_V q326 q327 q328 q25 q329, by decide +kernel⟩
theorem clX1_1_is : zCl RX1 RX1 30 yX1_is cX1_is 2 (some .boolean) 1 := ⟨lw_V q254 q256 qs17 q25 q257, by decide +kernel⟩
theorem clX1_1_owner : zCl RX1 RX1 34 yX1_owner cX1_owner 5 (some .int) 2 := ⟨lw_V q282 q283 q284 q25 q285, by decide +kernel⟩
theorem clX1_1_parent : zCl RX1 RX1 38 yX1_parent cX1_parent 2 (some .int) 1 := ⟨lw_V q290 q275 q276 q25 q277, by decide +kernel⟩
theorem clX1_1_send : zCl RX1 RX1 42 yX1_send cX1_send 4 (some .int) 2 := ⟨lw_V q291 q279 q280 q25 q281, by decide +kernel⟩
theorem clX1_1_understands : zCl RX1 RX1 45 yX1_understands cX1_understands 4 (some .int) 1 := ⟨lw_V q309 q294 q295 q25 q296, by decide +kernel⟩
theorem clX1_1_with : zCl RX1 RX1 48 yX1_with cX1_with 5 (some .int) 1 := ⟨lw_V q305 q307 qs18 q25 q308, by decide +kernel⟩
theorem clX1_1_findMates : zCl RX1 RX1 51 yX1_findMates cX1_findMates 2 none 0 := ⟨lw_V q314 q316 qs19 q25 q317, by decide +kernel⟩
theorem clX1_1_sizeOf : zCl RX1 RX1 54 yX1_sizeOf cX1_sizeOf 4 (some .int) 1 := ⟨lw_V q318 q320 qs20 q25 q321, by decide +kernel⟩
theorem clX1_1_together : zCl RX1 RX1 57 yX1_together cX1_together 4 (some .boolean) 1 := ⟨lw_V q322 q324 qs21 q25 q325, by decide +kernel⟩
theorem clX1_1_strangers : zCl RX1 RX1 60 yX1_strangers cX1_strangers 4 (some .boolean) 1 := ⟨lw_V q330 q332 qs22 q25 q333, by decide +kernel⟩
end
section
/-! plain facts to paste, each family by itself; over the kit's nI, lN and upd -/
/-! ===== drawers: more things than places ===== -/
theorem fb_holes : ∀ (m n : Nat) (f : Nat → Nat), (∀ i, i < n → f i < m) → (∀ i j, i < j → j < n → f i ≠ f j) → n ≤ m := by
  intro m
  induction m with
  | zero =>
    intro n f h1 _
    rcases Nat.eq_zero_or_pos n with h | h
    · omega
    · exact absurd (h1 0 h) (Nat.not_lt_zero _)
  | succ m ih =>
    intro n f h1 h2
    by_cases hx : ∃ i, i < n ∧ f i = m
    · obtain ⟨a, ha, hfa⟩ := hx
      have hg := ih (n - 1) (fun i => if i < a then f i else f (i + 1)) (by
        intro i hi
        by_cases q : i < a
        · simp only [if_pos q]
          have b1 := h1 i (by omega)
          have b2 := h2 i a q ha
          omega
        · simp only [if_neg q]
          have b1 := h1 (i + 1) (by omega)
          have b2 := h2 a (i + 1) (by omega) (by omega)
          omega) (by
        intro i j hij hj
        by_cases q : i < a
        · by_cases r : j < a
          · simp only [if_pos q, if_pos r]
            exact h2 i j hij (by omega)
          · simp only [if_pos q, if_neg r]
            exact h2 i (j + 1) (by omega) (by omega)
        · have r : ¬ j < a := by omega
          simp only [if_neg q, if_neg r]
          exact h2 (i + 1) (j + 1) (by omega) (by omega))
      omega
    · have hg := ih n f (fun i hi => by
        have b1 := h1 i hi
        have b2 : f i ≠ m := fun e => hx ⟨i, hi, e⟩
        omega) h2
      omega
/-- two of them in one place -/
theorem fb_twice {m n : Nat} {f : Nat → Nat} (h : ∀ i, i < n → f i < m) (hm : m < n) : ∃ i j, i < j ∧ j < n ∧ f i = f j := by
  refine Classical.byContradiction fun hx => ?_
  have := fb_holes m n f h (fun i j hij hj e => hx ⟨i, j, hij, hj, e⟩)
  omega
/-- as many as places, none twice: each place is taken -/
theorem fb_onto {n : Nat} {f : Nat → Nat} (h : ∀ i, i < n → f i < n) (h2 : ∀ i j, i < j → j < n → f i ≠ f j) {y : Nat} (hy : y < n) : ∃ i, i < n ∧ f i = y := by
  refine Classical.byContradiction fun hx => ?_
  have hne : ∀ i, i < n → f i ≠ y := fun i hi e => hx ⟨i, hi, e⟩
  have := fb_holes (n - 1) n (fun i => if f i < y then f i else f i - 1) (by
    intro i hi
    have b1 := h i hi
    have b2 := hne i hi
    by_cases q : f i < y
    · simp only [if_pos q]; omega
    · simp only [if_neg q]; omega) (by
    intro i j hij hj
    have b1 := hne i (by omega)
    have b2 := hne j hj
    have b3 := h2 i j hij hj
    by_cases q : f i < y
    · by_cases r : f j < y
      · simp only [if_pos q, if_pos r]; exact b3
      · simp only [if_pos q, if_neg r]; omega
    · by_cases r : f j < y
      · simp only [if_neg q, if_pos r]; omega
      · simp only [if_neg q, if_neg r]; omega)
  omega
/-! ===== how many places have a property ===== -/
def fb_ct (p : Nat → Bool) : Nat → Nat
  | 0 => 0
  | n + 1 => fb_ct p n + (if p n then 1 else 0)
theorem fb_ct_succ (p : Nat → Bool) (n : Nat) : fb_ct p (n + 1) = fb_ct p n + (if p n then 1 else 0) := rfl
theorem fb_ct_le (p : Nat → Bool) : ∀ n, fb_ct p n ≤ n
  | 0 => Nat.le_refl _
  | n + 1 => by
    have h := fb_ct_le p n
    rw [fb_ct_succ]
    split <;> omega
theorem fb_ct_step (p : Nat → Bool) (m : Nat) : ∀ n, fb_ct p m ≤ fb_ct p (m + n)
  | 0 => Nat.le_refl _
  | n + 1 => by
    have h := fb_ct_step p m n
    show fb_ct p m ≤ fb_ct p (m + n + 1)
    rw [fb_ct_succ]
    omega
theorem fb_ct_mono (p : Nat → Bool) {m n : Nat} (h : m ≤ n) : fb_ct p m ≤ fb_ct p n := by
  have := fb_ct_step p m (n - m)
  rwa [Nat.add_sub_cancel' h] at this
theorem fb_ct_cong {p q : Nat → Bool} : ∀ {n : Nat}, (∀ k, k < n → p k = q k) → fb_ct p n = fb_ct q n
  | 0, _ => rfl
  | n + 1, h => by
    rw [fb_ct_succ, fb_ct_succ, fb_ct_cong (fun k hk => h k (by omega)), h n (by omega)]
/-- one place changed -/
theorem fb_ct_out (p : Nat → Bool) (b : Bool) {i n : Nat} (h : n ≤ i) : fb_ct (fun k => if k = i then b else p k) n = fb_ct p n :=
  fb_ct_cong fun k hk => if_neg (by omega)
theorem fb_ct_upd (p : Nat → Bool) (b : Bool) {i : Nat} : ∀ {n : Nat}, i < n → fb_ct (fun k => if k = i then b else p k) n + (if p i then 1 else 0) = fb_ct p n + (if b then 1 else 0)
  | 0, h => absurd h (Nat.not_lt_zero i)
  | n + 1, h => by
    rw [fb_ct_succ, fb_ct_succ]
    rcases Nat.lt_or_ge i n with q | q
    · have := fb_ct_upd p b q
      have e : (if n = i then b else p n) = p n := if_neg (by omega)
      rw [e]
      omega
    · have e : i = n := by omega
      subst e
      rw [fb_ct_out p b (Nat.le_refl _)]
      simp only [if_true]
      omega
theorem fb_ct_sub {p q : Nat → Bool} : ∀ {n : Nat}, (∀ k, k < n → p k = true → q k = true) → fb_ct p n ≤ fb_ct q n
  | 0, _ => Nat.le_refl _
  | n + 1, h => by
    have h1 := fb_ct_sub (n := n) (p := p) (q := q) (fun k hk => h k (by omega))
    have h2 := h n (by omega)
    rw [fb_ct_succ, fb_ct_succ]
    cases hp : p n <;> cases hq : q n <;> simp_all <;> omega
theorem fb_ct_or {p q : Nat → Bool} : ∀ {n : Nat}, (∀ k, k < n → ¬ (p k = true ∧ q k = true)) → fb_ct (fun k => p k || q k) n = fb_ct p n + fb_ct q n
  | 0, _ => rfl
  | n + 1, h => by
    have h1 := fb_ct_or (n := n) (p := p) (q := q) (fun k hk => h k (by omega))
    have h2 := h n (by omega)
    rw [fb_ct_succ, fb_ct_succ, fb_ct_succ, h1]
    cases hp : p n <;> cases hq : q n <;> simp_all <;> omega
theorem fb_ct_not (p : Nat → Bool) : ∀ n, fb_ct p n + fb_ct (fun k => !p k) n = n
  | 0 => rfl
  | n + 1 => by
    have h := fb_ct_not p n
    rw [fb_ct_succ, fb_ct_succ]
    cases p n <;> simp <;> omega
theorem fb_ct_split (p : Nat → Bool) (m : Nat) : ∀ n, fb_ct p (m + n) = fb_ct p m + fb_ct (fun k => p (m + k)) n
  | 0 => rfl
  | n + 1 => by
    have h := fb_ct_split p m n
    show fb_ct p (m + n + 1) = _
    rw [fb_ct_succ, fb_ct_succ, h, Nat.add_assoc]
theorem fb_ct_zero {p : Nat → Bool} : ∀ {n : Nat}, fb_ct p n = 0 ↔ ∀ k, k < n → p k = false
  | 0 => ⟨fun _ k hk => absurd hk (Nat.not_lt_zero k), fun _ => rfl⟩
  | n + 1 => by
    have h := fb_ct_zero (p := p) (n := n)
    rw [fb_ct_succ]
    constructor
    · intro e k hk
      have e1 : fb_ct p n = 0 := by omega
      rcases Nat.lt_or_ge k n with q | q
      · exact h.mp e1 k q
      · have ek : k = n := by omega
        subst ek
        cases hp : p k
        · rfl
        · simp [hp] at e
    · intro a
      rw [h.mpr (fun k hk => a k (by omega)), a n (by omega)]
      rfl
theorem fb_ct_pos {p : Nat → Bool} {n : Nat} : 0 < fb_ct p n ↔ ∃ k, k < n ∧ p k = true := by
  constructor
  · intro h
    refine Classical.byContradiction fun hx => ?_
    have := fb_ct_zero.mpr (fun k hk => by
      cases hp : p k
      · rfl
      · exact absurd ⟨k, hk, hp⟩ hx : ∀ k, k < n → p k = false)
    omega
  · rintro ⟨k, hk, hp⟩
    rcases Nat.eq_zero_or_pos (fb_ct p n) with e | e
    · have := fb_ct_zero.mp e k hk
      rw [this] at hp
      cases hp
    · exact e
theorem fb_ct_all {p : Nat → Bool} {n : Nat} : fb_ct p n = n ↔ ∀ k, k < n → p k = true := by
  have h := fb_ct_not p n
  constructor
  · intro e k hk
    have z : fb_ct (fun k => !p k) n = 0 := by omega
    have := fb_ct_zero.mp z k hk
    cases hp : p k
    · simp [hp] at this
    · rfl
  · intro a
    have z : fb_ct (fun k => !p k) n = 0 := fb_ct_zero.mpr (fun k hk => by simp [a k hk])
    omega
/-- the k-th place with the property -/
theorem fb_ct_kth {p : Nat → Bool} {k : Nat} : ∀ {n : Nat}, k < fb_ct p n → ∃ i, i < n ∧ p i = true ∧ fb_ct p i = k
  | 0, h => absurd h (Nat.not_lt_zero k)
  | n + 1, h => by
    rcases Nat.lt_or_ge k (fb_ct p n) with q | q
    · obtain ⟨i, h1, h2⟩ := fb_ct_kth q
      exact ⟨i, by omega, h2⟩
    · rw [fb_ct_succ] at h
      cases hp : p n
      · simp [hp] at h; omega
      · simp [hp] at h
        exact ⟨n, by omega, hp, by omega⟩
theorem fb_ct_kth_one {p : Nat → Bool} {i j : Nat} (hi : p i = true) (hj : p j = true) (e : fb_ct p i = fb_ct p j) : i = j := by
  have key : ∀ a b : Nat, a < b → p a = true → fb_ct p a < fb_ct p b := by
    intro a b hab ha
    have h := fb_ct_mono p (show a + 1 ≤ b from hab)
    rw [fb_ct_succ, ha] at h
    simp at h
    omega
  rcases Nat.lt_trichotomy i j with q | q | q
  · have := key i j q hi; omega
  · exact q
  · have := key j i q hj; omega
/-! ===== sums over a range: one place changed, parts, bounds ===== -/
/-! pure words of the packed table -/
/-- the state (n, U, d): classes 0 .. n-1 with parents U, methods d -/
def LInv (n : Nat) (U d : Nat → Int32) : Prop := n ≤ 10 ∧ (∀ k, k < n → Par n (U k)) ∧ (∃ r : Nat → Nat, ∀ c j, c < n → j < n → U c = nI j → r j < r c) ∧ (∀ j, j < 80 → ∃ q, q ≤ 1000 ∧ d j = nI q) ∧ (∀ j, 8 * n ≤ j → j < 80 → d j = nI 0)
/-- a list of the classes from the roots down -/
def Topo (n : Nat) (U : Nat → Int32) (o : Nat → Nat) : Prop := (∀ k, k < n → o k < n) ∧ (∀ c, c < n → ∃ k, k < n ∧ o k = c) ∧ ∀ k, k < n → U (o k) = -1 ∨ ∃ j, j < k ∧ U (o k) = nI (o j)
/-- what class c itself defines -/
def ownM (d : Nat → Int32) (c : Nat) : Nat := mk (fun s => decide (¬ d (8 * c + s) = 0)) 8
/-- sortDown between two steps: m the listed ones, q of them, in dn -/
def SD (n : Nat) (U : Nat → Int32) (m q : Nat) (dn : Nat → Int32) : Prop := m < 1024 ∧ q = fb_ct (fun c => m.testBit c) n ∧ (∀ k, k < q → ∃ c, c < n ∧ dn k = nI c ∧ m.testBit c = true ∧ (U c = -1 ∨ ∃ j, j < k ∧ dn j = U c)) ∧ (∀ c, c < n → m.testBit c = true → ∃ k, k < q ∧ dn k = nI c)
def Rank (n : Nat) (U : Nat → Int32) (rk : Nat → Nat) : Prop := (∀ c, c < n → rk c < n) ∧ ∀ c j, c < n → j < n → U c = nI j → rk j < rk c
/-- the line of understood selectors -/
def Lin (M : Nat → Nat) (L : Nat) (l : Nat → Nat) : Prop := L ≤ 8 ∧ (∀ k, k < L → l k < 8) ∧ (∀ i j, i < L → j < L → l i = l j → i = j) ∧ ∀ s, s < 8 → (M s ≠ 0 ↔ ∃ k, k < L ∧ l k = s)
/-- colours of the first k of the line -/
def opn (g : Nat → Nat) : Nat → Nat
  | 0 => 0
  | k + 1 => if opn g k ≤ g k then g k + 1 else opn g k
def brd (M l g : Nat → Nat) (v : Nat) : Nat → Nat
  | 0 => 0
  | k + 1 => if (M (l v)).testBit (l k) then brd M l g v k ||| 2 ^ (g k) else brd M l g v k
/-- what nextColour answers -/
def NxtR (B c o x : Nat) (v : Int32) : Prop := (∃ d, v = nI d ∧ c ≤ d ∧ d ≤ o ∧ d + 1 < x ∧ o < x ∧ B.testBit d = false ∧ ∀ y, c ≤ y → y < d → B.testBit y = true) ∨ (v = -1 ∧ (x ≤ o ∨ ∀ y, c ≤ y → y ≤ o → y + 1 < x → B.testBit y = true))
/-- selectors a and b are of one class's understanding -/
def Col (M : Nat → Nat) (x : Nat) : Prop := ∃ f : Nat → Nat, (∀ s, s < 8 → M s ≠ 0 → f s < x) ∧ ∀ a b, a < 8 → b < 8 → a ≠ b → (M a).testBit b = true → f a ≠ f b
def IsChi (M : Nat → Nat) (x : Nat) : Prop := Col M x ∧ ∀ y, Col M y → x ≤ y
/-- a proper colouring in the array `best` -/
def Bst (M : Nat → Nat) (be : Nat → Int32) (b : Nat → Nat) : Prop := (∀ s, s < 8 → b s < 8 ∧ be s = nI (b s)) ∧ ∀ a t, a < 8 → t < 8 → a ≠ t → (M a).testBit t = true → b a ≠ b t
/-- the packed table as it is read -/
def Ent (U d : Nat → Int32) (sh ec es eo em : Nat → Int32) (b : Nat → Nat) (c : Nat) : Prop := ∃ x, x ≤ 80 ∧ sh c = nI x ∧ (∀ s, s < 8 → (Kf U d c).testBit s = true → ec (x + b s) = nI c ∧ es (x + b s) = nI s ∧ eo (x + b s) = ownF U d s 10 (nI c) ∧ em (x + b s) = sndF U d s c)
def Neg (U d : Nat → Int32) (ec es : Nat → Int32) : Prop := ∀ i c s, i < 96 → c < 10 → s < 8 → ec i = nI c → es i = nI s → (Kf U d c).testBit s = true
def Built (n : Nat) (U d : Nat → Int32) (kn mt be : Nat → Int32) (ck : Int32) (sh ec es eo em : Nat → Int32) : Prop :=
  (∀ c, c < n → kn c = nI (Kf U d c)) ∧ (∀ s, s < 8 → mt s = nI (Mf U d s n)) ∧ (∃ x, x ≤ 8 ∧ ck = nI x ∧ IsChi (fun s => Mf U d s n) x) ∧ ∃ b, Bst (fun s => Mf U d s n) be b ∧ (∀ c, c < n → Ent U d sh ec es eo em b c) ∧ Neg U d ec es
def SysI (n : Nat) (U d ab df : Nat → Int32) (bt : Int32) (kn mt be : Nat → Int32) (ck : Int32) (sh ec es eo em : Nat → Int32) : Prop :=
  (∀ c, c < n → ab c = U c) ∧ (∀ j, j < 80 → df j = d j) ∧ (∀ s, s < 8 → ∃ b, b < 8 ∧ be s = nI b) ∧ (bt = nI 0 ∨ (bt = nI 1 ∧ Built n U d kn mt be ck sh ec es eo em))
def mkF (b l c : Int32) : Nat → Int32 := fun k => match k with
  | 3 => b
  | 9 => l
  | _ => c
def mkS (s1 s2 s4 s5 s6 s7 s8 s11 s12 s13 s14 s15 s16 s17 : Nat → Int32) : Nat → Nat → Int32 := fun k => match k with
  | 1 => s1
  | 2 => s2
  | 4 => s4
  | 5 => s5
  | 6 => s6
  | 7 => s7
  | 8 => s8
  | 11 => s11
  | 12 => s12
  | 13 => s13
  | 14 => s14
  | 15 => s15
  | 16 => s16
  | _ => s17
def Sys (n : Nat) (U d : Nat → Int32) (F : Nat → Int32) (S : Nat → Nat → Int32) : Prop := SysI n U d (S 1) (S 2) (F 3) (S 4) (S 5) (S 7) (F 10) (S 11) (S 12) (S 13) (S 14) (S 15)
abbrev wS (h : Nat) (ad : Nat → Nat) (dB dS : ClassId) (n : Nat) (F : Nat → Int32) (S : Nat → Nat → Int32) : va_W := wX h ad dB dS (nI n) (S 1) (S 2) (F 3) (S 4) (S 5) (S 6) (S 7) (S 8) (F 9) (F 10) (S 11) (S 12) (S 13) (S 14) (S 15) (S 16) (S 17)
end
section
set_option maxRecDepth 100000
theorem und_neg {U : Nat → Int32} {c e : Int32} {f : Nat} (h : e < 0) : undF U c (f + 1) e = false := by unfold undF; rw [if_pos h]
theorem und_hit {U : Nat → Int32} {f j : Nat} (h : j < 2147483648) : undF U (nI j) (f + 1) (nI j) = true := by unfold undF; rw [if_neg (nI_pos (by omega)), if_pos rfl]
theorem und_step {U : Nat → Int32} {c : Int32} {f j : Nat} (h : j < 2147483648) (hc : ¬ nI j = c) : undF U c (f + 1) (nI j) = undF U c f (U j) := by
  conv => lhs; unfold undF
  rw [if_neg (nI_pos (by omega)), if_neg hc, nI_clamp (by omega)]
theorem own_neg {U d : Nat → Int32} {e : Int32} {f s : Nat} (h : e < 0) : ownF U d s (f + 1) e = -1 := by unfold ownF; rw [if_pos h]
theorem own_hit {U d : Nat → Int32} {f s j : Nat} (h : j < 2147483648) (hc : 0 < d (8 * j + s)) : ownF U d s (f + 1) (nI j) = nI j := by
  unfold ownF
  rw [if_neg (nI_pos (by omega)), nI_clamp (by omega), if_pos hc]
theorem own_step {U d : Nat → Int32} {f s j : Nat} (h : j < 2147483648) (hc : ¬ 0 < d (8 * j + s)) : ownF U d s (f + 1) (nI j) = ownF U d s f (U j) := by
  conv => lhs; unfold ownF
  rw [if_neg (nI_pos (by omega)), nI_clamp (by omega), if_neg hc]
theorem z_pos {x : Int32} (h : ¬ x ≤ 0) : 0 < x := fa_of_nle h
theorem z_npos {x : Int32} (h : x ≤ 0) : ¬ 0 < x := fun q => absurd h (by rw [fa_le]; rw [fa_lt] at q; omega)
set_option maxHeartbeats 4000000 in
set_option maxRecDepth 100000 in
theorem mM_is (l : Launch) (D : va_G) (h : Nat) (ad : Nat → Nat) (dB dS dN dZ : ClassId) (n : Nat) (up ow ma al le : Nat → Int32)  (x1 : Int32) (hn : n ≤ 10) : zMI l D (zT dB dS dN dZ) yX1_is cX1_is 2 .boolean 0 [.ref h, .int x1] (wM h ad dN dZ (nI n) up ow ma al le) (fun v (u : Unit) => (v = nI 1 ∧ ∃ k, k < n ∧ x1 = nI k) ∨ (v = nI 0 ∧ ∀ k, k < n → x1 ≠ nI k)) (fun _ => wM h ad dN dZ (nI n) up ow ma al le) := by
  refine zStartI (by decide) (Nat.le_of_ble_eq_true rfl) ?_
  intro p e s m args below meth c A Q ls hx hb hml hown hts hK hend hW hl
  have hown : s.vm.findClass RX1 = some m.cls := hown
  have hl : lv_has ls 2 [(0, .ref h), (1, .int x1)] := hl
  refine lv_iload_n hx hb dX1_is_0 rfl (lv_at hl 1 rfl) ?_
  refine lv_if_lt (tgt := 16) hx hb dX1_is_1 (by decide) (fun c1 => ?_) (fun c1 => ?_)
  · have _ := 0
    refine lv_iconst (v := (nI 0)) hx hb dX1_is_16 (by decide) ?_
    exact hend _ () _ _ _ _ rfl (Or.inr ⟨rfl, zin_neg (by omega) c1⟩) hW dX1_is_17
  · have _ := 0
    refine lv_iload_n hx hb dX1_is_4 rfl (lv_at hl 1 rfl) ?_
    refine lv_aload_n hx hb dX1_is_5 rfl (lv_at hl 0 rfl) ?_
    refine zg1_cn hx hb hts hown hK hW dX1_is_6 ?_
    refine lv_icmp_ge (tgt := 16) hx hb dX1_is_9 (by decide) (fun c9 => ?_) (fun c9 => ?_)
    · have _ := 0
      refine lv_iconst (v := (nI 0)) hx hb dX1_is_16 (by decide) ?_
      exact hend _ () _ _ _ _ rfl (Or.inr ⟨rfl, zin_ge (by omega) c9⟩) hW dX1_is_17
    · have _ := 0
      refine lv_iconst (v := (nI 1)) hx hb dX1_is_12 (by decide) ?_
      refine lv_goto (tgt := 17) hx hb dX1_is_13 (by decide) ?_
      exact hend _ () _ _ _ _ rfl (Or.inl ⟨rfl, zin_in (by omega) c1 c9⟩) hW dX1_is_17
set_option maxHeartbeats 4000000 in
set_option maxRecDepth 100000 in
theorem mM_addClass (l : Launch) (D : va_G) (h : Nat) (ad : Nat → Nat) (dB dS dN dZ : ClassId) (n : Nat) (up ow ma al le : Nat → Int32)  (x1 : Int32) (hn : n ≤ 10) : zMI l D (zT dB dS dN dZ) yX1_addClass cX1_addClass 2 .int 1 [.ref h, .int x1] (wM h ad dN dZ (nI n) up ow ma al le) (fun v (u : Nat × (Nat → Int32)) => AddR n up x1 v u.1 u.2) (fun u => wM h ad dN dZ (nI u.1) u.2 ow ma al le) := by
  refine zStartI (by decide) (Nat.le_of_ble_eq_true rfl) ?_
  intro p e s m args below meth c A Q ls hx hb hml hown hts hK hend hW hl
  have hown : s.vm.findClass RX1 = some m.cls := hown
  have hl : lv_has ls 2 [(0, .ref h), (1, .int x1)] := hl
  refine lv_iload_n hx hb dX1_addClass_0 rfl (lv_at hl 1 rfl) ?_
  refine lv_iconst (v := (-1)) hx hb dX1_addClass_1 (by decide) ?_
  refine lv_icmp_eq (tgt := 15) hx hb dX1_addClass_2 (by decide) (fun c2 => ?_) (fun c2 => ?_)
  · have _ := 0
    refine lv_aload_n hx hb dX1_addClass_15 rfl (lv_at hl 0 rfl) ?_
    refine zg1_cn hx hb hts hown hK hW dX1_addClass_16 ?_
    refine lv_bipush (v := (nI 10)) hx hb dX1_addClass_19 (by decide) ?_
    refine lv_icmp_lt (tgt := 27) hx hb dX1_addClass_21 (by decide) (fun c21 => ?_) (fun c21 => ?_)
    · have _ := 0
      have c21 : n < 10 := z_lt (by omega) (by omega) c21
      refine lv_aload_n hx hb dX1_addClass_27 rfl (lv_at hl 0 rfl) ?_
      refine zg1_up hx hb hts hown hK hW dX1_addClass_28 ?_
      refine lv_aload_n hx hb dX1_addClass_31 rfl (lv_at hl 0 rfl) ?_
      refine zg1_cn hx hb hts hown hK hW dX1_addClass_32 ?_
      refine lv_iload_n hx hb dX1_addClass_35 rfl (lv_at hl 1 rfl) ?_
      refine z_iast (v := x1) hx hb hK hW 1 2 rfl rfl n rfl (by omega) (by decide) rfl dX1_addClass_36 (fun H locs hW => ?_)
      have hW : zH D A s (wM h ad dN dZ (nI n) (upd up n x1) ow ma al le) H locs := hW
      refine lv_aload_n hx hb dX1_addClass_37 rfl (lv_at hl 0 rfl) ?_
      refine lv_dup hx hb dX1_addClass_38 rfl ?_
      refine zg1_cn hx hb hts hown hK hW dX1_addClass_39 ?_
      refine lv_iconst (v := (nI 1)) hx hb dX1_addClass_42 (by decide) ?_
      refine lv_iadd hx hb dX1_addClass_43 ?_
      refine z_top (show ((nI n) + (nI 1)) = (nI (n + 1)) from nI_add _ _) ?_
      refine zp1_cn hx hb hts hown hK hW rfl rfl dX1_addClass_44 (fun H locs hW => ?_)
      refine lv_aload_n hx hb dX1_addClass_47 rfl (lv_at hl 0 rfl) ?_
      refine zg1_cn hx hb hts hown hK hW dX1_addClass_48 ?_
      refine lv_iconst (v := (nI 1)) hx hb dX1_addClass_51 (by decide) ?_
      refine lv_isub hx hb dX1_addClass_52 ?_
      refine z_top (show ((nI (n + 1)) - (nI 1)) = (nI ((n + 1) - 1)) from pk_sub (by omega)) ?_
      exact hend _ (n + 1, upd up n x1) _ _ _ _ rfl (Or.inr (Or.inr ⟨(Or.inl c2), c21, rfl, rfl, rfl⟩)) hW dX1_addClass_53
    · have _ := 0
      have c21 : 10 ≤ n := z_nlt (by omega) (by omega) c21
      refine lv_bipush (v := (-2)) hx hb dX1_addClass_24 (by decide) ?_
      exact hend _ (n, up) _ _ _ _ rfl (Or.inr (Or.inl ⟨(Or.inl c2), c21, rfl, rfl, rfl⟩)) hW dX1_addClass_26
  · have _ := 0
    refine lv_aload_n hx hb dX1_addClass_5 rfl (lv_at hl 0 rfl) ?_
    refine lv_iload_n hx hb dX1_addClass_6 rfl (lv_at hl 1 rfl) ?_
    refine zcallI (rest := []) hx hb hml hown hts hK clX1_1_is (mM_is l D h ad dB dS dN dZ n up ow ma al le x1 hn) ⟨Nat.le_of_ble_eq_true rfl, Nat.le_of_ble_eq_true rfl⟩ hW ⟨1, _, _, rfl, rfl, rfl⟩ rfl hl.1 rfl (Nat.le_of_ble_eq_true rfl) dX1_addClass_7 ⟨Nat.le_refl 0, Nat.le_refl 0⟩ (fun v u H locs hv hW => ?_)
    rcases hv with ⟨rfl, k, hk, rfl⟩ | ⟨rfl, hc⟩
    · have _ := 0
      refine lv_if_ne (tgt := 15) hx hb dX1_addClass_10 (by decide) (fun c10 => ?_) (fun c10 => ?_)
      · have _ := 0
        refine lv_aload_n hx hb dX1_addClass_15 rfl (lv_at hl 0 rfl) ?_
        refine zg1_cn hx hb hts hown hK hW dX1_addClass_16 ?_
        refine lv_bipush (v := (nI 10)) hx hb dX1_addClass_19 (by decide) ?_
        refine lv_icmp_lt (tgt := 27) hx hb dX1_addClass_21 (by decide) (fun c21 => ?_) (fun c21 => ?_)
        · have _ := 0
          have c21 : n < 10 := z_lt (by omega) (by omega) c21
          refine lv_aload_n hx hb dX1_addClass_27 rfl (lv_at hl 0 rfl) ?_
          refine zg1_up hx hb hts hown hK hW dX1_addClass_28 ?_
          refine lv_aload_n hx hb dX1_addClass_31 rfl (lv_at hl 0 rfl) ?_
          refine zg1_cn hx hb hts hown hK hW dX1_addClass_32 ?_
          refine lv_iload_n hx hb dX1_addClass_35 rfl (lv_at hl 1 rfl) ?_
          refine z_iast (v := (nI k)) hx hb hK hW 1 2 rfl rfl n rfl (by omega) (by decide) rfl dX1_addClass_36 (fun H locs hW => ?_)
          have hW : zH D A s (wM h ad dN dZ (nI n) (upd up n (nI k)) ow ma al le) H locs := hW
          refine lv_aload_n hx hb dX1_addClass_37 rfl (lv_at hl 0 rfl) ?_
          refine lv_dup hx hb dX1_addClass_38 rfl ?_
          refine zg1_cn hx hb hts hown hK hW dX1_addClass_39 ?_
          refine lv_iconst (v := (nI 1)) hx hb dX1_addClass_42 (by decide) ?_
          refine lv_iadd hx hb dX1_addClass_43 ?_
          refine z_top (show ((nI n) + (nI 1)) = (nI (n + 1)) from nI_add _ _) ?_
          refine zp1_cn hx hb hts hown hK hW rfl rfl dX1_addClass_44 (fun H locs hW => ?_)
          refine lv_aload_n hx hb dX1_addClass_47 rfl (lv_at hl 0 rfl) ?_
          refine zg1_cn hx hb hts hown hK hW dX1_addClass_48 ?_
          refine lv_iconst (v := (nI 1)) hx hb dX1_addClass_51 (by decide) ?_
          refine lv_isub hx hb dX1_addClass_52 ?_
          refine z_top (show ((nI (n + 1)) - (nI 1)) = (nI ((n + 1) - 1)) from pk_sub (by omega)) ?_
          exact hend _ (n + 1, upd up n (nI k)) _ _ _ _ rfl (Or.inr (Or.inr ⟨(Or.inr ⟨k, hk, rfl⟩), c21, rfl, rfl, rfl⟩)) hW dX1_addClass_53
        · have _ := 0
          have c21 : 10 ≤ n := z_nlt (by omega) (by omega) c21
          refine lv_bipush (v := (-2)) hx hb dX1_addClass_24 (by decide) ?_
          exact hend _ (n, up) _ _ _ _ rfl (Or.inr (Or.inl ⟨(Or.inr ⟨k, hk, rfl⟩), c21, rfl, rfl, rfl⟩)) hW dX1_addClass_26
      · have _ := 0
        exact absurd c10 (by decide)
    · have _ := 0
      refine lv_if_ne (tgt := 15) hx hb dX1_addClass_10 (by decide) (fun c10 => ?_) (fun c10 => ?_)
      · have _ := 0
        exact absurd c10 (by decide)
      · have _ := 0
        refine lv_iconst (v := (-1)) hx hb dX1_addClass_13 (by decide) ?_
        exact hend _ (n, up) _ _ _ _ rfl (Or.inl ⟨fun q => q.elim c2 (fun ⟨k, a, b⟩ => hc k a b), rfl, rfl, rfl⟩) hW dX1_addClass_14
set_option maxHeartbeats 4000000 in
set_option maxRecDepth 100000 in
theorem mM_define (l : Launch) (D : va_G) (h : Nat) (ad : Nat → Nat) (dB dS dN dZ : ClassId) (n : Nat) (up ow ma al le : Nat → Int32)  (x1 : Int32) (x2 : Int32) (x3 : Int32) (hn : n ≤ 10) : zMI l D (zT dB dS dN dZ) yX1_define cX1_define 4 .boolean 1 [.ref h, .int x1, .int x2, .int x3] (wM h ad dN dZ (nI n) up ow ma al le) (fun v (u : Nat → Int32) => DefR n ow x1 x2 x3 v u) (fun u => wM h ad dN dZ (nI n) up u ma al le) := by
  refine zStartI (by decide) (Nat.le_of_ble_eq_true rfl) ?_
  intro p e s m args below meth c A Q ls hx hb hml hown hts hK hend hW hl
  have hown : s.vm.findClass RX1 = some m.cls := hown
  have hl : lv_has ls 4 [(0, .ref h), (1, .int x1), (2, .int x2), (3, .int x3)] := hl
  refine lv_aload_n hx hb dX1_define_0 rfl (lv_at hl 0 rfl) ?_
  refine lv_iload_n hx hb dX1_define_1 rfl (lv_at hl 1 rfl) ?_
  refine zcallI (rest := []) hx hb hml hown hts hK clX1_1_is (mM_is l D h ad dB dS dN dZ n up ow ma al le x1 hn) ⟨Nat.le_of_ble_eq_true rfl, Nat.le_of_ble_eq_true rfl⟩ hW ⟨1, _, _, rfl, rfl, rfl⟩ rfl hl.1 rfl (Nat.le_of_ble_eq_true rfl) dX1_define_2 ⟨Nat.le_refl 0, Nat.le_refl 0⟩ (fun v u H locs hv hW => ?_)
  rcases hv with ⟨rfl, k, hk, rfl⟩ | ⟨rfl, hc⟩
  · have _ := 0
    refine lv_if_eq (tgt := 30) hx hb dX1_define_5 (by decide) (fun c5 => ?_) (fun c5 => ?_)
    · have _ := 0
      exact absurd c5 (by decide)
    · have _ := 0
      refine lv_iload_n hx hb dX1_define_8 rfl (lv_at hl 2 rfl) ?_
      refine lv_if_lt (tgt := 30) hx hb dX1_define_9 (by decide) (fun c9 => ?_) (fun c9 => ?_)
      · have _ := 0
        refine lv_iconst (v := (nI 0)) hx hb dX1_define_30 (by decide) ?_
        exact hend _ ow _ _ _ _ rfl (Or.inr ⟨fun k1 j1 q1 ⟨a, b, cq, e1, e2, e3⟩ => zin_neg (n := 8) (by omega) c9 j1 b e2, rfl, rfl⟩) hW dX1_define_31
      · have _ := 0
        refine lv_iload_n hx hb dX1_define_12 rfl (lv_at hl 2 rfl) ?_
        refine lv_bipush (v := (nI 7)) hx hb dX1_define_13 (by decide) ?_
        refine lv_icmp_gt (tgt := 30) hx hb dX1_define_15 (by decide) (fun c15 => ?_) (fun c15 => ?_)
        · have _ := 0
          refine lv_iconst (v := (nI 0)) hx hb dX1_define_30 (by decide) ?_
          exact hend _ ow _ _ _ _ rfl (Or.inr ⟨fun k1 j1 q1 ⟨a, b, cq, e1, e2, e3⟩ => zin_gt (b := 7) (n := 8) (by omega) (by omega) c15 j1 b e2, rfl, rfl⟩) hW dX1_define_31
        · have _ := 0
          refine lv_iload_n hx hb dX1_define_18 rfl (lv_at hl 3 rfl) ?_
          refine lv_iconst (v := (nI 1)) hx hb dX1_define_19 (by decide) ?_
          refine lv_icmp_lt (tgt := 30) hx hb dX1_define_20 (by decide) (fun c20 => ?_) (fun c20 => ?_)
          · have _ := 0
            refine lv_iconst (v := (nI 0)) hx hb dX1_define_30 (by decide) ?_
            exact hend _ ow _ _ _ _ rfl (Or.inr ⟨fun k1 j1 q1 ⟨a, b, cq, e1, e2, e3⟩ => absurd c20 (by rw [e3]; exact nI_nlt cq.1 (by omega)), rfl, rfl⟩) hW dX1_define_31
          · have _ := 0
            refine lv_iload_n hx hb dX1_define_23 rfl (lv_at hl 3 rfl) ?_
            refine lv_sipush (v := (nI 1000)) hx hb dX1_define_24 (by decide) ?_
            refine lv_icmp_le (tgt := 32) hx hb dX1_define_27 (by decide) (fun c27 => ?_) (fun c27 => ?_)
            · have _ := 0
              obtain ⟨j, hj, rfl⟩ := zin_le (b := 7) (by omega) c9 c15
              obtain ⟨q, hq1, hq2, rfl⟩ := zin_ab (a := 1) (b := 1000) (by omega) (by omega) c20 c27
              refine lv_aload_n hx hb dX1_define_32 rfl (lv_at hl 0 rfl) ?_
              refine zg1_ow hx hb hts hown hK hW dX1_define_33 ?_
              refine lv_bipush (v := (nI 8)) hx hb dX1_define_36 (by decide) ?_
              refine lv_iload_n hx hb dX1_define_38 rfl (lv_at hl 1 rfl) ?_
              refine lv_imul hx hb dX1_define_39 ?_
              refine z_top (show ((nI 8) * (nI k)) = (nI (8 * k)) from pk_mul _ _) ?_
              refine lv_iload_n hx hb dX1_define_40 rfl (lv_at hl 2 rfl) ?_
              refine lv_iadd hx hb dX1_define_41 ?_
              refine z_top (show ((nI (8 * k)) + (nI j)) = (nI ((8 * k) + j)) from nI_add _ _) ?_
              refine lv_iload_n hx hb dX1_define_42 rfl (lv_at hl 3 rfl) ?_
              refine z_iast (v := (nI q)) hx hb hK hW 2 2 rfl rfl ((8 * k) + j) rfl (by omega) (by decide) rfl dX1_define_43 (fun H locs hW => ?_)
              have hW : zH D A s (wM h ad dN dZ (nI n) up (upd ow ((8 * k) + j) (nI q)) ma al le) H locs := hW
              refine lv_iconst (v := (nI 1)) hx hb dX1_define_44 (by decide) ?_
              exact hend _ (upd ow (8 * k + j) (nI q)) _ _ _ _ rfl (Or.inl ⟨k, j, q, ⟨hk, hj, ⟨hq1, hq2⟩, rfl, rfl, rfl⟩, rfl, rfl⟩) hW dX1_define_45
            · have _ := 0
              refine lv_iconst (v := (nI 0)) hx hb dX1_define_30 (by decide) ?_
              exact hend _ ow _ _ _ _ rfl (Or.inr ⟨fun k1 j1 q1 ⟨a, b, cq, e1, e2, e3⟩ => c27 (by rw [e3]; exact nI_le cq.2 (by omega)), rfl, rfl⟩) hW dX1_define_31
  · have _ := 0
    refine lv_if_eq (tgt := 30) hx hb dX1_define_5 (by decide) (fun c5 => ?_) (fun c5 => ?_)
    · have _ := 0
      refine lv_iconst (v := (nI 0)) hx hb dX1_define_30 (by decide) ?_
      exact hend _ ow _ _ _ _ rfl (Or.inr ⟨fun k1 j1 q1 ⟨a, b, cq, e1, e2, e3⟩ => hc k1 a e1, rfl, rfl⟩) hW dX1_define_31
    · have _ := 0
      exact absurd c5 (by decide)
set_option maxHeartbeats 4000000 in
set_option maxRecDepth 100000 in
theorem mM_drop (l : Launch) (D : va_G) (h : Nat) (ad : Nat → Nat) (dB dS dN dZ : ClassId) (n : Nat) (up ow ma al le : Nat → Int32)  (x1 : Int32) (x2 : Int32) (hn : n ≤ 10) : zMI l D (zT dB dS dN dZ) yX1_drop cX1_drop 3 .boolean 1 [.ref h, .int x1, .int x2] (wM h ad dN dZ (nI n) up ow ma al le) (fun v (u : Nat → Int32) => DropR n ow x1 x2 v u) (fun u => wM h ad dN dZ (nI n) up u ma al le) := by
  refine zStartI (by decide) (Nat.le_of_ble_eq_true rfl) ?_
  intro p e s m args below meth c A Q ls hx hb hml hown hts hK hend hW hl
  have hown : s.vm.findClass RX1 = some m.cls := hown
  have hl : lv_has ls 3 [(0, .ref h), (1, .int x1), (2, .int x2)] := hl
  refine lv_aload_n hx hb dX1_drop_0 rfl (lv_at hl 0 rfl) ?_
  refine lv_iload_n hx hb dX1_drop_1 rfl (lv_at hl 1 rfl) ?_
  refine zcallI (rest := []) hx hb hml hown hts hK clX1_1_is (mM_is l D h ad dB dS dN dZ n up ow ma al le x1 hn) ⟨Nat.le_of_ble_eq_true rfl, Nat.le_of_ble_eq_true rfl⟩ hW ⟨1, _, _, rfl, rfl, rfl⟩ rfl hl.1 rfl (Nat.le_of_ble_eq_true rfl) dX1_drop_2 ⟨Nat.le_refl 0, Nat.le_refl 0⟩ (fun v u H locs hv hW => ?_)
  rcases hv with ⟨rfl, k, hk, rfl⟩ | ⟨rfl, hc⟩
  · have _ := 0
    refine lv_if_eq (tgt := 32) hx hb dX1_drop_5 (by decide) (fun c5 => ?_) (fun c5 => ?_)
    · have _ := 0
      exact absurd c5 (by decide)
    · have _ := 0
      refine lv_iload_n hx hb dX1_drop_8 rfl (lv_at hl 2 rfl) ?_
      refine lv_if_lt (tgt := 32) hx hb dX1_drop_9 (by decide) (fun c9 => ?_) (fun c9 => ?_)
      · have _ := 0
        refine lv_iconst (v := (nI 0)) hx hb dX1_drop_32 (by decide) ?_
        exact hend _ ow _ _ _ _ rfl (Or.inr ⟨fun k1 j1 ⟨a, b, e1, e2⟩ => absurd e2 (zin_neg (n := 8) (by omega) c9 j1 b), rfl, rfl⟩) hW dX1_drop_33
      · have _ := 0
        refine lv_iload_n hx hb dX1_drop_12 rfl (lv_at hl 2 rfl) ?_
        refine lv_bipush (v := (nI 7)) hx hb dX1_drop_13 (by decide) ?_
        refine lv_icmp_gt (tgt := 32) hx hb dX1_drop_15 (by decide) (fun c15 => ?_) (fun c15 => ?_)
        · have _ := 0
          refine lv_iconst (v := (nI 0)) hx hb dX1_drop_32 (by decide) ?_
          exact hend _ ow _ _ _ _ rfl (Or.inr ⟨fun k1 j1 ⟨a, b, e1, e2⟩ => absurd e2 (zin_gt (b := 7) (n := 8) (by omega) (by omega) c15 j1 b), rfl, rfl⟩) hW dX1_drop_33
        · have _ := 0
          obtain ⟨j, hj, rfl⟩ := zin_le (b := 7) (by omega) c9 c15
          refine lv_aload_n hx hb dX1_drop_18 rfl (lv_at hl 0 rfl) ?_
          refine zg1_ow hx hb hts hown hK hW dX1_drop_19 ?_
          refine lv_bipush (v := (nI 8)) hx hb dX1_drop_22 (by decide) ?_
          refine lv_iload_n hx hb dX1_drop_24 rfl (lv_at hl 1 rfl) ?_
          refine lv_imul hx hb dX1_drop_25 ?_
          refine z_top (show ((nI 8) * (nI k)) = (nI (8 * k)) from pk_mul _ _) ?_
          refine lv_iload_n hx hb dX1_drop_26 rfl (lv_at hl 2 rfl) ?_
          refine lv_iadd hx hb dX1_drop_27 ?_
          refine z_top (show ((nI (8 * k)) + (nI j)) = (nI ((8 * k) + j)) from nI_add _ _) ?_
          refine z_iald hx hb hK hW 2 2 rfl rfl ((8 * k) + j) rfl (by omega) (by decide) dX1_drop_28 ?_
          refine lv_if_ne (tgt := 34) hx hb dX1_drop_29 (by decide) (fun c29 => ?_) (fun c29 => ?_)
          · have _ := 0
            refine lv_aload_n hx hb dX1_drop_34 rfl (lv_at hl 0 rfl) ?_
            refine zg1_ow hx hb hts hown hK hW dX1_drop_35 ?_
            refine lv_bipush (v := (nI 8)) hx hb dX1_drop_38 (by decide) ?_
            refine lv_iload_n hx hb dX1_drop_40 rfl (lv_at hl 1 rfl) ?_
            refine lv_imul hx hb dX1_drop_41 ?_
            refine z_top (show ((nI 8) * (nI k)) = (nI (8 * k)) from pk_mul _ _) ?_
            refine lv_iload_n hx hb dX1_drop_42 rfl (lv_at hl 2 rfl) ?_
            refine lv_iadd hx hb dX1_drop_43 ?_
            refine z_top (show ((nI (8 * k)) + (nI j)) = (nI ((8 * k) + j)) from nI_add _ _) ?_
            refine lv_iconst (v := (nI 0)) hx hb dX1_drop_44 (by decide) ?_
            refine z_iast (v := (nI 0)) hx hb hK hW 2 2 rfl rfl ((8 * k) + j) rfl (by omega) (by decide) rfl dX1_drop_45 (fun H locs hW => ?_)
            have hW : zH D A s (wM h ad dN dZ (nI n) up (upd ow ((8 * k) + j) (nI 0)) ma al le) H locs := hW
            refine lv_iconst (v := (nI 1)) hx hb dX1_drop_46 (by decide) ?_
            exact hend _ (upd ow (8 * k + j) (nI 0)) _ _ _ _ rfl (Or.inl ⟨k, j, ⟨hk, hj, rfl, rfl⟩, c29, rfl, rfl⟩) hW dX1_drop_47
          · have _ := 0
            refine lv_iconst (v := (nI 0)) hx hb dX1_drop_32 (by decide) ?_
            exact hend _ ow _ _ _ _ rfl (Or.inr ⟨fun k1 j1 ⟨a, b, e1, e2⟩ => by rw [← z_eq (by omega) (by omega) e1, ← z_eq (by omega) (by omega) e2]; exact c29, rfl, rfl⟩) hW dX1_drop_33
  · have _ := 0
    refine lv_if_eq (tgt := 32) hx hb dX1_drop_5 (by decide) (fun c5 => ?_) (fun c5 => ?_)
    · have _ := 0
      refine lv_iconst (v := (nI 0)) hx hb dX1_drop_32 (by decide) ?_
      exact hend _ ow _ _ _ _ rfl (Or.inr ⟨fun k1 j1 ⟨a, b, e1, e2⟩ => absurd e1 (hc k1 a), rfl, rfl⟩) hW dX1_drop_33
    · have _ := 0
      exact absurd c5 (by decide)
set_option maxHeartbeats 4000000 in
set_option maxRecDepth 100000 in
theorem mM_move (l : Launch) (D : va_G) (h : Nat) (ad : Nat → Nat) (dB dS dN dZ : ClassId) (n : Nat) (up ow ma al le : Nat → Int32)  (x1 : Int32) (x2 : Int32) (hn : n ≤ 10) (hU : ∀ k, k < n → Par n (up k)) : zMI l D (zT dB dS dN dZ) yX1_move cX1_move 5 .boolean 1 [.ref h, .int x1, .int x2] (wM h ad dN dZ (nI n) up ow ma al le) (fun v (u : Nat → Int32) => MoveR n up x1 x2 v u) (fun u => wM h ad dN dZ (nI n) u ow ma al le) := by
  refine zStartI (by decide) (Nat.le_of_ble_eq_true rfl) ?_
  intro p e s m args below meth c A Q ls hx hb hml hown hts hK hend hW hl
  have hown : s.vm.findClass RX1 = some m.cls := hown
  have hl : lv_has ls 5 [(0, .ref h), (1, .int x1), (2, .int x2)] := hl
  refine lv_aload_n hx hb dX1_move_0 rfl (lv_at hl 0 rfl) ?_
  refine lv_iload_n hx hb dX1_move_1 rfl (lv_at hl 1 rfl) ?_
  refine zcallI (rest := []) hx hb hml hown hts hK clX1_1_is (mM_is l D h ad dB dS dN dZ n up ow ma al le x1 hn) ⟨Nat.le_of_ble_eq_true rfl, Nat.le_of_ble_eq_true rfl⟩ hW ⟨1, _, _, rfl, rfl, rfl⟩ rfl hl.1 rfl (Nat.le_of_ble_eq_true rfl) dX1_move_2 ⟨Nat.le_refl 0, Nat.le_refl 0⟩ (fun v u H locs hv hW => ?_)
  rcases hv with ⟨rfl, k, hk, rfl⟩ | ⟨rfl, hc⟩
  · have _ := 0
    refine lv_if_eq (tgt := 21) hx hb dX1_move_5 (by decide) (fun c5 => ?_) (fun c5 => ?_)
    · have _ := 0
      exact absurd c5 (by decide)
    · have _ := 0
      refine lv_iload_n hx hb dX1_move_8 rfl (lv_at hl 2 rfl) ?_
      refine lv_iconst (v := (-1)) hx hb dX1_move_9 (by decide) ?_
      refine lv_icmp_eq (tgt := 23) hx hb dX1_move_10 (by decide) (fun c10 => ?_) (fun c10 => ?_)
      · have _ := 0
        refine lv_iload_n hx hb dX1_move_23 rfl (lv_at hl 2 rfl) ?_
        refine lv_istore_n (lv' := [(3, .int x2), (0, .ref h), (1, .int (nI k)), (2, .int x2)]) hx hb dX1_move_24 rfl hl (by decide) rfl (fun ls hl => ?_)
        refine lv_iconst (v := (nI 0)) hx hb dX1_move_25 (by decide) ?_
        refine lv_istore (lv' := [(4, .int (nI 0)), (3, .int x2), (0, .ref h), (1, .int (nI k)), (2, .int x2)]) hx hb dX1_move_26 hl (by decide) rfl (fun ls hl => ?_)
        have hp : Par n x2 := Or.inl c10
        have hloop28 : ∀ (N : Nat) (i : Nat) (d : Int32), 10 < i + N → (i ≤ 10) → (Par n d) → (undF up (nI k) 10 x2 = undF up (nI k) (10 - i) d) → ∀ (H : Heap) (locs : List Loc) (ls : Array Slot), zH D A s (wM h ad dN dZ (nI n) up ow ma al le) H locs → lv_has ls 5 [(4, .int (nI i)), (3, .int d), (0, .ref h), (1, .int (nI k)), (2, .int x2)] → W p l e (zR 1) s m args below meth c H locs 0 0 Q (F0 m 28 ls []) := by
          intro N
          induction N with
          | zero =>
            intro i  d  hM hi hd hf H locs ls hW hl
            exact absurd hM (by omega)
          | succ N ih28 =>
            intro i  d  hM hi hd hf H locs ls hW hl
            refine lv_iload hx hb dX1_move_28 (lv_at hl 0 rfl) ?_
            refine lv_bipush (v := (nI 10)) hx hb dX1_move_30 (by decide) ?_
            refine lv_icmp_ge (tgt := 59) hx hb dX1_move_32 (by decide) (fun c32 => ?_) (fun c32 => ?_)
            · have _ := 0
              have c32 : 10 ≤ i := z_le (by omega) (by omega) c32
              have hu : undF up (nI k) 10 x2 = false := by rw [hf, show 10 - i = 0 by omega]; rfl
              refine lv_aload_n hx hb dX1_move_59 rfl (lv_at hl 2 rfl) ?_
              refine zg1_up hx hb hts hown hK hW dX1_move_60 ?_
              refine lv_iload_n hx hb dX1_move_63 rfl (lv_at hl 3 rfl) ?_
              refine lv_iload_n hx hb dX1_move_64 rfl (lv_at hl 4 rfl) ?_
              refine z_iast (v := x2) hx hb hK hW 1 2 rfl rfl k rfl (by omega) (by decide) rfl dX1_move_65 (fun H locs hW => ?_)
              have hW : zH D A s (wM h ad dN dZ (nI n) (upd up k x2) ow ma al le) H locs := hW
              refine lv_iconst (v := (nI 1)) hx hb dX1_move_66 (by decide) ?_
              exact hend _ (upd up k x2) _ _ _ _ rfl (Or.inl ⟨k, hk, rfl, hp, hu, rfl, rfl⟩) hW dX1_move_67
            · have _ := 0
              have c32 : i < 10 := z_nle (by omega) (by omega) c32
              refine lv_iload_n hx hb dX1_move_35 rfl (lv_at hl 1 rfl) ?_
              refine lv_if_lt (tgt := 59) hx hb dX1_move_36 (by decide) (fun c36 => ?_) (fun c36 => ?_)
              · have _ := 0
                have hu : undF up (nI k) 10 x2 = false := by rw [hf, show 10 - i = (10 - (i + 1)) + 1 by omega]; exact und_neg c36
                refine lv_aload_n hx hb dX1_move_59 rfl (lv_at hl 2 rfl) ?_
                refine zg1_up hx hb hts hown hK hW dX1_move_60 ?_
                refine lv_iload_n hx hb dX1_move_63 rfl (lv_at hl 3 rfl) ?_
                refine lv_iload_n hx hb dX1_move_64 rfl (lv_at hl 4 rfl) ?_
                refine z_iast (v := x2) hx hb hK hW 1 2 rfl rfl k rfl (by omega) (by decide) rfl dX1_move_65 (fun H locs hW => ?_)
                have hW : zH D A s (wM h ad dN dZ (nI n) (upd up k x2) ow ma al le) H locs := hW
                refine lv_iconst (v := (nI 1)) hx hb dX1_move_66 (by decide) ?_
                exact hend _ (upd up k x2) _ _ _ _ rfl (Or.inl ⟨k, hk, rfl, hp, hu, rfl, rfl⟩) hW dX1_move_67
              · have _ := 0
                obtain ⟨j, hj, rfl⟩ : ∃ j, j < n ∧ d = nI j := hd.resolve_left (fun q => c36 (by rw [q]; decide))
                refine lv_iload_n hx hb dX1_move_39 rfl (lv_at hl 1 rfl) ?_
                refine lv_iload_n hx hb dX1_move_40 rfl (lv_at hl 3 rfl) ?_
                refine lv_icmp_ne (tgt := 46) hx hb dX1_move_41 (by decide) (fun c41 => ?_) (fun c41 => ?_)
                · have _ := 0
                  have c41 : j ≠ k := z_ne c41
                  refine lv_aload_n hx hb dX1_move_46 rfl (lv_at hl 2 rfl) ?_
                  refine zg1_up hx hb hts hown hK hW dX1_move_47 ?_
                  refine lv_iload_n hx hb dX1_move_50 rfl (lv_at hl 1 rfl) ?_
                  refine z_iald hx hb hK hW 1 2 rfl rfl j rfl (by omega) (by decide) dX1_move_51 ?_
                  refine lv_istore_n (lv' := [(3, .int (up j)), (4, .int (nI i)), (0, .ref h), (1, .int (nI k)), (2, .int x2)]) hx hb dX1_move_52 rfl hl (by decide) rfl (fun ls hl => ?_)
                  refine lv_iinc (v := (nI (i + 1))) (lv' := [(4, .int (nI (i + 1))), (3, .int (up j)), (0, .ref h), (1, .int (nI k)), (2, .int x2)]) hx hb dX1_move_53 hl (k := 1) rfl (z_inc _) (by decide) rfl (fun ls hl => ?_)
                  refine lv_goto (tgt := 28) hx hb dX1_move_56 (by decide) ?_
                  exact ih28 (i + 1) (up j) (by omega) (by omega) (hU j hj) (by rw [hf, show 10 - i = (10 - (i + 1)) + 1 by omega]; exact und_step (by omega) (fun q => c41 (z_eq (by omega) (by omega) q))) _ _ _ hW (lv_sub hl [0, 1, 2, 3, 4] rfl)
                · have _ := 0
                  have c41 : j = k := z_eq (by omega) (by omega) c41
                  refine lv_iconst (v := (nI 0)) hx hb dX1_move_44 (by decide) ?_
                  exact hend _ up _ _ _ _ rfl (Or.inr ⟨fun k1 a e1 pp => by rw [hf, show 10 - i = (10 - (i + 1)) + 1 by omega, c41]; exact und_hit (by omega), rfl, rfl⟩) hW dX1_move_45
        exact hloop28 11 0 x2 (by omega) (by omega) hp rfl _ _ _ hW (lv_sub hl [0, 1, 2, 3, 4] rfl)
      · have _ := 0
        refine lv_aload_n hx hb dX1_move_13 rfl (lv_at hl 0 rfl) ?_
        refine lv_iload_n hx hb dX1_move_14 rfl (lv_at hl 2 rfl) ?_
        refine zcallI (rest := []) hx hb hml hown hts hK clX1_1_is (mM_is l D h ad dB dS dN dZ n up ow ma al le x2 hn) ⟨Nat.le_of_ble_eq_true rfl, Nat.le_of_ble_eq_true rfl⟩ hW ⟨1, _, _, rfl, rfl, rfl⟩ rfl hl.1 rfl (Nat.le_of_ble_eq_true rfl) dX1_move_15 ⟨Nat.le_refl 0, Nat.le_refl 0⟩ (fun v u H locs hv hW => ?_)
        rcases hv with ⟨rfl, hp2⟩ | ⟨rfl, hc2⟩
        · have _ := 0
          refine lv_if_ne (tgt := 23) hx hb dX1_move_18 (by decide) (fun c18 => ?_) (fun c18 => ?_)
          · have _ := 0
            refine lv_iload_n hx hb dX1_move_23 rfl (lv_at hl 2 rfl) ?_
            refine lv_istore_n (lv' := [(3, .int x2), (0, .ref h), (1, .int (nI k)), (2, .int x2)]) hx hb dX1_move_24 rfl hl (by decide) rfl (fun ls hl => ?_)
            refine lv_iconst (v := (nI 0)) hx hb dX1_move_25 (by decide) ?_
            refine lv_istore (lv' := [(4, .int (nI 0)), (3, .int x2), (0, .ref h), (1, .int (nI k)), (2, .int x2)]) hx hb dX1_move_26 hl (by decide) rfl (fun ls hl => ?_)
            have hp : Par n x2 := Or.inr hp2
            have hloop28 : ∀ (N : Nat) (i : Nat) (d : Int32), 10 < i + N → (i ≤ 10) → (Par n d) → (undF up (nI k) 10 x2 = undF up (nI k) (10 - i) d) → ∀ (H : Heap) (locs : List Loc) (ls : Array Slot), zH D A s (wM h ad dN dZ (nI n) up ow ma al le) H locs → lv_has ls 5 [(4, .int (nI i)), (3, .int d), (0, .ref h), (1, .int (nI k)), (2, .int x2)] → W p l e (zR 1) s m args below meth c H locs 0 0 Q (F0 m 28 ls []) := by
              intro N
              induction N with
              | zero =>
                intro i  d  hM hi hd hf H locs ls hW hl
                exact absurd hM (by omega)
              | succ N ih28 =>
                intro i  d  hM hi hd hf H locs ls hW hl
                refine lv_iload hx hb dX1_move_28 (lv_at hl 0 rfl) ?_
                refine lv_bipush (v := (nI 10)) hx hb dX1_move_30 (by decide) ?_
                refine lv_icmp_ge (tgt := 59) hx hb dX1_move_32 (by decide) (fun c32 => ?_) (fun c32 => ?_)
                · have _ := 0
                  have c32 : 10 ≤ i := z_le (by omega) (by omega) c32
                  have hu : undF up (nI k) 10 x2 = false := by rw [hf, show 10 - i = 0 by omega]; rfl
                  refine lv_aload_n hx hb dX1_move_59 rfl (lv_at hl 2 rfl) ?_
                  refine zg1_up hx hb hts hown hK hW dX1_move_60 ?_
                  refine lv_iload_n hx hb dX1_move_63 rfl (lv_at hl 3 rfl) ?_
                  refine lv_iload_n hx hb dX1_move_64 rfl (lv_at hl 4 rfl) ?_
                  refine z_iast (v := x2) hx hb hK hW 1 2 rfl rfl k rfl (by omega) (by decide) rfl dX1_move_65 (fun H locs hW => ?_)
                  have hW : zH D A s (wM h ad dN dZ (nI n) (upd up k x2) ow ma al le) H locs := hW
                  refine lv_iconst (v := (nI 1)) hx hb dX1_move_66 (by decide) ?_
                  exact hend _ (upd up k x2) _ _ _ _ rfl (Or.inl ⟨k, hk, rfl, hp, hu, rfl, rfl⟩) hW dX1_move_67
                · have _ := 0
                  have c32 : i < 10 := z_nle (by omega) (by omega) c32
                  refine lv_iload_n hx hb dX1_move_35 rfl (lv_at hl 1 rfl) ?_
                  refine lv_if_lt (tgt := 59) hx hb dX1_move_36 (by decide) (fun c36 => ?_) (fun c36 => ?_)
                  · have _ := 0
                    have hu : undF up (nI k) 10 x2 = false := by rw [hf, show 10 - i = (10 - (i + 1)) + 1 by omega]; exact und_neg c36
                    refine lv_aload_n hx hb dX1_move_59 rfl (lv_at hl 2 rfl) ?_
                    refine zg1_up hx hb hts hown hK hW dX1_move_60 ?_
                    refine lv_iload_n hx hb dX1_move_63 rfl (lv_at hl 3 rfl) ?_
                    refine lv_iload_n hx hb dX1_move_64 rfl (lv_at hl 4 rfl) ?_
                    refine z_iast (v := x2) hx hb hK hW 1 2 rfl rfl k rfl (by omega) (by decide) rfl dX1_move_65 (fun H locs hW => ?_)
                    have hW : zH D A s (wM h ad dN dZ (nI n) (upd up k x2) ow ma al le) H locs := hW
                    refine lv_iconst (v := (nI 1)) hx hb dX1_move_66 (by decide) ?_
                    exact hend _ (upd up k x2) _ _ _ _ rfl (Or.inl ⟨k, hk, rfl, hp, hu, rfl, rfl⟩) hW dX1_move_67
                  · have _ := 0
                    obtain ⟨j, hj, rfl⟩ : ∃ j, j < n ∧ d = nI j := hd.resolve_left (fun q => c36 (by rw [q]; decide))
                    refine lv_iload_n hx hb dX1_move_39 rfl (lv_at hl 1 rfl) ?_
                    refine lv_iload_n hx hb dX1_move_40 rfl (lv_at hl 3 rfl) ?_
                    refine lv_icmp_ne (tgt := 46) hx hb dX1_move_41 (by decide) (fun c41 => ?_) (fun c41 => ?_)
                    · have _ := 0
                      have c41 : j ≠ k := z_ne c41
                      refine lv_aload_n hx hb dX1_move_46 rfl (lv_at hl 2 rfl) ?_
                      refine zg1_up hx hb hts hown hK hW dX1_move_47 ?_
                      refine lv_iload_n hx hb dX1_move_50 rfl (lv_at hl 1 rfl) ?_
                      refine z_iald hx hb hK hW 1 2 rfl rfl j rfl (by omega) (by decide) dX1_move_51 ?_
                      refine lv_istore_n (lv' := [(3, .int (up j)), (4, .int (nI i)), (0, .ref h), (1, .int (nI k)), (2, .int x2)]) hx hb dX1_move_52 rfl hl (by decide) rfl (fun ls hl => ?_)
                      refine lv_iinc (v := (nI (i + 1))) (lv' := [(4, .int (nI (i + 1))), (3, .int (up j)), (0, .ref h), (1, .int (nI k)), (2, .int x2)]) hx hb dX1_move_53 hl (k := 1) rfl (z_inc _) (by decide) rfl (fun ls hl => ?_)
                      refine lv_goto (tgt := 28) hx hb dX1_move_56 (by decide) ?_
                      exact ih28 (i + 1) (up j) (by omega) (by omega) (hU j hj) (by rw [hf, show 10 - i = (10 - (i + 1)) + 1 by omega]; exact und_step (by omega) (fun q => c41 (z_eq (by omega) (by omega) q))) _ _ _ hW (lv_sub hl [0, 1, 2, 3, 4] rfl)
                    · have _ := 0
                      have c41 : j = k := z_eq (by omega) (by omega) c41
                      refine lv_iconst (v := (nI 0)) hx hb dX1_move_44 (by decide) ?_
                      exact hend _ up _ _ _ _ rfl (Or.inr ⟨fun k1 a e1 pp => by rw [hf, show 10 - i = (10 - (i + 1)) + 1 by omega, c41]; exact und_hit (by omega), rfl, rfl⟩) hW dX1_move_45
            exact hloop28 11 0 x2 (by omega) (by omega) hp rfl _ _ _ hW (lv_sub hl [0, 1, 2, 3, 4] rfl)
          · have _ := 0
            exact absurd c18 (by decide)
        · have _ := 0
          refine lv_if_ne (tgt := 23) hx hb dX1_move_18 (by decide) (fun c18 => ?_) (fun c18 => ?_)
          · have _ := 0
            exact absurd c18 (by decide)
          · have _ := 0
            refine lv_iconst (v := (nI 0)) hx hb dX1_move_21 (by decide) ?_
            exact hend _ up _ _ _ _ rfl (Or.inr ⟨fun k1 a e1 pp => absurd pp (fun q => q.elim c10 (fun ⟨k2, a2, b2⟩ => hc2 k2 a2 b2)), rfl, rfl⟩) hW dX1_move_22
  · have _ := 0
    refine lv_if_eq (tgt := 21) hx hb dX1_move_5 (by decide) (fun c5 => ?_) (fun c5 => ?_)
    · have _ := 0
      refine lv_iconst (v := (nI 0)) hx hb dX1_move_21 (by decide) ?_
      exact hend _ up _ _ _ _ rfl (Or.inr ⟨fun k1 a e1 pp => absurd e1 (hc k1 a), rfl, rfl⟩) hW dX1_move_22
    · have _ := 0
      exact absurd c5 (by decide)
set_option maxHeartbeats 4000000 in
set_option maxRecDepth 100000 in
theorem mM_classes (l : Launch) (D : va_G) (h : Nat) (ad : Nat → Nat) (dB dS dN dZ : ClassId) (n : Nat) (up ow ma al le : Nat → Int32)   (hn : n ≤ 10) : zMI l D (zT dB dS dN dZ) yX1_classes cX1_classes 1 .int 0 [.ref h] (wM h ad dN dZ (nI n) up ow ma al le) (fun v (u : Unit) => v = nI n) (fun _ => wM h ad dN dZ (nI n) up ow ma al le) := by
  refine zStartI (by decide) (Nat.le_of_ble_eq_true rfl) ?_
  intro p e s m args below meth c A Q ls hx hb hml hown hts hK hend hW hl
  have hown : s.vm.findClass RX1 = some m.cls := hown
  have hl : lv_has ls 1 [(0, .ref h)] := hl
  refine lv_aload_n hx hb dX1_classes_0 rfl (lv_at hl 0 rfl) ?_
  refine zg1_cn hx hb hts hown hK hW dX1_classes_1 ?_
  exact hend _ () _ _ _ _ rfl rfl hW dX1_classes_4
set_option maxHeartbeats 4000000 in
set_option maxRecDepth 100000 in
theorem mM_parent (l : Launch) (D : va_G) (h : Nat) (ad : Nat → Nat) (dB dS dN dZ : ClassId) (n : Nat) (up ow ma al le : Nat → Int32)  (x1 : Int32) (hn : n ≤ 10) : zMI l D (zT dB dS dN dZ) yX1_parent cX1_parent 2 .int 1 [.ref h, .int x1] (wM h ad dN dZ (nI n) up ow ma al le) (fun v (u : Unit) => ParR n up x1 v) (fun _ => wM h ad dN dZ (nI n) up ow ma al le) := by
  refine zStartI (by decide) (Nat.le_of_ble_eq_true rfl) ?_
  intro p e s m args below meth c A Q ls hx hb hml hown hts hK hend hW hl
  have hown : s.vm.findClass RX1 = some m.cls := hown
  have hl : lv_has ls 2 [(0, .ref h), (1, .int x1)] := hl
  refine lv_aload_n hx hb dX1_parent_0 rfl (lv_at hl 0 rfl) ?_
  refine lv_iload_n hx hb dX1_parent_1 rfl (lv_at hl 1 rfl) ?_
  refine zcallI (rest := []) hx hb hml hown hts hK clX1_1_is (mM_is l D h ad dB dS dN dZ n up ow ma al le x1 hn) ⟨Nat.le_of_ble_eq_true rfl, Nat.le_of_ble_eq_true rfl⟩ hW ⟨1, _, _, rfl, rfl, rfl⟩ rfl hl.1 rfl (Nat.le_of_ble_eq_true rfl) dX1_parent_2 ⟨Nat.le_refl 0, Nat.le_refl 0⟩ (fun v u H locs hv hW => ?_)
  rcases hv with ⟨rfl, k, hk, rfl⟩ | ⟨rfl, hc⟩
  · have _ := 0
    refine lv_if_eq (tgt := 17) hx hb dX1_parent_5 (by decide) (fun c5 => ?_) (fun c5 => ?_)
    · have _ := 0
      exact absurd c5 (by decide)
    · have _ := 0
      refine lv_aload_n hx hb dX1_parent_8 rfl (lv_at hl 0 rfl) ?_
      refine zg1_up hx hb hts hown hK hW dX1_parent_9 ?_
      refine lv_iload_n hx hb dX1_parent_12 rfl (lv_at hl 1 rfl) ?_
      refine z_iald hx hb hK hW 1 2 rfl rfl k rfl (by omega) (by decide) dX1_parent_13 ?_
      refine lv_goto (tgt := 18) hx hb dX1_parent_14 (by decide) ?_
      exact hend _ () _ _ _ _ rfl (Or.inl ⟨k, hk, rfl, rfl⟩) hW dX1_parent_18
  · have _ := 0
    refine lv_if_eq (tgt := 17) hx hb dX1_parent_5 (by decide) (fun c5 => ?_) (fun c5 => ?_)
    · have _ := 0
      refine lv_iconst (v := (-1)) hx hb dX1_parent_17 (by decide) ?_
      exact hend _ () _ _ _ _ rfl (Or.inr ⟨hc, rfl⟩) hW dX1_parent_18
    · have _ := 0
      exact absurd c5 (by decide)
set_option maxHeartbeats 4000000 in
set_option maxRecDepth 100000 in
theorem mM_owner (l : Launch) (D : va_G) (h : Nat) (ad : Nat → Nat) (dB dS dN dZ : ClassId) (n : Nat) (up ow ma al le : Nat → Int32)  (x1 : Int32) (x2 : Int32) (hn : n ≤ 10) (hU : ∀ k, k < n → Par n (up k)) : zMI l D (zT dB dS dN dZ) yX1_owner cX1_owner 5 .int 1 [.ref h, .int x1, .int x2] (wM h ad dN dZ (nI n) up ow ma al le) (fun v (u : Unit) => OwnR n up ow x1 x2 v) (fun _ => wM h ad dN dZ (nI n) up ow ma al le) := by
  refine zStartI (by decide) (Nat.le_of_ble_eq_true rfl) ?_
  intro p e s m args below meth c A Q ls hx hb hml hown hts hK hend hW hl
  have hown : s.vm.findClass RX1 = some m.cls := hown
  have hl : lv_has ls 5 [(0, .ref h), (1, .int x1), (2, .int x2)] := hl
  refine lv_aload_n hx hb dX1_owner_0 rfl (lv_at hl 0 rfl) ?_
  refine lv_iload_n hx hb dX1_owner_1 rfl (lv_at hl 1 rfl) ?_
  refine zcallI (rest := []) hx hb hml hown hts hK clX1_1_is (mM_is l D h ad dB dS dN dZ n up ow ma al le x1 hn) ⟨Nat.le_of_ble_eq_true rfl, Nat.le_of_ble_eq_true rfl⟩ hW ⟨1, _, _, rfl, rfl, rfl⟩ rfl hl.1 rfl (Nat.le_of_ble_eq_true rfl) dX1_owner_2 ⟨Nat.le_refl 0, Nat.le_refl 0⟩ (fun v u H locs hv hW => ?_)
  rcases hv with ⟨rfl, k, hk, rfl⟩ | ⟨rfl, hc⟩
  · have _ := 0
    refine lv_if_eq (tgt := 18) hx hb dX1_owner_5 (by decide) (fun c5 => ?_) (fun c5 => ?_)
    · have _ := 0
      exact absurd c5 (by decide)
    · have _ := 0
      refine lv_iload_n hx hb dX1_owner_8 rfl (lv_at hl 2 rfl) ?_
      refine lv_if_lt (tgt := 18) hx hb dX1_owner_9 (by decide) (fun c9 => ?_) (fun c9 => ?_)
      · have _ := 0
        refine lv_iconst (v := (-1)) hx hb dX1_owner_18 (by decide) ?_
        exact hend _ () _ _ _ _ rfl (Or.inr ⟨fun k1 j1 ⟨a, b, e1, e2⟩ => zin_neg (n := 8) (by omega) c9 j1 b e2, rfl⟩) hW dX1_owner_19
      · have _ := 0
        refine lv_iload_n hx hb dX1_owner_12 rfl (lv_at hl 2 rfl) ?_
        refine lv_bipush (v := (nI 7)) hx hb dX1_owner_13 (by decide) ?_
        refine lv_icmp_le (tgt := 20) hx hb dX1_owner_15 (by decide) (fun c15 => ?_) (fun c15 => ?_)
        · have _ := 0
          obtain ⟨j, hj, rfl⟩ := zin_le' (b := 7) (by omega) c9 c15
          refine lv_iload_n hx hb dX1_owner_20 rfl (lv_at hl 1 rfl) ?_
          refine lv_istore_n (lv' := [(3, .int (nI k)), (0, .ref h), (1, .int (nI k)), (2, .int (nI j))]) hx hb dX1_owner_21 rfl hl (by decide) rfl (fun ls hl => ?_)
          refine lv_iconst (v := (nI 0)) hx hb dX1_owner_22 (by decide) ?_
          refine lv_istore (lv' := [(4, .int (nI 0)), (3, .int (nI k)), (0, .ref h), (1, .int (nI k)), (2, .int (nI j))]) hx hb dX1_owner_23 hl (by decide) rfl (fun ls hl => ?_)
          have hloop25 : ∀ (N : Nat) (i : Nat) (d : Int32), 10 < i + N → (i ≤ 10) → (Par n d) → (ownF up ow j 10 (nI k) = ownF up ow j (10 - i) d) → ∀ (H : Heap) (locs : List Loc) (ls : Array Slot), zH D A s (wM h ad dN dZ (nI n) up ow ma al le) H locs → lv_has ls 5 [(4, .int (nI i)), (3, .int d), (0, .ref h), (1, .int (nI k)), (2, .int (nI j))] → W p l e (zR 1) s m args below meth c H locs 0 0 Q (F0 m 25 ls []) := by
            intro N
            induction N with
            | zero =>
              intro i  d  hM hi hd hf H locs ls hW hl
              exact absurd hM (by omega)
            | succ N ih25 =>
              intro i  d  hM hi hd hf H locs ls hW hl
              refine lv_iload hx hb dX1_owner_25 (lv_at hl 0 rfl) ?_
              refine lv_bipush (v := (nI 10)) hx hb dX1_owner_27 (by decide) ?_
              refine lv_icmp_ge (tgt := 65) hx hb dX1_owner_29 (by decide) (fun c29 => ?_) (fun c29 => ?_)
              · have _ := 0
                have c29 : 10 ≤ i := z_le (by omega) (by omega) c29
                have hu : (-1 : Int32) = ownF up ow j 10 (nI k) := by rw [hf, show 10 - i = 0 by omega]; rfl
                refine lv_iconst (v := (-1)) hx hb dX1_owner_65 (by decide) ?_
                exact hend _ () _ _ _ _ rfl (Or.inl ⟨k, j, ⟨hk, hj, rfl, rfl⟩, hu⟩) hW dX1_owner_66
              · have _ := 0
                have c29 : i < 10 := z_nle (by omega) (by omega) c29
                refine lv_iload_n hx hb dX1_owner_32 rfl (lv_at hl 1 rfl) ?_
                refine lv_if_lt (tgt := 65) hx hb dX1_owner_33 (by decide) (fun c33 => ?_) (fun c33 => ?_)
                · have _ := 0
                  have hu : (-1 : Int32) = ownF up ow j 10 (nI k) := by rw [hf, show 10 - i = (10 - (i + 1)) + 1 by omega]; exact (own_neg c33).symm
                  refine lv_iconst (v := (-1)) hx hb dX1_owner_65 (by decide) ?_
                  exact hend _ () _ _ _ _ rfl (Or.inl ⟨k, j, ⟨hk, hj, rfl, rfl⟩, hu⟩) hW dX1_owner_66
                · have _ := 0
                  obtain ⟨jd, hjd, rfl⟩ : ∃ j, j < n ∧ d = nI j := hd.resolve_left (fun q => c33 (by rw [q]; decide))
                  refine lv_aload_n hx hb dX1_owner_36 rfl (lv_at hl 2 rfl) ?_
                  refine zg1_ow hx hb hts hown hK hW dX1_owner_37 ?_
                  refine lv_bipush (v := (nI 8)) hx hb dX1_owner_40 (by decide) ?_
                  refine lv_iload_n hx hb dX1_owner_42 rfl (lv_at hl 1 rfl) ?_
                  refine lv_imul hx hb dX1_owner_43 ?_
                  refine z_top (show ((nI 8) * (nI jd)) = (nI (8 * jd)) from pk_mul _ _) ?_
                  refine lv_iload_n hx hb dX1_owner_44 rfl (lv_at hl 4 rfl) ?_
                  refine lv_iadd hx hb dX1_owner_45 ?_
                  refine z_top (show ((nI (8 * jd)) + (nI j)) = (nI ((8 * jd) + j)) from nI_add _ _) ?_
                  refine z_iald hx hb hK hW 2 2 rfl rfl ((8 * jd) + j) rfl (by omega) (by decide) dX1_owner_46 ?_
                  refine lv_if_le (tgt := 52) hx hb dX1_owner_47 (by decide) (fun c47 => ?_) (fun c47 => ?_)
                  · have _ := 0
                    refine lv_aload_n hx hb dX1_owner_52 rfl (lv_at hl 2 rfl) ?_
                    refine zg1_up hx hb hts hown hK hW dX1_owner_53 ?_
                    refine lv_iload_n hx hb dX1_owner_56 rfl (lv_at hl 1 rfl) ?_
                    refine z_iald hx hb hK hW 1 2 rfl rfl jd rfl (by omega) (by decide) dX1_owner_57 ?_
                    refine lv_istore_n (lv' := [(3, .int (up jd)), (4, .int (nI i)), (0, .ref h), (1, .int (nI k)), (2, .int (nI j))]) hx hb dX1_owner_58 rfl hl (by decide) rfl (fun ls hl => ?_)
                    refine lv_iinc (v := (nI (i + 1))) (lv' := [(4, .int (nI (i + 1))), (3, .int (up jd)), (0, .ref h), (1, .int (nI k)), (2, .int (nI j))]) hx hb dX1_owner_59 hl (k := 1) rfl (z_inc _) (by decide) rfl (fun ls hl => ?_)
                    refine lv_goto (tgt := 25) hx hb dX1_owner_62 (by decide) ?_
                    exact ih25 (i + 1) (up jd) (by omega) (by omega) (hU jd hjd) (by rw [hf, show 10 - i = (10 - (i + 1)) + 1 by omega]; exact own_step (by omega) (z_npos c47)) _ _ _ hW (lv_sub hl [0, 1, 2, 3, 4] rfl)
                  · have _ := 0
                    have hu : nI jd = ownF up ow j 10 (nI k) := by rw [hf, show 10 - i = (10 - (i + 1)) + 1 by omega]; exact (own_hit (by omega) (z_pos c47)).symm
                    refine lv_iload_n hx hb dX1_owner_50 rfl (lv_at hl 1 rfl) ?_
                    exact hend _ () _ _ _ _ rfl (Or.inl ⟨k, j, ⟨hk, hj, rfl, rfl⟩, hu⟩) hW dX1_owner_51
          exact hloop25 11 0 (nI k) (by omega) (by omega) (Or.inr ⟨k, hk, rfl⟩) rfl _ _ _ hW (lv_sub hl [0, 1, 2, 3, 4] rfl)
        · have _ := 0
          refine lv_iconst (v := (-1)) hx hb dX1_owner_18 (by decide) ?_
          exact hend _ () _ _ _ _ rfl (Or.inr ⟨fun k1 j1 ⟨a, b, e1, e2⟩ => c15 (by rw [e2]; exact nI_le (by omega) (by omega)), rfl⟩) hW dX1_owner_19
  · have _ := 0
    refine lv_if_eq (tgt := 18) hx hb dX1_owner_5 (by decide) (fun c5 => ?_) (fun c5 => ?_)
    · have _ := 0
      refine lv_iconst (v := (-1)) hx hb dX1_owner_18 (by decide) ?_
      exact hend _ () _ _ _ _ rfl (Or.inr ⟨fun k1 j1 ⟨a, b, e1, e2⟩ => hc k1 a e1, rfl⟩) hW dX1_owner_19
    · have _ := 0
      exact absurd c5 (by decide)
end
section
set_option maxRecDepth 100000
def inB (n : Nat) (c : Int32) : Bool := !(decide (c < 0)) && !(decide (nI n ≤ c))
theorem inB_iff {n : Nat} {c : Int32} (hn : n < 2147483648) : inB n c = true ↔ ∃ k, k < n ∧ c = nI k := by
  constructor
  · intro h
    simp only [inB, Bool.and_eq_true, Bool.not_eq_true', decide_eq_false_iff_not] at h
    exact zin_in hn h.1 h.2
  · rintro ⟨k, hk, rfl⟩
    simp only [inB, Bool.and_eq_true, Bool.not_eq_true', decide_eq_false_iff_not]
    exact ⟨nI_pos (by omega), fun q => absurd (z_le (by omega) (by omega) q) (by omega)⟩
theorem inB_no {n : Nat} {c : Int32} (hn : n < 2147483648) (h : ∀ k, k < n → c ≠ nI k) : inB n c = false := by
  cases hb : inB n c with
  | false => rfl
  | true =>
    obtain ⟨k, a, b⟩ := (inB_iff hn).mp hb
    exact absurd b (h k a)
theorem ownF_par {n : Nat} {U d : Nat → Int32} {s : Nat} (hn : n ≤ 10) (hU : ∀ k, k < n → Par n (U k)) : ∀ (f : Nat) (e : Int32), Par n e → Par n (ownF U d s f e)
  | 0, e, _ => Or.inl rfl
  | f + 1, e, h => by
    rcases h with rfl | ⟨j, hj, rfl⟩
    · rw [own_neg (by decide)]; exact Or.inl rfl
    · by_cases hc : 0 < d (8 * j + s)
      · rw [own_hit (by omega) hc]; exact Or.inr ⟨j, hj, rfl⟩
      · rw [own_step (by omega) hc]; exact ownF_par hn hU f _ (hU j hj)
theorem own_cls {n : Nat} {U d : Nat → Int32} {j k : Nat} {v : Int32} (hU : ∀ k, k < n → Par n (U k)) (hk : k < n) (hv : v = ownF U d j 10 (nI k)) (h : 0 ≤ v) (hn : n ≤ 10 := by assumption) : ∃ x, x < n ∧ v = nI x := by
  have hp := ownF_par (d := d) (s := j) hn hU 10 (nI k) (Or.inr ⟨k, hk, rfl⟩)
  rw [← hv] at hp
  exact hp.resolve_left (fun q => absurd h (by rw [q]; decide))
theorem snd_in {U d : Nat → Int32} {j k jd : Nat} (hv : nI jd = ownF U d j 10 (nI k)) (hjd : jd < 2147483648) : d (8 * jd + j) = sndF U d j k := by
  unfold sndF
  rw [← hv, if_neg (nI_pos (by omega)), nI_clamp (by omega)]
theorem snd_out {U d : Nat → Int32} {j k : Nat} {v : Int32} (hv : v = ownF U d j 10 (nI k)) (h : ¬ 0 ≤ v) : nI 0 = sndF U d j k := by
  unfold sndF
  rw [← hv, if_pos (fa_of_nle h)]
theorem sup_of {n : Nat} {U d : Nat → Int32} {c s v1 v2 : Int32} (hn : n ≤ 10) (h1 : ParR n U c v1) (h2 : SndR n U d v1 s v2) : SupR n U d c s v2 := by
  rcases h1 with ⟨k, hk, e, rfl⟩ | ⟨hc, rfl⟩
  · exact Or.inl ⟨k, hk, e, h2⟩
  · refine Or.inr ⟨hc, ?_⟩
    rcases h2 with ⟨k, j, ⟨a, b, e1, e2⟩, -⟩ | ⟨-, e⟩
    · exact absurd e1.symm (by intro q; have := congrArg Int32.toInt q; rw [nI_toInt (by omega)] at this; have h3 : (-1 : Int32).toInt = -1 := rfl; omega)
    · exact e
def und_p (n : Nat) (U d : Nat → Int32) (x : Int32) (s : Nat) : Bool := inB n x && decide (0 ≤ ownF U d s 10 x)
theorem z_m1 : ¬ (0 : Int32) ≤ -1 := by decide
theorem und_t {n : Nat} {U d : Nat → Int32} {x v : Int32} {i : Nat} (hn : n ≤ 10) (hi : i < 8) (hv : OwnR n U d x (nI i) v) (h : ¬ v < 0) : und_p n U d x i = true := by
  rcases hv with ⟨k, j, ⟨hk, hj, rfl, e⟩, rfl⟩ | ⟨-, rfl⟩
  · obtain rfl := z_eq (by omega) (by omega) e
    unfold und_p
    rw [(inB_iff (by omega)).mpr ⟨k, hk, rfl⟩, decide_eq_true (fa_of_nlt h)]
    rfl
  · exact absurd (by decide) h
theorem und_f {n : Nat} {U d : Nat → Int32} {x v : Int32} {i : Nat} (hn : n ≤ 10) (hi : i < 8) (hv : OwnR n U d x (nI i) v) (h : v < 0) : und_p n U d x i = false := by
  rcases hv with ⟨k, j, ⟨hk, hj, rfl, e⟩, rfl⟩ | ⟨hc, rfl⟩
  · obtain rfl := z_eq (by omega) (by omega) e
    unfold und_p
    rw [decide_eq_false (fun q => (fa_of_lt h).2.1 q), Bool.and_false]
  · unfold und_p
    rw [inB_no (by omega) (fun k hk e => hc k i ⟨hk, hi, e, rfl⟩)]
    rfl
theorem mk_t {P : Nat → Bool} {i : Nat} (h : P i = true) : nI (mk P i ||| 2 ^ i) = nI (mk P (i + 1)) := by rw [mk, if_pos h]
theorem mk_f {P : Nat → Bool} {i : Nat} (h : P i = false) : nI (mk P i ||| 0) = nI (mk P (i + 1)) := by rw [mk, if_neg (by rw [h]; decide), Nat.or_zero]
theorem mk_f1 {P : Nat → Bool} {i : Nat} (h : P i = false) : nI (mk P (i + 1)) = nI (mk P i) := by rw [mk, if_neg (by rw [h]; decide)]
theorem mk_0 {P : Nat → Bool} : ∀ {m : Nat}, (∀ i, i < m → P i = false) → mk P m = 0
  | 0, _ => rfl
  | m + 1, h => by rw [mk, if_neg (by rw [h m (by omega)]; decide)]; exact mk_0 (fun i hi => h i (by omega))
theorem und_of {n : Nat} {U d : Nat → Int32} {x : Int32} (hn : n ≤ 10) : UndR n U d x (nI (mk (und_p n U d x) 8)) := by
  cases hb : inB n x with
  | true =>
    obtain ⟨k, hk, rfl⟩ := (inB_iff (by omega)).mp hb
    refine Or.inl ⟨k, hk, rfl, congrArg nI (mk_cong fun i _ => ?_)⟩
    unfold und_p
    rw [hb, Bool.true_and]
  | false =>
    refine Or.inr ⟨fun k hk e => ?_, congrArg nI (mk_0 fun i _ => ?_)⟩
    · rw [(inB_iff (by omega)).mpr ⟨k, hk, e⟩] at hb
      cases hb
    · unfold und_p
      rw [hb, Bool.false_and]
theorem und_in {n : Nat} {U d : Nat → Int32} {v : Int32} {i : Nat} (hn : n ≤ 10) (hi : i < n) (h : UndR n U d (nI i) v) : v = nI (Kf U d i) := by
  rcases h with ⟨k, hk, e, rfl⟩ | ⟨hc, -⟩
  · rw [z_eq (by omega) (by omega) e]
  · exact absurd rfl (hc i hi)
def hei_p (n : Nat) (U d : Nat → Int32) (x s : Int32) (i : Nat) : Bool := (inB n x && inB 8 s) && decide (ownF U d s.toNatClampNeg 10 (nI i) = x)
theorem hei_t {n : Nat} {U d : Nat → Int32} {x s v : Int32} {i k : Nat} (hn : n ≤ 10) (hi : i < n) (hv : OwnR n U d (nI i) s v) (hx : x = nI k) (hk : k < n) (h : v = x) : hei_p n U d x s i = true := by
  rcases hv with ⟨k1, j, ⟨hk1, hj, e, rfl⟩, rfl⟩ | ⟨-, rfl⟩
  · obtain rfl := z_eq (by omega) (by omega) e
    unfold hei_p
    rw [(inB_iff (by omega)).mpr ⟨k, hk, hx⟩, (inB_iff (by omega)).mpr ⟨j, hj, rfl⟩, nI_clamp (by omega), decide_eq_true h]
    rfl
  · exact absurd (h.trans hx) (by intro q; have := congrArg Int32.toInt q; rw [nI_toInt (by omega)] at this; have h3 : (-1 : Int32).toInt = -1 := rfl; omega)
theorem hei_f {n : Nat} {U d : Nat → Int32} {x s v : Int32} {i k : Nat} (hn : n ≤ 10) (hi : i < n) (hv : OwnR n U d (nI i) s v) (hx : x = nI k) (hk : k < n) (h : ¬ v = x) : hei_p n U d x s i = false := by
  rcases hv with ⟨k1, j, ⟨hk1, hj, e, rfl⟩, rfl⟩ | ⟨hc, rfl⟩
  · obtain rfl := z_eq (by omega) (by omega) e
    unfold hei_p
    rw [nI_clamp (by omega), decide_eq_false h, Bool.and_false]
  · unfold hei_p
    rw [inB_no (n := 8) (by omega) (fun j hj e => hc i j ⟨hi, hj, rfl, e⟩), Bool.and_false, Bool.false_and]
theorem hei_no {n : Nat} {U d : Nat → Int32} {x s : Int32} (hn : n ≤ 10) (hc : ∀ k, k < n → x ≠ nI k) (i : Nat) : HeiR n U d x s (nI (mk (hei_p n U d x s) i)) := by
  refine Or.inr ⟨fun k j q => hc k q.1 q.2.2.1, congrArg nI (mk_0 fun a _ => ?_)⟩
  unfold hei_p
  rw [inB_no (by omega) hc, Bool.false_and, Bool.false_and]
theorem hei_of {n : Nat} {U d : Nat → Int32} {x s : Int32} (hn : n ≤ 10) : HeiR n U d x s (nI (mk (hei_p n U d x s) n)) := by
  cases hb : inB n x && inB 8 s with
  | true =>
    have hb2 := hb
    rw [Bool.and_eq_true] at hb2
    obtain ⟨k, hk, rfl⟩ := (inB_iff (by omega)).mp hb2.1
    obtain ⟨j, hj, rfl⟩ := (inB_iff (by omega)).mp hb2.2
    refine Or.inl ⟨k, j, ⟨hk, hj, rfl, rfl⟩, congrArg nI (mk_cong fun i _ => ?_)⟩
    unfold hei_p
    rw [hb, Bool.true_and, nI_clamp (by omega)]
  | false =>
    refine Or.inr ⟨fun k j q => ?_, congrArg nI (mk_0 fun a _ => ?_)⟩
    · rw [(inB_iff (by omega)).mpr ⟨k, q.1, q.2.2.1⟩, (inB_iff (by omega)).mpr ⟨j, q.2.1, q.2.2.2⟩] at hb
      cases hb
    · unfold hei_p
      rw [hb, Bool.false_and]
set_option maxHeartbeats 4000000 in
set_option maxRecDepth 100000 in
theorem mM_send (l : Launch) (D : va_G) (h : Nat) (ad : Nat → Nat) (dB dS dN dZ : ClassId) (n : Nat) (up ow ma al le : Nat → Int32)  (x1 : Int32) (x2 : Int32) (hn : n ≤ 10) (hU : ∀ k, k < n → Par n (up k)) : zMI l D (zT dB dS dN dZ) yX1_send cX1_send 4 .int 2 [.ref h, .int x1, .int x2] (wM h ad dN dZ (nI n) up ow ma al le) (fun v (u : Unit) => SndR n up ow x1 x2 v) (fun _ => wM h ad dN dZ (nI n) up ow ma al le) := by
  refine zStartI (by decide) (Nat.le_of_ble_eq_true rfl) ?_
  intro p e s m args below meth c A Q ls hx hb hml hown hts hK hend hW hl
  have hown : s.vm.findClass RX1 = some m.cls := hown
  have hl : lv_has ls 4 [(0, .ref h), (1, .int x1), (2, .int x2)] := hl
  refine lv_aload_n hx hb dX1_send_0 rfl (lv_at hl 0 rfl) ?_
  refine lv_iload_n hx hb dX1_send_1 rfl (lv_at hl 1 rfl) ?_
  refine lv_iload_n hx hb dX1_send_2 rfl (lv_at hl 2 rfl) ?_
  refine zcallI (rest := []) hx hb hml hown hts hK clX1_1_owner (mM_owner l D h ad dB dS dN dZ n up ow ma al le x1 x2 hn hU) ⟨Nat.le_of_ble_eq_true rfl, Nat.le_of_ble_eq_true rfl⟩ hW ⟨1, _, _, rfl, rfl, rfl⟩ rfl hl.1 rfl (Nat.le_of_ble_eq_true rfl) dX1_send_3 ⟨Nat.le_refl 0, Nat.le_refl 0⟩ (fun v u H locs hv hW => ?_)
  rcases hv with ⟨k, j, ⟨hk, hj, rfl, rfl⟩, hv⟩ | ⟨hc, rfl⟩
  · have _ := 0
    refine lv_istore_n (lv' := [(3, .int v), (0, .ref h), (1, .int (nI k)), (2, .int (nI j))]) hx hb dX1_send_6 rfl hl (by decide) rfl (fun ls hl => ?_)
    refine lv_iload_n hx hb dX1_send_7 rfl (lv_at hl 0 rfl) ?_
    refine lv_if_ge (tgt := 15) hx hb dX1_send_8 (by decide) (fun c8 => ?_) (fun c8 => ?_)
    · have _ := 0
      obtain ⟨jd, hjd, rfl⟩ : ∃ j, j < n ∧ v = nI j := own_cls hU hk hv c8
      refine lv_aload_n hx hb dX1_send_15 rfl (lv_at hl 1 rfl) ?_
      refine zg1_ow hx hb hts hown hK hW dX1_send_16 ?_
      refine lv_bipush (v := (nI 8)) hx hb dX1_send_19 (by decide) ?_
      refine lv_iload_n hx hb dX1_send_21 rfl (lv_at hl 0 rfl) ?_
      refine lv_imul hx hb dX1_send_22 ?_
      refine z_top (show ((nI 8) * (nI jd)) = (nI (8 * jd)) from pk_mul _ _) ?_
      refine lv_iload_n hx hb dX1_send_23 rfl (lv_at hl 3 rfl) ?_
      refine lv_iadd hx hb dX1_send_24 ?_
      refine z_top (show ((nI (8 * jd)) + (nI j)) = (nI ((8 * jd) + j)) from nI_add _ _) ?_
      refine z_iald hx hb hK hW 2 2 rfl rfl ((8 * jd) + j) rfl (by omega) (by decide) dX1_send_25 ?_
      exact hend _ () _ _ _ _ rfl (Or.inl ⟨k, j, ⟨hk, hj, rfl, rfl⟩, snd_in hv (by omega)⟩) hW dX1_send_26
    · have _ := 0
      refine lv_iconst (v := (nI 0)) hx hb dX1_send_11 (by decide) ?_
      refine lv_goto (tgt := 26) hx hb dX1_send_12 (by decide) ?_
      exact hend _ () _ _ _ _ rfl (Or.inl ⟨k, j, ⟨hk, hj, rfl, rfl⟩, snd_out hv c8⟩) hW dX1_send_26
  · have _ := 0
    refine lv_istore_n (lv' := [(3, .int (-1)), (0, .ref h), (1, .int x1), (2, .int x2)]) hx hb dX1_send_6 rfl hl (by decide) rfl (fun ls hl => ?_)
    refine lv_iload_n hx hb dX1_send_7 rfl (lv_at hl 0 rfl) ?_
    refine lv_if_ge (tgt := 15) hx hb dX1_send_8 (by decide) (fun c8 => ?_) (fun c8 => ?_)
    · have _ := 0
      exact absurd c8 (by decide)
    · have _ := 0
      refine lv_iconst (v := (nI 0)) hx hb dX1_send_11 (by decide) ?_
      refine lv_goto (tgt := 26) hx hb dX1_send_12 (by decide) ?_
      exact hend _ () _ _ _ _ rfl (Or.inr ⟨hc, rfl⟩) hW dX1_send_26
set_option maxHeartbeats 4000000 in
set_option maxRecDepth 100000 in
theorem mM_sendSuper (l : Launch) (D : va_G) (h : Nat) (ad : Nat → Nat) (dB dS dN dZ : ClassId) (n : Nat) (up ow ma al le : Nat → Int32)  (x1 : Int32) (x2 : Int32) (hn : n ≤ 10) (hU : ∀ k, k < n → Par n (up k)) : zMI l D (zT dB dS dN dZ) yX1_sendSuper cX1_sendSuper 4 .int 3 [.ref h, .int x1, .int x2] (wM h ad dN dZ (nI n) up ow ma al le) (fun v (u : Unit) => SupR n up ow x1 x2 v) (fun _ => wM h ad dN dZ (nI n) up ow ma al le) := by
  refine zStartI (by decide) (Nat.le_of_ble_eq_true rfl) ?_
  intro p e s m args below meth c A Q ls hx hb hml hown hts hK hend hW hl
  have hown : s.vm.findClass RX1 = some m.cls := hown
  have hl : lv_has ls 4 [(0, .ref h), (1, .int x1), (2, .int x2)] := hl
  refine lv_aload_n hx hb dX1_sendSuper_0 rfl (lv_at hl 0 rfl) ?_
  refine lv_iload_n hx hb dX1_sendSuper_1 rfl (lv_at hl 1 rfl) ?_
  refine zcallI (rest := []) hx hb hml hown hts hK clX1_1_parent (mM_parent l D h ad dB dS dN dZ n up ow ma al le x1 hn) ⟨Nat.le_of_ble_eq_true rfl, Nat.le_of_ble_eq_true rfl⟩ hW ⟨1, _, _, rfl, rfl, rfl⟩ rfl hl.1 rfl (Nat.le_of_ble_eq_true rfl) dX1_sendSuper_2 ⟨Nat.le_refl 0, Nat.le_refl 0⟩ (fun v1 u H locs hv1 hW => ?_)
  refine lv_istore_n (lv' := [(3, .int v1), (0, .ref h), (1, .int x1), (2, .int x2)]) hx hb dX1_sendSuper_5 rfl hl (by decide) rfl (fun ls hl => ?_)
  refine lv_aload_n hx hb dX1_sendSuper_6 rfl (lv_at hl 1 rfl) ?_
  refine lv_iload_n hx hb dX1_sendSuper_7 rfl (lv_at hl 0 rfl) ?_
  refine lv_iload_n hx hb dX1_sendSuper_8 rfl (lv_at hl 3 rfl) ?_
  refine zcallI (rest := []) hx hb hml hown hts hK clX1_1_send (mM_send l D h ad dB dS dN dZ n up ow ma al le v1 x2 hn hU) ⟨Nat.le_of_ble_eq_true rfl, Nat.le_of_ble_eq_true rfl⟩ hW ⟨1, _, _, rfl, rfl, rfl⟩ rfl hl.1 rfl (Nat.le_of_ble_eq_true rfl) dX1_sendSuper_9 ⟨Nat.le_refl 0, Nat.le_refl 0⟩ (fun v2 u H locs hv2 hW => ?_)
  exact hend _ () _ _ _ _ rfl (sup_of hn hv1 hv2) hW dX1_sendSuper_12
set_option maxHeartbeats 4000000 in
set_option maxRecDepth 100000 in
theorem mM_understands (l : Launch) (D : va_G) (h : Nat) (ad : Nat → Nat) (dB dS dN dZ : ClassId) (n : Nat) (up ow ma al le : Nat → Int32)  (x1 : Int32) (hn : n ≤ 10) (hU : ∀ k, k < n → Par n (up k)) : zMI l D (zT dB dS dN dZ) yX1_understands cX1_understands 4 .int 2 [.ref h, .int x1] (wM h ad dN dZ (nI n) up ow ma al le) (fun v (u : Unit) => UndR n up ow x1 v) (fun _ => wM h ad dN dZ (nI n) up ow ma al le) := by
  refine zStartI (by decide) (Nat.le_of_ble_eq_true rfl) ?_
  intro p e s m args below meth c A Q ls hx hb hml hown hts hK hend hW hl
  have hown : s.vm.findClass RX1 = some m.cls := hown
  have hl : lv_has ls 4 [(0, .ref h), (1, .int x1)] := hl
  refine lv_iconst (v := (nI 0)) hx hb dX1_understands_0 (by decide) ?_
  refine lv_istore_n (lv' := [(2, .int (nI 0)), (0, .ref h), (1, .int x1)]) hx hb dX1_understands_1 rfl hl (by decide) rfl (fun ls hl => ?_)
  refine lv_iconst (v := (nI 0)) hx hb dX1_understands_2 (by decide) ?_
  refine lv_istore_n (lv' := [(3, .int (nI 0)), (2, .int (nI 0)), (0, .ref h), (1, .int x1)]) hx hb dX1_understands_3 rfl hl (by decide) rfl (fun ls hl => ?_)
  have hloop4 : ∀ (N : Nat) (i : Nat), 8 < i + N → (i ≤ 8) → ∀ (H : Heap) (locs : List Loc) (ls : Array Slot), zH D A s (wM h ad dN dZ (nI n) up ow ma al le) H locs → lv_has ls 4 [(3, .int (nI i)), (2, .int (nI (mk (und_p n up ow x1) i))), (0, .ref h), (1, .int x1)] → W p l e (zR 2) s m args below meth c H locs 0 0 Q (F0 m 4 ls []) := by
    intro N
    induction N with
    | zero =>
      intro i  hM hi H locs ls hW hl
      exact absurd hM (by omega)
    | succ N ih4 =>
      intro i  hM hi H locs ls hW hl
      refine lv_iload_n hx hb dX1_understands_4 rfl (lv_at hl 0 rfl) ?_
      refine lv_bipush (v := (nI 8)) hx hb dX1_understands_5 (by decide) ?_
      refine lv_icmp_ge (tgt := 35) hx hb dX1_understands_7 (by decide) (fun c7 => ?_) (fun c7 => ?_)
      · have _ := 0
        have c7 : 8 ≤ i := z_le (by omega) (by omega) c7
        refine lv_iload_n hx hb dX1_understands_35 rfl (lv_at hl 1 rfl) ?_
        obtain rfl : i = 8 := by omega
        exact hend _ () _ _ _ _ rfl (und_of hn) hW dX1_understands_36
      · have _ := 0
        have c7 : i < 8 := z_nle (by omega) (by omega) c7
        refine lv_iload_n hx hb dX1_understands_10 rfl (lv_at hl 1 rfl) ?_
        refine lv_aload_n hx hb dX1_understands_11 rfl (lv_at hl 2 rfl) ?_
        refine lv_iload_n hx hb dX1_understands_12 rfl (lv_at hl 3 rfl) ?_
        refine lv_iload_n hx hb dX1_understands_13 rfl (lv_at hl 0 rfl) ?_
        refine zcallI (rest := [.int (nI (mk (und_p n up ow x1) i))]) hx hb hml hown hts hK clX1_1_owner (mM_owner l D h ad dB dS dN dZ n up ow ma al le x1 (nI i) hn hU) ⟨Nat.le_of_ble_eq_true rfl, Nat.le_of_ble_eq_true rfl⟩ hW ⟨1, _, _, rfl, rfl, rfl⟩ rfl hl.1 rfl (Nat.le_of_ble_eq_true rfl) dX1_understands_14 ⟨Nat.le_refl 0, Nat.le_refl 0⟩ (fun v u H locs hv hW => ?_)
        refine lv_if_lt (tgt := 26) hx hb dX1_understands_17 (by decide) (fun c17 => ?_) (fun c17 => ?_)
        · have _ := 0
          have hb2 : und_p n up ow x1 i = false := und_f hn c7 hv c17
          refine lv_iconst (v := (nI 0)) hx hb dX1_understands_26 (by decide) ?_
          refine lv_ior hx hb dX1_understands_27 ?_
          refine z_top (show ((nI (mk (und_p n up ow x1) i)) ||| (nI 0)) = (nI ((mk (und_p n up ow x1) i) ||| 0)) from fa_or _ _) ?_
          refine z_top (show (nI ((mk (und_p n up ow x1) i) ||| 0)) = (nI (mk (und_p n up ow x1) (i + 1))) from mk_f hb2) ?_
          refine lv_istore_n (lv' := [(2, .int (nI (mk (und_p n up ow x1) (i + 1)))), (3, .int (nI i)), (0, .ref h), (1, .int x1)]) hx hb dX1_understands_28 rfl hl (by decide) rfl (fun ls hl => ?_)
          refine lv_iinc (v := (nI (i + 1))) (lv' := [(3, .int (nI (i + 1))), (2, .int (nI (mk (und_p n up ow x1) (i + 1)))), (0, .ref h), (1, .int x1)]) hx hb dX1_understands_29 hl (k := 1) rfl (z_inc _) (by decide) rfl (fun ls hl => ?_)
          refine lv_goto (tgt := 4) hx hb dX1_understands_32 (by decide) ?_
          exact ih4 (i + 1) (by omega) (by omega) _ _ _ hW (lv_sub hl [0, 1, 2, 3] rfl)
        · have _ := 0
          have hb2 : und_p n up ow x1 i = true := und_t hn c7 hv c17
          refine lv_iconst (v := (nI 1)) hx hb dX1_understands_20 (by decide) ?_
          refine lv_iload_n hx hb dX1_understands_21 rfl (lv_at hl 0 rfl) ?_
          refine lv_ishl hx hb dX1_understands_22 ?_
          refine z_top (show ((nI 1) <<< ((nI i) &&& 31)) = (nI (2 ^ i)) from z_shl1 (by omega)) ?_
          refine lv_goto (tgt := 27) hx hb dX1_understands_23 (by decide) ?_
          refine lv_ior hx hb dX1_understands_27 ?_
          refine z_top (show ((nI (mk (und_p n up ow x1) i)) ||| (nI (2 ^ i))) = (nI ((mk (und_p n up ow x1) i) ||| (2 ^ i))) from fa_or _ _) ?_
          refine z_top (show (nI ((mk (und_p n up ow x1) i) ||| (2 ^ i))) = (nI (mk (und_p n up ow x1) (i + 1))) from mk_t hb2) ?_
          refine lv_istore_n (lv' := [(2, .int (nI (mk (und_p n up ow x1) (i + 1)))), (3, .int (nI i)), (0, .ref h), (1, .int x1)]) hx hb dX1_understands_28 rfl hl (by decide) rfl (fun ls hl => ?_)
          refine lv_iinc (v := (nI (i + 1))) (lv' := [(3, .int (nI (i + 1))), (2, .int (nI (mk (und_p n up ow x1) (i + 1)))), (0, .ref h), (1, .int x1)]) hx hb dX1_understands_29 hl (k := 1) rfl (z_inc _) (by decide) rfl (fun ls hl => ?_)
          refine lv_goto (tgt := 4) hx hb dX1_understands_32 (by decide) ?_
          exact ih4 (i + 1) (by omega) (by omega) _ _ _ hW (lv_sub hl [0, 1, 2, 3] rfl)
  exact hloop4 9 0 (by omega) (by omega) _ _ _ hW (lv_sub hl [0, 1, 2, 3] rfl)
set_option maxHeartbeats 4000000 in
set_option maxRecDepth 100000 in
theorem mM_heirs (l : Launch) (D : va_G) (h : Nat) (ad : Nat → Nat) (dB dS dN dZ : ClassId) (n : Nat) (up ow ma al le : Nat → Int32)  (x1 : Int32) (x2 : Int32) (hn : n ≤ 10) (hU : ∀ k, k < n → Par n (up k)) : zMI l D (zT dB dS dN dZ) yX1_heirs cX1_heirs 5 .int 2 [.ref h, .int x1, .int x2] (wM h ad dN dZ (nI n) up ow ma al le) (fun v (u : Unit) => HeiR n up ow x1 x2 v) (fun _ => wM h ad dN dZ (nI n) up ow ma al le) := by
  refine zStartI (by decide) (Nat.le_of_ble_eq_true rfl) ?_
  intro p e s m args below meth c A Q ls hx hb hml hown hts hK hend hW hl
  have hown : s.vm.findClass RX1 = some m.cls := hown
  have hl : lv_has ls 5 [(0, .ref h), (1, .int x1), (2, .int x2)] := hl
  refine lv_iconst (v := (nI 0)) hx hb dX1_heirs_0 (by decide) ?_
  refine lv_istore_n (lv' := [(3, .int (nI 0)), (0, .ref h), (1, .int x1), (2, .int x2)]) hx hb dX1_heirs_1 rfl hl (by decide) rfl (fun ls hl => ?_)
  refine lv_iconst (v := (nI 0)) hx hb dX1_heirs_2 (by decide) ?_
  refine lv_istore (lv' := [(4, .int (nI 0)), (3, .int (nI 0)), (0, .ref h), (1, .int x1), (2, .int x2)]) hx hb dX1_heirs_3 hl (by decide) rfl (fun ls hl => ?_)
  have hloop5 : ∀ (N : Nat) (i : Nat), n < i + N → (i ≤ n) → ∀ (H : Heap) (locs : List Loc) (ls : Array Slot), zH D A s (wM h ad dN dZ (nI n) up ow ma al le) H locs → lv_has ls 5 [(4, .int (nI i)), (3, .int (nI (mk (hei_p n up ow x1 x2) i))), (0, .ref h), (1, .int x1), (2, .int x2)] → W p l e (zR 2) s m args below meth c H locs 0 0 Q (F0 m 5 ls []) := by
    intro N
    induction N with
    | zero =>
      intro i  hM hi H locs ls hW hl
      exact absurd hM (by omega)
    | succ N ih5 =>
      intro i  hM hi H locs ls hW hl
      refine lv_iload hx hb dX1_heirs_5 (lv_at hl 0 rfl) ?_
      refine lv_aload_n hx hb dX1_heirs_7 rfl (lv_at hl 2 rfl) ?_
      refine zg1_cn hx hb hts hown hK hW dX1_heirs_8 ?_
      refine lv_icmp_ge (tgt := 50) hx hb dX1_heirs_11 (by decide) (fun c11 => ?_) (fun c11 => ?_)
      · have _ := 0
        have c11 : n ≤ i := z_le (by omega) (by omega) c11
        refine lv_iload_n hx hb dX1_heirs_50 rfl (lv_at hl 1 rfl) ?_
        obtain rfl : n = i := by omega
        exact hend _ () _ _ _ _ rfl (hei_of hn) hW dX1_heirs_51
      · have _ := 0
        have c11 : i < n := z_nle (by omega) (by omega) c11
        refine lv_aload_n hx hb dX1_heirs_14 rfl (lv_at hl 2 rfl) ?_
        refine lv_iload_n hx hb dX1_heirs_15 rfl (lv_at hl 3 rfl) ?_
        refine zcallI (rest := []) hx hb hml hown hts hK clX1_1_is (mM_is l D h ad dB dS dN dZ n up ow ma al le x1 hn) ⟨Nat.le_of_ble_eq_true rfl, Nat.le_of_ble_eq_true rfl⟩ hW ⟨1, _, _, rfl, rfl, rfl⟩ rfl hl.1 rfl (Nat.le_of_ble_eq_true rfl) dX1_heirs_16 ⟨Nat.le_refl 0, Nat.le_refl 0⟩ (fun v u H locs hv hW => ?_)
        rcases hv with ⟨rfl, k, hk, hxk⟩ | ⟨rfl, hc⟩
        · have _ := 0
          refine lv_if_eq (tgt := 50) hx hb dX1_heirs_19 (by decide) (fun c19 => ?_) (fun c19 => ?_)
          · have _ := 0
            exact absurd c19 (by decide)
          · have _ := 0
            refine lv_iload_n hx hb dX1_heirs_22 rfl (lv_at hl 1 rfl) ?_
            refine lv_aload_n hx hb dX1_heirs_23 rfl (lv_at hl 2 rfl) ?_
            refine lv_iload hx hb dX1_heirs_24 (lv_at hl 0 rfl) ?_
            refine lv_iload_n hx hb dX1_heirs_26 rfl (lv_at hl 4 rfl) ?_
            refine zcallI (rest := [.int (nI (mk (hei_p n up ow x1 x2) i))]) hx hb hml hown hts hK clX1_1_owner (mM_owner l D h ad dB dS dN dZ n up ow ma al le (nI i) x2 hn hU) ⟨Nat.le_of_ble_eq_true rfl, Nat.le_of_ble_eq_true rfl⟩ hW ⟨1, _, _, rfl, rfl, rfl⟩ rfl hl.1 rfl (Nat.le_of_ble_eq_true rfl) dX1_heirs_27 ⟨Nat.le_refl 0, Nat.le_refl 0⟩ (fun v u H locs hv hW => ?_)
            refine lv_iload_n hx hb dX1_heirs_30 rfl (lv_at hl 3 rfl) ?_
            refine lv_icmp_ne (tgt := 41) hx hb dX1_heirs_31 (by decide) (fun c31 => ?_) (fun c31 => ?_)
            · have _ := 0
              have hb2 : hei_p n up ow x1 x2 i = false := hei_f hn c11 hv hxk hk c31
              refine lv_iconst (v := (nI 0)) hx hb dX1_heirs_41 (by decide) ?_
              refine lv_ior hx hb dX1_heirs_42 ?_
              refine z_top (show ((nI (mk (hei_p n up ow x1 x2) i)) ||| (nI 0)) = (nI ((mk (hei_p n up ow x1 x2) i) ||| 0)) from fa_or _ _) ?_
              refine z_top (show (nI ((mk (hei_p n up ow x1 x2) i) ||| 0)) = (nI (mk (hei_p n up ow x1 x2) (i + 1))) from mk_f hb2) ?_
              refine lv_istore_n (lv' := [(3, .int (nI (mk (hei_p n up ow x1 x2) (i + 1)))), (4, .int (nI i)), (0, .ref h), (1, .int x1), (2, .int x2)]) hx hb dX1_heirs_43 rfl hl (by decide) rfl (fun ls hl => ?_)
              refine lv_iinc (v := (nI (i + 1))) (lv' := [(4, .int (nI (i + 1))), (3, .int (nI (mk (hei_p n up ow x1 x2) (i + 1)))), (0, .ref h), (1, .int x1), (2, .int x2)]) hx hb dX1_heirs_44 hl (k := 1) rfl (z_inc _) (by decide) rfl (fun ls hl => ?_)
              refine lv_goto (tgt := 5) hx hb dX1_heirs_47 (by decide) ?_
              exact ih5 (i + 1) (by omega) (by omega) _ _ _ hW (lv_sub hl [0, 1, 2, 3, 4] rfl)
            · have _ := 0
              have hb2 : hei_p n up ow x1 x2 i = true := hei_t hn c11 hv hxk hk c31
              refine lv_iconst (v := (nI 1)) hx hb dX1_heirs_34 (by decide) ?_
              refine lv_iload hx hb dX1_heirs_35 (lv_at hl 0 rfl) ?_
              refine lv_ishl hx hb dX1_heirs_37 ?_
              refine z_top (show ((nI 1) <<< ((nI i) &&& 31)) = (nI (2 ^ i)) from z_shl1 (by omega)) ?_
              refine lv_goto (tgt := 42) hx hb dX1_heirs_38 (by decide) ?_
              refine lv_ior hx hb dX1_heirs_42 ?_
              refine z_top (show ((nI (mk (hei_p n up ow x1 x2) i)) ||| (nI (2 ^ i))) = (nI ((mk (hei_p n up ow x1 x2) i) ||| (2 ^ i))) from fa_or _ _) ?_
              refine z_top (show (nI ((mk (hei_p n up ow x1 x2) i) ||| (2 ^ i))) = (nI (mk (hei_p n up ow x1 x2) (i + 1))) from mk_t hb2) ?_
              refine lv_istore_n (lv' := [(3, .int (nI (mk (hei_p n up ow x1 x2) (i + 1)))), (4, .int (nI i)), (0, .ref h), (1, .int x1), (2, .int x2)]) hx hb dX1_heirs_43 rfl hl (by decide) rfl (fun ls hl => ?_)
              refine lv_iinc (v := (nI (i + 1))) (lv' := [(4, .int (nI (i + 1))), (3, .int (nI (mk (hei_p n up ow x1 x2) (i + 1)))), (0, .ref h), (1, .int x1), (2, .int x2)]) hx hb dX1_heirs_44 hl (k := 1) rfl (z_inc _) (by decide) rfl (fun ls hl => ?_)
              refine lv_goto (tgt := 5) hx hb dX1_heirs_47 (by decide) ?_
              exact ih5 (i + 1) (by omega) (by omega) _ _ _ hW (lv_sub hl [0, 1, 2, 3, 4] rfl)
        · have _ := 0
          refine lv_if_eq (tgt := 50) hx hb dX1_heirs_19 (by decide) (fun c19 => ?_) (fun c19 => ?_)
          · have _ := 0
            refine lv_iload_n hx hb dX1_heirs_50 rfl (lv_at hl 1 rfl) ?_
            exact hend _ () _ _ _ _ rfl (hei_no hn hc i) hW dX1_heirs_51
          · have _ := 0
            exact absurd c19 (by decide)
  exact hloop5 (n + 1) 0 (by omega) (by omega) _ _ _ hW (lv_sub hl [0, 1, 2, 3, 4] rfl)
set_option maxHeartbeats 4000000 in
set_option maxRecDepth 100000 in
theorem mM_with (l : Launch) (D : va_G) (h : Nat) (ad : Nat → Nat) (dB dS dN dZ : ClassId) (n : Nat) (up ow ma al le : Nat → Int32) (j : Nat)  (hn : n ≤ 10) (hU : ∀ k, k < n → Par n (up k)) (hj : j < 8) : zMI l D (zT dB dS dN dZ) yX1_with cX1_with 5 .int 3 [.ref h, .int (nI j)] (wM h ad dN dZ (nI n) up ow ma al le) (fun v (u : Unit) => v = nI (Mf up ow j n)) (fun _ => wM h ad dN dZ (nI n) up ow ma al le) := by
  refine zStartI (by decide) (Nat.le_of_ble_eq_true rfl) ?_
  intro p e s m args below meth c A Q ls hx hb hml hown hts hK hend hW hl
  have hown : s.vm.findClass RX1 = some m.cls := hown
  have hl : lv_has ls 5 [(0, .ref h), (1, .int (nI j))] := hl
  refine lv_iconst (v := (nI 0)) hx hb dX1_with_0 (by decide) ?_
  refine lv_istore_n (lv' := [(2, .int (nI 0)), (0, .ref h), (1, .int (nI j))]) hx hb dX1_with_1 rfl hl (by decide) rfl (fun ls hl => ?_)
  refine lv_iconst (v := (nI 0)) hx hb dX1_with_2 (by decide) ?_
  refine lv_istore_n (lv' := [(3, .int (nI 0)), (2, .int (nI 0)), (0, .ref h), (1, .int (nI j))]) hx hb dX1_with_3 rfl hl (by decide) rfl (fun ls hl => ?_)
  have hloop4 : ∀ (N : Nat) (i : Nat), n < i + N → (i ≤ n) → ∀ (H : Heap) (locs : List Loc) (ls : Array Slot), zH D A s (wM h ad dN dZ (nI n) up ow ma al le) H locs → lv_has ls 5 [(3, .int (nI i)), (2, .int (nI (Mf up ow j i))), (0, .ref h), (1, .int (nI j))] → W p l e (zR 3) s m args below meth c H locs 0 0 Q (F0 m 4 ls []) := by
    intro N
    induction N with
    | zero =>
      intro i  hM hi H locs ls hW hl
      exact absurd hM (by omega)
    | succ N ih4 =>
      intro i  hM hi H locs ls hW hl
      refine lv_iload_n hx hb dX1_with_4 rfl (lv_at hl 0 rfl) ?_
      refine lv_aload_n hx hb dX1_with_5 rfl (lv_at hl 2 rfl) ?_
      refine zg1_cn hx hb hts hown hK hW dX1_with_6 ?_
      refine lv_icmp_ge (tgt := 44) hx hb dX1_with_9 (by decide) (fun c9 => ?_) (fun c9 => ?_)
      · have _ := 0
        have c9 : n ≤ i := z_le (by omega) (by omega) c9
        refine lv_iload_n hx hb dX1_with_44 rfl (lv_at hl 1 rfl) ?_
        obtain rfl : n = i := by omega
        exact hend _ () _ _ _ _ rfl rfl hW dX1_with_45
      · have _ := 0
        have c9 : i < n := z_nle (by omega) (by omega) c9
        refine lv_aload_n hx hb dX1_with_12 rfl (lv_at hl 2 rfl) ?_
        refine lv_iload_n hx hb dX1_with_13 rfl (lv_at hl 0 rfl) ?_
        refine zcallI (rest := []) hx hb hml hown hts hK clX1_1_understands (mM_understands l D h ad dB dS dN dZ n up ow ma al le (nI i) hn hU) ⟨Nat.le_of_ble_eq_true rfl, Nat.le_of_ble_eq_true rfl⟩ hW ⟨1, _, _, rfl, rfl, rfl⟩ rfl hl.1 rfl (Nat.le_of_ble_eq_true rfl) dX1_with_14 ⟨Nat.le_refl 0, Nat.le_refl 0⟩ (fun v u H locs hv hW => ?_)
        obtain rfl := und_in hn c9 hv
        refine lv_istore (lv' := [(4, .int (nI (Kf up ow i))), (3, .int (nI i)), (2, .int (nI (Mf up ow j i))), (0, .ref h), (1, .int (nI j))]) hx hb dX1_with_17 hl (by decide) rfl (fun ls hl => ?_)
        refine lv_iload hx hb dX1_with_19 (lv_at hl 0 rfl) ?_
        refine lv_iload_n hx hb dX1_with_21 rfl (lv_at hl 4 rfl) ?_
        refine lv_ishr hx hb dX1_with_22 ?_
        refine lv_iconst (v := (nI 1)) hx hb dX1_with_23 (by decide) ?_
        refine lv_iand hx hb dX1_with_24 ?_
        refine z_top (show (((nI (Kf up ow i)) >>> ((nI j) &&& 31)) &&& (nI 1)) = (nI ((Kf up ow i).testBit j).toNat) from z_bit (by have := Kf_lt up ow i; omega) (by omega)) ?_
        refine lv_iconst (v := (nI 1)) hx hb dX1_with_25 (by decide) ?_
        refine lv_icmp_ne (tgt := 36) hx hb dX1_with_26 (by decide) (fun c26 => ?_) (fun c26 => ?_)
        · have _ := 0
          have c26 : ((Kf up ow i).testBit j) = false := z_bn1 c26
          refine lv_iload_n hx hb dX1_with_36 rfl (lv_at hl 2 rfl) ?_
          refine z_top (show (nI (Mf up ow j i)) = (nI (Mf up ow j (i + 1))) from (by rw [Mf, if_neg (by rw [c26]; decide)])) ?_
          refine lv_istore_n (lv' := [(2, .int (nI (Mf up ow j (i + 1)))), (4, .int (nI (Kf up ow i))), (3, .int (nI i)), (0, .ref h), (1, .int (nI j))]) hx hb dX1_with_37 rfl hl (by decide) rfl (fun ls hl => ?_)
          refine lv_iinc (v := (nI (i + 1))) (lv' := [(3, .int (nI (i + 1))), (2, .int (nI (Mf up ow j (i + 1)))), (4, .int (nI (Kf up ow i))), (0, .ref h), (1, .int (nI j))]) hx hb dX1_with_38 hl (k := 2) rfl (z_inc _) (by decide) rfl (fun ls hl => ?_)
          refine lv_goto (tgt := 4) hx hb dX1_with_41 (by decide) ?_
          exact ih4 (i + 1) (by omega) (by omega) _ _ _ hW (lv_sub hl [0, 1, 3, 4] rfl)
        · have _ := 0
          have c26 : ((Kf up ow i).testBit j) = true := z_be1 c26
          refine lv_iload_n hx hb dX1_with_29 rfl (lv_at hl 2 rfl) ?_
          refine lv_iload hx hb dX1_with_30 (lv_at hl 0 rfl) ?_
          refine lv_ior hx hb dX1_with_32 ?_
          refine z_top (show ((nI (Mf up ow j i)) ||| (nI (Kf up ow i))) = (nI ((Mf up ow j i) ||| (Kf up ow i))) from fa_or _ _) ?_
          refine lv_goto (tgt := 37) hx hb dX1_with_33 (by decide) ?_
          refine z_top (show (nI ((Mf up ow j i) ||| (Kf up ow i))) = (nI (Mf up ow j (i + 1))) from (by rw [Mf, if_pos c26])) ?_
          refine lv_istore_n (lv' := [(2, .int (nI (Mf up ow j (i + 1)))), (4, .int (nI (Kf up ow i))), (3, .int (nI i)), (0, .ref h), (1, .int (nI j))]) hx hb dX1_with_37 rfl hl (by decide) rfl (fun ls hl => ?_)
          refine lv_iinc (v := (nI (i + 1))) (lv' := [(3, .int (nI (i + 1))), (2, .int (nI (Mf up ow j (i + 1)))), (4, .int (nI (Kf up ow i))), (0, .ref h), (1, .int (nI j))]) hx hb dX1_with_38 hl (k := 2) rfl (z_inc _) (by decide) rfl (fun ls hl => ?_)
          refine lv_goto (tgt := 4) hx hb dX1_with_41 (by decide) ?_
          exact ih4 (i + 1) (by omega) (by omega) _ _ _ hW (lv_sub hl [0, 1, 3, 4] rfl)
  exact hloop4 (n + 1) 0 (by omega) (by omega) _ _ _ hW (lv_sub hl [0, 1, 2, 3] rfl)
set_option maxHeartbeats 4000000 in
set_option maxRecDepth 100000 in
theorem mM_apart (l : Launch) (D : va_G) (h : Nat) (ad : Nat → Nat) (dB dS dN dZ : ClassId) (n : Nat) (up ow ma al le : Nat → Int32)  (x1 : Int32) (hn : n ≤ 10) (hU : ∀ k, k < n → Par n (up k)) : zMI l D (zT dB dS dN dZ) yX1_apart cX1_apart 2 .int 4 [.ref h, .int x1] (wM h ad dN dZ (nI n) up ow ma al le) (fun v (u : Unit) => ApaR n up ow x1 v) (fun _ => wM h ad dN dZ (nI n) up ow ma al le) := by
  refine zStartI (by decide) (Nat.le_of_ble_eq_true rfl) ?_
  intro p e s m args below meth c A Q ls hx hb hml hown hts hK hend hW hl
  have hown : s.vm.findClass RX1 = some m.cls := hown
  have hl : lv_has ls 2 [(0, .ref h), (1, .int x1)] := hl
  refine lv_iload_n hx hb dX1_apart_0 rfl (lv_at hl 1 rfl) ?_
  refine lv_if_lt (tgt := 10) hx hb dX1_apart_1 (by decide) (fun c1 => ?_) (fun c1 => ?_)
  · have _ := 0
    refine lv_iconst (v := (nI 0)) hx hb dX1_apart_10 (by decide) ?_
    refine lv_goto (tgt := 31) hx hb dX1_apart_11 (by decide) ?_
    exact hend _ () _ _ _ _ rfl (Or.inr ⟨zin_neg (by omega) c1, rfl⟩) hW dX1_apart_31
  · have _ := 0
    refine lv_iload_n hx hb dX1_apart_4 rfl (lv_at hl 1 rfl) ?_
    refine lv_bipush (v := (nI 7)) hx hb dX1_apart_5 (by decide) ?_
    refine lv_icmp_le (tgt := 14) hx hb dX1_apart_7 (by decide) (fun c7 => ?_) (fun c7 => ?_)
    · have _ := 0
      obtain ⟨j, hj, rfl⟩ := zin_le' (b := 7) (by omega) c1 c7
      refine lv_sipush (v := (nI 255)) hx hb dX1_apart_14 (by decide) ?_
      refine lv_aload_n hx hb dX1_apart_17 rfl (lv_at hl 0 rfl) ?_
      refine lv_iload_n hx hb dX1_apart_18 rfl (lv_at hl 1 rfl) ?_
      refine zcallI (rest := [.int (nI 255)]) hx hb hml hown hts hK clX1_1_with (mM_with l D h ad dB dS dN dZ n up ow ma al le j hn hU hj) ⟨Nat.le_of_ble_eq_true rfl, Nat.le_of_ble_eq_true rfl⟩ hW ⟨1, _, _, rfl, rfl, rfl⟩ rfl hl.1 rfl (Nat.le_of_ble_eq_true rfl) dX1_apart_19 ⟨Nat.le_refl 0, Nat.le_refl 0⟩ (fun v u H locs hv hW => ?_)
      subst hv
      refine lv_iconst (v := (-1)) hx hb dX1_apart_22 (by decide) ?_
      refine lv_ixor hx hb dX1_apart_23 ?_
      refine lv_iand hx hb dX1_apart_24 ?_
      refine lv_iconst (v := (nI 1)) hx hb dX1_apart_25 (by decide) ?_
      refine lv_iload_n hx hb dX1_apart_26 rfl (lv_at hl 1 rfl) ?_
      refine lv_ishl hx hb dX1_apart_27 ?_
      refine z_top (show ((nI 1) <<< ((nI j) &&& 31)) = (nI (2 ^ j)) from z_shl1 (by omega)) ?_
      refine lv_iconst (v := (-1)) hx hb dX1_apart_28 (by decide) ?_
      refine lv_ixor hx hb dX1_apart_29 ?_
      refine lv_iand hx hb dX1_apart_30 ?_
      exact hend _ () _ _ _ _ rfl (Or.inl ⟨j, hj, rfl, rfl⟩) hW dX1_apart_31
    · have _ := 0
      refine lv_iconst (v := (nI 0)) hx hb dX1_apart_10 (by decide) ?_
      refine lv_goto (tgt := 31) hx hb dX1_apart_11 (by decide) ?_
      exact hend _ () _ _ _ _ rfl (Or.inr ⟨zin_gt (b := 7) (by omega) (by omega) (fa_of_nle c7), rfl⟩) hW dX1_apart_31
end
section
set_option maxRecDepth 100000
theorem upd_at {f : Nat → Int32} {k : Nat} {v : Int32} : upd f k v k = v := pk_us
theorem upd_ne {f : Nat → Int32} {k b : Nat} {v : Int32} {P : Nat → Int32} (h : ∀ s, s < b → s ≠ k → f s = P s) : ∀ s, s < b → s ≠ k → upd f k v s = P s := fun s hs hk => by rw [pk_un hk]; exact h s hs hk
theorem upd_ind {f P : Nat → Int32} {i : Nat} (h : ∀ s, s < i → f s = P s) : ∀ s, s < i + 1 → upd f i (P i) s = P s := by
  intro s hs
  by_cases e : s = i
  · subst e; exact pk_us
  · rw [pk_un e]; exact h s (by omega)
theorem upd_indv {f P : Nat → Int32} {i : Nat} {v : Int32} (h : ∀ s, s < i → f s = P s) (hv : v = P i) : ∀ s, s < i + 1 → upd f i v s = P s := by
  subst hv
  exact upd_ind h
theorem z_bits {a b : Nat} (ha : a < 256) (hb : b < 256) : (nI a &&& (nI b ^^^ (-1))) = nI (a &&& (a ^^^ b)) := by
  apply Int32.toBitVec_inj.1
  show BitVec.ofNat 32 a &&& (BitVec.ofNat 32 b ^^^ (-1 : Int32).toBitVec) = BitVec.ofNat 32 (a &&& (a ^^^ b))
  apply BitVec.eq_of_getLsbD_eq
  intro i hi
  have hm : (-1 : Int32).toBitVec.getLsbD i = true := by
    have h0 : ∀ j : Fin 32, (-1 : Int32).toBitVec.getLsbD j.val = true := by decide +kernel
    exact h0 ⟨i, hi⟩
  rw [BitVec.getLsbD_and, BitVec.getLsbD_xor, hm, BitVec.getLsbD_ofNat, BitVec.getLsbD_ofNat, BitVec.getLsbD_ofNat, decide_eq_true hi, Nat.testBit_and, Nat.testBit_xor]
  cases a.testBit i <;> cases b.testBit i <;> rfl
theorem z_and_xor (a b : Nat) : a &&& (a ^^^ b) = a ^^^ (a &&& b) := by
  apply Nat.eq_of_testBit_eq
  intro i
  simp only [Nat.testBit_and, Nat.testBit_xor]
  cases a.testBit i <;> cases b.testBit i <;> rfl
theorem z_subset {a b : Nat} (ha : a < 256) (hb : b < 256) : (nI a &&& (nI b ^^^ (-1))) = 0 ↔ a &&& b = a := by
  rw [z_bits ha hb, z_and_xor]
  have h3 : a ^^^ (a &&& b) < 256 := Nat.xor_lt_two_pow (n := 8) ha (Nat.lt_of_le_of_lt Nat.and_le_left ha)
  constructor
  · intro h
    have h2 := z_eq0 (by omega) h
    have h4 : a ^^^ (a ^^^ (a &&& b)) = a := by rw [h2, Nat.xor_zero]
    rw [← Nat.xor_assoc, Nat.xor_self, Nat.zero_xor] at h4
    exact h4
  · intro h
    rw [h, Nat.xor_self]
    exact nI_0
theorem z_diff {a b : Nat} (ha : a < 256) (h : b &&& a = b) : (nI a &&& (nI b ^^^ (-1))) = nI (a ^^^ b) := by
  have hb : b < 256 := by rw [← h]; exact Nat.lt_of_le_of_lt Nat.and_le_right ha
  rw [z_bits ha hb, z_and_xor, Nat.and_comm a b, h]
theorem xor_lt {t q : Nat} (h : q &&& t = q) (hq : 0 < q) : t ^^^ q < t := by
  have e : (t ^^^ q) &&& t = t ^^^ q := by
    apply Nat.eq_of_testBit_eq
    intro i
    have h2 := congrArg (fun z => z.testBit i) h
    simp only [Nat.testBit_and] at h2
    simp only [Nat.testBit_and, Nat.testBit_xor]
    revert h2
    cases t.testBit i <;> cases q.testBit i <;> simp
  have h1 : t ^^^ q ≤ t := by rw [← e]; exact Nat.and_le_right
  rcases Nat.lt_or_ge (t ^^^ q) t with y | y
  · exact y
  · have h3 : t ^^^ q = t := by omega
    have h4 : t ^^^ (t ^^^ q) = 0 := by rw [h3, Nat.xor_self]
    rw [← Nat.xor_assoc, Nat.xor_self, Nat.zero_xor] at h4
    omega
theorem gF_at (M : Nat → Nat) (used : Nat) : ∀ {t x : Nat}, t ≤ x → 0 < x → gF M used t x = 8
  | 0, x, _, h => by unfold gF; rw [if_neg (by omega)]
  | t + 1, x, h, h0 => by
    have ih := gF_at M used (show t ≤ x by omega) h0
    unfold gF
    split
    · unfold fup
      rw [if_neg (by omega)]
      exact ih
    · exact ih
theorem gF_done {M : Nat → Nat} {used t : Nat} {f : Nat → Int32} (ht : 1 ≤ t) (hs : t &&& used = t) (h1 : f t = nI (inn M (gF M used t) t (t + 1))) (h2 : ∀ s, s < 256 → s ≠ t → f s = nI (gF M used t s)) : ∀ s, s < 256 → f s = nI (gF M used (t + 1) s) := by
  intro s h
  have e : gF M used (t + 1) = fup (gF M used t) t (inn M (gF M used t) t (t + 1)) := by
    conv => lhs; unfold gF
    rw [if_pos ⟨by omega, hs⟩]
  rw [e]
  unfold fup
  by_cases q : s = t
  · subst q; rw [if_pos rfl]; exact h1
  · rw [if_neg q]; exact h2 s h q
theorem gF_skip {M : Nat → Nat} {used t q : Nat} {f : Nat → Int32} (ht : 1 ≤ t) (hc : ¬ (nI t &&& (nI used ^^^ (-1))) = 0) (h256 : t < 256) (hsub : 1 < q → t &&& used = t) (hq0 : 1 ≤ q) (hlt : f t = nI (inn M (gF M used t) t q)) (h2 : ∀ s, s < 256 → s ≠ t → f s = nI (gF M used t s)) (hus : used < 256 := by assumption) : ∀ s, s < 256 → f s = nI (gF M used (t + 1) s) := by
  intro s h
  have hns : ¬ t &&& used = t := fun z => hc ((z_subset h256 hus).mpr z)
  have e : gF M used (t + 1) = gF M used t := by
    conv => lhs; unfold gF
    rw [if_neg (fun z => hns z.2)]
  rw [e]
  by_cases z : s = t
  · subst z
    obtain rfl : q = 1 := by
      rcases Nat.lt_or_ge 1 q with y | y
      · exact absurd (hsub y) hns
      · omega
    rw [hlt, gF_at M used (Nat.le_refl s) ht]
    rfl
  · exact h2 s h z
set_option maxHeartbeats 4000000 in
set_option maxRecDepth 100000 in
theorem mM_findMates (l : Launch) (D : va_G) (h : Nat) (ad : Nat → Nat) (dB dS dN dZ : ClassId) (n : Nat) (up ow ma al le : Nat → Int32)   (hn : n ≤ 10) (hU : ∀ k, k < n → Par n (up k)) : zMV l D (zT dB dS dN dZ) yX1_findMates cX1_findMates 2 4 [.ref h] (wM h ad dN dZ (nI n) up ow ma al le) (fun (u : Nat → Int32) => ∀ s, s < 8 → u s = nI (Mf up ow s n)) (fun u => wM h ad dN dZ (nI n) up ow u al le) := by
  refine zStartV (by decide) (Nat.le_of_ble_eq_true rfl) ?_
  intro p e s m args below meth c A Q ls hx hb hml hown hts hK hend hW hl
  have hown : s.vm.findClass RX1 = some m.cls := hown
  have hl : lv_has ls 2 [(0, .ref h)] := hl
  refine lv_iconst (v := (nI 0)) hx hb dX1_findMates_0 (by decide) ?_
  refine lv_istore_n (lv' := [(1, .int (nI 0)), (0, .ref h)]) hx hb dX1_findMates_1 rfl hl (by decide) rfl (fun ls hl => ?_)
  have hloop2 : ∀ (N : Nat) (i : Nat) (mb : Nat → Int32), 8 < i + N → (i ≤ 8) → (∀ s, s < i → mb s = nI (Mf up ow s n)) → ∀ (H : Heap) (locs : List Loc) (ls : Array Slot), zH D A s (wM h ad dN dZ (nI n) up ow mb al le) H locs → lv_has ls 2 [(1, .int (nI i)), (0, .ref h)] → W p l e (zR 4) s m args below meth c H locs 0 0 Q (F0 m 2 ls []) := by
    intro N
    induction N with
    | zero =>
      intro i  mb  hM hi hm H locs ls hW hl
      exact absurd hM (by omega)
    | succ N ih2 =>
      intro i  mb  hM hi hm H locs ls hW hl
      refine lv_iload_n hx hb dX1_findMates_2 rfl (lv_at hl 0 rfl) ?_
      refine lv_bipush (v := (nI 8)) hx hb dX1_findMates_3 (by decide) ?_
      refine lv_icmp_ge (tgt := 25) hx hb dX1_findMates_5 (by decide) (fun c5 => ?_) (fun c5 => ?_)
      · have _ := 0
        have c5 : 8 ≤ i := z_le (by omega) (by omega) c5
        exact hend mb _ _ _ _ (fun s hs => hm s (by omega)) hW dX1_findMates_25
      · have _ := 0
        have c5 : i < 8 := z_nle (by omega) (by omega) c5
        refine lv_aload_n hx hb dX1_findMates_8 rfl (lv_at hl 1 rfl) ?_
        refine zg1_ma hx hb hts hown hK hW dX1_findMates_9 ?_
        refine lv_iload_n hx hb dX1_findMates_12 rfl (lv_at hl 0 rfl) ?_
        refine lv_aload_n hx hb dX1_findMates_13 rfl (lv_at hl 1 rfl) ?_
        refine lv_iload_n hx hb dX1_findMates_14 rfl (lv_at hl 0 rfl) ?_
        refine zcallI (rest := [.int (nI i), .ref (ad 3)]) hx hb hml hown hts hK clX1_1_with (mM_with l D h ad dB dS dN dZ n up ow mb al le i hn hU c5) ⟨Nat.le_of_ble_eq_true rfl, Nat.le_of_ble_eq_true rfl⟩ hW ⟨1, _, _, rfl, rfl, rfl⟩ rfl hl.1 rfl (Nat.le_of_ble_eq_true rfl) dX1_findMates_15 ⟨Nat.le_refl 0, Nat.le_refl 0⟩ (fun v u H locs hv hW => ?_)
        subst hv
        refine z_iast (v := (nI (Mf up ow i n))) hx hb hK hW 3 2 rfl rfl i rfl (by omega) (by decide) rfl dX1_findMates_18 (fun H locs hW => ?_)
        have hW : zH D A s (wM h ad dN dZ (nI n) up ow (upd mb i (nI (Mf up ow i n))) al le) H locs := hW
        refine lv_iinc (v := (nI (i + 1))) (lv' := [(1, .int (nI (i + 1))), (0, .ref h)]) hx hb dX1_findMates_19 hl (k := 0) rfl (z_inc _) (by decide) rfl (fun ls hl => ?_)
        refine lv_goto (tgt := 2) hx hb dX1_findMates_22 (by decide) ?_
        exact ih2 (i + 1) (upd mb i (nI (Mf up ow i n))) (by omega) (by omega) (upd_ind hm) _ _ _ hW (lv_sub hl [0, 1] rfl)
  exact hloop2 9 0 ma (by omega) (by omega) (fun s hs => absurd hs (by omega)) _ _ _ hW (lv_sub hl [0, 1] rfl)
set_option maxHeartbeats 4000000 in
set_option maxRecDepth 100000 in
theorem mM_together (l : Launch) (D : va_G) (h : Nat) (ad : Nat → Nat) (dB dS dN dZ : ClassId) (n : Nat) (up ow ma al le : Nat → Int32) (M : Nat → Nat) (t : Nat)  (hM8 : ∀ s, s < 8 → M s < 256) (hma : ∀ s, s < 8 → ma s = nI (M s)) (ht : t < 256) : zMI l D (zT dB dS dN dZ) yX1_together cX1_together 4 .boolean 0 [.ref h, .int (nI t)] (wM h ad dN dZ (nI n) up ow ma al le) (fun v (u : Unit) => v = nI (tog M t 8).toNat) (fun _ => wM h ad dN dZ (nI n) up ow ma al le) := by
  refine zStartI (by decide) (Nat.le_of_ble_eq_true rfl) ?_
  intro p e s m args below meth c A Q ls hx hb hml hown hts hK hend hW hl
  have hown : s.vm.findClass RX1 = some m.cls := hown
  have hl : lv_has ls 4 [(0, .ref h), (1, .int (nI t))] := hl
  refine lv_iconst (v := (nI 1)) hx hb dX1_together_0 (by decide) ?_
  refine z_top (show (nI 1) = (nI (tog M t 0).toNat) from rfl) ?_
  refine lv_istore_n (lv' := [(2, .int (nI (tog M t 0).toNat)), (0, .ref h), (1, .int (nI t))]) hx hb dX1_together_1 rfl hl (by decide) rfl (fun ls hl => ?_)
  refine lv_iconst (v := (nI 0)) hx hb dX1_together_2 (by decide) ?_
  refine lv_istore_n (lv' := [(3, .int (nI 0)), (2, .int (nI (tog M t 0).toNat)), (0, .ref h), (1, .int (nI t))]) hx hb dX1_together_3 rfl hl (by decide) rfl (fun ls hl => ?_)
  have hloop4 : ∀ (N : Nat) (i : Nat), 8 < i + N → (i ≤ 8) → ∀ (H : Heap) (locs : List Loc) (ls : Array Slot), zH D A s (wM h ad dN dZ (nI n) up ow ma al le) H locs → lv_has ls 4 [(3, .int (nI i)), (2, .int (nI (tog M t i).toNat)), (0, .ref h), (1, .int (nI t))] → W p l e (zR 0) s m args below meth c H locs 0 0 Q (F0 m 4 ls []) := by
    intro N
    induction N with
    | zero =>
      intro i  hM hi H locs ls hW hl
      exact absurd hM (by omega)
    | succ N ih4 =>
      intro i  hM hi H locs ls hW hl
      refine lv_iload_n hx hb dX1_together_4 rfl (lv_at hl 0 rfl) ?_
      refine lv_bipush (v := (nI 8)) hx hb dX1_together_5 (by decide) ?_
      refine lv_icmp_ge (tgt := 48) hx hb dX1_together_7 (by decide) (fun c7 => ?_) (fun c7 => ?_)
      · have _ := 0
        have c7 : 8 ≤ i := z_le (by omega) (by omega) c7
        refine lv_iload_n hx hb dX1_together_48 rfl (lv_at hl 1 rfl) ?_
        obtain rfl : i = 8 := by omega
        exact hend _ () _ _ _ _ (z_narzb _) rfl hW dX1_together_49
      · have _ := 0
        have c7 : i < 8 := z_nle (by omega) (by omega) c7
        refine lv_iload_n hx hb dX1_together_10 rfl (lv_at hl 3 rfl) ?_
        refine lv_iload_n hx hb dX1_together_11 rfl (lv_at hl 0 rfl) ?_
        refine lv_ishr hx hb dX1_together_12 ?_
        refine lv_iconst (v := (nI 1)) hx hb dX1_together_13 (by decide) ?_
        refine lv_iand hx hb dX1_together_14 ?_
        refine z_top (show (((nI t) >>> ((nI i) &&& 31)) &&& (nI 1)) = (nI (t.testBit i).toNat) from z_bit (by omega) (by omega)) ?_
        refine lv_iconst (v := (nI 1)) hx hb dX1_together_15 (by decide) ?_
        refine lv_icmp_ne (tgt := 42) hx hb dX1_together_16 (by decide) (fun c16 => ?_) (fun c16 => ?_)
        · have _ := 0
          have c16 : (t.testBit i) = false := z_bn1 c16
          refine lv_iinc (v := (nI (i + 1))) (lv' := [(3, .int (nI (i + 1))), (2, .int (nI (tog M t i).toNat)), (0, .ref h), (1, .int (nI t))]) hx hb dX1_together_42 hl (k := 0) rfl (z_inc _) (by decide) rfl (fun ls hl => ?_)
          refine lv_goto (tgt := 4) hx hb dX1_together_45 (by decide) ?_
          have hl : lv_has ls 4 [(3, .int (nI (i + 1))), (2, .int (nI (tog M t (i + 1)).toNat)), (0, .ref h), (1, .int (nI t))] := by rw [show (nI (tog M t (i + 1)).toNat) = (nI (tog M t i).toNat) from (by rw [tog, if_neg (by rw [c16]; decide)])]; exact hl
          exact ih4 (i + 1) (by omega) (by omega) _ _ _ hW (lv_sub hl [0, 1, 2, 3] rfl)
        · have _ := 0
          have c16 : (t.testBit i) = true := z_be1 c16
          refine lv_iload_n hx hb dX1_together_19 rfl (lv_at hl 1 rfl) ?_
          refine lv_if_eq (tgt := 40) hx hb dX1_together_20 (by decide) (fun c20 => ?_) (fun c20 => ?_)
          · have _ := 0
            have c20 : (tog M t i) = false := z_b0 c20
            refine lv_iconst (v := (nI 0)) hx hb dX1_together_40 (by decide) ?_
            refine z_top (show (nI 0) = (nI (tog M t (i + 1)).toNat) from (by rw [tog, if_pos c16, c20]; rfl)) ?_
            refine lv_istore_n (lv' := [(2, .int (nI (tog M t (i + 1)).toNat)), (3, .int (nI i)), (0, .ref h), (1, .int (nI t))]) hx hb dX1_together_41 rfl hl (by decide) rfl (fun ls hl => ?_)
            refine lv_iinc (v := (nI (i + 1))) (lv' := [(3, .int (nI (i + 1))), (2, .int (nI (tog M t (i + 1)).toNat)), (0, .ref h), (1, .int (nI t))]) hx hb dX1_together_42 hl (k := 1) rfl (z_inc _) (by decide) rfl (fun ls hl => ?_)
            refine lv_goto (tgt := 4) hx hb dX1_together_45 (by decide) ?_
            exact ih4 (i + 1) (by omega) (by omega) _ _ _ hW (lv_sub hl [0, 1, 2, 3] rfl)
          · have _ := 0
            have c20 : (tog M t i) = true := z_b1 c20
            refine lv_iload_n hx hb dX1_together_23 rfl (lv_at hl 3 rfl) ?_
            refine lv_aload_n hx hb dX1_together_24 rfl (lv_at hl 2 rfl) ?_
            refine zg1_ma hx hb hts hown hK hW dX1_together_25 ?_
            refine lv_iload_n hx hb dX1_together_28 rfl (lv_at hl 0 rfl) ?_
            refine z_iald hx hb hK hW 3 2 rfl rfl i rfl (by omega) (by decide) dX1_together_29 ?_
            refine z_top (show (ma i) = (nI (M i)) from hma i c7) ?_
            refine lv_iconst (v := (-1)) hx hb dX1_together_30 (by decide) ?_
            refine lv_ixor hx hb dX1_together_31 ?_
            refine lv_iand hx hb dX1_together_32 ?_
            refine lv_if_ne (tgt := 40) hx hb dX1_together_33 (by decide) (fun c33 => ?_) (fun c33 => ?_)
            · have _ := 0
              have cx := c33
              refine lv_iconst (v := (nI 0)) hx hb dX1_together_40 (by decide) ?_
              refine z_top (show (nI 0) = (nI (tog M t (i + 1)).toNat) from (by rw [tog, if_pos c16, c20, decide_eq_false cx]; rfl)) ?_
              refine lv_istore_n (lv' := [(2, .int (nI (tog M t (i + 1)).toNat)), (3, .int (nI i)), (0, .ref h), (1, .int (nI t))]) hx hb dX1_together_41 rfl hl (by decide) rfl (fun ls hl => ?_)
              refine lv_iinc (v := (nI (i + 1))) (lv' := [(3, .int (nI (i + 1))), (2, .int (nI (tog M t (i + 1)).toNat)), (0, .ref h), (1, .int (nI t))]) hx hb dX1_together_42 hl (k := 1) rfl (z_inc _) (by decide) rfl (fun ls hl => ?_)
              refine lv_goto (tgt := 4) hx hb dX1_together_45 (by decide) ?_
              exact ih4 (i + 1) (by omega) (by omega) _ _ _ hW (lv_sub hl [0, 1, 2, 3] rfl)
            · have _ := 0
              have cx := c33
              refine lv_iconst (v := (nI 1)) hx hb dX1_together_36 (by decide) ?_
              refine lv_goto (tgt := 41) hx hb dX1_together_37 (by decide) ?_
              refine z_top (show (nI 1) = (nI (tog M t (i + 1)).toNat) from (by rw [tog, if_pos c16, c20, decide_eq_true cx]; rfl)) ?_
              refine lv_istore_n (lv' := [(2, .int (nI (tog M t (i + 1)).toNat)), (3, .int (nI i)), (0, .ref h), (1, .int (nI t))]) hx hb dX1_together_41 rfl hl (by decide) rfl (fun ls hl => ?_)
              refine lv_iinc (v := (nI (i + 1))) (lv' := [(3, .int (nI (i + 1))), (2, .int (nI (tog M t (i + 1)).toNat)), (0, .ref h), (1, .int (nI t))]) hx hb dX1_together_42 hl (k := 1) rfl (z_inc _) (by decide) rfl (fun ls hl => ?_)
              refine lv_goto (tgt := 4) hx hb dX1_together_45 (by decide) ?_
              exact ih4 (i + 1) (by omega) (by omega) _ _ _ hW (lv_sub hl [0, 1, 2, 3] rfl)
  exact hloop4 9 0 (by omega) (by omega) _ _ _ hW (lv_sub hl [0, 1, 2, 3] rfl)
set_option maxHeartbeats 4000000 in
set_option maxRecDepth 100000 in
theorem mM_strangers (l : Launch) (D : va_G) (h : Nat) (ad : Nat → Nat) (dB dS dN dZ : ClassId) (n : Nat) (up ow ma al le : Nat → Int32) (M : Nat → Nat) (t : Nat)  (hM8 : ∀ s, s < 8 → M s < 256) (hma : ∀ s, s < 8 → ma s = nI (M s)) (ht : t < 256) : zMI l D (zT dB dS dN dZ) yX1_strangers cX1_strangers 4 .boolean 0 [.ref h, .int (nI t)] (wM h ad dN dZ (nI n) up ow ma al le) (fun v (u : Unit) => v = nI (strg M t 8).toNat) (fun _ => wM h ad dN dZ (nI n) up ow ma al le) := by
  refine zStartI (by decide) (Nat.le_of_ble_eq_true rfl) ?_
  intro p e s m args below meth c A Q ls hx hb hml hown hts hK hend hW hl
  have hown : s.vm.findClass RX1 = some m.cls := hown
  have hl : lv_has ls 4 [(0, .ref h), (1, .int (nI t))] := hl
  refine lv_iconst (v := (nI 1)) hx hb dX1_strangers_0 (by decide) ?_
  refine z_top (show (nI 1) = (nI (strg M t 0).toNat) from rfl) ?_
  refine lv_istore_n (lv' := [(2, .int (nI (strg M t 0).toNat)), (0, .ref h), (1, .int (nI t))]) hx hb dX1_strangers_1 rfl hl (by decide) rfl (fun ls hl => ?_)
  refine lv_iconst (v := (nI 0)) hx hb dX1_strangers_2 (by decide) ?_
  refine lv_istore_n (lv' := [(3, .int (nI 0)), (2, .int (nI (strg M t 0).toNat)), (0, .ref h), (1, .int (nI t))]) hx hb dX1_strangers_3 rfl hl (by decide) rfl (fun ls hl => ?_)
  have hloop4 : ∀ (N : Nat) (i : Nat), 8 < i + N → (i ≤ 8) → ∀ (H : Heap) (locs : List Loc) (ls : Array Slot), zH D A s (wM h ad dN dZ (nI n) up ow ma al le) H locs → lv_has ls 4 [(3, .int (nI i)), (2, .int (nI (strg M t i).toNat)), (0, .ref h), (1, .int (nI t))] → W p l e (zR 0) s m args below meth c H locs 0 0 Q (F0 m 4 ls []) := by
    intro N
    induction N with
    | zero =>
      intro i  hM hi H locs ls hW hl
      exact absurd hM (by omega)
    | succ N ih4 =>
      intro i  hM hi H locs ls hW hl
      refine lv_iload_n hx hb dX1_strangers_4 rfl (lv_at hl 0 rfl) ?_
      refine lv_bipush (v := (nI 8)) hx hb dX1_strangers_5 (by decide) ?_
      refine lv_icmp_ge (tgt := 52) hx hb dX1_strangers_7 (by decide) (fun c7 => ?_) (fun c7 => ?_)
      · have _ := 0
        have c7 : 8 ≤ i := z_le (by omega) (by omega) c7
        refine lv_iload_n hx hb dX1_strangers_52 rfl (lv_at hl 1 rfl) ?_
        obtain rfl : i = 8 := by omega
        exact hend _ () _ _ _ _ (z_narzb _) rfl hW dX1_strangers_53
      · have _ := 0
        have c7 : i < 8 := z_nle (by omega) (by omega) c7
        refine lv_iload_n hx hb dX1_strangers_10 rfl (lv_at hl 3 rfl) ?_
        refine lv_iload_n hx hb dX1_strangers_11 rfl (lv_at hl 0 rfl) ?_
        refine lv_ishr hx hb dX1_strangers_12 ?_
        refine lv_iconst (v := (nI 1)) hx hb dX1_strangers_13 (by decide) ?_
        refine lv_iand hx hb dX1_strangers_14 ?_
        refine z_top (show (((nI t) >>> ((nI i) &&& 31)) &&& (nI 1)) = (nI (t.testBit i).toNat) from z_bit (by omega) (by omega)) ?_
        refine lv_iconst (v := (nI 1)) hx hb dX1_strangers_15 (by decide) ?_
        refine lv_icmp_ne (tgt := 46) hx hb dX1_strangers_16 (by decide) (fun c16 => ?_) (fun c16 => ?_)
        · have _ := 0
          have c16 : (t.testBit i) = false := z_bn1 c16
          refine lv_iinc (v := (nI (i + 1))) (lv' := [(3, .int (nI (i + 1))), (2, .int (nI (strg M t i).toNat)), (0, .ref h), (1, .int (nI t))]) hx hb dX1_strangers_46 hl (k := 0) rfl (z_inc _) (by decide) rfl (fun ls hl => ?_)
          refine lv_goto (tgt := 4) hx hb dX1_strangers_49 (by decide) ?_
          have hl : lv_has ls 4 [(3, .int (nI (i + 1))), (2, .int (nI (strg M t (i + 1)).toNat)), (0, .ref h), (1, .int (nI t))] := by rw [show (nI (strg M t (i + 1)).toNat) = (nI (strg M t i).toNat) from (by rw [strg, if_neg (by rw [c16]; decide)])]; exact hl
          exact ih4 (i + 1) (by omega) (by omega) _ _ _ hW (lv_sub hl [0, 1, 2, 3] rfl)
        · have _ := 0
          have c16 : (t.testBit i) = true := z_be1 c16
          refine lv_iload_n hx hb dX1_strangers_19 rfl (lv_at hl 1 rfl) ?_
          refine lv_if_eq (tgt := 44) hx hb dX1_strangers_20 (by decide) (fun c20 => ?_) (fun c20 => ?_)
          · have _ := 0
            have c20 : (strg M t i) = false := z_b0 c20
            refine lv_iconst (v := (nI 0)) hx hb dX1_strangers_44 (by decide) ?_
            refine z_top (show (nI 0) = (nI (strg M t (i + 1)).toNat) from (by rw [strg, if_pos c16, c20]; rfl)) ?_
            refine lv_istore_n (lv' := [(2, .int (nI (strg M t (i + 1)).toNat)), (3, .int (nI i)), (0, .ref h), (1, .int (nI t))]) hx hb dX1_strangers_45 rfl hl (by decide) rfl (fun ls hl => ?_)
            refine lv_iinc (v := (nI (i + 1))) (lv' := [(3, .int (nI (i + 1))), (2, .int (nI (strg M t (i + 1)).toNat)), (0, .ref h), (1, .int (nI t))]) hx hb dX1_strangers_46 hl (k := 1) rfl (z_inc _) (by decide) rfl (fun ls hl => ?_)
            refine lv_goto (tgt := 4) hx hb dX1_strangers_49 (by decide) ?_
            exact ih4 (i + 1) (by omega) (by omega) _ _ _ hW (lv_sub hl [0, 1, 2, 3] rfl)
          · have _ := 0
            have c20 : (strg M t i) = true := z_b1 c20
            refine lv_iload_n hx hb dX1_strangers_23 rfl (lv_at hl 3 rfl) ?_
            refine lv_aload_n hx hb dX1_strangers_24 rfl (lv_at hl 2 rfl) ?_
            refine zg1_ma hx hb hts hown hK hW dX1_strangers_25 ?_
            refine lv_iload_n hx hb dX1_strangers_28 rfl (lv_at hl 0 rfl) ?_
            refine z_iald hx hb hK hW 3 2 rfl rfl i rfl (by omega) (by decide) dX1_strangers_29 ?_
            refine z_top (show (ma i) = (nI (M i)) from hma i c7) ?_
            refine lv_iand hx hb dX1_strangers_30 ?_
            refine z_top (show ((nI t) &&& (nI (M i))) = (nI (t &&& (M i))) from fa_and _ _) ?_
            refine lv_iconst (v := (nI 1)) hx hb dX1_strangers_31 (by decide) ?_
            refine lv_iload_n hx hb dX1_strangers_32 rfl (lv_at hl 0 rfl) ?_
            refine lv_ishl hx hb dX1_strangers_33 ?_
            refine z_top (show ((nI 1) <<< ((nI i) &&& 31)) = (nI (2 ^ i)) from z_shl1 (by omega)) ?_
            refine lv_iconst (v := (-1)) hx hb dX1_strangers_34 (by decide) ?_
            refine lv_ixor hx hb dX1_strangers_35 ?_
            refine lv_iand hx hb dX1_strangers_36 ?_
            refine lv_if_ne (tgt := 44) hx hb dX1_strangers_37 (by decide) (fun c37 => ?_) (fun c37 => ?_)
            · have _ := 0
              have cx := c37
              refine lv_iconst (v := (nI 0)) hx hb dX1_strangers_44 (by decide) ?_
              refine z_top (show (nI 0) = (nI (strg M t (i + 1)).toNat) from (by rw [strg, if_pos c16, c20, decide_eq_false cx]; rfl)) ?_
              refine lv_istore_n (lv' := [(2, .int (nI (strg M t (i + 1)).toNat)), (3, .int (nI i)), (0, .ref h), (1, .int (nI t))]) hx hb dX1_strangers_45 rfl hl (by decide) rfl (fun ls hl => ?_)
              refine lv_iinc (v := (nI (i + 1))) (lv' := [(3, .int (nI (i + 1))), (2, .int (nI (strg M t (i + 1)).toNat)), (0, .ref h), (1, .int (nI t))]) hx hb dX1_strangers_46 hl (k := 1) rfl (z_inc _) (by decide) rfl (fun ls hl => ?_)
              refine lv_goto (tgt := 4) hx hb dX1_strangers_49 (by decide) ?_
              exact ih4 (i + 1) (by omega) (by omega) _ _ _ hW (lv_sub hl [0, 1, 2, 3] rfl)
            · have _ := 0
              have cx := c37
              refine lv_iconst (v := (nI 1)) hx hb dX1_strangers_40 (by decide) ?_
              refine lv_goto (tgt := 45) hx hb dX1_strangers_41 (by decide) ?_
              refine z_top (show (nI 1) = (nI (strg M t (i + 1)).toNat) from (by rw [strg, if_pos c16, c20, decide_eq_true cx]; rfl)) ?_
              refine lv_istore_n (lv' := [(2, .int (nI (strg M t (i + 1)).toNat)), (3, .int (nI i)), (0, .ref h), (1, .int (nI t))]) hx hb dX1_strangers_45 rfl hl (by decide) rfl (fun ls hl => ?_)
              refine lv_iinc (v := (nI (i + 1))) (lv' := [(3, .int (nI (i + 1))), (2, .int (nI (strg M t (i + 1)).toNat)), (0, .ref h), (1, .int (nI t))]) hx hb dX1_strangers_46 hl (k := 1) rfl (z_inc _) (by decide) rfl (fun ls hl => ?_)
              refine lv_goto (tgt := 4) hx hb dX1_strangers_49 (by decide) ?_
              exact ih4 (i + 1) (by omega) (by omega) _ _ _ hW (lv_sub hl [0, 1, 2, 3] rfl)
  exact hloop4 9 0 (by omega) (by omega) _ _ _ hW (lv_sub hl [0, 1, 2, 3] rfl)
set_option maxHeartbeats 4000000 in
set_option maxRecDepth 100000 in
theorem mM_sizeOf (l : Launch) (D : va_G) (h : Nat) (ad : Nat → Nat) (dB dS dN dZ : ClassId) (n : Nat) (up ow ma al le : Nat → Int32) (t : Nat)  (ht : t < 1000) : zMI l D (zT dB dS dN dZ) yX1_sizeOf cX1_sizeOf 4 .int 0 [.ref h, .int (nI t)] (wM h ad dN dZ (nI n) up ow ma al le) (fun v (u : Unit) => v = nI (pcnt t 8)) (fun _ => wM h ad dN dZ (nI n) up ow ma al le) := by
  refine zStartI (by decide) (Nat.le_of_ble_eq_true rfl) ?_
  intro p e s m args below meth c A Q ls hx hb hml hown hts hK hend hW hl
  have hown : s.vm.findClass RX1 = some m.cls := hown
  have hl : lv_has ls 4 [(0, .ref h), (1, .int (nI t))] := hl
  refine lv_iconst (v := (nI 0)) hx hb dX1_sizeOf_0 (by decide) ?_
  refine z_top (show (nI 0) = (nI (pcnt t 0)) from rfl) ?_
  refine lv_istore_n (lv' := [(2, .int (nI (pcnt t 0))), (0, .ref h), (1, .int (nI t))]) hx hb dX1_sizeOf_1 rfl hl (by decide) rfl (fun ls hl => ?_)
  refine lv_iconst (v := (nI 0)) hx hb dX1_sizeOf_2 (by decide) ?_
  refine lv_istore_n (lv' := [(3, .int (nI 0)), (2, .int (nI (pcnt t 0))), (0, .ref h), (1, .int (nI t))]) hx hb dX1_sizeOf_3 rfl hl (by decide) rfl (fun ls hl => ?_)
  have hloop4 : ∀ (N : Nat) (i : Nat), 8 < i + N → (i ≤ 8) → ∀ (H : Heap) (locs : List Loc) (ls : Array Slot), zH D A s (wM h ad dN dZ (nI n) up ow ma al le) H locs → lv_has ls 4 [(3, .int (nI i)), (2, .int (nI (pcnt t i))), (0, .ref h), (1, .int (nI t))] → W p l e (zR 0) s m args below meth c H locs 0 0 Q (F0 m 4 ls []) := by
    intro N
    induction N with
    | zero =>
      intro i  hM hi H locs ls hW hl
      exact absurd hM (by omega)
    | succ N ih4 =>
      intro i  hM hi H locs ls hW hl
      refine lv_iload_n hx hb dX1_sizeOf_4 rfl (lv_at hl 0 rfl) ?_
      refine lv_bipush (v := (nI 8)) hx hb dX1_sizeOf_5 (by decide) ?_
      refine lv_icmp_ge (tgt := 24) hx hb dX1_sizeOf_7 (by decide) (fun c7 => ?_) (fun c7 => ?_)
      · have _ := 0
        have c7 : 8 ≤ i := z_le (by omega) (by omega) c7
        refine lv_iload_n hx hb dX1_sizeOf_24 rfl (lv_at hl 1 rfl) ?_
        obtain rfl : i = 8 := by omega
        exact hend _ () _ _ _ _ rfl rfl hW dX1_sizeOf_25
      · have _ := 0
        have c7 : i < 8 := z_nle (by omega) (by omega) c7
        refine lv_iload_n hx hb dX1_sizeOf_10 rfl (lv_at hl 1 rfl) ?_
        refine lv_iload_n hx hb dX1_sizeOf_11 rfl (lv_at hl 3 rfl) ?_
        refine lv_iload_n hx hb dX1_sizeOf_12 rfl (lv_at hl 0 rfl) ?_
        refine lv_ishr hx hb dX1_sizeOf_13 ?_
        refine lv_iconst (v := (nI 1)) hx hb dX1_sizeOf_14 (by decide) ?_
        refine lv_iand hx hb dX1_sizeOf_15 ?_
        refine z_top (show (((nI t) >>> ((nI i) &&& 31)) &&& (nI 1)) = (nI (t.testBit i).toNat) from z_bit (by omega) (by omega)) ?_
        refine lv_iadd hx hb dX1_sizeOf_16 ?_
        refine z_top (show ((nI (pcnt t i)) + (nI (t.testBit i).toNat)) = (nI ((pcnt t i) + ((t.testBit i).toNat))) from nI_add _ _) ?_
        refine z_top (show (nI ((pcnt t i) + ((t.testBit i).toNat))) = (nI (pcnt t (i + 1))) from rfl) ?_
        refine lv_istore_n (lv' := [(2, .int (nI (pcnt t (i + 1)))), (3, .int (nI i)), (0, .ref h), (1, .int (nI t))]) hx hb dX1_sizeOf_17 rfl hl (by decide) rfl (fun ls hl => ?_)
        refine lv_iinc (v := (nI (i + 1))) (lv' := [(3, .int (nI (i + 1))), (2, .int (nI (pcnt t (i + 1)))), (0, .ref h), (1, .int (nI t))]) hx hb dX1_sizeOf_18 hl (k := 1) rfl (z_inc _) (by decide) rfl (fun ls hl => ?_)
        refine lv_goto (tgt := 4) hx hb dX1_sizeOf_21 (by decide) ?_
        exact ih4 (i + 1) (by omega) (by omega) _ _ _ hW (lv_sub hl [0, 1, 2, 3] rfl)
  exact hloop4 9 0 (by omega) (by omega) _ _ _ hW (lv_sub hl [0, 1, 2, 3] rfl)
set_option maxHeartbeats 4000000 in
set_option maxRecDepth 100000 in
theorem mM_crowd (l : Launch) (D : va_G) (h : Nat) (ad : Nat → Nat) (dB dS dN dZ : ClassId) (n : Nat) (up ow ma al le : Nat → Int32)   (hn : n ≤ 10) (hU : ∀ k, k < n → Par n (up k)) : zMI l D (zT dB dS dN dZ) yX1_crowd cX1_crowd 4 .int 5 [.ref h] (wM h ad dN dZ (nI n) up ow ma al le) (fun v (u : Nat → Int32) => CrdR n up ow v ∧ ∀ s, s < 8 → u s = nI (Mf up ow s n)) (fun u => wM h ad dN dZ (nI n) up ow u al le) := by
  refine zStartI (by decide) (Nat.le_of_ble_eq_true rfl) ?_
  intro p e s m args below meth c A Q ls hx hb hml hown hts hK hend hW hl
  have hown : s.vm.findClass RX1 = some m.cls := hown
  have hl : lv_has ls 4 [(0, .ref h)] := hl
  refine lv_aload_n hx hb dX1_crowd_0 rfl (lv_at hl 0 rfl) ?_
  refine zcallV (rest := []) hx hb hml hown hts hK clX1_1_findMates (mM_findMates l D h ad dB dS dN dZ n up ow ma al le hn hU) ⟨Nat.le_of_ble_eq_true rfl, Nat.le_of_ble_eq_true rfl⟩ hW ⟨1, _, _, rfl, rfl, rfl⟩ rfl hl.1 rfl (Nat.le_of_ble_eq_true rfl) dX1_crowd_1 ⟨Nat.le_refl 0, Nat.le_refl 0⟩ (fun mb H locs hma hW => ?_)
  have hW : zH D A s (wM h ad dN dZ (nI n) up ow mb al le) H locs := hW
  refine lv_iconst (v := (nI 0)) hx hb dX1_crowd_4 (by decide) ?_
  refine z_top (show (nI 0) = (nI (crd (fun s => Mf up ow s n) 1)) from rfl) ?_
  refine lv_istore_n (lv' := [(1, .int (nI (crd (fun s => Mf up ow s n) 1))), (0, .ref h)]) hx hb dX1_crowd_5 rfl hl (by decide) rfl (fun ls hl => ?_)
  refine lv_iconst (v := (nI 1)) hx hb dX1_crowd_6 (by decide) ?_
  refine lv_istore_n (lv' := [(2, .int (nI 1)), (1, .int (nI (crd (fun s => Mf up ow s n) 1))), (0, .ref h)]) hx hb dX1_crowd_7 rfl hl (by decide) rfl (fun ls hl => ?_)
  have hloop8 : ∀ (N : Nat) (t : Nat), 256 < t + N → (1 ≤ t) → (t ≤ 256) → ∀ (H : Heap) (locs : List Loc) (ls : Array Slot), zH D A s (wM h ad dN dZ (nI n) up ow mb al le) H locs → lv_has ls 4 [(2, .int (nI t)), (1, .int (nI (crd (fun s => Mf up ow s n) t))), (0, .ref h)] → W p l e (zR 5) s m args below meth c H locs 0 0 Q (F0 m 8 ls []) := by
    intro N
    induction N with
    | zero =>
      intro t  hM ht0 ht H locs ls hW hl
      exact absurd hM (by omega)
    | succ N ih8 =>
      intro t  hM ht0 ht H locs ls hW hl
      refine lv_iload_n hx hb dX1_crowd_8 rfl (lv_at hl 0 rfl) ?_
      refine lv_sipush (v := (nI 256)) hx hb dX1_crowd_9 (by decide) ?_
      refine lv_icmp_ge (tgt := 42) hx hb dX1_crowd_12 (by decide) (fun c12 => ?_) (fun c12 => ?_)
      · have _ := 0
        have c12 : 256 ≤ t := z_le (by omega) (by omega) c12
        refine lv_iload_n hx hb dX1_crowd_42 rfl (lv_at hl 1 rfl) ?_
        obtain rfl : t = 256 := by omega
        exact hend _ mb _ _ _ _ rfl (⟨rfl, hma⟩) hW dX1_crowd_43
      · have _ := 0
        have c12 : t < 256 := z_nle (by omega) (by omega) c12
        refine lv_aload_n hx hb dX1_crowd_15 rfl (lv_at hl 2 rfl) ?_
        refine lv_iload_n hx hb dX1_crowd_16 rfl (lv_at hl 0 rfl) ?_
        refine zcallI (rest := []) hx hb hml hown hts hK clX1_1_sizeOf (mM_sizeOf l D h ad dB dS dN dZ n up ow mb al le t (by omega)) ⟨Nat.le_of_ble_eq_true rfl, Nat.le_of_ble_eq_true rfl⟩ hW ⟨1, _, _, rfl, rfl, rfl⟩ rfl hl.1 rfl (Nat.le_of_ble_eq_true rfl) dX1_crowd_17 ⟨Nat.le_refl 0, Nat.le_refl 0⟩ (fun v u H locs hv hW => ?_)
        subst hv
        refine lv_istore_n (lv' := [(3, .int (nI (pcnt t 8))), (2, .int (nI t)), (1, .int (nI (crd (fun s => Mf up ow s n) t))), (0, .ref h)]) hx hb dX1_crowd_20 rfl hl (by decide) rfl (fun ls hl => ?_)
        refine lv_iload_n hx hb dX1_crowd_21 rfl (lv_at hl 0 rfl) ?_
        refine lv_iload_n hx hb dX1_crowd_22 rfl (lv_at hl 2 rfl) ?_
        refine lv_icmp_le (tgt := 36) hx hb dX1_crowd_23 (by decide) (fun c23 => ?_) (fun c23 => ?_)
        · have _ := 0
          have hp8 := pcnt_le t 8
          have hc8 := crd_le (fun s => Mf up ow s n) t
          have c23 : pcnt t 8 ≤ crd (fun s => Mf up ow s n) t := z_le (by omega) (by omega) c23
          refine lv_iinc (v := (nI (t + 1))) (lv' := [(2, .int (nI (t + 1))), (3, .int (nI (pcnt t 8))), (1, .int (nI (crd (fun s => Mf up ow s n) t))), (0, .ref h)]) hx hb dX1_crowd_36 hl (k := 1) rfl (z_inc _) (by decide) rfl (fun ls hl => ?_)
          refine lv_goto (tgt := 8) hx hb dX1_crowd_39 (by decide) ?_
          have hl : lv_has ls 4 [(2, .int (nI (t + 1))), (3, .int (nI (pcnt t 8))), (1, .int (nI (crd (fun s => Mf up ow s n) (t + 1)))), (0, .ref h)] := by rw [show (nI (crd (fun s => Mf up ow s n) (t + 1))) = (nI (crd (fun s => Mf up ow s n) t)) from (by rw [crd, if_neg (fun q => absurd q.1 (by omega))])]; exact hl
          exact ih8 (t + 1) (by omega) (by omega) (by omega) _ _ _ hW (lv_sub hl [0, 2, 3] rfl)
        · have _ := 0
          have hp8 := pcnt_le t 8
          have hc8 := crd_le (fun s => Mf up ow s n) t
          have c23 : crd (fun s => Mf up ow s n) t < pcnt t 8 := z_nle (by omega) (by omega) c23
          refine lv_aload_n hx hb dX1_crowd_26 rfl (lv_at hl 3 rfl) ?_
          refine lv_iload_n hx hb dX1_crowd_27 rfl (lv_at hl 1 rfl) ?_
          refine zcallI (rest := []) hx hb hml hown hts hK clX1_1_together (mM_together l D h ad dB dS dN dZ n up ow mb al le (fun s => Mf up ow s n) t (fun s _ => Mf_lt up ow s n) hma (by omega)) ⟨Nat.le_of_ble_eq_true rfl, Nat.le_of_ble_eq_true rfl⟩ hW ⟨1, _, _, rfl, rfl, rfl⟩ rfl hl.1 rfl (Nat.le_of_ble_eq_true rfl) dX1_crowd_28 ⟨Nat.le_refl 0, Nat.le_refl 0⟩ (fun v u H locs hv hW => ?_)
          subst hv
          refine lv_if_eq (tgt := 36) hx hb dX1_crowd_31 (by decide) (fun c31 => ?_) (fun c31 => ?_)
          · have _ := 0
            have c31 : (tog (fun s => Mf up ow s n) t 8) = false := z_b0 c31
            refine lv_iinc (v := (nI (t + 1))) (lv' := [(2, .int (nI (t + 1))), (3, .int (nI (pcnt t 8))), (1, .int (nI (crd (fun s => Mf up ow s n) t))), (0, .ref h)]) hx hb dX1_crowd_36 hl (k := 1) rfl (z_inc _) (by decide) rfl (fun ls hl => ?_)
            refine lv_goto (tgt := 8) hx hb dX1_crowd_39 (by decide) ?_
            have hl : lv_has ls 4 [(2, .int (nI (t + 1))), (3, .int (nI (pcnt t 8))), (1, .int (nI (crd (fun s => Mf up ow s n) (t + 1)))), (0, .ref h)] := by rw [show (nI (crd (fun s => Mf up ow s n) (t + 1))) = (nI (crd (fun s => Mf up ow s n) t)) from (by rw [crd, if_neg (fun q => absurd (q.2.symm.trans c31) (by decide))])]; exact hl
            exact ih8 (t + 1) (by omega) (by omega) (by omega) _ _ _ hW (lv_sub hl [0, 2, 3] rfl)
          · have _ := 0
            have c31 : (tog (fun s => Mf up ow s n) t 8) = true := z_b1 c31
            refine lv_iload_n hx hb dX1_crowd_34 rfl (lv_at hl 0 rfl) ?_
            refine z_top (show (nI (pcnt t 8)) = (nI (crd (fun s => Mf up ow s n) (t + 1))) from (by rw [crd, if_pos ⟨c23, c31⟩])) ?_
            refine lv_istore_n (lv' := [(1, .int (nI (crd (fun s => Mf up ow s n) (t + 1)))), (3, .int (nI (pcnt t 8))), (2, .int (nI t)), (0, .ref h)]) hx hb dX1_crowd_35 rfl hl (by decide) rfl (fun ls hl => ?_)
            refine lv_iinc (v := (nI (t + 1))) (lv' := [(2, .int (nI (t + 1))), (1, .int (nI (crd (fun s => Mf up ow s n) (t + 1)))), (3, .int (nI (pcnt t 8))), (0, .ref h)]) hx hb dX1_crowd_36 hl (k := 2) rfl (z_inc _) (by decide) rfl (fun ls hl => ?_)
            refine lv_goto (tgt := 8) hx hb dX1_crowd_39 (by decide) ?_
            exact ih8 (t + 1) (by omega) (by omega) (by omega) _ _ _ hW (lv_sub hl [0, 1, 3] rfl)
  exact hloop8 256 1 (by omega) (by omega) (by omega) _ _ _ hW (lv_sub hl [0, 1, 2] rfl)
set_option maxHeartbeats 4000000 in
set_option maxRecDepth 100000 in
theorem mM_colours (l : Launch) (D : va_G) (h : Nat) (ad : Nat → Nat) (dB dS dN dZ : ClassId) (n : Nat) (up ow ma al le : Nat → Int32)   (hn : n ≤ 10) (hU : ∀ k, k < n → Par n (up k)) : zMI l D (zT dB dS dN dZ) yX1_colours cX1_colours 5 .int 5 [.ref h] (wM h ad dN dZ (nI n) up ow ma al le) (fun v (u : (Nat → Int32) × (Nat → Int32) × (Nat → Int32)) => v = nI (gF (fun s => Mf up ow s n) (usd (fun s => Mf up ow s n) 8) 256 (usd (fun s => Mf up ow s n) 8))) (fun u => wM h ad dN dZ (nI n) up ow u.1 u.2.1 u.2.2) := by
  refine zStartI (by decide) (Nat.le_of_ble_eq_true rfl) ?_
  intro p e s m args below meth c A Q ls hx hb hml hown hts hK hend hW hl
  have hown : s.vm.findClass RX1 = some m.cls := hown
  have hl : lv_has ls 5 [(0, .ref h)] := hl
  refine lv_aload_n hx hb dX1_colours_0 rfl (lv_at hl 0 rfl) ?_
  refine zcallV (rest := []) hx hb hml hown hts hK clX1_1_findMates (mM_findMates l D h ad dB dS dN dZ n up ow ma al le hn hU) ⟨Nat.le_of_ble_eq_true rfl, Nat.le_of_ble_eq_true rfl⟩ hW ⟨1, _, _, rfl, rfl, rfl⟩ rfl hl.1 rfl (Nat.le_of_ble_eq_true rfl) dX1_colours_1 ⟨Nat.le_refl 0, Nat.le_refl 0⟩ (fun mb H locs hma hW => ?_)
  have hM8 : ∀ s, s < 8 → (fun s => Mf up ow s n) s < 256 := fun s _ => Mf_lt up ow s n
  have hW : zH D A s (wM h ad dN dZ (nI n) up ow mb al le) H locs := hW
  refine lv_iconst (v := (nI 0)) hx hb dX1_colours_4 (by decide) ?_
  refine z_top (show (nI 0) = (nI (usd (fun s => Mf up ow s n) 0)) from rfl) ?_
  refine lv_istore_n (lv' := [(1, .int (nI (usd (fun s => Mf up ow s n) 0))), (0, .ref h)]) hx hb dX1_colours_5 rfl hl (by decide) rfl (fun ls hl => ?_)
  refine lv_iconst (v := (nI 0)) hx hb dX1_colours_6 (by decide) ?_
  refine lv_istore_n (lv' := [(2, .int (nI 0)), (1, .int (nI (usd (fun s => Mf up ow s n) 0))), (0, .ref h)]) hx hb dX1_colours_7 rfl hl (by decide) rfl (fun ls hl => ?_)
  have hloop8 : ∀ (N : Nat) (i : Nat), 8 < i + N → (i ≤ 8) → ∀ (H : Heap) (locs : List Loc) (ls : Array Slot), zH D A s (wM h ad dN dZ (nI n) up ow mb al le) H locs → lv_has ls 5 [(2, .int (nI i)), (1, .int (nI (usd (fun s => Mf up ow s n) i))), (0, .ref h)] → W p l e (zR 5) s m args below meth c H locs 0 0 Q (F0 m 8 ls []) := by
    intro N
    induction N with
    | zero =>
      intro i  hM hi H locs ls hW hl
      exact absurd hM (by omega)
    | succ N ih8 =>
      intro i  hM hi H locs ls hW hl
      refine lv_iload_n hx hb dX1_colours_8 rfl (lv_at hl 0 rfl) ?_
      refine lv_bipush (v := (nI 8)) hx hb dX1_colours_9 (by decide) ?_
      refine lv_icmp_ge (tgt := 29) hx hb dX1_colours_11 (by decide) (fun c11 => ?_) (fun c11 => ?_)
      · have _ := 0
        have c11 : 8 ≤ i := z_le (by omega) (by omega) c11
        obtain rfl : i = 8 := by omega
        have hus : usd (fun s => Mf up ow s n) 8 < 256 := usd_lt hM8 8 (by omega)
        refine lv_iconst (v := (nI 0)) hx hb dX1_colours_29 (by decide) ?_
        refine lv_istore_n (lv' := [(2, .int (nI 0)), (1, .int (nI (usd (fun s => Mf up ow s n) 8))), (0, .ref h)]) hx hb dX1_colours_30 rfl hl (by decide) rfl (fun ls hl => ?_)
        have hloop31 : ∀ (N : Nat) (i : Nat) (al2 le2 : Nat → Int32), 256 < i + N → (i ≤ 256) → (∀ s, s < i → al2 s = nI (strg (fun s => Mf up ow s n) s 8).toNat) → (∀ s, s < i → le2 s = nI (if s = 0 then 0 else 8)) → ∀ (H : Heap) (locs : List Loc) (ls : Array Slot), zH D A s (wM h ad dN dZ (nI n) up ow mb al2 le2) H locs → lv_has ls 5 [(2, .int (nI i)), (1, .int (nI (usd (fun s => Mf up ow s n) 8))), (0, .ref h)] → W p l e (zR 5) s m args below meth c H locs 0 0 Q (F0 m 31 ls []) := by
          intro N
          induction N with
          | zero =>
            intro i  al2 le2  hM hi hal hle H locs ls hW hl
            exact absurd hM (by omega)
          | succ N ih31 =>
            intro i  al2 le2  hM hi hal hle H locs ls hW hl
            refine lv_iload_n hx hb dX1_colours_31 rfl (lv_at hl 0 rfl) ?_
            refine lv_sipush (v := (nI 256)) hx hb dX1_colours_32 (by decide) ?_
            refine lv_icmp_ge (tgt := 71) hx hb dX1_colours_35 (by decide) (fun c35 => ?_) (fun c35 => ?_)
            · have _ := 0
              have c35 : 256 ≤ i := z_le (by omega) (by omega) c35
              have hle0 : ∀ s, s < 256 → le2 s = nI ((gF (fun s => Mf up ow s n) (usd (fun s => Mf up ow s n) 8) 1) s) := fun s hs => hle s (by omega)
              refine lv_iconst (v := (nI 1)) hx hb dX1_colours_71 (by decide) ?_
              refine lv_istore_n (lv' := [(2, .int (nI 1)), (1, .int (nI (usd (fun s => Mf up ow s n) 8))), (0, .ref h)]) hx hb dX1_colours_72 rfl hl (by decide) rfl (fun ls hl => ?_)
              have hloop73 : ∀ (N : Nat) (t : Nat) (le3 : Nat → Int32), 256 < t + N → (1 ≤ t) → (t ≤ 256) → (∀ s, s < 256 → le3 s = nI ((gF (fun s => Mf up ow s n) (usd (fun s => Mf up ow s n) 8) t) s)) → ∀ (H : Heap) (locs : List Loc) (ls : Array Slot), zH D A s (wM h ad dN dZ (nI n) up ow mb al2 le3) H locs → lv_has ls 5 [(2, .int (nI t)), (1, .int (nI (usd (fun s => Mf up ow s n) 8))), (0, .ref h)] → W p l e (zR 5) s m args below meth c H locs 0 0 Q (F0 m 73 ls []) := by
                intro N
                induction N with
                | zero =>
                  intro t  le3  hM ht0 ht hle3 H locs ls hW hl
                  exact absurd hM (by omega)
                | succ N ih73 =>
                  intro t  le3  hM ht0 ht hle3 H locs ls hW hl
                  refine lv_iload_n hx hb dX1_colours_73 rfl (lv_at hl 0 rfl) ?_
                  refine lv_sipush (v := (nI 256)) hx hb dX1_colours_74 (by decide) ?_
                  refine lv_icmp_ge (tgt := 166) hx hb dX1_colours_77 (by decide) (fun c77 => ?_) (fun c77 => ?_)
                  · have _ := 0
                    have c77 : 256 ≤ t := z_le (by omega) (by omega) c77
                    refine lv_aload_n hx hb dX1_colours_166 rfl (lv_at hl 2 rfl) ?_
                    refine zg1_le hx hb hts hown hK hW dX1_colours_167 ?_
                    refine lv_iload_n hx hb dX1_colours_170 rfl (lv_at hl 1 rfl) ?_
                    obtain rfl : t = 256 := by omega
                    refine z_iald hx hb hK hW 5 2 rfl rfl (usd (fun s => Mf up ow s n) 8) rfl hus (by decide) dX1_colours_171 ?_
                    refine z_top (show (le3 (usd (fun s => Mf up ow s n) 8)) = (nI ((gF (fun s => Mf up ow s n) (usd (fun s => Mf up ow s n) 8) 256) (usd (fun s => Mf up ow s n) 8))) from hle3 _ hus) ?_
                    exact hend _ (mb, al2, le3) _ _ _ _ rfl rfl hW dX1_colours_172
                  · have _ := 0
                    have c77 : t < 256 := z_nle (by omega) (by omega) c77
                    refine lv_iconst (v := (nI 1)) hx hb dX1_colours_80 (by decide) ?_
                    refine lv_istore_n (lv' := [(3, .int (nI 1)), (2, .int (nI t)), (1, .int (nI (usd (fun s => Mf up ow s n) 8))), (0, .ref h)]) hx hb dX1_colours_81 rfl hl (by decide) rfl (fun ls hl => ?_)
                    have hloop82 : ∀ (N : Nat) (q : Nat) (le4 : Nat → Int32), t + 1 < q + N → (1 ≤ q) → (q ≤ t + 1) → (∀ s, s < 256 → s ≠ t → le4 s = nI ((gF (fun s => Mf up ow s n) (usd (fun s => Mf up ow s n) 8) t) s)) → (le4 t = nI (inn (fun s => Mf up ow s n) (gF (fun s => Mf up ow s n) (usd (fun s => Mf up ow s n) 8) t) t q)) → (1 < q → t &&& (usd (fun s => Mf up ow s n) 8) = t) → ∀ (H : Heap) (locs : List Loc) (ls : Array Slot), zH D A s (wM h ad dN dZ (nI n) up ow mb al2 le4) H locs → lv_has ls 5 [(3, .int (nI q)), (2, .int (nI t)), (1, .int (nI (usd (fun s => Mf up ow s n) 8))), (0, .ref h)] → W p l e (zR 5) s m args below meth c H locs 0 0 Q (F0 m 82 ls []) := by
                      intro N
                      induction N with
                      | zero =>
                        intro q  le4  hM hq0 hq hle4 hlt hsub H locs ls hW hl
                        exact absurd hM (by omega)
                      | succ N ih82 =>
                        intro q  le4  hM hq0 hq hle4 hlt hsub H locs ls hW hl
                        refine lv_iload_n hx hb dX1_colours_82 rfl (lv_at hl 0 rfl) ?_
                        refine lv_iload_n hx hb dX1_colours_83 rfl (lv_at hl 1 rfl) ?_
                        refine lv_icmp_gt (tgt := 160) hx hb dX1_colours_84 (by decide) (fun c84 => ?_) (fun c84 => ?_)
                        · have _ := 0
                          have c84 : t < q := z_lt (by omega) (by omega) c84
                          have hnext : ∀ s, s < 256 → le4 s = nI ((gF (fun s => Mf up ow s n) (usd (fun s => Mf up ow s n) 8) (t + 1)) s) := gF_done (by omega) (hsub (by omega)) (by rw [show q = t + 1 by omega] at hlt; exact hlt) hle4
                          refine lv_iinc (v := (nI (t + 1))) (lv' := [(2, .int (nI (t + 1))), (3, .int (nI q)), (1, .int (nI (usd (fun s => Mf up ow s n) 8))), (0, .ref h)]) hx hb dX1_colours_160 hl (k := 1) rfl (z_inc _) (by decide) rfl (fun ls hl => ?_)
                          refine lv_goto (tgt := 73) hx hb dX1_colours_163 (by decide) ?_
                          exact ih73 (t + 1) le4 (by omega) (by omega) (by omega) hnext _ _ _ hW (lv_sub hl [0, 2, 3] rfl)
                        · have _ := 0
                          have c84 : q ≤ t := z_nlt (by omega) (by omega) c84
                          refine lv_iload_n hx hb dX1_colours_87 rfl (lv_at hl 1 rfl) ?_
                          refine lv_iload_n hx hb dX1_colours_88 rfl (lv_at hl 2 rfl) ?_
                          refine lv_iconst (v := (-1)) hx hb dX1_colours_89 (by decide) ?_
                          refine lv_ixor hx hb dX1_colours_90 ?_
                          refine lv_iand hx hb dX1_colours_91 ?_
                          refine lv_if_ne (tgt := 160) hx hb dX1_colours_92 (by decide) (fun c92 => ?_) (fun c92 => ?_)
                          · have _ := 0
                            have hnext : ∀ s, s < 256 → le4 s = nI ((gF (fun s => Mf up ow s n) (usd (fun s => Mf up ow s n) 8) (t + 1)) s) := gF_skip (by omega) c92 (by omega) hsub hq0 hlt hle4
                            refine lv_iinc (v := (nI (t + 1))) (lv' := [(2, .int (nI (t + 1))), (3, .int (nI q)), (1, .int (nI (usd (fun s => Mf up ow s n) 8))), (0, .ref h)]) hx hb dX1_colours_160 hl (k := 1) rfl (z_inc _) (by decide) rfl (fun ls hl => ?_)
                            refine lv_goto (tgt := 73) hx hb dX1_colours_163 (by decide) ?_
                            exact ih73 (t + 1) le4 (by omega) (by omega) (by omega) hnext _ _ _ hW (lv_sub hl [0, 2, 3] rfl)
                          · have _ := 0
                            have hsub2 : t &&& (usd (fun s => Mf up ow s n) 8) = t := (z_subset (by omega) hus).mp c92
                            refine lv_iload_n hx hb dX1_colours_95 rfl (lv_at hl 0 rfl) ?_
                            refine lv_iload_n hx hb dX1_colours_96 rfl (lv_at hl 1 rfl) ?_
                            refine lv_iconst (v := (-1)) hx hb dX1_colours_97 (by decide) ?_
                            refine lv_ixor hx hb dX1_colours_98 ?_
                            refine lv_iand hx hb dX1_colours_99 ?_
                            refine lv_if_ne (tgt := 154) hx hb dX1_colours_100 (by decide) (fun c100 => ?_) (fun c100 => ?_)
                            · have _ := 0
                              have hcond : ¬ (q ≠ 0 ∧ q &&& t = q ∧ strg (fun s => Mf up ow s n) q 8 = true) := fun z => c100 ((z_subset (by omega) (by omega)).mpr z.2.1)
                              have hle5 := hle4
                              have hlt5 : le4 t = nI (inn (fun s => Mf up ow s n) (gF (fun s => Mf up ow s n) (usd (fun s => Mf up ow s n) 8) t) t (q + 1)) := by rw [hlt, inn, if_neg hcond]
                              refine lv_iinc (v := (nI (q + 1))) (lv' := [(3, .int (nI (q + 1))), (2, .int (nI t)), (1, .int (nI (usd (fun s => Mf up ow s n) 8))), (0, .ref h)]) hx hb dX1_colours_154 hl (k := 0) rfl (z_inc _) (by decide) rfl (fun ls hl => ?_)
                              refine lv_goto (tgt := 82) hx hb dX1_colours_157 (by decide) ?_
                              exact ih82 (q + 1) le4 (by omega) (by omega) (by omega) hle5 hlt5 (fun _ => hsub2) _ _ _ hW (lv_sub hl [0, 1, 2, 3] rfl)
                            · have _ := 0
                              have hqt : q &&& t = q := (z_subset (by omega) (by omega)).mp c100
                              have hxt : t ^^^ q < t := xor_lt hqt (by omega)
                              refine lv_aload_n hx hb dX1_colours_103 rfl (lv_at hl 3 rfl) ?_
                              refine zg1_al hx hb hts hown hK hW dX1_colours_104 ?_
                              refine lv_iload_n hx hb dX1_colours_107 rfl (lv_at hl 0 rfl) ?_
                              refine z_zald hx hb hK hW 4 3 rfl rfl q rfl (by omega) (by decide) dX1_colours_108 ?_
                              refine z_top (show (al2 q) = (nI (strg (fun s => Mf up ow s n) q 8).toNat) from hal q (by omega)) ?_
                              refine lv_if_eq (tgt := 154) hx hb dX1_colours_109 (by decide) (fun c109 => ?_) (fun c109 => ?_)
                              · have _ := 0
                                have c109 : (strg (fun s => Mf up ow s n) q 8) = false := z_b0 c109
                                have hcond : ¬ (q ≠ 0 ∧ q &&& t = q ∧ strg (fun s => Mf up ow s n) q 8 = true) := fun z => absurd (z.2.2.symm.trans c109) (by decide)
                                have hle5 := hle4
                                have hlt5 : le4 t = nI (inn (fun s => Mf up ow s n) (gF (fun s => Mf up ow s n) (usd (fun s => Mf up ow s n) 8) t) t (q + 1)) := by rw [hlt, inn, if_neg hcond]
                                refine lv_iinc (v := (nI (q + 1))) (lv' := [(3, .int (nI (q + 1))), (2, .int (nI t)), (1, .int (nI (usd (fun s => Mf up ow s n) 8))), (0, .ref h)]) hx hb dX1_colours_154 hl (k := 0) rfl (z_inc _) (by decide) rfl (fun ls hl => ?_)
                                refine lv_goto (tgt := 82) hx hb dX1_colours_157 (by decide) ?_
                                exact ih82 (q + 1) le4 (by omega) (by omega) (by omega) hle5 hlt5 (fun _ => hsub2) _ _ _ hW (lv_sub hl [0, 1, 2, 3] rfl)
                              · have _ := 0
                                have c109 : (strg (fun s => Mf up ow s n) q 8) = true := z_b1 c109
                                have hcond : q ≠ 0 ∧ q &&& t = q ∧ strg (fun s => Mf up ow s n) q 8 = true := ⟨by omega, hqt, c109⟩
                                have hg8 := gF_le (fun s => Mf up ow s n) (usd (fun s => Mf up ow s n) 8) t (t ^^^ q)
                                have hi8 := inn_le (fun s => Mf up ow s n) (gF (fun s => Mf up ow s n) (usd (fun s => Mf up ow s n) 8) t) t q
                                refine lv_aload_n hx hb dX1_colours_112 rfl (lv_at hl 3 rfl) ?_
                                refine zg1_le hx hb hts hown hK hW dX1_colours_113 ?_
                                refine lv_iload_n hx hb dX1_colours_116 rfl (lv_at hl 1 rfl) ?_
                                refine lv_iload_n hx hb dX1_colours_117 rfl (lv_at hl 0 rfl) ?_
                                refine lv_iconst (v := (-1)) hx hb dX1_colours_118 (by decide) ?_
                                refine lv_ixor hx hb dX1_colours_119 ?_
                                refine lv_iand hx hb dX1_colours_120 ?_
                                refine z_top (show ((nI t) &&& ((nI q) ^^^ (-1))) = (nI (t ^^^ q)) from z_diff (by omega) hqt) ?_
                                refine z_iald hx hb hK hW 5 2 rfl rfl (t ^^^ q) rfl (by omega) (by decide) dX1_colours_121 ?_
                                refine z_top (show (le4 (t ^^^ q)) = (nI ((gF (fun s => Mf up ow s n) (usd (fun s => Mf up ow s n) 8) t) (t ^^^ q))) from hle4 _ (by omega) (by omega)) ?_
                                refine lv_iconst (v := (nI 1)) hx hb dX1_colours_122 (by decide) ?_
                                refine lv_iadd hx hb dX1_colours_123 ?_
                                refine z_top (show ((nI ((gF (fun s => Mf up ow s n) (usd (fun s => Mf up ow s n) 8) t) (t ^^^ q))) + (nI 1)) = (nI (((gF (fun s => Mf up ow s n) (usd (fun s => Mf up ow s n) 8) t) (t ^^^ q)) + 1)) from nI_add _ _) ?_
                                refine lv_istore (lv' := [(4, .int (nI (((gF (fun s => Mf up ow s n) (usd (fun s => Mf up ow s n) 8) t) (t ^^^ q)) + 1))), (3, .int (nI q)), (2, .int (nI t)), (1, .int (nI (usd (fun s => Mf up ow s n) 8))), (0, .ref h)]) hx hb dX1_colours_124 hl (by decide) rfl (fun ls hl => ?_)
                                refine lv_aload_n hx hb dX1_colours_126 rfl (lv_at hl 4 rfl) ?_
                                refine zg1_le hx hb hts hown hK hW dX1_colours_127 ?_
                                refine lv_iload_n hx hb dX1_colours_130 rfl (lv_at hl 2 rfl) ?_
                                refine lv_iload hx hb dX1_colours_131 (lv_at hl 0 rfl) ?_
                                refine lv_aload_n hx hb dX1_colours_133 rfl (lv_at hl 4 rfl) ?_
                                refine zg1_le hx hb hts hown hK hW dX1_colours_134 ?_
                                refine lv_iload_n hx hb dX1_colours_137 rfl (lv_at hl 2 rfl) ?_
                                refine z_iald hx hb hK hW 5 2 rfl rfl t rfl (by omega) (by decide) dX1_colours_138 ?_
                                refine z_top (show (le4 t) = (nI (inn (fun s => Mf up ow s n) (gF (fun s => Mf up ow s n) (usd (fun s => Mf up ow s n) 8) t) t q)) from hlt) ?_
                                refine lv_icmp_ge (tgt := 147) hx hb dX1_colours_139 (by decide) (fun c139 => ?_) (fun c139 => ?_)
                                · have _ := 0
                                  have c139 : (inn (fun s => Mf up ow s n) (gF (fun s => Mf up ow s n) (usd (fun s => Mf up ow s n) 8) t) t q) ≤ (((gF (fun s => Mf up ow s n) (usd (fun s => Mf up ow s n) 8) t) (t ^^^ q)) + 1) := z_le (by omega) (by omega) c139
                                  refine lv_aload_n hx hb dX1_colours_147 rfl (lv_at hl 4 rfl) ?_
                                  refine zg1_le hx hb hts hown hK hW dX1_colours_148 ?_
                                  refine lv_iload_n hx hb dX1_colours_151 rfl (lv_at hl 2 rfl) ?_
                                  refine z_iald hx hb hK hW 5 2 rfl rfl t rfl (by omega) (by decide) dX1_colours_152 ?_
                                  refine z_top (show (le4 t) = (nI (inn (fun s => Mf up ow s n) (gF (fun s => Mf up ow s n) (usd (fun s => Mf up ow s n) 8) t) t q)) from hlt) ?_
                                  refine z_top (show (nI (inn (fun s => Mf up ow s n) (gF (fun s => Mf up ow s n) (usd (fun s => Mf up ow s n) 8) t) t q)) = (nI (inn (fun s => Mf up ow s n) (gF (fun s => Mf up ow s n) (usd (fun s => Mf up ow s n) 8) t) t (q + 1))) from (by rw [inn, if_pos hcond, if_neg (by omega)])) ?_
                                  refine z_iast (v := (nI (inn (fun s => Mf up ow s n) (gF (fun s => Mf up ow s n) (usd (fun s => Mf up ow s n) 8) t) t (q + 1)))) hx hb hK hW 5 2 rfl rfl t rfl (by omega) (by decide) rfl dX1_colours_153 (fun H locs hW => ?_)
                                  have hW : zH D A s (wM h ad dN dZ (nI n) up ow mb al2 (upd le4 t (nI (inn (fun s => Mf up ow s n) (gF (fun s => Mf up ow s n) (usd (fun s => Mf up ow s n) 8) t) t (q + 1))))) H locs := hW
                                  have hle5 := upd_ne (v := nI (inn (fun s => Mf up ow s n) (gF (fun s => Mf up ow s n) (usd (fun s => Mf up ow s n) 8) t) t (q + 1))) (k := t) hle4
                                  have hlt5 := upd_at (f := le4) (k := t) (v := nI (inn (fun s => Mf up ow s n) (gF (fun s => Mf up ow s n) (usd (fun s => Mf up ow s n) 8) t) t (q + 1)))
                                  refine lv_iinc (v := (nI (q + 1))) (lv' := [(3, .int (nI (q + 1))), (4, .int (nI (((gF (fun s => Mf up ow s n) (usd (fun s => Mf up ow s n) 8) t) (t ^^^ q)) + 1))), (2, .int (nI t)), (1, .int (nI (usd (fun s => Mf up ow s n) 8))), (0, .ref h)]) hx hb dX1_colours_154 hl (k := 1) rfl (z_inc _) (by decide) rfl (fun ls hl => ?_)
                                  refine lv_goto (tgt := 82) hx hb dX1_colours_157 (by decide) ?_
                                  exact ih82 (q + 1) (upd le4 t (nI (inn (fun s => Mf up ow s n) (gF (fun s => Mf up ow s n) (usd (fun s => Mf up ow s n) 8) t) t (q + 1)))) (by omega) (by omega) (by omega) hle5 hlt5 (fun _ => hsub2) _ _ _ hW (lv_sub hl [0, 2, 3, 4] rfl)
                                · have _ := 0
                                  have c139 : (((gF (fun s => Mf up ow s n) (usd (fun s => Mf up ow s n) 8) t) (t ^^^ q)) + 1) < (inn (fun s => Mf up ow s n) (gF (fun s => Mf up ow s n) (usd (fun s => Mf up ow s n) 8) t) t q) := z_nle (by omega) (by omega) c139
                                  refine lv_iload hx hb dX1_colours_142 (lv_at hl 0 rfl) ?_
                                  refine lv_goto (tgt := 153) hx hb dX1_colours_144 (by decide) ?_
                                  refine z_top (show (nI (((gF (fun s => Mf up ow s n) (usd (fun s => Mf up ow s n) 8) t) (t ^^^ q)) + 1)) = (nI (inn (fun s => Mf up ow s n) (gF (fun s => Mf up ow s n) (usd (fun s => Mf up ow s n) 8) t) t (q + 1))) from (by rw [inn, if_pos hcond, if_pos (by omega)])) ?_
                                  refine z_iast (v := (nI (inn (fun s => Mf up ow s n) (gF (fun s => Mf up ow s n) (usd (fun s => Mf up ow s n) 8) t) t (q + 1)))) hx hb hK hW 5 2 rfl rfl t rfl (by omega) (by decide) rfl dX1_colours_153 (fun H locs hW => ?_)
                                  have hW : zH D A s (wM h ad dN dZ (nI n) up ow mb al2 (upd le4 t (nI (inn (fun s => Mf up ow s n) (gF (fun s => Mf up ow s n) (usd (fun s => Mf up ow s n) 8) t) t (q + 1))))) H locs := hW
                                  have hle5 := upd_ne (v := nI (inn (fun s => Mf up ow s n) (gF (fun s => Mf up ow s n) (usd (fun s => Mf up ow s n) 8) t) t (q + 1))) (k := t) hle4
                                  have hlt5 := upd_at (f := le4) (k := t) (v := nI (inn (fun s => Mf up ow s n) (gF (fun s => Mf up ow s n) (usd (fun s => Mf up ow s n) 8) t) t (q + 1)))
                                  refine lv_iinc (v := (nI (q + 1))) (lv' := [(3, .int (nI (q + 1))), (4, .int (nI (((gF (fun s => Mf up ow s n) (usd (fun s => Mf up ow s n) 8) t) (t ^^^ q)) + 1))), (2, .int (nI t)), (1, .int (nI (usd (fun s => Mf up ow s n) 8))), (0, .ref h)]) hx hb dX1_colours_154 hl (k := 1) rfl (z_inc _) (by decide) rfl (fun ls hl => ?_)
                                  refine lv_goto (tgt := 82) hx hb dX1_colours_157 (by decide) ?_
                                  exact ih82 (q + 1) (upd le4 t (nI (inn (fun s => Mf up ow s n) (gF (fun s => Mf up ow s n) (usd (fun s => Mf up ow s n) 8) t) t (q + 1)))) (by omega) (by omega) (by omega) hle5 hlt5 (fun _ => hsub2) _ _ _ hW (lv_sub hl [0, 2, 3, 4] rfl)
                    exact hloop82 (t + 1) 1 le3 (by omega) (by omega) (by omega) (fun s hs _ => hle3 s hs) (by rw [hle3 t (by omega)]; exact congrArg nI (gF_at _ _ (by omega) (by omega))) (fun z => absurd z (by omega)) _ _ _ hW (lv_sub hl [0, 1, 2, 3] rfl)
              exact hloop73 256 1 le2 (by omega) (by omega) (by omega) hle0 _ _ _ hW (lv_sub hl [0, 1, 2] rfl)
            · have _ := 0
              have c35 : i < 256 := z_nle (by omega) (by omega) c35
              refine lv_aload_n hx hb dX1_colours_38 rfl (lv_at hl 2 rfl) ?_
              refine zg1_al hx hb hts hown hK hW dX1_colours_39 ?_
              refine lv_iload_n hx hb dX1_colours_42 rfl (lv_at hl 0 rfl) ?_
              refine lv_aload_n hx hb dX1_colours_43 rfl (lv_at hl 2 rfl) ?_
              refine lv_iload_n hx hb dX1_colours_44 rfl (lv_at hl 0 rfl) ?_
              refine zcallI (rest := [.int (nI i), .ref (ad 4)]) hx hb hml hown hts hK clX1_1_strangers (mM_strangers l D h ad dB dS dN dZ n up ow mb al2 le2 (fun s => Mf up ow s n) i hM8 hma (by omega)) ⟨Nat.le_of_ble_eq_true rfl, Nat.le_of_ble_eq_true rfl⟩ hW ⟨1, _, _, rfl, rfl, rfl⟩ rfl hl.1 rfl (Nat.le_of_ble_eq_true rfl) dX1_colours_45 ⟨Nat.le_refl 0, Nat.le_refl 0⟩ (fun v u H locs hv hW => ?_)
              subst hv
              refine z_zast (v := (nI (strg (fun s => Mf up ow s n) i 8).toNat)) hx hb hK hW 4 3 rfl rfl i rfl (by omega) (by decide) z_narz dX1_colours_48 (fun H locs hW => ?_)
              have hW : zH D A s (wM h ad dN dZ (nI n) up ow mb (upd al2 i (nI (strg (fun s => Mf up ow s n) i 8).toNat)) le2) H locs := hW
              refine lv_aload_n hx hb dX1_colours_49 rfl (lv_at hl 2 rfl) ?_
              refine zg1_le hx hb hts hown hK hW dX1_colours_50 ?_
              refine lv_iload_n hx hb dX1_colours_53 rfl (lv_at hl 0 rfl) ?_
              refine lv_iload_n hx hb dX1_colours_54 rfl (lv_at hl 0 rfl) ?_
              refine lv_if_ne (tgt := 62) hx hb dX1_colours_55 (by decide) (fun c55 => ?_) (fun c55 => ?_)
              · have _ := 0
                have c55 : 0 < i := z_ne0 c55
                have hvle : nI 8 = nI (if i = 0 then 0 else 8) := by rw [if_neg (by omega)]
                refine lv_bipush (v := (nI 8)) hx hb dX1_colours_62 (by decide) ?_
                refine z_iast (v := (nI 8)) hx hb hK hW 5 2 rfl rfl i rfl (by omega) (by decide) rfl dX1_colours_64 (fun H locs hW => ?_)
                have hW : zH D A s (wM h ad dN dZ (nI n) up ow mb (upd al2 i (nI (strg (fun s => Mf up ow s n) i 8).toNat)) (upd le2 i (nI 8))) H locs := hW
                refine lv_iinc (v := (nI (i + 1))) (lv' := [(2, .int (nI (i + 1))), (1, .int (nI (usd (fun s => Mf up ow s n) 8))), (0, .ref h)]) hx hb dX1_colours_65 hl (k := 0) rfl (z_inc _) (by decide) rfl (fun ls hl => ?_)
                refine lv_goto (tgt := 31) hx hb dX1_colours_68 (by decide) ?_
                exact ih31 (i + 1) (upd al2 i (nI (strg (fun s => Mf up ow s n) i 8).toNat)) (upd le2 i (nI 8)) (by omega) (by omega) (upd_ind hal) (upd_indv hle hvle) _ _ _ hW (lv_sub hl [0, 1, 2] rfl)
              · have _ := 0
                have c55 : i = 0 := z_eq0 (by omega) c55
                have hvle : nI 0 = nI (if i = 0 then 0 else 8) := by rw [if_pos c55]
                refine lv_iconst (v := (nI 0)) hx hb dX1_colours_58 (by decide) ?_
                refine lv_goto (tgt := 64) hx hb dX1_colours_59 (by decide) ?_
                refine z_iast (v := (nI 0)) hx hb hK hW 5 2 rfl rfl i rfl (by omega) (by decide) rfl dX1_colours_64 (fun H locs hW => ?_)
                have hW : zH D A s (wM h ad dN dZ (nI n) up ow mb (upd al2 i (nI (strg (fun s => Mf up ow s n) i 8).toNat)) (upd le2 i (nI 0))) H locs := hW
                refine lv_iinc (v := (nI (i + 1))) (lv' := [(2, .int (nI (i + 1))), (1, .int (nI (usd (fun s => Mf up ow s n) 8))), (0, .ref h)]) hx hb dX1_colours_65 hl (k := 0) rfl (z_inc _) (by decide) rfl (fun ls hl => ?_)
                refine lv_goto (tgt := 31) hx hb dX1_colours_68 (by decide) ?_
                exact ih31 (i + 1) (upd al2 i (nI (strg (fun s => Mf up ow s n) i 8).toNat)) (upd le2 i (nI 0)) (by omega) (by omega) (upd_ind hal) (upd_indv hle hvle) _ _ _ hW (lv_sub hl [0, 1, 2] rfl)
        exact hloop31 257 0 al le (by omega) (by omega) (fun s hs => absurd hs (by omega)) (fun s hs => absurd hs (by omega)) _ _ _ hW (lv_sub hl [0, 1, 2] rfl)
      · have _ := 0
        have c11 : i < 8 := z_nle (by omega) (by omega) c11
        refine lv_iload_n hx hb dX1_colours_14 rfl (lv_at hl 1 rfl) ?_
        refine lv_aload_n hx hb dX1_colours_15 rfl (lv_at hl 2 rfl) ?_
        refine zg1_ma hx hb hts hown hK hW dX1_colours_16 ?_
        refine lv_iload_n hx hb dX1_colours_19 rfl (lv_at hl 0 rfl) ?_
        refine z_iald hx hb hK hW 3 2 rfl rfl i rfl (by omega) (by decide) dX1_colours_20 ?_
        refine z_top (show (mb i) = (nI ((fun s => Mf up ow s n) i)) from hma i c11) ?_
        refine lv_ior hx hb dX1_colours_21 ?_
        refine z_top (show ((nI (usd (fun s => Mf up ow s n) i)) ||| (nI ((fun s => Mf up ow s n) i))) = (nI ((usd (fun s => Mf up ow s n) i) ||| ((fun s => Mf up ow s n) i))) from fa_or _ _) ?_
        refine z_top (show (nI ((usd (fun s => Mf up ow s n) i) ||| ((fun s => Mf up ow s n) i))) = (nI (usd (fun s => Mf up ow s n) (i + 1))) from rfl) ?_
        refine lv_istore_n (lv' := [(1, .int (nI (usd (fun s => Mf up ow s n) (i + 1)))), (2, .int (nI i)), (0, .ref h)]) hx hb dX1_colours_22 rfl hl (by decide) rfl (fun ls hl => ?_)
        refine lv_iinc (v := (nI (i + 1))) (lv' := [(2, .int (nI (i + 1))), (1, .int (nI (usd (fun s => Mf up ow s n) (i + 1)))), (0, .ref h)]) hx hb dX1_colours_23 hl (k := 1) rfl (z_inc _) (by decide) rfl (fun ls hl => ?_)
        refine lv_goto (tgt := 8) hx hb dX1_colours_26 (by decide) ?_
        exact ih8 (i + 1) (by omega) (by omega) _ _ _ hW (lv_sub hl [0, 1, 2] rfl)
  exact hloop8 9 0 (by omega) (by omega) _ _ _ hW (lv_sub hl [0, 1, 2] rfl)
end
section
/-! the order from the roots down, and what the classes understand -/
theorem par_neg {n : Nat} {e : Int32} (hn : n ≤ 10) (h : Par n e) (hc : e < 0) : e = -1 := h.resolve_right (fun ⟨j, hj, q⟩ => absurd hc (by rw [q]; exact nI_pos (by omega)))
theorem par_ge {n : Nat} {e : Int32} (h : Par n e) (hc : ¬ e < 0) : ∃ j, j < n ∧ e = nI j := h.resolve_left (fun q => hc (by rw [q]; decide))
theorem nI_m1 {j : Nat} (h : j < 2147483648) : (-1 : Int32) ≠ nI j := by
  intro q
  have := congrArg Int32.toInt q
  rw [nI_toInt (by omega)] at this
  have h3 : (-1 : Int32).toInt = -1 := rfl
  omega
theorem or_bit {m x c : Nat} (h : m.testBit x = true) : (m ||| 2 ^ c).testBit x = true := by rw [Nat.testBit_or, h]; rfl
theorem or_self {m c : Nat} : (m ||| 2 ^ c).testBit c = true := by rw [Nat.testBit_or, Nat.testBit_two_pow_self, Bool.or_true]
theorem or_ne {m x c : Nat} (h : x ≠ c) : (m ||| 2 ^ c).testBit x = m.testBit x := by
  rw [Nat.testBit_or, Nat.testBit_two_pow, decide_eq_false (fun q => h q.symm), Bool.or_false]
theorem lt_bit {rk : Nat → Nat} {r m c : Nat} (h : ∀ x, x < c → rk x < r + 1 → m.testBit x = true) (hc : m.testBit c = true) : ∀ x, x < c + 1 → rk x < r + 1 → m.testBit x = true := by
  intro x hx h2
  by_cases e : x = c
  · subst e; exact hc
  · exact h x (by omega) h2
theorem sd_wait {n : Nat} {U : Nat → Int32} {rk : Nat → Nat} {r m c j : Nat} (hrk : Rank n U rk) (h1 : ∀ x, x < n → rk x < r → m.testBit x = true) (h2 : ∀ x, x < c → rk x < r + 1 → m.testBit x = true) (hc : c < n) (hj : j < n) (hU : U c = nI j) (hb : m.testBit j = false) : ∀ x, x < c + 1 → rk x < r + 1 → m.testBit x = true := by
  intro x hx h3
  by_cases e : x = c
  · subst e
    have h4 := hrk.2 x j hc hj hU
    have h5 := h1 j hj (by omega)
    rw [hb] at h5
    cases h5
  · exact h2 x (by omega) h3
theorem sd_nx {rk : Nat → Nat} {r m c : Nat} (h2 : ∀ x, x < c → rk x < r + 1 → m.testBit x = true) : ∀ x, x < c + 1 → rk x < r + 1 → (m ||| 2 ^ c).testBit x = true := by
  intro x hx h3
  by_cases e : x = c
  · subst e; exact or_self
  · exact or_bit (h2 x (by omega) h3)
theorem sd_0 {n : Nat} {U dn : Nat → Int32} : SD n U 0 0 dn := by
  refine ⟨by omega, ?_, fun k hk => absurd hk (by omega), fun c _ h => ?_⟩
  · symm
    rw [fb_ct_zero]
    intro k _
    exact Nat.zero_testBit k
  · rw [Nat.zero_testBit] at h
    cases h
theorem sd_room {n : Nat} {U dn : Nat → Int32} {m q c : Nat} (h : SD n U m q dn) (hc : c < n) (hw : m.testBit c = false) : q < n := by
  have h1 := fb_ct_le (fun c => m.testBit c) n
  rw [← h.2.1] at h1
  rcases Nat.lt_or_ge q n with y | y
  · exact y
  · have e : fb_ct (fun c => m.testBit c) n = n := by rw [← h.2.1]; omega
    have h2 := fb_ct_all.mp e c hc
    rw [hw] at h2
    cases h2
theorem sd_add {n : Nat} {U dn : Nat → Int32} {m q c : Nat} (h : SD n U m q dn) (hc : c < n) (hw : m.testBit c = false) (hfr : U c = -1 ∨ ∃ j, j < n ∧ U c = nI j ∧ m.testBit j = true) (hn : n ≤ 10 := by assumption) : SD n U (m ||| 2 ^ c) (q + 1) (upd dn q (nI c)) := by
  obtain ⟨h1, h2, h3, h4⟩ := h
  have hold : ∀ k, k < q → upd dn q (nI c) k = dn k := fun k hk => pk_un (by omega)
  have hpar : U c = -1 ∨ ∃ j, j < q ∧ dn j = U c := by
    rcases hfr with e | ⟨j, hj, e, hb⟩
    · exact Or.inl e
    · obtain ⟨k, hk, e2⟩ := h4 j hj hb
      exact Or.inr ⟨k, hk, e2.trans e.symm⟩
  refine ⟨?_, ?_, ?_, ?_⟩
  · have h5 : 2 ^ c < 2 ^ 10 := Nat.pow_lt_pow_right (by decide) (by omega)
    exact Nat.or_lt_two_pow (n := 10) h1 h5
  · have h5 := fb_ct_upd (fun c => m.testBit c) true hc
    rw [if_neg (by show ¬ m.testBit c = true; rw [hw]; decide), if_pos rfl] at h5
    rw [h2]
    have h6 : fb_ct (fun k => if k = c then true else m.testBit k) n = fb_ct (fun k => (m ||| 2 ^ c).testBit k) n := by
      refine fb_ct_cong (fun k _ => ?_)
      by_cases e : k = c
      · subst e; rw [if_pos rfl, or_self]
      · rw [if_neg e, or_ne e]
    rw [h6] at h5
    omega
  · intro k hk
    by_cases e : k = q
    · subst e
      refine ⟨c, hc, pk_us, or_self, ?_⟩
      rcases hpar with e2 | ⟨j, hj, e2⟩
      · exact Or.inl e2
      · exact Or.inr ⟨j, hj, by rw [hold j hj]; exact e2⟩
    · obtain ⟨c2, a1, a2, a3, a4⟩ := h3 k (by omega)
      refine ⟨c2, a1, by rw [hold k (by omega)]; exact a2, or_bit a3, ?_⟩
      rcases a4 with e2 | ⟨j, hj, e2⟩
      · exact Or.inl e2
      · exact Or.inr ⟨j, hj, by rw [hold j (by omega)]; exact e2⟩
  · intro c2 hc2 hb
    by_cases e : c2 = c
    · subst e; exact ⟨q, by omega, pk_us⟩
    · rw [or_ne e] at hb
      obtain ⟨k, hk, e2⟩ := h4 c2 hc2 hb
      exact ⟨k, by omega, by rw [hold k hk]; exact e2⟩
theorem sd_done {n : Nat} {U dn : Nat → Int32} {rk : Nat → Nat} {m q : Nat} (hn : n ≤ 10) (hrk : Rank n U rk) (h : SD n U m q dn) (hall : ∀ x, x < n → m.testBit x = true) : ∃ o, Topo n U o ∧ ∀ k, k < n → dn k = nI (o k) := by
  obtain ⟨h1, h2, h3, h4⟩ := h
  have e : q = n := by rw [h2]; exact fb_ct_all.mpr hall
  subst e
  have ho : ∀ k, k < q → dn k = nI (dn k).toNatClampNeg := by
    intro k hk
    obtain ⟨c, a1, a2, -⟩ := h3 k hk
    rw [a2, nI_clamp (by omega)]
  refine ⟨fun k => (dn k).toNatClampNeg, ⟨?_, ?_, ?_⟩, ho⟩
  · intro k hk
    obtain ⟨c, a1, a2, -⟩ := h3 k hk
    show (dn k).toNatClampNeg < q
    rw [a2, nI_clamp (by omega)]
    exact a1
  · intro c hc
    obtain ⟨k, hk, e2⟩ := h4 c hc (hall c hc)
    exact ⟨k, hk, by show (dn k).toNatClampNeg = c; rw [e2, nI_clamp (by omega)]⟩
  · intro k hk
    obtain ⟨c, a1, a2, -, a4⟩ := h3 k hk
    have ec : (dn k).toNatClampNeg = c := by rw [a2, nI_clamp (by omega)]
    show U (dn k).toNatClampNeg = -1 ∨ ∃ j, j < k ∧ U (dn k).toNatClampNeg = nI (dn j).toNatClampNeg
    rw [ec]
    rcases a4 with e2 | ⟨j, hj, e2⟩
    · exact Or.inl e2
    · exact Or.inr ⟨j, hj, by rw [← ho j (by omega)]; exact e2.symm⟩
theorem ct_lt {p q : Nat → Bool} {n j : Nat} (h : ∀ k, k < n → p k = true → q k = true) (hj : j < n) (hp : p j = false) (hq : q j = true) : fb_ct p n < fb_ct q n := by
  have h1 := fb_ct_upd p true hj
  rw [if_neg (by rw [hp]; decide), if_pos rfl] at h1
  have h2 : fb_ct (fun k => if k = j then true else p k) n ≤ fb_ct q n := by
    refine fb_ct_sub (fun k hk e => ?_)
    by_cases e2 : k = j
    · subst e2; exact hq
    · rw [if_neg e2] at e; exact h k hk e
  omega
/-- a rank below n out of any rank -/
theorem rank_of {n : Nat} {U : Nat → Int32} (h : ∃ r : Nat → Nat, ∀ c j, c < n → j < n → U c = nI j → r j < r c) : ∃ rk, Rank n U rk := by
  obtain ⟨r, hr⟩ := h
  refine ⟨fun c => fb_ct (fun y => decide (r y < r c)) n, fun c hc => ?_, fun c j hc hj hU => ?_⟩
  · show fb_ct (fun y => decide (r y < r c)) n < n
    have h1 := fb_ct_le (fun y => decide (r y < r c)) n
    rcases Nat.lt_or_ge (fb_ct (fun y => decide (r y < r c)) n) n with y | y
    · exact y
    · have h2 := fb_ct_all.mp (show fb_ct (fun y => decide (r y < r c)) n = n by omega) c hc
      simp at h2
  · show fb_ct (fun y => decide (r y < r j)) n < fb_ct (fun y => decide (r y < r c)) n
    have h1 := hr c j hc hj hU
    refine ct_lt (j := j) (fun k _ e => ?_) hj (by simp) (by simp [h1])
    simp only [decide_eq_true_eq] at e ⊢
    omega
theorem own_fuel {n : Nat} {U d : Nat → Int32} {rk : Nat → Nat} {s : Nat} (hn : n ≤ 10) (hU : ∀ k, k < n → Par n (U k)) (hrk : Rank n U rk) : ∀ (f j : Nat), j < n → rk j < f → ownF U d s f (nI j) = ownF U d s (f + 1) (nI j)
  | 0, j, _, h => absurd h (by omega)
  | f + 1, j, hj, h => by
    by_cases hc : 0 < d (8 * j + s)
    · rw [own_hit (by omega) hc, own_hit (by omega) hc]
    · rw [own_step (by omega) hc, own_step (by omega) hc]
      rcases hU j hj with e | ⟨i, hi, e⟩
      · rw [e]
        have h0 : ∀ g, ownF U d s g (-1) = -1 := fun g => by
          cases g with
          | zero => rfl
          | succ g => exact own_neg (by decide)
        rw [h0, h0]
      · rw [e]
        have h1 := hrk.2 j i hj hi e
        exact own_fuel hn hU hrk f i hi (by omega)
/-- the owner, one step up -/
theorem own_eq {n : Nat} {U d : Nat → Int32} {s c : Nat} (hL : LInv n U d) (hc : c < n) : (0 < d (8 * c + s) → ownF U d s 10 (nI c) = nI c) ∧ (¬ 0 < d (8 * c + s) → U c = -1 → ownF U d s 10 (nI c) = -1) ∧ ∀ j, ¬ 0 < d (8 * c + s) → j < n → U c = nI j → ownF U d s 10 (nI c) = ownF U d s 10 (nI j) := by
  obtain ⟨hn, hU, hr, -⟩ := hL
  obtain ⟨rk, hrk⟩ := rank_of hr
  refine ⟨fun h => own_hit (by omega) h, fun h e => ?_, fun j h hj e => ?_⟩
  · rw [own_step (f := 9) (by omega) h, e]
    exact own_neg (f := 8) (by decide)
  · rw [own_step (f := 9) (by omega) h, e]
    have h1 := hrk.2 c j hc hj e
    have h2 := hrk.1 c hc
    exact own_fuel hn hU hrk 9 j hj (by omega)
theorem d_pos {x : Int32} (h : ∃ q, q ≤ 1000 ∧ x = nI q) : 0 < x ↔ ¬ x = 0 := by
  obtain ⟨q, hq, rfl⟩ := h
  constructor
  · intro a
    have := z_gt0 a
    exact nI_ne0 this (by omega)
  · intro a
    rw [← nI_0]
    exact nI_lt (z_ne0 a) (by omega)
theorem mk_or (P R : Nat → Bool) (m : Nat) : mk P m ||| mk R m = mk (fun s => P s || R s) m := by
  apply Nat.eq_of_testBit_eq
  intro i
  rw [Nat.testBit_or, mk_bit, mk_bit, mk_bit]
  cases decide (i < m) <;> simp
theorem ownM_cong {d df : Nat → Int32} {c : Nat} (hc : c < 10) (hdf : ∀ j, j < 80 → df j = d j) : ownM df c = ownM d c := by
  refine mk_cong (fun s hs => ?_)
  rw [hdf _ (by omega)]
theorem Kf_root {n : Nat} {U d df : Nat → Int32} {c : Nat} (hL : LInv n U d) (hdf : ∀ j, j < 80 → df j = d j) (hc : c < n) (hU : U c = -1) : nI (0 ||| ownM df c) = nI (Kf U d c) := by
  have hn := hL.1
  rw [Nat.zero_or, ownM_cong (by omega) hdf]
  refine congrArg nI (mk_cong (fun s hs => ?_))
  obtain ⟨h1, h2, -⟩ := own_eq (s := s) hL hc
  have hd := d_pos (hL.2.2.2.1 (8 * c + s) (by omega))
  by_cases hb : 0 < d (8 * c + s)
  · rw [h1 hb, decide_eq_true (hd.mp hb), decide_eq_true (nI_pos' (by omega))]
  · rw [h2 hb hU, decide_eq_false (fun q => hb (hd.mpr q))]
    rfl
theorem Kf_up {n : Nat} {U d df : Nat → Int32} {c j : Nat} (hL : LInv n U d) (hdf : ∀ j, j < 80 → df j = d j) (hc : c < n) (hU : U c = nI j) (hj : j < n := by assumption) : nI (Kf U d j ||| ownM df c) = nI (Kf U d c) := by
  have hn := hL.1
  rw [ownM_cong (by omega) hdf]
  unfold Kf ownM
  rw [mk_or]
  refine congrArg nI (mk_cong (fun s hs => ?_))
  obtain ⟨h1, -, h3⟩ := own_eq (s := s) hL hc
  have hd := d_pos (hL.2.2.2.1 (8 * c + s) (by omega))
  show (decide (0 ≤ ownF U d s 10 (nI j)) || decide (¬ d (8 * c + s) = 0)) = decide (0 ≤ ownF U d s 10 (nI c))
  by_cases hb : 0 < d (8 * c + s)
  · rw [h1 hb, decide_eq_true (hd.mp hb), decide_eq_true (nI_pos' (show c < 2 ^ 31 by omega)), Bool.or_true]
  · rw [h3 j hb hj hU, decide_eq_false (fun q => hb (hd.mpr q)), Bool.or_false]
theorem lrn_next {kn : Nat → Int32} {o K : Nat → Nat} {k : Nat} (h : ∀ i, i < k → kn (o i) = nI (K (o i))) : ∀ i, i < k + 1 → upd kn (o k) (nI (K (o k))) (o i) = nI (K (o i)) := by
  intro i hi
  by_cases e : o i = o k
  · rw [e]; exact pk_us
  · rw [pk_un e]
    exact h i (by
      rcases Nat.lt_or_ge i k with y | y
      · exact y
      · exact absurd (by rw [show i = k by omega]) e)
theorem lrn_par {n : Nat} {U kn : Nat → Int32} {o K : Nat → Nat} {k j : Nat} (ho : Topo n U o) (hn : n ≤ 10) (hk : k < n) (hj : j < n) (hU : U (o k) = nI j) (h : ∀ i, i < k → kn (o i) = nI (K (o i))) : kn j = nI (K j) := by
  rcases ho.2.2 k hk with e | ⟨i, hi, e⟩
  · exact absurd (e.symm.trans hU) (nI_m1 (by omega))
  · have h2 := ho.1 i (by omega)
    have e2 : o i = j := z_eq (by omega) (by omega) (e.symm.trans hU)
    rw [← e2]
    exact h i hi
theorem lrn_all {n : Nat} {U kn : Nat → Int32} {o K : Nat → Nat} (ho : Topo n U o) (h : ∀ i, i < n → kn (o i) = nI (K (o i))) : ∀ c, c < n → kn c = nI (K c) := by
  intro c hc
  obtain ⟨k, hk, rfl⟩ := ho.2.1 c hc
  exact h k hk
end
section
/-! the line of selectors, the colours' helpers -/
def LU (M : Nat → Nat) (r m L : Nat) (l : Nat → Nat) (li : Nat → Int32) : Prop := m < 256 ∧ L ≤ r ∧ (∀ k, k < L → l k < 8 ∧ li k = nI (l k) ∧ M (l k) ≠ 0 ∧ m.testBit (l k) = true) ∧ (∀ i j, i < L → j < L → l i = l j → i = j) ∧ (∀ s, s < 8 → m.testBit s = true → ∃ k, k < L ∧ l k = s) ∧ (L = r ∨ ∀ s, s < 8 → m.testBit s = false → M s = 0)
def Top (M : Nat → Nat) (m i : Nat) (tp mo : Int32) : Prop := (tp = -1 ∧ mo = nI 0 ∧ ∀ x, x < i → m.testBit x = false → pcnt (M x) 8 = 0) ∨ ∃ t, t < i ∧ tp = nI t ∧ mo = nI (pcnt (M t) 8) ∧ m.testBit t = false ∧ 0 < pcnt (M t) 8
def TT (M : Nat → Nat) (m t : Nat) : Prop := t < 8 ∧ m.testBit t = false ∧ M t ≠ 0
theorem pcnt_zero {a : Nat} (ha : a < 256) (h : pcnt a 8 = 0) : a = 0 := by
  apply Nat.eq_of_testBit_eq
  intro i
  rw [Nat.zero_testBit]
  by_cases hi : i < 8
  · have key : ∀ m, pcnt a m = 0 → ∀ i, i < m → a.testBit i = false := by
      intro m
      induction m with
      | zero => intro _ i hi; omega
      | succ m ih =>
        intro h0 i hi
        unfold pcnt at h0
        by_cases e : i = m
        · subst e
          cases hb : a.testBit i with
          | false => rfl
          | true => rw [hb] at h0; simp at h0
        · exact ih (by omega) i (by omega)
    exact key 8 h i hi
  · exact Nat.testBit_lt_two_pow (Nat.lt_of_lt_of_le ha (Nat.pow_le_pow_right (n := 2) (by decide) (show 8 ≤ i by omega)))
theorem pcnt_0 : pcnt 0 8 = 0 := by decide
theorem top_0 {M : Nat → Nat} {m : Nat} : Top M m 0 (-1) (nI 0) := Or.inl ⟨rfl, rfl, fun x hx => absurd hx (by omega)⟩
theorem top_skip {M : Nat → Nat} {m i : Nat} {tp mo : Int32} (h : Top M m i tp mo) (hc : m.testBit i = true ∨ nI (pcnt (M i) 8) ≤ mo) : Top M m (i + 1) tp mo := by
  have h8 := pcnt_le (M i) 8
  rcases h with ⟨rfl, rfl, h3⟩ | ⟨t, h1, h2⟩
  · refine Or.inl ⟨rfl, rfl, fun x hx hb => ?_⟩
    by_cases e : x = i
    · subst e
      rcases hc with hc | hc
      · rw [hb] at hc; cases hc
      · have := z_le (by omega) (by omega) hc; omega
    · exact h3 x (by omega) hb
  · exact Or.inr ⟨t, by omega, h2⟩
theorem top_take {M : Nat → Nat} {m i : Nat} {tp mo : Int32} (h : Top M m i tp mo) (hb : m.testBit i = false) (hc : ¬ nI (pcnt (M i) 8) ≤ mo) : Top M m (i + 1) (nI i) (nI (pcnt (M i) 8)) := by
  have h8 := pcnt_le (M i) 8
  refine Or.inr ⟨i, by omega, rfl, rfl, hb, ?_⟩
  rcases h with ⟨-, rfl, -⟩ | ⟨t, -, -, rfl, -⟩
  · have := z_nle (by omega) (by omega) hc; omega
  · have h9 := pcnt_le (M t) 8
    have := z_nle (by omega) (by omega) hc; omega
theorem top_none {M : Nat → Nat} {m : Nat} {tp mo : Int32} (hM8 : ∀ s, s < 8 → M s < 256) (h : Top M m 8 tp mo) (hc : tp < 0) : ∀ s, s < 8 → m.testBit s = false → M s = 0 := by
  intro s hs hb
  rcases h with ⟨-, -, h3⟩ | ⟨t, h1, rfl, -⟩
  · exact pcnt_zero (hM8 s hs) (h3 s hs hb)
  · exact absurd hc (nI_pos (by omega))
theorem top_some {M : Nat → Nat} {m : Nat} {tp mo : Int32} (h : Top M m 8 tp mo) (hc : ¬ tp < 0) : ∃ t, tp = nI t ∧ TT M m t := by
  rcases h with ⟨rfl, -⟩ | ⟨t, h1, rfl, -, h4, h5⟩
  · exact absurd (by decide) hc
  · exact ⟨t, rfl, h1, h4, fun e => by rw [e, pcnt_0] at h5; omega⟩
theorem lu_0 {M : Nat → Nat} {l : Nat → Nat} {li : Nat → Int32} : LU M 0 0 0 l li := ⟨by omega, by omega, fun k hk => absurd hk (by omega), fun i j hi => absurd hi (by omega), fun s _ h => (by rw [Nat.zero_testBit] at h; cases h), Or.inl rfl⟩
theorem lu_stay {M : Nat → Nat} {r m L : Nat} {l : Nat → Nat} {li : Nat → Int32} (h : LU M r m L l li) (hr : r < 8) (hno : ∀ s, s < 8 → m.testBit s = false → M s = 0) : LU M (r + 1) m L l li := by
  obtain ⟨h1, h2, h3, h4, h5, -⟩ := h
  exact ⟨h1, by omega, h3, h4, h5, Or.inr hno⟩
theorem fup_s {g : Nat → Nat} {k v : Nat} : fup g k v k = v := if_pos rfl
theorem fup_n {g : Nat → Nat} {k v j : Nat} (h : j ≠ k) : fup g k v j = g j := if_neg h
theorem lu_add {M : Nat → Nat} {r m L t : Nat} {l : Nat → Nat} {li : Nat → Int32} (h : LU M r m L l li) (hr : r < 8) (ht : TT M m t) : LU M (r + 1) (m ||| 2 ^ t) (L + 1) (fup l L t) (upd li L (nI t)) := by
  obtain ⟨h1, h2, h3, h4, h5, h6⟩ := h
  obtain ⟨t1, t2, t3⟩ := ht
  have hne : ∀ k, k < L → l k ≠ t := fun k hk e => by
    have := (h3 k hk).2.2.2
    rw [e, t2] at this
    cases this
  refine ⟨?_, by omega, ?_, ?_, ?_, ?_⟩
  · have h7 : 2 ^ t < 2 ^ 8 := Nat.pow_lt_pow_right (by decide) t1
    exact Nat.or_lt_two_pow (n := 8) h1 h7
  · intro k hk
    by_cases e : k = L
    · subst e; rw [fup_s]; exact ⟨t1, pk_us, t3, or_self⟩
    · rw [fup_n e, pk_un e]
      obtain ⟨a1, a2, a3, a4⟩ := h3 k (by omega)
      exact ⟨a1, a2, a3, or_bit a4⟩
  · intro i j hi hj e
    by_cases ei : i = L
    · by_cases ej : j = L
      · omega
      · rw [ei, fup_s, fup_n ej] at e
        exact absurd e.symm (hne j (by omega))
    · by_cases ej : j = L
      · rw [ej, fup_s, fup_n ei] at e
        exact absurd e (hne i (by omega))
      · rw [fup_n ei, fup_n ej] at e
        exact h4 i j (by omega) (by omega) e
  · intro s hs hb
    by_cases e : s = t
    · subst e; exact ⟨L, by omega, fup_s⟩
    · rw [or_ne e] at hb
      obtain ⟨k, hk, e2⟩ := h5 s hs hb
      exact ⟨k, by omega, by rw [fup_n (by omega)]; exact e2⟩
  · rcases h6 with e | e
    · exact Or.inl (by omega)
    · exact absurd (e t t1 t2) t3
theorem lu_done {M : Nat → Nat} {m L : Nat} {l : Nat → Nat} {li : Nat → Int32} (h : LU M 8 m L l li) : ∃ L' l', Lin M L' l' ∧ nI L = nI L' ∧ ∀ k, k < L' → li k = nI (l' k) := by
  obtain ⟨h1, h2, h3, h4, h5, h6⟩ := h
  refine ⟨L, l, ⟨h2, fun k hk => (h3 k hk).1, h4, fun s hs => ⟨fun hM => ?_, fun ⟨k, hk, e⟩ => ?_⟩⟩, rfl, fun k hk => (h3 k hk).2.1⟩
  · rcases h6 with e | e
    · subst e
      exact fb_onto (fun i hi => (h3 i hi).1) (fun i j hij hj q => absurd (h4 i j (by omega) hj q) (by omega)) hs
    · cases hb : m.testBit s with
      | false => exact absurd (e s hs hb) hM
      | true => exact h5 s hs hb
  · rw [← e]; exact (h3 k hk).2.2.1
theorem opn_8 {g : Nat → Nat} {k : Nat} (h : opn g k ≤ 8) (hg : g k < 8) : opn g (k + 1) ≤ 8 := by
  unfold opn
  split <;> omega
theorem brd_lt' {M l g : Nat → Nat} {v : Nat} : ∀ k, (∀ i, i < k → g i < 8) → brd M l g v k < 256
  | 0, _ => by show 0 < 256; omega
  | k + 1, h => by
    have ih := brd_lt' (M := M) (l := l) (v := v) k (fun i hi => h i (by omega))
    unfold brd
    split
    · have h7 : 2 ^ g k < 2 ^ 8 := Nat.pow_lt_pow_right (by decide) (h k (by omega))
      exact Nat.or_lt_two_pow (n := 8) ih h7
    · exact ih
theorem brd_lt (M l g : Nat → Nat) (v : Nat) (h : ∀ k, k < v → g k < 8) : brd M l g v v < 256 := brd_lt' v h
theorem nx_all {B c y : Nat} (h : ∀ z, c ≤ z → z < y → B.testBit z = true) (hy : B.testBit y = true) : ∀ z, c ≤ z → z < y + 1 → B.testBit z = true := by
  intro z h1 h2
  by_cases e : z = y
  · subst e; exact hy
  · exact h z h1 (by omega)
theorem keep_1 {be : Nat → Int32} {l g : Nat → Nat} {L k : Nat} (hinj : ∀ i j, i < L → j < L → l i = l j → i = j) (hk : k < L) (h : ∀ i, i < k → be (l i) = nI (g i)) : ∀ i, i < k + 1 → upd be (l k) (nI (g k)) (l i) = nI (g i) := by
  intro i hi
  by_cases e : i = k
  · subst e; exact pk_us
  · rw [pk_un (fun q => e (hinj i k (by omega) hk q))]
    exact h i (by omega)
theorem keep_2 {be be0 : Nat → Int32} {l : Nat → Nat} {L k : Nat} {v : Int32} (hk : k < L) (h : ∀ s, (∀ k, k < L → l k ≠ s) → be s = be0 s) : ∀ s, (∀ k, k < L → l k ≠ s) → upd be (l k) v s = be0 s := by
  intro s hs
  rw [pk_un (fun q => hs k hk q.symm)]
  exact h s hs
theorem fit_next {ec : Nat → Int32} {b : Nat → Nat} {Kc a i : Nat} (h : ∀ s, s < i → Kc.testBit s = true → ec (a + b s) < 0) (hc : Kc.testBit i = false ∨ ec (a + b i) < 0) : ∀ s, s < i + 1 → Kc.testBit s = true → ec (a + b s) < 0 := by
  intro s hs hb
  by_cases e : s = i
  · subst e
    rcases hc with hc | hc
    · rw [hb] at hc; cases hc
    · exact hc
  · exact h s (by omega) hb
theorem tog_false {M : Nat → Nat} {t i : Nat} (hi : i ≤ 8) (h : tog M t i = false) : tog M t 8 = false := by
  have key : ∀ d, tog M t (i + d) = false := by
    intro d
    induction d with
    | zero => exact h
    | succ d ih =>
      show tog M t (i + d + 1) = false
      unfold tog
      split
      · rw [ih]; rfl
      · exact ih
  have := key (8 - i)
  rwa [show i + (8 - i) = 8 by omega] at this
end
section
/-! the search for colours: its position, what lies ahead of it, how long it can go on -/
def Rg (M l : Nat → Nat) (L : Nat) (w : Nat → Nat) : Prop := ∀ k, k < L → w k ≤ opn w k ∧ ∀ j, j < k → (M (l k)).testBit (l j) = true → w k ≠ w j
def Ah (k c : Nat) (g w : Nat → Nat) : Prop := (∃ j, j < k ∧ (∀ i, i < j → w i = g i) ∧ g j < w j) ∨ ((∀ i, i < k → w i = g i) ∧ c ≤ w k)
def PS (M l : Nat → Nat) (L k c : Nat) (g : Nat → Nat) (x : Nat) : Prop := k < L ∧ c ≤ k + 1 ∧ (∀ j, j < k → g j ≤ opn g j ∧ ∀ i, i < j → (M (l j)).testBit (l i) = true → g j ≠ g i) ∧ ∀ w, Rg M l L w → opn w L < x → Ah k c g w
theorem opn_le {g : Nat → Nat} : ∀ {k : Nat}, (∀ j, j < k → g j ≤ opn g j) → opn g k ≤ k
  | 0, _ => Nat.le_refl _
  | k + 1, h => by
    have ih := opn_le (g := g) (k := k) (fun j hj => h j (by omega))
    have h1 := h k (by omega)
    unfold opn
    split <;> omega
theorem opn_succ (g : Nat → Nat) (k : Nat) : opn g k ≤ opn g (k + 1) ∧ g k < opn g (k + 1) := by
  constructor
  · conv => rhs; unfold opn
    split <;> omega
  · conv => rhs; unfold opn
    split <;> omega
theorem opn_mono (g : Nat → Nat) (k : Nat) : ∀ d, opn g k ≤ opn g (k + d)
  | 0 => Nat.le_refl _
  | d + 1 => Nat.le_trans (opn_mono g k d) (opn_succ g (k + d)).1
theorem opn_cong {g w : Nat → Nat} : ∀ {k : Nat}, (∀ i, i < k → w i = g i) → opn w k = opn g k
  | 0, _ => rfl
  | k + 1, h => by
    have ih := opn_cong (g := g) (w := w) (k := k) (fun i hi => h i (by omega))
    unfold opn
    rw [ih, h k (by omega)]
theorem brd_iff {M l g : Nat → Nat} {v x : Nat} : ∀ {k : Nat}, (brd M l g v k).testBit x = true ↔ ∃ j, j < k ∧ (M (l v)).testBit (l j) = true ∧ g j = x
  | 0 => by
    show (0 : Nat).testBit x = true ↔ _
    rw [Nat.zero_testBit]
    exact ⟨fun h => (by cases h), fun ⟨j, hj, _⟩ => (by omega)⟩
  | k + 1 => by
    have ih := brd_iff (M := M) (l := l) (g := g) (v := v) (x := x) (k := k)
    unfold brd
    by_cases hb : (M (l v)).testBit (l k) = true
    · rw [if_pos hb]
      by_cases e : x = g k
      · subst e
        exact ⟨fun _ => ⟨k, by omega, hb, rfl⟩, fun _ => or_self⟩
      · rw [or_ne e, ih]
        constructor
        · rintro ⟨j, hj, h2⟩; exact ⟨j, by omega, h2⟩
        · rintro ⟨j, hj, h2, h3⟩
          refine ⟨j, ?_, h2, h3⟩
          rcases Nat.lt_or_ge j k with y | y
          · exact y
          · exact absurd h3.symm (by rw [show j = k by omega]; exact e)
    · rw [if_neg hb, ih]
      constructor
      · rintro ⟨j, hj, h2⟩; exact ⟨j, by omega, h2⟩
      · rintro ⟨j, hj, h2, h3⟩
        refine ⟨j, ?_, h2, h3⟩
        rcases Nat.lt_or_ge j k with y | y
        · exact y
        · exact absurd h2 (by rw [show j = k by omega]; exact hb)
/-- a colouring that goes on from the position has there a colour that the search can take -/
theorem ps_valid {M l g w : Nat → Nat} {L k x : Nat} (hk : k < L) (hw : Rg M l L w) (hx : opn w L < x) (ha : ∀ i, i < k → w i = g i) : w k ≤ opn g k ∧ w k + 1 < x ∧ opn g k < x ∧ (brd M l g k k).testBit (w k) = false := by
  have e := opn_cong ha
  have h1 := hw k hk
  have h2 := opn_succ w k
  have h3 := opn_mono w (k + 1) (L - (k + 1))
  rw [show k + 1 + (L - (k + 1)) = L by omega] at h3
  refine ⟨by omega, by omega, by omega, ?_⟩
  cases hb : (brd M l g k k).testBit (w k) with
  | false => rfl
  | true =>
    obtain ⟨j, hj, h4, h5⟩ := brd_iff.mp hb
    exact absurd ((ha j hj).trans h5).symm (h1.2 j hj h4)
def Tr : Nat → Nat
  | 0 => 0
  | i + 1 => 1 + (8 - i) * (1 + Tr i)
def Sg (g : Nat → Nat) : Nat → Nat
  | 0 => 0
  | j + 1 => Sg g j + (1 + (j - g j) * (1 + Tr (8 - (j + 1))))
def phi (g : Nat → Nat) (k c : Nat) : Nat := Sg g k + 1 + (k + 1 - c) * (1 + Tr (8 - (k + 1)))
theorem Sg_cong {g w : Nat → Nat} : ∀ {k : Nat}, (∀ i, i < k → w i = g i) → Sg w k = Sg g k
  | 0, _ => rfl
  | k + 1, h => by
    unfold Sg
    rw [Sg_cong (k := k) (fun i hi => h i (by omega)), h k (by omega)]
theorem Tr_step {j : Nat} (h : j < 8) : Tr (8 - j) = 1 + (j + 1) * (1 + Tr (8 - (j + 1))) := by
  rw [show 8 - j = (8 - (j + 1)) + 1 by omega]
  conv => lhs; unfold Tr
  rw [show 8 - (8 - (j + 1)) = j + 1 by omega]
/-- one level back -/
theorem ps_pop {M l g : Nat → Nat} {L k x : Nat} (hk : k < L) (hg : ∀ j, j < k → g j ≤ opn g j ∧ ∀ i, i < j → (M (l j)).testBit (l i) = true → g j ≠ g i) (h : ∀ w, Rg M l L w → opn w L < x → ∃ j, j < k ∧ (∀ i, i < j → w i = g i) ∧ g j < w j) :
    (k = 0 ∧ ∀ w, Rg M l L w → x ≤ opn w L) ∨ ∃ k', k = k' + 1 ∧ PS M l L k' (g k' + 1) g x ∧ phi g k' (g k' + 1) = Sg g k := by
  cases k with
  | zero =>
    refine Or.inl ⟨rfl, fun w hw => ?_⟩
    rcases Nat.lt_or_ge (opn w L) x with y | y
    · obtain ⟨j, hj, -⟩ := h w hw y
      omega
    · exact y
  | succ k =>
    have h8 := (hg k (by omega)).1
    have h9 := opn_le (g := g) (k := k) (fun j hj => (hg j (by omega)).1)
    refine Or.inr ⟨k, rfl, ⟨by omega, by omega, fun j hj => hg j (by omega), fun w hw hx => ?_⟩, ?_⟩
    · obtain ⟨j, hj, h1, h2⟩ := h w hw hx
      by_cases e : j = k
      · subst e; exact Or.inr ⟨h1, h2⟩
      · exact Or.inl ⟨j, by omega, h1, h2⟩
    · unfold phi
      rw [show k + 1 - (g k + 1) = k - g k by omega]
      show _ = Sg g k + (1 + (k - g k) * (1 + Tr (8 - (k + 1))))
      omega
theorem phi_gt (g : Nat → Nat) (k c : Nat) : Sg g k + 1 ≤ phi g k c := by unfold phi; omega
/-- no colour is left at this level -/
theorem ps_fail {M l g : Nat → Nat} {L k c x : Nat} (h : PS M l L k c g x) (hno : x ≤ opn g k ∨ ∀ y, c ≤ y → y ≤ opn g k → y + 1 < x → (brd M l g k k).testBit y = true) : ∀ w, Rg M l L w → opn w L < x → ∃ j, j < k ∧ (∀ i, i < j → w i = g i) ∧ g j < w j := by
  intro w hw hx
  rcases h.2.2.2 w hw hx with y | ⟨ha, hc⟩
  · exact y
  · obtain ⟨v1, v2, v3, v4⟩ := ps_valid h.1 hw hx ha
    rcases hno with q | q
    · omega
    · have := q (w k) hc v1 v2
      rw [v4] at this
      cases this
/-- a colour d is taken at the last level -/
theorem ps_last {M l g : Nat → Nat} {L k c x x' d : Nat} (h : PS M l L k c g x) (hd : ∀ y, c ≤ y → y < d → (brd M l g k k).testBit y = true) (hx : x' ≤ x) (hx' : x' ≤ d + 1 ∨ x' ≤ opn g k) : ∀ w, Rg M l L w → opn w L < x' → ∃ j, j < k ∧ (∀ i, i < j → w i = g i) ∧ g j < w j := by
  intro w hw hxx
  rcases h.2.2.2 w hw (by omega) with y | ⟨ha, hc⟩
  · exact y
  · obtain ⟨v1, v2, v3, v4⟩ := ps_valid h.1 hw hxx ha
    have h5 : d ≤ w k := by
      rcases Nat.lt_or_ge (w k) d with y | y
      · have := hd (w k) hc y
        rw [v4] at this
        cases this
      · exact y
    omega
/-- a colour d is taken, and the next level begun -/
theorem ps_down {M l g : Nat → Nat} {L k c x d : Nat} (h : PS M l L k c g x) (hkL : k + 1 < L) (hd0 : d ≤ opn g k) (hdb : (brd M l g k k).testBit d = false) (hd : ∀ y, c ≤ y → y < d → (brd M l g k k).testBit y = true) : PS M l L (k + 1) 0 (fup g k d) x := by
  have hold : ∀ i, i < k → fup g k d i = g i := fun i hi => fup_n (by omega)
  refine ⟨hkL, by omega, fun j hj => ?_, fun w hw hx => ?_⟩
  · by_cases e : j = k
    · subst e
      rw [fup_s, opn_cong hold]
      refine ⟨hd0, fun i hi hb q => ?_⟩
      rw [hold i hi] at q
      rw [brd_iff.mpr ⟨i, hi, hb, q.symm⟩] at hdb
      cases hdb
    · have h1 := h.2.2.1 j (by omega)
      rw [fup_n e, opn_cong (fun i hi => hold i (by omega))]
      exact ⟨h1.1, fun i hi hb => by rw [hold i (by omega)]; exact h1.2 i hi hb⟩
  · rcases h.2.2.2 w hw hx with ⟨j, hj, h1, h2⟩ | ⟨ha, hc⟩
    · exact Or.inl ⟨j, by omega, fun i hi => by rw [hold i (by omega)]; exact h1 i hi, by rw [hold j hj]; exact h2⟩
    · obtain ⟨v1, v2, v3, v4⟩ := ps_valid h.1 hw hx ha
      have h5 : d ≤ w k := by
        rcases Nat.lt_or_ge (w k) d with y | y
        · have := hd (w k) hc y
          rw [v4] at this
          cases this
        · exact y
      by_cases e : w k = d
      · refine Or.inr ⟨fun i hi => ?_, Nat.zero_le _⟩
        by_cases ei : i = k
        · subst ei; rw [fup_s]; exact e
        · rw [fup_n ei]; exact ha i (by omega)
      · exact Or.inl ⟨k, by omega, fun i hi => by rw [hold i hi]; exact ha i hi, by rw [fup_s]; omega⟩
theorem phi_down {g : Nat → Nat} {k c d : Nat} (hk : k + 1 < 8) (hc : c ≤ d) (hd : d ≤ k) : phi (fup g k d) (k + 1) 0 + 1 ≤ phi g k c := by
  unfold phi
  have e1 : Sg (fup g k d) (k + 1) = Sg g k + (1 + (k - d) * (1 + Tr (8 - (k + 1)))) := by
    show Sg (fup g k d) k + (1 + (k - fup g k d k) * (1 + Tr (8 - (k + 1)))) = _
    rw [fup_s, Sg_cong (fun i hi => fup_n (by omega))]
  rw [e1]
  have e2 := Tr_step hk
  have h1 : (k - d + 1) * (1 + Tr (8 - (k + 1))) ≤ (k + 1 - c) * (1 + Tr (8 - (k + 1))) := Nat.mul_le_mul_right _ (by omega)
  rw [Nat.add_mul, Nat.one_mul] at h1
  rw [Nat.sub_zero]
  omega
/-! the search as the loop of paint holds it -/
def BB (M : Nat → Nat) (be : Nat → Int32) (x : Nat) : Prop := ∃ b, Bst M be b ∧ ∀ s, s < 8 → M s ≠ 0 → b s < x
def lvd (k : Nat) : Int32 := nI k + Int32.ofInt (-1)
theorem lvd_0 : lvd 0 = -1 := by decide
theorem lvd_s (k : Nat) : lvd (k + 1) = nI k := pk_m1 k
def PI (M l : Nat → Nat) (L r : Nat) (lv : Int32) (co be : Nat → Int32) (x : Nat) : Prop :=
  x ≤ L ∧ BB M be x ∧ ((lv = -1 ∧ ∀ w, Rg M l L w → x ≤ opn w L) ∨ (L = 0 ∧ lv = nI 0) ∨ ∃ k c g, lv = nI k ∧ (∀ j, j < k → co (l j) = nI (g j)) ∧ co (l k) + nI 1 = nI c ∧ PS M l L k c g x ∧ phi g k c + r ≤ 65536)
theorem pi_end {M l : Nat → Nat} {L r : Nat} {lv : Int32} {co be : Nat → Int32} {x : Nat} (hl : Lin M L l) (h : PI M l L r lv co be x) (hc : 65536 ≤ r ∨ lv < 0 ∨ L = 0) : ∀ w, Rg M l L w → x ≤ opn w L := by
  intro w hw
  have hL := hl.1
  obtain ⟨h1, -, h3⟩ := h
  rcases h3 with ⟨-, h4⟩ | ⟨h4, -⟩ | ⟨k, c, g, rfl, -, -, h5, h6⟩
  · exact h4 w hw
  · omega
  · have h7 := phi_gt g k c
    have h8 := h5.1
    rcases hc with q | q | q
    · omega
    · exact absurd q (nI_pos (by omega))
    · omega
theorem pi_go {M l : Nat → Nat} {L r : Nat} {lv : Int32} {co be : Nat → Int32} {x : Nat} (h : PI M l L r lv co be x) (h1 : ¬ lv < 0) (h2 : 0 < L) : ∃ k c g, lv = nI k ∧ (∀ j, j < k → co (l j) = nI (g j)) ∧ co (l k) + nI 1 = nI c ∧ PS M l L k c g x ∧ phi g k c + r ≤ 65536 := by
  rcases h.2.2 with ⟨rfl, -⟩ | ⟨q, -⟩ | q
  · exact absurd (by decide) h1
  · omega
  · exact q
theorem ps_g8 {M l g : Nat → Nat} {L k c x : Nat} (hL : L ≤ 8) (h : PS M l L k c g x) : opn g k ≤ k ∧ ∀ j, j < k → g j < 8 := by
  refine ⟨opn_le (fun j hj => (h.2.2.1 j hj).1), fun j hj => ?_⟩
  have h1 := (h.2.2.1 j hj).1
  have h2 := opn_le (g := g) (k := j) (fun i hi => (h.2.2.1 i (by omega)).1)
  have h3 := h.1
  omega
theorem co_ext {co : Nat → Int32} {l g : Nat → Nat} {L k d : Nat} (hinj : ∀ i j, i < L → j < L → l i = l j → i = j) (hk : k < L) (h : ∀ j, j < k → co (l j) = nI (g j)) : ∀ j, j < k + 1 → upd co (l k) (nI d) (l j) = nI (fup g k d j) := by
  intro j hj
  by_cases e : j = k
  · subst e; rw [fup_s]; exact pk_us
  · rw [fup_n e, pk_un (fun q => e (hinj j k (by omega) hk q))]
    exact h j (by omega)
/-- back to the level before, at the colours' array -/
theorem pi_back {M l : Nat → Nat} {L r k c x x' : Nat} {v : Int32} {co be : Nat → Int32} {g : Nat → Nat} (hl : Lin M L l) (hco : ∀ j, j < k → co (l j) = nI (g j)) (hps : PS M l L k c g x) (hphi : phi g k c + r ≤ 65536) (hx : x' ≤ L) (hbb : BB M be x') (hall : ∀ w, Rg M l L w → opn w L < x' → ∃ j, j < k ∧ (∀ i, i < j → w i = g i) ∧ g j < w j) : PI M l L (r + 1) (lvd k) (upd co (l k) v) be x' := by
  have h7 := phi_gt g k c
  have hk := hps.1
  refine ⟨hx, hbb, ?_⟩
  rcases ps_pop hps.1 hps.2.2.1 hall with ⟨rfl, h1⟩ | ⟨k', rfl, h1, h2⟩
  · exact Or.inl ⟨lvd_0, h1⟩
  · refine Or.inr (Or.inr ⟨k', g k' + 1, g, lvd_s k', fun j hj => ?_, ?_, h1, by omega⟩)
    · rw [pk_un (fun q => absurd (hl.2.2.1 j (k' + 1) (by omega) hk q) (by omega))]
      exact hco j (by omega)
    · rw [pk_un (fun q => absurd (hl.2.2.1 k' (k' + 1) (by omega) hk q) (by omega)), hco k' (by omega)]
      exact nI_add _ _
theorem pi_fail {M l : Nat → Nat} {L r k c x : Nat} {co be : Nat → Int32} {g : Nat → Nat} {lv : Int32} (hl : Lin M L l) (h : PI M l L r lv co be x) (hco : ∀ j, j < k → co (l j) = nI (g j)) (hps : PS M l L k c g x) (hphi : phi g k c + r ≤ 65536) (hno : x ≤ opn g k ∨ ∀ y, c ≤ y → y ≤ opn g k → y + 1 < x → (brd M l g k k).testBit y = true) : PI M l L (r + 1) (lvd k) (upd co (l k) (-1)) be x :=
  pi_back hl hco hps hphi h.1 h.2.1 (ps_fail hps hno)
/-- a proper colouring by places gives one of selectors -/
theorem bb_of {M l g : Nat → Nat} {L x : Nat} {be be0 : Nat → Int32} (hl : Lin M L l) (hsym : ∀ a b, a < 8 → b < 8 → (M a).testBit b = (M b).testBit a) (hg8 : ∀ k, k < L → g k < 8) (hgx : ∀ k, k < L → g k < x) (hgp : ∀ i j, i < j → j < L → (M (l j)).testBit (l i) = true → g j ≠ g i) (h1 : ∀ k, k < L → be (l k) = nI (g k)) (h2 : ∀ s, (∀ k, k < L → l k ≠ s) → be s = be0 s) (h3 : ∀ s, s < 8 → ∃ b, b < 8 ∧ be0 s = nI b) : BB M be x := by
  have hu : ∀ s, s < 8 → M s ≠ 0 → ∃ k, k < L ∧ l k = s := fun s hs hM => (hl.2.2.2 s hs).mp hM
  have hr : ∀ s, s < 8 → ∃ b, b < 8 ∧ be s = nI b := by
    intro s hs
    by_cases hM : M s = 0
    · rw [h2 s (fun k hk e => (hl.2.2.2 s hs).mpr ⟨k, hk, e⟩ hM)]
      exact h3 s hs
    · obtain ⟨k, hk, rfl⟩ := hu s hs hM
      exact ⟨g k, hg8 k hk, h1 k hk⟩
  have hb : ∀ s, s < 8 → (be s).toNatClampNeg < 8 ∧ be s = nI (be s).toNatClampNeg := by
    intro s hs
    obtain ⟨b, hb, e⟩ := hr s hs
    rw [e, nI_clamp (by omega)]
    exact ⟨hb, rfl⟩
  have hk' : ∀ k, k < L → (be (l k)).toNatClampNeg = g k := fun k hk => by
    have := hg8 k hk
    rw [h1 k hk, nI_clamp (by omega)]
  have hne : ∀ a t, a < 8 → t < 8 → (M a).testBit t = true → M a ≠ 0 := fun a t _ _ h e => by rw [e, Nat.zero_testBit] at h; cases h
  refine ⟨fun s => (be s).toNatClampNeg, ⟨hb, fun a t ha ht hat hbit => ?_⟩, fun s hs hM => ?_⟩
  · have hbit2 : (M t).testBit a = true := by rw [← hsym a t ha ht]; exact hbit
    obtain ⟨i, hi, rfl⟩ := hu a ha (hne a t ha ht hbit)
    obtain ⟨j, hj, rfl⟩ := hu t ht (hne t _ ht ha hbit2)
    show (be (l i)).toNatClampNeg ≠ (be (l j)).toNatClampNeg
    rw [hk' i hi, hk' j hj]
    rcases Nat.lt_trichotomy i j with q | q | q
    · exact (hgp i j q hj hbit2).symm
    · exact absurd (by rw [q]) hat
    · exact hgp j i q hi hbit
  · obtain ⟨k, hk, rfl⟩ := hu s hs hM
    show (be (l k)).toNatClampNeg < x
    rw [hk' k hk]
    exact hgx k hk
theorem bb_range {M : Nat → Nat} {be : Nat → Int32} {x : Nat} (h : BB M be x) : ∀ s, s < 8 → ∃ b, b < 8 ∧ be s = nI b := by
  obtain ⟨b, hb, -⟩ := h
  exact fun s hs => ⟨b s, hb.1 s hs⟩
/-- the last level's colour is kept -/
theorem pi_last {M l : Nat → Nat} {L r k c x x' d : Nat} {co be be3 : Nat → Int32} {g : Nat → Nat} {lv : Int32} (hl : Lin M L l) (hsym : ∀ a b, a < 8 → b < 8 → (M a).testBit b = (M b).testBit a) (h : PI M l L r lv co be x) (hco : ∀ j, j < k → co (l j) = nI (g j)) (hps : PS M l L k c g x) (hphi : phi g k c + r ≤ 65536) (hkL : k + 1 = L)
    (hd0 : d ≤ opn g k) (hdx : d + 1 < x) (hox : opn g k < x) (hdb : (brd M l g k k).testBit d = false) (hd : ∀ y, c ≤ y → y < d → (brd M l g k k).testBit y = true) (hx' : x' = if d < opn g k then opn g k else opn g k + 1) (h1 : ∀ j, j < L → be3 (l j) = nI (fup g k d j)) (h2 : ∀ s, (∀ k, k < L → l k ≠ s) → be3 s = be s) : PI M l L (r + 1) (lvd k) (upd co (l k) (nI d)) be3 x' := by
  obtain ⟨g1, g2⟩ := ps_g8 hl.1 hps
  have hL := hl.1
  have hxx : x' ≤ x ∧ (x' ≤ d + 1 ∨ x' ≤ opn g k) ∧ d < x' ∧ opn g k ≤ x' := by
    rw [hx']
    split <;> omega
  have hdn := ps_down (L := L + 1) (x := x) (c := c) (l := l) (M := M) (g := g) (k := k) (d := d)
  refine pi_back hl hco hps hphi (Nat.le_trans hxx.1 h.1) ?_ (ps_last hps hd hxx.1 hxx.2.1)
  refine bb_of hl hsym (g := fup g k d) (fun j hj => ?_) (fun j hj => ?_) (fun i j hij hj hb => ?_) h1 h2 (bb_range h.2.1)
  · by_cases e : j = k
    · subst e; rw [fup_s]; omega
    · rw [fup_n e]; exact g2 j (by omega)
  · by_cases e : j = k
    · subst e; rw [fup_s]; omega
    · rw [fup_n e]
      have h5 := (opn_succ g j).2
      have h6 := opn_mono g (j + 1) (k - (j + 1))
      rw [show j + 1 + (k - (j + 1)) = k by omega] at h6
      omega
  · by_cases e : j = k
    · subst e
      rw [fup_s, fup_n (by omega)]
      intro q
      rw [brd_iff.mpr ⟨i, hij, hb, q.symm⟩] at hdb
      cases hdb
    · rw [fup_n e, fup_n (by omega)]
      exact (hps.2.2.1 j (by omega)).2 i hij hb
theorem pi_down {M l : Nat → Nat} {L r k c x d : Nat} {co be : Nat → Int32} {g : Nat → Nat} {lv : Int32} (hl : Lin M L l) (h : PI M l L r lv co be x) (hco : ∀ j, j < k → co (l j) = nI (g j)) (hps : PS M l L k c g x) (hphi : phi g k c + r ≤ 65536) (hkL : k + 1 < L)
    (hcd : c ≤ d) (hd0 : d ≤ opn g k) (hdb : (brd M l g k k).testBit d = false) (hd : ∀ y, c ≤ y → y < d → (brd M l g k k).testBit y = true) : PI M l L (r + 1) (nI (k + 1)) (upd (upd co (l k) (nI d)) (l (k + 1)) (-1)) be x := by
  have hL := hl.1
  obtain ⟨g1, g2⟩ := ps_g8 hl.1 hps
  have h9 := phi_down (g := g) (k := k) (c := c) (d := d) (by omega) hcd (by omega)
  refine ⟨h.1, h.2.1, Or.inr (Or.inr ⟨k + 1, 0, fup g k d, rfl, fun j hj => ?_, ?_, ps_down hps hkL hd0 hdb hd, by omega⟩)⟩
  · rw [pk_un (fun q => absurd (hl.2.2.1 j (k + 1) (by omega) hkL q) (by omega))]
    exact co_ext hl.2.2.1 (by omega) hco j hj
  · rw [pk_us]
    decide
theorem pi_0 {M l : Nat → Nat} {L : Nat} {co be : Nat → Int32} (h0 : 0 < L) (hbb : BB M be L) : PI M l L 0 (nI 0) (upd co (l 0) (-1)) be L := by
  refine ⟨Nat.le_refl _, hbb, Or.inr (Or.inr ⟨0, 0, fun _ => 0, rfl, fun j hj => absurd hj (by omega), by rw [pk_us]; decide, ⟨h0, by omega, fun j hj => absurd hj (by omega), fun w _ _ => Or.inr ⟨fun i hi => absurd hi (by omega), Nat.zero_le _⟩⟩, ?_⟩)⟩
  show 0 + 1 + (0 + 1 - 0) * (1 + Tr (8 - (0 + 1))) + 0 ≤ 65536
  decide
theorem pi_00 {M l : Nat → Nat} {L : Nat} {co be : Nat → Int32} (h0 : L = 0) (hbb : BB M be L) : PI M l L 0 (nI 0) co be L := ⟨Nat.le_refl _, hbb, Or.inr (Or.inl ⟨h0, rfl⟩)⟩
theorem bb_first {M l : Nat → Nat} {L : Nat} {be be0 : Nat → Int32} (hl : Lin M L l) (hsym : ∀ a b, a < 8 → b < 8 → (M a).testBit b = (M b).testBit a) (h1 : ∀ k, k < L → be (l k) = nI k) (h2 : ∀ s, (∀ k, k < L → l k ≠ s) → be s = be0 s) (h3 : ∀ s, s < 8 → ∃ b, b < 8 ∧ be0 s = nI b) : BB M be L := by
  have hL := hl.1
  exact bb_of hl hsym (g := fun k => k) (fun k hk => by omega) (fun k hk => hk) (fun i j hij hj _ => by omega) h1 h2 h3
/-- any colouring, named by first use -/
theorem rg_of {M l f : Nat → Nat} {L y : Nat} (hfy : ∀ k, k < L → f (l k) < y) (hfp : ∀ i j, i < j → j < L → (M (l j)).testBit (l i) = true → f (l j) ≠ f (l i)) : ∃ w, Rg M l L w ∧ opn w L ≤ y := by
  have key : ∀ k, k ≤ L → ∃ w : Nat → Nat, (∀ i, i < k → w i ≤ opn w i ∧ w i < opn w k) ∧ (∀ z, z < opn w k → ∃ i, i < k ∧ w i = z) ∧ ∀ i j, i < k → j < k → (w i = w j ↔ f (l i) = f (l j)) := by
    intro k
    induction k with
    | zero => intro _; exact ⟨fun _ => 0, fun i hi => absurd hi (by omega), fun z hz => absurd hz (Nat.not_lt_zero _), fun i j hi => absurd hi (by omega)⟩
    | succ k ih =>
      intro hk
      obtain ⟨w, h1, h2, h3⟩ := ih (by omega)
      have hold : ∀ v i, i < k → fup w k v i = w i := fun v i hi => fup_n (by omega)
      have hop : ∀ v i, i ≤ k → opn (fup w k v) i = opn w i := fun v i hi => opn_cong (fun j hj => hold v j (by omega))
      by_cases hex : ∃ i, i < k ∧ f (l i) = f (l k)
      · obtain ⟨a, ha, e⟩ := hex
        have hlt := (h1 a ha).2
        have ho : opn (fup w k (w a)) (k + 1) = opn w k := by
          conv => lhs; unfold opn
          rw [hop _ k (Nat.le_refl k), fup_s, if_neg (by omega)]
        refine ⟨fup w k (w a), fun i hi => ?_, fun z hz => ?_, fun i j hi hj => ?_⟩
        · rw [ho, hop _ i (by omega)]
          by_cases ei : i = k
          · subst ei; rw [fup_s]; exact ⟨by omega, hlt⟩
          · rw [fup_n ei]; exact h1 i (by omega)
        · rw [ho] at hz
          obtain ⟨i, hi, e2⟩ := h2 z hz
          exact ⟨i, by omega, by rw [hold _ i hi]; exact e2⟩
        · by_cases ei : i = k
          · by_cases ej : j = k
            · rw [ei, ej]; exact ⟨fun _ => rfl, fun _ => rfl⟩
            · rw [ei, fup_s, fup_n ej, ← e]
              exact h3 a j ha (by omega)
          · by_cases ej : j = k
            · rw [ej, fup_s, fup_n ei, ← e]
              exact h3 i a (by omega) ha
            · rw [fup_n ei, fup_n ej]
              exact h3 i j (by omega) (by omega)
      · have ho : opn (fup w k (opn w k)) (k + 1) = opn w k + 1 := by
          conv => lhs; unfold opn
          rw [hop _ k (Nat.le_refl k), fup_s, if_pos (Nat.le_refl _)]
        refine ⟨fup w k (opn w k), fun i hi => ?_, fun z hz => ?_, fun i j hi hj => ?_⟩
        · rw [ho, hop _ i (by omega)]
          by_cases ei : i = k
          · subst ei; rw [fup_s]; exact ⟨Nat.le_refl _, by omega⟩
          · rw [fup_n ei]
            have := h1 i (by omega)
            exact ⟨this.1, by omega⟩
        · rw [ho] at hz
          by_cases ez : z = opn w k
          · exact ⟨k, by omega, by rw [fup_s]; exact ez.symm⟩
          · obtain ⟨i, hi, e2⟩ := h2 z (by omega)
            exact ⟨i, by omega, by rw [hold _ i hi]; exact e2⟩
        · by_cases ei : i = k
          · by_cases ej : j = k
            · rw [ei, ej]; exact ⟨fun _ => rfl, fun _ => rfl⟩
            · rw [ei, fup_s, fup_n ej]
              have := (h1 j (by omega)).2
              exact ⟨fun q => by omega, fun q => absurd ⟨j, by omega, q.symm⟩ hex⟩
          · by_cases ej : j = k
            · rw [ej, fup_s, fup_n ei]
              have := (h1 i (by omega)).2
              exact ⟨fun q => by omega, fun q => absurd ⟨i, by omega, q⟩ hex⟩
            · rw [fup_n ei, fup_n ej]
              exact h3 i j (by omega) (by omega)
  obtain ⟨w, h1, h2, h3⟩ := key L (Nat.le_refl L)
  refine ⟨w, fun k hk => ⟨(h1 k hk).1, fun j hj hb q => hfp j k hj hk hb ((h3 k j hk (by omega)).mp q)⟩, ?_⟩
  have hch : ∀ z, ∃ i, z < opn w L → i < L ∧ w i = z := by
    intro z
    by_cases hz : z < opn w L
    · obtain ⟨i, a, b⟩ := h2 z hz
      exact ⟨i, fun _ => ⟨a, b⟩⟩
    · exact ⟨0, fun q => absurd q hz⟩
  refine fb_holes y (opn w L) (fun z => f (l (Classical.choose (hch z)))) (fun z hz => ?_) (fun z z2 hzz hz2 q => ?_)
  · exact hfy _ (Classical.choose_spec (hch z) hz).1
  · have a1 := Classical.choose_spec (hch z) (by omega)
    have a2 := Classical.choose_spec (hch z2) hz2
    have := (h3 _ _ a1.1 a2.1).mpr q
    omega
theorem pt_done {M l : Nat → Nat} {L x : Nat} {be : Nat → Int32} (hl : Lin M L l) (hx : x ≤ L) (hbb : BB M be x) (hall : ∀ w, Rg M l L w → x ≤ opn w L) : IsChi M x ∧ x ≤ 8 ∧ ∃ b, Bst M be b := by
  have hL := hl.1
  obtain ⟨b, hb, hbx⟩ := hbb
  refine ⟨⟨⟨b, hbx, hb.2⟩, fun y ⟨f, f1, f2⟩ => ?_⟩, by omega, b, hb⟩
  have hM : ∀ k, k < L → M (l k) ≠ 0 := fun k hk => (hl.2.2.2 (l k) (hl.2.1 k hk)).mpr ⟨k, hk, rfl⟩
  obtain ⟨w, hw, hy⟩ := rg_of (M := M) (l := l) (f := f) (L := L) (y := y) (fun k hk => f1 _ (hl.2.1 k hk) (hM k hk)) (fun i j hij hj hbit => f2 _ _ (hl.2.1 j hj) (hl.2.1 i (by omega)) (fun q => absurd (hl.2.2.1 j i hj (by omega) q) (by omega)) hbit)
  exact Nat.le_trans (hall w hw) hy
end
section
/-! packing one row -/
theorem fup_8 {g : Nat → Nat} {k d j : Nat} (h : ∀ j, j < k → g j < 8) (hd : d < 8) (hj : j ≤ k) : fup g k d j < 8 := by
  by_cases e : j = k
  · subst e; rw [fup_s]; exact hd
  · rw [fup_n e]; exact h j (by omega)
theorem ownM_lt (d : Nat → Int32) (c : Nat) : ownM d c < 256 := mk_lt _ 8
theorem own_yes {d : Nat → Int32} {c i : Nat} (hi : i < 8) (h : (ownM d c).testBit i = true) : ¬ d (8 * c + i) = 0 := by
  unfold ownM at h
  rw [mk_bit, decide_eq_true hi, Bool.true_and] at h
  exact of_decide_eq_true h
theorem own_no {d : Nat → Int32} {c i : Nat} (hi : i < 8) (h : (ownM d c).testBit i = false) : d (8 * c + i) = 0 := by
  unfold ownM at h
  rw [mk_bit, decide_eq_true hi, Bool.true_and] at h
  by_cases q : d (8 * c + i) = 0
  · exact q
  · rw [decide_eq_true q] at h; cases h
theorem row_skip {ro : Nat → Int32} {w : Nat → Nat} {Kc i : Nat} (h : ∀ s, s < i → Kc.testBit s = true → ro s = nI (w s)) (hb : Kc.testBit i = false) : ∀ s, s < i + 1 → Kc.testBit s = true → ro s = nI (w s) := by
  intro s hs h2
  by_cases e : s = i
  · subst e; rw [hb] at h2; cases h2
  · exact h s (by omega) h2
theorem row_next {ro : Nat → Int32} {w : Nat → Nat} {Kc i : Nat} (h : ∀ s, s < i → Kc.testBit s = true → ro s = nI (w s)) : ∀ s, s < i + 1 → Kc.testBit s = true → upd ro i (nI (w i)) s = nI (w s) := by
  intro s hs h2
  by_cases e : s = i
  · subst e; exact pk_us
  · rw [pk_un e]; exact h s (by omega) h2
theorem pk_lt_B {ec : Nat → Int32} {b : Nat → Nat} {Kc a B : Nat} (haB : a ≤ B) (hfit : ∀ s, s < 8 → Kc.testBit s = true → ec (B + b s) < 0) (hnf : ∃ s, s < 8 ∧ Kc.testBit s = true ∧ ¬ ec (a + b s) < 0) : a + 1 ≤ B := by
  obtain ⟨s, h1, h2, h3⟩ := hnf
  rcases Nat.lt_or_ge a B with y | y
  · exact y
  · have e : a = B := by omega
    rw [e] at h3
    exact absurd (hfit s h1 h2) h3
/-- the row's entries below i are in -/
def PkI (Kc c a i : Nat) (b w : Nat → Nat) (df ec es eo em ec2 es2 eo2 em2 : Nat → Int32) : Prop := (∀ s, s < i → s < 8 → Kc.testBit s = true → ec2 (a + b s) = nI c ∧ es2 (a + b s) = nI s ∧ eo2 (a + b s) = nI (w s) ∧ em2 (a + b s) = df (8 * w s + s)) ∧ ∀ k, (∀ s, s < 8 → Kc.testBit s = true → k ≠ a + b s) → ec2 k = ec k ∧ es2 k = es k ∧ eo2 k = eo k ∧ em2 k = em k
def PkR (Kc c B : Nat) (b w : Nat → Nat) (df sh ec es eo em sh2 ec2 es2 eo2 em2 : Nat → Int32) : Prop := ∃ a, a ≤ B ∧ sh2 = upd sh c (nI a) ∧ (∀ s, s < 8 → Kc.testBit s = true → ec (a + b s) < 0) ∧ PkI Kc c a 8 b w df ec es eo em ec2 es2 eo2 em2
theorem pki_0 {Kc c a : Nat} {b w : Nat → Nat} {df ec es eo em : Nat → Int32} : PkI Kc c a 0 b w df ec es eo em ec es eo em := ⟨fun s hs => absurd hs (by omega), fun _ _ => ⟨rfl, rfl, rfl, rfl⟩⟩
theorem pki_skip {Kc c a i : Nat} {b w : Nat → Nat} {df ec es eo em ec2 es2 eo2 em2 : Nat → Int32} (h : PkI Kc c a i b w df ec es eo em ec2 es2 eo2 em2) (hb : Kc.testBit i = false) : PkI Kc c a (i + 1) b w df ec es eo em ec2 es2 eo2 em2 := by
  refine ⟨fun s hs h8 h2 => ?_, h.2⟩
  by_cases e : s = i
  · subst e; rw [hb] at h2; cases h2
  · exact h.1 s (by omega) h8 h2
theorem pki_next {Kc c a i : Nat} {b w : Nat → Nat} {df ec es eo em ec2 es2 eo2 em2 : Nat → Int32} (hbi : ∀ s t, s < 8 → t < 8 → Kc.testBit s = true → Kc.testBit t = true → b s = b t → s = t) (h : PkI Kc c a i b w df ec es eo em ec2 es2 eo2 em2) (h8 : i < 8) (hb : Kc.testBit i = true) : PkI Kc c a (i + 1) b w df ec es eo em (upd ec2 (a + b i) (nI c)) (upd es2 (a + b i) (nI i)) (upd eo2 (a + b i) (nI (w i))) (upd em2 (a + b i) (df (8 * w i + i))) := by
  refine ⟨fun s hs hs8 h2 => ?_, fun k hk => ?_⟩
  · by_cases e : s = i
    · subst e; exact ⟨pk_us, pk_us, pk_us, pk_us⟩
    · have hne : a + b s ≠ a + b i := fun q => e (hbi s i hs8 h8 h2 hb (by omega))
      rw [pk_un hne, pk_un hne, pk_un hne, pk_un hne]
      exact h.1 s (by omega) hs8 h2
  · have hne := hk i h8 hb
    rw [pk_un hne, pk_un hne, pk_un hne, pk_un hne]
    exact h.2 k hk
theorem pkr_of {Kc c a B : Nat} {b w : Nat → Nat} {df sh ec es eo em ec2 es2 eo2 em2 : Nat → Int32} (haB : a ≤ B) (hfa : ∀ s, s < 8 → Kc.testBit s = true → ec (a + b s) < 0) (h : PkI Kc c a 8 b w df ec es eo em ec2 es2 eo2 em2) : PkR Kc c B b w df sh ec es eo em (upd sh c (nI a)) ec2 es2 eo2 em2 := ⟨a, haB, rfl, hfa, h⟩
theorem nar_df {x : Int32} (h : ∃ q, q ≤ 1000 ∧ x = nI q) : vp_nar .short x = x := by
  obtain ⟨q, hq, rfl⟩ := h
  exact z_nars (by omega)
end
section
/-! the table, row by row -/
theorem Mf_bit {U d : Nat → Int32} {s t : Nat} : ∀ {n : Nat}, (Mf U d s n).testBit t = true ↔ ∃ c, c < n ∧ (Kf U d c).testBit s = true ∧ (Kf U d c).testBit t = true
  | 0 => by
    show (0 : Nat).testBit t = true ↔ _
    rw [Nat.zero_testBit]
    exact ⟨fun h => (by cases h), fun ⟨c, hc, _⟩ => (by omega)⟩
  | n + 1 => by
    have ih := Mf_bit (U := U) (d := d) (s := s) (t := t) (n := n)
    unfold Mf
    by_cases hb : (Kf U d n).testBit s = true
    · rw [if_pos hb, Nat.testBit_or, Bool.or_eq_true, ih]
      constructor
      · rintro (⟨c, h1, h2⟩ | h)
        · exact ⟨c, by omega, h2⟩
        · exact ⟨n, by omega, hb, h⟩
      · rintro ⟨c, h1, h2, h3⟩
        by_cases e : c = n
        · subst e; exact Or.inr h3
        · exact Or.inl ⟨c, by omega, h2, h3⟩
    · rw [if_neg hb, ih]
      constructor
      · rintro ⟨c, h1, h2⟩; exact ⟨c, by omega, h2⟩
      · rintro ⟨c, h1, h2, h3⟩
        refine ⟨c, ?_, h2, h3⟩
        rcases Nat.lt_or_ge c n with y | y
        · exact y
        · exact absurd h2 (by rw [show c = n by omega]; exact hb)
theorem Mf_sym (U d : Nat → Int32) (n a b : Nat) : (Mf U d a n).testBit b = (Mf U d b n).testBit a := by
  cases h : (Mf U d b n).testBit a with
  | true =>
    obtain ⟨c, h1, h2, h3⟩ := Mf_bit.mp h
    exact Mf_bit.mpr ⟨c, h1, h3, h2⟩
  | false =>
    cases h2 : (Mf U d a n).testBit b with
    | false => rfl
    | true =>
      obtain ⟨c, h3, h4, h5⟩ := Mf_bit.mp h2
      rw [Mf_bit.mpr ⟨c, h3, h5, h4⟩] at h
      cases h
theorem Kf_bit {U d : Nat → Int32} {c s : Nat} (hs : s < 8) : (Kf U d c).testBit s = true ↔ 0 ≤ ownF U d s 10 (nI c) := by
  unfold Kf
  rw [mk_bit, decide_eq_true hs, Bool.true_and, decide_eq_true_eq]
theorem Kf_nbit {U d : Nat → Int32} {c s : Nat} (hs : s < 8) : (Kf U d c).testBit s = false ↔ ownF U d s 10 (nI c) < 0 := by
  constructor
  · intro h
    refine fa_of_nle (fun q => ?_)
    rw [(Kf_bit hs).mpr q] at h
    cases h
  · intro h
    cases hb : (Kf U d c).testBit s with
    | false => rfl
    | true => exact absurd ((Kf_bit hs).mp hb) (fa_of_lt h).2.1
/-- the owner as a number -/
def wn (U d : Nat → Int32) (c s : Nat) : Nat := (ownF U d s 10 (nI c)).toNatClampNeg
theorem wn_eq {n : Nat} {U d : Nat → Int32} {c s : Nat} (hL : LInv n U d) (hc : c < n) (hs : s < 8) (hb : (Kf U d c).testBit s = true) : wn U d c s < n ∧ ownF U d s 10 (nI c) = nI (wn U d c s) := by
  have hn := hL.1
  obtain ⟨x, hx, e⟩ := own_cls (n := n) (v := ownF U d s 10 (nI c)) hL.2.1 hc rfl ((Kf_bit hs).mp hb)
  unfold wn
  rw [e, nI_clamp (by omega)]
  exact ⟨hx, rfl⟩
theorem wn_own {n : Nat} {U d : Nat → Int32} {c s : Nat} (hL : LInv n U d) (hc : c < n) (hs : s < 8) (h : ¬ d (8 * c + s) = 0) : wn U d c s = c := by
  have hn := hL.1
  unfold wn
  rw [(own_eq (s := s) hL hc).1 ((d_pos (hL.2.2.2.1 _ (by omega))).mpr h), nI_clamp (by omega)]
def PB (U d : Nat → Int32) (o b : Nat → Nat) (k : Nat) (sh ec es eo em : Nat → Int32) : Prop := (∀ j, j < k → Ent U d sh ec es eo em b (o j)) ∧ (∀ i, 8 * k ≤ i → i < 96 → ec i < 0) ∧ Neg U d ec es
theorem pb_0 {U d : Nat → Int32} {o b : Nat → Nat} {sh ec es eo em : Nat → Int32} (h : ∀ i, i < 96 → ec i = -1) : PB U d o b 0 sh ec es eo em := by
  refine ⟨fun j hj => absurd hj (by omega), fun i _ hi => by rw [h i hi]; decide, fun i c s hi hc hs e => ?_⟩
  rw [h i hi] at e
  exact absurd e (nI_m1 (by omega))
theorem pb_fit {U d : Nat → Int32} {o b : Nat → Nat} {k : Nat} {sh ec es eo em : Nat → Int32} (h : PB U d o b k sh ec es eo em) (hk : k < 10) (hb : ∀ s, s < 8 → b s < 8) (Kc : Nat) : ∀ s, s < 8 → Kc.testBit s = true → ec (8 * k + b s) < 0 := fun s hs _ => h.2.1 _ (by omega) (by have := hb s hs; omega)
theorem pb_own2 {n : Nat} {U d df ab : Nat → Int32} {o b : Nat → Nat} {k : Nat} {sh ec es eo em : Nat → Int32} (hL : LInv n U d) (ho : Topo n U o) (hk : k < n) (hab : ∀ c, c < n → ab c = U c) (hdf : ∀ j, j < 80 → df j = d j) (h : PB U d o b k sh ec es eo em) : ∀ s, s < 8 → (Kf U d (o k)).testBit s = true → df (8 * o k + s) = 0 → ∃ p1 x, p1 < 10 ∧ x ≤ 80 ∧ ab (o k) = nI p1 ∧ sh p1 = nI x ∧ eo (x + b s) = nI (wn U d (o k) s) := by
  intro s hs hb h0
  have hn := hL.1
  have hc := ho.1 k hk
  rw [hdf _ (by omega)] at h0
  have hz : ¬ 0 < d (8 * o k + s) := by rw [h0]; decide
  obtain ⟨-, e2, e3⟩ := own_eq (s := s) hL hc
  rcases ho.2.2 k hk with q | ⟨j, hj, q⟩
  · have := (Kf_bit hs).mp hb
    rw [e2 hz q] at this
    exact absurd this (by decide)
  · have hp := ho.1 j (by omega)
    have e4 := e3 (o j) hz hp q
    obtain ⟨x, x1, x2, x3⟩ := h.1 j hj
    have hb2 : (Kf U d (o j)).testBit s = true := by
      rw [Kf_bit hs, ← e4]
      exact (Kf_bit hs).mp hb
    refine ⟨o j, x, by omega, x1, by rw [hab _ hc]; exact q, x2, ?_⟩
    rw [(x3 s hs hb2).2.2.1, ← e4]
    exact (wn_eq hL hc hs hb).2
theorem bst_inj {n : Nat} {U d be : Nat → Int32} {b : Nat → Nat} {c : Nat} (hb : Bst (fun s => Mf U d s n) be b) (hc : c < n) : ∀ s t, s < 8 → t < 8 → (Kf U d c).testBit s = true → (Kf U d c).testBit t = true → b s = b t → s = t := by
  intro s t hs ht h1 h2 e
  by_cases q : s = t
  · exact q
  · exact absurd e (hb.2 s t hs ht q (Mf_bit.mpr ⟨c, hc, h1, h2⟩))
theorem pb_next {n : Nat} {U d df : Nat → Int32} {o b : Nat → Nat} {k : Nat} {sh ec es eo em sh2 ec2 es2 eo2 em2 : Nat → Int32} (hL : LInv n U d) (ho : Topo n U o) (hk : k < n) (hdf : ∀ j, j < 80 → df j = d j) (hb8 : ∀ s, s < 8 → b s < 8) (h : PB U d o b k sh ec es eo em) (hp : PkR (Kf U d (o k)) (o k) (8 * k) b (wn U d (o k)) df sh ec es eo em sh2 ec2 es2 eo2 em2) : PB U d o b (k + 1) sh2 ec2 es2 eo2 em2 := by
  obtain ⟨a, ha, rfl, hfa, hp1, hp2⟩ := hp
  have hn := hL.1
  have hc := ho.1 k hk
  have hnew : Ent U d (upd sh (o k) (nI a)) ec2 es2 eo2 em2 b (o k) := by
    refine ⟨a, by omega, pk_us, fun s hs hb => ?_⟩
    obtain ⟨q1, q2, q3, q4⟩ := hp1 s hs hs hb
    obtain ⟨w1, w2⟩ := wn_eq hL hc hs hb
    refine ⟨q1, q2, q3.trans w2.symm, ?_⟩
    rw [q4, hdf _ (by omega)]
    unfold sndF
    rw [w2, if_neg (nI_pos (by omega)), nI_clamp (by omega)]
  refine ⟨fun j hj => ?_, fun i h1 h2 => ?_, fun i c s hi hc9 hs e1 e2 => ?_⟩
  · by_cases e : o j = o k
    · rw [e]; exact hnew
    · have hj2 : j < k := by
        rcases Nat.lt_or_ge j k with y | y
        · exact y
        · exact absurd (by rw [show j = k by omega]) e
      obtain ⟨x, x1, x2, x3⟩ := h.1 j hj2
      refine ⟨x, x1, by rw [pk_un e]; exact x2, fun s hs hb => ?_⟩
      obtain ⟨q1, q2, q3, q4⟩ := x3 s hs hb
      have hoj := ho.1 j (by omega)
      obtain ⟨p1, p2, p3, p4⟩ := hp2 (x + b s) (fun t ht hbt z => by
        have := hfa t ht hbt
        rw [← z, q1] at this
        exact absurd this (nI_pos (by omega)))
      rw [p1, p2, p3, p4]
      exact ⟨q1, q2, q3, q4⟩
  · rw [(hp2 i (fun s hs _ z => by have := hb8 s hs; omega)).1]
    exact h.2.1 i (by omega) h2
  · by_cases hx : ∃ t, t < 8 ∧ (Kf U d (o k)).testBit t = true ∧ i = a + b t
    · obtain ⟨t, ht, hbt, rfl⟩ := hx
      obtain ⟨q1, q2, -⟩ := hp1 t ht ht hbt
      have f1 := z_eq (by omega) (by omega) (q1.symm.trans e1)
      have f2 := z_eq (by omega) (by omega) (q2.symm.trans e2)
      rw [← f1, ← f2]
      exact hbt
    · obtain ⟨p1, p2, -⟩ := hp2 i (fun s hs hb z => hx ⟨s, hs, hb, z⟩)
      rw [p1] at e1
      rw [p2] at e2
      exact h.2.2 i c s hi hc9 hs e1 e2
def BuiltS (n : Nat) (U d : Nat → Int32) (F : Nat → Int32) (S : Nat → Nat → Int32) : Prop := (∀ c, c < n → S 1 c = U c) ∧ (∀ j, j < 80 → S 2 j = d j) ∧ F 3 = nI 1 ∧ Built n U d (S 4) (S 5) (S 7) (F 10) (S 11) (S 12) (S 13) (S 14) (S 15)
theorem BuiltS.sys {n : Nat} {U d : Nat → Int32} {F : Nat → Int32} {S : Nat → Nat → Int32} (h : BuiltS n U d F S) : Sys n U d F S := by
  obtain ⟨h1, h2, h3, h4⟩ := h
  refine ⟨h1, h2, fun s hs => ?_, Or.inr ⟨h3, h4⟩⟩
  obtain ⟨-, -, -, b, hb, -⟩ := h4
  exact ⟨b s, hb.1 s hs⟩
theorem pb_done {n : Nat} {U d kn mt be : Nat → Int32} {x : Nat} {o b : Nat → Nat} {sh ec es eo em : Nat → Int32} (ho : Topo n U o) (hkn : ∀ c, c < n → kn c = nI (Kf U d c)) (hmt : ∀ s, s < 8 → mt s = nI (Mf U d s n)) (hchi : IsChi (fun s => Mf U d s n) x) (hx8 : x ≤ 8) (hb : Bst (fun s => Mf U d s n) be b) (h : PB U d o b n sh ec es eo em) : Built n U d kn mt be (nI x) sh ec es eo em := by
  refine ⟨hkn, hmt, ⟨x, hx8, rfl, hchi⟩, b, hb, fun c hc => ?_, h.2.2⟩
  obtain ⟨k, hk, rfl⟩ := ho.2.1 c hc
  exact h.1 k hk
theorem ec_next {ec : Nat → Int32} {i : Nat} (h : ∀ k, k < i → ec k = -1) : ∀ k, k < i + 1 → upd ec i (-1) k = -1 := by
  intro k hk
  by_cases e : k = i
  · subst e; exact pk_us
  · rw [pk_un e]; exact h k (by omega)
/-! the answers out of the table -/
def EntR (n : Nat) (U d : Nat → Int32) (c s v : Int32) (S : Nat → Nat → Int32) : Prop := (∃ k j, CS n c s k j ∧ (((Kf U d k).testBit j = true ∧ ∃ i, i < 96 ∧ v = nI i ∧ S 14 i = ownF U d j 10 (nI k) ∧ S 15 i = sndF U d j k) ∨ ((Kf U d k).testBit j = false ∧ v = -1))) ∨ ((∀ k j, ¬ CS n c s k j) ∧ v = -1)
theorem ent_no {n : Nat} {U d : Nat → Int32} {c s : Int32} {S : Nat → Nat → Int32} (h : ∀ k j, ¬ CS n c s k j) : EntR n U d c s (-1) S := Or.inr ⟨h, rfl⟩
theorem ent_yes {U d ec es eo em : Nat → Int32} {b : Nat → Nat} {n k j x : Nat} {S : Nat → Nat → Int32} (hk : k < n) (hn : n ≤ 10) (hj : j < 8) (hx80 : x ≤ 80) (hb8 : b j < 8) (hent : ∀ s, s < 8 → (Kf U d k).testBit s = true → ec (x + b s) = nI k ∧ es (x + b s) = nI s ∧ eo (x + b s) = ownF U d s 10 (nI k) ∧ em (x + b s) = sndF U d s k) (hneg : Neg U d ec es) (h14 : S 14 = eo) (h15 : S 15 = em) (h1 : ec (x + b j) = nI k) (h2 : es (x + b j) = nI j) : EntR n U d (nI k) (nI j) (nI (x + b j)) S := by
  have hb := hneg (x + b j) k j (by omega) (by omega) hj h1 h2
  refine Or.inl ⟨k, j, ⟨hk, hj, rfl, rfl⟩, Or.inl ⟨hb, x + b j, by omega, rfl, ?_⟩⟩
  rw [h14, h15]
  exact (hent j hj hb).2.2
theorem ent_not {U d ec es eo em : Nat → Int32} {b : Nat → Nat} {n k j x : Nat} {S : Nat → Nat → Int32} (hk : k < n) (hj : j < 8) (hent : ∀ s, s < 8 → (Kf U d k).testBit s = true → ec (x + b s) = nI k ∧ es (x + b s) = nI s ∧ eo (x + b s) = ownF U d s 10 (nI k) ∧ em (x + b s) = sndF U d s k) (h : ¬ (ec (x + b j) = nI k ∧ es (x + b j) = nI j)) : EntR n U d (nI k) (nI j) (-1) S := by
  refine Or.inl ⟨k, j, ⟨hk, hj, rfl, rfl⟩, Or.inr ⟨?_, rfl⟩⟩
  cases hb : (Kf U d k).testBit j with
  | false => rfl
  | true => exact absurd ⟨(hent j hj hb).1, (hent j hj hb).2.1⟩ h
theorem snd_neg {n : Nat} {U d : Nat → Int32} {c s v : Int32} {S : Nat → Nat → Int32} (h : EntR n U d c s v S) (hv : ¬ 0 ≤ v) : SndR n U d c s (nI 0) := by
  rcases h with ⟨k, j, hcs, ⟨-, i, hi, rfl, -⟩ | ⟨hb, -⟩⟩ | ⟨h, -⟩
  · exact absurd (nI_pos' (by omega)) hv
  · refine Or.inl ⟨k, j, hcs, ?_⟩
    unfold sndF
    rw [if_pos ((Kf_nbit hcs.2.1).mp hb)]
  · exact Or.inr ⟨h, rfl⟩
theorem ent_pos {n : Nat} {U d : Nat → Int32} {c s v : Int32} {S : Nat → Nat → Int32} (h : EntR n U d c s v S) (hv : 0 ≤ v) : ∃ k j i, CS n c s k j ∧ (Kf U d k).testBit j = true ∧ i < 96 ∧ v = nI i ∧ S 14 i = ownF U d j 10 (nI k) ∧ S 15 i = sndF U d j k := by
  rcases h with ⟨k, j, hcs, ⟨hb, i, hi, e, h1, h2⟩ | ⟨-, rfl⟩⟩ | ⟨-, rfl⟩
  · exact ⟨k, j, i, hcs, hb, hi, e, h1, h2⟩
  · exact absurd hv (by decide)
  · exact absurd hv (by decide)
theorem ow_neg {n : Nat} {U d : Nat → Int32} {c s v : Int32} {S : Nat → Nat → Int32} (hL : LInv n U d) (h : EntR n U d c s v S) (hv : ¬ 0 ≤ v) : OwnR n U d c s (-1) := by
  rcases h with ⟨k, j, hcs, ⟨-, i, hi, rfl, -⟩ | ⟨hb, -⟩⟩ | ⟨h, -⟩
  · exact absurd (nI_pos' (by omega)) hv
  · refine Or.inl ⟨k, j, hcs, ?_⟩
    have h1 := ownF_par (d := d) (s := j) hL.1 hL.2.1 10 (nI k) (Or.inr ⟨k, hcs.1, rfl⟩)
    exact (par_neg hL.1 h1 ((Kf_nbit hcs.2.1).mp hb)).symm
  · exact Or.inr ⟨h, rfl⟩
theorem sup_neg {n : Nat} {U d : Nat → Int32} {k : Nat} {s : Int32} (hn : n ≤ 10) (hk : k < n) (h : ¬ 0 ≤ U k) : SupR n U d (nI k) s (nI 0) := by
  refine Or.inl ⟨k, hk, rfl, Or.inr ⟨fun k1 j q => ?_, rfl⟩⟩
  exact h (by rw [q.2.2.1]; exact nI_pos' (by have := q.1; omega))
theorem own_def {U d : Nat → Int32} {s k : Nat} (hk : k < 10) : ∀ (f : Nat) (e : Int32), ownF U d s f e = nI k → 0 < d (8 * k + s)
  | 0, e, h => absurd h (nI_m1 (by omega))
  | f + 1, e, h => by
    unfold ownF at h
    split at h
    · exact absurd h (nI_m1 (by omega))
    · split at h
      · next h2 => rw [h, nI_clamp (by omega)] at h2; exact h2
      · exact own_def hk f _ h
theorem hei_zero {n : Nat} {U d : Nat → Int32} {k j : Nat} (hn : n ≤ 10) (hk : k < n) (hj : j < 8) (h : d (8 * k + j) = 0) : HeiR n U d (nI k) (nI j) (nI 0) := by
  refine Or.inl ⟨k, j, ⟨hk, hj, rfl, rfl⟩, (congrArg nI (mk_0 fun x _ => ?_)).symm⟩
  rw [decide_eq_false_iff_not]
  intro q
  have := own_def (by omega) 10 (nI x) q
  rw [h] at this
  exact absurd this (by decide)
theorem hei_y {n : Nat} {U d : Nat → Int32} {i j k : Nat} {v : Int32} {S : Nat → Nat → Int32} {x : Nat} (hi : i < n) (hn : n ≤ 10) (hj : j < 8) (h : EntR n U d (nI i) (nI j) (nI x) S) (hx : x < 96) (e : S 14 x = nI k) : decide (ownF U d j 10 (nI i) = nI k) = true := by
  obtain ⟨k1, j1, i1, hcs, -, h3, h4, h5, -⟩ := ent_pos h (nI_pos' (by omega))
  have e1 := z_eq (by omega) (by have := hcs.1; omega) hcs.2.2.1
  have e2 := z_eq (by omega) (by have := hcs.2.1; omega) hcs.2.2.2
  have e3 := z_eq (by omega) (by omega) h4
  rw [← e1, ← e2, ← e3] at h5
  rw [← h5, decide_eq_true e]
theorem hei_n {n : Nat} {U d : Nat → Int32} {i j k : Nat} {v : Int32} {S : Nat → Nat → Int32} (hL : LInv n U d) (hi : i < n) (hj : j < 8) (hk : k < n) (h : EntR n U d (nI i) (nI j) v S) (hx : v < 0 ∨ ∃ x, x < 96 ∧ v = nI x ∧ ¬ S 14 x = nI k) : decide (ownF U d j 10 (nI i) = nI k) = false := by
  have hn := hL.1
  rw [decide_eq_false_iff_not]
  intro q
  rcases hx with hx | ⟨x, hx, rfl, hne⟩
  · rcases ow_neg hL h (fun z => (fa_of_lt hx).2.1 z) with ⟨k1, j1, hcs, e⟩ | ⟨hno, -⟩
    · have e1 := z_eq (by omega) (by have := hcs.1; omega) hcs.2.2.1
      have e2 := z_eq (by omega) (by have := hcs.2.1; omega) hcs.2.2.2
      rw [← e1, ← e2, q] at e
      exact absurd e (nI_m1 (by omega))
    · exact hno i j ⟨hi, hj, rfl, rfl⟩
  · obtain ⟨k1, j1, i1, hcs, -, h3, h4, h5, -⟩ := ent_pos h (nI_pos' (by omega))
    have e1 := z_eq (by omega) (by have := hcs.1; omega) hcs.2.2.1
    have e2 := z_eq (by omega) (by have := hcs.2.1; omega) hcs.2.2.2
    have e3 := z_eq (by omega) (by omega) h4
    rw [← e1, ← e2, ← e3] at h5
    exact hne (h5.trans q)
theorem ent_ix {n : Nat} {U d : Nat → Int32} {c s v : Int32} {S : Nat → Nat → Int32} (h : EntR n U d c s v S) (hv : ¬ v < 0) : ∃ x, x < 96 ∧ v = nI x := by
  obtain ⟨k, j, i, -, -, h1, h2, -⟩ := ent_pos h (fa_of_nlt hv)
  exact ⟨i, h1, h2⟩
end
section
/-! small rows for the public methods -/
theorem bs_same {n : Nat} {U d ab df : Nat → Int32} {bt : Int32} {kn mt be : Nat → Int32} {ck : Int32} {sh ec es eo em : Nat → Int32} {co li ro dn : Nat → Int32} {ll : Int32} (hS : SysI n U d ab df bt kn mt be ck sh ec es eo em) (h : ¬ bt = 0) : BuiltS n U d (mkF bt ll ck) (mkS ab df kn mt co be li sh ec es eo em ro dn) := by
  obtain ⟨h1, h2, -, h4⟩ := hS
  rcases h4 with e | ⟨e, h5⟩
  · exact absurd (e.trans nI_0) h
  · exact ⟨h1, h2, e, h5⟩
theorem ad_next {n : Nat} {U ab : Nat → Int32} {p : Int32} (h : ∀ c, c < n → ab c = U c) : ∀ c, c < n + 1 → upd ab n p c = upd U n p c := by
  intro c hc
  by_cases e : c = n
  · subst e; rw [pk_us, pk_us]
  · rw [pk_un e, pk_un e]; exact h c (by omega)
theorem df_zero {n : Nat} {U d df : Nat → Int32} {i k : Nat} (hL : LInv n U d) (h : ∀ j, j < 80 → df j = d j) (hk : k = 8 * n + i) (hi : i < 8) : ∀ j, j < 80 → upd df k (nI 0) j = d j := by
  intro j hj
  by_cases e : j = k
  · rw [e, pk_us, hL.2.2.2.2 k (by omega) (by omega)]
  · rw [pk_un e]; exact h j hj
theorem df_upd {d df : Nat → Int32} {k : Nat} {v : Int32} (h : ∀ j, j < 80 → df j = d j) : ∀ j, j < 80 → upd df k v j = upd d k v j := by
  intro j hj
  by_cases e : j = k
  · rw [e, pk_us, pk_us]
  · rw [pk_un e, pk_un e]; exact h j hj
theorem ab_upd {n : Nat} {U ab : Nat → Int32} {k : Nat} {v : Int32} (h : ∀ c, c < n → ab c = U c) : ∀ c, c < n → upd ab k v c = upd U k v c := by
  intro j hj
  by_cases e : j = k
  · rw [e, pk_us, pk_us]
  · rw [pk_un e, pk_un e]; exact h j hj
theorem par_i2b {n : Nat} {x : Int32} (hn : n ≤ 10) (h : Par n x) : x.toInt8.toInt32 = x := by
  rcases h with rfl | ⟨j, hj, rfl⟩
  · decide
  · exact z_i2b (by omega)
theorem par_narb {n : Nat} {x : Int32} (hn : n ≤ 10) (h : Par n x) : vp_nar .byte x = x := by
  rw [vp_nar_byte]; exact par_i2b hn h
end
section
/-! the reference's least numbers of colours are the chromatic number -/
def ColS (M : Nat → Nat) (t x : Nat) : Prop := ∃ f : Nat → Nat, (∀ s, s < 8 → t.testBit s = true → f s < x) ∧ ∀ a b, a < 8 → b < 8 → a ≠ b → t.testBit a = true → t.testBit b = true → (M a).testBit b = true → f a ≠ f b
theorem ne0_bit {a : Nat} (h : a ≠ 0) : ∃ i, a.testBit i = true := by
  by_cases q : ∃ i, a.testBit i = true
  · exact q
  · exfalso
    apply h
    apply Nat.eq_of_testBit_eq
    intro i
    rw [Nat.zero_testBit]
    cases hb : a.testBit i with
    | false => rfl
    | true => exact absurd ⟨i, hb⟩ q
theorem bit_lt8 {a i : Nat} (ha : a < 256) (h : a.testBit i = true) : i < 8 := by
  rcases Nat.lt_or_ge i 8 with y | y
  · exact y
  · rw [Nat.testBit_lt_two_pow (Nat.lt_of_lt_of_le ha (Nat.pow_le_pow_right (n := 2) (by decide) y))] at h
    cases h
theorem sub_bit {q t i : Nat} (h : q &&& t = q) (hb : q.testBit i = true) : t.testBit i = true := by
  rw [← h, Nat.testBit_and, Bool.and_eq_true] at hb
  exact hb.2
theorem sub_of {q t : Nat} (h : ∀ i, q.testBit i = true → t.testBit i = true) : q &&& t = q := by
  apply Nat.eq_of_testBit_eq
  intro i
  rw [Nat.testBit_and]
  cases hb : q.testBit i with
  | false => rfl
  | true => rw [h i hb]; rfl
theorem xor_bit {t q i : Nat} (h : q &&& t = q) : (t ^^^ q).testBit i = true ↔ t.testBit i = true ∧ q.testBit i = false := by
  have h2 := congrArg (fun z => z.testBit i) h
  simp only [Nat.testBit_and] at h2
  rw [Nat.testBit_xor]
  revert h2
  cases t.testBit i <;> cases q.testBit i <;> simp
theorem strg_iff {M : Nat → Nat} {p : Nat} (hp : p < 256) : strg M p 8 = true ↔ ∀ a b, a < 8 → b < 8 → a ≠ b → p.testBit a = true → p.testBit b = true → (M a).testBit b = false := by
  have hpM : ∀ s, p &&& M s < 256 := fun s => Nat.lt_of_le_of_lt Nat.and_le_left hp
  have step : ∀ s, s < 8 → ((nI (p &&& M s) &&& (nI (2 ^ s) ^^^ (-1))) = 0 ↔ ∀ b, b < 8 → s ≠ b → p.testBit b = true → (M s).testBit b = false) := by
    intro s hs
    have h2 : 2 ^ s < 256 := Nat.pow_lt_pow_right (a := 2) (by decide) hs
    rw [z_subset (hpM s) h2]
    constructor
    · intro h b hb hsb hpb
      cases hM : (M s).testBit b with
      | false => rfl
      | true =>
        have h3 : (p &&& M s).testBit b = true := by rw [Nat.testBit_and, hpb, hM]; rfl
        have h4 := sub_bit h h3
        rw [Nat.testBit_two_pow, decide_eq_true_eq] at h4
        exact absurd h4 hsb
    · intro h
      refine sub_of (fun i hi => ?_)
      rw [Nat.testBit_and, Bool.and_eq_true] at hi
      have h8 := bit_lt8 hp hi.1
      by_cases e : s = i
      · subst e; exact Nat.testBit_two_pow_self
      · rw [h i h8 e hi.1] at hi
        cases hi.2
  have key : ∀ m, m ≤ 8 → (strg M p m = true ↔ ∀ a, a < m → p.testBit a = true → ∀ b, b < 8 → a ≠ b → p.testBit b = true → (M a).testBit b = false) := by
    intro m
    induction m with
    | zero => intro _; exact ⟨fun _ a ha => absurd ha (by omega), fun _ => rfl⟩
    | succ m ih =>
      intro hm
      have ih := ih (by omega)
      unfold strg
      by_cases hb : p.testBit m = true
      · rw [if_pos hb, Bool.and_eq_true, decide_eq_true_eq, ih, step m (by omega)]
        constructor
        · rintro ⟨h1, h2⟩ a ha hpa
          by_cases e : a = m
          · subst e; exact h2
          · exact h1 a (by omega) hpa
        · intro h
          exact ⟨fun a ha => h a (by omega), h m (by omega) hb⟩
      · rw [if_neg hb, ih]
        constructor
        · intro h1 a ha hpa
          by_cases e : a = m
          · subst e; exact absurd hpa hb
          · exact h1 a (by omega) hpa
        · intro h a ha
          exact h a (by omega)
  rw [key 8 (Nat.le_refl 8)]
  exact ⟨fun h a b ha hb hab hpa hpb => h a ha hpa b hb hab hpb, fun h a ha hpa b hb hab hpb => h a b ha hb hab hpa hpb⟩
def VP (M : Nat → Nat) (t p : Nat) : Prop := p ≠ 0 ∧ p &&& t = p ∧ strg M p 8 = true
theorem inn_low {M g : Nat → Nat} {t p : Nat} (hv : VP M t p) : ∀ q, p < q → inn M g t q ≤ g (t ^^^ p) + 1
  | 0, h => absurd h (by omega)
  | q + 1, h => by
    unfold inn
    by_cases e : p = q
    · subst e
      rw [if_pos (show p ≠ 0 ∧ p &&& t = p ∧ strg M p 8 = true from hv)]
      split <;> omega
    · have ih := inn_low (g := g) hv q (by omega)
      split
      · split <;> omega
      · exact ih
theorem inn_some {M g : Nat → Nat} {t : Nat} : ∀ q, inn M g t q = 8 ∨ ∃ p, p < q ∧ VP M t p ∧ inn M g t q = g (t ^^^ p) + 1
  | 0 => Or.inl rfl
  | q + 1 => by
    have ih := inn_some (M := M) (g := g) (t := t) q
    unfold inn
    have old : inn M g t q = 8 ∨ ∃ p, p < q + 1 ∧ VP M t p ∧ inn M g t q = g (t ^^^ p) + 1 := by
      rcases ih with h | ⟨p, h1, h2⟩
      · exact Or.inl h
      · exact Or.inr ⟨p, by omega, h2⟩
    split
    · next hv =>
      split
      · exact Or.inr ⟨q, by omega, hv, rfl⟩
      · exact old
    · exact old
theorem gF_stay (M : Nat → Nat) (used : Nat) {x : Nat} : ∀ d, gF M used (x + 1 + d) x = gF M used (x + 1) x
  | 0 => rfl
  | d + 1 => by
    have ih := gF_stay M used (x := x) d
    rw [← ih]
    show gF M used (x + 1 + d + 1) x = _
    conv => lhs; unfold gF
    split
    · unfold fup
      rw [if_neg (by omega)]
    · rfl
theorem gF_min {M : Nat → Nat} {used : Nat} : ∀ (t : Nat), t < 256 → t &&& used = t → ColS M t (gF M used (t + 1) t) ∧ ∀ y, ColS M t y → gF M used (t + 1) t ≤ y := by
  intro t
  induction t using Nat.strongRecOn with
  | _ t ih =>
    intro ht hsub
    by_cases h0 : t = 0
    · subst h0
      have e : gF M used (0 + 1) 0 = 0 := by
        unfold gF
        rw [if_neg (fun q => q.1 rfl)]
        rfl
      rw [e]
      exact ⟨⟨fun _ => 0, fun s _ h => (by rw [Nat.zero_testBit] at h; cases h), fun a b _ _ _ h => (by rw [Nat.zero_testBit] at h; cases h)⟩, fun y _ => Nat.zero_le y⟩
    · have e : gF M used (t + 1) t = inn M (gF M used t) t (t + 1) := by
        conv => lhs; unfold gF
        rw [if_pos ⟨h0, hsub⟩]
        exact fup_s
      rw [e]
      have low : ∀ p, VP M t p → t ^^^ p < t ∧ (t ^^^ p) &&& used = t ^^^ p ∧ gF M used t (t ^^^ p) = gF M used ((t ^^^ p) + 1) (t ^^^ p) := by
        intro p hv
        have h1 := xor_lt hv.2.1 (Nat.pos_of_ne_zero hv.1)
        refine ⟨h1, sub_of (fun i hi => sub_bit hsub ((xor_bit hv.2.1).mp hi).1), ?_⟩
        have := gF_stay M used (x := t ^^^ p) (t - ((t ^^^ p) + 1))
        rwa [show (t ^^^ p) + 1 + (t - ((t ^^^ p) + 1)) = t by omega] at this
      constructor
      · rcases inn_some (M := M) (g := gF M used t) (t := t) (t + 1) with h8 | ⟨p, -, hv, h8⟩
        · rw [h8]
          exact ⟨fun s => s, fun s hs _ => hs, fun a b _ _ hab _ _ _ => hab⟩
        · obtain ⟨l1, l2, l3⟩ := low p hv
          obtain ⟨f, f1, f2⟩ := (ih _ l1 (by omega) l2).1
          have hp : p < 256 := by rw [← hv.2.1]; exact Nat.lt_of_le_of_lt Nat.and_le_right ht
          have hst := (strg_iff hp).mp hv.2.2
          rw [h8, l3]
          generalize gF M used ((t ^^^ p) + 1) (t ^^^ p) = G at f1
          refine ⟨fun s => if p.testBit s = true then G else f s, fun s hs hb => ?_, fun a b ha hb hab hta htb hM => ?_⟩
          · show (if p.testBit s = true then G else f s) < G + 1
            split
            · omega
            · next hn =>
              have := f1 s hs ((xor_bit hv.2.1).mpr ⟨hb, by simpa using hn⟩)
              omega
          · show (if p.testBit a = true then G else f a) ≠ (if p.testBit b = true then G else f b)
            by_cases pa : p.testBit a = true
            · by_cases pb : p.testBit b = true
              · rw [hst a b ha hb hab pa pb] at hM
                cases hM
              · rw [if_pos pa, if_neg pb]
                have := f1 b hb ((xor_bit hv.2.1).mpr ⟨htb, by simpa using pb⟩)
                omega
            · by_cases pb : p.testBit b = true
              · rw [if_neg pa, if_pos pb]
                have := f1 a ha ((xor_bit hv.2.1).mpr ⟨hta, by simpa using pa⟩)
                omega
              · rw [if_neg pa, if_neg pb]
                exact f2 a b ha hb hab ((xor_bit hv.2.1).mpr ⟨hta, by simpa using pa⟩) ((xor_bit hv.2.1).mpr ⟨htb, by simpa using pb⟩) hM
      · intro y
        induction y with
        | zero =>
          rintro ⟨f, f1, -⟩
          obtain ⟨i, hi⟩ := ne0_bit h0
          exact absurd (f1 i (bit_lt8 ht hi) hi) (by omega)
        | succ y ihy =>
          rintro ⟨f, f1, f2⟩
          have hpb : ∀ i, (mk (fun s => t.testBit s && decide (f s = y)) 8).testBit i = true ↔ i < 8 ∧ t.testBit i = true ∧ f i = y := by
            intro i
            rw [mk_bit, Bool.and_eq_true, Bool.and_eq_true, decide_eq_true_eq, decide_eq_true_eq]
          have hp8 := mk_lt (fun s => t.testBit s && decide (f s = y)) 8
          generalize mk (fun s => t.testBit s && decide (f s = y)) 8 = p at hpb hp8
          by_cases hp0 : p = 0
          · have : ColS M t y := by
              refine ⟨f, fun s hs hb => ?_, f2⟩
              have h1 := f1 s hs hb
              by_cases e2 : f s = y
              · have := (hpb s).mpr ⟨hs, hb, e2⟩
                rw [hp0, Nat.zero_testBit] at this
                cases this
              · omega
            have := ihy this
            omega
          · have hsub2 : p &&& t = p := sub_of (fun i hi => ((hpb i).mp hi).2.1)
            have hv : VP M t p := ⟨hp0, hsub2, (strg_iff hp8).mpr (fun a b ha hb hab pa pb => by
              cases hM : (M a).testBit b with
              | false => rfl
              | true =>
                have a1 := (hpb a).mp pa
                have b1 := (hpb b).mp pb
                exact absurd (a1.2.2.trans b1.2.2.symm) (f2 a b ha hb hab a1.2.1 b1.2.1 hM))⟩
            obtain ⟨l1, l2, l3⟩ := low p hv
            have hle : p < t + 1 := by
              have : p ≤ t := by rw [← hsub2]; exact Nat.and_le_right
              omega
            have h5 := inn_low (g := gF M used t) hv (t + 1) hle
            have h6 := (ih _ l1 (by omega) l2).2 y ⟨f, fun s hs hb => by
              have h7 := (xor_bit hsub2).mp hb
              have h8 := f1 s hs h7.1
              by_cases e2 : f s = y
              · rw [(hpb s).mpr ⟨hs, h7.1, e2⟩] at h7
                cases h7.2
              · omega, fun a b ha hb hab hta htb => f2 a b ha hb hab ((xor_bit hsub2).mp hta).1 ((xor_bit hsub2).mp htb).1⟩
            rw [l3] at h5
            omega
theorem usd_bit {M : Nat → Nat} {s : Nat} : ∀ {m : Nat}, (usd M m).testBit s = true ↔ ∃ j, j < m ∧ (M j).testBit s = true
  | 0 => by
    show (0 : Nat).testBit s = true ↔ _
    rw [Nat.zero_testBit]
    exact ⟨fun h => (by cases h), fun ⟨c, hc, _⟩ => (by omega)⟩
  | m + 1 => by
    have ih := usd_bit (M := M) (s := s) (m := m)
    unfold usd
    rw [Nat.testBit_or, Bool.or_eq_true, ih]
    constructor
    · rintro (⟨j, h1, h2⟩ | h)
      · exact ⟨j, by omega, h2⟩
      · exact ⟨m, by omega, h⟩
    · rintro ⟨j, h1, h2⟩
      by_cases e : j = m
      · subst e; exact Or.inr h2
      · exact Or.inl ⟨j, by omega, h2⟩
/-- the reference's answer is the chromatic number -/
theorem gF_chi (U d : Nat → Int32) (n : Nat) : IsChi (fun s => Mf U d s n) (gF (fun s => Mf U d s n) (usd (fun s => Mf U d s n) 8) 256 (usd (fun s => Mf U d s n) 8)) := by
  have hM8 : ∀ s, s < 8 → (fun s => Mf U d s n) s < 256 := fun s _ => Mf_lt U d s n
  have hus := usd_lt hM8 8 (Nat.le_refl 8)
  have hin : ∀ s, s < 8 → ((usd (fun s => Mf U d s n) 8).testBit s = true ↔ Mf U d s n ≠ 0) := by
    intro s hs
    rw [usd_bit]
    constructor
    · rintro ⟨j, hj, h⟩ e
      have h2 : (Mf U d s n).testBit j = true := by rw [← Mf_sym U d n j s]; exact h
      rw [e, Nat.zero_testBit] at h2
      cases h2
    · intro h
      obtain ⟨t, ht⟩ := ne0_bit h
      obtain ⟨c, h1, h2, -⟩ := Mf_bit.mp ht
      exact ⟨s, hs, Mf_bit.mpr ⟨c, h1, h2, h2⟩⟩
  have hiff : ∀ y, Col (fun s => Mf U d s n) y ↔ ColS (fun s => Mf U d s n) (usd (fun s => Mf U d s n) 8) y := by
    intro y
    constructor
    · rintro ⟨f, f1, f2⟩
      exact ⟨f, fun s hs hb => f1 s hs ((hin s hs).mp hb), fun a b ha hb hab _ _ hM => f2 a b ha hb hab hM⟩
    · rintro ⟨f, f1, f2⟩
      refine ⟨f, fun s hs hM => f1 s hs ((hin s hs).mpr hM), fun a b ha hb hab hM => f2 a b ha hb hab ?_ ?_ hM⟩
      · rw [hin a ha]; intro e; have hM2 : (Mf U d a n).testBit b = true := hM; rw [e, Nat.zero_testBit] at hM2; cases hM2
      · rw [usd_bit]; exact ⟨a, ha, hM⟩
  have hg := gF_min (M := fun s => Mf U d s n) (used := usd (fun s => Mf U d s n) 8) (usd (fun s => Mf U d s n) 8) hus (Nat.and_self _)
  have e := gF_stay (fun s => Mf U d s n) (usd (fun s => Mf U d s n) 8) (x := usd (fun s => Mf U d s n) 8) (256 - (usd (fun s => Mf U d s n) 8 + 1))
  rw [show usd (fun s => Mf U d s n) 8 + 1 + (256 - (usd (fun s => Mf U d s n) 8 + 1)) = 256 by omega] at e
  rw [e]
  exact ⟨(hiff _).mpr hg.1, fun y hy => hg.2 y ((hiff y).mp hy)⟩
theorem chi_one {M : Nat → Nat} {x y : Nat} (h1 : IsChi M x) (h2 : IsChi M y) : x = y := Nat.le_antisymm (h1.2 y h2.1) (h2.2 x h1.1)
end
section
/-! the state (n, U, d) stays good; two answers by one relation are one -/
theorem und_fuel {n : Nat} {U : Nat → Int32} {rk : Nat → Nat} {c : Int32} (hn : n ≤ 10) (hU : ∀ k, k < n → Par n (U k)) (hrk : Rank n U rk) : ∀ (f j : Nat), j < n → rk j < f → undF U c f (nI j) = undF U c (f + 1) (nI j)
  | 0, j, _, h => absurd h (by omega)
  | f + 1, j, hj, h => by
    by_cases hc : nI j = c
    · subst hc
      rw [und_hit (by omega), und_hit (by omega)]
    · rw [und_step (by omega) hc, und_step (by omega) hc]
      rcases hU j hj with e | ⟨i, hi, e⟩
      · rw [e]
        have h0 : ∀ g, undF U c g (-1) = false := fun g => by
          cases g with
          | zero => rfl
          | succ g => exact und_neg (by decide)
        rw [h0, h0]
      · rw [e]
        have h1 := hrk.2 j i hj hi e
        exact und_fuel hn hU hrk f i hi (by omega)
theorem par_up {n : Nat} {e : Int32} (h : Par n e) : Par (n + 1) e := by
  rcases h with h | ⟨j, hj, h⟩
  · exact Or.inl h
  · exact Or.inr ⟨j, by omega, h⟩
theorem inv_add {n n' : Nat} {U U' d : Nat → Int32} {p v : Int32} (hL : LInv n U d) (h : AddR n U p v n' U') : LInv n' U' d := by
  rcases h with ⟨-, -, rfl, rfl⟩ | ⟨-, -, -, rfl, rfl⟩ | ⟨hp, hn, -, rfl, rfl⟩
  · exact hL
  · exact hL
  · obtain ⟨h1, h2, h3, h4, h5⟩ := hL
    obtain ⟨rk, hrk⟩ := rank_of h3
    refine ⟨by omega, fun k hk => ?_, ⟨fup rk n n, fun c j hc hj e => ?_⟩, h4, fun j a b => h5 j (by omega) b⟩
    · by_cases e : k = n
      · subst e; rw [pk_us]; exact par_up hp
      · rw [pk_un e]; exact par_up (h2 k (by omega))
    · by_cases ec : c = n
      · subst ec
        rw [pk_us] at e
        rcases hp with q | ⟨i, hi, q⟩
        · exact absurd (q.symm.trans e) (nI_m1 (by omega))
        · have := z_eq (by omega) (by omega) (q.symm.trans e)
          subst this
          rw [fup_s, fup_n (by omega)]
          exact hrk.1 i hi
      · rw [pk_un ec] at e
        have hcn : c < n := by omega
        rcases h2 c hcn with q | ⟨i, hi, q⟩
        · exact absurd (q.symm.trans e) (nI_m1 (by omega))
        · have := z_eq (by omega) (by omega) (q.symm.trans e)
          subst this
          rw [fup_n ec, fup_n (by omega)]
          exact hrk.2 c i hcn hi q
theorem inv_set {n : Nat} {U d : Nat → Int32} {k j q : Nat} (hL : LInv n U d) (hk : k < n) (hj : j < 8) (hq : q ≤ 1000) : LInv n U (upd d (8 * k + j) (nI q)) := by
  obtain ⟨h1, h2, h3, h4, h5⟩ := hL
  refine ⟨h1, h2, h3, fun i hi => ?_, fun i a b => ?_⟩
  · by_cases e : i = 8 * k + j
    · rw [e, pk_us]; exact ⟨q, hq, rfl⟩
    · rw [pk_un e]; exact h4 i hi
  · rw [pk_un (by omega)]; exact h5 i a b
theorem inv_def {n : Nat} {U d d' : Nat → Int32} {c s m v : Int32} (hL : LInv n U d) (h : DefR n d c s m v d') : LInv n U d' := by
  rcases h with ⟨k, j, q, ⟨hk, hj, hq, -⟩, -, rfl⟩ | ⟨-, -, rfl⟩
  · exact inv_set hL hk hj hq.2
  · exact hL
theorem inv_drop {n : Nat} {U d d' : Nat → Int32} {c s v : Int32} (hL : LInv n U d) (h : DropR n d c s v d') : LInv n U d' := by
  rcases h with ⟨k, j, ⟨hk, hj, -⟩, -, -, rfl⟩ | ⟨-, -, rfl⟩
  · exact inv_set hL hk hj (by omega)
  · exact hL
theorem inv_move {n : Nat} {U U' d : Nat → Int32} {c p v : Int32} (hL : LInv n U d) (h : MoveR n U c p v U') : LInv n U' d := by
  rcases h with ⟨k, hk, rfl, hp, hu, -, rfl⟩ | ⟨-, -, rfl⟩
  · obtain ⟨h1, h2, h3, h4⟩ := hL
    obtain ⟨rk, hrk⟩ := rank_of h3
    have hD : ∀ c j, c < n → j < n → c ≠ k → U c = nI j → undF U (nI k) 10 (nI c) = undF U (nI k) 10 (nI j) := by
      intro c j hc hj hck e
      rw [und_step (f := 9) (by omega) (fun q => hck (z_eq (by omega) (by omega) q)), e]
      have a := hrk.2 c j hc hj e
      have b := hrk.1 c hc
      exact und_fuel h1 h2 hrk 9 j hj (by omega)
    refine ⟨h1, fun i hi => ?_, ⟨fun x => if undF U (nI k) 10 (nI x) = true then rk x + n else rk x, fun c j hc hj e => ?_⟩, h4⟩
    · by_cases e : i = k
      · subst e; rw [pk_us]; exact hp
      · rw [pk_un e]; exact h2 i hi
    · show (if undF U (nI k) 10 (nI j) = true then rk j + n else rk j) < (if undF U (nI k) 10 (nI c) = true then rk c + n else rk c)
      by_cases ec : c = k
      · subst ec
        rw [pk_us] at e
        subst e
        rw [if_neg (by rw [hu]; decide), if_pos (und_hit (by omega))]
        have := hrk.1 j hj
        omega
      · rw [pk_un ec] at e
        rw [hD c j hc hj ec e]
        have := hrk.2 c j hc hj e
        split <;> omega
  · exact hL
theorem cs_one {n : Nat} {c s : Int32} {k j k1 j1 : Nat} (hn : n ≤ 10) (h : CS n c s k j) (h1 : CS n c s k1 j1) : k = k1 ∧ j = j1 := by
  obtain ⟨a1, a2, a3, a4⟩ := h
  obtain ⟨b1, b2, b3, b4⟩ := h1
  exact ⟨z_eq (by omega) (by omega) (a3.symm.trans b3), z_eq (by omega) (by omega) (a4.symm.trans b4)⟩
theorem det_add {n n1 n2 : Nat} {U U1 U2 : Nat → Int32} {p v w : Int32} (h : AddR n U p v n1 U1) (h1 : AddR n U p w n2 U2) : v = w ∧ n1 = n2 ∧ U1 = U2 := by
  rcases h with ⟨a, rfl, rfl, rfl⟩ | ⟨a, b, rfl, rfl, rfl⟩ | ⟨a, b, rfl, rfl, rfl⟩ <;> rcases h1 with ⟨a1, rfl, rfl, rfl⟩ | ⟨a1, b1, rfl, rfl, rfl⟩ | ⟨a1, b1, rfl, rfl, rfl⟩
  · exact ⟨rfl, rfl, rfl⟩
  · exact absurd a1 a
  · exact absurd a1 a
  · exact absurd a a1
  · exact ⟨rfl, rfl, rfl⟩
  · omega
  · exact absurd a a1
  · omega
  · exact ⟨rfl, rfl, rfl⟩
theorem det_def {n : Nat} {d d1 d2 : Nat → Int32} {c s m v w : Int32} (hn : n ≤ 10) (h : DefR n d c s m v d1) (h1 : DefR n d c s m w d2) : v = w ∧ d1 = d2 := by
  rcases h with ⟨k, j, q, a, rfl, rfl⟩ | ⟨a, rfl, rfl⟩ <;> rcases h1 with ⟨k1, j1, q1, b, rfl, rfl⟩ | ⟨b, rfl, rfl⟩
  · obtain ⟨a1, a2, a3, a4, a5, a6⟩ := a
    obtain ⟨b1, b2, b3, b4, b5, b6⟩ := b
    rw [z_eq (by omega) (by omega) (a4.symm.trans b4), z_eq (by omega) (by omega) (a5.symm.trans b5), z_eq (by omega) (by omega) (a6.symm.trans b6)]
    exact ⟨rfl, rfl⟩
  · exact absurd a (b k j q)
  · exact absurd b (a k1 j1 q1)
  · exact ⟨rfl, rfl⟩
theorem det_drop {n : Nat} {d d1 d2 : Nat → Int32} {c s v w : Int32} (hn : n ≤ 10) (h : DropR n d c s v d1) (h1 : DropR n d c s w d2) : v = w ∧ d1 = d2 := by
  rcases h with ⟨k, j, a, a2, rfl, rfl⟩ | ⟨a, rfl, rfl⟩ <;> rcases h1 with ⟨k1, j1, b, b2, rfl, rfl⟩ | ⟨b, rfl, rfl⟩
  · obtain ⟨e1, e2⟩ := cs_one hn a b
    rw [e1, e2]
    exact ⟨rfl, rfl⟩
  · exact absurd (b k j a) a2
  · exact absurd (a k1 j1 b) b2
  · exact ⟨rfl, rfl⟩
theorem det_move {n : Nat} {U U1 U2 : Nat → Int32} {c p v w : Int32} (hn : n ≤ 10) (h : MoveR n U c p v U1) (h1 : MoveR n U c p w U2) : v = w ∧ U1 = U2 := by
  rcases h with ⟨k, a1, a2, a3, a4, rfl, rfl⟩ | ⟨a, rfl, rfl⟩ <;> rcases h1 with ⟨k1, b1, b2, b3, b4, rfl, rfl⟩ | ⟨b, rfl, rfl⟩
  · rw [z_eq (by omega) (by omega) (a2.symm.trans b2)]
    exact ⟨rfl, rfl⟩
  · exact absurd ((b k a1 a2 a3).symm.trans a4) (by decide)
  · exact absurd ((a k1 b1 b2 b3).symm.trans b4) (by decide)
  · exact ⟨rfl, rfl⟩
theorem det_par {n : Nat} {U : Nat → Int32} {c v w : Int32} (hn : n ≤ 10) (h : ParR n U c v) (h1 : ParR n U c w) : v = w := by
  rcases h with ⟨k, a, e, rfl⟩ | ⟨a, rfl⟩ <;> rcases h1 with ⟨k1, a1, e1, rfl⟩ | ⟨a1, rfl⟩
  · rw [z_eq (by omega) (by omega) (e.symm.trans e1)]
  · exact absurd e (a1 k a)
  · exact absurd e1 (a k1 a1)
  · rfl
theorem det_und {n : Nat} {U d : Nat → Int32} {c v w : Int32} (hn : n ≤ 10) (h : UndR n U d c v) (h1 : UndR n U d c w) : v = w := by
  rcases h with ⟨k, a, e, rfl⟩ | ⟨a, rfl⟩ <;> rcases h1 with ⟨k1, a1, e1, rfl⟩ | ⟨a1, rfl⟩
  · rw [z_eq (by omega) (by omega) (e.symm.trans e1)]
  · exact absurd e (a1 k a)
  · exact absurd e1 (a k1 a1)
  · rfl
theorem det_apa {n : Nat} {U d : Nat → Int32} {c v w : Int32} (h : ApaR n U d c v) (h1 : ApaR n U d c w) : v = w := by
  rcases h with ⟨k, a, e, rfl⟩ | ⟨a, rfl⟩ <;> rcases h1 with ⟨k1, a1, e1, rfl⟩ | ⟨a1, rfl⟩
  · rw [z_eq (by omega) (by omega) (e.symm.trans e1)]
  · exact absurd e (a1 k a)
  · exact absurd e1 (a k1 a1)
  · rfl
theorem det_own {n : Nat} {U d : Nat → Int32} {c s v w : Int32} (hn : n ≤ 10) (h : OwnR n U d c s v) (h1 : OwnR n U d c s w) : v = w := by
  rcases h with ⟨k, j, a, rfl⟩ | ⟨a, rfl⟩ <;> rcases h1 with ⟨k1, j1, b, rfl⟩ | ⟨b, rfl⟩
  · obtain ⟨e1, e2⟩ := cs_one hn a b
    rw [e1, e2]
  · exact absurd a (b k j)
  · exact absurd b (a k1 j1)
  · rfl
theorem det_snd {n : Nat} {U d : Nat → Int32} {c s v w : Int32} (hn : n ≤ 10) (h : SndR n U d c s v) (h1 : SndR n U d c s w) : v = w := by
  rcases h with ⟨k, j, a, rfl⟩ | ⟨a, rfl⟩ <;> rcases h1 with ⟨k1, j1, b, rfl⟩ | ⟨b, rfl⟩
  · obtain ⟨e1, e2⟩ := cs_one hn a b
    rw [e1, e2]
  · exact absurd a (b k j)
  · exact absurd b (a k1 j1)
  · rfl
theorem det_hei {n : Nat} {U d : Nat → Int32} {c s v w : Int32} (hn : n ≤ 10) (h : HeiR n U d c s v) (h1 : HeiR n U d c s w) : v = w := by
  rcases h with ⟨k, j, a, rfl⟩ | ⟨a, rfl⟩ <;> rcases h1 with ⟨k1, j1, b, rfl⟩ | ⟨b, rfl⟩
  · obtain ⟨e1, e2⟩ := cs_one hn a b
    rw [e1, e2]
  · exact absurd a (b k j)
  · exact absurd b (a k1 j1)
  · rfl
theorem det_sup {n : Nat} {U d : Nat → Int32} {c s v w : Int32} (hn : n ≤ 10) (h : SupR n U d c s v) (h1 : SupR n U d c s w) : v = w := by
  rcases h with ⟨k, a, e, a2⟩ | ⟨a, rfl⟩ <;> rcases h1 with ⟨k1, a1, e1, b2⟩ | ⟨a1, rfl⟩
  · rw [← z_eq (by omega) (by omega) (e.symm.trans e1)] at b2
    exact det_snd hn a2 b2
  · exact absurd e (a1 k a)
  · exact absurd e1 (a k1 a1)
  · rfl
end
section
set_option maxRecDepth 100000
set_option maxHeartbeats 4000000 in
set_option maxRecDepth 100000 in
theorem mX_isClass (l : Launch) (D : va_G) (h : Nat) (ad : Nat → Nat) (dB dS dN dZ : ClassId) (n : Nat) (ab df : Nat → Int32) (bt : Int32) (kn mt co be li : Nat → Int32) (ll ck : Int32) (sh ec es eo em ro dn : Nat → Int32)  (x1 : Int32) (hn : n ≤ 10) : zMI l D (zT dB dS dN dZ) yX0_isClass cX0_isClass 2 .boolean 0 [.ref h, .int x1] (wX h ad dB dS (nI n) ab df bt kn mt co be li ll ck sh ec es eo em ro dn) (fun v (u : Unit) => (v = nI 1 ∧ ∃ k, k < n ∧ x1 = nI k) ∨ (v = nI 0 ∧ ∀ k, k < n → x1 ≠ nI k)) (fun _ => wX h ad dB dS (nI n) ab df bt kn mt co be li ll ck sh ec es eo em ro dn) := by
  refine zStartI (by decide) (Nat.le_of_ble_eq_true rfl) ?_
  intro p e s m args below meth c A Q ls hx hb hml hown hts hK hend hW hl
  have hown : s.vm.findClass RX0 = some m.cls := hown
  have hl : lv_has ls 2 [(0, .ref h), (1, .int x1)] := hl
  refine lv_iload_n hx hb dX0_isClass_0 rfl (lv_at hl 1 rfl) ?_
  refine lv_if_lt (tgt := 16) hx hb dX0_isClass_1 (by decide) (fun c1 => ?_) (fun c1 => ?_)
  · have _ := 0
    refine lv_iconst (v := (nI 0)) hx hb dX0_isClass_16 (by decide) ?_
    exact hend _ () _ _ _ _ rfl (Or.inr ⟨rfl, zin_neg (by omega) c1⟩) hW dX0_isClass_17
  · have _ := 0
    refine lv_iload_n hx hb dX0_isClass_4 rfl (lv_at hl 1 rfl) ?_
    refine lv_aload_n hx hb dX0_isClass_5 rfl (lv_at hl 0 rfl) ?_
    refine zg0_cn hx hb hts hown hK hW dX0_isClass_6 ?_
    refine lv_icmp_ge (tgt := 16) hx hb dX0_isClass_9 (by decide) (fun c9 => ?_) (fun c9 => ?_)
    · have _ := 0
      refine lv_iconst (v := (nI 0)) hx hb dX0_isClass_16 (by decide) ?_
      exact hend _ () _ _ _ _ rfl (Or.inr ⟨rfl, zin_ge (by omega) c9⟩) hW dX0_isClass_17
    · have _ := 0
      refine lv_iconst (v := (nI 1)) hx hb dX0_isClass_12 (by decide) ?_
      refine lv_goto (tgt := 17) hx hb dX0_isClass_13 (by decide) ?_
      exact hend _ () _ _ _ _ rfl (Or.inl ⟨rfl, zin_in (by omega) c1 c9⟩) hW dX0_isClass_17
set_option maxHeartbeats 4000000 in
set_option maxRecDepth 100000 in
theorem mX_isSelector (l : Launch) (D : va_G) (h : Nat) (ad : Nat → Nat) (dB dS dN dZ : ClassId) (n : Nat) (ab df : Nat → Int32) (bt : Int32) (kn mt co be li : Nat → Int32) (ll ck : Int32) (sh ec es eo em ro dn : Nat → Int32)  (x1 : Int32)  : zMI l D (zT dB dS dN dZ) yX0_isSelector cX0_isSelector 1 .boolean 0 [.int x1] (wX h ad dB dS (nI n) ab df bt kn mt co be li ll ck sh ec es eo em ro dn) (fun v (u : Unit) => (v = nI 1 ∧ ∃ k, k < 8 ∧ x1 = nI k) ∨ (v = nI 0 ∧ ∀ k, k < 8 → x1 ≠ nI k)) (fun _ => wX h ad dB dS (nI n) ab df bt kn mt co be li ll ck sh ec es eo em ro dn) := by
  refine zStartI (by decide) (Nat.le_of_ble_eq_true rfl) ?_
  intro p e s m args below meth c A Q ls hx hb hml hown hts hK hend hW hl
  have hown : s.vm.findClass RX0 = some m.cls := hown
  have hl : lv_has ls 1 [(0, .int x1)] := hl
  refine lv_iload_n hx hb dX0_isSelector_0 rfl (lv_at hl 0 rfl) ?_
  refine lv_if_lt (tgt := 14) hx hb dX0_isSelector_1 (by decide) (fun c1 => ?_) (fun c1 => ?_)
  · have _ := 0
    refine lv_iconst (v := (nI 0)) hx hb dX0_isSelector_14 (by decide) ?_
    exact hend _ () _ _ _ _ rfl (Or.inr ⟨rfl, zin_neg (by omega) c1⟩) hW dX0_isSelector_15
  · have _ := 0
    refine lv_iload_n hx hb dX0_isSelector_4 rfl (lv_at hl 0 rfl) ?_
    refine lv_bipush (v := (nI 8)) hx hb dX0_isSelector_5 (by decide) ?_
    refine lv_icmp_ge (tgt := 14) hx hb dX0_isSelector_7 (by decide) (fun c7 => ?_) (fun c7 => ?_)
    · have _ := 0
      refine lv_iconst (v := (nI 0)) hx hb dX0_isSelector_14 (by decide) ?_
      exact hend _ () _ _ _ _ rfl (Or.inr ⟨rfl, zin_ge (by omega) c7⟩) hW dX0_isSelector_15
    · have _ := 0
      refine lv_iconst (v := (nI 1)) hx hb dX0_isSelector_10 (by decide) ?_
      refine lv_goto (tgt := 15) hx hb dX0_isSelector_11 (by decide) ?_
      exact hend _ () _ _ _ _ rfl (Or.inl ⟨rfl, zin_in (by omega) c1 c7⟩) hW dX0_isSelector_15
set_option maxHeartbeats 4000000 in
set_option maxRecDepth 100000 in
theorem mX_sizeOf (l : Launch) (D : va_G) (h : Nat) (ad : Nat → Nat) (dB dS dN dZ : ClassId) (n : Nat) (ab df : Nat → Int32) (bt : Int32) (kn mt co be li : Nat → Int32) (ll ck : Int32) (sh ec es eo em ro dn : Nat → Int32) (t : Nat)  (ht : t < 1000) : zMI l D (zT dB dS dN dZ) yX0_sizeOf cX0_sizeOf 3 .int 0 [.int (nI t)] (wX h ad dB dS (nI n) ab df bt kn mt co be li ll ck sh ec es eo em ro dn) (fun v (u : Unit) => v = nI (pcnt t 8)) (fun _ => wX h ad dB dS (nI n) ab df bt kn mt co be li ll ck sh ec es eo em ro dn) := by
  refine zStartI (by decide) (Nat.le_of_ble_eq_true rfl) ?_
  intro p e s m args below meth c A Q ls hx hb hml hown hts hK hend hW hl
  have hown : s.vm.findClass RX0 = some m.cls := hown
  have hl : lv_has ls 3 [(0, .int (nI t))] := hl
  refine lv_iconst (v := (nI 0)) hx hb dX0_sizeOf_0 (by decide) ?_
  refine z_top (show (nI 0) = (nI (pcnt t 0)) from rfl) ?_
  refine lv_istore_n (lv' := [(1, .int (nI (pcnt t 0))), (0, .int (nI t))]) hx hb dX0_sizeOf_1 rfl hl (by decide) rfl (fun ls hl => ?_)
  refine lv_iconst (v := (nI 0)) hx hb dX0_sizeOf_2 (by decide) ?_
  refine lv_istore_n (lv' := [(2, .int (nI 0)), (1, .int (nI (pcnt t 0))), (0, .int (nI t))]) hx hb dX0_sizeOf_3 rfl hl (by decide) rfl (fun ls hl => ?_)
  have hloop4 : ∀ (N : Nat) (i : Nat), 8 < i + N → (i ≤ 8) → ∀ (H : Heap) (locs : List Loc) (ls : Array Slot), zH D A s (wX h ad dB dS (nI n) ab df bt kn mt co be li ll ck sh ec es eo em ro dn) H locs → lv_has ls 3 [(2, .int (nI i)), (1, .int (nI (pcnt t i))), (0, .int (nI t))] → W p l e (zR 0) s m args below meth c H locs 0 0 Q (F0 m 4 ls []) := by
    intro N
    induction N with
    | zero =>
      intro i  hM hi H locs ls hW hl
      exact absurd hM (by omega)
    | succ N ih4 =>
      intro i  hM hi H locs ls hW hl
      refine lv_iload_n hx hb dX0_sizeOf_4 rfl (lv_at hl 0 rfl) ?_
      refine lv_bipush (v := (nI 8)) hx hb dX0_sizeOf_5 (by decide) ?_
      refine lv_icmp_ge (tgt := 24) hx hb dX0_sizeOf_7 (by decide) (fun c7 => ?_) (fun c7 => ?_)
      · have _ := 0
        have c7 : 8 ≤ i := z_le (by omega) (by omega) c7
        refine lv_iload_n hx hb dX0_sizeOf_24 rfl (lv_at hl 1 rfl) ?_
        obtain rfl : i = 8 := by omega
        exact hend _ () _ _ _ _ rfl rfl hW dX0_sizeOf_25
      · have _ := 0
        have c7 : i < 8 := z_nle (by omega) (by omega) c7
        refine lv_iload_n hx hb dX0_sizeOf_10 rfl (lv_at hl 1 rfl) ?_
        refine lv_iload_n hx hb dX0_sizeOf_11 rfl (lv_at hl 2 rfl) ?_
        refine lv_iload_n hx hb dX0_sizeOf_12 rfl (lv_at hl 0 rfl) ?_
        refine lv_ishr hx hb dX0_sizeOf_13 ?_
        refine lv_iconst (v := (nI 1)) hx hb dX0_sizeOf_14 (by decide) ?_
        refine lv_iand hx hb dX0_sizeOf_15 ?_
        refine z_top (show (((nI t) >>> ((nI i) &&& 31)) &&& (nI 1)) = (nI (t.testBit i).toNat) from z_bit (by omega) (by omega)) ?_
        refine lv_iadd hx hb dX0_sizeOf_16 ?_
        refine z_top (show ((nI (pcnt t i)) + (nI (t.testBit i).toNat)) = (nI ((pcnt t i) + ((t.testBit i).toNat))) from nI_add _ _) ?_
        refine z_top (show (nI ((pcnt t i) + ((t.testBit i).toNat))) = (nI (pcnt t (i + 1))) from rfl) ?_
        refine lv_istore_n (lv' := [(1, .int (nI (pcnt t (i + 1)))), (2, .int (nI i)), (0, .int (nI t))]) hx hb dX0_sizeOf_17 rfl hl (by decide) rfl (fun ls hl => ?_)
        refine lv_iinc (v := (nI (i + 1))) (lv' := [(2, .int (nI (i + 1))), (1, .int (nI (pcnt t (i + 1)))), (0, .int (nI t))]) hx hb dX0_sizeOf_18 hl (k := 1) rfl (z_inc _) (by decide) rfl (fun ls hl => ?_)
        refine lv_goto (tgt := 4) hx hb dX0_sizeOf_21 (by decide) ?_
        exact ih4 (i + 1) (by omega) (by omega) _ _ _ hW (lv_sub hl [0, 1, 2] rfl)
  exact hloop4 9 0 (by omega) (by omega) _ _ _ hW (lv_sub hl [0, 1, 2] rfl)
set_option maxHeartbeats 4000000 in
set_option maxRecDepth 100000 in
theorem mX_own (l : Launch) (D : va_G) (h : Nat) (ad : Nat → Nat) (dB dS dN dZ : ClassId) (n : Nat) (ab df : Nat → Int32) (bt : Int32) (kn mt co be li : Nat → Int32) (ll ck : Int32) (sh ec es eo em ro dn : Nat → Int32) (c1 : Nat)  (hc1 : c1 < 10) : zMI l D (zT dB dS dN dZ) yX0_own cX0_own 4 .int 0 [.ref h, .int (nI c1)] (wX h ad dB dS (nI n) ab df bt kn mt co be li ll ck sh ec es eo em ro dn) (fun v (u : Unit) => v = nI (ownM df c1)) (fun _ => wX h ad dB dS (nI n) ab df bt kn mt co be li ll ck sh ec es eo em ro dn) := by
  refine zStartI (by decide) (Nat.le_of_ble_eq_true rfl) ?_
  intro p e s m args below meth c A Q ls hx hb hml hown hts hK hend hW hl
  have hown : s.vm.findClass RX0 = some m.cls := hown
  have hl : lv_has ls 4 [(0, .ref h), (1, .int (nI c1))] := hl
  refine lv_iconst (v := (nI 0)) hx hb dX0_own_0 (by decide) ?_
  refine z_top (show (nI 0) = (nI (mk (fun s => decide (¬ df (8 * c1 + s) = 0)) 0)) from rfl) ?_
  refine lv_istore_n (lv' := [(2, .int (nI (mk (fun s => decide (¬ df (8 * c1 + s) = 0)) 0))), (0, .ref h), (1, .int (nI c1))]) hx hb dX0_own_1 rfl hl (by decide) rfl (fun ls hl => ?_)
  refine lv_iconst (v := (nI 0)) hx hb dX0_own_2 (by decide) ?_
  refine lv_istore_n (lv' := [(3, .int (nI 0)), (2, .int (nI (mk (fun s => decide (¬ df (8 * c1 + s) = 0)) 0))), (0, .ref h), (1, .int (nI c1))]) hx hb dX0_own_3 rfl hl (by decide) rfl (fun ls hl => ?_)
  have hloop4 : ∀ (N : Nat) (i : Nat), 8 < i + N → (i ≤ 8) → ∀ (H : Heap) (locs : List Loc) (ls : Array Slot), zH D A s (wX h ad dB dS (nI n) ab df bt kn mt co be li ll ck sh ec es eo em ro dn) H locs → lv_has ls 4 [(3, .int (nI i)), (2, .int (nI (mk (fun s => decide (¬ df (8 * c1 + s) = 0)) i))), (0, .ref h), (1, .int (nI c1))] → W p l e (zR 0) s m args below meth c H locs 0 0 Q (F0 m 4 ls []) := by
    intro N
    induction N with
    | zero =>
      intro i  hM hi H locs ls hW hl
      exact absurd hM (by omega)
    | succ N ih4 =>
      intro i  hM hi H locs ls hW hl
      refine lv_iload_n hx hb dX0_own_4 rfl (lv_at hl 0 rfl) ?_
      refine lv_bipush (v := (nI 8)) hx hb dX0_own_5 (by decide) ?_
      refine lv_icmp_ge (tgt := 36) hx hb dX0_own_7 (by decide) (fun c7 => ?_) (fun c7 => ?_)
      · have _ := 0
        have c7 : 8 ≤ i := z_le (by omega) (by omega) c7
        refine lv_iload_n hx hb dX0_own_36 rfl (lv_at hl 1 rfl) ?_
        obtain rfl : i = 8 := by omega
        exact hend _ () _ _ _ _ rfl rfl hW dX0_own_37
      · have _ := 0
        have c7 : i < 8 := z_nle (by omega) (by omega) c7
        refine lv_aload_n hx hb dX0_own_10 rfl (lv_at hl 2 rfl) ?_
        refine zg0_df hx hb hts hown hK hW dX0_own_11 ?_
        refine lv_iload_n hx hb dX0_own_14 rfl (lv_at hl 3 rfl) ?_
        refine lv_bipush (v := (nI 8)) hx hb dX0_own_15 (by decide) ?_
        refine lv_imul hx hb dX0_own_17 ?_
        refine z_top (show ((nI c1) * (nI 8)) = (nI (c1 * 8)) from pk_mul _ _) ?_
        refine lv_iload_n hx hb dX0_own_18 rfl (lv_at hl 0 rfl) ?_
        refine lv_iadd hx hb dX0_own_19 ?_
        refine z_top (show ((nI (c1 * 8)) + (nI i)) = (nI ((c1 * 8) + i)) from nI_add _ _) ?_
        refine z_sald hx hb hK hW 2 1 rfl rfl (8 * c1 + i) (by rw [Nat.mul_comm 8 c1]) (by omega) (by decide) dX0_own_20 ?_
        refine lv_if_eq (tgt := 30) hx hb dX0_own_21 (by decide) (fun c21 => ?_) (fun c21 => ?_)
        · have _ := 0
          refine lv_iinc (v := (nI (i + 1))) (lv' := [(3, .int (nI (i + 1))), (2, .int (nI (mk (fun s => decide (¬ df (8 * c1 + s) = 0)) i))), (0, .ref h), (1, .int (nI c1))]) hx hb dX0_own_30 hl (k := 0) rfl (z_inc _) (by decide) rfl (fun ls hl => ?_)
          refine lv_goto (tgt := 4) hx hb dX0_own_33 (by decide) ?_
          have hl : lv_has ls 4 [(3, .int (nI (i + 1))), (2, .int (nI (mk (fun s => decide (¬ df (8 * c1 + s) = 0)) (i + 1)))), (0, .ref h), (1, .int (nI c1))] := by rw [show (nI (mk (fun s => decide (¬ df (8 * c1 + s) = 0)) (i + 1))) = (nI (mk (fun s => decide (¬ df (8 * c1 + s) = 0)) i)) from (mk_f1 (decide_eq_false (fun q => q c21)))]; exact hl
          exact ih4 (i + 1) (by omega) (by omega) _ _ _ hW (lv_sub hl [0, 1, 2, 3] rfl)
        · have _ := 0
          refine lv_iload_n hx hb dX0_own_24 rfl (lv_at hl 1 rfl) ?_
          refine lv_iconst (v := (nI 1)) hx hb dX0_own_25 (by decide) ?_
          refine lv_iload_n hx hb dX0_own_26 rfl (lv_at hl 0 rfl) ?_
          refine lv_ishl hx hb dX0_own_27 ?_
          refine z_top (show ((nI 1) <<< ((nI i) &&& 31)) = (nI (2 ^ i)) from z_shl1 (by omega)) ?_
          refine lv_ior hx hb dX0_own_28 ?_
          refine z_top (show ((nI (mk (fun s => decide (¬ df (8 * c1 + s) = 0)) i)) ||| (nI (2 ^ i))) = (nI ((mk (fun s => decide (¬ df (8 * c1 + s) = 0)) i) ||| (2 ^ i))) from fa_or _ _) ?_
          refine z_top (show (nI ((mk (fun s => decide (¬ df (8 * c1 + s) = 0)) i) ||| (2 ^ i))) = (nI (mk (fun s => decide (¬ df (8 * c1 + s) = 0)) (i + 1))) from (mk_t (P := fun s => decide (¬ df (8 * c1 + s) = 0)) (decide_eq_true c21))) ?_
          refine lv_istore_n (lv' := [(2, .int (nI (mk (fun s => decide (¬ df (8 * c1 + s) = 0)) (i + 1)))), (3, .int (nI i)), (0, .ref h), (1, .int (nI c1))]) hx hb dX0_own_29 rfl hl (by decide) rfl (fun ls hl => ?_)
          refine lv_iinc (v := (nI (i + 1))) (lv' := [(3, .int (nI (i + 1))), (2, .int (nI (mk (fun s => decide (¬ df (8 * c1 + s) = 0)) (i + 1)))), (0, .ref h), (1, .int (nI c1))]) hx hb dX0_own_30 hl (k := 1) rfl (z_inc _) (by decide) rfl (fun ls hl => ?_)
          refine lv_goto (tgt := 4) hx hb dX0_own_33 (by decide) ?_
          exact ih4 (i + 1) (by omega) (by omega) _ _ _ hW (lv_sub hl [0, 1, 2, 3] rfl)
  exact hloop4 9 0 (by omega) (by omega) _ _ _ hW (lv_sub hl [0, 1, 2, 3] rfl)
set_option maxHeartbeats 4000000 in
set_option maxRecDepth 100000 in
theorem mX_under (l : Launch) (D : va_G) (h : Nat) (ad : Nat → Nat) (dB dS dN dZ : ClassId) (n : Nat) (ab df : Nat → Int32) (bt : Int32) (kn mt co be li : Nat → Int32) (ll ck : Int32) (sh ec es eo em ro dn : Nat → Int32) (U : Nat → Int32) (k : Nat) (x1 : Int32) (hn : n ≤ 10) (hU : ∀ k, k < n → Par n (U k)) (hab : ∀ c, c < n → ab c = U c) (hk : k < n) (hp : Par n x1) : zMI l D (zT dB dS dN dZ) yX0_under cX0_under 5 .boolean 0 [.ref h, .int x1, .int (nI k)] (wX h ad dB dS (nI n) ab df bt kn mt co be li ll ck sh ec es eo em ro dn) (fun v (u : Unit) => v = nI (undF U (nI k) 10 x1).toNat) (fun _ => wX h ad dB dS (nI n) ab df bt kn mt co be li ll ck sh ec es eo em ro dn) := by
  refine zStartI (by decide) (Nat.le_of_ble_eq_true rfl) ?_
  intro p e s m args below meth c A Q ls hx hb hml hown hts hK hend hW hl
  have hown : s.vm.findClass RX0 = some m.cls := hown
  have hl : lv_has ls 5 [(0, .ref h), (1, .int x1), (2, .int (nI k))] := hl
  refine lv_iload_n hx hb dX0_under_0 rfl (lv_at hl 1 rfl) ?_
  refine lv_istore_n (lv' := [(3, .int x1), (0, .ref h), (1, .int x1), (2, .int (nI k))]) hx hb dX0_under_1 rfl hl (by decide) rfl (fun ls hl => ?_)
  refine lv_iconst (v := (nI 0)) hx hb dX0_under_2 (by decide) ?_
  refine lv_istore (lv' := [(4, .int (nI 0)), (3, .int x1), (0, .ref h), (1, .int x1), (2, .int (nI k))]) hx hb dX0_under_3 hl (by decide) rfl (fun ls hl => ?_)
  have hloop5 : ∀ (N : Nat) (i : Nat) (d : Int32), 10 < i + N → (i ≤ 10) → (Par n d) → (undF U (nI k) 10 x1 = undF U (nI k) (10 - i) d) → ∀ (H : Heap) (locs : List Loc) (ls : Array Slot), zH D A s (wX h ad dB dS (nI n) ab df bt kn mt co be li ll ck sh ec es eo em ro dn) H locs → lv_has ls 5 [(4, .int (nI i)), (3, .int d), (0, .ref h), (1, .int x1), (2, .int (nI k))] → W p l e (zR 0) s m args below meth c H locs 0 0 Q (F0 m 5 ls []) := by
    intro N
    induction N with
    | zero =>
      intro i  d  hM hi hd hf H locs ls hW hl
      exact absurd hM (by omega)
    | succ N ih5 =>
      intro i  d  hM hi hd hf H locs ls hW hl
      refine lv_iload hx hb dX0_under_5 (lv_at hl 0 rfl) ?_
      refine lv_bipush (v := (nI 10)) hx hb dX0_under_7 (by decide) ?_
      refine lv_icmp_ge (tgt := 36) hx hb dX0_under_9 (by decide) (fun c9 => ?_) (fun c9 => ?_)
      · have _ := 0
        have c9 : 10 ≤ i := z_le (by omega) (by omega) c9
        have hu : undF U (nI k) 10 x1 = false := by rw [hf, show 10 - i = 0 by omega]; rfl
        refine lv_iconst (v := (nI 0)) hx hb dX0_under_36 (by decide) ?_
        exact hend _ () _ _ _ _ rfl (by rw [hu]; rfl) hW dX0_under_37
      · have _ := 0
        have c9 : i < 10 := z_nle (by omega) (by omega) c9
        refine lv_iload_n hx hb dX0_under_12 rfl (lv_at hl 1 rfl) ?_
        refine lv_if_lt (tgt := 36) hx hb dX0_under_13 (by decide) (fun c13 => ?_) (fun c13 => ?_)
        · have _ := 0
          have hu : undF U (nI k) 10 x1 = false := by rw [hf, show 10 - i = (10 - (i + 1)) + 1 by omega]; exact und_neg c13
          refine lv_iconst (v := (nI 0)) hx hb dX0_under_36 (by decide) ?_
          exact hend _ () _ _ _ _ rfl (by rw [hu]; rfl) hW dX0_under_37
        · have _ := 0
          obtain ⟨j, hj, rfl⟩ : ∃ j, j < n ∧ d = nI j := hd.resolve_left (fun q => c13 (by rw [q]; decide))
          refine lv_iload_n hx hb dX0_under_16 rfl (lv_at hl 1 rfl) ?_
          refine lv_iload_n hx hb dX0_under_17 rfl (lv_at hl 4 rfl) ?_
          refine lv_icmp_ne (tgt := 23) hx hb dX0_under_18 (by decide) (fun c18 => ?_) (fun c18 => ?_)
          · have _ := 0
            have c18 : j ≠ k := z_ne c18
            refine lv_aload_n hx hb dX0_under_23 rfl (lv_at hl 2 rfl) ?_
            refine zg0_ab hx hb hts hown hK hW dX0_under_24 ?_
            refine lv_iload_n hx hb dX0_under_27 rfl (lv_at hl 1 rfl) ?_
            refine z_bald hx hb hK hW 1 0 rfl rfl j rfl (by omega) (by decide) dX0_under_28 ?_
            refine z_top (show (ab j) = (U j) from hab j hj) ?_
            refine lv_istore_n (lv' := [(3, .int (U j)), (4, .int (nI i)), (0, .ref h), (1, .int x1), (2, .int (nI k))]) hx hb dX0_under_29 rfl hl (by decide) rfl (fun ls hl => ?_)
            refine lv_iinc (v := (nI (i + 1))) (lv' := [(4, .int (nI (i + 1))), (3, .int (U j)), (0, .ref h), (1, .int x1), (2, .int (nI k))]) hx hb dX0_under_30 hl (k := 1) rfl (z_inc _) (by decide) rfl (fun ls hl => ?_)
            refine lv_goto (tgt := 5) hx hb dX0_under_33 (by decide) ?_
            exact ih5 (i + 1) (U j) (by omega) (by omega) (hU j hj) (by rw [hf, show 10 - i = (10 - (i + 1)) + 1 by omega]; exact und_step (by omega) (fun q => c18 (z_eq (by omega) (by omega) q))) _ _ _ hW (lv_sub hl [0, 1, 2, 3, 4] rfl)
          · have _ := 0
            have c18 : j = k := z_eq (by omega) (by omega) c18
            have hu : undF U (nI k) 10 x1 = true := by rw [hf, show 10 - i = (10 - (i + 1)) + 1 by omega, c18]; exact und_hit (by omega)
            refine lv_iconst (v := (nI 1)) hx hb dX0_under_21 (by decide) ?_
            exact hend _ () _ _ _ _ rfl (by rw [hu]; rfl) hW dX0_under_22
  exact hloop5 11 0 x1 (by omega) (by omega) hp rfl _ _ _ hW (lv_sub hl [0, 1, 2, 3, 4] rfl)
set_option maxHeartbeats 4000000 in
set_option maxRecDepth 100000 in
theorem mX_sortDown (l : Launch) (D : va_G) (h : Nat) (ad : Nat → Nat) (dB dS dN dZ : ClassId) (n : Nat) (ab df : Nat → Int32) (bt : Int32) (kn mt co be li : Nat → Int32) (ll ck : Int32) (sh ec es eo em ro dn : Nat → Int32) (U : Nat → Int32) (rk : Nat → Nat)  (hn : n ≤ 10) (hU : ∀ k, k < n → Par n (U k)) (hab : ∀ c, c < n → ab c = U c) (hrk : Rank n U rk) : zMV l D (zT dB dS dN dZ) yX0_sortDown cX0_sortDown 7 0 [.ref h] (wX h ad dB dS (nI n) ab df bt kn mt co be li ll ck sh ec es eo em ro dn) (fun (u : Nat → Int32) => ∃ o, Topo n U o ∧ ∀ k, k < n → u k = nI (o k)) (fun u => wX h ad dB dS (nI n) ab df bt kn mt co be li ll ck sh ec es eo em ro u) := by
  refine zStartV (by decide) (Nat.le_of_ble_eq_true rfl) ?_
  intro p e s m args below meth c A Q ls hx hb hml hown hts hK hend hW hl
  have hown : s.vm.findClass RX0 = some m.cls := hown
  have hl : lv_has ls 7 [(0, .ref h)] := hl
  refine lv_iconst (v := (nI 0)) hx hb dX0_sortDown_0 (by decide) ?_
  refine lv_istore_n (lv' := [(1, .int (nI 0)), (0, .ref h)]) hx hb dX0_sortDown_1 rfl hl (by decide) rfl (fun ls hl => ?_)
  refine lv_iconst (v := (nI 0)) hx hb dX0_sortDown_2 (by decide) ?_
  refine lv_istore_n (lv' := [(2, .int (nI 0)), (1, .int (nI 0)), (0, .ref h)]) hx hb dX0_sortDown_3 rfl hl (by decide) rfl (fun ls hl => ?_)
  refine lv_iconst (v := (nI 0)) hx hb dX0_sortDown_4 (by decide) ?_
  refine lv_istore_n (lv' := [(3, .int (nI 0)), (2, .int (nI 0)), (1, .int (nI 0)), (0, .ref h)]) hx hb dX0_sortDown_5 rfl hl (by decide) rfl (fun ls hl => ?_)
  have hloop6 : ∀ (N : Nat) (r bm q : Nat) (dn2 : Nat → Int32), n < r + N → (r ≤ n) → (SD n U bm q dn2) → (∀ x, x < n → rk x < r → bm.testBit x = true) → ∀ (H : Heap) (locs : List Loc) (ls : Array Slot), zH D A s (wX h ad dB dS (nI n) ab df bt kn mt co be li ll ck sh ec es eo em ro dn2) H locs → lv_has ls 7 [(3, .int (nI r)), (2, .int (nI q)), (1, .int (nI bm)), (0, .ref h)] → W p l e (zR 0) s m args below meth c H locs 0 0 Q (F0 m 6 ls []) := by
    intro N
    induction N with
    | zero =>
      intro r bm q  dn2  hM hr hsd hrd H locs ls hW hl
      exact absurd hM (by omega)
    | succ N ih6 =>
      intro r bm q  dn2  hM hr hsd hrd H locs ls hW hl
      refine lv_iload_n hx hb dX0_sortDown_6 rfl (lv_at hl 0 rfl) ?_
      refine lv_aload_n hx hb dX0_sortDown_7 rfl (lv_at hl 3 rfl) ?_
      refine zg0_cn hx hb hts hown hK hW dX0_sortDown_8 ?_
      refine lv_icmp_ge (tgt := 114) hx hb dX0_sortDown_11 (by decide) (fun c11 => ?_) (fun c11 => ?_)
      · have _ := 0
        have c11 : n ≤ r := z_le (by omega) (by omega) c11
        exact hend dn2 _ _ _ _ (sd_done hn hrk hsd (fun x hx => hrd x hx (Nat.lt_of_lt_of_le (hrk.1 x hx) (by omega)))) hW dX0_sortDown_114
      · have _ := 0
        have c11 : r < n := z_nle (by omega) (by omega) c11
        refine lv_iconst (v := (nI 0)) hx hb dX0_sortDown_14 (by decide) ?_
        refine lv_istore (lv' := [(4, .int (nI 0)), (3, .int (nI r)), (2, .int (nI q)), (1, .int (nI bm)), (0, .ref h)]) hx hb dX0_sortDown_15 hl (by decide) rfl (fun ls hl => ?_)
        have hloop17 : ∀ (N : Nat) (c1 m1 q1 : Nat) (dn3 : Nat → Int32), n < c1 + N → (c1 ≤ n) → (SD n U m1 q1 dn3) → (∀ x, x < n → rk x < r → m1.testBit x = true) → (∀ x, x < c1 → rk x < r + 1 → m1.testBit x = true) → ∀ (H : Heap) (locs : List Loc) (ls : Array Slot), zH D A s (wX h ad dB dS (nI n) ab df bt kn mt co be li ll ck sh ec es eo em ro dn3) H locs → lv_has ls 7 [(4, .int (nI c1)), (3, .int (nI r)), (2, .int (nI q1)), (1, .int (nI m1)), (0, .ref h)] → W p l e (zR 0) s m args below meth c H locs 0 0 Q (F0 m 17 ls []) := by
          intro N
          induction N with
          | zero =>
            intro c1 m1 q1  dn3  hM hc1 hsd1 hrd1 hrd2 H locs ls hW hl
            exact absurd hM (by omega)
          | succ N ih17 =>
            intro c1 m1 q1  dn3  hM hc1 hsd1 hrd1 hrd2 H locs ls hW hl
            refine lv_iload hx hb dX0_sortDown_17 (lv_at hl 0 rfl) ?_
            refine lv_aload_n hx hb dX0_sortDown_19 rfl (lv_at hl 4 rfl) ?_
            refine zg0_cn hx hb hts hown hK hW dX0_sortDown_20 ?_
            refine lv_icmp_ge (tgt := 108) hx hb dX0_sortDown_23 (by decide) (fun c23 => ?_) (fun c23 => ?_)
            · have _ := 0
              have c23 : n ≤ c1 := z_le (by omega) (by omega) c23
              refine lv_iinc (v := (nI (r + 1))) (lv' := [(3, .int (nI (r + 1))), (4, .int (nI c1)), (2, .int (nI q1)), (1, .int (nI m1)), (0, .ref h)]) hx hb dX0_sortDown_108 hl (k := 1) rfl (z_inc _) (by decide) rfl (fun ls hl => ?_)
              refine lv_goto (tgt := 6) hx hb dX0_sortDown_111 (by decide) ?_
              exact ih6 (r + 1) m1 q1 dn3 (by omega) (by omega) hsd1 (fun x hx h2 => hrd2 x (by omega) h2) _ _ _ hW (lv_sub hl [0, 2, 3, 4] rfl)
            · have _ := 0
              have c23 : c1 < n := z_nle (by omega) (by omega) c23
              have hm9 : m1 < 1024 := hsd1.1
              refine lv_iload_n hx hb dX0_sortDown_26 rfl (lv_at hl 3 rfl) ?_
              refine lv_iload hx hb dX0_sortDown_27 (lv_at hl 0 rfl) ?_
              refine lv_ishr hx hb dX0_sortDown_29 ?_
              refine lv_iconst (v := (nI 1)) hx hb dX0_sortDown_30 (by decide) ?_
              refine lv_iand hx hb dX0_sortDown_31 ?_
              refine z_top (show (((nI m1) >>> ((nI c1) &&& 31)) &&& (nI 1)) = (nI (m1.testBit c1).toNat) from z_bit (by omega) (by omega)) ?_
              refine lv_if_ne (tgt := 39) hx hb dX0_sortDown_32 (by decide) (fun c32 => ?_) (fun c32 => ?_)
              · have _ := 0
                have c32 : (m1.testBit c1) = true := z_b1 c32
                have hnx : ∀ x, x < c1 + 1 → rk x < r + 1 → m1.testBit x = true := lt_bit hrd2 c32
                refine lv_iconst (v := (nI 0)) hx hb dX0_sortDown_39 (by decide) ?_
                refine lv_istore (lv' := [(5, .int (nI 0)), (4, .int (nI c1)), (3, .int (nI r)), (2, .int (nI q1)), (1, .int (nI m1)), (0, .ref h)]) hx hb dX0_sortDown_40 hl (by decide) rfl (fun ls hl => ?_)
                refine lv_aload_n hx hb dX0_sortDown_42 rfl (lv_at hl 5 rfl) ?_
                refine zg0_ab hx hb hts hown hK hW dX0_sortDown_43 ?_
                refine lv_iload hx hb dX0_sortDown_46 (lv_at hl 1 rfl) ?_
                refine z_bald hx hb hK hW 1 0 rfl rfl c1 rfl (by omega) (by decide) dX0_sortDown_48 ?_
                refine z_top (show (ab c1) = (U c1) from hab c1 c23) ?_
                refine lv_if_lt (tgt := 66) hx hb dX0_sortDown_49 (by decide) (fun c49 => ?_) (fun c49 => ?_)
                · have _ := 0
                  refine lv_iconst (v := (nI 1)) hx hb dX0_sortDown_66 (by decide) ?_
                  refine lv_goto (tgt := 71) hx hb dX0_sortDown_67 (by decide) ?_
                  refine lv_istore (lv' := [(6, .int (nI 1)), (5, .int (nI 0)), (4, .int (nI c1)), (3, .int (nI r)), (2, .int (nI q1)), (1, .int (nI m1)), (0, .ref h)]) hx hb dX0_sortDown_71 hl (by decide) rfl (fun ls hl => ?_)
                  refine lv_iload hx hb dX0_sortDown_73 (lv_at hl 1 rfl) ?_
                  refine lv_if_eq (tgt := 102) hx hb dX0_sortDown_75 (by decide) (fun c75 => ?_) (fun c75 => ?_)
                  · have _ := 0
                    refine lv_iinc (v := (nI (c1 + 1))) (lv' := [(4, .int (nI (c1 + 1))), (6, .int (nI 1)), (5, .int (nI 0)), (3, .int (nI r)), (2, .int (nI q1)), (1, .int (nI m1)), (0, .ref h)]) hx hb dX0_sortDown_102 hl (k := 2) rfl (z_inc _) (by decide) rfl (fun ls hl => ?_)
                    refine lv_goto (tgt := 17) hx hb dX0_sortDown_105 (by decide) ?_
                    exact ih17 (c1 + 1) m1 q1 dn3 (by omega) (by omega) hsd1 hrd1 hnx _ _ _ hW (lv_sub hl [0, 3, 4, 5, 6] rfl)
                  · have _ := 0
                    exact absurd c75 (by decide)
                · have _ := 0
                  obtain ⟨j, hj, hUj⟩ : ∃ j, j < n ∧ U c1 = nI j := (hU c1 c23).resolve_left (fun q => c49 (by rw [q]; decide))
                  refine lv_iload_n hx hb dX0_sortDown_52 rfl (lv_at hl 4 rfl) ?_
                  refine lv_aload_n hx hb dX0_sortDown_53 rfl (lv_at hl 5 rfl) ?_
                  refine zg0_ab hx hb hts hown hK hW dX0_sortDown_54 ?_
                  refine lv_iload hx hb dX0_sortDown_57 (lv_at hl 1 rfl) ?_
                  refine z_bald hx hb hK hW 1 0 rfl rfl c1 rfl (by omega) (by decide) dX0_sortDown_59 ?_
                  refine z_top (show (ab c1) = (nI j) from (hab c1 c23).trans hUj) ?_
                  refine lv_ishr hx hb dX0_sortDown_60 ?_
                  refine lv_iconst (v := (nI 1)) hx hb dX0_sortDown_61 (by decide) ?_
                  refine lv_iand hx hb dX0_sortDown_62 ?_
                  refine z_top (show (((nI m1) >>> ((nI j) &&& 31)) &&& (nI 1)) = (nI (m1.testBit j).toNat) from z_bit (by omega) (by omega)) ?_
                  refine lv_if_eq (tgt := 70) hx hb dX0_sortDown_63 (by decide) (fun c63 => ?_) (fun c63 => ?_)
                  · have _ := 0
                    have c63 : (m1.testBit j) = false := z_b0 c63
                    refine lv_iconst (v := (nI 0)) hx hb dX0_sortDown_70 (by decide) ?_
                    refine lv_istore (lv' := [(6, .int (nI 0)), (5, .int (nI 0)), (4, .int (nI c1)), (3, .int (nI r)), (2, .int (nI q1)), (1, .int (nI m1)), (0, .ref h)]) hx hb dX0_sortDown_71 hl (by decide) rfl (fun ls hl => ?_)
                    refine lv_iload hx hb dX0_sortDown_73 (lv_at hl 1 rfl) ?_
                    refine lv_if_eq (tgt := 102) hx hb dX0_sortDown_75 (by decide) (fun c75 => ?_) (fun c75 => ?_)
                    · have _ := 0
                      refine lv_iinc (v := (nI (c1 + 1))) (lv' := [(4, .int (nI (c1 + 1))), (6, .int (nI 0)), (5, .int (nI 0)), (3, .int (nI r)), (2, .int (nI q1)), (1, .int (nI m1)), (0, .ref h)]) hx hb dX0_sortDown_102 hl (k := 2) rfl (z_inc _) (by decide) rfl (fun ls hl => ?_)
                      refine lv_goto (tgt := 17) hx hb dX0_sortDown_105 (by decide) ?_
                      exact ih17 (c1 + 1) m1 q1 dn3 (by omega) (by omega) hsd1 hrd1 hnx _ _ _ hW (lv_sub hl [0, 3, 4, 5, 6] rfl)
                    · have _ := 0
                      exact absurd c75 (by decide)
                  · have _ := 0
                    have c63 : (m1.testBit j) = true := z_b1 c63
                    refine lv_iconst (v := (nI 1)) hx hb dX0_sortDown_66 (by decide) ?_
                    refine lv_goto (tgt := 71) hx hb dX0_sortDown_67 (by decide) ?_
                    refine lv_istore (lv' := [(6, .int (nI 1)), (5, .int (nI 0)), (4, .int (nI c1)), (3, .int (nI r)), (2, .int (nI q1)), (1, .int (nI m1)), (0, .ref h)]) hx hb dX0_sortDown_71 hl (by decide) rfl (fun ls hl => ?_)
                    refine lv_iload hx hb dX0_sortDown_73 (lv_at hl 1 rfl) ?_
                    refine lv_if_eq (tgt := 102) hx hb dX0_sortDown_75 (by decide) (fun c75 => ?_) (fun c75 => ?_)
                    · have _ := 0
                      refine lv_iinc (v := (nI (c1 + 1))) (lv' := [(4, .int (nI (c1 + 1))), (6, .int (nI 1)), (5, .int (nI 0)), (3, .int (nI r)), (2, .int (nI q1)), (1, .int (nI m1)), (0, .ref h)]) hx hb dX0_sortDown_102 hl (k := 2) rfl (z_inc _) (by decide) rfl (fun ls hl => ?_)
                      refine lv_goto (tgt := 17) hx hb dX0_sortDown_105 (by decide) ?_
                      exact ih17 (c1 + 1) m1 q1 dn3 (by omega) (by omega) hsd1 hrd1 hnx _ _ _ hW (lv_sub hl [0, 3, 4, 5, 6] rfl)
                    · have _ := 0
                      exact absurd c75 (by decide)
              · have _ := 0
                have c32 : (m1.testBit c1) = false := z_b0 c32
                have hw := c32
                refine lv_iconst (v := (nI 1)) hx hb dX0_sortDown_35 (by decide) ?_
                refine lv_goto (tgt := 40) hx hb dX0_sortDown_36 (by decide) ?_
                refine lv_istore (lv' := [(5, .int (nI 1)), (4, .int (nI c1)), (3, .int (nI r)), (2, .int (nI q1)), (1, .int (nI m1)), (0, .ref h)]) hx hb dX0_sortDown_40 hl (by decide) rfl (fun ls hl => ?_)
                refine lv_aload_n hx hb dX0_sortDown_42 rfl (lv_at hl 5 rfl) ?_
                refine zg0_ab hx hb hts hown hK hW dX0_sortDown_43 ?_
                refine lv_iload hx hb dX0_sortDown_46 (lv_at hl 1 rfl) ?_
                refine z_bald hx hb hK hW 1 0 rfl rfl c1 rfl (by omega) (by decide) dX0_sortDown_48 ?_
                refine z_top (show (ab c1) = (U c1) from hab c1 c23) ?_
                refine lv_if_lt (tgt := 66) hx hb dX0_sortDown_49 (by decide) (fun c49 => ?_) (fun c49 => ?_)
                · have _ := 0
                  have hfr : U c1 = -1 ∨ ∃ j, j < n ∧ U c1 = nI j ∧ m1.testBit j = true := Or.inl (par_neg hn (hU c1 c23) c49)
                  refine lv_iconst (v := (nI 1)) hx hb dX0_sortDown_66 (by decide) ?_
                  refine lv_goto (tgt := 71) hx hb dX0_sortDown_67 (by decide) ?_
                  refine lv_istore (lv' := [(6, .int (nI 1)), (5, .int (nI 1)), (4, .int (nI c1)), (3, .int (nI r)), (2, .int (nI q1)), (1, .int (nI m1)), (0, .ref h)]) hx hb dX0_sortDown_71 hl (by decide) rfl (fun ls hl => ?_)
                  refine lv_iload hx hb dX0_sortDown_73 (lv_at hl 1 rfl) ?_
                  refine lv_if_eq (tgt := 102) hx hb dX0_sortDown_75 (by decide) (fun c75 => ?_) (fun c75 => ?_)
                  · have _ := 0
                    exact absurd c75 (by decide)
                  · have _ := 0
                    refine lv_iload hx hb dX0_sortDown_78 (lv_at hl 0 rfl) ?_
                    refine lv_if_eq (tgt := 102) hx hb dX0_sortDown_80 (by decide) (fun c80 => ?_) (fun c80 => ?_)
                    · have _ := 0
                      exact absurd c80 (by decide)
                    · have _ := 0
                      have hq1 : q1 < n := sd_room hsd1 c23 hw
                      refine lv_aload_n hx hb dX0_sortDown_83 rfl (lv_at hl 6 rfl) ?_
                      refine zg0_dn hx hb hts hown hK hW dX0_sortDown_84 ?_
                      refine lv_iload_n hx hb dX0_sortDown_87 rfl (lv_at hl 4 rfl) ?_
                      refine lv_iload hx hb dX0_sortDown_88 (lv_at hl 2 rfl) ?_
                      refine lv_i2b (v := (nI c1)) hx hb dX0_sortDown_90 (z_i2b (by omega)) ?_
                      refine z_bast (v := (nI c1)) hx hb hK hW 14 0 rfl rfl q1 rfl (by omega) (by decide) (z_narb (by omega)) dX0_sortDown_91 (fun H locs hW => ?_)
                      have hW : zH D A s (wX h ad dB dS (nI n) ab df bt kn mt co be li ll ck sh ec es eo em ro (upd dn3 q1 (nI c1))) H locs := hW
                      refine lv_iinc (v := (nI (q1 + 1))) (lv' := [(2, .int (nI (q1 + 1))), (6, .int (nI 1)), (5, .int (nI 1)), (4, .int (nI c1)), (3, .int (nI r)), (1, .int (nI m1)), (0, .ref h)]) hx hb dX0_sortDown_92 hl (k := 4) rfl (z_inc _) (by decide) rfl (fun ls hl => ?_)
                      refine lv_iload_n hx hb dX0_sortDown_95 rfl (lv_at hl 5 rfl) ?_
                      refine lv_iconst (v := (nI 1)) hx hb dX0_sortDown_96 (by decide) ?_
                      refine lv_iload hx hb dX0_sortDown_97 (lv_at hl 3 rfl) ?_
                      refine lv_ishl hx hb dX0_sortDown_99 ?_
                      refine z_top (show ((nI 1) <<< ((nI c1) &&& 31)) = (nI (2 ^ c1)) from z_shl1 (by omega)) ?_
                      refine lv_ior hx hb dX0_sortDown_100 ?_
                      refine z_top (show ((nI m1) ||| (nI (2 ^ c1))) = (nI (m1 ||| (2 ^ c1))) from fa_or _ _) ?_
                      refine lv_istore_n (lv' := [(1, .int (nI (m1 ||| (2 ^ c1)))), (2, .int (nI (q1 + 1))), (6, .int (nI 1)), (5, .int (nI 1)), (4, .int (nI c1)), (3, .int (nI r)), (0, .ref h)]) hx hb dX0_sortDown_101 rfl hl (by decide) rfl (fun ls hl => ?_)
                      have hnx : ∀ x, x < c1 + 1 → rk x < r + 1 → (m1 ||| 2 ^ c1).testBit x = true := sd_nx hrd2
                      refine lv_iinc (v := (nI (c1 + 1))) (lv' := [(4, .int (nI (c1 + 1))), (1, .int (nI (m1 ||| (2 ^ c1)))), (2, .int (nI (q1 + 1))), (6, .int (nI 1)), (5, .int (nI 1)), (3, .int (nI r)), (0, .ref h)]) hx hb dX0_sortDown_102 hl (k := 4) rfl (z_inc _) (by decide) rfl (fun ls hl => ?_)
                      refine lv_goto (tgt := 17) hx hb dX0_sortDown_105 (by decide) ?_
                      exact ih17 (c1 + 1) (m1 ||| 2 ^ c1) (q1 + 1) (upd dn3 q1 (nI c1)) (by omega) (by omega) (sd_add hsd1 c23 hw hfr) (fun x hx h2 => or_bit (hrd1 x hx h2)) hnx _ _ _ hW (lv_sub hl [0, 5, 2, 1, 6] rfl)
                · have _ := 0
                  obtain ⟨j, hj, hUj⟩ : ∃ j, j < n ∧ U c1 = nI j := (hU c1 c23).resolve_left (fun q => c49 (by rw [q]; decide))
                  refine lv_iload_n hx hb dX0_sortDown_52 rfl (lv_at hl 4 rfl) ?_
                  refine lv_aload_n hx hb dX0_sortDown_53 rfl (lv_at hl 5 rfl) ?_
                  refine zg0_ab hx hb hts hown hK hW dX0_sortDown_54 ?_
                  refine lv_iload hx hb dX0_sortDown_57 (lv_at hl 1 rfl) ?_
                  refine z_bald hx hb hK hW 1 0 rfl rfl c1 rfl (by omega) (by decide) dX0_sortDown_59 ?_
                  refine z_top (show (ab c1) = (nI j) from (hab c1 c23).trans hUj) ?_
                  refine lv_ishr hx hb dX0_sortDown_60 ?_
                  refine lv_iconst (v := (nI 1)) hx hb dX0_sortDown_61 (by decide) ?_
                  refine lv_iand hx hb dX0_sortDown_62 ?_
                  refine z_top (show (((nI m1) >>> ((nI j) &&& 31)) &&& (nI 1)) = (nI (m1.testBit j).toNat) from z_bit (by omega) (by omega)) ?_
                  refine lv_if_eq (tgt := 70) hx hb dX0_sortDown_63 (by decide) (fun c63 => ?_) (fun c63 => ?_)
                  · have _ := 0
                    have c63 : (m1.testBit j) = false := z_b0 c63
                    have hnx : ∀ x, x < c1 + 1 → rk x < r + 1 → m1.testBit x = true := sd_wait hrk hrd1 hrd2 c23 hj hUj c63
                    refine lv_iconst (v := (nI 0)) hx hb dX0_sortDown_70 (by decide) ?_
                    refine lv_istore (lv' := [(6, .int (nI 0)), (5, .int (nI 1)), (4, .int (nI c1)), (3, .int (nI r)), (2, .int (nI q1)), (1, .int (nI m1)), (0, .ref h)]) hx hb dX0_sortDown_71 hl (by decide) rfl (fun ls hl => ?_)
                    refine lv_iload hx hb dX0_sortDown_73 (lv_at hl 1 rfl) ?_
                    refine lv_if_eq (tgt := 102) hx hb dX0_sortDown_75 (by decide) (fun c75 => ?_) (fun c75 => ?_)
                    · have _ := 0
                      exact absurd c75 (by decide)
                    · have _ := 0
                      refine lv_iload hx hb dX0_sortDown_78 (lv_at hl 0 rfl) ?_
                      refine lv_if_eq (tgt := 102) hx hb dX0_sortDown_80 (by decide) (fun c80 => ?_) (fun c80 => ?_)
                      · have _ := 0
                        refine lv_iinc (v := (nI (c1 + 1))) (lv' := [(4, .int (nI (c1 + 1))), (6, .int (nI 0)), (5, .int (nI 1)), (3, .int (nI r)), (2, .int (nI q1)), (1, .int (nI m1)), (0, .ref h)]) hx hb dX0_sortDown_102 hl (k := 2) rfl (z_inc _) (by decide) rfl (fun ls hl => ?_)
                        refine lv_goto (tgt := 17) hx hb dX0_sortDown_105 (by decide) ?_
                        exact ih17 (c1 + 1) m1 q1 dn3 (by omega) (by omega) hsd1 hrd1 hnx _ _ _ hW (lv_sub hl [0, 3, 4, 5, 6] rfl)
                      · have _ := 0
                        exact absurd c80 (by decide)
                  · have _ := 0
                    have c63 : (m1.testBit j) = true := z_b1 c63
                    have hfr : U c1 = -1 ∨ ∃ j, j < n ∧ U c1 = nI j ∧ m1.testBit j = true := Or.inr ⟨j, hj, hUj, c63⟩
                    refine lv_iconst (v := (nI 1)) hx hb dX0_sortDown_66 (by decide) ?_
                    refine lv_goto (tgt := 71) hx hb dX0_sortDown_67 (by decide) ?_
                    refine lv_istore (lv' := [(6, .int (nI 1)), (5, .int (nI 1)), (4, .int (nI c1)), (3, .int (nI r)), (2, .int (nI q1)), (1, .int (nI m1)), (0, .ref h)]) hx hb dX0_sortDown_71 hl (by decide) rfl (fun ls hl => ?_)
                    refine lv_iload hx hb dX0_sortDown_73 (lv_at hl 1 rfl) ?_
                    refine lv_if_eq (tgt := 102) hx hb dX0_sortDown_75 (by decide) (fun c75 => ?_) (fun c75 => ?_)
                    · have _ := 0
                      exact absurd c75 (by decide)
                    · have _ := 0
                      refine lv_iload hx hb dX0_sortDown_78 (lv_at hl 0 rfl) ?_
                      refine lv_if_eq (tgt := 102) hx hb dX0_sortDown_80 (by decide) (fun c80 => ?_) (fun c80 => ?_)
                      · have _ := 0
                        exact absurd c80 (by decide)
                      · have _ := 0
                        have hq1 : q1 < n := sd_room hsd1 c23 hw
                        refine lv_aload_n hx hb dX0_sortDown_83 rfl (lv_at hl 6 rfl) ?_
                        refine zg0_dn hx hb hts hown hK hW dX0_sortDown_84 ?_
                        refine lv_iload_n hx hb dX0_sortDown_87 rfl (lv_at hl 4 rfl) ?_
                        refine lv_iload hx hb dX0_sortDown_88 (lv_at hl 2 rfl) ?_
                        refine lv_i2b (v := (nI c1)) hx hb dX0_sortDown_90 (z_i2b (by omega)) ?_
                        refine z_bast (v := (nI c1)) hx hb hK hW 14 0 rfl rfl q1 rfl (by omega) (by decide) (z_narb (by omega)) dX0_sortDown_91 (fun H locs hW => ?_)
                        have hW : zH D A s (wX h ad dB dS (nI n) ab df bt kn mt co be li ll ck sh ec es eo em ro (upd dn3 q1 (nI c1))) H locs := hW
                        refine lv_iinc (v := (nI (q1 + 1))) (lv' := [(2, .int (nI (q1 + 1))), (6, .int (nI 1)), (5, .int (nI 1)), (4, .int (nI c1)), (3, .int (nI r)), (1, .int (nI m1)), (0, .ref h)]) hx hb dX0_sortDown_92 hl (k := 4) rfl (z_inc _) (by decide) rfl (fun ls hl => ?_)
                        refine lv_iload_n hx hb dX0_sortDown_95 rfl (lv_at hl 5 rfl) ?_
                        refine lv_iconst (v := (nI 1)) hx hb dX0_sortDown_96 (by decide) ?_
                        refine lv_iload hx hb dX0_sortDown_97 (lv_at hl 3 rfl) ?_
                        refine lv_ishl hx hb dX0_sortDown_99 ?_
                        refine z_top (show ((nI 1) <<< ((nI c1) &&& 31)) = (nI (2 ^ c1)) from z_shl1 (by omega)) ?_
                        refine lv_ior hx hb dX0_sortDown_100 ?_
                        refine z_top (show ((nI m1) ||| (nI (2 ^ c1))) = (nI (m1 ||| (2 ^ c1))) from fa_or _ _) ?_
                        refine lv_istore_n (lv' := [(1, .int (nI (m1 ||| (2 ^ c1)))), (2, .int (nI (q1 + 1))), (6, .int (nI 1)), (5, .int (nI 1)), (4, .int (nI c1)), (3, .int (nI r)), (0, .ref h)]) hx hb dX0_sortDown_101 rfl hl (by decide) rfl (fun ls hl => ?_)
                        have hnx : ∀ x, x < c1 + 1 → rk x < r + 1 → (m1 ||| 2 ^ c1).testBit x = true := sd_nx hrd2
                        refine lv_iinc (v := (nI (c1 + 1))) (lv' := [(4, .int (nI (c1 + 1))), (1, .int (nI (m1 ||| (2 ^ c1)))), (2, .int (nI (q1 + 1))), (6, .int (nI 1)), (5, .int (nI 1)), (3, .int (nI r)), (0, .ref h)]) hx hb dX0_sortDown_102 hl (k := 4) rfl (z_inc _) (by decide) rfl (fun ls hl => ?_)
                        refine lv_goto (tgt := 17) hx hb dX0_sortDown_105 (by decide) ?_
                        exact ih17 (c1 + 1) (m1 ||| 2 ^ c1) (q1 + 1) (upd dn3 q1 (nI c1)) (by omega) (by omega) (sd_add hsd1 c23 hw hfr) (fun x hx h2 => or_bit (hrd1 x hx h2)) hnx _ _ _ hW (lv_sub hl [0, 5, 2, 1, 6] rfl)
        exact hloop17 (n + 1) 0 bm q dn2 (by omega) (by omega) hsd hrd (fun x hx => absurd hx (by omega)) _ _ _ hW (lv_sub hl [0, 1, 2, 3, 4] rfl)
  exact hloop6 (n + 1) 0 0 0 dn (by omega) (by omega) sd_0 (fun x _ hx => absurd hx (by omega)) _ _ _ hW (lv_sub hl [0, 1, 2, 3] rfl)
set_option maxHeartbeats 4000000 in
set_option maxRecDepth 100000 in
theorem mX_learn (l : Launch) (D : va_G) (h : Nat) (ad : Nat → Nat) (dB dS dN dZ : ClassId) (n : Nat) (ab df : Nat → Int32) (bt : Int32) (kn mt co be li : Nat → Int32) (ll ck : Int32) (sh ec es eo em ro dn : Nat → Int32) (U d : Nat → Int32) (o : Nat → Nat)  (hn : n ≤ 10) (hL : LInv n U d) (hab : ∀ c, c < n → ab c = U c) (hdf : ∀ j, j < 80 → df j = d j) (ho : Topo n U o) (hdn : ∀ k, k < n → dn k = nI (o k)) : zMV l D (zT dB dS dN dZ) yX0_learn cX0_learn 4 1 [.ref h] (wX h ad dB dS (nI n) ab df bt kn mt co be li ll ck sh ec es eo em ro dn) (fun (u : Nat → Int32) => ∀ c, c < n → u c = nI (Kf U d c)) (fun u => wX h ad dB dS (nI n) ab df bt u mt co be li ll ck sh ec es eo em ro dn) := by
  refine zStartV (by decide) (Nat.le_of_ble_eq_true rfl) ?_
  intro p e s m args below meth c A Q ls hx hb hml hown hts hK hend hW hl
  have hown : s.vm.findClass RX0 = some m.cls := hown
  have hl : lv_has ls 4 [(0, .ref h)] := hl
  refine lv_iconst (v := (nI 0)) hx hb dX0_learn_0 (by decide) ?_
  refine lv_istore_n (lv' := [(1, .int (nI 0)), (0, .ref h)]) hx hb dX0_learn_1 rfl hl (by decide) rfl (fun ls hl => ?_)
  have hloop2 : ∀ (N : Nat) (k : Nat) (kn2 : Nat → Int32), n < k + N → (k ≤ n) → (∀ i, i < k → kn2 (o i) = nI (Kf U d (o i))) → ∀ (H : Heap) (locs : List Loc) (ls : Array Slot), zH D A s (wX h ad dB dS (nI n) ab df bt kn2 mt co be li ll ck sh ec es eo em ro dn) H locs → lv_has ls 4 [(1, .int (nI k)), (0, .ref h)] → W p l e (zR 1) s m args below meth c H locs 0 0 Q (F0 m 2 ls []) := by
    intro N
    induction N with
    | zero =>
      intro k  kn2  hM hk hkn H locs ls hW hl
      exact absurd hM (by omega)
    | succ N ih2 =>
      intro k  kn2  hM hk hkn H locs ls hW hl
      refine lv_iload_n hx hb dX0_learn_2 rfl (lv_at hl 0 rfl) ?_
      refine lv_aload_n hx hb dX0_learn_3 rfl (lv_at hl 1 rfl) ?_
      refine zg0_cn hx hb hts hown hK hW dX0_learn_4 ?_
      refine lv_icmp_ge (tgt := 62) hx hb dX0_learn_7 (by decide) (fun c7 => ?_) (fun c7 => ?_)
      · have _ := 0
        have c7 : n ≤ k := z_le (by omega) (by omega) c7
        exact hend kn2 _ _ _ _ (lrn_all ho (fun i hi => hkn i (by omega))) hW dX0_learn_62
      · have _ := 0
        have c7 : k < n := z_nle (by omega) (by omega) c7
        have hok : o k < n := ho.1 k c7
        have hpar : Par n (U (o k)) := hL.2.1 _ hok
        have hK9 := Kf_lt U d (o k)
        refine lv_aload_n hx hb dX0_learn_10 rfl (lv_at hl 1 rfl) ?_
        refine zg0_dn hx hb hts hown hK hW dX0_learn_11 ?_
        refine lv_iload_n hx hb dX0_learn_14 rfl (lv_at hl 0 rfl) ?_
        refine z_bald hx hb hK hW 14 0 rfl rfl k rfl (by omega) (by decide) dX0_learn_15 ?_
        refine z_top (show (dn k) = (nI (o k)) from hdn k c7) ?_
        refine lv_istore_n (lv' := [(2, .int (nI (o k))), (1, .int (nI k)), (0, .ref h)]) hx hb dX0_learn_16 rfl hl (by decide) rfl (fun ls hl => ?_)
        refine lv_aload_n hx hb dX0_learn_17 rfl (lv_at hl 2 rfl) ?_
        refine zg0_ab hx hb hts hown hK hW dX0_learn_18 ?_
        refine lv_iload_n hx hb dX0_learn_21 rfl (lv_at hl 0 rfl) ?_
        refine z_bald hx hb hK hW 1 0 rfl rfl (o k) rfl (by omega) (by decide) dX0_learn_22 ?_
        refine z_top (show (ab (o k)) = (U (o k)) from hab _ hok) ?_
        refine lv_if_ge (tgt := 30) hx hb dX0_learn_23 (by decide) (fun c23 => ?_) (fun c23 => ?_)
        · have _ := 0
          obtain ⟨j, hj, hUj⟩ : ∃ j, j < n ∧ U (o k) = nI j := hpar.resolve_left (fun q => absurd c23 (by rw [q]; decide))
          refine lv_aload_n hx hb dX0_learn_30 rfl (lv_at hl 2 rfl) ?_
          refine zg0_kn hx hb hts hown hK hW dX0_learn_31 ?_
          refine lv_aload_n hx hb dX0_learn_34 rfl (lv_at hl 2 rfl) ?_
          refine zg0_ab hx hb hts hown hK hW dX0_learn_35 ?_
          refine lv_iload_n hx hb dX0_learn_38 rfl (lv_at hl 0 rfl) ?_
          refine z_bald hx hb hK hW 1 0 rfl rfl (o k) rfl (by omega) (by decide) dX0_learn_39 ?_
          refine z_top (show (ab (o k)) = (nI j) from (hab _ hok).trans hUj) ?_
          refine z_sald hx hb hK hW 3 1 rfl rfl j rfl (by omega) (by decide) dX0_learn_40 ?_
          refine z_top (show (kn2 j) = (nI (Kf U d j)) from lrn_par ho hn c7 hj hUj hkn) ?_
          refine lv_istore_n (lv' := [(3, .int (nI (Kf U d j))), (2, .int (nI (o k))), (1, .int (nI k)), (0, .ref h)]) hx hb dX0_learn_41 rfl hl (by decide) rfl (fun ls hl => ?_)
          refine lv_aload_n hx hb dX0_learn_42 rfl (lv_at hl 3 rfl) ?_
          refine zg0_kn hx hb hts hown hK hW dX0_learn_43 ?_
          refine lv_iload_n hx hb dX0_learn_46 rfl (lv_at hl 1 rfl) ?_
          refine lv_iload_n hx hb dX0_learn_47 rfl (lv_at hl 0 rfl) ?_
          refine lv_aload_n hx hb dX0_learn_48 rfl (lv_at hl 3 rfl) ?_
          refine lv_iload_n hx hb dX0_learn_49 rfl (lv_at hl 1 rfl) ?_
          refine zcallI (rest := [.int (nI (Kf U d j)), .int (nI (o k)), .ref (ad 4)]) hx hb hml hown hts hK clX0_0_own (mX_own l D h ad dB dS dN dZ n ab df bt kn2 mt co be li ll ck sh ec es eo em ro dn (o k) (by omega)) ⟨Nat.le_of_ble_eq_true rfl, Nat.le_of_ble_eq_true rfl⟩ hW ⟨0, _, _, rfl, rfl, rfl⟩ rfl hl.1 rfl (Nat.le_of_ble_eq_true rfl) dX0_learn_50 ⟨Nat.le_refl 0, Nat.le_refl 0⟩ (fun v u H locs hv hW => ?_)
          subst hv
          refine lv_ior hx hb dX0_learn_53 ?_
          refine z_top (show ((nI (Kf U d j)) ||| (nI (ownM df (o k)))) = (nI ((Kf U d j) ||| (ownM df (o k)))) from fa_or _ _) ?_
          refine z_top (show (nI ((Kf U d j) ||| (ownM df (o k)))) = (nI (Kf U d (o k))) from (Kf_up hL hdf hok hUj)) ?_
          refine lv_i2s (v := (nI (Kf U d (o k)))) hx hb dX0_learn_54 (z_i2s (by omega)) ?_
          refine z_sast (v := (nI (Kf U d (o k)))) hx hb hK hW 3 1 rfl rfl (o k) rfl (by omega) (by decide) (z_nars (by omega)) dX0_learn_55 (fun H locs hW => ?_)
          have hW : zH D A s (wX h ad dB dS (nI n) ab df bt (upd kn2 (o k) (nI (Kf U d (o k)))) mt co be li ll ck sh ec es eo em ro dn) H locs := hW
          refine lv_iinc (v := (nI (k + 1))) (lv' := [(1, .int (nI (k + 1))), (3, .int (nI (Kf U d j))), (2, .int (nI (o k))), (0, .ref h)]) hx hb dX0_learn_56 hl (k := 2) rfl (z_inc _) (by decide) rfl (fun ls hl => ?_)
          refine lv_goto (tgt := 2) hx hb dX0_learn_59 (by decide) ?_
          exact ih2 (k + 1) (upd kn2 (o k) (nI (Kf U d (o k)))) (by omega) (by omega) (lrn_next hkn) _ _ _ hW (lv_sub hl [0, 3] rfl)
        · have _ := 0
          have hUn : U (o k) = -1 := par_neg hn hpar (fa_of_nle c23)
          refine lv_iconst (v := (nI 0)) hx hb dX0_learn_26 (by decide) ?_
          refine lv_goto (tgt := 41) hx hb dX0_learn_27 (by decide) ?_
          refine lv_istore_n (lv' := [(3, .int (nI 0)), (2, .int (nI (o k))), (1, .int (nI k)), (0, .ref h)]) hx hb dX0_learn_41 rfl hl (by decide) rfl (fun ls hl => ?_)
          refine lv_aload_n hx hb dX0_learn_42 rfl (lv_at hl 3 rfl) ?_
          refine zg0_kn hx hb hts hown hK hW dX0_learn_43 ?_
          refine lv_iload_n hx hb dX0_learn_46 rfl (lv_at hl 1 rfl) ?_
          refine lv_iload_n hx hb dX0_learn_47 rfl (lv_at hl 0 rfl) ?_
          refine lv_aload_n hx hb dX0_learn_48 rfl (lv_at hl 3 rfl) ?_
          refine lv_iload_n hx hb dX0_learn_49 rfl (lv_at hl 1 rfl) ?_
          refine zcallI (rest := [.int (nI 0), .int (nI (o k)), .ref (ad 4)]) hx hb hml hown hts hK clX0_0_own (mX_own l D h ad dB dS dN dZ n ab df bt kn2 mt co be li ll ck sh ec es eo em ro dn (o k) (by omega)) ⟨Nat.le_of_ble_eq_true rfl, Nat.le_of_ble_eq_true rfl⟩ hW ⟨0, _, _, rfl, rfl, rfl⟩ rfl hl.1 rfl (Nat.le_of_ble_eq_true rfl) dX0_learn_50 ⟨Nat.le_refl 0, Nat.le_refl 0⟩ (fun v u H locs hv hW => ?_)
          subst hv
          refine lv_ior hx hb dX0_learn_53 ?_
          refine z_top (show ((nI 0) ||| (nI (ownM df (o k)))) = (nI (0 ||| (ownM df (o k)))) from fa_or _ _) ?_
          refine z_top (show (nI (0 ||| (ownM df (o k)))) = (nI (Kf U d (o k))) from (Kf_root hL hdf hok hUn)) ?_
          refine lv_i2s (v := (nI (Kf U d (o k)))) hx hb dX0_learn_54 (z_i2s (by omega)) ?_
          refine z_sast (v := (nI (Kf U d (o k)))) hx hb hK hW 3 1 rfl rfl (o k) rfl (by omega) (by decide) (z_nars (by omega)) dX0_learn_55 (fun H locs hW => ?_)
          have hW : zH D A s (wX h ad dB dS (nI n) ab df bt (upd kn2 (o k) (nI (Kf U d (o k)))) mt co be li ll ck sh ec es eo em ro dn) H locs := hW
          refine lv_iinc (v := (nI (k + 1))) (lv' := [(1, .int (nI (k + 1))), (3, .int (nI 0)), (2, .int (nI (o k))), (0, .ref h)]) hx hb dX0_learn_56 hl (k := 2) rfl (z_inc _) (by decide) rfl (fun ls hl => ?_)
          refine lv_goto (tgt := 2) hx hb dX0_learn_59 (by decide) ?_
          exact ih2 (k + 1) (upd kn2 (o k) (nI (Kf U d (o k)))) (by omega) (by omega) (lrn_next hkn) _ _ _ hW (lv_sub hl [0, 3] rfl)
  exact hloop2 (n + 1) 0 kn (by omega) (by omega) (fun i hi => absurd hi (by omega)) _ _ _ hW (lv_sub hl [0, 1] rfl)
set_option maxHeartbeats 4000000 in
set_option maxRecDepth 100000 in
theorem mX_meet (l : Launch) (D : va_G) (h : Nat) (ad : Nat → Nat) (dB dS dN dZ : ClassId) (n : Nat) (ab df : Nat → Int32) (bt : Int32) (kn mt co be li : Nat → Int32) (ll ck : Int32) (sh ec es eo em ro dn : Nat → Int32) (U d : Nat → Int32)  (hn : n ≤ 10) (hkn : ∀ c, c < n → kn c = nI (Kf U d c)) : zMV l D (zT dB dS dN dZ) yX0_meet cX0_meet 4 0 [.ref h] (wX h ad dB dS (nI n) ab df bt kn mt co be li ll ck sh ec es eo em ro dn) (fun (u : Nat → Int32) => ∀ s, s < 8 → u s = nI (Mf U d s n)) (fun u => wX h ad dB dS (nI n) ab df bt kn u co be li ll ck sh ec es eo em ro dn) := by
  refine zStartV (by decide) (Nat.le_of_ble_eq_true rfl) ?_
  intro p e s m args below meth c A Q ls hx hb hml hown hts hK hend hW hl
  have hown : s.vm.findClass RX0 = some m.cls := hown
  have hl : lv_has ls 4 [(0, .ref h)] := hl
  refine lv_iconst (v := (nI 0)) hx hb dX0_meet_0 (by decide) ?_
  refine lv_istore_n (lv' := [(1, .int (nI 0)), (0, .ref h)]) hx hb dX0_meet_1 rfl hl (by decide) rfl (fun ls hl => ?_)
  have hloop2 : ∀ (N : Nat) (j : Nat) (mt2 : Nat → Int32), 8 < j + N → (j ≤ 8) → (∀ s, s < j → mt2 s = nI (Mf U d s n)) → ∀ (H : Heap) (locs : List Loc) (ls : Array Slot), zH D A s (wX h ad dB dS (nI n) ab df bt kn mt2 co be li ll ck sh ec es eo em ro dn) H locs → lv_has ls 4 [(1, .int (nI j)), (0, .ref h)] → W p l e (zR 0) s m args below meth c H locs 0 0 Q (F0 m 2 ls []) := by
    intro N
    induction N with
    | zero =>
      intro j  mt2  hM hj hmt H locs ls hW hl
      exact absurd hM (by omega)
    | succ N ih2 =>
      intro j  mt2  hM hj hmt H locs ls hW hl
      refine lv_iload_n hx hb dX0_meet_2 rfl (lv_at hl 0 rfl) ?_
      refine lv_bipush (v := (nI 8)) hx hb dX0_meet_3 (by decide) ?_
      refine lv_icmp_ge (tgt := 62) hx hb dX0_meet_5 (by decide) (fun c5 => ?_) (fun c5 => ?_)
      · have _ := 0
        have c5 : 8 ≤ j := z_le (by omega) (by omega) c5
        exact hend mt2 _ _ _ _ (fun s hs => hmt s (by omega)) hW dX0_meet_62
      · have _ := 0
        have c5 : j < 8 := z_nle (by omega) (by omega) c5
        refine lv_iconst (v := (nI 0)) hx hb dX0_meet_8 (by decide) ?_
        refine z_top (show (nI 0) = (nI (Mf U d j 0)) from rfl) ?_
        refine lv_istore_n (lv' := [(2, .int (nI (Mf U d j 0))), (1, .int (nI j)), (0, .ref h)]) hx hb dX0_meet_9 rfl hl (by decide) rfl (fun ls hl => ?_)
        refine lv_iconst (v := (nI 0)) hx hb dX0_meet_10 (by decide) ?_
        refine lv_istore_n (lv' := [(3, .int (nI 0)), (2, .int (nI (Mf U d j 0))), (1, .int (nI j)), (0, .ref h)]) hx hb dX0_meet_11 rfl hl (by decide) rfl (fun ls hl => ?_)
        have hloop12 : ∀ (N : Nat) (i : Nat), n < i + N → (i ≤ n) → ∀ (H : Heap) (locs : List Loc) (ls : Array Slot), zH D A s (wX h ad dB dS (nI n) ab df bt kn mt2 co be li ll ck sh ec es eo em ro dn) H locs → lv_has ls 4 [(3, .int (nI i)), (2, .int (nI (Mf U d j i))), (1, .int (nI j)), (0, .ref h)] → W p l e (zR 0) s m args below meth c H locs 0 0 Q (F0 m 12 ls []) := by
          intro N
          induction N with
          | zero =>
            intro i  hM hi H locs ls hW hl
            exact absurd hM (by omega)
          | succ N ih12 =>
            intro i  hM hi H locs ls hW hl
            refine lv_iload_n hx hb dX0_meet_12 rfl (lv_at hl 0 rfl) ?_
            refine lv_aload_n hx hb dX0_meet_13 rfl (lv_at hl 3 rfl) ?_
            refine zg0_cn hx hb hts hown hK hW dX0_meet_14 ?_
            refine lv_icmp_ge (tgt := 48) hx hb dX0_meet_17 (by decide) (fun c17 => ?_) (fun c17 => ?_)
            · have _ := 0
              have c17 : n ≤ i := z_le (by omega) (by omega) c17
              obtain rfl : n = i := by omega
              have hM9 := Mf_lt U d j n
              refine lv_aload_n hx hb dX0_meet_48 rfl (lv_at hl 3 rfl) ?_
              refine zg0_mt hx hb hts hown hK hW dX0_meet_49 ?_
              refine lv_iload_n hx hb dX0_meet_52 rfl (lv_at hl 2 rfl) ?_
              refine lv_iload_n hx hb dX0_meet_53 rfl (lv_at hl 1 rfl) ?_
              refine lv_i2s (v := (nI (Mf U d j n))) hx hb dX0_meet_54 (z_i2s (by omega)) ?_
              refine z_sast (v := (nI (Mf U d j n))) hx hb hK hW 4 1 rfl rfl j rfl (by omega) (by decide) (z_nars (by omega)) dX0_meet_55 (fun H locs hW => ?_)
              have hW : zH D A s (wX h ad dB dS (nI n) ab df bt kn (upd mt2 j (nI (Mf U d j n))) co be li ll ck sh ec es eo em ro dn) H locs := hW
              refine lv_iinc (v := (nI (j + 1))) (lv' := [(1, .int (nI (j + 1))), (3, .int (nI n)), (2, .int (nI (Mf U d j n))), (0, .ref h)]) hx hb dX0_meet_56 hl (k := 2) rfl (z_inc _) (by decide) rfl (fun ls hl => ?_)
              refine lv_goto (tgt := 2) hx hb dX0_meet_59 (by decide) ?_
              exact ih2 (j + 1) (upd mt2 j (nI (Mf U d j n))) (by omega) (by omega) (upd_ind hmt) _ _ _ hW (lv_sub hl [0, 3] rfl)
            · have _ := 0
              have c17 : i < n := z_nle (by omega) (by omega) c17
              refine lv_aload_n hx hb dX0_meet_20 rfl (lv_at hl 3 rfl) ?_
              refine zg0_kn hx hb hts hown hK hW dX0_meet_21 ?_
              refine lv_iload_n hx hb dX0_meet_24 rfl (lv_at hl 0 rfl) ?_
              refine z_sald hx hb hK hW 3 1 rfl rfl i rfl (by omega) (by decide) dX0_meet_25 ?_
              refine z_top (show (kn i) = (nI (Kf U d i)) from hkn i c17) ?_
              refine lv_iload_n hx hb dX0_meet_26 rfl (lv_at hl 2 rfl) ?_
              refine lv_ishr hx hb dX0_meet_27 ?_
              refine lv_iconst (v := (nI 1)) hx hb dX0_meet_28 (by decide) ?_
              refine lv_iand hx hb dX0_meet_29 ?_
              refine z_top (show (((nI (Kf U d i)) >>> ((nI j) &&& 31)) &&& (nI 1)) = (nI ((Kf U d i).testBit j).toNat) from z_bit (by have := Kf_lt U d i; omega) (by omega)) ?_
              refine lv_if_eq (tgt := 42) hx hb dX0_meet_30 (by decide) (fun c30 => ?_) (fun c30 => ?_)
              · have _ := 0
                have c30 : ((Kf U d i).testBit j) = false := z_b0 c30
                refine lv_iinc (v := (nI (i + 1))) (lv' := [(3, .int (nI (i + 1))), (2, .int (nI (Mf U d j i))), (1, .int (nI j)), (0, .ref h)]) hx hb dX0_meet_42 hl (k := 0) rfl (z_inc _) (by decide) rfl (fun ls hl => ?_)
                refine lv_goto (tgt := 12) hx hb dX0_meet_45 (by decide) ?_
                have hl : lv_has ls 4 [(3, .int (nI (i + 1))), (2, .int (nI (Mf U d j (i + 1)))), (1, .int (nI j)), (0, .ref h)] := by rw [show (nI (Mf U d j (i + 1))) = (nI (Mf U d j i)) from (by rw [Mf, if_neg (by rw [c30]; decide)])]; exact hl
                exact ih12 (i + 1) (by omega) (by omega) _ _ _ hW (lv_sub hl [0, 1, 2, 3] rfl)
              · have _ := 0
                have c30 : ((Kf U d i).testBit j) = true := z_b1 c30
                refine lv_iload_n hx hb dX0_meet_33 rfl (lv_at hl 1 rfl) ?_
                refine lv_aload_n hx hb dX0_meet_34 rfl (lv_at hl 3 rfl) ?_
                refine zg0_kn hx hb hts hown hK hW dX0_meet_35 ?_
                refine lv_iload_n hx hb dX0_meet_38 rfl (lv_at hl 0 rfl) ?_
                refine z_sald hx hb hK hW 3 1 rfl rfl i rfl (by omega) (by decide) dX0_meet_39 ?_
                refine z_top (show (kn i) = (nI (Kf U d i)) from hkn i c17) ?_
                refine lv_ior hx hb dX0_meet_40 ?_
                refine z_top (show ((nI (Mf U d j i)) ||| (nI (Kf U d i))) = (nI ((Mf U d j i) ||| (Kf U d i))) from fa_or _ _) ?_
                refine z_top (show (nI ((Mf U d j i) ||| (Kf U d i))) = (nI (Mf U d j (i + 1))) from (by rw [Mf, if_pos c30])) ?_
                refine lv_istore_n (lv' := [(2, .int (nI (Mf U d j (i + 1)))), (3, .int (nI i)), (1, .int (nI j)), (0, .ref h)]) hx hb dX0_meet_41 rfl hl (by decide) rfl (fun ls hl => ?_)
                refine lv_iinc (v := (nI (i + 1))) (lv' := [(3, .int (nI (i + 1))), (2, .int (nI (Mf U d j (i + 1)))), (1, .int (nI j)), (0, .ref h)]) hx hb dX0_meet_42 hl (k := 1) rfl (z_inc _) (by decide) rfl (fun ls hl => ?_)
                refine lv_goto (tgt := 12) hx hb dX0_meet_45 (by decide) ?_
                exact ih12 (i + 1) (by omega) (by omega) _ _ _ hW (lv_sub hl [0, 1, 2, 3] rfl)
        exact hloop12 (n + 1) 0 (by omega) (by omega) _ _ _ hW (lv_sub hl [0, 1, 2, 3] rfl)
  exact hloop2 9 0 mt (by omega) (by omega) (fun s hs => absurd hs (by omega)) _ _ _ hW (lv_sub hl [0, 1] rfl)
end
section
set_option maxRecDepth 100000
set_option maxHeartbeats 4000000 in
set_option maxRecDepth 100000 in
theorem mX_lineUp (l : Launch) (D : va_G) (h : Nat) (ad : Nat → Nat) (dB dS dN dZ : ClassId) (n : Nat) (ab df : Nat → Int32) (bt : Int32) (kn mt co be li : Nat → Int32) (ll ck : Int32) (sh ec es eo em ro dn : Nat → Int32) (M : Nat → Nat)  (hM8 : ∀ s, s < 8 → M s < 256) (hmt : ∀ s, s < 8 → mt s = nI (M s)) : zMV l D (zT dB dS dN dZ) yX0_lineUp cX0_lineUp 7 1 [.ref h] (wX h ad dB dS (nI n) ab df bt kn mt co be li ll ck sh ec es eo em ro dn) (fun (u : (Nat → Int32) × Int32) => ∃ L l, Lin M L l ∧ u.2 = nI L ∧ ∀ k, k < L → u.1 k = nI (l k)) (fun u => wX h ad dB dS (nI n) ab df bt kn mt co be u.1 u.2 ck sh ec es eo em ro dn) := by
  refine zStartV (by decide) (Nat.le_of_ble_eq_true rfl) ?_
  intro p e s m args below meth c A Q ls hx hb hml hown hts hK hend hW hl
  have hown : s.vm.findClass RX0 = some m.cls := hown
  have hl : lv_has ls 7 [(0, .ref h)] := hl
  refine lv_aload_n hx hb dX0_lineUp_0 rfl (lv_at hl 0 rfl) ?_
  refine lv_iconst (v := (nI 0)) hx hb dX0_lineUp_1 (by decide) ?_
  refine zp0_ll hx hb hts hown hK hW rfl rfl dX0_lineUp_2 (fun H locs hW => ?_)
  refine lv_iconst (v := (nI 0)) hx hb dX0_lineUp_5 (by decide) ?_
  refine lv_istore_n (lv' := [(1, .int (nI 0)), (0, .ref h)]) hx hb dX0_lineUp_6 rfl hl (by decide) rfl (fun ls hl => ?_)
  refine lv_iconst (v := (nI 0)) hx hb dX0_lineUp_7 (by decide) ?_
  refine lv_istore_n (lv' := [(2, .int (nI 0)), (1, .int (nI 0)), (0, .ref h)]) hx hb dX0_lineUp_8 rfl hl (by decide) rfl (fun ls hl => ?_)
  have hloop9 : ∀ (N : Nat) (r bm L : Nat) (l1 : Nat → Nat) (li2 : Nat → Int32), 8 < r + N → (r ≤ 8) → (LU M r bm L l1 li2) → ∀ (H : Heap) (locs : List Loc) (ls : Array Slot), zH D A s (wX h ad dB dS (nI n) ab df bt kn mt co be li2 (nI L) ck sh ec es eo em ro dn) H locs → lv_has ls 7 [(2, .int (nI r)), (1, .int (nI bm)), (0, .ref h)] → W p l e (zR 1) s m args below meth c H locs 0 0 Q (F0 m 9 ls []) := by
    intro N
    induction N with
    | zero =>
      intro r bm L  l1  li2  hM hr hlu H locs ls hW hl
      exact absurd hM (by omega)
    | succ N ih9 =>
      intro r bm L  l1  li2  hM hr hlu H locs ls hW hl
      refine lv_iload_n hx hb dX0_lineUp_9 rfl (lv_at hl 0 rfl) ?_
      refine lv_bipush (v := (nI 8)) hx hb dX0_lineUp_10 (by decide) ?_
      refine lv_icmp_ge (tgt := 108) hx hb dX0_lineUp_12 (by decide) (fun c12 => ?_) (fun c12 => ?_)
      · have _ := 0
        have c12 : 8 ≤ r := z_le (by omega) (by omega) c12
        obtain rfl : r = 8 := by omega
        exact hend (li2, nI L) _ _ _ _ (lu_done hlu) hW dX0_lineUp_108
      · have _ := 0
        have c12 : r < 8 := z_nle (by omega) (by omega) c12
        have hm9 : bm < 256 := hlu.1
        have hLr : L ≤ r := hlu.2.1
        refine lv_iconst (v := (-1)) hx hb dX0_lineUp_15 (by decide) ?_
        refine lv_istore_n (lv' := [(3, .int (-1)), (2, .int (nI r)), (1, .int (nI bm)), (0, .ref h)]) hx hb dX0_lineUp_16 rfl hl (by decide) rfl (fun ls hl => ?_)
        refine lv_iconst (v := (nI 0)) hx hb dX0_lineUp_17 (by decide) ?_
        refine lv_istore (lv' := [(4, .int (nI 0)), (3, .int (-1)), (2, .int (nI r)), (1, .int (nI bm)), (0, .ref h)]) hx hb dX0_lineUp_18 hl (by decide) rfl (fun ls hl => ?_)
        refine lv_iconst (v := (nI 0)) hx hb dX0_lineUp_20 (by decide) ?_
        refine lv_istore (lv' := [(5, .int (nI 0)), (4, .int (nI 0)), (3, .int (-1)), (2, .int (nI r)), (1, .int (nI bm)), (0, .ref h)]) hx hb dX0_lineUp_21 hl (by decide) rfl (fun ls hl => ?_)
        have hloop23 : ∀ (N : Nat) (i : Nat) (tp mo : Int32), 8 < i + N → (i ≤ 8) → (Top M bm i tp mo) → ∀ (H : Heap) (locs : List Loc) (ls : Array Slot), zH D A s (wX h ad dB dS (nI n) ab df bt kn mt co be li2 (nI L) ck sh ec es eo em ro dn) H locs → lv_has ls 7 [(5, .int (nI i)), (4, .int mo), (3, .int tp), (2, .int (nI r)), (1, .int (nI bm)), (0, .ref h)] → W p l e (zR 1) s m args below meth c H locs 0 0 Q (F0 m 23 ls []) := by
          intro N
          induction N with
          | zero =>
            intro i  tp mo  hM hi htp H locs ls hW hl
            exact absurd hM (by omega)
          | succ N ih23 =>
            intro i  tp mo  hM hi htp H locs ls hW hl
            refine lv_iload hx hb dX0_lineUp_23 (lv_at hl 0 rfl) ?_
            refine lv_bipush (v := (nI 8)) hx hb dX0_lineUp_25 (by decide) ?_
            refine lv_icmp_ge (tgt := 71) hx hb dX0_lineUp_27 (by decide) (fun c27 => ?_) (fun c27 => ?_)
            · have _ := 0
              have c27 : 8 ≤ i := z_le (by omega) (by omega) c27
              obtain rfl : i = 8 := by omega
              refine lv_iload_n hx hb dX0_lineUp_71 rfl (lv_at hl 2 rfl) ?_
              refine lv_if_lt (tgt := 102) hx hb dX0_lineUp_72 (by decide) (fun c72 => ?_) (fun c72 => ?_)
              · have _ := 0
                have hno := top_none hM8 htp c72
                refine lv_iinc (v := (nI (r + 1))) (lv' := [(2, .int (nI (r + 1))), (5, .int (nI 8)), (4, .int mo), (3, .int tp), (1, .int (nI bm)), (0, .ref h)]) hx hb dX0_lineUp_102 hl (k := 3) rfl (z_inc _) (by decide) rfl (fun ls hl => ?_)
                refine lv_goto (tgt := 9) hx hb dX0_lineUp_105 (by decide) ?_
                exact ih9 (r + 1) bm L l1 li2 (by omega) (by omega) (lu_stay hlu c12 hno) _ _ _ hW (lv_sub hl [0, 4, 5] rfl)
              · have _ := 0
                obtain ⟨t, rfl, ht⟩ := top_some htp c72
                have ht8 : t < 8 := ht.1
                refine lv_iload_n hx hb dX0_lineUp_75 rfl (lv_at hl 4 rfl) ?_
                refine lv_iconst (v := (nI 1)) hx hb dX0_lineUp_76 (by decide) ?_
                refine lv_iload_n hx hb dX0_lineUp_77 rfl (lv_at hl 2 rfl) ?_
                refine lv_ishl hx hb dX0_lineUp_78 ?_
                refine z_top (show ((nI 1) <<< ((nI t) &&& 31)) = (nI (2 ^ t)) from z_shl1 (by omega)) ?_
                refine lv_ior hx hb dX0_lineUp_79 ?_
                refine z_top (show ((nI bm) ||| (nI (2 ^ t))) = (nI (bm ||| (2 ^ t))) from fa_or _ _) ?_
                refine lv_istore_n (lv' := [(1, .int (nI (bm ||| (2 ^ t)))), (5, .int (nI 8)), (4, .int mo), (3, .int (nI t)), (2, .int (nI r)), (0, .ref h)]) hx hb dX0_lineUp_80 rfl hl (by decide) rfl (fun ls hl => ?_)
                refine lv_aload_n hx hb dX0_lineUp_81 rfl (lv_at hl 5 rfl) ?_
                refine zg0_li hx hb hts hown hK hW dX0_lineUp_82 ?_
                refine lv_aload_n hx hb dX0_lineUp_85 rfl (lv_at hl 5 rfl) ?_
                refine zg0_ll hx hb hts hown hK hW dX0_lineUp_86 ?_
                refine lv_iload_n hx hb dX0_lineUp_89 rfl (lv_at hl 3 rfl) ?_
                refine lv_i2b (v := (nI t)) hx hb dX0_lineUp_90 (z_i2b (by omega)) ?_
                refine z_bast (v := (nI t)) hx hb hK hW 7 0 rfl rfl L rfl (by omega) (by decide) (z_narb (by omega)) dX0_lineUp_91 (fun H locs hW => ?_)
                have hW : zH D A s (wX h ad dB dS (nI n) ab df bt kn mt co be (upd li2 L (nI t)) (nI L) ck sh ec es eo em ro dn) H locs := hW
                refine lv_aload_n hx hb dX0_lineUp_92 rfl (lv_at hl 5 rfl) ?_
                refine lv_dup hx hb dX0_lineUp_93 rfl ?_
                refine zg0_ll hx hb hts hown hK hW dX0_lineUp_94 ?_
                refine lv_iconst (v := (nI 1)) hx hb dX0_lineUp_97 (by decide) ?_
                refine lv_iadd hx hb dX0_lineUp_98 ?_
                refine z_top (show ((nI L) + (nI 1)) = (nI (L + 1)) from nI_add _ _) ?_
                refine zp0_ll hx hb hts hown hK hW rfl rfl dX0_lineUp_99 (fun H locs hW => ?_)
                refine lv_iinc (v := (nI (r + 1))) (lv' := [(2, .int (nI (r + 1))), (1, .int (nI (bm ||| (2 ^ t)))), (5, .int (nI 8)), (4, .int mo), (3, .int (nI t)), (0, .ref h)]) hx hb dX0_lineUp_102 hl (k := 4) rfl (z_inc _) (by decide) rfl (fun ls hl => ?_)
                refine lv_goto (tgt := 9) hx hb dX0_lineUp_105 (by decide) ?_
                exact ih9 (r + 1) (bm ||| 2 ^ t) (L + 1) (fup l1 L t) (upd li2 L (nI t)) (by omega) (by omega) (lu_add hlu c12 ht) _ _ _ hW (lv_sub hl [0, 1, 5] rfl)
            · have _ := 0
              have c27 : i < 8 := z_nle (by omega) (by omega) c27
              refine lv_aload_n hx hb dX0_lineUp_30 rfl (lv_at hl 5 rfl) ?_
              refine zg0_mt hx hb hts hown hK hW dX0_lineUp_31 ?_
              refine lv_iload hx hb dX0_lineUp_34 (lv_at hl 0 rfl) ?_
              refine z_sald hx hb hK hW 4 1 rfl rfl i rfl (by omega) (by decide) dX0_lineUp_36 ?_
              refine z_top (show (mt i) = (nI (M i)) from hmt i c27) ?_
              refine zcallS (rest := []) hx hb hml hown hts hK clX0_0_sizeOf (mX_sizeOf l D h ad dB dS dN dZ n ab df bt kn mt co be li2 (nI L) ck sh ec es eo em ro dn (M i) (by have := hM8 i c27; omega)) ⟨Nat.le_of_ble_eq_true rfl, Nat.le_of_ble_eq_true rfl⟩ hW rfl hl.1 rfl (Nat.le_of_ble_eq_true rfl) dX0_lineUp_37 ⟨Nat.le_refl 0, Nat.le_refl 0⟩ (fun v u H locs hv hW => ?_)
              subst hv
              refine lv_istore (lv' := [(6, .int (nI (pcnt (M i) 8))), (5, .int (nI i)), (4, .int mo), (3, .int tp), (2, .int (nI r)), (1, .int (nI bm)), (0, .ref h)]) hx hb dX0_lineUp_40 hl (by decide) rfl (fun ls hl => ?_)
              refine lv_iload_n hx hb dX0_lineUp_42 rfl (lv_at hl 5 rfl) ?_
              refine lv_iload hx hb dX0_lineUp_43 (lv_at hl 1 rfl) ?_
              refine lv_ishr hx hb dX0_lineUp_45 ?_
              refine lv_iconst (v := (nI 1)) hx hb dX0_lineUp_46 (by decide) ?_
              refine lv_iand hx hb dX0_lineUp_47 ?_
              refine z_top (show (((nI bm) >>> ((nI i) &&& 31)) &&& (nI 1)) = (nI (bm.testBit i).toNat) from z_bit (by omega) (by omega)) ?_
              refine lv_if_ne (tgt := 65) hx hb dX0_lineUp_48 (by decide) (fun c48 => ?_) (fun c48 => ?_)
              · have _ := 0
                have c48 : (bm.testBit i) = true := z_b1 c48
                refine lv_iinc (v := (nI (i + 1))) (lv' := [(5, .int (nI (i + 1))), (6, .int (nI (pcnt (M i) 8))), (4, .int mo), (3, .int tp), (2, .int (nI r)), (1, .int (nI bm)), (0, .ref h)]) hx hb dX0_lineUp_65 hl (k := 1) rfl (z_inc _) (by decide) rfl (fun ls hl => ?_)
                refine lv_goto (tgt := 23) hx hb dX0_lineUp_68 (by decide) ?_
                exact ih23 (i + 1) tp mo (by omega) (by omega) (top_skip htp (Or.inl c48)) _ _ _ hW (lv_sub hl [0, 2, 3, 4, 5, 6] rfl)
              · have _ := 0
                have c48 : (bm.testBit i) = false := z_b0 c48
                refine lv_iload hx hb dX0_lineUp_51 (lv_at hl 0 rfl) ?_
                refine lv_iload hx hb dX0_lineUp_53 (lv_at hl 2 rfl) ?_
                refine lv_icmp_le (tgt := 65) hx hb dX0_lineUp_55 (by decide) (fun c55 => ?_) (fun c55 => ?_)
                · have _ := 0
                  refine lv_iinc (v := (nI (i + 1))) (lv' := [(5, .int (nI (i + 1))), (6, .int (nI (pcnt (M i) 8))), (4, .int mo), (3, .int tp), (2, .int (nI r)), (1, .int (nI bm)), (0, .ref h)]) hx hb dX0_lineUp_65 hl (k := 1) rfl (z_inc _) (by decide) rfl (fun ls hl => ?_)
                  refine lv_goto (tgt := 23) hx hb dX0_lineUp_68 (by decide) ?_
                  exact ih23 (i + 1) tp mo (by omega) (by omega) (top_skip htp (Or.inr c55)) _ _ _ hW (lv_sub hl [0, 2, 3, 4, 5, 6] rfl)
                · have _ := 0
                  refine lv_iload hx hb dX0_lineUp_58 (lv_at hl 1 rfl) ?_
                  refine lv_istore_n (lv' := [(3, .int (nI i)), (6, .int (nI (pcnt (M i) 8))), (5, .int (nI i)), (4, .int mo), (2, .int (nI r)), (1, .int (nI bm)), (0, .ref h)]) hx hb dX0_lineUp_60 rfl hl (by decide) rfl (fun ls hl => ?_)
                  refine lv_iload hx hb dX0_lineUp_61 (lv_at hl 1 rfl) ?_
                  refine lv_istore (lv' := [(4, .int (nI (pcnt (M i) 8))), (3, .int (nI i)), (6, .int (nI (pcnt (M i) 8))), (5, .int (nI i)), (2, .int (nI r)), (1, .int (nI bm)), (0, .ref h)]) hx hb dX0_lineUp_63 hl (by decide) rfl (fun ls hl => ?_)
                  refine lv_iinc (v := (nI (i + 1))) (lv' := [(5, .int (nI (i + 1))), (4, .int (nI (pcnt (M i) 8))), (3, .int (nI i)), (6, .int (nI (pcnt (M i) 8))), (2, .int (nI r)), (1, .int (nI bm)), (0, .ref h)]) hx hb dX0_lineUp_65 hl (k := 3) rfl (z_inc _) (by decide) rfl (fun ls hl => ?_)
                  refine lv_goto (tgt := 23) hx hb dX0_lineUp_68 (by decide) ?_
                  exact ih23 (i + 1) (nI i) (nI (pcnt (M i) 8)) (by omega) (by omega) (top_take htp c48 c55) _ _ _ hW (lv_sub hl [0, 1, 2, 4, 5, 6] rfl)
        exact hloop23 9 0 (-1) (nI 0) (by omega) (by omega) top_0 _ _ _ hW (lv_sub hl [0, 1, 2, 3, 4, 5] rfl)
  exact hloop9 9 0 0 0 (fun _ => 0) li (by omega) (by omega) lu_0 _ _ _ hW (lv_sub hl [0, 1, 2] rfl)
set_option maxHeartbeats 4000000 in
set_option maxRecDepth 100000 in
theorem mX_opened (l : Launch) (D : va_G) (h : Nat) (ad : Nat → Nat) (dB dS dN dZ : ClassId) (n : Nat) (ab df : Nat → Int32) (bt : Int32) (kn mt co be li : Nat → Int32) (ll ck : Int32) (sh ec es eo em ro dn : Nat → Int32) (v1 : Nat) (l1 g : Nat → Nat)  (hv8 : v1 ≤ 8) (hl8 : ∀ k, k < v1 → l1 k < 8) (hli : ∀ k, k < v1 → li k = nI (l1 k)) (hg8 : ∀ k, k < v1 → g k < 8) (hco : ∀ k, k < v1 → co (l1 k) = nI (g k)) : zMI l D (zT dB dS dN dZ) yX0_opened cX0_opened 4 .int 0 [.ref h, .int (nI v1)] (wX h ad dB dS (nI n) ab df bt kn mt co be li ll ck sh ec es eo em ro dn) (fun v (u : Unit) => v = nI (opn g v1)) (fun _ => wX h ad dB dS (nI n) ab df bt kn mt co be li ll ck sh ec es eo em ro dn) := by
  refine zStartI (by decide) (Nat.le_of_ble_eq_true rfl) ?_
  intro p e s m args below meth c A Q ls hx hb hml hown hts hK hend hW hl
  have hown : s.vm.findClass RX0 = some m.cls := hown
  have hl : lv_has ls 4 [(0, .ref h), (1, .int (nI v1))] := hl
  refine lv_iconst (v := (nI 0)) hx hb dX0_opened_0 (by decide) ?_
  refine z_top (show (nI 0) = (nI (opn g 0)) from rfl) ?_
  refine lv_istore_n (lv' := [(2, .int (nI (opn g 0))), (0, .ref h), (1, .int (nI v1))]) hx hb dX0_opened_1 rfl hl (by decide) rfl (fun ls hl => ?_)
  refine lv_iconst (v := (nI 0)) hx hb dX0_opened_2 (by decide) ?_
  refine lv_istore_n (lv' := [(3, .int (nI 0)), (2, .int (nI (opn g 0))), (0, .ref h), (1, .int (nI v1))]) hx hb dX0_opened_3 rfl hl (by decide) rfl (fun ls hl => ?_)
  have hloop4 : ∀ (N : Nat) (k : Nat), v1 < k + N → (k ≤ v1) → (opn g k ≤ 8) → ∀ (H : Heap) (locs : List Loc) (ls : Array Slot), zH D A s (wX h ad dB dS (nI n) ab df bt kn mt co be li ll ck sh ec es eo em ro dn) H locs → lv_has ls 4 [(3, .int (nI k)), (2, .int (nI (opn g k))), (0, .ref h), (1, .int (nI v1))] → W p l e (zR 0) s m args below meth c H locs 0 0 Q (F0 m 4 ls []) := by
    intro N
    induction N with
    | zero =>
      intro k  hM hk ho8 H locs ls hW hl
      exact absurd hM (by omega)
    | succ N ih4 =>
      intro k  hM hk ho8 H locs ls hW hl
      refine lv_iload_n hx hb dX0_opened_4 rfl (lv_at hl 0 rfl) ?_
      refine lv_iload_n hx hb dX0_opened_5 rfl (lv_at hl 3 rfl) ?_
      refine lv_icmp_ge (tgt := 44) hx hb dX0_opened_6 (by decide) (fun c6 => ?_) (fun c6 => ?_)
      · have _ := 0
        have c6 : v1 ≤ k := z_le (by omega) (by omega) c6
        refine lv_iload_n hx hb dX0_opened_44 rfl (lv_at hl 1 rfl) ?_
        obtain rfl : v1 = k := by omega
        exact hend _ () _ _ _ _ rfl rfl hW dX0_opened_45
      · have _ := 0
        have c6 : k < v1 := z_nle (by omega) (by omega) c6
        have hlk := hl8 k c6
        have hgk := hg8 k c6
        refine lv_aload_n hx hb dX0_opened_9 rfl (lv_at hl 2 rfl) ?_
        refine zg0_co hx hb hts hown hK hW dX0_opened_10 ?_
        refine lv_aload_n hx hb dX0_opened_13 rfl (lv_at hl 2 rfl) ?_
        refine zg0_li hx hb hts hown hK hW dX0_opened_14 ?_
        refine lv_iload_n hx hb dX0_opened_17 rfl (lv_at hl 0 rfl) ?_
        refine z_bald hx hb hK hW 7 0 rfl rfl k rfl (by omega) (by decide) dX0_opened_18 ?_
        refine z_top (show (li k) = (nI (l1 k)) from hli k c6) ?_
        refine z_bald hx hb hK hW 5 0 rfl rfl (l1 k) rfl (by omega) (by decide) dX0_opened_19 ?_
        refine z_top (show (co (l1 k)) = (nI (g k)) from hco k c6) ?_
        refine lv_iload_n hx hb dX0_opened_20 rfl (lv_at hl 1 rfl) ?_
        refine lv_icmp_lt (tgt := 38) hx hb dX0_opened_21 (by decide) (fun c21 => ?_) (fun c21 => ?_)
        · have _ := 0
          have c21 : (g k) < (opn g k) := z_lt (by omega) (by omega) c21
          refine lv_iinc (v := (nI (k + 1))) (lv' := [(3, .int (nI (k + 1))), (2, .int (nI (opn g k))), (0, .ref h), (1, .int (nI v1))]) hx hb dX0_opened_38 hl (k := 0) rfl (z_inc _) (by decide) rfl (fun ls hl => ?_)
          refine lv_goto (tgt := 4) hx hb dX0_opened_41 (by decide) ?_
          have hl : lv_has ls 4 [(3, .int (nI (k + 1))), (2, .int (nI (opn g (k + 1)))), (0, .ref h), (1, .int (nI v1))] := by rw [show (nI (opn g (k + 1))) = (nI (opn g k)) from (by rw [opn, if_neg (by omega)])]; exact hl
          exact ih4 (k + 1) (by omega) (by omega) (opn_8 ho8 hgk) _ _ _ hW (lv_sub hl [0, 1, 2, 3] rfl)
        · have _ := 0
          have c21 : (opn g k) ≤ (g k) := z_nlt (by omega) (by omega) c21
          refine lv_aload_n hx hb dX0_opened_24 rfl (lv_at hl 2 rfl) ?_
          refine zg0_co hx hb hts hown hK hW dX0_opened_25 ?_
          refine lv_aload_n hx hb dX0_opened_28 rfl (lv_at hl 2 rfl) ?_
          refine zg0_li hx hb hts hown hK hW dX0_opened_29 ?_
          refine lv_iload_n hx hb dX0_opened_32 rfl (lv_at hl 0 rfl) ?_
          refine z_bald hx hb hK hW 7 0 rfl rfl k rfl (by omega) (by decide) dX0_opened_33 ?_
          refine z_top (show (li k) = (nI (l1 k)) from hli k c6) ?_
          refine z_bald hx hb hK hW 5 0 rfl rfl (l1 k) rfl (by omega) (by decide) dX0_opened_34 ?_
          refine z_top (show (co (l1 k)) = (nI (g k)) from hco k c6) ?_
          refine lv_iconst (v := (nI 1)) hx hb dX0_opened_35 (by decide) ?_
          refine lv_iadd hx hb dX0_opened_36 ?_
          refine z_top (show ((nI (g k)) + (nI 1)) = (nI ((g k) + 1)) from nI_add _ _) ?_
          refine z_top (show (nI ((g k) + 1)) = (nI (opn g (k + 1))) from (by rw [opn, if_pos c21])) ?_
          refine lv_istore_n (lv' := [(2, .int (nI (opn g (k + 1)))), (3, .int (nI k)), (0, .ref h), (1, .int (nI v1))]) hx hb dX0_opened_37 rfl hl (by decide) rfl (fun ls hl => ?_)
          refine lv_iinc (v := (nI (k + 1))) (lv' := [(3, .int (nI (k + 1))), (2, .int (nI (opn g (k + 1)))), (0, .ref h), (1, .int (nI v1))]) hx hb dX0_opened_38 hl (k := 1) rfl (z_inc _) (by decide) rfl (fun ls hl => ?_)
          refine lv_goto (tgt := 4) hx hb dX0_opened_41 (by decide) ?_
          exact ih4 (k + 1) (by omega) (by omega) (opn_8 ho8 hgk) _ _ _ hW (lv_sub hl [0, 1, 2, 3] rfl)
  exact hloop4 (v1 + 1) 0 (by omega) (by omega) (Nat.zero_le 8) _ _ _ hW (lv_sub hl [0, 1, 2, 3] rfl)
set_option maxHeartbeats 4000000 in
set_option maxRecDepth 100000 in
theorem mX_nextColour (l : Launch) (D : va_G) (h : Nat) (ad : Nat → Nat) (dB dS dN dZ : ClassId) (n : Nat) (ab df : Nat → Int32) (bt : Int32) (kn mt co be li : Nat → Int32) (ll ck : Int32) (sh ec es eo em ro dn : Nat → Int32) (v1 c1 o1 x : Nat) (l1 g M : Nat → Nat)  (hv8 : v1 < 8) (hc9 : c1 ≤ 9) (ho9 : o1 ≤ 8) (hx8 : x ≤ 8) (hl8 : ∀ k, k < v1 + 1 → l1 k < 8) (hli : ∀ k, k < v1 + 1 → li k = nI (l1 k)) (hg8 : ∀ k, k < v1 → g k < 8) (hco : ∀ k, k < v1 → co (l1 k) = nI (g k)) (hM8 : ∀ s, s < 8 → M s < 256) (hmt : ∀ s, s < 8 → mt s = nI (M s)) : zMI l D (zT dB dS dN dZ) yX0_nextColour cX0_nextColour 6 .int 0 [.ref h, .int (nI v1), .int (nI c1), .int (nI o1)] (wX h ad dB dS (nI n) ab df bt kn mt co be li ll (nI x) sh ec es eo em ro dn) (fun v (u : Unit) => NxtR (brd M l1 g v1 v1) c1 o1 x v) (fun _ => wX h ad dB dS (nI n) ab df bt kn mt co be li ll (nI x) sh ec es eo em ro dn) := by
  refine zStartI (by decide) (Nat.le_of_ble_eq_true rfl) ?_
  intro p e s m args below meth c A Q ls hx hb hml hown hts hK hend hW hl
  have hown : s.vm.findClass RX0 = some m.cls := hown
  have hl : lv_has ls 6 [(0, .ref h), (1, .int (nI v1)), (2, .int (nI c1)), (3, .int (nI o1))] := hl
  refine lv_iload_n hx hb dX0_nextColour_0 rfl (lv_at hl 3 rfl) ?_
  refine lv_aload_n hx hb dX0_nextColour_1 rfl (lv_at hl 0 rfl) ?_
  refine zg0_ck hx hb hts hown hK hW dX0_nextColour_2 ?_
  refine lv_icmp_lt (tgt := 10) hx hb dX0_nextColour_5 (by decide) (fun c5 => ?_) (fun c5 => ?_)
  · have _ := 0
    have c5 : o1 < x := z_lt (by omega) (by omega) c5
    refine lv_iconst (v := (nI 0)) hx hb dX0_nextColour_10 (by decide) ?_
    refine z_top (show (nI 0) = (nI (brd M l1 g v1 0)) from rfl) ?_
    refine lv_istore (lv' := [(4, .int (nI (brd M l1 g v1 0))), (0, .ref h), (1, .int (nI v1)), (2, .int (nI c1)), (3, .int (nI o1))]) hx hb dX0_nextColour_11 hl (by decide) rfl (fun ls hl => ?_)
    refine lv_iconst (v := (nI 0)) hx hb dX0_nextColour_13 (by decide) ?_
    refine lv_istore (lv' := [(5, .int (nI 0)), (4, .int (nI (brd M l1 g v1 0))), (0, .ref h), (1, .int (nI v1)), (2, .int (nI c1)), (3, .int (nI o1))]) hx hb dX0_nextColour_14 hl (by decide) rfl (fun ls hl => ?_)
    have hloop16 : ∀ (N : Nat) (k : Nat), v1 < k + N → (k ≤ v1) → ∀ (H : Heap) (locs : List Loc) (ls : Array Slot), zH D A s (wX h ad dB dS (nI n) ab df bt kn mt co be li ll (nI x) sh ec es eo em ro dn) H locs → lv_has ls 6 [(5, .int (nI k)), (4, .int (nI (brd M l1 g v1 k))), (0, .ref h), (1, .int (nI v1)), (2, .int (nI c1)), (3, .int (nI o1))] → W p l e (zR 0) s m args below meth c H locs 0 0 Q (F0 m 16 ls []) := by
      intro N
      induction N with
      | zero =>
        intro k  hM hk H locs ls hW hl
        exact absurd hM (by omega)
      | succ N ih16 =>
        intro k  hM hk H locs ls hW hl
        refine lv_iload hx hb dX0_nextColour_16 (lv_at hl 0 rfl) ?_
        refine lv_iload_n hx hb dX0_nextColour_18 rfl (lv_at hl 3 rfl) ?_
        refine lv_icmp_ge (tgt := 71) hx hb dX0_nextColour_19 (by decide) (fun c19 => ?_) (fun c19 => ?_)
        · have _ := 0
          have c19 : v1 ≤ k := z_le (by omega) (by omega) c19
          obtain rfl : v1 = k := by omega
          have hb8 := brd_lt M l1 g v1 hg8
          refine lv_iload_n hx hb dX0_nextColour_71 rfl (lv_at hl 4 rfl) ?_
          refine lv_istore (lv' := [(5, .int (nI c1)), (4, .int (nI (brd M l1 g v1 v1))), (0, .ref h), (1, .int (nI v1)), (2, .int (nI c1)), (3, .int (nI o1))]) hx hb dX0_nextColour_72 hl (by decide) rfl (fun ls hl => ?_)
          have hloop74 : ∀ (N : Nat) (y : Nat), 20 < y + N → (y ≤ 20) → (c1 ≤ y) → (∀ z, c1 ≤ z → z < y → (brd M l1 g v1 v1).testBit z = true) → ∀ (H : Heap) (locs : List Loc) (ls : Array Slot), zH D A s (wX h ad dB dS (nI n) ab df bt kn mt co be li ll (nI x) sh ec es eo em ro dn) H locs → lv_has ls 6 [(5, .int (nI y)), (4, .int (nI (brd M l1 g v1 v1))), (0, .ref h), (1, .int (nI v1)), (2, .int (nI c1)), (3, .int (nI o1))] → W p l e (zR 0) s m args below meth c H locs 0 0 Q (F0 m 74 ls []) := by
            intro N
            induction N with
            | zero =>
              intro y  hM hy hy0 hyb H locs ls hW hl
              exact absurd hM (by omega)
            | succ N ih74 =>
              intro y  hM hy hy0 hyb H locs ls hW hl
              refine lv_iload hx hb dX0_nextColour_74 (lv_at hl 0 rfl) ?_
              refine lv_iload_n hx hb dX0_nextColour_76 rfl (lv_at hl 5 rfl) ?_
              refine lv_icmp_gt (tgt := 110) hx hb dX0_nextColour_77 (by decide) (fun c77 => ?_) (fun c77 => ?_)
              · have _ := 0
                have c77 : o1 < y := z_lt (by omega) (by omega) c77
                refine lv_iconst (v := (-1)) hx hb dX0_nextColour_110 (by decide) ?_
                exact hend _ () _ _ _ _ rfl (Or.inr ⟨rfl, Or.inr (fun z h1 h2 h3 => hyb z h1 (by omega))⟩) hW dX0_nextColour_111
              · have _ := 0
                have c77 : y ≤ o1 := z_nlt (by omega) (by omega) c77
                refine lv_iload hx hb dX0_nextColour_80 (lv_at hl 0 rfl) ?_
                refine lv_aload_n hx hb dX0_nextColour_82 rfl (lv_at hl 2 rfl) ?_
                refine zg0_ck hx hb hts hown hK hW dX0_nextColour_83 ?_
                refine lv_iconst (v := (nI 1)) hx hb dX0_nextColour_86 (by decide) ?_
                refine lv_isub hx hb dX0_nextColour_87 ?_
                refine z_top (show ((nI x) - (nI 1)) = (nI (x - 1)) from pk_sub (by omega)) ?_
                refine lv_icmp_ge (tgt := 110) hx hb dX0_nextColour_88 (by decide) (fun c88 => ?_) (fun c88 => ?_)
                · have _ := 0
                  have c88 : (x - 1) ≤ y := z_le (by omega) (by omega) c88
                  refine lv_iconst (v := (-1)) hx hb dX0_nextColour_110 (by decide) ?_
                  exact hend _ () _ _ _ _ rfl (Or.inr ⟨rfl, Or.inr (fun z h1 h2 h3 => hyb z h1 (by omega))⟩) hW dX0_nextColour_111
                · have _ := 0
                  have c88 : y < (x - 1) := z_nle (by omega) (by omega) c88
                  refine lv_iload hx hb dX0_nextColour_91 (lv_at hl 1 rfl) ?_
                  refine lv_iload hx hb dX0_nextColour_93 (lv_at hl 0 rfl) ?_
                  refine lv_ishr hx hb dX0_nextColour_95 ?_
                  refine lv_iconst (v := (nI 1)) hx hb dX0_nextColour_96 (by decide) ?_
                  refine lv_iand hx hb dX0_nextColour_97 ?_
                  refine z_top (show (((nI (brd M l1 g v1 v1)) >>> ((nI y) &&& 31)) &&& (nI 1)) = (nI ((brd M l1 g v1 v1).testBit y).toNat) from z_bit (by omega) (by omega)) ?_
                  refine lv_if_ne (tgt := 104) hx hb dX0_nextColour_98 (by decide) (fun c98 => ?_) (fun c98 => ?_)
                  · have _ := 0
                    have c98 : ((brd M l1 g v1 v1).testBit y) = true := z_b1 c98
                    refine lv_iinc (v := (nI (y + 1))) (lv' := [(5, .int (nI (y + 1))), (4, .int (nI (brd M l1 g v1 v1))), (0, .ref h), (1, .int (nI v1)), (2, .int (nI c1)), (3, .int (nI o1))]) hx hb dX0_nextColour_104 hl (k := 0) rfl (z_inc _) (by decide) rfl (fun ls hl => ?_)
                    refine lv_goto (tgt := 74) hx hb dX0_nextColour_107 (by decide) ?_
                    exact ih74 (y + 1) (by omega) (by omega) (by omega) (fun z h1 h2 => nx_all hyb c98 z h1 h2) _ _ _ hW (lv_sub hl [0, 1, 2, 3, 4, 5] rfl)
                  · have _ := 0
                    have c98 : ((brd M l1 g v1 v1).testBit y) = false := z_b0 c98
                    refine lv_iload hx hb dX0_nextColour_101 (lv_at hl 0 rfl) ?_
                    exact hend _ () _ _ _ _ rfl (Or.inl ⟨y, rfl, hy0, c77, by omega, c5, c98, hyb⟩) hW dX0_nextColour_103
          exact hloop74 21 c1 (by omega) (by omega) (by omega) (fun z h1 h2 => absurd h1 (by omega)) _ _ _ hW (lv_sub hl [0, 1, 2, 3, 4, 5] rfl)
        · have _ := 0
          have c19 : k < v1 := z_nle (by omega) (by omega) c19
          have hlk := hl8 k (by omega)
          have hlv := hl8 v1 (by omega)
          have hgk := hg8 k c19
          have hMv := hM8 _ hlv
          refine lv_aload_n hx hb dX0_nextColour_22 rfl (lv_at hl 2 rfl) ?_
          refine zg0_mt hx hb hts hown hK hW dX0_nextColour_23 ?_
          refine lv_aload_n hx hb dX0_nextColour_26 rfl (lv_at hl 2 rfl) ?_
          refine zg0_li hx hb hts hown hK hW dX0_nextColour_27 ?_
          refine lv_iload_n hx hb dX0_nextColour_30 rfl (lv_at hl 3 rfl) ?_
          refine z_bald hx hb hK hW 7 0 rfl rfl v1 rfl (by omega) (by decide) dX0_nextColour_31 ?_
          refine z_top (show (li v1) = (nI (l1 v1)) from hli v1 (by omega)) ?_
          refine z_sald hx hb hK hW 4 1 rfl rfl (l1 v1) rfl (by omega) (by decide) dX0_nextColour_32 ?_
          refine z_top (show (mt (l1 v1)) = (nI (M (l1 v1))) from hmt _ hlv) ?_
          refine lv_aload_n hx hb dX0_nextColour_33 rfl (lv_at hl 2 rfl) ?_
          refine zg0_li hx hb hts hown hK hW dX0_nextColour_34 ?_
          refine lv_iload hx hb dX0_nextColour_37 (lv_at hl 0 rfl) ?_
          refine z_bald hx hb hK hW 7 0 rfl rfl k rfl (by omega) (by decide) dX0_nextColour_39 ?_
          refine z_top (show (li k) = (nI (l1 k)) from hli k (by omega)) ?_
          refine lv_ishr hx hb dX0_nextColour_40 ?_
          refine lv_iconst (v := (nI 1)) hx hb dX0_nextColour_41 (by decide) ?_
          refine lv_iand hx hb dX0_nextColour_42 ?_
          refine z_top (show (((nI (M (l1 v1))) >>> ((nI (l1 k)) &&& 31)) &&& (nI 1)) = (nI ((M (l1 v1)).testBit (l1 k)).toNat) from z_bit (by omega) (by omega)) ?_
          refine lv_if_eq (tgt := 65) hx hb dX0_nextColour_43 (by decide) (fun c43 => ?_) (fun c43 => ?_)
          · have _ := 0
            have c43 : ((M (l1 v1)).testBit (l1 k)) = false := z_b0 c43
            refine lv_iinc (v := (nI (k + 1))) (lv' := [(5, .int (nI (k + 1))), (4, .int (nI (brd M l1 g v1 k))), (0, .ref h), (1, .int (nI v1)), (2, .int (nI c1)), (3, .int (nI o1))]) hx hb dX0_nextColour_65 hl (k := 0) rfl (z_inc _) (by decide) rfl (fun ls hl => ?_)
            refine lv_goto (tgt := 16) hx hb dX0_nextColour_68 (by decide) ?_
            have hl : lv_has ls 6 [(5, .int (nI (k + 1))), (4, .int (nI (brd M l1 g v1 (k + 1)))), (0, .ref h), (1, .int (nI v1)), (2, .int (nI c1)), (3, .int (nI o1))] := by rw [show (nI (brd M l1 g v1 (k + 1))) = (nI (brd M l1 g v1 k)) from (by rw [brd, if_neg (by rw [c43]; decide)])]; exact hl
            exact ih16 (k + 1) (by omega) (by omega) _ _ _ hW (lv_sub hl [0, 1, 2, 3, 4, 5] rfl)
          · have _ := 0
            have c43 : ((M (l1 v1)).testBit (l1 k)) = true := z_b1 c43
            refine lv_iload hx hb dX0_nextColour_46 (lv_at hl 1 rfl) ?_
            refine lv_iconst (v := (nI 1)) hx hb dX0_nextColour_48 (by decide) ?_
            refine lv_aload_n hx hb dX0_nextColour_49 rfl (lv_at hl 2 rfl) ?_
            refine zg0_co hx hb hts hown hK hW dX0_nextColour_50 ?_
            refine lv_aload_n hx hb dX0_nextColour_53 rfl (lv_at hl 2 rfl) ?_
            refine zg0_li hx hb hts hown hK hW dX0_nextColour_54 ?_
            refine lv_iload hx hb dX0_nextColour_57 (lv_at hl 0 rfl) ?_
            refine z_bald hx hb hK hW 7 0 rfl rfl k rfl (by omega) (by decide) dX0_nextColour_59 ?_
            refine z_top (show (li k) = (nI (l1 k)) from hli k (by omega)) ?_
            refine z_bald hx hb hK hW 5 0 rfl rfl (l1 k) rfl (by omega) (by decide) dX0_nextColour_60 ?_
            refine z_top (show (co (l1 k)) = (nI (g k)) from hco k c19) ?_
            refine lv_ishl hx hb dX0_nextColour_61 ?_
            refine z_top (show ((nI 1) <<< ((nI (g k)) &&& 31)) = (nI (2 ^ (g k))) from z_shl1 (by omega)) ?_
            refine lv_ior hx hb dX0_nextColour_62 ?_
            refine z_top (show ((nI (brd M l1 g v1 k)) ||| (nI (2 ^ (g k)))) = (nI ((brd M l1 g v1 k) ||| (2 ^ (g k)))) from fa_or _ _) ?_
            refine z_top (show (nI ((brd M l1 g v1 k) ||| (2 ^ (g k)))) = (nI (brd M l1 g v1 (k + 1))) from (by rw [brd, if_pos c43])) ?_
            refine lv_istore (lv' := [(4, .int (nI (brd M l1 g v1 (k + 1)))), (5, .int (nI k)), (0, .ref h), (1, .int (nI v1)), (2, .int (nI c1)), (3, .int (nI o1))]) hx hb dX0_nextColour_63 hl (by decide) rfl (fun ls hl => ?_)
            refine lv_iinc (v := (nI (k + 1))) (lv' := [(5, .int (nI (k + 1))), (4, .int (nI (brd M l1 g v1 (k + 1)))), (0, .ref h), (1, .int (nI v1)), (2, .int (nI c1)), (3, .int (nI o1))]) hx hb dX0_nextColour_65 hl (k := 1) rfl (z_inc _) (by decide) rfl (fun ls hl => ?_)
            refine lv_goto (tgt := 16) hx hb dX0_nextColour_68 (by decide) ?_
            exact ih16 (k + 1) (by omega) (by omega) _ _ _ hW (lv_sub hl [0, 1, 2, 3, 4, 5] rfl)
    exact hloop16 (v1 + 1) 0 (by omega) (by omega) _ _ _ hW (lv_sub hl [0, 1, 2, 3, 4, 5] rfl)
  · have _ := 0
    have c5 : x ≤ o1 := z_nlt (by omega) (by omega) c5
    refine lv_iconst (v := (-1)) hx hb dX0_nextColour_8 (by decide) ?_
    exact hend _ () _ _ _ _ rfl (Or.inr ⟨rfl, Or.inl c5⟩) hW dX0_nextColour_9
set_option maxHeartbeats 4000000 in
set_option maxRecDepth 100000 in
theorem mX_keep (l : Launch) (D : va_G) (h : Nat) (ad : Nat → Nat) (dB dS dN dZ : ClassId) (n : Nat) (ab df : Nat → Int32) (bt : Int32) (kn mt co be li : Nat → Int32) (ll ck : Int32) (sh ec es eo em ro dn : Nat → Int32) (L x : Nat) (l1 g : Nat → Nat)  (hL8 : L ≤ 8) (hl8 : ∀ k, k < L → l1 k < 8) (hinj : ∀ i j, i < L → j < L → l1 i = l1 j → i = j) (hli : ∀ k, k < L → li k = nI (l1 k)) (hg8 : ∀ k, k < L → g k < 8) (hco : ∀ k, k < L → co (l1 k) = nI (g k)) : zMV l D (zT dB dS dN dZ) yX0_keep cX0_keep 3 0 [.ref h, .int (nI x)] (wX h ad dB dS (nI n) ab df bt kn mt co be li (nI L) ck sh ec es eo em ro dn) (fun (u : Nat → Int32) => (∀ k, k < L → u (l1 k) = nI (g k)) ∧ ∀ s, (∀ k, k < L → l1 k ≠ s) → u s = be s) (fun u => wX h ad dB dS (nI n) ab df bt kn mt co u li (nI L) (nI x) sh ec es eo em ro dn) := by
  refine zStartV (by decide) (Nat.le_of_ble_eq_true rfl) ?_
  intro p e s m args below meth c A Q ls hx hb hml hown hts hK hend hW hl
  have hown : s.vm.findClass RX0 = some m.cls := hown
  have hl : lv_has ls 3 [(0, .ref h), (1, .int (nI x))] := hl
  refine lv_aload_n hx hb dX0_keep_0 rfl (lv_at hl 0 rfl) ?_
  refine lv_iload_n hx hb dX0_keep_1 rfl (lv_at hl 1 rfl) ?_
  refine zp0_ck hx hb hts hown hK hW rfl rfl dX0_keep_2 (fun H locs hW => ?_)
  refine lv_iconst (v := (nI 0)) hx hb dX0_keep_5 (by decide) ?_
  refine lv_istore_n (lv' := [(2, .int (nI 0)), (0, .ref h), (1, .int (nI x))]) hx hb dX0_keep_6 rfl hl (by decide) rfl (fun ls hl => ?_)
  have hloop7 : ∀ (N : Nat) (k : Nat) (be2 : Nat → Int32), L < k + N → (k ≤ L) → (∀ i, i < k → be2 (l1 i) = nI (g i)) → (∀ s, (∀ k, k < L → l1 k ≠ s) → be2 s = be s) → ∀ (H : Heap) (locs : List Loc) (ls : Array Slot), zH D A s (wX h ad dB dS (nI n) ab df bt kn mt co be2 li (nI L) (nI x) sh ec es eo em ro dn) H locs → lv_has ls 3 [(2, .int (nI k)), (0, .ref h)] → W p l e (zR 0) s m args below meth c H locs 0 0 Q (F0 m 7 ls []) := by
    intro N
    induction N with
    | zero =>
      intro k  be2  hM hk hb1 hb2 H locs ls hW hl
      exact absurd hM (by omega)
    | succ N ih7 =>
      intro k  be2  hM hk hb1 hb2 H locs ls hW hl
      refine lv_iload_n hx hb dX0_keep_7 rfl (lv_at hl 0 rfl) ?_
      refine lv_aload_n hx hb dX0_keep_8 rfl (lv_at hl 1 rfl) ?_
      refine zg0_ll hx hb hts hown hK hW dX0_keep_9 ?_
      refine lv_icmp_ge (tgt := 43) hx hb dX0_keep_12 (by decide) (fun c12 => ?_) (fun c12 => ?_)
      · have _ := 0
        have c12 : L ≤ k := z_le (by omega) (by omega) c12
        exact hend be2 _ _ _ _ (⟨fun i hi => hb1 i (by omega), hb2⟩) hW dX0_keep_43
      · have _ := 0
        have c12 : k < L := z_nle (by omega) (by omega) c12
        have hlk := hl8 k c12
        have hgk := hg8 k c12
        refine lv_aload_n hx hb dX0_keep_15 rfl (lv_at hl 1 rfl) ?_
        refine zg0_be hx hb hts hown hK hW dX0_keep_16 ?_
        refine lv_aload_n hx hb dX0_keep_19 rfl (lv_at hl 1 rfl) ?_
        refine zg0_li hx hb hts hown hK hW dX0_keep_20 ?_
        refine lv_iload_n hx hb dX0_keep_23 rfl (lv_at hl 0 rfl) ?_
        refine z_bald hx hb hK hW 7 0 rfl rfl k rfl (by omega) (by decide) dX0_keep_24 ?_
        refine z_top (show (li k) = (nI (l1 k)) from hli k c12) ?_
        refine lv_aload_n hx hb dX0_keep_25 rfl (lv_at hl 1 rfl) ?_
        refine zg0_co hx hb hts hown hK hW dX0_keep_26 ?_
        refine lv_aload_n hx hb dX0_keep_29 rfl (lv_at hl 1 rfl) ?_
        refine zg0_li hx hb hts hown hK hW dX0_keep_30 ?_
        refine lv_iload_n hx hb dX0_keep_33 rfl (lv_at hl 0 rfl) ?_
        refine z_bald hx hb hK hW 7 0 rfl rfl k rfl (by omega) (by decide) dX0_keep_34 ?_
        refine z_top (show (li k) = (nI (l1 k)) from hli k c12) ?_
        refine z_bald hx hb hK hW 5 0 rfl rfl (l1 k) rfl (by omega) (by decide) dX0_keep_35 ?_
        refine z_top (show (co (l1 k)) = (nI (g k)) from hco k c12) ?_
        refine z_bast (v := (nI (g k))) hx hb hK hW 6 0 rfl rfl (l1 k) rfl (by omega) (by decide) (z_narb (by omega)) dX0_keep_36 (fun H locs hW => ?_)
        have hW : zH D A s (wX h ad dB dS (nI n) ab df bt kn mt co (upd be2 (l1 k) (nI (g k))) li (nI L) (nI x) sh ec es eo em ro dn) H locs := hW
        refine lv_iinc (v := (nI (k + 1))) (lv' := [(2, .int (nI (k + 1))), (0, .ref h)]) hx hb dX0_keep_37 hl (k := 0) rfl (z_inc _) (by decide) rfl (fun ls hl => ?_)
        refine lv_goto (tgt := 7) hx hb dX0_keep_40 (by decide) ?_
        exact ih7 (k + 1) (upd be2 (l1 k) (nI (g k))) (by omega) (by omega) (keep_1 hinj c12 hb1) (keep_2 c12 hb2) _ _ _ hW (lv_sub hl [0, 1] rfl)
  exact hloop7 (L + 1) 0 be (by omega) (by omega) (fun i hi => absurd hi (by omega)) (fun s _ => rfl) _ _ _ hW (lv_sub hl [0, 1] rfl)
set_option maxHeartbeats 4000000 in
set_option maxRecDepth 100000 in
theorem mX_fits (l : Launch) (D : va_G) (h : Nat) (ad : Nat → Nat) (dB dS dN dZ : ClassId) (n : Nat) (ab df : Nat → Int32) (bt : Int32) (kn mt co be li : Nat → Int32) (ll ck : Int32) (sh ec es eo em ro dn : Nat → Int32) (c1 a Kc : Nat) (b : Nat → Nat)  (hc1 : c1 < 10) (ha : a ≤ 88) (hK8 : Kc < 256) (hkc : kn c1 = nI Kc) (hb8 : ∀ s, s < 8 → b s < 8 ∧ be s = nI (b s)) : zMI l D (zT dB dS dN dZ) yX0_fits cX0_fits 4 .boolean 0 [.ref h, .int (nI c1), .int (nI a)] (wX h ad dB dS (nI n) ab df bt kn mt co be li ll ck sh ec es eo em ro dn) (fun v (u : Unit) => (v = nI 1 ∧ ∀ s, s < 8 → Kc.testBit s = true → ec (a + b s) < 0) ∨ (v = nI 0 ∧ ∃ s, s < 8 ∧ Kc.testBit s = true ∧ ¬ ec (a + b s) < 0)) (fun _ => wX h ad dB dS (nI n) ab df bt kn mt co be li ll ck sh ec es eo em ro dn) := by
  refine zStartI (by decide) (Nat.le_of_ble_eq_true rfl) ?_
  intro p e s m args below meth c A Q ls hx hb hml hown hts hK hend hW hl
  have hown : s.vm.findClass RX0 = some m.cls := hown
  have hl : lv_has ls 4 [(0, .ref h), (1, .int (nI c1)), (2, .int (nI a))] := hl
  refine lv_iconst (v := (nI 0)) hx hb dX0_fits_0 (by decide) ?_
  refine lv_istore_n (lv' := [(3, .int (nI 0)), (0, .ref h), (1, .int (nI c1)), (2, .int (nI a))]) hx hb dX0_fits_1 rfl hl (by decide) rfl (fun ls hl => ?_)
  have hloop2 : ∀ (N : Nat) (i : Nat), 8 < i + N → (i ≤ 8) → (∀ s, s < i → Kc.testBit s = true → ec (a + b s) < 0) → ∀ (H : Heap) (locs : List Loc) (ls : Array Slot), zH D A s (wX h ad dB dS (nI n) ab df bt kn mt co be li ll ck sh ec es eo em ro dn) H locs → lv_has ls 4 [(3, .int (nI i)), (0, .ref h), (1, .int (nI c1)), (2, .int (nI a))] → W p l e (zR 0) s m args below meth c H locs 0 0 Q (F0 m 2 ls []) := by
    intro N
    induction N with
    | zero =>
      intro i  hM hi hf H locs ls hW hl
      exact absurd hM (by omega)
    | succ N ih2 =>
      intro i  hM hi hf H locs ls hW hl
      refine lv_iload_n hx hb dX0_fits_2 rfl (lv_at hl 0 rfl) ?_
      refine lv_bipush (v := (nI 8)) hx hb dX0_fits_3 (by decide) ?_
      refine lv_icmp_ge (tgt := 45) hx hb dX0_fits_5 (by decide) (fun c5 => ?_) (fun c5 => ?_)
      · have _ := 0
        have c5 : 8 ≤ i := z_le (by omega) (by omega) c5
        refine lv_iconst (v := (nI 1)) hx hb dX0_fits_45 (by decide) ?_
        exact hend _ () _ _ _ _ rfl (Or.inl ⟨rfl, fun s hs => hf s (by omega)⟩) hW dX0_fits_46
      · have _ := 0
        have c5 : i < 8 := z_nle (by omega) (by omega) c5
        have hbi := (hb8 i c5).1
        refine lv_aload_n hx hb dX0_fits_8 rfl (lv_at hl 1 rfl) ?_
        refine zg0_kn hx hb hts hown hK hW dX0_fits_9 ?_
        refine lv_iload_n hx hb dX0_fits_12 rfl (lv_at hl 2 rfl) ?_
        refine z_sald hx hb hK hW 3 1 rfl rfl c1 rfl (by omega) (by decide) dX0_fits_13 ?_
        refine z_top (show (kn c1) = (nI Kc) from hkc) ?_
        refine lv_iload_n hx hb dX0_fits_14 rfl (lv_at hl 0 rfl) ?_
        refine lv_ishr hx hb dX0_fits_15 ?_
        refine lv_iconst (v := (nI 1)) hx hb dX0_fits_16 (by decide) ?_
        refine lv_iand hx hb dX0_fits_17 ?_
        refine z_top (show (((nI Kc) >>> ((nI i) &&& 31)) &&& (nI 1)) = (nI (Kc.testBit i).toNat) from z_bit (by omega) (by omega)) ?_
        refine lv_if_eq (tgt := 39) hx hb dX0_fits_18 (by decide) (fun c18 => ?_) (fun c18 => ?_)
        · have _ := 0
          have c18 : (Kc.testBit i) = false := z_b0 c18
          refine lv_iinc (v := (nI (i + 1))) (lv' := [(3, .int (nI (i + 1))), (0, .ref h), (1, .int (nI c1)), (2, .int (nI a))]) hx hb dX0_fits_39 hl (k := 0) rfl (z_inc _) (by decide) rfl (fun ls hl => ?_)
          refine lv_goto (tgt := 2) hx hb dX0_fits_42 (by decide) ?_
          exact ih2 (i + 1) (by omega) (by omega) (fit_next hf (Or.inl c18)) _ _ _ hW (lv_sub hl [0, 1, 2, 3] rfl)
        · have _ := 0
          have c18 : (Kc.testBit i) = true := z_b1 c18
          refine lv_aload_n hx hb dX0_fits_21 rfl (lv_at hl 1 rfl) ?_
          refine zg0_ec hx hb hts hown hK hW dX0_fits_22 ?_
          refine lv_iload_n hx hb dX0_fits_25 rfl (lv_at hl 3 rfl) ?_
          refine lv_aload_n hx hb dX0_fits_26 rfl (lv_at hl 1 rfl) ?_
          refine zg0_be hx hb hts hown hK hW dX0_fits_27 ?_
          refine lv_iload_n hx hb dX0_fits_30 rfl (lv_at hl 0 rfl) ?_
          refine z_bald hx hb hK hW 6 0 rfl rfl i rfl (by omega) (by decide) dX0_fits_31 ?_
          refine z_top (show (be i) = (nI (b i)) from (hb8 i c5).2) ?_
          refine lv_iadd hx hb dX0_fits_32 ?_
          refine z_top (show ((nI a) + (nI (b i))) = (nI (a + (b i))) from nI_add _ _) ?_
          refine z_bald hx hb hK hW 9 0 rfl rfl (a + (b i)) rfl (by omega) (by decide) dX0_fits_33 ?_
          refine lv_if_lt (tgt := 39) hx hb dX0_fits_34 (by decide) (fun c34 => ?_) (fun c34 => ?_)
          · have _ := 0
            refine lv_iinc (v := (nI (i + 1))) (lv' := [(3, .int (nI (i + 1))), (0, .ref h), (1, .int (nI c1)), (2, .int (nI a))]) hx hb dX0_fits_39 hl (k := 0) rfl (z_inc _) (by decide) rfl (fun ls hl => ?_)
            refine lv_goto (tgt := 2) hx hb dX0_fits_42 (by decide) ?_
            exact ih2 (i + 1) (by omega) (by omega) (fit_next hf (Or.inr c34)) _ _ _ hW (lv_sub hl [0, 1, 2, 3] rfl)
          · have _ := 0
            refine lv_iconst (v := (nI 0)) hx hb dX0_fits_37 (by decide) ?_
            exact hend _ () _ _ _ _ rfl (Or.inr ⟨rfl, i, c5, c18, c34⟩) hW dX0_fits_38
  exact hloop2 9 0 (by omega) (by omega) (fun s hs => absurd hs (by omega)) _ _ _ hW (lv_sub hl [0, 1, 2, 3] rfl)
set_option maxHeartbeats 4000000 in
set_option maxRecDepth 100000 in
theorem mX_crowded (l : Launch) (D : va_G) (h : Nat) (ad : Nat → Nat) (dB dS dN dZ : ClassId) (n : Nat) (ab df : Nat → Int32) (bt : Int32) (kn mt co be li : Nat → Int32) (ll ck : Int32) (sh ec es eo em ro dn : Nat → Int32) (t : Nat) (M : Nat → Nat)  (ht : t < 256) (hmt : ∀ s, s < 8 → mt s = nI (M s)) : zMI l D (zT dB dS dN dZ) yX0_crowded cX0_crowded 3 .boolean 0 [.ref h, .int (nI t)] (wX h ad dB dS (nI n) ab df bt kn mt co be li ll ck sh ec es eo em ro dn) (fun v (u : Unit) => v = nI (tog M t 8).toNat) (fun _ => wX h ad dB dS (nI n) ab df bt kn mt co be li ll ck sh ec es eo em ro dn) := by
  refine zStartI (by decide) (Nat.le_of_ble_eq_true rfl) ?_
  intro p e s m args below meth c A Q ls hx hb hml hown hts hK hend hW hl
  have hown : s.vm.findClass RX0 = some m.cls := hown
  have hl : lv_has ls 3 [(0, .ref h), (1, .int (nI t))] := hl
  refine lv_iconst (v := (nI 0)) hx hb dX0_crowded_0 (by decide) ?_
  refine lv_istore_n (lv' := [(2, .int (nI 0)), (0, .ref h), (1, .int (nI t))]) hx hb dX0_crowded_1 rfl hl (by decide) rfl (fun ls hl => ?_)
  have hloop2 : ∀ (N : Nat) (i : Nat), 8 < i + N → (i ≤ 8) → (tog M t i = true) → ∀ (H : Heap) (locs : List Loc) (ls : Array Slot), zH D A s (wX h ad dB dS (nI n) ab df bt kn mt co be li ll ck sh ec es eo em ro dn) H locs → lv_has ls 3 [(2, .int (nI i)), (0, .ref h), (1, .int (nI t))] → W p l e (zR 0) s m args below meth c H locs 0 0 Q (F0 m 2 ls []) := by
    intro N
    induction N with
    | zero =>
      intro i  hM hi hf H locs ls hW hl
      exact absurd hM (by omega)
    | succ N ih2 =>
      intro i  hM hi hf H locs ls hW hl
      refine lv_iload_n hx hb dX0_crowded_2 rfl (lv_at hl 0 rfl) ?_
      refine lv_bipush (v := (nI 8)) hx hb dX0_crowded_3 (by decide) ?_
      refine lv_icmp_ge (tgt := 37) hx hb dX0_crowded_5 (by decide) (fun c5 => ?_) (fun c5 => ?_)
      · have _ := 0
        have c5 : 8 ≤ i := z_le (by omega) (by omega) c5
        refine lv_iconst (v := (nI 1)) hx hb dX0_crowded_37 (by decide) ?_
        obtain rfl : i = 8 := by omega
        exact hend _ () _ _ _ _ rfl (by rw [hf]; rfl) hW dX0_crowded_38
      · have _ := 0
        have c5 : i < 8 := z_nle (by omega) (by omega) c5
        refine lv_iload_n hx hb dX0_crowded_8 rfl (lv_at hl 2 rfl) ?_
        refine lv_iload_n hx hb dX0_crowded_9 rfl (lv_at hl 0 rfl) ?_
        refine lv_ishr hx hb dX0_crowded_10 ?_
        refine lv_iconst (v := (nI 1)) hx hb dX0_crowded_11 (by decide) ?_
        refine lv_iand hx hb dX0_crowded_12 ?_
        refine z_top (show (((nI t) >>> ((nI i) &&& 31)) &&& (nI 1)) = (nI (t.testBit i).toNat) from z_bit (by omega) (by omega)) ?_
        refine lv_if_eq (tgt := 31) hx hb dX0_crowded_13 (by decide) (fun c13 => ?_) (fun c13 => ?_)
        · have _ := 0
          have c13 : (t.testBit i) = false := z_b0 c13
          refine lv_iinc (v := (nI (i + 1))) (lv' := [(2, .int (nI (i + 1))), (0, .ref h), (1, .int (nI t))]) hx hb dX0_crowded_31 hl (k := 0) rfl (z_inc _) (by decide) rfl (fun ls hl => ?_)
          refine lv_goto (tgt := 2) hx hb dX0_crowded_34 (by decide) ?_
          exact ih2 (i + 1) (by omega) (by omega) (by rw [tog, if_neg (by rw [c13]; decide)]; exact hf) _ _ _ hW (lv_sub hl [0, 1, 2] rfl)
        · have _ := 0
          have c13 : (t.testBit i) = true := z_b1 c13
          refine lv_iload_n hx hb dX0_crowded_16 rfl (lv_at hl 2 rfl) ?_
          refine lv_aload_n hx hb dX0_crowded_17 rfl (lv_at hl 1 rfl) ?_
          refine zg0_mt hx hb hts hown hK hW dX0_crowded_18 ?_
          refine lv_iload_n hx hb dX0_crowded_21 rfl (lv_at hl 0 rfl) ?_
          refine z_sald hx hb hK hW 4 1 rfl rfl i rfl (by omega) (by decide) dX0_crowded_22 ?_
          refine z_top (show (mt i) = (nI (M i)) from hmt i c5) ?_
          refine lv_iconst (v := (-1)) hx hb dX0_crowded_23 (by decide) ?_
          refine lv_ixor hx hb dX0_crowded_24 ?_
          refine lv_iand hx hb dX0_crowded_25 ?_
          refine lv_if_eq (tgt := 31) hx hb dX0_crowded_26 (by decide) (fun c26 => ?_) (fun c26 => ?_)
          · have _ := 0
            refine lv_iinc (v := (nI (i + 1))) (lv' := [(2, .int (nI (i + 1))), (0, .ref h), (1, .int (nI t))]) hx hb dX0_crowded_31 hl (k := 0) rfl (z_inc _) (by decide) rfl (fun ls hl => ?_)
            refine lv_goto (tgt := 2) hx hb dX0_crowded_34 (by decide) ?_
            exact ih2 (i + 1) (by omega) (by omega) (by rw [tog, if_pos c13, hf, decide_eq_true c26]; rfl) _ _ _ hW (lv_sub hl [0, 1, 2] rfl)
          · have _ := 0
            refine lv_iconst (v := (nI 0)) hx hb dX0_crowded_29 (by decide) ?_
            exact hend _ () _ _ _ _ rfl ((congrArg (fun z : Bool => nI z.toNat) (tog_false (i := i + 1) (by omega) (by rw [tog, if_pos c13, hf, decide_eq_false c26]; rfl))).symm) hW dX0_crowded_30
  exact hloop2 9 0 (by omega) (by omega) rfl _ _ _ hW (lv_sub hl [0, 1, 2] rfl)
end
section
set_option maxRecDepth 100000
set_option maxHeartbeats 4000000 in
set_option maxRecDepth 100000 in
theorem mX_paint (l : Launch) (D : va_G) (h : Nat) (ad : Nat → Nat) (dB dS dN dZ : ClassId) (n : Nat) (ab df : Nat → Int32) (bt : Int32) (kn mt co be li : Nat → Int32) (ll ck : Int32) (sh ec es eo em ro dn : Nat → Int32) (M : Nat → Nat)  (hM8 : ∀ s, s < 8 → M s < 256) (hmt : ∀ s, s < 8 → mt s = nI (M s)) (hsym : ∀ a b, a < 8 → b < 8 → (M a).testBit b = (M b).testBit a) (hbe : ∀ s, s < 8 → ∃ b, b < 8 ∧ be s = nI b) : zMV l D (zT dB dS dN dZ) yX0_paint cX0_paint 6 2 [.ref h] (wX h ad dB dS (nI n) ab df bt kn mt co be li ll ck sh ec es eo em ro dn) (fun (u : (Nat → Int32) × (Nat → Int32) × (Nat → Int32) × Nat × Nat) => IsChi M u.2.2.2.2 ∧ u.2.2.2.2 ≤ 8 ∧ ∃ b, Bst M u.2.1 b) (fun u => wX h ad dB dS (nI n) ab df bt kn mt u.1 u.2.1 u.2.2.1 (nI u.2.2.2.1) (nI u.2.2.2.2) sh ec es eo em ro dn) := by
  refine zStartV (by decide) (Nat.le_of_ble_eq_true rfl) ?_
  intro p e s m args below meth c A Q ls hx hb hml hown hts hK hend hW hl
  have hown : s.vm.findClass RX0 = some m.cls := hown
  have hl : lv_has ls 6 [(0, .ref h)] := hl
  refine lv_aload_n hx hb dX0_paint_0 rfl (lv_at hl 0 rfl) ?_
  refine zcallV (rest := []) hx hb hml hown hts hK clX0_0_lineUp (mX_lineUp l D h ad dB dS dN dZ n ab df bt kn mt co be li ll ck sh ec es eo em ro dn M hM8 hmt) ⟨Nat.le_of_ble_eq_true rfl, Nat.le_of_ble_eq_true rfl⟩ hW ⟨0, _, _, rfl, rfl, rfl⟩ rfl hl.1 rfl (Nat.le_of_ble_eq_true rfl) dX0_paint_1 ⟨Nat.le_refl 0, Nat.le_refl 0⟩ (fun u1 H locs hv hW => ?_)
  obtain ⟨li2, ll2⟩ := u1
  obtain ⟨L, l1, hlin, e1, hli⟩ := hv
  obtain rfl : ll2 = nI L := e1
  have hli : ∀ k, k < L → li2 k = nI (l1 k) := hli
  have hL8 : L ≤ 8 := hlin.1
  have hl8 : ∀ k, k < L → l1 k < 8 := hlin.2.1
  have hinj := hlin.2.2.1
  have hW : zH D A s (wX h ad dB dS (nI n) ab df bt kn mt co be li2 (nI L) ck sh ec es eo em ro dn) H locs := hW
  refine lv_aload_n hx hb dX0_paint_4 rfl (lv_at hl 0 rfl) ?_
  refine lv_aload_n hx hb dX0_paint_5 rfl (lv_at hl 0 rfl) ?_
  refine zg0_ll hx hb hts hown hK hW dX0_paint_6 ?_
  refine zp0_ck hx hb hts hown hK hW rfl rfl dX0_paint_9 (fun H locs hW => ?_)
  refine lv_iconst (v := (nI 0)) hx hb dX0_paint_12 (by decide) ?_
  refine lv_istore_n (lv' := [(1, .int (nI 0)), (0, .ref h)]) hx hb dX0_paint_13 rfl hl (by decide) rfl (fun ls hl => ?_)
  have hloop14 : ∀ (N : Nat) (k : Nat) (be1 : Nat → Int32), L < k + N → (k ≤ L) → (∀ i, i < k → be1 (l1 i) = nI i) → (∀ s, (∀ k, k < L → l1 k ≠ s) → be1 s = be s) → ∀ (H : Heap) (locs : List Loc) (ls : Array Slot), zH D A s (wX h ad dB dS (nI n) ab df bt kn mt co be1 li2 (nI L) (nI L) sh ec es eo em ro dn) H locs → lv_has ls 6 [(1, .int (nI k)), (0, .ref h)] → W p l e (zR 2) s m args below meth c H locs 0 0 Q (F0 m 14 ls []) := by
    intro N
    induction N with
    | zero =>
      intro k  be1  hM hk hb1 hb2 H locs ls hW hl
      exact absurd hM (by omega)
    | succ N ih14 =>
      intro k  be1  hM hk hb1 hb2 H locs ls hW hl
      refine lv_iload_n hx hb dX0_paint_14 rfl (lv_at hl 0 rfl) ?_
      refine lv_aload_n hx hb dX0_paint_15 rfl (lv_at hl 1 rfl) ?_
      refine zg0_ll hx hb hts hown hK hW dX0_paint_16 ?_
      refine lv_icmp_ge (tgt := 41) hx hb dX0_paint_19 (by decide) (fun c19 => ?_) (fun c19 => ?_)
      · have _ := 0
        have c19 : L ≤ k := z_le (by omega) (by omega) c19
        have hbb := bb_first hlin hsym (fun i hi => hb1 i (by omega)) hb2 hbe
        refine lv_iconst (v := (nI 0)) hx hb dX0_paint_41 (by decide) ?_
        refine lv_istore_n (lv' := [(1, .int (nI 0)), (0, .ref h)]) hx hb dX0_paint_42 rfl hl (by decide) rfl (fun ls hl => ?_)
        refine lv_aload_n hx hb dX0_paint_43 rfl (lv_at hl 1 rfl) ?_
        refine zg0_ll hx hb hts hown hK hW dX0_paint_44 ?_
        refine lv_if_le (tgt := 62) hx hb dX0_paint_47 (by decide) (fun c47 => ?_) (fun c47 => ?_)
        · have _ := 0
          have c47 : L = 0 := z_le0 (by omega) c47
          refine lv_iconst (v := (nI 0)) hx hb dX0_paint_62 (by decide) ?_
          refine lv_istore_n (lv' := [(2, .int (nI 0)), (1, .int (nI 0)), (0, .ref h)]) hx hb dX0_paint_63 rfl hl (by decide) rfl (fun ls hl => ?_)
          have hloop64 : ∀ (N : Nat) (r : Nat) (lv : Int32) (co2 be2 : Nat → Int32) (x : Nat), 65536 < r + N → (r ≤ 65536) → (PI M l1 L r lv co2 be2 x) → ∀ (H : Heap) (locs : List Loc) (ls : Array Slot), zH D A s (wX h ad dB dS (nI n) ab df bt kn mt co2 be2 li2 (nI L) (nI x) sh ec es eo em ro dn) H locs → lv_has ls 6 [(2, .int (nI r)), (1, .int lv), (0, .ref h)] → W p l e (zR 2) s m args below meth c H locs 0 0 Q (F0 m 64 ls []) := by
            intro N
            induction N with
            | zero =>
              intro r  lv  co2 be2  x  hM hr hpi H locs ls hW hl
              exact absurd hM (by omega)
            | succ N ih64 =>
              intro r  lv  co2 be2  x  hM hr hpi H locs ls hW hl
              refine lv_iload_n hx hb dX0_paint_64 rfl (lv_at hl 0 rfl) ?_
              refine lv_ldc (v := 65536) hx hb hown (hts _ q165) dX0_paint_65 ?_
              refine z_top (show (65536 : Int32) = nI 65536 from rfl) ?_
              refine lv_icmp_ge (tgt := 189) hx hb dX0_paint_67 (by decide) (fun c67 => ?_) (fun c67 => ?_)
              · have _ := 0
                have c67 : 65536 ≤ r := z_le (by omega) (by omega) c67
                exact hend (co2, be2, li2, L, x) _ _ _ _ (pt_done hlin hpi.1 hpi.2.1 (pi_end hlin hpi (Or.inl c67))) hW dX0_paint_189
              · have _ := 0
                have c67 : r < 65536 := z_nle (by omega) (by omega) c67
                refine lv_iload_n hx hb dX0_paint_70 rfl (lv_at hl 1 rfl) ?_
                refine lv_if_lt (tgt := 189) hx hb dX0_paint_71 (by decide) (fun c71 => ?_) (fun c71 => ?_)
                · have _ := 0
                  exact hend (co2, be2, li2, L, x) _ _ _ _ (pt_done hlin hpi.1 hpi.2.1 (pi_end hlin hpi (Or.inr (Or.inl c71)))) hW dX0_paint_189
                · have _ := 0
                  refine lv_aload_n hx hb dX0_paint_74 rfl (lv_at hl 2 rfl) ?_
                  refine zg0_ll hx hb hts hown hK hW dX0_paint_75 ?_
                  refine lv_if_le (tgt := 189) hx hb dX0_paint_78 (by decide) (fun c78 => ?_) (fun c78 => ?_)
                  · have _ := 0
                    have c78 : L = 0 := z_le0 (by omega) c78
                    exact hend (co2, be2, li2, L, x) _ _ _ _ (pt_done hlin hpi.1 hpi.2.1 (pi_end hlin hpi (Or.inr (Or.inr c78)))) hW dX0_paint_189
                  · have _ := 0
                    have c78 : 0 < L := z_nle0 c78
                    obtain ⟨k, c1, g, rfl, hco, hck, hps, hphi⟩ := pi_go hpi c71 c78
                    have hkL := hps.1
                    obtain ⟨hok, hg8⟩ := ps_g8 hL8 hps
                    have hc9 := hps.2.1
                    have hxL := hpi.1
                    have hlk := hl8 k hkL
                    refine lv_aload_n hx hb dX0_paint_81 rfl (lv_at hl 2 rfl) ?_
                    refine zg0_li hx hb hts hown hK hW dX0_paint_82 ?_
                    refine lv_iload_n hx hb dX0_paint_85 rfl (lv_at hl 1 rfl) ?_
                    refine z_bald hx hb hK hW 7 0 rfl rfl k rfl (by omega) (by decide) dX0_paint_86 ?_
                    refine z_top (show (li2 k) = (nI (l1 k)) from hli k hkL) ?_
                    refine lv_istore_n (lv' := [(3, .int (nI (l1 k))), (2, .int (nI r)), (1, .int (nI k)), (0, .ref h)]) hx hb dX0_paint_87 rfl hl (by decide) rfl (fun ls hl => ?_)
                    refine lv_aload_n hx hb dX0_paint_88 rfl (lv_at hl 3 rfl) ?_
                    refine lv_iload_n hx hb dX0_paint_89 rfl (lv_at hl 2 rfl) ?_
                    refine zcallI (rest := []) hx hb hml hown hts hK clX0_0_opened (mX_opened l D h ad dB dS dN dZ n ab df bt kn mt co2 be2 li2 (nI L) (nI x) sh ec es eo em ro dn k l1 g (by omega) (fun j hj => hl8 j (by omega)) (fun j hj => hli j (by omega)) hg8 hco) ⟨Nat.le_of_ble_eq_true rfl, Nat.le_of_ble_eq_true rfl⟩ hW ⟨0, _, _, rfl, rfl, rfl⟩ rfl hl.1 rfl (Nat.le_of_ble_eq_true rfl) dX0_paint_90 ⟨Nat.le_refl 0, Nat.le_refl 0⟩ (fun v u H locs hv hW => ?_)
                    subst hv
                    refine lv_istore (lv' := [(4, .int (nI (opn g k))), (3, .int (nI (l1 k))), (2, .int (nI r)), (1, .int (nI k)), (0, .ref h)]) hx hb dX0_paint_93 hl (by decide) rfl (fun ls hl => ?_)
                    refine lv_aload_n hx hb dX0_paint_95 rfl (lv_at hl 4 rfl) ?_
                    refine lv_iload_n hx hb dX0_paint_96 rfl (lv_at hl 3 rfl) ?_
                    refine lv_aload_n hx hb dX0_paint_97 rfl (lv_at hl 4 rfl) ?_
                    refine zg0_co hx hb hts hown hK hW dX0_paint_98 ?_
                    refine lv_iload_n hx hb dX0_paint_101 rfl (lv_at hl 1 rfl) ?_
                    refine z_bald hx hb hK hW 5 0 rfl rfl (l1 k) rfl (by omega) (by decide) dX0_paint_102 ?_
                    refine lv_iconst (v := (nI 1)) hx hb dX0_paint_103 (by decide) ?_
                    refine lv_iadd hx hb dX0_paint_104 ?_
                    refine z_top (show ((co2 (l1 k)) + (nI 1)) = (nI c1) from hck) ?_
                    refine lv_iload hx hb dX0_paint_105 (lv_at hl 0 rfl) ?_
                    refine zcallI (rest := []) hx hb hml hown hts hK clX0_0_nextColour (mX_nextColour l D h ad dB dS dN dZ n ab df bt kn mt co2 be2 li2 (nI L) (nI x) sh ec es eo em ro dn k c1 (opn g k) x l1 g M (by omega) (by omega) (by omega) (by omega) (fun j hj => hl8 j (by omega)) (fun j hj => hli j (by omega)) hg8 hco hM8 hmt) ⟨Nat.le_of_ble_eq_true rfl, Nat.le_of_ble_eq_true rfl⟩ hW ⟨0, _, _, rfl, rfl, rfl⟩ rfl hl.1 rfl (Nat.le_of_ble_eq_true rfl) dX0_paint_107 ⟨Nat.le_refl 0, Nat.le_refl 0⟩ (fun v u H locs hv hW => ?_)
                    rcases hv with ⟨d, rfl, hd1, hd2, hd3, hd4, hd5, hd6⟩ | ⟨rfl, hno⟩
                    · have _ := 0
                      refine lv_istore (lv' := [(5, .int (nI d)), (4, .int (nI (opn g k))), (3, .int (nI (l1 k))), (2, .int (nI r)), (1, .int (nI k)), (0, .ref h)]) hx hb dX0_paint_110 hl (by decide) rfl (fun ls hl => ?_)
                      refine lv_aload_n hx hb dX0_paint_112 rfl (lv_at hl 5 rfl) ?_
                      refine zg0_co hx hb hts hown hK hW dX0_paint_113 ?_
                      refine lv_iload_n hx hb dX0_paint_116 rfl (lv_at hl 2 rfl) ?_
                      refine lv_iload hx hb dX0_paint_117 (lv_at hl 0 rfl) ?_
                      refine lv_i2b (v := (nI d)) hx hb dX0_paint_119 (z_i2b (by omega)) ?_
                      refine z_bast (v := (nI d)) hx hb hK hW 5 0 rfl rfl (l1 k) rfl (by omega) (by decide) (z_narb (by omega)) dX0_paint_120 (fun H locs hW => ?_)
                      have hW : zH D A s (wX h ad dB dS (nI n) ab df bt kn mt (upd co2 (l1 k) (nI d)) be2 li2 (nI L) (nI x) sh ec es eo em ro dn) H locs := hW
                      refine lv_iload hx hb dX0_paint_121 (lv_at hl 0 rfl) ?_
                      refine lv_if_ge (tgt := 132) hx hb dX0_paint_123 (by decide) (fun c123 => ?_) (fun c123 => ?_)
                      · have _ := 0
                        refine lv_iload_n hx hb dX0_paint_132 rfl (lv_at hl 4 rfl) ?_
                        refine lv_aload_n hx hb dX0_paint_133 rfl (lv_at hl 5 rfl) ?_
                        refine zg0_ll hx hb hts hown hK hW dX0_paint_134 ?_
                        refine lv_iconst (v := (nI 1)) hx hb dX0_paint_137 (by decide) ?_
                        refine lv_isub hx hb dX0_paint_138 ?_
                        refine z_top (show ((nI L) - (nI 1)) = (nI (L - 1)) from pk_sub (by omega)) ?_
                        refine lv_icmp_ne (tgt := 168) hx hb dX0_paint_139 (by decide) (fun c139 => ?_) (fun c139 => ?_)
                        · have _ := 0
                          have c139 : k ≠ (L - 1) := z_ne c139
                          have hpn := pi_down hlin hpi hco hps hphi (by omega) hd1 hd2 hd5 hd6
                          have hlk1 := hl8 (k + 1) (by omega)
                          refine lv_iinc (v := (nI (k + 1))) (lv' := [(1, .int (nI (k + 1))), (5, .int (nI d)), (4, .int (nI (opn g k))), (3, .int (nI (l1 k))), (2, .int (nI r)), (0, .ref h)]) hx hb dX0_paint_168 hl (k := 4) rfl (z_inc _) (by decide) rfl (fun ls hl => ?_)
                          refine lv_aload_n hx hb dX0_paint_171 rfl (lv_at hl 5 rfl) ?_
                          refine zg0_co hx hb hts hown hK hW dX0_paint_172 ?_
                          refine lv_aload_n hx hb dX0_paint_175 rfl (lv_at hl 5 rfl) ?_
                          refine zg0_li hx hb hts hown hK hW dX0_paint_176 ?_
                          refine lv_iload_n hx hb dX0_paint_179 rfl (lv_at hl 0 rfl) ?_
                          refine z_bald hx hb hK hW 7 0 rfl rfl (k + 1) rfl (by omega) (by decide) dX0_paint_180 ?_
                          refine z_top (show (li2 (k + 1)) = (nI (l1 (k + 1))) from hli (k + 1) (by omega)) ?_
                          refine lv_iconst (v := (-1)) hx hb dX0_paint_181 (by decide) ?_
                          refine z_bast (v := (-1)) hx hb hK hW 5 0 rfl rfl (l1 (k + 1)) rfl (by omega) (by decide) (by decide) dX0_paint_182 (fun H locs hW => ?_)
                          have hW : zH D A s (wX h ad dB dS (nI n) ab df bt kn mt (upd (upd co2 (l1 k) (nI d)) (l1 (k + 1)) (-1)) be2 li2 (nI L) (nI x) sh ec es eo em ro dn) H locs := hW
                          refine lv_iinc (v := (nI (r + 1))) (lv' := [(2, .int (nI (r + 1))), (1, .int (nI (k + 1))), (5, .int (nI d)), (4, .int (nI (opn g k))), (3, .int (nI (l1 k))), (0, .ref h)]) hx hb dX0_paint_183 hl (k := 4) rfl (z_inc _) (by decide) rfl (fun ls hl => ?_)
                          refine lv_goto (tgt := 64) hx hb dX0_paint_186 (by decide) ?_
                          exact ih64 (r + 1) (nI (k + 1)) (upd (upd co2 (l1 k) (nI d)) (l1 (k + 1)) (-1)) be2 x (by omega) (by omega) hpn _ _ _ hW (lv_sub hl [0, 1, 5] rfl)
                        · have _ := 0
                          have c139 : k = (L - 1) := z_eq (by omega) (by omega) c139
                          have hco3 := co_ext (d := d) hinj hkL hco
                          refine lv_aload_n hx hb dX0_paint_142 rfl (lv_at hl 5 rfl) ?_
                          refine lv_iload hx hb dX0_paint_143 (lv_at hl 0 rfl) ?_
                          refine lv_iload hx hb dX0_paint_145 (lv_at hl 1 rfl) ?_
                          refine lv_icmp_ge (tgt := 155) hx hb dX0_paint_147 (by decide) (fun c147 => ?_) (fun c147 => ?_)
                          · have _ := 0
                            have c147 : (opn g k) ≤ d := z_le (by omega) (by omega) c147
                            refine lv_iload hx hb dX0_paint_155 (lv_at hl 1 rfl) ?_
                            refine lv_iconst (v := (nI 1)) hx hb dX0_paint_157 (by decide) ?_
                            refine lv_iadd hx hb dX0_paint_158 ?_
                            refine z_top (show ((nI (opn g k)) + (nI 1)) = (nI ((opn g k) + 1)) from nI_add _ _) ?_
                            refine zcallV (rest := []) hx hb hml hown hts hK clX0_0_keep (mX_keep l D h ad dB dS dN dZ n ab df bt kn mt (upd co2 (l1 k) (nI d)) be2 li2 (nI L) (nI x) sh ec es eo em ro dn L ((opn g k) + 1) l1 (fup g k d) hL8 hl8 hinj hli (fun j hj => fup_8 hg8 (by omega) (by omega)) (fun j hj => hco3 j (by omega))) ⟨Nat.le_of_ble_eq_true rfl, Nat.le_of_ble_eq_true rfl⟩ hW ⟨0, _, _, rfl, rfl, rfl⟩ rfl hl.1 rfl (Nat.le_of_ble_eq_true rfl) dX0_paint_159 ⟨Nat.le_refl 0, Nat.le_refl 0⟩ (fun be3 H locs hv hW => ?_)
                            have hpn := pi_last (x' := ((opn g k) + 1)) hlin hsym hpi hco hps hphi (by omega) hd2 hd3 hd4 hd5 hd6 (by rw [if_neg (by omega)]) hv.1 hv.2
                            have hW : zH D A s (wX h ad dB dS (nI n) ab df bt kn mt (upd co2 (l1 k) (nI d)) be3 li2 (nI L) (nI ((opn g k) + 1)) sh ec es eo em ro dn) H locs := hW
                            refine lv_iinc (v := (lvd k)) (lv' := [(1, .int (lvd k)), (5, .int (nI d)), (4, .int (nI (opn g k))), (3, .int (nI (l1 k))), (2, .int (nI r)), (0, .ref h)]) hx hb dX0_paint_162 hl (k := 4) rfl (rfl) (by decide) rfl (fun ls hl => ?_)
                            refine lv_goto (tgt := 183) hx hb dX0_paint_165 (by decide) ?_
                            refine lv_iinc (v := (nI (r + 1))) (lv' := [(2, .int (nI (r + 1))), (1, .int (lvd k)), (5, .int (nI d)), (4, .int (nI (opn g k))), (3, .int (nI (l1 k))), (0, .ref h)]) hx hb dX0_paint_183 hl (k := 4) rfl (z_inc _) (by decide) rfl (fun ls hl => ?_)
                            refine lv_goto (tgt := 64) hx hb dX0_paint_186 (by decide) ?_
                            exact ih64 (r + 1) (lvd k) (upd co2 (l1 k) (nI d)) be3 ((opn g k) + 1) (by omega) (by omega) hpn _ _ _ hW (lv_sub hl [0, 1, 5] rfl)
                          · have _ := 0
                            have c147 : d < (opn g k) := z_nle (by omega) (by omega) c147
                            refine lv_iload hx hb dX0_paint_150 (lv_at hl 1 rfl) ?_
                            refine lv_goto (tgt := 159) hx hb dX0_paint_152 (by decide) ?_
                            refine zcallV (rest := []) hx hb hml hown hts hK clX0_0_keep (mX_keep l D h ad dB dS dN dZ n ab df bt kn mt (upd co2 (l1 k) (nI d)) be2 li2 (nI L) (nI x) sh ec es eo em ro dn L (opn g k) l1 (fup g k d) hL8 hl8 hinj hli (fun j hj => fup_8 hg8 (by omega) (by omega)) (fun j hj => hco3 j (by omega))) ⟨Nat.le_of_ble_eq_true rfl, Nat.le_of_ble_eq_true rfl⟩ hW ⟨0, _, _, rfl, rfl, rfl⟩ rfl hl.1 rfl (Nat.le_of_ble_eq_true rfl) dX0_paint_159 ⟨Nat.le_refl 0, Nat.le_refl 0⟩ (fun be3 H locs hv hW => ?_)
                            have hpn := pi_last (x' := (opn g k)) hlin hsym hpi hco hps hphi (by omega) hd2 hd3 hd4 hd5 hd6 (by rw [if_pos c147]) hv.1 hv.2
                            have hW : zH D A s (wX h ad dB dS (nI n) ab df bt kn mt (upd co2 (l1 k) (nI d)) be3 li2 (nI L) (nI (opn g k)) sh ec es eo em ro dn) H locs := hW
                            refine lv_iinc (v := (lvd k)) (lv' := [(1, .int (lvd k)), (5, .int (nI d)), (4, .int (nI (opn g k))), (3, .int (nI (l1 k))), (2, .int (nI r)), (0, .ref h)]) hx hb dX0_paint_162 hl (k := 4) rfl (rfl) (by decide) rfl (fun ls hl => ?_)
                            refine lv_goto (tgt := 183) hx hb dX0_paint_165 (by decide) ?_
                            refine lv_iinc (v := (nI (r + 1))) (lv' := [(2, .int (nI (r + 1))), (1, .int (lvd k)), (5, .int (nI d)), (4, .int (nI (opn g k))), (3, .int (nI (l1 k))), (0, .ref h)]) hx hb dX0_paint_183 hl (k := 4) rfl (z_inc _) (by decide) rfl (fun ls hl => ?_)
                            refine lv_goto (tgt := 64) hx hb dX0_paint_186 (by decide) ?_
                            exact ih64 (r + 1) (lvd k) (upd co2 (l1 k) (nI d)) be3 (opn g k) (by omega) (by omega) hpn _ _ _ hW (lv_sub hl [0, 1, 5] rfl)
                      · have _ := 0
                        exact absurd (nI_pos' (by omega)) c123
                    · have _ := 0
                      refine lv_istore (lv' := [(5, .int (-1)), (4, .int (nI (opn g k))), (3, .int (nI (l1 k))), (2, .int (nI r)), (1, .int (nI k)), (0, .ref h)]) hx hb dX0_paint_110 hl (by decide) rfl (fun ls hl => ?_)
                      refine lv_aload_n hx hb dX0_paint_112 rfl (lv_at hl 5 rfl) ?_
                      refine zg0_co hx hb hts hown hK hW dX0_paint_113 ?_
                      refine lv_iload_n hx hb dX0_paint_116 rfl (lv_at hl 2 rfl) ?_
                      refine lv_iload hx hb dX0_paint_117 (lv_at hl 0 rfl) ?_
                      refine lv_i2b (v := (-1)) hx hb dX0_paint_119 ((by decide)) ?_
                      refine z_bast (v := (-1)) hx hb hK hW 5 0 rfl rfl (l1 k) rfl (by omega) (by decide) (by decide) dX0_paint_120 (fun H locs hW => ?_)
                      have hW : zH D A s (wX h ad dB dS (nI n) ab df bt kn mt (upd co2 (l1 k) (-1)) be2 li2 (nI L) (nI x) sh ec es eo em ro dn) H locs := hW
                      refine lv_iload hx hb dX0_paint_121 (lv_at hl 0 rfl) ?_
                      refine lv_if_ge (tgt := 132) hx hb dX0_paint_123 (by decide) (fun c123 => ?_) (fun c123 => ?_)
                      · have _ := 0
                        exact absurd c123 (by decide)
                      · have _ := 0
                        have hpn := pi_fail hlin hpi hco hps hphi hno
                        refine lv_iinc (v := (lvd k)) (lv' := [(1, .int (lvd k)), (5, .int (-1)), (4, .int (nI (opn g k))), (3, .int (nI (l1 k))), (2, .int (nI r)), (0, .ref h)]) hx hb dX0_paint_126 hl (k := 4) rfl (rfl) (by decide) rfl (fun ls hl => ?_)
                        refine lv_goto (tgt := 183) hx hb dX0_paint_129 (by decide) ?_
                        refine lv_iinc (v := (nI (r + 1))) (lv' := [(2, .int (nI (r + 1))), (1, .int (lvd k)), (5, .int (-1)), (4, .int (nI (opn g k))), (3, .int (nI (l1 k))), (0, .ref h)]) hx hb dX0_paint_183 hl (k := 4) rfl (z_inc _) (by decide) rfl (fun ls hl => ?_)
                        refine lv_goto (tgt := 64) hx hb dX0_paint_186 (by decide) ?_
                        exact ih64 (r + 1) (lvd k) (upd co2 (l1 k) (-1)) be2 x (by omega) (by omega) hpn _ _ _ hW (lv_sub hl [0, 1, 5] rfl)
          exact hloop64 65537 0 (nI 0) co be1 L (by omega) (by omega) (pi_00 c47 hbb) _ _ _ hW (lv_sub hl [0, 1, 2] rfl)
        · have _ := 0
          have c47 : 0 < L := z_nle0 c47
          have hl0 := hl8 0 (by omega)
          refine lv_aload_n hx hb dX0_paint_50 rfl (lv_at hl 1 rfl) ?_
          refine zg0_co hx hb hts hown hK hW dX0_paint_51 ?_
          refine lv_aload_n hx hb dX0_paint_54 rfl (lv_at hl 1 rfl) ?_
          refine zg0_li hx hb hts hown hK hW dX0_paint_55 ?_
          refine lv_iconst (v := (nI 0)) hx hb dX0_paint_58 (by decide) ?_
          refine z_bald hx hb hK hW 7 0 rfl rfl 0 rfl (by omega) (by decide) dX0_paint_59 ?_
          refine z_top (show (li2 0) = (nI (l1 0)) from hli 0 (by omega)) ?_
          refine lv_iconst (v := (-1)) hx hb dX0_paint_60 (by decide) ?_
          refine z_bast (v := (-1)) hx hb hK hW 5 0 rfl rfl (l1 0) rfl (by omega) (by decide) (by decide) dX0_paint_61 (fun H locs hW => ?_)
          have hW : zH D A s (wX h ad dB dS (nI n) ab df bt kn mt (upd co (l1 0) (-1)) be1 li2 (nI L) (nI L) sh ec es eo em ro dn) H locs := hW
          refine lv_iconst (v := (nI 0)) hx hb dX0_paint_62 (by decide) ?_
          refine lv_istore_n (lv' := [(2, .int (nI 0)), (1, .int (nI 0)), (0, .ref h)]) hx hb dX0_paint_63 rfl hl (by decide) rfl (fun ls hl => ?_)
          have hloop64 : ∀ (N : Nat) (r : Nat) (lv : Int32) (co2 be2 : Nat → Int32) (x : Nat), 65536 < r + N → (r ≤ 65536) → (PI M l1 L r lv co2 be2 x) → ∀ (H : Heap) (locs : List Loc) (ls : Array Slot), zH D A s (wX h ad dB dS (nI n) ab df bt kn mt co2 be2 li2 (nI L) (nI x) sh ec es eo em ro dn) H locs → lv_has ls 6 [(2, .int (nI r)), (1, .int lv), (0, .ref h)] → W p l e (zR 2) s m args below meth c H locs 0 0 Q (F0 m 64 ls []) := by
            intro N
            induction N with
            | zero =>
              intro r  lv  co2 be2  x  hM hr hpi H locs ls hW hl
              exact absurd hM (by omega)
            | succ N ih64 =>
              intro r  lv  co2 be2  x  hM hr hpi H locs ls hW hl
              refine lv_iload_n hx hb dX0_paint_64 rfl (lv_at hl 0 rfl) ?_
              refine lv_ldc (v := 65536) hx hb hown (hts _ q165) dX0_paint_65 ?_
              refine z_top (show (65536 : Int32) = nI 65536 from rfl) ?_
              refine lv_icmp_ge (tgt := 189) hx hb dX0_paint_67 (by decide) (fun c67 => ?_) (fun c67 => ?_)
              · have _ := 0
                have c67 : 65536 ≤ r := z_le (by omega) (by omega) c67
                exact hend (co2, be2, li2, L, x) _ _ _ _ (pt_done hlin hpi.1 hpi.2.1 (pi_end hlin hpi (Or.inl c67))) hW dX0_paint_189
              · have _ := 0
                have c67 : r < 65536 := z_nle (by omega) (by omega) c67
                refine lv_iload_n hx hb dX0_paint_70 rfl (lv_at hl 1 rfl) ?_
                refine lv_if_lt (tgt := 189) hx hb dX0_paint_71 (by decide) (fun c71 => ?_) (fun c71 => ?_)
                · have _ := 0
                  exact hend (co2, be2, li2, L, x) _ _ _ _ (pt_done hlin hpi.1 hpi.2.1 (pi_end hlin hpi (Or.inr (Or.inl c71)))) hW dX0_paint_189
                · have _ := 0
                  refine lv_aload_n hx hb dX0_paint_74 rfl (lv_at hl 2 rfl) ?_
                  refine zg0_ll hx hb hts hown hK hW dX0_paint_75 ?_
                  refine lv_if_le (tgt := 189) hx hb dX0_paint_78 (by decide) (fun c78 => ?_) (fun c78 => ?_)
                  · have _ := 0
                    have c78 : L = 0 := z_le0 (by omega) c78
                    exact hend (co2, be2, li2, L, x) _ _ _ _ (pt_done hlin hpi.1 hpi.2.1 (pi_end hlin hpi (Or.inr (Or.inr c78)))) hW dX0_paint_189
                  · have _ := 0
                    have c78 : 0 < L := z_nle0 c78
                    obtain ⟨k, c1, g, rfl, hco, hck, hps, hphi⟩ := pi_go hpi c71 c78
                    have hkL := hps.1
                    obtain ⟨hok, hg8⟩ := ps_g8 hL8 hps
                    have hc9 := hps.2.1
                    have hxL := hpi.1
                    have hlk := hl8 k hkL
                    refine lv_aload_n hx hb dX0_paint_81 rfl (lv_at hl 2 rfl) ?_
                    refine zg0_li hx hb hts hown hK hW dX0_paint_82 ?_
                    refine lv_iload_n hx hb dX0_paint_85 rfl (lv_at hl 1 rfl) ?_
                    refine z_bald hx hb hK hW 7 0 rfl rfl k rfl (by omega) (by decide) dX0_paint_86 ?_
                    refine z_top (show (li2 k) = (nI (l1 k)) from hli k hkL) ?_
                    refine lv_istore_n (lv' := [(3, .int (nI (l1 k))), (2, .int (nI r)), (1, .int (nI k)), (0, .ref h)]) hx hb dX0_paint_87 rfl hl (by decide) rfl (fun ls hl => ?_)
                    refine lv_aload_n hx hb dX0_paint_88 rfl (lv_at hl 3 rfl) ?_
                    refine lv_iload_n hx hb dX0_paint_89 rfl (lv_at hl 2 rfl) ?_
                    refine zcallI (rest := []) hx hb hml hown hts hK clX0_0_opened (mX_opened l D h ad dB dS dN dZ n ab df bt kn mt co2 be2 li2 (nI L) (nI x) sh ec es eo em ro dn k l1 g (by omega) (fun j hj => hl8 j (by omega)) (fun j hj => hli j (by omega)) hg8 hco) ⟨Nat.le_of_ble_eq_true rfl, Nat.le_of_ble_eq_true rfl⟩ hW ⟨0, _, _, rfl, rfl, rfl⟩ rfl hl.1 rfl (Nat.le_of_ble_eq_true rfl) dX0_paint_90 ⟨Nat.le_refl 0, Nat.le_refl 0⟩ (fun v u H locs hv hW => ?_)
                    subst hv
                    refine lv_istore (lv' := [(4, .int (nI (opn g k))), (3, .int (nI (l1 k))), (2, .int (nI r)), (1, .int (nI k)), (0, .ref h)]) hx hb dX0_paint_93 hl (by decide) rfl (fun ls hl => ?_)
                    refine lv_aload_n hx hb dX0_paint_95 rfl (lv_at hl 4 rfl) ?_
                    refine lv_iload_n hx hb dX0_paint_96 rfl (lv_at hl 3 rfl) ?_
                    refine lv_aload_n hx hb dX0_paint_97 rfl (lv_at hl 4 rfl) ?_
                    refine zg0_co hx hb hts hown hK hW dX0_paint_98 ?_
                    refine lv_iload_n hx hb dX0_paint_101 rfl (lv_at hl 1 rfl) ?_
                    refine z_bald hx hb hK hW 5 0 rfl rfl (l1 k) rfl (by omega) (by decide) dX0_paint_102 ?_
                    refine lv_iconst (v := (nI 1)) hx hb dX0_paint_103 (by decide) ?_
                    refine lv_iadd hx hb dX0_paint_104 ?_
                    refine z_top (show ((co2 (l1 k)) + (nI 1)) = (nI c1) from hck) ?_
                    refine lv_iload hx hb dX0_paint_105 (lv_at hl 0 rfl) ?_
                    refine zcallI (rest := []) hx hb hml hown hts hK clX0_0_nextColour (mX_nextColour l D h ad dB dS dN dZ n ab df bt kn mt co2 be2 li2 (nI L) (nI x) sh ec es eo em ro dn k c1 (opn g k) x l1 g M (by omega) (by omega) (by omega) (by omega) (fun j hj => hl8 j (by omega)) (fun j hj => hli j (by omega)) hg8 hco hM8 hmt) ⟨Nat.le_of_ble_eq_true rfl, Nat.le_of_ble_eq_true rfl⟩ hW ⟨0, _, _, rfl, rfl, rfl⟩ rfl hl.1 rfl (Nat.le_of_ble_eq_true rfl) dX0_paint_107 ⟨Nat.le_refl 0, Nat.le_refl 0⟩ (fun v u H locs hv hW => ?_)
                    rcases hv with ⟨d, rfl, hd1, hd2, hd3, hd4, hd5, hd6⟩ | ⟨rfl, hno⟩
                    · have _ := 0
                      refine lv_istore (lv' := [(5, .int (nI d)), (4, .int (nI (opn g k))), (3, .int (nI (l1 k))), (2, .int (nI r)), (1, .int (nI k)), (0, .ref h)]) hx hb dX0_paint_110 hl (by decide) rfl (fun ls hl => ?_)
                      refine lv_aload_n hx hb dX0_paint_112 rfl (lv_at hl 5 rfl) ?_
                      refine zg0_co hx hb hts hown hK hW dX0_paint_113 ?_
                      refine lv_iload_n hx hb dX0_paint_116 rfl (lv_at hl 2 rfl) ?_
                      refine lv_iload hx hb dX0_paint_117 (lv_at hl 0 rfl) ?_
                      refine lv_i2b (v := (nI d)) hx hb dX0_paint_119 (z_i2b (by omega)) ?_
                      refine z_bast (v := (nI d)) hx hb hK hW 5 0 rfl rfl (l1 k) rfl (by omega) (by decide) (z_narb (by omega)) dX0_paint_120 (fun H locs hW => ?_)
                      have hW : zH D A s (wX h ad dB dS (nI n) ab df bt kn mt (upd co2 (l1 k) (nI d)) be2 li2 (nI L) (nI x) sh ec es eo em ro dn) H locs := hW
                      refine lv_iload hx hb dX0_paint_121 (lv_at hl 0 rfl) ?_
                      refine lv_if_ge (tgt := 132) hx hb dX0_paint_123 (by decide) (fun c123 => ?_) (fun c123 => ?_)
                      · have _ := 0
                        refine lv_iload_n hx hb dX0_paint_132 rfl (lv_at hl 4 rfl) ?_
                        refine lv_aload_n hx hb dX0_paint_133 rfl (lv_at hl 5 rfl) ?_
                        refine zg0_ll hx hb hts hown hK hW dX0_paint_134 ?_
                        refine lv_iconst (v := (nI 1)) hx hb dX0_paint_137 (by decide) ?_
                        refine lv_isub hx hb dX0_paint_138 ?_
                        refine z_top (show ((nI L) - (nI 1)) = (nI (L - 1)) from pk_sub (by omega)) ?_
                        refine lv_icmp_ne (tgt := 168) hx hb dX0_paint_139 (by decide) (fun c139 => ?_) (fun c139 => ?_)
                        · have _ := 0
                          have c139 : k ≠ (L - 1) := z_ne c139
                          have hpn := pi_down hlin hpi hco hps hphi (by omega) hd1 hd2 hd5 hd6
                          have hlk1 := hl8 (k + 1) (by omega)
                          refine lv_iinc (v := (nI (k + 1))) (lv' := [(1, .int (nI (k + 1))), (5, .int (nI d)), (4, .int (nI (opn g k))), (3, .int (nI (l1 k))), (2, .int (nI r)), (0, .ref h)]) hx hb dX0_paint_168 hl (k := 4) rfl (z_inc _) (by decide) rfl (fun ls hl => ?_)
                          refine lv_aload_n hx hb dX0_paint_171 rfl (lv_at hl 5 rfl) ?_
                          refine zg0_co hx hb hts hown hK hW dX0_paint_172 ?_
                          refine lv_aload_n hx hb dX0_paint_175 rfl (lv_at hl 5 rfl) ?_
                          refine zg0_li hx hb hts hown hK hW dX0_paint_176 ?_
                          refine lv_iload_n hx hb dX0_paint_179 rfl (lv_at hl 0 rfl) ?_
                          refine z_bald hx hb hK hW 7 0 rfl rfl (k + 1) rfl (by omega) (by decide) dX0_paint_180 ?_
                          refine z_top (show (li2 (k + 1)) = (nI (l1 (k + 1))) from hli (k + 1) (by omega)) ?_
                          refine lv_iconst (v := (-1)) hx hb dX0_paint_181 (by decide) ?_
                          refine z_bast (v := (-1)) hx hb hK hW 5 0 rfl rfl (l1 (k + 1)) rfl (by omega) (by decide) (by decide) dX0_paint_182 (fun H locs hW => ?_)
                          have hW : zH D A s (wX h ad dB dS (nI n) ab df bt kn mt (upd (upd co2 (l1 k) (nI d)) (l1 (k + 1)) (-1)) be2 li2 (nI L) (nI x) sh ec es eo em ro dn) H locs := hW
                          refine lv_iinc (v := (nI (r + 1))) (lv' := [(2, .int (nI (r + 1))), (1, .int (nI (k + 1))), (5, .int (nI d)), (4, .int (nI (opn g k))), (3, .int (nI (l1 k))), (0, .ref h)]) hx hb dX0_paint_183 hl (k := 4) rfl (z_inc _) (by decide) rfl (fun ls hl => ?_)
                          refine lv_goto (tgt := 64) hx hb dX0_paint_186 (by decide) ?_
                          exact ih64 (r + 1) (nI (k + 1)) (upd (upd co2 (l1 k) (nI d)) (l1 (k + 1)) (-1)) be2 x (by omega) (by omega) hpn _ _ _ hW (lv_sub hl [0, 1, 5] rfl)
                        · have _ := 0
                          have c139 : k = (L - 1) := z_eq (by omega) (by omega) c139
                          have hco3 := co_ext (d := d) hinj hkL hco
                          refine lv_aload_n hx hb dX0_paint_142 rfl (lv_at hl 5 rfl) ?_
                          refine lv_iload hx hb dX0_paint_143 (lv_at hl 0 rfl) ?_
                          refine lv_iload hx hb dX0_paint_145 (lv_at hl 1 rfl) ?_
                          refine lv_icmp_ge (tgt := 155) hx hb dX0_paint_147 (by decide) (fun c147 => ?_) (fun c147 => ?_)
                          · have _ := 0
                            have c147 : (opn g k) ≤ d := z_le (by omega) (by omega) c147
                            refine lv_iload hx hb dX0_paint_155 (lv_at hl 1 rfl) ?_
                            refine lv_iconst (v := (nI 1)) hx hb dX0_paint_157 (by decide) ?_
                            refine lv_iadd hx hb dX0_paint_158 ?_
                            refine z_top (show ((nI (opn g k)) + (nI 1)) = (nI ((opn g k) + 1)) from nI_add _ _) ?_
                            refine zcallV (rest := []) hx hb hml hown hts hK clX0_0_keep (mX_keep l D h ad dB dS dN dZ n ab df bt kn mt (upd co2 (l1 k) (nI d)) be2 li2 (nI L) (nI x) sh ec es eo em ro dn L ((opn g k) + 1) l1 (fup g k d) hL8 hl8 hinj hli (fun j hj => fup_8 hg8 (by omega) (by omega)) (fun j hj => hco3 j (by omega))) ⟨Nat.le_of_ble_eq_true rfl, Nat.le_of_ble_eq_true rfl⟩ hW ⟨0, _, _, rfl, rfl, rfl⟩ rfl hl.1 rfl (Nat.le_of_ble_eq_true rfl) dX0_paint_159 ⟨Nat.le_refl 0, Nat.le_refl 0⟩ (fun be3 H locs hv hW => ?_)
                            have hpn := pi_last (x' := ((opn g k) + 1)) hlin hsym hpi hco hps hphi (by omega) hd2 hd3 hd4 hd5 hd6 (by rw [if_neg (by omega)]) hv.1 hv.2
                            have hW : zH D A s (wX h ad dB dS (nI n) ab df bt kn mt (upd co2 (l1 k) (nI d)) be3 li2 (nI L) (nI ((opn g k) + 1)) sh ec es eo em ro dn) H locs := hW
                            refine lv_iinc (v := (lvd k)) (lv' := [(1, .int (lvd k)), (5, .int (nI d)), (4, .int (nI (opn g k))), (3, .int (nI (l1 k))), (2, .int (nI r)), (0, .ref h)]) hx hb dX0_paint_162 hl (k := 4) rfl (rfl) (by decide) rfl (fun ls hl => ?_)
                            refine lv_goto (tgt := 183) hx hb dX0_paint_165 (by decide) ?_
                            refine lv_iinc (v := (nI (r + 1))) (lv' := [(2, .int (nI (r + 1))), (1, .int (lvd k)), (5, .int (nI d)), (4, .int (nI (opn g k))), (3, .int (nI (l1 k))), (0, .ref h)]) hx hb dX0_paint_183 hl (k := 4) rfl (z_inc _) (by decide) rfl (fun ls hl => ?_)
                            refine lv_goto (tgt := 64) hx hb dX0_paint_186 (by decide) ?_
                            exact ih64 (r + 1) (lvd k) (upd co2 (l1 k) (nI d)) be3 ((opn g k) + 1) (by omega) (by omega) hpn _ _ _ hW (lv_sub hl [0, 1, 5] rfl)
                          · have _ := 0
                            have c147 : d < (opn g k) := z_nle (by omega) (by omega) c147
                            refine lv_iload hx hb dX0_paint_150 (lv_at hl 1 rfl) ?_
                            refine lv_goto (tgt := 159) hx hb dX0_paint_152 (by decide) ?_
                            refine zcallV (rest := []) hx hb hml hown hts hK clX0_0_keep (mX_keep l D h ad dB dS dN dZ n ab df bt kn mt (upd co2 (l1 k) (nI d)) be2 li2 (nI L) (nI x) sh ec es eo em ro dn L (opn g k) l1 (fup g k d) hL8 hl8 hinj hli (fun j hj => fup_8 hg8 (by omega) (by omega)) (fun j hj => hco3 j (by omega))) ⟨Nat.le_of_ble_eq_true rfl, Nat.le_of_ble_eq_true rfl⟩ hW ⟨0, _, _, rfl, rfl, rfl⟩ rfl hl.1 rfl (Nat.le_of_ble_eq_true rfl) dX0_paint_159 ⟨Nat.le_refl 0, Nat.le_refl 0⟩ (fun be3 H locs hv hW => ?_)
                            have hpn := pi_last (x' := (opn g k)) hlin hsym hpi hco hps hphi (by omega) hd2 hd3 hd4 hd5 hd6 (by rw [if_pos c147]) hv.1 hv.2
                            have hW : zH D A s (wX h ad dB dS (nI n) ab df bt kn mt (upd co2 (l1 k) (nI d)) be3 li2 (nI L) (nI (opn g k)) sh ec es eo em ro dn) H locs := hW
                            refine lv_iinc (v := (lvd k)) (lv' := [(1, .int (lvd k)), (5, .int (nI d)), (4, .int (nI (opn g k))), (3, .int (nI (l1 k))), (2, .int (nI r)), (0, .ref h)]) hx hb dX0_paint_162 hl (k := 4) rfl (rfl) (by decide) rfl (fun ls hl => ?_)
                            refine lv_goto (tgt := 183) hx hb dX0_paint_165 (by decide) ?_
                            refine lv_iinc (v := (nI (r + 1))) (lv' := [(2, .int (nI (r + 1))), (1, .int (lvd k)), (5, .int (nI d)), (4, .int (nI (opn g k))), (3, .int (nI (l1 k))), (0, .ref h)]) hx hb dX0_paint_183 hl (k := 4) rfl (z_inc _) (by decide) rfl (fun ls hl => ?_)
                            refine lv_goto (tgt := 64) hx hb dX0_paint_186 (by decide) ?_
                            exact ih64 (r + 1) (lvd k) (upd co2 (l1 k) (nI d)) be3 (opn g k) (by omega) (by omega) hpn _ _ _ hW (lv_sub hl [0, 1, 5] rfl)
                      · have _ := 0
                        exact absurd (nI_pos' (by omega)) c123
                    · have _ := 0
                      refine lv_istore (lv' := [(5, .int (-1)), (4, .int (nI (opn g k))), (3, .int (nI (l1 k))), (2, .int (nI r)), (1, .int (nI k)), (0, .ref h)]) hx hb dX0_paint_110 hl (by decide) rfl (fun ls hl => ?_)
                      refine lv_aload_n hx hb dX0_paint_112 rfl (lv_at hl 5 rfl) ?_
                      refine zg0_co hx hb hts hown hK hW dX0_paint_113 ?_
                      refine lv_iload_n hx hb dX0_paint_116 rfl (lv_at hl 2 rfl) ?_
                      refine lv_iload hx hb dX0_paint_117 (lv_at hl 0 rfl) ?_
                      refine lv_i2b (v := (-1)) hx hb dX0_paint_119 ((by decide)) ?_
                      refine z_bast (v := (-1)) hx hb hK hW 5 0 rfl rfl (l1 k) rfl (by omega) (by decide) (by decide) dX0_paint_120 (fun H locs hW => ?_)
                      have hW : zH D A s (wX h ad dB dS (nI n) ab df bt kn mt (upd co2 (l1 k) (-1)) be2 li2 (nI L) (nI x) sh ec es eo em ro dn) H locs := hW
                      refine lv_iload hx hb dX0_paint_121 (lv_at hl 0 rfl) ?_
                      refine lv_if_ge (tgt := 132) hx hb dX0_paint_123 (by decide) (fun c123 => ?_) (fun c123 => ?_)
                      · have _ := 0
                        exact absurd c123 (by decide)
                      · have _ := 0
                        have hpn := pi_fail hlin hpi hco hps hphi hno
                        refine lv_iinc (v := (lvd k)) (lv' := [(1, .int (lvd k)), (5, .int (-1)), (4, .int (nI (opn g k))), (3, .int (nI (l1 k))), (2, .int (nI r)), (0, .ref h)]) hx hb dX0_paint_126 hl (k := 4) rfl (rfl) (by decide) rfl (fun ls hl => ?_)
                        refine lv_goto (tgt := 183) hx hb dX0_paint_129 (by decide) ?_
                        refine lv_iinc (v := (nI (r + 1))) (lv' := [(2, .int (nI (r + 1))), (1, .int (lvd k)), (5, .int (-1)), (4, .int (nI (opn g k))), (3, .int (nI (l1 k))), (0, .ref h)]) hx hb dX0_paint_183 hl (k := 4) rfl (z_inc _) (by decide) rfl (fun ls hl => ?_)
                        refine lv_goto (tgt := 64) hx hb dX0_paint_186 (by decide) ?_
                        exact ih64 (r + 1) (lvd k) (upd co2 (l1 k) (-1)) be2 x (by omega) (by omega) hpn _ _ _ hW (lv_sub hl [0, 1, 5] rfl)
          exact hloop64 65537 0 (nI 0) (upd co (l1 0) (-1)) be1 L (by omega) (by omega) (pi_0 c47 hbb) _ _ _ hW (lv_sub hl [0, 1, 2] rfl)
      · have _ := 0
        have c19 : k < L := z_nle (by omega) (by omega) c19
        have hlk := hl8 k c19
        refine lv_aload_n hx hb dX0_paint_22 rfl (lv_at hl 1 rfl) ?_
        refine zg0_be hx hb hts hown hK hW dX0_paint_23 ?_
        refine lv_aload_n hx hb dX0_paint_26 rfl (lv_at hl 1 rfl) ?_
        refine zg0_li hx hb hts hown hK hW dX0_paint_27 ?_
        refine lv_iload_n hx hb dX0_paint_30 rfl (lv_at hl 0 rfl) ?_
        refine z_bald hx hb hK hW 7 0 rfl rfl k rfl (by omega) (by decide) dX0_paint_31 ?_
        refine z_top (show (li2 k) = (nI (l1 k)) from hli k c19) ?_
        refine lv_iload_n hx hb dX0_paint_32 rfl (lv_at hl 0 rfl) ?_
        refine lv_i2b (v := (nI k)) hx hb dX0_paint_33 (z_i2b (by omega)) ?_
        refine z_bast (v := (nI k)) hx hb hK hW 6 0 rfl rfl (l1 k) rfl (by omega) (by decide) (z_narb (by omega)) dX0_paint_34 (fun H locs hW => ?_)
        have hW : zH D A s (wX h ad dB dS (nI n) ab df bt kn mt co (upd be1 (l1 k) (nI k)) li2 (nI L) (nI L) sh ec es eo em ro dn) H locs := hW
        refine lv_iinc (v := (nI (k + 1))) (lv' := [(1, .int (nI (k + 1))), (0, .ref h)]) hx hb dX0_paint_35 hl (k := 0) rfl (z_inc _) (by decide) rfl (fun ls hl => ?_)
        refine lv_goto (tgt := 14) hx hb dX0_paint_38 (by decide) ?_
        exact ih14 (k + 1) (upd be1 (l1 k) (nI k)) (by omega) (by omega) (keep_1 (g := fun k => k) hinj c19 hb1) (keep_2 c19 hb2) _ _ _ hW (lv_sub hl [0, 1] rfl)
  exact hloop14 (L + 1) 0 be (by omega) (by omega) (fun i hi => absurd hi (by omega)) (fun s _ => rfl) _ _ _ hW (lv_sub hl [0, 1] rfl)
set_option maxHeartbeats 4000000 in
set_option maxRecDepth 100000 in
theorem mX_fillRow (l : Launch) (D : va_G) (h : Nat) (ad : Nat → Nat) (dB dS dN dZ : ClassId) (n : Nat) (ab df : Nat → Int32) (bt : Int32) (kn mt co be li : Nat → Int32) (ll ck : Int32) (sh ec es eo em ro dn : Nat → Int32) (c1 Kc : Nat) (b w : Nat → Nat)  (hc1 : c1 < 10) (hK8 : Kc < 256) (hkc : kn c1 = nI Kc) (hb8 : ∀ s, s < 8 → b s < 8 ∧ be s = nI (b s)) (hw8 : ∀ s, s < 8 → Kc.testBit s = true → w s < 10) (hown1 : ∀ s, s < 8 → Kc.testBit s = true → ¬ df (8 * c1 + s) = 0 → w s = c1) (hown2 : ∀ s, s < 8 → Kc.testBit s = true → df (8 * c1 + s) = 0 → ∃ p1 x, p1 < 10 ∧ x ≤ 80 ∧ ab c1 = nI p1 ∧ sh p1 = nI x ∧ eo (x + b s) = nI (w s)) : zMV l D (zT dB dS dN dZ) yX0_fillRow cX0_fillRow 5 1 [.ref h, .int (nI c1)] (wX h ad dB dS (nI n) ab df bt kn mt co be li ll ck sh ec es eo em ro dn) (fun (u : Nat → Int32) => ∀ s, s < 8 → Kc.testBit s = true → u s = nI (w s)) (fun u => wX h ad dB dS (nI n) ab df bt kn mt co be li ll ck sh ec es eo em u dn) := by
  refine zStartV (by decide) (Nat.le_of_ble_eq_true rfl) ?_
  intro p e s m args below meth c A Q ls hx hb hml hown hts hK hend hW hl
  have hown : s.vm.findClass RX0 = some m.cls := hown
  have hl : lv_has ls 5 [(0, .ref h), (1, .int (nI c1))] := hl
  refine lv_aload_n hx hb dX0_fillRow_0 rfl (lv_at hl 0 rfl) ?_
  refine lv_iload_n hx hb dX0_fillRow_1 rfl (lv_at hl 1 rfl) ?_
  refine zcallI (rest := []) hx hb hml hown hts hK clX0_0_own (mX_own l D h ad dB dS dN dZ n ab df bt kn mt co be li ll ck sh ec es eo em ro dn c1 hc1) ⟨Nat.le_of_ble_eq_true rfl, Nat.le_of_ble_eq_true rfl⟩ hW ⟨0, _, _, rfl, rfl, rfl⟩ rfl hl.1 rfl (Nat.le_of_ble_eq_true rfl) dX0_fillRow_2 ⟨Nat.le_refl 0, Nat.le_refl 0⟩ (fun v u H locs hv hW => ?_)
  subst hv
  refine lv_istore_n (lv' := [(2, .int (nI (ownM df c1))), (0, .ref h), (1, .int (nI c1))]) hx hb dX0_fillRow_5 rfl hl (by decide) rfl (fun ls hl => ?_)
  refine lv_iconst (v := (nI 0)) hx hb dX0_fillRow_6 (by decide) ?_
  refine lv_istore_n (lv' := [(3, .int (nI 0)), (2, .int (nI (ownM df c1))), (0, .ref h), (1, .int (nI c1))]) hx hb dX0_fillRow_7 rfl hl (by decide) rfl (fun ls hl => ?_)
  have hloop8 : ∀ (N : Nat) (i : Nat) (ro2 : Nat → Int32), 8 < i + N → (i ≤ 8) → (∀ s, s < i → Kc.testBit s = true → ro2 s = nI (w s)) → ∀ (H : Heap) (locs : List Loc) (ls : Array Slot), zH D A s (wX h ad dB dS (nI n) ab df bt kn mt co be li ll ck sh ec es eo em ro2 dn) H locs → lv_has ls 5 [(3, .int (nI i)), (2, .int (nI (ownM df c1))), (0, .ref h), (1, .int (nI c1))] → W p l e (zR 1) s m args below meth c H locs 0 0 Q (F0 m 8 ls []) := by
    intro N
    induction N with
    | zero =>
      intro i  ro2  hM hi hro H locs ls hW hl
      exact absurd hM (by omega)
    | succ N ih8 =>
      intro i  ro2  hM hi hro H locs ls hW hl
      refine lv_iload_n hx hb dX0_fillRow_8 rfl (lv_at hl 0 rfl) ?_
      refine lv_bipush (v := (nI 8)) hx hb dX0_fillRow_9 (by decide) ?_
      refine lv_icmp_ge (tgt := 87) hx hb dX0_fillRow_11 (by decide) (fun c11 => ?_) (fun c11 => ?_)
      · have _ := 0
        have c11 : 8 ≤ i := z_le (by omega) (by omega) c11
        exact hend ro2 _ _ _ _ (fun s hs => hro s (by omega)) hW dX0_fillRow_87
      · have _ := 0
        have c11 : i < 8 := z_nle (by omega) (by omega) c11
        have hM9 := ownM_lt df c1
        have hbi := (hb8 i c11).1
        refine lv_aload_n hx hb dX0_fillRow_14 rfl (lv_at hl 2 rfl) ?_
        refine zg0_kn hx hb hts hown hK hW dX0_fillRow_15 ?_
        refine lv_iload_n hx hb dX0_fillRow_18 rfl (lv_at hl 3 rfl) ?_
        refine z_sald hx hb hK hW 3 1 rfl rfl c1 rfl (by omega) (by decide) dX0_fillRow_19 ?_
        refine z_top (show (kn c1) = (nI Kc) from hkc) ?_
        refine lv_iload_n hx hb dX0_fillRow_20 rfl (lv_at hl 0 rfl) ?_
        refine lv_ishr hx hb dX0_fillRow_21 ?_
        refine lv_iconst (v := (nI 1)) hx hb dX0_fillRow_22 (by decide) ?_
        refine lv_iand hx hb dX0_fillRow_23 ?_
        refine z_top (show (((nI Kc) >>> ((nI i) &&& 31)) &&& (nI 1)) = (nI (Kc.testBit i).toNat) from z_bit (by omega) (by omega)) ?_
        refine lv_if_eq (tgt := 81) hx hb dX0_fillRow_24 (by decide) (fun c24 => ?_) (fun c24 => ?_)
        · have _ := 0
          have c24 : (Kc.testBit i) = false := z_b0 c24
          refine lv_iinc (v := (nI (i + 1))) (lv' := [(3, .int (nI (i + 1))), (2, .int (nI (ownM df c1))), (0, .ref h), (1, .int (nI c1))]) hx hb dX0_fillRow_81 hl (k := 0) rfl (z_inc _) (by decide) rfl (fun ls hl => ?_)
          refine lv_goto (tgt := 8) hx hb dX0_fillRow_84 (by decide) ?_
          exact ih8 (i + 1) ro2 (by omega) (by omega) (row_skip hro c24) _ _ _ hW (lv_sub hl [0, 1, 2, 3] rfl)
        · have _ := 0
          have c24 : (Kc.testBit i) = true := z_b1 c24
          have hwi := hw8 i c11 c24
          refine lv_iload_n hx hb dX0_fillRow_27 rfl (lv_at hl 1 rfl) ?_
          refine lv_iload_n hx hb dX0_fillRow_28 rfl (lv_at hl 0 rfl) ?_
          refine lv_ishr hx hb dX0_fillRow_29 ?_
          refine lv_iconst (v := (nI 1)) hx hb dX0_fillRow_30 (by decide) ?_
          refine lv_iand hx hb dX0_fillRow_31 ?_
          refine z_top (show (((nI (ownM df c1)) >>> ((nI i) &&& 31)) &&& (nI 1)) = (nI ((ownM df c1).testBit i).toNat) from z_bit (by omega) (by omega)) ?_
          refine lv_if_eq (tgt := 39) hx hb dX0_fillRow_32 (by decide) (fun c32 => ?_) (fun c32 => ?_)
          · have _ := 0
            have c32 : ((ownM df c1).testBit i) = false := z_b0 c32
            obtain ⟨p1, x, hp1, hx80, hab1, hsh1, heo1⟩ := hown2 i c11 c24 (own_no c11 c32)
            refine lv_iconst (v := (nI 0)) hx hb dX0_fillRow_39 (by decide) ?_
            refine lv_istore (lv' := [(4, .int (nI 0)), (3, .int (nI i)), (2, .int (nI (ownM df c1))), (0, .ref h), (1, .int (nI c1))]) hx hb dX0_fillRow_40 hl (by decide) rfl (fun ls hl => ?_)
            refine lv_aload_n hx hb dX0_fillRow_42 rfl (lv_at hl 3 rfl) ?_
            refine zg0_ro hx hb hts hown hK hW dX0_fillRow_43 ?_
            refine lv_iload_n hx hb dX0_fillRow_46 rfl (lv_at hl 1 rfl) ?_
            refine lv_iload hx hb dX0_fillRow_47 (lv_at hl 0 rfl) ?_
            refine lv_if_eq (tgt := 57) hx hb dX0_fillRow_49 (by decide) (fun c49 => ?_) (fun c49 => ?_)
            · have _ := 0
              refine lv_aload_n hx hb dX0_fillRow_57 rfl (lv_at hl 3 rfl) ?_
              refine zg0_eo hx hb hts hown hK hW dX0_fillRow_58 ?_
              refine lv_aload_n hx hb dX0_fillRow_61 rfl (lv_at hl 3 rfl) ?_
              refine zg0_sh hx hb hts hown hK hW dX0_fillRow_62 ?_
              refine lv_aload_n hx hb dX0_fillRow_65 rfl (lv_at hl 3 rfl) ?_
              refine zg0_ab hx hb hts hown hK hW dX0_fillRow_66 ?_
              refine lv_iload_n hx hb dX0_fillRow_69 rfl (lv_at hl 4 rfl) ?_
              refine z_bald hx hb hK hW 1 0 rfl rfl c1 rfl (by omega) (by decide) dX0_fillRow_70 ?_
              refine z_top (show (ab c1) = (nI p1) from hab1) ?_
              refine z_bald hx hb hK hW 8 0 rfl rfl p1 rfl (by omega) (by decide) dX0_fillRow_71 ?_
              refine z_top (show (sh p1) = (nI x) from hsh1) ?_
              refine lv_aload_n hx hb dX0_fillRow_72 rfl (lv_at hl 3 rfl) ?_
              refine zg0_be hx hb hts hown hK hW dX0_fillRow_73 ?_
              refine lv_iload_n hx hb dX0_fillRow_76 rfl (lv_at hl 1 rfl) ?_
              refine z_bald hx hb hK hW 6 0 rfl rfl i rfl (by omega) (by decide) dX0_fillRow_77 ?_
              refine z_top (show (be i) = (nI (b i)) from (hb8 i c11).2) ?_
              refine lv_iadd hx hb dX0_fillRow_78 ?_
              refine z_top (show ((nI x) + (nI (b i))) = (nI (x + (b i))) from nI_add _ _) ?_
              refine z_bald hx hb hK hW 11 0 rfl rfl (x + (b i)) rfl (by omega) (by decide) dX0_fillRow_79 ?_
              refine z_top (show (eo (x + (b i))) = (nI (w i)) from heo1) ?_
              refine z_bast (v := (nI (w i))) hx hb hK hW 13 0 rfl rfl i rfl (by omega) (by decide) (z_narb (by omega)) dX0_fillRow_80 (fun H locs hW => ?_)
              have hW : zH D A s (wX h ad dB dS (nI n) ab df bt kn mt co be li ll ck sh ec es eo em (upd ro2 i (nI (w i))) dn) H locs := hW
              refine lv_iinc (v := (nI (i + 1))) (lv' := [(3, .int (nI (i + 1))), (4, .int (nI 0)), (2, .int (nI (ownM df c1))), (0, .ref h), (1, .int (nI c1))]) hx hb dX0_fillRow_81 hl (k := 1) rfl (z_inc _) (by decide) rfl (fun ls hl => ?_)
              refine lv_goto (tgt := 8) hx hb dX0_fillRow_84 (by decide) ?_
              exact ih8 (i + 1) (upd ro2 i (nI (w i))) (by omega) (by omega) (row_next hro) _ _ _ hW (lv_sub hl [0, 2, 3, 4] rfl)
            · have _ := 0
              exact absurd c49 (by decide)
          · have _ := 0
            have c32 : ((ownM df c1).testBit i) = true := z_b1 c32
            have hwc := hown1 i c11 c24 (own_yes c11 c32)
            refine lv_iconst (v := (nI 1)) hx hb dX0_fillRow_35 (by decide) ?_
            refine lv_goto (tgt := 40) hx hb dX0_fillRow_36 (by decide) ?_
            refine lv_istore (lv' := [(4, .int (nI 1)), (3, .int (nI i)), (2, .int (nI (ownM df c1))), (0, .ref h), (1, .int (nI c1))]) hx hb dX0_fillRow_40 hl (by decide) rfl (fun ls hl => ?_)
            refine lv_aload_n hx hb dX0_fillRow_42 rfl (lv_at hl 3 rfl) ?_
            refine zg0_ro hx hb hts hown hK hW dX0_fillRow_43 ?_
            refine lv_iload_n hx hb dX0_fillRow_46 rfl (lv_at hl 1 rfl) ?_
            refine lv_iload hx hb dX0_fillRow_47 (lv_at hl 0 rfl) ?_
            refine lv_if_eq (tgt := 57) hx hb dX0_fillRow_49 (by decide) (fun c49 => ?_) (fun c49 => ?_)
            · have _ := 0
              exact absurd c49 (by decide)
            · have _ := 0
              refine lv_iload_n hx hb dX0_fillRow_52 rfl (lv_at hl 4 rfl) ?_
              refine lv_i2b (v := (nI c1)) hx hb dX0_fillRow_53 (z_i2b (by omega)) ?_
              refine lv_goto (tgt := 80) hx hb dX0_fillRow_54 (by decide) ?_
              refine z_top (show (nI c1) = (nI (w i)) from (by rw [hwc])) ?_
              refine z_bast (v := (nI (w i))) hx hb hK hW 13 0 rfl rfl i rfl (by omega) (by decide) (z_narb (by omega)) dX0_fillRow_80 (fun H locs hW => ?_)
              have hW : zH D A s (wX h ad dB dS (nI n) ab df bt kn mt co be li ll ck sh ec es eo em (upd ro2 i (nI (w i))) dn) H locs := hW
              refine lv_iinc (v := (nI (i + 1))) (lv' := [(3, .int (nI (i + 1))), (4, .int (nI 1)), (2, .int (nI (ownM df c1))), (0, .ref h), (1, .int (nI c1))]) hx hb dX0_fillRow_81 hl (k := 1) rfl (z_inc _) (by decide) rfl (fun ls hl => ?_)
              refine lv_goto (tgt := 8) hx hb dX0_fillRow_84 (by decide) ?_
              exact ih8 (i + 1) (upd ro2 i (nI (w i))) (by omega) (by omega) (row_next hro) _ _ _ hW (lv_sub hl [0, 2, 3, 4] rfl)
  exact hloop8 9 0 ro (by omega) (by omega) (fun s hs => absurd hs (by omega)) _ _ _ hW (lv_sub hl [0, 1, 2, 3] rfl)
set_option maxHeartbeats 4000000 in
set_option maxRecDepth 100000 in
theorem mX_pack (l : Launch) (D : va_G) (h : Nat) (ad : Nat → Nat) (dB dS dN dZ : ClassId) (n : Nat) (ab df : Nat → Int32) (bt : Int32) (kn mt co be li : Nat → Int32) (ll ck : Int32) (sh ec es eo em ro dn : Nat → Int32) (c1 Kc B : Nat) (b w : Nat → Nat)  (hc1 : c1 < 10) (hK8 : Kc < 256) (hkc : kn c1 = nI Kc) (hb8 : ∀ s, s < 8 → b s < 8 ∧ be s = nI (b s)) (hbi : ∀ s t, s < 8 → t < 8 → Kc.testBit s = true → Kc.testBit t = true → b s = b t → s = t) (hw8 : ∀ s, s < 8 → Kc.testBit s = true → w s < 10) (hdf : ∀ j, j < 80 → ∃ q, q ≤ 1000 ∧ df j = nI q) (hown1 : ∀ s, s < 8 → Kc.testBit s = true → ¬ df (8 * c1 + s) = 0 → w s = c1) (hown2 : ∀ s, s < 8 → Kc.testBit s = true → df (8 * c1 + s) = 0 → ∃ p1 x, p1 < 10 ∧ x ≤ 80 ∧ ab c1 = nI p1 ∧ sh p1 = nI x ∧ eo (x + b s) = nI (w s)) (hB80 : B ≤ 80) (hfit : ∀ s, s < 8 → Kc.testBit s = true → ec (B + b s) < 0) : zMV l D (zT dB dS dN dZ) yX0_pack cX0_pack 6 2 [.ref h, .int (nI c1)] (wX h ad dB dS (nI n) ab df bt kn mt co be li ll ck sh ec es eo em ro dn) (fun (u : (Nat → Int32) × (Nat → Int32) × (Nat → Int32) × (Nat → Int32) × (Nat → Int32) × (Nat → Int32)) => PkR Kc c1 B b w df sh ec es eo em u.1 u.2.1 u.2.2.1 u.2.2.2.1 u.2.2.2.2.1) (fun u => wX h ad dB dS (nI n) ab df bt kn mt co be li ll ck u.1 u.2.1 u.2.2.1 u.2.2.2.1 u.2.2.2.2.1 u.2.2.2.2.2 dn) := by
  refine zStartV (by decide) (Nat.le_of_ble_eq_true rfl) ?_
  intro p e s m args below meth c A Q ls hx hb hml hown hts hK hend hW hl
  have hown : s.vm.findClass RX0 = some m.cls := hown
  have hl : lv_has ls 6 [(0, .ref h), (1, .int (nI c1))] := hl
  refine lv_aload_n hx hb dX0_pack_0 rfl (lv_at hl 0 rfl) ?_
  refine lv_iload_n hx hb dX0_pack_1 rfl (lv_at hl 1 rfl) ?_
  refine zcallV (rest := []) hx hb hml hown hts hK clX0_0_fillRow (mX_fillRow l D h ad dB dS dN dZ n ab df bt kn mt co be li ll ck sh ec es eo em ro dn c1 Kc b w hc1 hK8 hkc hb8 hw8 hown1 hown2) ⟨Nat.le_of_ble_eq_true rfl, Nat.le_of_ble_eq_true rfl⟩ hW ⟨0, _, _, rfl, rfl, rfl⟩ rfl hl.1 rfl (Nat.le_of_ble_eq_true rfl) dX0_pack_2 ⟨Nat.le_refl 0, Nat.le_refl 0⟩ (fun ro1 H locs hro hW => ?_)
  have hW : zH D A s (wX h ad dB dS (nI n) ab df bt kn mt co be li ll ck sh ec es eo em ro1 dn) H locs := hW
  refine lv_iconst (v := (nI 0)) hx hb dX0_pack_5 (by decide) ?_
  refine lv_istore_n (lv' := [(2, .int (nI 0)), (0, .ref h), (1, .int (nI c1))]) hx hb dX0_pack_6 rfl hl (by decide) rfl (fun ls hl => ?_)
  refine lv_iconst (v := (nI 0)) hx hb dX0_pack_7 (by decide) ?_
  refine lv_istore_n (lv' := [(3, .int (nI 0)), (2, .int (nI 0)), (0, .ref h), (1, .int (nI c1))]) hx hb dX0_pack_8 rfl hl (by decide) rfl (fun ls hl => ?_)
  have hloop9 : ∀ (N : Nat) (a : Nat), B < a + N → (a ≤ B) → ∀ (H : Heap) (locs : List Loc) (ls : Array Slot), zH D A s (wX h ad dB dS (nI n) ab df bt kn mt co be li ll ck sh ec es eo em ro1 dn) H locs → lv_has ls 6 [(3, .int (nI a)), (2, .int (nI a)), (0, .ref h), (1, .int (nI c1))] → W p l e (zR 2) s m args below meth c H locs 0 0 Q (F0 m 9 ls []) := by
    intro N
    induction N with
    | zero =>
      intro a  hM haB H locs ls hW hl
      exact absurd hM (by omega)
    | succ N ih9 =>
      intro a  hM haB H locs ls hW hl
      refine lv_iload_n hx hb dX0_pack_9 rfl (lv_at hl 0 rfl) ?_
      refine lv_bipush (v := (nI 88)) hx hb dX0_pack_10 (by decide) ?_
      refine lv_icmp_ge (tgt := 33) hx hb dX0_pack_12 (by decide) (fun c12 => ?_) (fun c12 => ?_)
      · have _ := 0
        have c12 : 88 ≤ a := z_le (by omega) (by omega) c12
        exact absurd c12 (by omega)
      · have _ := 0
        have c12 : a < 88 := z_nle (by omega) (by omega) c12
        refine lv_aload_n hx hb dX0_pack_15 rfl (lv_at hl 2 rfl) ?_
        refine lv_iload_n hx hb dX0_pack_16 rfl (lv_at hl 3 rfl) ?_
        refine lv_iload_n hx hb dX0_pack_17 rfl (lv_at hl 1 rfl) ?_
        refine zcallI (rest := []) hx hb hml hown hts hK clX0_0_fits (mX_fits l D h ad dB dS dN dZ n ab df bt kn mt co be li ll ck sh ec es eo em ro1 dn c1 a Kc b hc1 (by omega) hK8 hkc hb8) ⟨Nat.le_of_ble_eq_true rfl, Nat.le_of_ble_eq_true rfl⟩ hW ⟨0, _, _, rfl, rfl, rfl⟩ rfl hl.1 rfl (Nat.le_of_ble_eq_true rfl) dX0_pack_18 ⟨Nat.le_refl 0, Nat.le_refl 0⟩ (fun v u H locs hv hW => ?_)
        rcases hv with ⟨rfl, hfa⟩ | ⟨rfl, hnf⟩
        · have _ := 0
          refine lv_if_ne (tgt := 33) hx hb dX0_pack_21 (by decide) (fun c21 => ?_) (fun c21 => ?_)
          · have _ := 0
            refine lv_aload_n hx hb dX0_pack_33 rfl (lv_at hl 2 rfl) ?_
            refine zg0_sh hx hb hts hown hK hW dX0_pack_34 ?_
            refine lv_iload_n hx hb dX0_pack_37 rfl (lv_at hl 3 rfl) ?_
            refine lv_iload_n hx hb dX0_pack_38 rfl (lv_at hl 1 rfl) ?_
            refine lv_i2b (v := (nI a)) hx hb dX0_pack_39 (z_i2b (by omega)) ?_
            refine z_bast (v := (nI a)) hx hb hK hW 8 0 rfl rfl c1 rfl (by omega) (by decide) (z_narb (by omega)) dX0_pack_40 (fun H locs hW => ?_)
            have hW : zH D A s (wX h ad dB dS (nI n) ab df bt kn mt co be li ll ck (upd sh c1 (nI a)) ec es eo em ro1 dn) H locs := hW
            refine lv_iconst (v := (nI 0)) hx hb dX0_pack_41 (by decide) ?_
            refine lv_istore_n (lv' := [(3, .int (nI 0)), (2, .int (nI a)), (0, .ref h), (1, .int (nI c1))]) hx hb dX0_pack_42 rfl hl (by decide) rfl (fun ls hl => ?_)
            have hloop43 : ∀ (N : Nat) (i : Nat) (ec2 es2 eo2 em2 : Nat → Int32), 8 < i + N → (i ≤ 8) → (PkI Kc c1 a i b w df ec es eo em ec2 es2 eo2 em2) → ∀ (H : Heap) (locs : List Loc) (ls : Array Slot), zH D A s (wX h ad dB dS (nI n) ab df bt kn mt co be li ll ck (upd sh c1 (nI a)) ec2 es2 eo2 em2 ro1 dn) H locs → lv_has ls 6 [(3, .int (nI i)), (2, .int (nI a)), (0, .ref h), (1, .int (nI c1))] → W p l e (zR 2) s m args below meth c H locs 0 0 Q (F0 m 43 ls []) := by
              intro N
              induction N with
              | zero =>
                intro i  ec2 es2 eo2 em2  hM hi hpk H locs ls hW hl
                exact absurd hM (by omega)
              | succ N ih43 =>
                intro i  ec2 es2 eo2 em2  hM hi hpk H locs ls hW hl
                refine lv_iload_n hx hb dX0_pack_43 rfl (lv_at hl 0 rfl) ?_
                refine lv_bipush (v := (nI 8)) hx hb dX0_pack_44 (by decide) ?_
                refine lv_icmp_ge (tgt := 133) hx hb dX0_pack_46 (by decide) (fun c46 => ?_) (fun c46 => ?_)
                · have _ := 0
                  have c46 : 8 ≤ i := z_le (by omega) (by omega) c46
                  exact hend (upd sh c1 (nI a), ec2, es2, eo2, em2, ro1) _ _ _ _ (pkr_of haB hfa (by rw [show i = 8 by omega] at hpk; exact hpk)) hW dX0_pack_133
                · have _ := 0
                  have c46 : i < 8 := z_nle (by omega) (by omega) c46
                  have hbi8 := (hb8 i c46).1
                  refine lv_aload_n hx hb dX0_pack_49 rfl (lv_at hl 2 rfl) ?_
                  refine zg0_kn hx hb hts hown hK hW dX0_pack_50 ?_
                  refine lv_iload_n hx hb dX0_pack_53 rfl (lv_at hl 3 rfl) ?_
                  refine z_sald hx hb hK hW 3 1 rfl rfl c1 rfl (by omega) (by decide) dX0_pack_54 ?_
                  refine z_top (show (kn c1) = (nI Kc) from hkc) ?_
                  refine lv_iload_n hx hb dX0_pack_55 rfl (lv_at hl 0 rfl) ?_
                  refine lv_ishr hx hb dX0_pack_56 ?_
                  refine lv_iconst (v := (nI 1)) hx hb dX0_pack_57 (by decide) ?_
                  refine lv_iand hx hb dX0_pack_58 ?_
                  refine z_top (show (((nI Kc) >>> ((nI i) &&& 31)) &&& (nI 1)) = (nI (Kc.testBit i).toNat) from z_bit (by omega) (by omega)) ?_
                  refine lv_if_eq (tgt := 127) hx hb dX0_pack_59 (by decide) (fun c59 => ?_) (fun c59 => ?_)
                  · have _ := 0
                    have c59 : (Kc.testBit i) = false := z_b0 c59
                    refine lv_iinc (v := (nI (i + 1))) (lv' := [(3, .int (nI (i + 1))), (2, .int (nI a)), (0, .ref h), (1, .int (nI c1))]) hx hb dX0_pack_127 hl (k := 0) rfl (z_inc _) (by decide) rfl (fun ls hl => ?_)
                    refine lv_goto (tgt := 43) hx hb dX0_pack_130 (by decide) ?_
                    exact ih43 (i + 1) ec2 es2 eo2 em2 (by omega) (by omega) (pki_skip hpk c59) _ _ _ hW (lv_sub hl [0, 1, 2, 3] rfl)
                  · have _ := 0
                    have c59 : (Kc.testBit i) = true := z_b1 c59
                    have hwi := hw8 i c46 c59
                    refine lv_iload_n hx hb dX0_pack_62 rfl (lv_at hl 1 rfl) ?_
                    refine lv_aload_n hx hb dX0_pack_63 rfl (lv_at hl 2 rfl) ?_
                    refine zg0_be hx hb hts hown hK hW dX0_pack_64 ?_
                    refine lv_iload_n hx hb dX0_pack_67 rfl (lv_at hl 0 rfl) ?_
                    refine z_bald hx hb hK hW 6 0 rfl rfl i rfl (by omega) (by decide) dX0_pack_68 ?_
                    refine z_top (show (be i) = (nI (b i)) from (hb8 i c46).2) ?_
                    refine lv_iadd hx hb dX0_pack_69 ?_
                    refine z_top (show ((nI a) + (nI (b i))) = (nI (a + (b i))) from nI_add _ _) ?_
                    refine lv_istore (lv' := [(4, .int (nI (a + (b i)))), (3, .int (nI i)), (2, .int (nI a)), (0, .ref h), (1, .int (nI c1))]) hx hb dX0_pack_70 hl (by decide) rfl (fun ls hl => ?_)
                    refine lv_aload_n hx hb dX0_pack_72 rfl (lv_at hl 3 rfl) ?_
                    refine zg0_ro hx hb hts hown hK hW dX0_pack_73 ?_
                    refine lv_iload_n hx hb dX0_pack_76 rfl (lv_at hl 1 rfl) ?_
                    refine z_bald hx hb hK hW 13 0 rfl rfl i rfl (by omega) (by decide) dX0_pack_77 ?_
                    refine z_top (show (ro1 i) = (nI (w i)) from hro i c46 c59) ?_
                    refine lv_istore (lv' := [(5, .int (nI (w i))), (4, .int (nI (a + (b i)))), (3, .int (nI i)), (2, .int (nI a)), (0, .ref h), (1, .int (nI c1))]) hx hb dX0_pack_78 hl (by decide) rfl (fun ls hl => ?_)
                    refine lv_aload_n hx hb dX0_pack_80 rfl (lv_at hl 4 rfl) ?_
                    refine zg0_ec hx hb hts hown hK hW dX0_pack_81 ?_
                    refine lv_iload hx hb dX0_pack_84 (lv_at hl 1 rfl) ?_
                    refine lv_iload_n hx hb dX0_pack_86 rfl (lv_at hl 5 rfl) ?_
                    refine lv_i2b (v := (nI c1)) hx hb dX0_pack_87 (z_i2b (by omega)) ?_
                    refine z_bast (v := (nI c1)) hx hb hK hW 9 0 rfl rfl (a + (b i)) rfl (by omega) (by decide) (z_narb (by omega)) dX0_pack_88 (fun H locs hW => ?_)
                    have hW : zH D A s (wX h ad dB dS (nI n) ab df bt kn mt co be li ll ck (upd sh c1 (nI a)) (upd ec2 (a + (b i)) (nI c1)) es2 eo2 em2 ro1 dn) H locs := hW
                    refine lv_aload_n hx hb dX0_pack_89 rfl (lv_at hl 4 rfl) ?_
                    refine zg0_es hx hb hts hown hK hW dX0_pack_90 ?_
                    refine lv_iload hx hb dX0_pack_93 (lv_at hl 1 rfl) ?_
                    refine lv_iload_n hx hb dX0_pack_95 rfl (lv_at hl 2 rfl) ?_
                    refine lv_i2b (v := (nI i)) hx hb dX0_pack_96 (z_i2b (by omega)) ?_
                    refine z_bast (v := (nI i)) hx hb hK hW 10 0 rfl rfl (a + (b i)) rfl (by omega) (by decide) (z_narb (by omega)) dX0_pack_97 (fun H locs hW => ?_)
                    have hW : zH D A s (wX h ad dB dS (nI n) ab df bt kn mt co be li ll ck (upd sh c1 (nI a)) (upd ec2 (a + (b i)) (nI c1)) (upd es2 (a + (b i)) (nI i)) eo2 em2 ro1 dn) H locs := hW
                    refine lv_aload_n hx hb dX0_pack_98 rfl (lv_at hl 4 rfl) ?_
                    refine zg0_eo hx hb hts hown hK hW dX0_pack_99 ?_
                    refine lv_iload hx hb dX0_pack_102 (lv_at hl 1 rfl) ?_
                    refine lv_iload hx hb dX0_pack_104 (lv_at hl 0 rfl) ?_
                    refine lv_i2b (v := (nI (w i))) hx hb dX0_pack_106 (z_i2b (by omega)) ?_
                    refine z_bast (v := (nI (w i))) hx hb hK hW 11 0 rfl rfl (a + (b i)) rfl (by omega) (by decide) (z_narb (by omega)) dX0_pack_107 (fun H locs hW => ?_)
                    have hW : zH D A s (wX h ad dB dS (nI n) ab df bt kn mt co be li ll ck (upd sh c1 (nI a)) (upd ec2 (a + (b i)) (nI c1)) (upd es2 (a + (b i)) (nI i)) (upd eo2 (a + (b i)) (nI (w i))) em2 ro1 dn) H locs := hW
                    refine lv_aload_n hx hb dX0_pack_108 rfl (lv_at hl 4 rfl) ?_
                    refine zg0_em hx hb hts hown hK hW dX0_pack_109 ?_
                    refine lv_iload hx hb dX0_pack_112 (lv_at hl 1 rfl) ?_
                    refine lv_aload_n hx hb dX0_pack_114 rfl (lv_at hl 4 rfl) ?_
                    refine zg0_df hx hb hts hown hK hW dX0_pack_115 ?_
                    refine lv_iload hx hb dX0_pack_118 (lv_at hl 0 rfl) ?_
                    refine lv_bipush (v := (nI 8)) hx hb dX0_pack_120 (by decide) ?_
                    refine lv_imul hx hb dX0_pack_122 ?_
                    refine z_top (show ((nI (w i)) * (nI 8)) = (nI ((w i) * 8)) from pk_mul _ _) ?_
                    refine lv_iload_n hx hb dX0_pack_123 rfl (lv_at hl 2 rfl) ?_
                    refine lv_iadd hx hb dX0_pack_124 ?_
                    refine z_top (show ((nI ((w i) * 8)) + (nI i)) = (nI (((w i) * 8) + i)) from nI_add _ _) ?_
                    refine z_sald hx hb hK hW 2 1 rfl rfl (8 * w i + i) (by rw [Nat.mul_comm 8 (w i)]) (by omega) (by decide) dX0_pack_125 ?_
                    refine z_sast (v := (df (8 * w i + i))) hx hb hK hW 12 1 rfl rfl (a + (b i)) rfl (by omega) (by decide) (nar_df (hdf _ (by omega))) dX0_pack_126 (fun H locs hW => ?_)
                    have hW : zH D A s (wX h ad dB dS (nI n) ab df bt kn mt co be li ll ck (upd sh c1 (nI a)) (upd ec2 (a + (b i)) (nI c1)) (upd es2 (a + (b i)) (nI i)) (upd eo2 (a + (b i)) (nI (w i))) (upd em2 (a + (b i)) (df (8 * w i + i))) ro1 dn) H locs := hW
                    refine lv_iinc (v := (nI (i + 1))) (lv' := [(3, .int (nI (i + 1))), (5, .int (nI (w i))), (4, .int (nI (a + (b i)))), (2, .int (nI a)), (0, .ref h), (1, .int (nI c1))]) hx hb dX0_pack_127 hl (k := 2) rfl (z_inc _) (by decide) rfl (fun ls hl => ?_)
                    refine lv_goto (tgt := 43) hx hb dX0_pack_130 (by decide) ?_
                    exact ih43 (i + 1) (upd ec2 (a + (b i)) (nI c1)) (upd es2 (a + (b i)) (nI i)) (upd eo2 (a + (b i)) (nI (w i))) (upd em2 (a + (b i)) (df (8 * w i + i))) (by omega) (by omega) (pki_next hbi hpk c46 c59) _ _ _ hW (lv_sub hl [0, 3, 4, 5] rfl)
            exact hloop43 9 0 ec es eo em (by omega) (by omega) pki_0 _ _ _ hW (lv_sub hl [0, 1, 2, 3] rfl)
          · have _ := 0
            exact absurd c21 (by decide)
        · have _ := 0
          have hltB : a + 1 ≤ B := pk_lt_B haB hfit hnf
          refine lv_if_ne (tgt := 33) hx hb dX0_pack_21 (by decide) (fun c21 => ?_) (fun c21 => ?_)
          · have _ := 0
            exact absurd c21 (by decide)
          · have _ := 0
            refine lv_iinc (v := (nI (a + 1))) (lv' := [(2, .int (nI (a + 1))), (3, .int (nI a)), (0, .ref h), (1, .int (nI c1))]) hx hb dX0_pack_24 hl (k := 1) rfl (z_inc _) (by decide) rfl (fun ls hl => ?_)
            refine lv_iinc (v := (nI (a + 1))) (lv' := [(3, .int (nI (a + 1))), (2, .int (nI (a + 1))), (0, .ref h), (1, .int (nI c1))]) hx hb dX0_pack_27 hl (k := 1) rfl (z_inc _) (by decide) rfl (fun ls hl => ?_)
            refine lv_goto (tgt := 9) hx hb dX0_pack_30 (by decide) ?_
            exact ih9 (a + 1) (by omega) hltB _ _ _ hW (lv_sub hl [0, 1, 2, 3] rfl)
  exact hloop9 (B + 1) 0 (by omega) (by omega) _ _ _ hW (lv_sub hl [0, 1, 2, 3] rfl)
end
section
set_option maxRecDepth 100000
set_option maxHeartbeats 4000000 in
set_option maxRecDepth 100000 in
theorem mX_build (l : Launch) (D : va_G) (h : Nat) (ad : Nat → Nat) (dB dS dN dZ : ClassId) (n : Nat) (ab df : Nat → Int32) (bt : Int32) (kn mt co be li : Nat → Int32) (ll ck : Int32) (sh ec es eo em ro dn : Nat → Int32) (U d : Nat → Int32)  (hL : LInv n U d) (hS : SysI n U d ab df bt kn mt be ck sh ec es eo em) : zMV l D (zT dB dS dN dZ) yX0_build cX0_build 2 3 [.ref h] (wX h ad dB dS (nI n) ab df bt kn mt co be li ll ck sh ec es eo em ro dn) (fun (u : (Nat → Int32) × (Nat → Nat → Int32)) => BuiltS n U d u.1 u.2) (fun u => wS h ad dB dS n u.1 u.2) := by
  refine zStartV (by decide) (Nat.le_of_ble_eq_true rfl) ?_
  intro p e s m args below meth c A Q ls hx hb hml hown hts hK hend hW hl
  have hown : s.vm.findClass RX0 = some m.cls := hown
  have hl : lv_has ls 2 [(0, .ref h)] := hl
  have hn : n ≤ 10 := hL.1
  have hU := hL.2.1
  have hab := hS.1
  have hdf := hS.2.1
  have hbe := hS.2.2.1
  refine lv_aload_n hx hb dX0_build_0 rfl (lv_at hl 0 rfl) ?_
  refine zg0_bt hx hb hts hown hK hW dX0_build_1 ?_
  refine lv_if_eq (tgt := 8) hx hb dX0_build_4 (by decide) (fun c4 => ?_) (fun c4 => ?_)
  · have _ := 0
    obtain ⟨rk, hrk⟩ := rank_of hL.2.2.1
    refine lv_aload_n hx hb dX0_build_8 rfl (lv_at hl 0 rfl) ?_
    refine lv_iconst (v := (nI 1)) hx hb dX0_build_9 (by decide) ?_
    refine zp0_bt hx hb hts hown hK hW rfl rfl dX0_build_10 (fun H locs hW => ?_)
    refine lv_aload_n hx hb dX0_build_13 rfl (lv_at hl 0 rfl) ?_
    refine zcallV (rest := []) hx hb hml hown hts hK clX0_0_sortDown (mX_sortDown l D h ad dB dS dN dZ n ab df (nI 1) kn mt co be li ll ck sh ec es eo em ro dn U rk hn hU hab hrk) ⟨Nat.le_of_ble_eq_true rfl, Nat.le_of_ble_eq_true rfl⟩ hW ⟨0, _, _, rfl, rfl, rfl⟩ rfl hl.1 rfl (Nat.le_of_ble_eq_true rfl) dX0_build_14 ⟨Nat.le_refl 0, Nat.le_refl 0⟩ (fun dn1 H locs hv hW => ?_)
    obtain ⟨o, ho, hdn⟩ := hv
    have hW : zH D A s (wX h ad dB dS (nI n) ab df (nI 1) kn mt co be li ll ck sh ec es eo em ro dn1) H locs := hW
    refine lv_aload_n hx hb dX0_build_17 rfl (lv_at hl 0 rfl) ?_
    refine zcallV (rest := []) hx hb hml hown hts hK clX0_0_learn (mX_learn l D h ad dB dS dN dZ n ab df (nI 1) kn mt co be li ll ck sh ec es eo em ro dn1 U d o hn hL hab hdf ho hdn) ⟨Nat.le_of_ble_eq_true rfl, Nat.le_of_ble_eq_true rfl⟩ hW ⟨0, _, _, rfl, rfl, rfl⟩ rfl hl.1 rfl (Nat.le_of_ble_eq_true rfl) dX0_build_18 ⟨Nat.le_refl 0, Nat.le_refl 0⟩ (fun kn1 H locs hkn hW => ?_)
    have hW : zH D A s (wX h ad dB dS (nI n) ab df (nI 1) kn1 mt co be li ll ck sh ec es eo em ro dn1) H locs := hW
    refine lv_aload_n hx hb dX0_build_21 rfl (lv_at hl 0 rfl) ?_
    refine zcallV (rest := []) hx hb hml hown hts hK clX0_0_meet (mX_meet l D h ad dB dS dN dZ n ab df (nI 1) kn1 mt co be li ll ck sh ec es eo em ro dn1 U d hn hkn) ⟨Nat.le_of_ble_eq_true rfl, Nat.le_of_ble_eq_true rfl⟩ hW ⟨0, _, _, rfl, rfl, rfl⟩ rfl hl.1 rfl (Nat.le_of_ble_eq_true rfl) dX0_build_22 ⟨Nat.le_refl 0, Nat.le_refl 0⟩ (fun mt1 H locs hmt hW => ?_)
    have hW : zH D A s (wX h ad dB dS (nI n) ab df (nI 1) kn1 mt1 co be li ll ck sh ec es eo em ro dn1) H locs := hW
    refine lv_aload_n hx hb dX0_build_25 rfl (lv_at hl 0 rfl) ?_
    refine zcallV (rest := []) hx hb hml hown hts hK clX0_0_paint (mX_paint l D h ad dB dS dN dZ n ab df (nI 1) kn1 mt1 co be li ll ck sh ec es eo em ro dn1 (fun s => Mf U d s n) (fun s _ => Mf_lt U d s n) hmt (fun a b _ _ => Mf_sym U d n a b) hbe) ⟨Nat.le_of_ble_eq_true rfl, Nat.le_of_ble_eq_true rfl⟩ hW ⟨0, _, _, rfl, rfl, rfl⟩ rfl hl.1 rfl (Nat.le_of_ble_eq_true rfl) dX0_build_26 ⟨Nat.le_refl 0, Nat.le_refl 0⟩ (fun u1 H locs hv hW => ?_)
    obtain ⟨co1, be1, li1, L1, x⟩ := u1
    obtain ⟨hchi, hx8, b, hbst⟩ := hv
    have hchi : IsChi (fun s => Mf U d s n) x := hchi
    have hx8 : x ≤ 8 := hx8
    have hbst : Bst (fun s => Mf U d s n) be1 b := hbst
    have hW : zH D A s (wX h ad dB dS (nI n) ab df (nI 1) kn1 mt1 co1 be1 li1 (nI L1) (nI x) sh ec es eo em ro dn1) H locs := hW
    refine lv_iconst (v := (nI 0)) hx hb dX0_build_29 (by decide) ?_
    refine lv_istore_n (lv' := [(1, .int (nI 0)), (0, .ref h)]) hx hb dX0_build_30 rfl hl (by decide) rfl (fun ls hl => ?_)
    have hloop31 : ∀ (N : Nat) (i : Nat) (ec1 : Nat → Int32), 96 < i + N → (i ≤ 96) → (∀ k, k < i → ec1 k = -1) → ∀ (H : Heap) (locs : List Loc) (ls : Array Slot), zH D A s (wX h ad dB dS (nI n) ab df (nI 1) kn1 mt1 co1 be1 li1 (nI L1) (nI x) sh ec1 es eo em ro dn1) H locs → lv_has ls 2 [(1, .int (nI i)), (0, .ref h)] → W p l e (zR 3) s m args below meth c H locs 0 0 Q (F0 m 31 ls []) := by
      intro N
      induction N with
      | zero =>
        intro i  ec1  hM hi hec H locs ls hW hl
        exact absurd hM (by omega)
      | succ N ih31 =>
        intro i  ec1  hM hi hec H locs ls hW hl
        refine lv_iload_n hx hb dX0_build_31 rfl (lv_at hl 0 rfl) ?_
        refine lv_bipush (v := (nI 96)) hx hb dX0_build_32 (by decide) ?_
        refine lv_icmp_ge (tgt := 50) hx hb dX0_build_34 (by decide) (fun c34 => ?_) (fun c34 => ?_)
        · have _ := 0
          have c34 : 96 ≤ i := z_le (by omega) (by omega) c34
          refine lv_iconst (v := (nI 0)) hx hb dX0_build_50 (by decide) ?_
          refine lv_istore_n (lv' := [(1, .int (nI 0)), (0, .ref h)]) hx hb dX0_build_51 rfl hl (by decide) rfl (fun ls hl => ?_)
          have hloop52 : ∀ (N : Nat) (k : Nat) (sh2 ec2 es2 eo2 em2 ro2 : Nat → Int32), n < k + N → (k ≤ n) → (PB U d o b k sh2 ec2 es2 eo2 em2) → ∀ (H : Heap) (locs : List Loc) (ls : Array Slot), zH D A s (wX h ad dB dS (nI n) ab df (nI 1) kn1 mt1 co1 be1 li1 (nI L1) (nI x) sh2 ec2 es2 eo2 em2 ro2 dn1) H locs → lv_has ls 2 [(1, .int (nI k)), (0, .ref h)] → W p l e (zR 3) s m args below meth c H locs 0 0 Q (F0 m 52 ls []) := by
            intro N
            induction N with
            | zero =>
              intro k  sh2 ec2 es2 eo2 em2 ro2  hM hk hpb H locs ls hW hl
              exact absurd hM (by omega)
            | succ N ih52 =>
              intro k  sh2 ec2 es2 eo2 em2 ro2  hM hk hpb H locs ls hW hl
              refine lv_iload_n hx hb dX0_build_52 rfl (lv_at hl 0 rfl) ?_
              refine lv_aload_n hx hb dX0_build_53 rfl (lv_at hl 1 rfl) ?_
              refine zg0_cn hx hb hts hown hK hW dX0_build_54 ?_
              refine lv_icmp_ge (tgt := 76) hx hb dX0_build_57 (by decide) (fun c57 => ?_) (fun c57 => ?_)
              · have _ := 0
                have c57 : n ≤ k := z_le (by omega) (by omega) c57
                obtain rfl : n = k := by omega
                exact hend ((mkF (nI 1) (nI L1) (nI x)), (mkS ab df kn1 mt1 co1 be1 li1 sh2 ec2 es2 eo2 em2 ro2 dn1)) _ _ _ _ (⟨hab, hdf, rfl, pb_done ho hkn hmt hchi hx8 hbst hpb⟩) hW dX0_build_76
              · have _ := 0
                have c57 : k < n := z_nle (by omega) (by omega) c57
                have hok : o k < n := ho.1 k c57
                refine lv_aload_n hx hb dX0_build_60 rfl (lv_at hl 1 rfl) ?_
                refine lv_aload_n hx hb dX0_build_61 rfl (lv_at hl 1 rfl) ?_
                refine zg0_dn hx hb hts hown hK hW dX0_build_62 ?_
                refine lv_iload_n hx hb dX0_build_65 rfl (lv_at hl 0 rfl) ?_
                refine z_bald hx hb hK hW 14 0 rfl rfl k rfl (by omega) (by decide) dX0_build_66 ?_
                refine z_top (show (dn1 k) = (nI (o k)) from hdn k c57) ?_
                refine zcallV (rest := []) hx hb hml hown hts hK clX0_0_pack (mX_pack l D h ad dB dS dN dZ n ab df (nI 1) kn1 mt1 co1 be1 li1 (nI L1) (nI x) sh2 ec2 es2 eo2 em2 ro2 dn1 (o k) (Kf U d (o k)) (8 * k) b (wn U d (o k)) (by omega) (Kf_lt U d (o k)) (hkn _ hok) hbst.1 (bst_inj hbst hok) (fun s hs hb => Nat.lt_of_lt_of_le (wn_eq hL hok hs hb).1 hn) (fun j hj => by rw [hdf j hj]; exact hL.2.2.2.1 j hj) (fun s hs _ h0 => wn_own hL hok hs (by rw [← hdf _ (by omega)]; exact h0)) (pb_own2 hL ho c57 hab hdf hpb) (by omega) (pb_fit hpb (by omega) (fun s hs => (hbst.1 s hs).1) _)) ⟨Nat.le_of_ble_eq_true rfl, Nat.le_of_ble_eq_true rfl⟩ hW ⟨0, _, _, rfl, rfl, rfl⟩ rfl hl.1 rfl (Nat.le_of_ble_eq_true rfl) dX0_build_67 ⟨Nat.le_refl 0, Nat.le_refl 0⟩ (fun u2 H locs hpk hW => ?_)
                obtain ⟨sh3, ec3, es3, eo3, em3, ro3⟩ := u2
                have hpk : PkR (Kf U d (o k)) (o k) (8 * k) b (wn U d (o k)) df sh2 ec2 es2 eo2 em2 sh3 ec3 es3 eo3 em3 := hpk
                have hW : zH D A s (wX h ad dB dS (nI n) ab df (nI 1) kn1 mt1 co1 be1 li1 (nI L1) (nI x) sh3 ec3 es3 eo3 em3 ro3 dn1) H locs := hW
                refine lv_iinc (v := (nI (k + 1))) (lv' := [(1, .int (nI (k + 1))), (0, .ref h)]) hx hb dX0_build_70 hl (k := 0) rfl (z_inc _) (by decide) rfl (fun ls hl => ?_)
                refine lv_goto (tgt := 52) hx hb dX0_build_73 (by decide) ?_
                exact ih52 (k + 1) sh3 ec3 es3 eo3 em3 ro3 (by omega) (by omega) (pb_next hL ho c57 hdf (fun s hs => (hbst.1 s hs).1) hpb hpk) _ _ _ hW (lv_sub hl [0, 1] rfl)
          exact hloop52 (n + 1) 0 sh ec1 es eo em ro (by omega) (by omega) (pb_0 (fun i hi => hec i (by omega))) _ _ _ hW (lv_sub hl [0, 1] rfl)
        · have _ := 0
          have c34 : i < 96 := z_nle (by omega) (by omega) c34
          refine lv_aload_n hx hb dX0_build_37 rfl (lv_at hl 1 rfl) ?_
          refine zg0_ec hx hb hts hown hK hW dX0_build_38 ?_
          refine lv_iload_n hx hb dX0_build_41 rfl (lv_at hl 0 rfl) ?_
          refine lv_iconst (v := (-1)) hx hb dX0_build_42 (by decide) ?_
          refine z_bast (v := (-1)) hx hb hK hW 9 0 rfl rfl i rfl (by omega) (by decide) (by decide) dX0_build_43 (fun H locs hW => ?_)
          have hW : zH D A s (wX h ad dB dS (nI n) ab df (nI 1) kn1 mt1 co1 be1 li1 (nI L1) (nI x) sh (upd ec1 i (-1)) es eo em ro dn1) H locs := hW
          refine lv_iinc (v := (nI (i + 1))) (lv' := [(1, .int (nI (i + 1))), (0, .ref h)]) hx hb dX0_build_44 hl (k := 0) rfl (z_inc _) (by decide) rfl (fun ls hl => ?_)
          refine lv_goto (tgt := 31) hx hb dX0_build_47 (by decide) ?_
          exact ih31 (i + 1) (upd ec1 i (-1)) (by omega) (by omega) (ec_next hec) _ _ _ hW (lv_sub hl [0, 1] rfl)
    exact hloop31 97 0 ec (by omega) (by omega) (fun k hk => absurd hk (by omega)) _ _ _ hW (lv_sub hl [0, 1] rfl)
  · have _ := 0
    exact hend ((mkF bt ll ck), (mkS ab df kn mt co be li sh ec es eo em ro dn)) _ _ _ _ (bs_same hS c4) hW dX0_build_7
set_option maxHeartbeats 4000000 in
set_option maxRecDepth 100000 in
theorem mX_entry (l : Launch) (D : va_G) (h : Nat) (ad : Nat → Nat) (dB dS dN dZ : ClassId) (n : Nat) (ab df : Nat → Int32) (bt : Int32) (kn mt co be li : Nat → Int32) (ll ck : Int32) (sh ec es eo em ro dn : Nat → Int32) (U d : Nat → Int32) (x1 : Int32) (x2 : Int32) (hL : LInv n U d) (hS : SysI n U d ab df bt kn mt be ck sh ec es eo em) : zMI l D (zT dB dS dN dZ) yX0_entry cX0_entry 4 .int 4 [.ref h, .int x1, .int x2] (wX h ad dB dS (nI n) ab df bt kn mt co be li ll ck sh ec es eo em ro dn) (fun v (u : (Nat → Int32) × (Nat → Nat → Int32)) => Sys n U d u.1 u.2 ∧ EntR n U d x1 x2 v u.2) (fun u => wS h ad dB dS n u.1 u.2) := by
  refine zStartI (by decide) (Nat.le_of_ble_eq_true rfl) ?_
  intro p e s m args below meth c A Q ls hx hb hml hown hts hK hend hW hl
  have hown : s.vm.findClass RX0 = some m.cls := hown
  have hl : lv_has ls 4 [(0, .ref h), (1, .int x1), (2, .int x2)] := hl
  have hn : n ≤ 10 := hL.1
  have hU := hL.2.1
  have hab := hS.1
  have hdf := hS.2.1
  have hbe := hS.2.2.1
  refine lv_aload_n hx hb dX0_entry_0 rfl (lv_at hl 0 rfl) ?_
  refine lv_iload_n hx hb dX0_entry_1 rfl (lv_at hl 1 rfl) ?_
  refine zcallI (rest := []) hx hb hml hown hts hK clX0_0_isClass (mX_isClass l D h ad dB dS dN dZ n ab df bt kn mt co be li ll ck sh ec es eo em ro dn x1 hn) ⟨Nat.le_of_ble_eq_true rfl, Nat.le_of_ble_eq_true rfl⟩ hW ⟨0, _, _, rfl, rfl, rfl⟩ rfl hl.1 rfl (Nat.le_of_ble_eq_true rfl) dX0_entry_2 ⟨Nat.le_refl 0, Nat.le_refl 0⟩ (fun v u H locs hv hW => ?_)
  rcases hv with ⟨rfl, k, hk, rfl⟩ | ⟨rfl, hc⟩
  · have _ := 0
    refine lv_if_eq (tgt := 15) hx hb dX0_entry_5 (by decide) (fun c5 => ?_) (fun c5 => ?_)
    · have _ := 0
      exact absurd c5 (by decide)
    · have _ := 0
      refine lv_iload_n hx hb dX0_entry_8 rfl (lv_at hl 2 rfl) ?_
      refine zcallS (rest := []) hx hb hml hown hts hK clX0_0_isSelector (mX_isSelector l D h ad dB dS dN dZ n ab df bt kn mt co be li ll ck sh ec es eo em ro dn x2) ⟨Nat.le_of_ble_eq_true rfl, Nat.le_of_ble_eq_true rfl⟩ hW rfl hl.1 rfl (Nat.le_of_ble_eq_true rfl) dX0_entry_9 ⟨Nat.le_refl 0, Nat.le_refl 0⟩ (fun v u H locs hv hW => ?_)
      rcases hv with ⟨rfl, j, hj, rfl⟩ | ⟨rfl, hs⟩
      · have _ := 0
        refine lv_if_ne (tgt := 17) hx hb dX0_entry_12 (by decide) (fun c12 => ?_) (fun c12 => ?_)
        · have _ := 0
          refine lv_aload_n hx hb dX0_entry_17 rfl (lv_at hl 0 rfl) ?_
          refine zcallV (rest := []) hx hb hml hown hts hK clX0_0_build (mX_build l D h ad dB dS dN dZ n ab df bt kn mt co be li ll ck sh ec es eo em ro dn U d hL hS) ⟨Nat.le_of_ble_eq_true rfl, Nat.le_of_ble_eq_true rfl⟩ hW ⟨0, _, _, rfl, rfl, rfl⟩ rfl hl.1 rfl (Nat.le_of_ble_eq_true rfl) dX0_entry_18 ⟨Nat.le_refl 0, Nat.le_refl 0⟩ (fun u1 H locs hbs hW => ?_)
          obtain ⟨F1, S1⟩ := u1
          have hbs : BuiltS n U d F1 S1 := hbs
          have hW : zH D A s (wX h ad dB dS (nI n) (S1 1) (S1 2) (F1 3) (S1 4) (S1 5) (S1 6) (S1 7) (S1 8) (F1 9) (F1 10) (S1 11) (S1 12) (S1 13) (S1 14) (S1 15) (S1 16) (S1 17)) H locs := hW
          obtain ⟨-, -, -, b, hbst, hents, hneg⟩ := hbs.2.2.2
          obtain ⟨x, hx80, hshx, hent⟩ := hents k hk
          have hbj := (hbst.1 j hj).1
          refine lv_aload_n hx hb dX0_entry_21 rfl (lv_at hl 0 rfl) ?_
          refine zg0_sh hx hb hts hown hK hW dX0_entry_22 ?_
          refine lv_iload_n hx hb dX0_entry_25 rfl (lv_at hl 1 rfl) ?_
          refine z_bald hx hb hK hW 8 0 rfl rfl k rfl (by omega) (by decide) dX0_entry_26 ?_
          refine z_top (show ((S1 11) k) = (nI x) from hshx) ?_
          refine lv_aload_n hx hb dX0_entry_27 rfl (lv_at hl 0 rfl) ?_
          refine zg0_be hx hb hts hown hK hW dX0_entry_28 ?_
          refine lv_iload_n hx hb dX0_entry_31 rfl (lv_at hl 2 rfl) ?_
          refine z_bald hx hb hK hW 6 0 rfl rfl j rfl (by omega) (by decide) dX0_entry_32 ?_
          refine z_top (show ((S1 7) j) = (nI (b j)) from (hbst.1 j hj).2) ?_
          refine lv_iadd hx hb dX0_entry_33 ?_
          refine z_top (show ((nI x) + (nI (b j))) = (nI (x + (b j))) from nI_add _ _) ?_
          refine lv_istore_n (lv' := [(3, .int (nI (x + (b j)))), (0, .ref h), (1, .int (nI k)), (2, .int (nI j))]) hx hb dX0_entry_34 rfl hl (by decide) rfl (fun ls hl => ?_)
          refine lv_aload_n hx hb dX0_entry_35 rfl (lv_at hl 1 rfl) ?_
          refine zg0_ec hx hb hts hown hK hW dX0_entry_36 ?_
          refine lv_iload_n hx hb dX0_entry_39 rfl (lv_at hl 0 rfl) ?_
          refine z_bald hx hb hK hW 9 0 rfl rfl (x + (b j)) rfl (by omega) (by decide) dX0_entry_40 ?_
          refine lv_iload_n hx hb dX0_entry_41 rfl (lv_at hl 2 rfl) ?_
          refine lv_icmp_ne (tgt := 59) hx hb dX0_entry_42 (by decide) (fun c42 => ?_) (fun c42 => ?_)
          · have _ := 0
            refine lv_iconst (v := (-1)) hx hb dX0_entry_59 (by decide) ?_
            exact hend _ (F1, S1) _ _ _ _ rfl (⟨hbs.sys, ent_not hk hj hent (fun q => c42 q.1)⟩) hW dX0_entry_60
          · have _ := 0
            refine lv_aload_n hx hb dX0_entry_45 rfl (lv_at hl 1 rfl) ?_
            refine zg0_es hx hb hts hown hK hW dX0_entry_46 ?_
            refine lv_iload_n hx hb dX0_entry_49 rfl (lv_at hl 0 rfl) ?_
            refine z_bald hx hb hK hW 10 0 rfl rfl (x + (b j)) rfl (by omega) (by decide) dX0_entry_50 ?_
            refine lv_iload_n hx hb dX0_entry_51 rfl (lv_at hl 3 rfl) ?_
            refine lv_icmp_ne (tgt := 59) hx hb dX0_entry_52 (by decide) (fun c52 => ?_) (fun c52 => ?_)
            · have _ := 0
              refine lv_iconst (v := (-1)) hx hb dX0_entry_59 (by decide) ?_
              exact hend _ (F1, S1) _ _ _ _ rfl (⟨hbs.sys, ent_not hk hj hent (fun q => c52 q.2)⟩) hW dX0_entry_60
            · have _ := 0
              refine lv_iload_n hx hb dX0_entry_55 rfl (lv_at hl 0 rfl) ?_
              refine lv_goto (tgt := 60) hx hb dX0_entry_56 (by decide) ?_
              exact hend _ (F1, S1) _ _ _ _ rfl (⟨hbs.sys, ent_yes hk hn hj hx80 (hbst.1 j hj).1 hent hneg rfl rfl c42 c52⟩) hW dX0_entry_60
        · have _ := 0
          exact absurd c12 (by decide)
      · have _ := 0
        refine lv_if_ne (tgt := 17) hx hb dX0_entry_12 (by decide) (fun c12 => ?_) (fun c12 => ?_)
        · have _ := 0
          exact absurd c12 (by decide)
        · have _ := 0
          refine lv_iconst (v := (-1)) hx hb dX0_entry_15 (by decide) ?_
          exact hend _ ((mkF bt ll ck), (mkS ab df kn mt co be li sh ec es eo em ro dn)) _ _ _ _ rfl (⟨hS, ent_no (fun k1 j1 q => hs j1 q.2.1 q.2.2.2)⟩) hW dX0_entry_16
  · have _ := 0
    refine lv_if_eq (tgt := 15) hx hb dX0_entry_5 (by decide) (fun c5 => ?_) (fun c5 => ?_)
    · have _ := 0
      refine lv_iconst (v := (-1)) hx hb dX0_entry_15 (by decide) ?_
      exact hend _ ((mkF bt ll ck), (mkS ab df kn mt co be li sh ec es eo em ro dn)) _ _ _ _ rfl (⟨hS, ent_no (fun k1 j1 q => hc k1 q.1 q.2.2.1)⟩) hW dX0_entry_16
    · have _ := 0
      exact absurd c5 (by decide)
set_option maxHeartbeats 4000000 in
set_option maxRecDepth 100000 in
theorem mX_send (l : Launch) (D : va_G) (h : Nat) (ad : Nat → Nat) (dB dS dN dZ : ClassId) (n : Nat) (ab df : Nat → Int32) (bt : Int32) (kn mt co be li : Nat → Int32) (ll ck : Int32) (sh ec es eo em ro dn : Nat → Int32) (U d : Nat → Int32) (x1 : Int32) (x2 : Int32) (hL : LInv n U d) (hS : SysI n U d ab df bt kn mt be ck sh ec es eo em) : zMI l D (zT dB dS dN dZ) yX0_send cX0_send 4 .int 5 [.ref h, .int x1, .int x2] (wX h ad dB dS (nI n) ab df bt kn mt co be li ll ck sh ec es eo em ro dn) (fun v (u : (Nat → Int32) × (Nat → Nat → Int32)) => Sys n U d u.1 u.2 ∧ SndR n U d x1 x2 v) (fun u => wS h ad dB dS n u.1 u.2) := by
  refine zStartI (by decide) (Nat.le_of_ble_eq_true rfl) ?_
  intro p e s m args below meth c A Q ls hx hb hml hown hts hK hend hW hl
  have hown : s.vm.findClass RX0 = some m.cls := hown
  have hl : lv_has ls 4 [(0, .ref h), (1, .int x1), (2, .int x2)] := hl
  have hn : n ≤ 10 := hL.1
  have hU := hL.2.1
  have hab := hS.1
  have hdf := hS.2.1
  have hbe := hS.2.2.1
  refine lv_aload_n hx hb dX0_send_0 rfl (lv_at hl 0 rfl) ?_
  refine lv_iload_n hx hb dX0_send_1 rfl (lv_at hl 1 rfl) ?_
  refine lv_iload_n hx hb dX0_send_2 rfl (lv_at hl 2 rfl) ?_
  refine zcallI (rest := []) hx hb hml hown hts hK clX0_0_entry (mX_entry l D h ad dB dS dN dZ n ab df bt kn mt co be li ll ck sh ec es eo em ro dn U d x1 x2 hL hS) ⟨Nat.le_of_ble_eq_true rfl, Nat.le_of_ble_eq_true rfl⟩ hW ⟨0, _, _, rfl, rfl, rfl⟩ rfl hl.1 rfl (Nat.le_of_ble_eq_true rfl) dX0_send_3 ⟨Nat.le_refl 0, Nat.le_refl 0⟩ (fun v u1 H locs hv hW => ?_)
  obtain ⟨F1, S1⟩ := u1
  obtain ⟨hS1, hent⟩ := hv
  have hS1 : Sys n U d F1 S1 := hS1
  have hent : EntR n U d x1 x2 v S1 := hent
  have hW : zH D A s (wX h ad dB dS (nI n) (S1 1) (S1 2) (F1 3) (S1 4) (S1 5) (S1 6) (S1 7) (S1 8) (F1 9) (F1 10) (S1 11) (S1 12) (S1 13) (S1 14) (S1 15) (S1 16) (S1 17)) H locs := hW
  refine lv_istore_n (lv' := [(3, .int v), (0, .ref h), (1, .int x1), (2, .int x2)]) hx hb dX0_send_6 rfl hl (by decide) rfl (fun ls hl => ?_)
  refine lv_iload_n hx hb dX0_send_7 rfl (lv_at hl 0 rfl) ?_
  refine lv_if_ge (tgt := 15) hx hb dX0_send_8 (by decide) (fun c8 => ?_) (fun c8 => ?_)
  · have _ := 0
    obtain ⟨k, j, i, hcs, -, hi, rfl, -, h15⟩ := ent_pos hent c8
    refine lv_aload_n hx hb dX0_send_15 rfl (lv_at hl 1 rfl) ?_
    refine zg0_em hx hb hts hown hK hW dX0_send_16 ?_
    refine lv_iload_n hx hb dX0_send_19 rfl (lv_at hl 0 rfl) ?_
    refine z_sald hx hb hK hW 12 1 rfl rfl i rfl (by omega) (by decide) dX0_send_20 ?_
    exact hend _ (F1, S1) _ _ _ _ rfl (⟨hS1, Or.inl ⟨k, j, hcs, h15⟩⟩) hW dX0_send_21
  · have _ := 0
    refine lv_iconst (v := (nI 0)) hx hb dX0_send_11 (by decide) ?_
    refine lv_goto (tgt := 21) hx hb dX0_send_12 (by decide) ?_
    exact hend _ (F1, S1) _ _ _ _ rfl (⟨hS1, snd_neg hent c8⟩) hW dX0_send_21
set_option maxHeartbeats 4000000 in
set_option maxRecDepth 100000 in
theorem mX_owner (l : Launch) (D : va_G) (h : Nat) (ad : Nat → Nat) (dB dS dN dZ : ClassId) (n : Nat) (ab df : Nat → Int32) (bt : Int32) (kn mt co be li : Nat → Int32) (ll ck : Int32) (sh ec es eo em ro dn : Nat → Int32) (U d : Nat → Int32) (x1 : Int32) (x2 : Int32) (hL : LInv n U d) (hS : SysI n U d ab df bt kn mt be ck sh ec es eo em) : zMI l D (zT dB dS dN dZ) yX0_owner cX0_owner 4 .int 5 [.ref h, .int x1, .int x2] (wX h ad dB dS (nI n) ab df bt kn mt co be li ll ck sh ec es eo em ro dn) (fun v (u : (Nat → Int32) × (Nat → Nat → Int32)) => Sys n U d u.1 u.2 ∧ OwnR n U d x1 x2 v) (fun u => wS h ad dB dS n u.1 u.2) := by
  refine zStartI (by decide) (Nat.le_of_ble_eq_true rfl) ?_
  intro p e s m args below meth c A Q ls hx hb hml hown hts hK hend hW hl
  have hown : s.vm.findClass RX0 = some m.cls := hown
  have hl : lv_has ls 4 [(0, .ref h), (1, .int x1), (2, .int x2)] := hl
  have hn : n ≤ 10 := hL.1
  have hU := hL.2.1
  have hab := hS.1
  have hdf := hS.2.1
  have hbe := hS.2.2.1
  refine lv_aload_n hx hb dX0_owner_0 rfl (lv_at hl 0 rfl) ?_
  refine lv_iload_n hx hb dX0_owner_1 rfl (lv_at hl 1 rfl) ?_
  refine lv_iload_n hx hb dX0_owner_2 rfl (lv_at hl 2 rfl) ?_
  refine zcallI (rest := []) hx hb hml hown hts hK clX0_0_entry (mX_entry l D h ad dB dS dN dZ n ab df bt kn mt co be li ll ck sh ec es eo em ro dn U d x1 x2 hL hS) ⟨Nat.le_of_ble_eq_true rfl, Nat.le_of_ble_eq_true rfl⟩ hW ⟨0, _, _, rfl, rfl, rfl⟩ rfl hl.1 rfl (Nat.le_of_ble_eq_true rfl) dX0_owner_3 ⟨Nat.le_refl 0, Nat.le_refl 0⟩ (fun v u1 H locs hv hW => ?_)
  obtain ⟨F1, S1⟩ := u1
  obtain ⟨hS1, hent⟩ := hv
  have hS1 : Sys n U d F1 S1 := hS1
  have hent : EntR n U d x1 x2 v S1 := hent
  have hW : zH D A s (wX h ad dB dS (nI n) (S1 1) (S1 2) (F1 3) (S1 4) (S1 5) (S1 6) (S1 7) (S1 8) (F1 9) (F1 10) (S1 11) (S1 12) (S1 13) (S1 14) (S1 15) (S1 16) (S1 17)) H locs := hW
  refine lv_istore_n (lv' := [(3, .int v), (0, .ref h), (1, .int x1), (2, .int x2)]) hx hb dX0_owner_6 rfl hl (by decide) rfl (fun ls hl => ?_)
  refine lv_iload_n hx hb dX0_owner_7 rfl (lv_at hl 0 rfl) ?_
  refine lv_if_ge (tgt := 15) hx hb dX0_owner_8 (by decide) (fun c8 => ?_) (fun c8 => ?_)
  · have _ := 0
    obtain ⟨k, j, i, hcs, -, hi, rfl, h14, -⟩ := ent_pos hent c8
    refine lv_aload_n hx hb dX0_owner_15 rfl (lv_at hl 1 rfl) ?_
    refine zg0_eo hx hb hts hown hK hW dX0_owner_16 ?_
    refine lv_iload_n hx hb dX0_owner_19 rfl (lv_at hl 0 rfl) ?_
    refine z_bald hx hb hK hW 11 0 rfl rfl i rfl (by omega) (by decide) dX0_owner_20 ?_
    exact hend _ (F1, S1) _ _ _ _ rfl (⟨hS1, Or.inl ⟨k, j, hcs, h14⟩⟩) hW dX0_owner_21
  · have _ := 0
    refine lv_iconst (v := (-1)) hx hb dX0_owner_11 (by decide) ?_
    refine lv_goto (tgt := 21) hx hb dX0_owner_12 (by decide) ?_
    exact hend _ (F1, S1) _ _ _ _ rfl (⟨hS1, ow_neg hL hent c8⟩) hW dX0_owner_21
set_option maxHeartbeats 4000000 in
set_option maxRecDepth 100000 in
theorem mX_sendSuper (l : Launch) (D : va_G) (h : Nat) (ad : Nat → Nat) (dB dS dN dZ : ClassId) (n : Nat) (ab df : Nat → Int32) (bt : Int32) (kn mt co be li : Nat → Int32) (ll ck : Int32) (sh ec es eo em ro dn : Nat → Int32) (U d : Nat → Int32) (x1 : Int32) (x2 : Int32) (hL : LInv n U d) (hS : SysI n U d ab df bt kn mt be ck sh ec es eo em) : zMI l D (zT dB dS dN dZ) yX0_sendSuper cX0_sendSuper 3 .int 6 [.ref h, .int x1, .int x2] (wX h ad dB dS (nI n) ab df bt kn mt co be li ll ck sh ec es eo em ro dn) (fun v (u : (Nat → Int32) × (Nat → Nat → Int32)) => Sys n U d u.1 u.2 ∧ SupR n U d x1 x2 v) (fun u => wS h ad dB dS n u.1 u.2) := by
  refine zStartI (by decide) (Nat.le_of_ble_eq_true rfl) ?_
  intro p e s m args below meth c A Q ls hx hb hml hown hts hK hend hW hl
  have hown : s.vm.findClass RX0 = some m.cls := hown
  have hl : lv_has ls 3 [(0, .ref h), (1, .int x1), (2, .int x2)] := hl
  have hn : n ≤ 10 := hL.1
  have hU := hL.2.1
  have hab := hS.1
  have hdf := hS.2.1
  have hbe := hS.2.2.1
  refine lv_aload_n hx hb dX0_sendSuper_0 rfl (lv_at hl 0 rfl) ?_
  refine lv_iload_n hx hb dX0_sendSuper_1 rfl (lv_at hl 1 rfl) ?_
  refine zcallI (rest := []) hx hb hml hown hts hK clX0_0_isClass (mX_isClass l D h ad dB dS dN dZ n ab df bt kn mt co be li ll ck sh ec es eo em ro dn x1 hn) ⟨Nat.le_of_ble_eq_true rfl, Nat.le_of_ble_eq_true rfl⟩ hW ⟨0, _, _, rfl, rfl, rfl⟩ rfl hl.1 rfl (Nat.le_of_ble_eq_true rfl) dX0_sendSuper_2 ⟨Nat.le_refl 0, Nat.le_refl 0⟩ (fun v u H locs hv hW => ?_)
  rcases hv with ⟨rfl, k, hk, rfl⟩ | ⟨rfl, hc⟩
  · have _ := 0
    refine lv_if_eq (tgt := 17) hx hb dX0_sendSuper_5 (by decide) (fun c5 => ?_) (fun c5 => ?_)
    · have _ := 0
      exact absurd c5 (by decide)
    · have _ := 0
      refine lv_aload_n hx hb dX0_sendSuper_8 rfl (lv_at hl 0 rfl) ?_
      refine zg0_ab hx hb hts hown hK hW dX0_sendSuper_9 ?_
      refine lv_iload_n hx hb dX0_sendSuper_12 rfl (lv_at hl 1 rfl) ?_
      refine z_bald hx hb hK hW 1 0 rfl rfl k rfl (by omega) (by decide) dX0_sendSuper_13 ?_
      refine z_top (show (ab k) = (U k) from hab k hk) ?_
      refine lv_if_ge (tgt := 19) hx hb dX0_sendSuper_14 (by decide) (fun c14 => ?_) (fun c14 => ?_)
      · have _ := 0
        refine lv_aload_n hx hb dX0_sendSuper_19 rfl (lv_at hl 0 rfl) ?_
        refine lv_aload_n hx hb dX0_sendSuper_20 rfl (lv_at hl 0 rfl) ?_
        refine zg0_ab hx hb hts hown hK hW dX0_sendSuper_21 ?_
        refine lv_iload_n hx hb dX0_sendSuper_24 rfl (lv_at hl 1 rfl) ?_
        refine z_bald hx hb hK hW 1 0 rfl rfl k rfl (by omega) (by decide) dX0_sendSuper_25 ?_
        refine z_top (show (ab k) = (U k) from hab k hk) ?_
        refine lv_iload_n hx hb dX0_sendSuper_26 rfl (lv_at hl 2 rfl) ?_
        refine zcallI (rest := []) hx hb hml hown hts hK clX0_0_send (mX_send l D h ad dB dS dN dZ n ab df bt kn mt co be li ll ck sh ec es eo em ro dn U d (U k) x2 hL hS) ⟨Nat.le_of_ble_eq_true rfl, Nat.le_of_ble_eq_true rfl⟩ hW ⟨0, _, _, rfl, rfl, rfl⟩ rfl hl.1 rfl (Nat.le_of_ble_eq_true rfl) dX0_sendSuper_27 ⟨Nat.le_refl 0, Nat.le_refl 0⟩ (fun v u1 H locs hv hW => ?_)
        obtain ⟨F1, S1⟩ := u1
        have hW : zH D A s (wX h ad dB dS (nI n) (S1 1) (S1 2) (F1 3) (S1 4) (S1 5) (S1 6) (S1 7) (S1 8) (F1 9) (F1 10) (S1 11) (S1 12) (S1 13) (S1 14) (S1 15) (S1 16) (S1 17)) H locs := hW
        exact hend _ (F1, S1) _ _ _ _ rfl (⟨hv.1, Or.inl ⟨k, hk, rfl, hv.2⟩⟩) hW dX0_sendSuper_30
      · have _ := 0
        refine lv_iconst (v := (nI 0)) hx hb dX0_sendSuper_17 (by decide) ?_
        exact hend _ ((mkF bt ll ck), (mkS ab df kn mt co be li sh ec es eo em ro dn)) _ _ _ _ rfl (⟨hS, sup_neg hn hk c14⟩) hW dX0_sendSuper_18
  · have _ := 0
    refine lv_if_eq (tgt := 17) hx hb dX0_sendSuper_5 (by decide) (fun c5 => ?_) (fun c5 => ?_)
    · have _ := 0
      refine lv_iconst (v := (nI 0)) hx hb dX0_sendSuper_17 (by decide) ?_
      exact hend _ ((mkF bt ll ck), (mkS ab df kn mt co be li sh ec es eo em ro dn)) _ _ _ _ rfl (⟨hS, Or.inr ⟨hc, rfl⟩⟩) hW dX0_sendSuper_18
    · have _ := 0
      exact absurd c5 (by decide)
set_option maxHeartbeats 4000000 in
set_option maxRecDepth 100000 in
theorem mX_understands (l : Launch) (D : va_G) (h : Nat) (ad : Nat → Nat) (dB dS dN dZ : ClassId) (n : Nat) (ab df : Nat → Int32) (bt : Int32) (kn mt co be li : Nat → Int32) (ll ck : Int32) (sh ec es eo em ro dn : Nat → Int32) (U d : Nat → Int32) (x1 : Int32) (hL : LInv n U d) (hS : SysI n U d ab df bt kn mt be ck sh ec es eo em) : zMI l D (zT dB dS dN dZ) yX0_understands cX0_understands 2 .int 4 [.ref h, .int x1] (wX h ad dB dS (nI n) ab df bt kn mt co be li ll ck sh ec es eo em ro dn) (fun v (u : (Nat → Int32) × (Nat → Nat → Int32)) => Sys n U d u.1 u.2 ∧ UndR n U d x1 v) (fun u => wS h ad dB dS n u.1 u.2) := by
  refine zStartI (by decide) (Nat.le_of_ble_eq_true rfl) ?_
  intro p e s m args below meth c A Q ls hx hb hml hown hts hK hend hW hl
  have hown : s.vm.findClass RX0 = some m.cls := hown
  have hl : lv_has ls 2 [(0, .ref h), (1, .int x1)] := hl
  have hn : n ≤ 10 := hL.1
  have hU := hL.2.1
  have hab := hS.1
  have hdf := hS.2.1
  have hbe := hS.2.2.1
  refine lv_aload_n hx hb dX0_understands_0 rfl (lv_at hl 0 rfl) ?_
  refine lv_iload_n hx hb dX0_understands_1 rfl (lv_at hl 1 rfl) ?_
  refine zcallI (rest := []) hx hb hml hown hts hK clX0_0_isClass (mX_isClass l D h ad dB dS dN dZ n ab df bt kn mt co be li ll ck sh ec es eo em ro dn x1 hn) ⟨Nat.le_of_ble_eq_true rfl, Nat.le_of_ble_eq_true rfl⟩ hW ⟨0, _, _, rfl, rfl, rfl⟩ rfl hl.1 rfl (Nat.le_of_ble_eq_true rfl) dX0_understands_2 ⟨Nat.le_refl 0, Nat.le_refl 0⟩ (fun v u H locs hv hW => ?_)
  rcases hv with ⟨rfl, k, hk, rfl⟩ | ⟨rfl, hc⟩
  · have _ := 0
    refine lv_if_ne (tgt := 10) hx hb dX0_understands_5 (by decide) (fun c5 => ?_) (fun c5 => ?_)
    · have _ := 0
      refine lv_aload_n hx hb dX0_understands_10 rfl (lv_at hl 0 rfl) ?_
      refine zcallV (rest := []) hx hb hml hown hts hK clX0_0_build (mX_build l D h ad dB dS dN dZ n ab df bt kn mt co be li ll ck sh ec es eo em ro dn U d hL hS) ⟨Nat.le_of_ble_eq_true rfl, Nat.le_of_ble_eq_true rfl⟩ hW ⟨0, _, _, rfl, rfl, rfl⟩ rfl hl.1 rfl (Nat.le_of_ble_eq_true rfl) dX0_understands_11 ⟨Nat.le_refl 0, Nat.le_refl 0⟩ (fun u1 H locs hbs hW => ?_)
      obtain ⟨F1, S1⟩ := u1
      have hbs : BuiltS n U d F1 S1 := hbs
      have hW : zH D A s (wX h ad dB dS (nI n) (S1 1) (S1 2) (F1 3) (S1 4) (S1 5) (S1 6) (S1 7) (S1 8) (F1 9) (F1 10) (S1 11) (S1 12) (S1 13) (S1 14) (S1 15) (S1 16) (S1 17)) H locs := hW
      refine lv_aload_n hx hb dX0_understands_14 rfl (lv_at hl 0 rfl) ?_
      refine zg0_kn hx hb hts hown hK hW dX0_understands_15 ?_
      refine lv_iload_n hx hb dX0_understands_18 rfl (lv_at hl 1 rfl) ?_
      refine z_sald hx hb hK hW 3 1 rfl rfl k rfl (by omega) (by decide) dX0_understands_19 ?_
      exact hend _ (F1, S1) _ _ _ _ rfl (⟨hbs.sys, Or.inl ⟨k, hk, rfl, hbs.2.2.2.1 k hk⟩⟩) hW dX0_understands_20
    · have _ := 0
      exact absurd c5 (by decide)
  · have _ := 0
    refine lv_if_ne (tgt := 10) hx hb dX0_understands_5 (by decide) (fun c5 => ?_) (fun c5 => ?_)
    · have _ := 0
      exact absurd c5 (by decide)
    · have _ := 0
      refine lv_iconst (v := (nI 0)) hx hb dX0_understands_8 (by decide) ?_
      exact hend _ ((mkF bt ll ck), (mkS ab df kn mt co be li sh ec es eo em ro dn)) _ _ _ _ rfl (⟨hS, Or.inr ⟨hc, rfl⟩⟩) hW dX0_understands_9
set_option maxHeartbeats 4000000 in
set_option maxRecDepth 100000 in
theorem mX_apart (l : Launch) (D : va_G) (h : Nat) (ad : Nat → Nat) (dB dS dN dZ : ClassId) (n : Nat) (ab df : Nat → Int32) (bt : Int32) (kn mt co be li : Nat → Int32) (ll ck : Int32) (sh ec es eo em ro dn : Nat → Int32) (U d : Nat → Int32) (x1 : Int32) (hL : LInv n U d) (hS : SysI n U d ab df bt kn mt be ck sh ec es eo em) : zMI l D (zT dB dS dN dZ) yX0_apart cX0_apart 2 .int 4 [.ref h, .int x1] (wX h ad dB dS (nI n) ab df bt kn mt co be li ll ck sh ec es eo em ro dn) (fun v (u : (Nat → Int32) × (Nat → Nat → Int32)) => Sys n U d u.1 u.2 ∧ ApaR n U d x1 v) (fun u => wS h ad dB dS n u.1 u.2) := by
  refine zStartI (by decide) (Nat.le_of_ble_eq_true rfl) ?_
  intro p e s m args below meth c A Q ls hx hb hml hown hts hK hend hW hl
  have hown : s.vm.findClass RX0 = some m.cls := hown
  have hl : lv_has ls 2 [(0, .ref h), (1, .int x1)] := hl
  have hn : n ≤ 10 := hL.1
  have hU := hL.2.1
  have hab := hS.1
  have hdf := hS.2.1
  have hbe := hS.2.2.1
  refine lv_iload_n hx hb dX0_apart_0 rfl (lv_at hl 1 rfl) ?_
  refine zcallS (rest := []) hx hb hml hown hts hK clX0_0_isSelector (mX_isSelector l D h ad dB dS dN dZ n ab df bt kn mt co be li ll ck sh ec es eo em ro dn x1) ⟨Nat.le_of_ble_eq_true rfl, Nat.le_of_ble_eq_true rfl⟩ hW rfl hl.1 rfl (Nat.le_of_ble_eq_true rfl) dX0_apart_1 ⟨Nat.le_refl 0, Nat.le_refl 0⟩ (fun v u H locs hv hW => ?_)
  rcases hv with ⟨rfl, j, hj, rfl⟩ | ⟨rfl, hs⟩
  · have _ := 0
    refine lv_if_ne (tgt := 9) hx hb dX0_apart_4 (by decide) (fun c4 => ?_) (fun c4 => ?_)
    · have _ := 0
      refine lv_aload_n hx hb dX0_apart_9 rfl (lv_at hl 0 rfl) ?_
      refine zcallV (rest := []) hx hb hml hown hts hK clX0_0_build (mX_build l D h ad dB dS dN dZ n ab df bt kn mt co be li ll ck sh ec es eo em ro dn U d hL hS) ⟨Nat.le_of_ble_eq_true rfl, Nat.le_of_ble_eq_true rfl⟩ hW ⟨0, _, _, rfl, rfl, rfl⟩ rfl hl.1 rfl (Nat.le_of_ble_eq_true rfl) dX0_apart_10 ⟨Nat.le_refl 0, Nat.le_refl 0⟩ (fun u1 H locs hbs hW => ?_)
      obtain ⟨F1, S1⟩ := u1
      have hbs : BuiltS n U d F1 S1 := hbs
      have hW : zH D A s (wX h ad dB dS (nI n) (S1 1) (S1 2) (F1 3) (S1 4) (S1 5) (S1 6) (S1 7) (S1 8) (F1 9) (F1 10) (S1 11) (S1 12) (S1 13) (S1 14) (S1 15) (S1 16) (S1 17)) H locs := hW
      refine lv_sipush (v := (nI 255)) hx hb dX0_apart_13 (by decide) ?_
      refine lv_aload_n hx hb dX0_apart_16 rfl (lv_at hl 0 rfl) ?_
      refine zg0_mt hx hb hts hown hK hW dX0_apart_17 ?_
      refine lv_iload_n hx hb dX0_apart_20 rfl (lv_at hl 1 rfl) ?_
      refine z_sald hx hb hK hW 4 1 rfl rfl j rfl (by omega) (by decide) dX0_apart_21 ?_
      refine z_top (show ((S1 5) j) = (nI (Mf U d j n)) from hbs.2.2.2.2.1 j hj) ?_
      refine lv_iconst (v := (-1)) hx hb dX0_apart_22 (by decide) ?_
      refine lv_ixor hx hb dX0_apart_23 ?_
      refine lv_iand hx hb dX0_apart_24 ?_
      refine lv_iconst (v := (nI 1)) hx hb dX0_apart_25 (by decide) ?_
      refine lv_iload_n hx hb dX0_apart_26 rfl (lv_at hl 1 rfl) ?_
      refine lv_ishl hx hb dX0_apart_27 ?_
      refine z_top (show ((nI 1) <<< ((nI j) &&& 31)) = (nI (2 ^ j)) from z_shl1 (by omega)) ?_
      refine lv_iconst (v := (-1)) hx hb dX0_apart_28 (by decide) ?_
      refine lv_ixor hx hb dX0_apart_29 ?_
      refine lv_iand hx hb dX0_apart_30 ?_
      exact hend _ (F1, S1) _ _ _ _ rfl (⟨hbs.sys, Or.inl ⟨j, hj, rfl, rfl⟩⟩) hW dX0_apart_31
    · have _ := 0
      exact absurd c4 (by decide)
  · have _ := 0
    refine lv_if_ne (tgt := 9) hx hb dX0_apart_4 (by decide) (fun c4 => ?_) (fun c4 => ?_)
    · have _ := 0
      exact absurd c4 (by decide)
    · have _ := 0
      refine lv_iconst (v := (nI 0)) hx hb dX0_apart_7 (by decide) ?_
      exact hend _ ((mkF bt ll ck), (mkS ab df kn mt co be li sh ec es eo em ro dn)) _ _ _ _ rfl (⟨hS, Or.inr ⟨hs, rfl⟩⟩) hW dX0_apart_8
end
section
set_option maxRecDepth 100000
set_option maxHeartbeats 4000000 in
set_option maxRecDepth 100000 in
theorem mX_colours (l : Launch) (D : va_G) (h : Nat) (ad : Nat → Nat) (dB dS dN dZ : ClassId) (n : Nat) (ab df : Nat → Int32) (bt : Int32) (kn mt co be li : Nat → Int32) (ll ck : Int32) (sh ec es eo em ro dn : Nat → Int32) (U d : Nat → Int32)  (hL : LInv n U d) (hS : SysI n U d ab df bt kn mt be ck sh ec es eo em) : zMI l D (zT dB dS dN dZ) yX0_colours cX0_colours 1 .int 4 [.ref h] (wX h ad dB dS (nI n) ab df bt kn mt co be li ll ck sh ec es eo em ro dn) (fun v (u : (Nat → Int32) × (Nat → Nat → Int32)) => Sys n U d u.1 u.2 ∧ ∃ x, v = nI x ∧ IsChi (fun s => Mf U d s n) x) (fun u => wS h ad dB dS n u.1 u.2) := by
  refine zStartI (by decide) (Nat.le_of_ble_eq_true rfl) ?_
  intro p e s m args below meth c A Q ls hx hb hml hown hts hK hend hW hl
  have hown : s.vm.findClass RX0 = some m.cls := hown
  have hl : lv_has ls 1 [(0, .ref h)] := hl
  have hn : n ≤ 10 := hL.1
  have hU := hL.2.1
  have hab := hS.1
  have hdf := hS.2.1
  have hbe := hS.2.2.1
  refine lv_aload_n hx hb dX0_colours_0 rfl (lv_at hl 0 rfl) ?_
  refine zcallV (rest := []) hx hb hml hown hts hK clX0_0_build (mX_build l D h ad dB dS dN dZ n ab df bt kn mt co be li ll ck sh ec es eo em ro dn U d hL hS) ⟨Nat.le_of_ble_eq_true rfl, Nat.le_of_ble_eq_true rfl⟩ hW ⟨0, _, _, rfl, rfl, rfl⟩ rfl hl.1 rfl (Nat.le_of_ble_eq_true rfl) dX0_colours_1 ⟨Nat.le_refl 0, Nat.le_refl 0⟩ (fun u1 H locs hbs hW => ?_)
  obtain ⟨F1, S1⟩ := u1
  have hbs : BuiltS n U d F1 S1 := hbs
  have hW : zH D A s (wX h ad dB dS (nI n) (S1 1) (S1 2) (F1 3) (S1 4) (S1 5) (S1 6) (S1 7) (S1 8) (F1 9) (F1 10) (S1 11) (S1 12) (S1 13) (S1 14) (S1 15) (S1 16) (S1 17)) H locs := hW
  refine lv_aload_n hx hb dX0_colours_4 rfl (lv_at hl 0 rfl) ?_
  refine zg0_ck hx hb hts hown hK hW dX0_colours_5 ?_
  obtain ⟨x, -, hck, hchi⟩ := hbs.2.2.2.2.2.1
  exact hend _ (F1, S1) _ _ _ _ rfl (⟨hbs.sys, x, hck, hchi⟩) hW dX0_colours_8
set_option maxHeartbeats 4000000 in
set_option maxRecDepth 100000 in
theorem mX_crowd (l : Launch) (D : va_G) (h : Nat) (ad : Nat → Nat) (dB dS dN dZ : ClassId) (n : Nat) (ab df : Nat → Int32) (bt : Int32) (kn mt co be li : Nat → Int32) (ll ck : Int32) (sh ec es eo em ro dn : Nat → Int32) (U d : Nat → Int32)  (hL : LInv n U d) (hS : SysI n U d ab df bt kn mt be ck sh ec es eo em) : zMI l D (zT dB dS dN dZ) yX0_crowd cX0_crowd 4 .int 4 [.ref h] (wX h ad dB dS (nI n) ab df bt kn mt co be li ll ck sh ec es eo em ro dn) (fun v (u : (Nat → Int32) × (Nat → Nat → Int32)) => Sys n U d u.1 u.2 ∧ CrdR n U d v) (fun u => wS h ad dB dS n u.1 u.2) := by
  refine zStartI (by decide) (Nat.le_of_ble_eq_true rfl) ?_
  intro p e s m args below meth c A Q ls hx hb hml hown hts hK hend hW hl
  have hown : s.vm.findClass RX0 = some m.cls := hown
  have hl : lv_has ls 4 [(0, .ref h)] := hl
  have hn : n ≤ 10 := hL.1
  have hU := hL.2.1
  have hab := hS.1
  have hdf := hS.2.1
  have hbe := hS.2.2.1
  refine lv_aload_n hx hb dX0_crowd_0 rfl (lv_at hl 0 rfl) ?_
  refine zcallV (rest := []) hx hb hml hown hts hK clX0_0_build (mX_build l D h ad dB dS dN dZ n ab df bt kn mt co be li ll ck sh ec es eo em ro dn U d hL hS) ⟨Nat.le_of_ble_eq_true rfl, Nat.le_of_ble_eq_true rfl⟩ hW ⟨0, _, _, rfl, rfl, rfl⟩ rfl hl.1 rfl (Nat.le_of_ble_eq_true rfl) dX0_crowd_1 ⟨Nat.le_refl 0, Nat.le_refl 0⟩ (fun u1 H locs hbs hW => ?_)
  obtain ⟨F1, S1⟩ := u1
  have hbs : BuiltS n U d F1 S1 := hbs
  have hW : zH D A s (wX h ad dB dS (nI n) (S1 1) (S1 2) (F1 3) (S1 4) (S1 5) (S1 6) (S1 7) (S1 8) (F1 9) (F1 10) (S1 11) (S1 12) (S1 13) (S1 14) (S1 15) (S1 16) (S1 17)) H locs := hW
  refine lv_iconst (v := (nI 0)) hx hb dX0_crowd_4 (by decide) ?_
  refine z_top (show (nI 0) = (nI (crd (fun s => Mf U d s n) 1)) from rfl) ?_
  refine lv_istore_n (lv' := [(1, .int (nI (crd (fun s => Mf U d s n) 1))), (0, .ref h)]) hx hb dX0_crowd_5 rfl hl (by decide) rfl (fun ls hl => ?_)
  refine lv_iconst (v := (nI 1)) hx hb dX0_crowd_6 (by decide) ?_
  refine lv_istore_n (lv' := [(2, .int (nI 1)), (1, .int (nI (crd (fun s => Mf U d s n) 1))), (0, .ref h)]) hx hb dX0_crowd_7 rfl hl (by decide) rfl (fun ls hl => ?_)
  have hloop8 : ∀ (N : Nat) (t : Nat), 256 < t + N → (1 ≤ t) → (t ≤ 256) → ∀ (H : Heap) (locs : List Loc) (ls : Array Slot), zH D A s (wX h ad dB dS (nI n) (S1 1) (S1 2) (F1 3) (S1 4) (S1 5) (S1 6) (S1 7) (S1 8) (F1 9) (F1 10) (S1 11) (S1 12) (S1 13) (S1 14) (S1 15) (S1 16) (S1 17)) H locs → lv_has ls 4 [(2, .int (nI t)), (1, .int (nI (crd (fun s => Mf U d s n) t))), (0, .ref h)] → W p l e (zR 4) s m args below meth c H locs 0 0 Q (F0 m 8 ls []) := by
    intro N
    induction N with
    | zero =>
      intro t  hM ht0 ht H locs ls hW hl
      exact absurd hM (by omega)
    | succ N ih8 =>
      intro t  hM ht0 ht H locs ls hW hl
      refine lv_iload_n hx hb dX0_crowd_8 rfl (lv_at hl 0 rfl) ?_
      refine lv_sipush (v := (nI 256)) hx hb dX0_crowd_9 (by decide) ?_
      refine lv_icmp_ge (tgt := 41) hx hb dX0_crowd_12 (by decide) (fun c12 => ?_) (fun c12 => ?_)
      · have _ := 0
        have c12 : 256 ≤ t := z_le (by omega) (by omega) c12
        refine lv_iload_n hx hb dX0_crowd_41 rfl (lv_at hl 1 rfl) ?_
        obtain rfl : t = 256 := by omega
        exact hend _ (F1, S1) _ _ _ _ rfl (⟨hbs.sys, rfl⟩) hW dX0_crowd_42
      · have _ := 0
        have c12 : t < 256 := z_nle (by omega) (by omega) c12
        refine lv_iload_n hx hb dX0_crowd_15 rfl (lv_at hl 0 rfl) ?_
        refine zcallS (rest := []) hx hb hml hown hts hK clX0_0_sizeOf (mX_sizeOf l D h ad dB dS dN dZ n (S1 1) (S1 2) (F1 3) (S1 4) (S1 5) (S1 6) (S1 7) (S1 8) (F1 9) (F1 10) (S1 11) (S1 12) (S1 13) (S1 14) (S1 15) (S1 16) (S1 17) t (by omega)) ⟨Nat.le_of_ble_eq_true rfl, Nat.le_of_ble_eq_true rfl⟩ hW rfl hl.1 rfl (Nat.le_of_ble_eq_true rfl) dX0_crowd_16 ⟨Nat.le_refl 0, Nat.le_refl 0⟩ (fun v u H locs hv hW => ?_)
        subst hv
        refine lv_istore_n (lv' := [(3, .int (nI (pcnt t 8))), (2, .int (nI t)), (1, .int (nI (crd (fun s => Mf U d s n) t))), (0, .ref h)]) hx hb dX0_crowd_19 rfl hl (by decide) rfl (fun ls hl => ?_)
        refine lv_iload_n hx hb dX0_crowd_20 rfl (lv_at hl 0 rfl) ?_
        refine lv_iload_n hx hb dX0_crowd_21 rfl (lv_at hl 2 rfl) ?_
        refine lv_icmp_le (tgt := 35) hx hb dX0_crowd_22 (by decide) (fun c22 => ?_) (fun c22 => ?_)
        · have _ := 0
          have hp8 := pcnt_le t 8
          have hc8 := crd_le (fun s => Mf U d s n) t
          have c22 : pcnt t 8 ≤ crd (fun s => Mf U d s n) t := z_le (by omega) (by omega) c22
          refine lv_iinc (v := (nI (t + 1))) (lv' := [(2, .int (nI (t + 1))), (3, .int (nI (pcnt t 8))), (1, .int (nI (crd (fun s => Mf U d s n) t))), (0, .ref h)]) hx hb dX0_crowd_35 hl (k := 1) rfl (z_inc _) (by decide) rfl (fun ls hl => ?_)
          refine lv_goto (tgt := 8) hx hb dX0_crowd_38 (by decide) ?_
          have hl : lv_has ls 4 [(2, .int (nI (t + 1))), (3, .int (nI (pcnt t 8))), (1, .int (nI (crd (fun s => Mf U d s n) (t + 1)))), (0, .ref h)] := by rw [show (nI (crd (fun s => Mf U d s n) (t + 1))) = (nI (crd (fun s => Mf U d s n) t)) from (by rw [crd, if_neg (fun q => absurd q.1 (by omega))])]; exact hl
          exact ih8 (t + 1) (by omega) (by omega) (by omega) _ _ _ hW (lv_sub hl [0, 2, 3] rfl)
        · have _ := 0
          have hp8 := pcnt_le t 8
          have hc8 := crd_le (fun s => Mf U d s n) t
          have c22 : crd (fun s => Mf U d s n) t < pcnt t 8 := z_nle (by omega) (by omega) c22
          refine lv_aload_n hx hb dX0_crowd_25 rfl (lv_at hl 3 rfl) ?_
          refine lv_iload_n hx hb dX0_crowd_26 rfl (lv_at hl 1 rfl) ?_
          refine zcallI (rest := []) hx hb hml hown hts hK clX0_0_crowded (mX_crowded l D h ad dB dS dN dZ n (S1 1) (S1 2) (F1 3) (S1 4) (S1 5) (S1 6) (S1 7) (S1 8) (F1 9) (F1 10) (S1 11) (S1 12) (S1 13) (S1 14) (S1 15) (S1 16) (S1 17) t (fun s => Mf U d s n) (by omega) hbs.2.2.2.2.1) ⟨Nat.le_of_ble_eq_true rfl, Nat.le_of_ble_eq_true rfl⟩ hW ⟨0, _, _, rfl, rfl, rfl⟩ rfl hl.1 rfl (Nat.le_of_ble_eq_true rfl) dX0_crowd_27 ⟨Nat.le_refl 0, Nat.le_refl 0⟩ (fun v u H locs hv hW => ?_)
          subst hv
          refine lv_if_eq (tgt := 35) hx hb dX0_crowd_30 (by decide) (fun c30 => ?_) (fun c30 => ?_)
          · have _ := 0
            have c30 : (tog (fun s => Mf U d s n) t 8) = false := z_b0 c30
            refine lv_iinc (v := (nI (t + 1))) (lv' := [(2, .int (nI (t + 1))), (3, .int (nI (pcnt t 8))), (1, .int (nI (crd (fun s => Mf U d s n) t))), (0, .ref h)]) hx hb dX0_crowd_35 hl (k := 1) rfl (z_inc _) (by decide) rfl (fun ls hl => ?_)
            refine lv_goto (tgt := 8) hx hb dX0_crowd_38 (by decide) ?_
            have hl : lv_has ls 4 [(2, .int (nI (t + 1))), (3, .int (nI (pcnt t 8))), (1, .int (nI (crd (fun s => Mf U d s n) (t + 1)))), (0, .ref h)] := by rw [show (nI (crd (fun s => Mf U d s n) (t + 1))) = (nI (crd (fun s => Mf U d s n) t)) from (by rw [crd, if_neg (fun q => absurd (q.2.symm.trans c30) (by decide))])]; exact hl
            exact ih8 (t + 1) (by omega) (by omega) (by omega) _ _ _ hW (lv_sub hl [0, 2, 3] rfl)
          · have _ := 0
            have c30 : (tog (fun s => Mf U d s n) t 8) = true := z_b1 c30
            refine lv_iload_n hx hb dX0_crowd_33 rfl (lv_at hl 0 rfl) ?_
            refine z_top (show (nI (pcnt t 8)) = (nI (crd (fun s => Mf U d s n) (t + 1))) from (by rw [crd, if_pos ⟨c22, c30⟩])) ?_
            refine lv_istore_n (lv' := [(1, .int (nI (crd (fun s => Mf U d s n) (t + 1)))), (3, .int (nI (pcnt t 8))), (2, .int (nI t)), (0, .ref h)]) hx hb dX0_crowd_34 rfl hl (by decide) rfl (fun ls hl => ?_)
            refine lv_iinc (v := (nI (t + 1))) (lv' := [(2, .int (nI (t + 1))), (1, .int (nI (crd (fun s => Mf U d s n) (t + 1)))), (3, .int (nI (pcnt t 8))), (0, .ref h)]) hx hb dX0_crowd_35 hl (k := 2) rfl (z_inc _) (by decide) rfl (fun ls hl => ?_)
            refine lv_goto (tgt := 8) hx hb dX0_crowd_38 (by decide) ?_
            exact ih8 (t + 1) (by omega) (by omega) (by omega) _ _ _ hW (lv_sub hl [0, 1, 3] rfl)
  exact hloop8 256 1 (by omega) (by omega) (by omega) _ _ _ hW (lv_sub hl [0, 1, 2] rfl)
set_option maxHeartbeats 4000000 in
set_option maxRecDepth 100000 in
theorem mX_heirs (l : Launch) (D : va_G) (h : Nat) (ad : Nat → Nat) (dB dS dN dZ : ClassId) (n : Nat) (ab df : Nat → Int32) (bt : Int32) (kn mt co be li : Nat → Int32) (ll ck : Int32) (sh ec es eo em ro dn : Nat → Int32) (U d : Nat → Int32) (x1 : Int32) (x2 : Int32) (hL : LInv n U d) (hS : SysI n U d ab df bt kn mt be ck sh ec es eo em) : zMI l D (zT dB dS dN dZ) yX0_heirs cX0_heirs 6 .int 5 [.ref h, .int x1, .int x2] (wX h ad dB dS (nI n) ab df bt kn mt co be li ll ck sh ec es eo em ro dn) (fun v (u : (Nat → Int32) × (Nat → Nat → Int32)) => Sys n U d u.1 u.2 ∧ HeiR n U d x1 x2 v) (fun u => wS h ad dB dS n u.1 u.2) := by
  refine zStartI (by decide) (Nat.le_of_ble_eq_true rfl) ?_
  intro p e s m args below meth c A Q ls hx hb hml hown hts hK hend hW hl
  have hown : s.vm.findClass RX0 = some m.cls := hown
  have hl : lv_has ls 6 [(0, .ref h), (1, .int x1), (2, .int x2)] := hl
  have hn : n ≤ 10 := hL.1
  have hU := hL.2.1
  have hab := hS.1
  have hdf := hS.2.1
  have hbe := hS.2.2.1
  refine lv_aload_n hx hb dX0_heirs_0 rfl (lv_at hl 0 rfl) ?_
  refine lv_iload_n hx hb dX0_heirs_1 rfl (lv_at hl 1 rfl) ?_
  refine zcallI (rest := []) hx hb hml hown hts hK clX0_0_isClass (mX_isClass l D h ad dB dS dN dZ n ab df bt kn mt co be li ll ck sh ec es eo em ro dn x1 hn) ⟨Nat.le_of_ble_eq_true rfl, Nat.le_of_ble_eq_true rfl⟩ hW ⟨0, _, _, rfl, rfl, rfl⟩ rfl hl.1 rfl (Nat.le_of_ble_eq_true rfl) dX0_heirs_2 ⟨Nat.le_refl 0, Nat.le_refl 0⟩ (fun v u H locs hv hW => ?_)
  rcases hv with ⟨rfl, k, hk, rfl⟩ | ⟨rfl, hc⟩
  · have _ := 0
    refine lv_if_eq (tgt := 29) hx hb dX0_heirs_5 (by decide) (fun c5 => ?_) (fun c5 => ?_)
    · have _ := 0
      exact absurd c5 (by decide)
    · have _ := 0
      refine lv_iload_n hx hb dX0_heirs_8 rfl (lv_at hl 2 rfl) ?_
      refine zcallS (rest := []) hx hb hml hown hts hK clX0_0_isSelector (mX_isSelector l D h ad dB dS dN dZ n ab df bt kn mt co be li ll ck sh ec es eo em ro dn x2) ⟨Nat.le_of_ble_eq_true rfl, Nat.le_of_ble_eq_true rfl⟩ hW rfl hl.1 rfl (Nat.le_of_ble_eq_true rfl) dX0_heirs_9 ⟨Nat.le_refl 0, Nat.le_refl 0⟩ (fun v u H locs hv hW => ?_)
      rcases hv with ⟨rfl, j, hj, rfl⟩ | ⟨rfl, hs⟩
      · have _ := 0
        refine lv_if_eq (tgt := 29) hx hb dX0_heirs_12 (by decide) (fun c12 => ?_) (fun c12 => ?_)
        · have _ := 0
          exact absurd c12 (by decide)
        · have _ := 0
          refine lv_aload_n hx hb dX0_heirs_15 rfl (lv_at hl 0 rfl) ?_
          refine zg0_df hx hb hts hown hK hW dX0_heirs_16 ?_
          refine lv_iload_n hx hb dX0_heirs_19 rfl (lv_at hl 1 rfl) ?_
          refine lv_bipush (v := (nI 8)) hx hb dX0_heirs_20 (by decide) ?_
          refine lv_imul hx hb dX0_heirs_22 ?_
          refine z_top (show ((nI k) * (nI 8)) = (nI (k * 8)) from pk_mul _ _) ?_
          refine lv_iload_n hx hb dX0_heirs_23 rfl (lv_at hl 2 rfl) ?_
          refine lv_iadd hx hb dX0_heirs_24 ?_
          refine z_top (show ((nI (k * 8)) + (nI j)) = (nI ((k * 8) + j)) from nI_add _ _) ?_
          refine z_sald hx hb hK hW 2 1 rfl rfl (8 * k + j) (by rw [Nat.mul_comm 8 k]) (by omega) (by decide) dX0_heirs_25 ?_
          refine z_top (show (df (8 * k + j)) = (d (8 * k + j)) from hdf _ (by omega)) ?_
          refine lv_if_ne (tgt := 31) hx hb dX0_heirs_26 (by decide) (fun c26 => ?_) (fun c26 => ?_)
          · have _ := 0
            refine lv_iconst (v := (nI 0)) hx hb dX0_heirs_31 (by decide) ?_
            refine z_top (show (nI 0) = (nI (hrs U d j k 0)) from rfl) ?_
            refine lv_istore_n (lv' := [(3, .int (nI (hrs U d j k 0))), (0, .ref h), (1, .int (nI k)), (2, .int (nI j))]) hx hb dX0_heirs_32 rfl hl (by decide) rfl (fun ls hl => ?_)
            refine lv_iconst (v := (nI 0)) hx hb dX0_heirs_33 (by decide) ?_
            refine lv_istore (lv' := [(4, .int (nI 0)), (3, .int (nI (hrs U d j k 0))), (0, .ref h), (1, .int (nI k)), (2, .int (nI j))]) hx hb dX0_heirs_34 hl (by decide) rfl (fun ls hl => ?_)
            have hloop36 : ∀ (N : Nat) (i : Nat) (F2 : Nat → Int32) (S2 : Nat → Nat → Int32), n < i + N → (i ≤ n) → (Sys n U d F2 S2) → ∀ (H : Heap) (locs : List Loc) (ls : Array Slot), zH D A s (wX h ad dB dS (nI n) (S2 1) (S2 2) (F2 3) (S2 4) (S2 5) (S2 6) (S2 7) (S2 8) (F2 9) (F2 10) (S2 11) (S2 12) (S2 13) (S2 14) (S2 15) (S2 16) (S2 17)) H locs → lv_has ls 6 [(4, .int (nI i)), (3, .int (nI (hrs U d j k i))), (0, .ref h), (1, .int (nI k)), (2, .int (nI j))] → W p l e (zR 5) s m args below meth c H locs 0 0 Q (F0 m 36 ls []) := by
              intro N
              induction N with
              | zero =>
                intro i  F2  S2  hM hi hS2 H locs ls hW hl
                exact absurd hM (by omega)
              | succ N ih36 =>
                intro i  F2  S2  hM hi hS2 H locs ls hW hl
                refine lv_iload hx hb dX0_heirs_36 (lv_at hl 0 rfl) ?_
                refine lv_aload_n hx hb dX0_heirs_38 rfl (lv_at hl 2 rfl) ?_
                refine zg0_cn hx hb hts hown hK hW dX0_heirs_39 ?_
                refine lv_icmp_ge (tgt := 83) hx hb dX0_heirs_42 (by decide) (fun c42 => ?_) (fun c42 => ?_)
                · have _ := 0
                  have c42 : n ≤ i := z_le (by omega) (by omega) c42
                  refine lv_iload_n hx hb dX0_heirs_83 rfl (lv_at hl 1 rfl) ?_
                  obtain rfl : n = i := by omega
                  exact hend _ (F2, S2) _ _ _ _ rfl (⟨hS2, Or.inl ⟨k, j, ⟨hk, hj, rfl, rfl⟩, rfl⟩⟩) hW dX0_heirs_84
                · have _ := 0
                  have c42 : i < n := z_nle (by omega) (by omega) c42
                  refine lv_aload_n hx hb dX0_heirs_45 rfl (lv_at hl 2 rfl) ?_
                  refine lv_iload hx hb dX0_heirs_46 (lv_at hl 0 rfl) ?_
                  refine lv_iload_n hx hb dX0_heirs_48 rfl (lv_at hl 4 rfl) ?_
                  refine zcallI (rest := []) hx hb hml hown hts hK clX0_0_entry (mX_entry l D h ad dB dS dN dZ n (S2 1) (S2 2) (F2 3) (S2 4) (S2 5) (S2 6) (S2 7) (S2 8) (F2 9) (F2 10) (S2 11) (S2 12) (S2 13) (S2 14) (S2 15) (S2 16) (S2 17) U d (nI i) (nI j) hL hS2) ⟨Nat.le_of_ble_eq_true rfl, Nat.le_of_ble_eq_true rfl⟩ hW ⟨0, _, _, rfl, rfl, rfl⟩ rfl hl.1 rfl (Nat.le_of_ble_eq_true rfl) dX0_heirs_49 ⟨Nat.le_refl 0, Nat.le_refl 0⟩ (fun v u1 H locs hv hW => ?_)
                  obtain ⟨F1, S1⟩ := u1
                  obtain ⟨hS1, hent⟩ := hv
                  have hS1 : Sys n U d F1 S1 := hS1
                  have hent : EntR n U d (nI i) (nI j) v S1 := hent
                  have hW : zH D A s (wX h ad dB dS (nI n) (S1 1) (S1 2) (F1 3) (S1 4) (S1 5) (S1 6) (S1 7) (S1 8) (F1 9) (F1 10) (S1 11) (S1 12) (S1 13) (S1 14) (S1 15) (S1 16) (S1 17)) H locs := hW
                  refine lv_istore (lv' := [(5, .int v), (4, .int (nI i)), (3, .int (nI (hrs U d j k i))), (0, .ref h), (1, .int (nI k)), (2, .int (nI j))]) hx hb dX0_heirs_52 hl (by decide) rfl (fun ls hl => ?_)
                  refine lv_iload hx hb dX0_heirs_54 (lv_at hl 0 rfl) ?_
                  refine lv_if_lt (tgt := 77) hx hb dX0_heirs_56 (by decide) (fun c56 => ?_) (fun c56 => ?_)
                  · have _ := 0
                    have hb2 := hei_n (k := k) hL c42 hj hk hent (Or.inl c56)
                    refine lv_iinc (v := (nI (i + 1))) (lv' := [(4, .int (nI (i + 1))), (5, .int v), (3, .int (nI (hrs U d j k i))), (0, .ref h), (1, .int (nI k)), (2, .int (nI j))]) hx hb dX0_heirs_77 hl (k := 1) rfl (z_inc _) (by decide) rfl (fun ls hl => ?_)
                    refine lv_goto (tgt := 36) hx hb dX0_heirs_80 (by decide) ?_
                    have hl : lv_has ls 6 [(4, .int (nI (i + 1))), (5, .int v), (3, .int (nI (hrs U d j k (i + 1)))), (0, .ref h), (1, .int (nI k)), (2, .int (nI j))] := by rw [show (nI (hrs U d j k (i + 1))) = (nI (hrs U d j k i)) from (mk_f1 (P := fun x => decide (ownF U d j 10 (nI x) = nI k)) hb2)]; exact hl
                    exact ih36 (i + 1) F1 S1 (by omega) (by omega) hS1 _ _ _ hW (lv_sub hl [0, 2, 3, 4, 5] rfl)
                  · have _ := 0
                    obtain ⟨x, hx96, rfl⟩ := ent_ix hent c56
                    refine lv_aload_n hx hb dX0_heirs_59 rfl (lv_at hl 3 rfl) ?_
                    refine zg0_eo hx hb hts hown hK hW dX0_heirs_60 ?_
                    refine lv_iload hx hb dX0_heirs_63 (lv_at hl 0 rfl) ?_
                    refine z_bald hx hb hK hW 11 0 rfl rfl x rfl (by omega) (by decide) dX0_heirs_65 ?_
                    refine lv_iload_n hx hb dX0_heirs_66 rfl (lv_at hl 4 rfl) ?_
                    refine lv_icmp_ne (tgt := 77) hx hb dX0_heirs_67 (by decide) (fun c67 => ?_) (fun c67 => ?_)
                    · have _ := 0
                      have hb2 := hei_n (k := k) hL c42 hj hk hent (Or.inr ⟨x, hx96, rfl, c67⟩)
                      refine lv_iinc (v := (nI (i + 1))) (lv' := [(4, .int (nI (i + 1))), (5, .int (nI x)), (3, .int (nI (hrs U d j k i))), (0, .ref h), (1, .int (nI k)), (2, .int (nI j))]) hx hb dX0_heirs_77 hl (k := 1) rfl (z_inc _) (by decide) rfl (fun ls hl => ?_)
                      refine lv_goto (tgt := 36) hx hb dX0_heirs_80 (by decide) ?_
                      have hl : lv_has ls 6 [(4, .int (nI (i + 1))), (5, .int (nI x)), (3, .int (nI (hrs U d j k (i + 1)))), (0, .ref h), (1, .int (nI k)), (2, .int (nI j))] := by rw [show (nI (hrs U d j k (i + 1))) = (nI (hrs U d j k i)) from (mk_f1 (P := fun x => decide (ownF U d j 10 (nI x) = nI k)) hb2)]; exact hl
                      exact ih36 (i + 1) F1 S1 (by omega) (by omega) hS1 _ _ _ hW (lv_sub hl [0, 2, 3, 4, 5] rfl)
                    · have _ := 0
                      have hb2 := hei_y (v := 0) c42 hn hj hent hx96 c67
                      refine lv_iload_n hx hb dX0_heirs_70 rfl (lv_at hl 2 rfl) ?_
                      refine lv_iconst (v := (nI 1)) hx hb dX0_heirs_71 (by decide) ?_
                      refine lv_iload hx hb dX0_heirs_72 (lv_at hl 1 rfl) ?_
                      refine lv_ishl hx hb dX0_heirs_74 ?_
                      refine z_top (show ((nI 1) <<< ((nI i) &&& 31)) = (nI (2 ^ i)) from z_shl1 (by omega)) ?_
                      refine lv_ior hx hb dX0_heirs_75 ?_
                      refine z_top (show ((nI (hrs U d j k i)) ||| (nI (2 ^ i))) = (nI ((hrs U d j k i) ||| (2 ^ i))) from fa_or _ _) ?_
                      refine z_top (show (nI ((hrs U d j k i) ||| (2 ^ i))) = (nI (hrs U d j k (i + 1))) from (mk_t (P := fun x => decide (ownF U d j 10 (nI x) = nI k)) hb2)) ?_
                      refine lv_istore_n (lv' := [(3, .int (nI (hrs U d j k (i + 1)))), (5, .int (nI x)), (4, .int (nI i)), (0, .ref h), (1, .int (nI k)), (2, .int (nI j))]) hx hb dX0_heirs_76 rfl hl (by decide) rfl (fun ls hl => ?_)
                      refine lv_iinc (v := (nI (i + 1))) (lv' := [(4, .int (nI (i + 1))), (3, .int (nI (hrs U d j k (i + 1)))), (5, .int (nI x)), (0, .ref h), (1, .int (nI k)), (2, .int (nI j))]) hx hb dX0_heirs_77 hl (k := 2) rfl (z_inc _) (by decide) rfl (fun ls hl => ?_)
                      refine lv_goto (tgt := 36) hx hb dX0_heirs_80 (by decide) ?_
                      exact ih36 (i + 1) F1 S1 (by omega) (by omega) hS1 _ _ _ hW (lv_sub hl [0, 1, 3, 4, 5] rfl)
            exact hloop36 (n + 1) 0 (mkF bt ll ck) (mkS ab df kn mt co be li sh ec es eo em ro dn) (by omega) (by omega) hS _ _ _ hW (lv_sub hl [0, 1, 2, 3, 4] rfl)
          · have _ := 0
            refine lv_iconst (v := (nI 0)) hx hb dX0_heirs_29 (by decide) ?_
            exact hend _ ((mkF bt ll ck), (mkS ab df kn mt co be li sh ec es eo em ro dn)) _ _ _ _ rfl (⟨hS, hei_zero hn hk hj c26⟩) hW dX0_heirs_30
      · have _ := 0
        refine lv_if_eq (tgt := 29) hx hb dX0_heirs_12 (by decide) (fun c12 => ?_) (fun c12 => ?_)
        · have _ := 0
          refine lv_iconst (v := (nI 0)) hx hb dX0_heirs_29 (by decide) ?_
          exact hend _ ((mkF bt ll ck), (mkS ab df kn mt co be li sh ec es eo em ro dn)) _ _ _ _ rfl (⟨hS, Or.inr ⟨fun k1 j1 q => hs j1 q.2.1 q.2.2.2, rfl⟩⟩) hW dX0_heirs_30
        · have _ := 0
          exact absurd c12 (by decide)
  · have _ := 0
    refine lv_if_eq (tgt := 29) hx hb dX0_heirs_5 (by decide) (fun c5 => ?_) (fun c5 => ?_)
    · have _ := 0
      refine lv_iconst (v := (nI 0)) hx hb dX0_heirs_29 (by decide) ?_
      exact hend _ ((mkF bt ll ck), (mkS ab df kn mt co be li sh ec es eo em ro dn)) _ _ _ _ rfl (⟨hS, Or.inr ⟨fun k1 j1 q => hc k1 q.1 q.2.2.1, rfl⟩⟩) hW dX0_heirs_30
    · have _ := 0
      exact absurd c5 (by decide)
set_option maxHeartbeats 4000000 in
set_option maxRecDepth 100000 in
theorem mX_addClass (l : Launch) (D : va_G) (h : Nat) (ad : Nat → Nat) (dB dS dN dZ : ClassId) (n : Nat) (ab df : Nat → Int32) (bt : Int32) (kn mt co be li : Nat → Int32) (ll ck : Int32) (sh ec es eo em ro dn : Nat → Int32) (U d : Nat → Int32) (x1 : Int32) (hL : LInv n U d) (hS : SysI n U d ab df bt kn mt be ck sh ec es eo em) : zMI l D (zT dB dS dN dZ) yX0_addClass cX0_addClass 3 .int 1 [.ref h, .int x1] (wX h ad dB dS (nI n) ab df bt kn mt co be li ll ck sh ec es eo em ro dn) (fun v (u : Nat × (Nat → Int32) × (Nat → Nat → Int32)) => ∃ U2, AddR n U x1 v u.1 U2 ∧ Sys u.1 U2 d u.2.1 u.2.2) (fun u => wS h ad dB dS u.1 u.2.1 u.2.2) := by
  refine zStartI (by decide) (Nat.le_of_ble_eq_true rfl) ?_
  intro p e s m args below meth c A Q ls hx hb hml hown hts hK hend hW hl
  have hown : s.vm.findClass RX0 = some m.cls := hown
  have hl : lv_has ls 3 [(0, .ref h), (1, .int x1)] := hl
  have hn : n ≤ 10 := hL.1
  have hU := hL.2.1
  have hab := hS.1
  have hdf := hS.2.1
  have hbe := hS.2.2.1
  refine lv_iload_n hx hb dX0_addClass_0 rfl (lv_at hl 1 rfl) ?_
  refine lv_iconst (v := (-1)) hx hb dX0_addClass_1 (by decide) ?_
  refine lv_icmp_eq (tgt := 15) hx hb dX0_addClass_2 (by decide) (fun c2 => ?_) (fun c2 => ?_)
  · have _ := 0
    refine lv_aload_n hx hb dX0_addClass_15 rfl (lv_at hl 0 rfl) ?_
    refine zg0_cn hx hb hts hown hK hW dX0_addClass_16 ?_
    refine lv_bipush (v := (nI 10)) hx hb dX0_addClass_19 (by decide) ?_
    refine lv_icmp_lt (tgt := 27) hx hb dX0_addClass_21 (by decide) (fun c21 => ?_) (fun c21 => ?_)
    · have _ := 0
      have c21 : n < 10 := z_lt (by omega) (by omega) c21
      have hp : Par n x1 := Or.inl c2
      refine lv_aload_n hx hb dX0_addClass_27 rfl (lv_at hl 0 rfl) ?_
      refine zg0_ab hx hb hts hown hK hW dX0_addClass_28 ?_
      refine lv_aload_n hx hb dX0_addClass_31 rfl (lv_at hl 0 rfl) ?_
      refine zg0_cn hx hb hts hown hK hW dX0_addClass_32 ?_
      refine lv_iload_n hx hb dX0_addClass_35 rfl (lv_at hl 1 rfl) ?_
      refine lv_i2b (v := x1) hx hb dX0_addClass_36 (par_i2b hn hp) ?_
      refine z_bast (v := x1) hx hb hK hW 1 0 rfl rfl n rfl (by omega) (by decide) (par_narb hn hp) dX0_addClass_37 (fun H locs hW => ?_)
      have hW : zH D A s (wX h ad dB dS (nI n) (upd ab n x1) df bt kn mt co be li ll ck sh ec es eo em ro dn) H locs := hW
      refine lv_iconst (v := (nI 0)) hx hb dX0_addClass_38 (by decide) ?_
      refine lv_istore_n (lv' := [(2, .int (nI 0)), (0, .ref h), (1, .int x1)]) hx hb dX0_addClass_39 rfl hl (by decide) rfl (fun ls hl => ?_)
      have hloop40 : ∀ (N : Nat) (i : Nat) (df2 : Nat → Int32), 8 < i + N → (i ≤ 8) → (∀ j, j < 80 → df2 j = d j) → ∀ (H : Heap) (locs : List Loc) (ls : Array Slot), zH D A s (wX h ad dB dS (nI n) (upd ab n x1) df2 bt kn mt co be li ll ck sh ec es eo em ro dn) H locs → lv_has ls 3 [(2, .int (nI i)), (0, .ref h), (1, .int x1)] → W p l e (zR 1) s m args below meth c H locs 0 0 Q (F0 m 40 ls []) := by
        intro N
        induction N with
        | zero =>
          intro i  df2  hM hi hdf2 H locs ls hW hl
          exact absurd hM (by omega)
        | succ N ih40 =>
          intro i  df2  hM hi hdf2 H locs ls hW hl
          refine lv_iload_n hx hb dX0_addClass_40 rfl (lv_at hl 0 rfl) ?_
          refine lv_bipush (v := (nI 8)) hx hb dX0_addClass_41 (by decide) ?_
          refine lv_icmp_ge (tgt := 67) hx hb dX0_addClass_43 (by decide) (fun c43 => ?_) (fun c43 => ?_)
          · have _ := 0
            have c43 : 8 ≤ i := z_le (by omega) (by omega) c43
            refine lv_aload_n hx hb dX0_addClass_67 rfl (lv_at hl 1 rfl) ?_
            refine lv_dup hx hb dX0_addClass_68 rfl ?_
            refine zg0_cn hx hb hts hown hK hW dX0_addClass_69 ?_
            refine lv_iconst (v := (nI 1)) hx hb dX0_addClass_72 (by decide) ?_
            refine lv_iadd hx hb dX0_addClass_73 ?_
            refine z_top (show ((nI n) + (nI 1)) = (nI (n + 1)) from nI_add _ _) ?_
            refine zp0_cn hx hb hts hown hK hW rfl rfl dX0_addClass_74 (fun H locs hW => ?_)
            refine lv_aload_n hx hb dX0_addClass_77 rfl (lv_at hl 1 rfl) ?_
            refine lv_iconst (v := (nI 0)) hx hb dX0_addClass_78 (by decide) ?_
            refine zp0_bt hx hb hts hown hK hW rfl rfl dX0_addClass_79 (fun H locs hW => ?_)
            refine lv_aload_n hx hb dX0_addClass_82 rfl (lv_at hl 1 rfl) ?_
            refine zg0_cn hx hb hts hown hK hW dX0_addClass_83 ?_
            refine lv_iconst (v := (nI 1)) hx hb dX0_addClass_86 (by decide) ?_
            refine lv_isub hx hb dX0_addClass_87 ?_
            refine z_top (show ((nI (n + 1)) - (nI 1)) = (nI ((n + 1) - 1)) from pk_sub (by omega)) ?_
            exact hend _ (n + 1, (mkF (nI 0) ll ck), (mkS (upd ab n x1) df2 kn mt co be li sh ec es eo em ro dn)) _ _ _ _ rfl (⟨upd U n x1, Or.inr (Or.inr ⟨(Or.inl c2), c21, rfl, rfl, rfl⟩), ad_next hab, hdf2, hbe, Or.inl rfl⟩) hW dX0_addClass_88
          · have _ := 0
            have c43 : i < 8 := z_nle (by omega) (by omega) c43
            refine lv_aload_n hx hb dX0_addClass_46 rfl (lv_at hl 1 rfl) ?_
            refine zg0_df hx hb hts hown hK hW dX0_addClass_47 ?_
            refine lv_aload_n hx hb dX0_addClass_50 rfl (lv_at hl 1 rfl) ?_
            refine zg0_cn hx hb hts hown hK hW dX0_addClass_51 ?_
            refine lv_bipush (v := (nI 8)) hx hb dX0_addClass_54 (by decide) ?_
            refine lv_imul hx hb dX0_addClass_56 ?_
            refine z_top (show ((nI n) * (nI 8)) = (nI (n * 8)) from pk_mul _ _) ?_
            refine lv_iload_n hx hb dX0_addClass_57 rfl (lv_at hl 0 rfl) ?_
            refine lv_iadd hx hb dX0_addClass_58 ?_
            refine z_top (show ((nI (n * 8)) + (nI i)) = (nI ((n * 8) + i)) from nI_add _ _) ?_
            refine lv_iconst (v := (nI 0)) hx hb dX0_addClass_59 (by decide) ?_
            refine z_sast (v := (nI 0)) hx hb hK hW 2 1 rfl rfl ((n * 8) + i) rfl (by omega) (by decide) (z_nars (by omega)) dX0_addClass_60 (fun H locs hW => ?_)
            have hW : zH D A s (wX h ad dB dS (nI n) (upd ab n x1) (upd df2 ((n * 8) + i) (nI 0)) bt kn mt co be li ll ck sh ec es eo em ro dn) H locs := hW
            refine lv_iinc (v := (nI (i + 1))) (lv' := [(2, .int (nI (i + 1))), (0, .ref h), (1, .int x1)]) hx hb dX0_addClass_61 hl (k := 0) rfl (z_inc _) (by decide) rfl (fun ls hl => ?_)
            refine lv_goto (tgt := 40) hx hb dX0_addClass_64 (by decide) ?_
            exact ih40 (i + 1) (upd df2 ((n * 8) + i) (nI 0)) (by omega) (by omega) (df_zero hL hdf2 (show n * 8 + i = 8 * n + i by omega) c43) _ _ _ hW (lv_sub hl [0, 1, 2] rfl)
      exact hloop40 9 0 df (by omega) (by omega) hdf _ _ _ hW (lv_sub hl [0, 1, 2] rfl)
    · have _ := 0
      have c21 : 10 ≤ n := z_nlt (by omega) (by omega) c21
      refine lv_bipush (v := (-2)) hx hb dX0_addClass_24 (by decide) ?_
      exact hend _ (n, (mkF bt ll ck), (mkS ab df kn mt co be li sh ec es eo em ro dn)) _ _ _ _ rfl (⟨U, Or.inr (Or.inl ⟨(Or.inl c2), c21, rfl, rfl, rfl⟩), hS⟩) hW dX0_addClass_26
  · have _ := 0
    refine lv_aload_n hx hb dX0_addClass_5 rfl (lv_at hl 0 rfl) ?_
    refine lv_iload_n hx hb dX0_addClass_6 rfl (lv_at hl 1 rfl) ?_
    refine zcallI (rest := []) hx hb hml hown hts hK clX0_0_isClass (mX_isClass l D h ad dB dS dN dZ n ab df bt kn mt co be li ll ck sh ec es eo em ro dn x1 hn) ⟨Nat.le_of_ble_eq_true rfl, Nat.le_of_ble_eq_true rfl⟩ hW ⟨0, _, _, rfl, rfl, rfl⟩ rfl hl.1 rfl (Nat.le_of_ble_eq_true rfl) dX0_addClass_7 ⟨Nat.le_refl 0, Nat.le_refl 0⟩ (fun v u H locs hv hW => ?_)
    rcases hv with ⟨rfl, k, hk, rfl⟩ | ⟨rfl, hc⟩
    · have _ := 0
      refine lv_if_ne (tgt := 15) hx hb dX0_addClass_10 (by decide) (fun c10 => ?_) (fun c10 => ?_)
      · have _ := 0
        refine lv_aload_n hx hb dX0_addClass_15 rfl (lv_at hl 0 rfl) ?_
        refine zg0_cn hx hb hts hown hK hW dX0_addClass_16 ?_
        refine lv_bipush (v := (nI 10)) hx hb dX0_addClass_19 (by decide) ?_
        refine lv_icmp_lt (tgt := 27) hx hb dX0_addClass_21 (by decide) (fun c21 => ?_) (fun c21 => ?_)
        · have _ := 0
          have c21 : n < 10 := z_lt (by omega) (by omega) c21
          have hp : Par n (nI k) := Or.inr ⟨k, hk, rfl⟩
          refine lv_aload_n hx hb dX0_addClass_27 rfl (lv_at hl 0 rfl) ?_
          refine zg0_ab hx hb hts hown hK hW dX0_addClass_28 ?_
          refine lv_aload_n hx hb dX0_addClass_31 rfl (lv_at hl 0 rfl) ?_
          refine zg0_cn hx hb hts hown hK hW dX0_addClass_32 ?_
          refine lv_iload_n hx hb dX0_addClass_35 rfl (lv_at hl 1 rfl) ?_
          refine lv_i2b (v := (nI k)) hx hb dX0_addClass_36 (par_i2b hn hp) ?_
          refine z_bast (v := (nI k)) hx hb hK hW 1 0 rfl rfl n rfl (by omega) (by decide) (par_narb hn hp) dX0_addClass_37 (fun H locs hW => ?_)
          have hW : zH D A s (wX h ad dB dS (nI n) (upd ab n (nI k)) df bt kn mt co be li ll ck sh ec es eo em ro dn) H locs := hW
          refine lv_iconst (v := (nI 0)) hx hb dX0_addClass_38 (by decide) ?_
          refine lv_istore_n (lv' := [(2, .int (nI 0)), (0, .ref h), (1, .int (nI k))]) hx hb dX0_addClass_39 rfl hl (by decide) rfl (fun ls hl => ?_)
          have hloop40 : ∀ (N : Nat) (i : Nat) (df2 : Nat → Int32), 8 < i + N → (i ≤ 8) → (∀ j, j < 80 → df2 j = d j) → ∀ (H : Heap) (locs : List Loc) (ls : Array Slot), zH D A s (wX h ad dB dS (nI n) (upd ab n (nI k)) df2 bt kn mt co be li ll ck sh ec es eo em ro dn) H locs → lv_has ls 3 [(2, .int (nI i)), (0, .ref h), (1, .int (nI k))] → W p l e (zR 1) s m args below meth c H locs 0 0 Q (F0 m 40 ls []) := by
            intro N
            induction N with
            | zero =>
              intro i  df2  hM hi hdf2 H locs ls hW hl
              exact absurd hM (by omega)
            | succ N ih40 =>
              intro i  df2  hM hi hdf2 H locs ls hW hl
              refine lv_iload_n hx hb dX0_addClass_40 rfl (lv_at hl 0 rfl) ?_
              refine lv_bipush (v := (nI 8)) hx hb dX0_addClass_41 (by decide) ?_
              refine lv_icmp_ge (tgt := 67) hx hb dX0_addClass_43 (by decide) (fun c43 => ?_) (fun c43 => ?_)
              · have _ := 0
                have c43 : 8 ≤ i := z_le (by omega) (by omega) c43
                refine lv_aload_n hx hb dX0_addClass_67 rfl (lv_at hl 1 rfl) ?_
                refine lv_dup hx hb dX0_addClass_68 rfl ?_
                refine zg0_cn hx hb hts hown hK hW dX0_addClass_69 ?_
                refine lv_iconst (v := (nI 1)) hx hb dX0_addClass_72 (by decide) ?_
                refine lv_iadd hx hb dX0_addClass_73 ?_
                refine z_top (show ((nI n) + (nI 1)) = (nI (n + 1)) from nI_add _ _) ?_
                refine zp0_cn hx hb hts hown hK hW rfl rfl dX0_addClass_74 (fun H locs hW => ?_)
                refine lv_aload_n hx hb dX0_addClass_77 rfl (lv_at hl 1 rfl) ?_
                refine lv_iconst (v := (nI 0)) hx hb dX0_addClass_78 (by decide) ?_
                refine zp0_bt hx hb hts hown hK hW rfl rfl dX0_addClass_79 (fun H locs hW => ?_)
                refine lv_aload_n hx hb dX0_addClass_82 rfl (lv_at hl 1 rfl) ?_
                refine zg0_cn hx hb hts hown hK hW dX0_addClass_83 ?_
                refine lv_iconst (v := (nI 1)) hx hb dX0_addClass_86 (by decide) ?_
                refine lv_isub hx hb dX0_addClass_87 ?_
                refine z_top (show ((nI (n + 1)) - (nI 1)) = (nI ((n + 1) - 1)) from pk_sub (by omega)) ?_
                exact hend _ (n + 1, (mkF (nI 0) ll ck), (mkS (upd ab n (nI k)) df2 kn mt co be li sh ec es eo em ro dn)) _ _ _ _ rfl (⟨upd U n (nI k), Or.inr (Or.inr ⟨(Or.inr ⟨k, hk, rfl⟩), c21, rfl, rfl, rfl⟩), ad_next hab, hdf2, hbe, Or.inl rfl⟩) hW dX0_addClass_88
              · have _ := 0
                have c43 : i < 8 := z_nle (by omega) (by omega) c43
                refine lv_aload_n hx hb dX0_addClass_46 rfl (lv_at hl 1 rfl) ?_
                refine zg0_df hx hb hts hown hK hW dX0_addClass_47 ?_
                refine lv_aload_n hx hb dX0_addClass_50 rfl (lv_at hl 1 rfl) ?_
                refine zg0_cn hx hb hts hown hK hW dX0_addClass_51 ?_
                refine lv_bipush (v := (nI 8)) hx hb dX0_addClass_54 (by decide) ?_
                refine lv_imul hx hb dX0_addClass_56 ?_
                refine z_top (show ((nI n) * (nI 8)) = (nI (n * 8)) from pk_mul _ _) ?_
                refine lv_iload_n hx hb dX0_addClass_57 rfl (lv_at hl 0 rfl) ?_
                refine lv_iadd hx hb dX0_addClass_58 ?_
                refine z_top (show ((nI (n * 8)) + (nI i)) = (nI ((n * 8) + i)) from nI_add _ _) ?_
                refine lv_iconst (v := (nI 0)) hx hb dX0_addClass_59 (by decide) ?_
                refine z_sast (v := (nI 0)) hx hb hK hW 2 1 rfl rfl ((n * 8) + i) rfl (by omega) (by decide) (z_nars (by omega)) dX0_addClass_60 (fun H locs hW => ?_)
                have hW : zH D A s (wX h ad dB dS (nI n) (upd ab n (nI k)) (upd df2 ((n * 8) + i) (nI 0)) bt kn mt co be li ll ck sh ec es eo em ro dn) H locs := hW
                refine lv_iinc (v := (nI (i + 1))) (lv' := [(2, .int (nI (i + 1))), (0, .ref h), (1, .int (nI k))]) hx hb dX0_addClass_61 hl (k := 0) rfl (z_inc _) (by decide) rfl (fun ls hl => ?_)
                refine lv_goto (tgt := 40) hx hb dX0_addClass_64 (by decide) ?_
                exact ih40 (i + 1) (upd df2 ((n * 8) + i) (nI 0)) (by omega) (by omega) (df_zero hL hdf2 (show n * 8 + i = 8 * n + i by omega) c43) _ _ _ hW (lv_sub hl [0, 1, 2] rfl)
          exact hloop40 9 0 df (by omega) (by omega) hdf _ _ _ hW (lv_sub hl [0, 1, 2] rfl)
        · have _ := 0
          have c21 : 10 ≤ n := z_nlt (by omega) (by omega) c21
          refine lv_bipush (v := (-2)) hx hb dX0_addClass_24 (by decide) ?_
          exact hend _ (n, (mkF bt ll ck), (mkS ab df kn mt co be li sh ec es eo em ro dn)) _ _ _ _ rfl (⟨U, Or.inr (Or.inl ⟨(Or.inr ⟨k, hk, rfl⟩), c21, rfl, rfl, rfl⟩), hS⟩) hW dX0_addClass_26
      · have _ := 0
        exact absurd c10 (by decide)
    · have _ := 0
      refine lv_if_ne (tgt := 15) hx hb dX0_addClass_10 (by decide) (fun c10 => ?_) (fun c10 => ?_)
      · have _ := 0
        exact absurd c10 (by decide)
      · have _ := 0
        refine lv_iconst (v := (-1)) hx hb dX0_addClass_13 (by decide) ?_
        exact hend _ (n, (mkF bt ll ck), (mkS ab df kn mt co be li sh ec es eo em ro dn)) _ _ _ _ rfl (⟨U, Or.inl ⟨fun q => q.elim c2 (fun ⟨k, a, b⟩ => hc k a b), rfl, rfl, rfl⟩, hS⟩) hW dX0_addClass_14
set_option maxHeartbeats 4000000 in
set_option maxRecDepth 100000 in
theorem mX_define (l : Launch) (D : va_G) (h : Nat) (ad : Nat → Nat) (dB dS dN dZ : ClassId) (n : Nat) (ab df : Nat → Int32) (bt : Int32) (kn mt co be li : Nat → Int32) (ll ck : Int32) (sh ec es eo em ro dn : Nat → Int32) (U d : Nat → Int32) (x1 : Int32) (x2 : Int32) (x3 : Int32) (hL : LInv n U d) (hS : SysI n U d ab df bt kn mt be ck sh ec es eo em) : zMI l D (zT dB dS dN dZ) yX0_define cX0_define 4 .boolean 1 [.ref h, .int x1, .int x2, .int x3] (wX h ad dB dS (nI n) ab df bt kn mt co be li ll ck sh ec es eo em ro dn) (fun v (u : (Nat → Int32) × (Nat → Nat → Int32)) => ∃ d2, DefR n d x1 x2 x3 v d2 ∧ Sys n U d2 u.1 u.2) (fun u => wS h ad dB dS n u.1 u.2) := by
  refine zStartI (by decide) (Nat.le_of_ble_eq_true rfl) ?_
  intro p e s m args below meth c A Q ls hx hb hml hown hts hK hend hW hl
  have hown : s.vm.findClass RX0 = some m.cls := hown
  have hl : lv_has ls 4 [(0, .ref h), (1, .int x1), (2, .int x2), (3, .int x3)] := hl
  have hn : n ≤ 10 := hL.1
  have hU := hL.2.1
  have hab := hS.1
  have hdf := hS.2.1
  have hbe := hS.2.2.1
  refine lv_aload_n hx hb dX0_define_0 rfl (lv_at hl 0 rfl) ?_
  refine lv_iload_n hx hb dX0_define_1 rfl (lv_at hl 1 rfl) ?_
  refine zcallI (rest := []) hx hb hml hown hts hK clX0_0_isClass (mX_isClass l D h ad dB dS dN dZ n ab df bt kn mt co be li ll ck sh ec es eo em ro dn x1 hn) ⟨Nat.le_of_ble_eq_true rfl, Nat.le_of_ble_eq_true rfl⟩ hW ⟨0, _, _, rfl, rfl, rfl⟩ rfl hl.1 rfl (Nat.le_of_ble_eq_true rfl) dX0_define_2 ⟨Nat.le_refl 0, Nat.le_refl 0⟩ (fun v u H locs hv hW => ?_)
  rcases hv with ⟨rfl, k, hk, rfl⟩ | ⟨rfl, hc⟩
  · have _ := 0
    refine lv_if_eq (tgt := 27) hx hb dX0_define_5 (by decide) (fun c5 => ?_) (fun c5 => ?_)
    · have _ := 0
      exact absurd c5 (by decide)
    · have _ := 0
      refine lv_iload_n hx hb dX0_define_8 rfl (lv_at hl 2 rfl) ?_
      refine zcallS (rest := []) hx hb hml hown hts hK clX0_0_isSelector (mX_isSelector l D h ad dB dS dN dZ n ab df bt kn mt co be li ll ck sh ec es eo em ro dn x2) ⟨Nat.le_of_ble_eq_true rfl, Nat.le_of_ble_eq_true rfl⟩ hW rfl hl.1 rfl (Nat.le_of_ble_eq_true rfl) dX0_define_9 ⟨Nat.le_refl 0, Nat.le_refl 0⟩ (fun v u H locs hv hW => ?_)
      rcases hv with ⟨rfl, j, hj, rfl⟩ | ⟨rfl, hs⟩
      · have _ := 0
        refine lv_if_eq (tgt := 27) hx hb dX0_define_12 (by decide) (fun c12 => ?_) (fun c12 => ?_)
        · have _ := 0
          exact absurd c12 (by decide)
        · have _ := 0
          refine lv_iload_n hx hb dX0_define_15 rfl (lv_at hl 3 rfl) ?_
          refine lv_iconst (v := (nI 1)) hx hb dX0_define_16 (by decide) ?_
          refine lv_icmp_lt (tgt := 27) hx hb dX0_define_17 (by decide) (fun c17 => ?_) (fun c17 => ?_)
          · have _ := 0
            refine lv_iconst (v := (nI 0)) hx hb dX0_define_27 (by decide) ?_
            exact hend _ ((mkF bt ll ck), (mkS ab df kn mt co be li sh ec es eo em ro dn)) _ _ _ _ rfl (⟨d, Or.inr ⟨fun k1 j1 q1 ⟨a, b, cq, e1, e2, e3⟩ => absurd c17 (by rw [e3]; exact nI_nlt cq.1 (by omega)), rfl, rfl⟩, hS⟩) hW dX0_define_28
          · have _ := 0
            refine lv_iload_n hx hb dX0_define_20 rfl (lv_at hl 3 rfl) ?_
            refine lv_sipush (v := (nI 1000)) hx hb dX0_define_21 (by decide) ?_
            refine lv_icmp_le (tgt := 29) hx hb dX0_define_24 (by decide) (fun c24 => ?_) (fun c24 => ?_)
            · have _ := 0
              obtain ⟨q, hq1, hq2, rfl⟩ := zin_ab (a := 1) (b := 1000) (by omega) (by omega) c17 c24
              refine lv_aload_n hx hb dX0_define_29 rfl (lv_at hl 0 rfl) ?_
              refine zg0_df hx hb hts hown hK hW dX0_define_30 ?_
              refine lv_iload_n hx hb dX0_define_33 rfl (lv_at hl 1 rfl) ?_
              refine lv_bipush (v := (nI 8)) hx hb dX0_define_34 (by decide) ?_
              refine lv_imul hx hb dX0_define_36 ?_
              refine z_top (show ((nI k) * (nI 8)) = (nI (k * 8)) from pk_mul _ _) ?_
              refine lv_iload_n hx hb dX0_define_37 rfl (lv_at hl 2 rfl) ?_
              refine lv_iadd hx hb dX0_define_38 ?_
              refine z_top (show ((nI (k * 8)) + (nI j)) = (nI ((k * 8) + j)) from nI_add _ _) ?_
              refine lv_iload_n hx hb dX0_define_39 rfl (lv_at hl 3 rfl) ?_
              refine lv_i2s (v := (nI q)) hx hb dX0_define_40 (z_i2s (by omega)) ?_
              refine z_sast (v := (nI q)) hx hb hK hW 2 1 rfl rfl (8 * k + j) (by rw [Nat.mul_comm 8 k]) (by omega) (by decide) (z_nars (by omega)) dX0_define_41 (fun H locs hW => ?_)
              have hW : zH D A s (wX h ad dB dS (nI n) ab (upd df (8 * k + j) (nI q)) bt kn mt co be li ll ck sh ec es eo em ro dn) H locs := hW
              refine lv_aload_n hx hb dX0_define_42 rfl (lv_at hl 0 rfl) ?_
              refine lv_iconst (v := (nI 0)) hx hb dX0_define_43 (by decide) ?_
              refine zp0_bt hx hb hts hown hK hW rfl rfl dX0_define_44 (fun H locs hW => ?_)
              refine lv_iconst (v := (nI 1)) hx hb dX0_define_47 (by decide) ?_
              exact hend _ ((mkF (nI 0) ll ck), (mkS ab (upd df (8 * k + j) (nI q)) kn mt co be li sh ec es eo em ro dn)) _ _ _ _ rfl (⟨upd d (8 * k + j) (nI q), Or.inl ⟨k, j, q, ⟨hk, hj, ⟨hq1, hq2⟩, rfl, rfl, rfl⟩, rfl, rfl⟩, hab, df_upd hdf, hbe, Or.inl rfl⟩) hW dX0_define_48
            · have _ := 0
              refine lv_iconst (v := (nI 0)) hx hb dX0_define_27 (by decide) ?_
              exact hend _ ((mkF bt ll ck), (mkS ab df kn mt co be li sh ec es eo em ro dn)) _ _ _ _ rfl (⟨d, Or.inr ⟨fun k1 j1 q1 ⟨a, b, cq, e1, e2, e3⟩ => c24 (by rw [e3]; exact nI_le cq.2 (by omega)), rfl, rfl⟩, hS⟩) hW dX0_define_28
      · have _ := 0
        refine lv_if_eq (tgt := 27) hx hb dX0_define_12 (by decide) (fun c12 => ?_) (fun c12 => ?_)
        · have _ := 0
          refine lv_iconst (v := (nI 0)) hx hb dX0_define_27 (by decide) ?_
          exact hend _ ((mkF bt ll ck), (mkS ab df kn mt co be li sh ec es eo em ro dn)) _ _ _ _ rfl (⟨d, Or.inr ⟨fun k1 j1 q1 ⟨a, b, cq, e1, e2, e3⟩ => hs j1 b e2, rfl, rfl⟩, hS⟩) hW dX0_define_28
        · have _ := 0
          exact absurd c12 (by decide)
  · have _ := 0
    refine lv_if_eq (tgt := 27) hx hb dX0_define_5 (by decide) (fun c5 => ?_) (fun c5 => ?_)
    · have _ := 0
      refine lv_iconst (v := (nI 0)) hx hb dX0_define_27 (by decide) ?_
      exact hend _ ((mkF bt ll ck), (mkS ab df kn mt co be li sh ec es eo em ro dn)) _ _ _ _ rfl (⟨d, Or.inr ⟨fun k1 j1 q1 ⟨a, b, cq, e1, e2, e3⟩ => hc k1 a e1, rfl, rfl⟩, hS⟩) hW dX0_define_28
    · have _ := 0
      exact absurd c5 (by decide)
set_option maxHeartbeats 4000000 in
set_option maxRecDepth 100000 in
theorem mX_drop (l : Launch) (D : va_G) (h : Nat) (ad : Nat → Nat) (dB dS dN dZ : ClassId) (n : Nat) (ab df : Nat → Int32) (bt : Int32) (kn mt co be li : Nat → Int32) (ll ck : Int32) (sh ec es eo em ro dn : Nat → Int32) (U d : Nat → Int32) (x1 : Int32) (x2 : Int32) (hL : LInv n U d) (hS : SysI n U d ab df bt kn mt be ck sh ec es eo em) : zMI l D (zT dB dS dN dZ) yX0_drop cX0_drop 3 .boolean 1 [.ref h, .int x1, .int x2] (wX h ad dB dS (nI n) ab df bt kn mt co be li ll ck sh ec es eo em ro dn) (fun v (u : (Nat → Int32) × (Nat → Nat → Int32)) => ∃ d2, DropR n d x1 x2 v d2 ∧ Sys n U d2 u.1 u.2) (fun u => wS h ad dB dS n u.1 u.2) := by
  refine zStartI (by decide) (Nat.le_of_ble_eq_true rfl) ?_
  intro p e s m args below meth c A Q ls hx hb hml hown hts hK hend hW hl
  have hown : s.vm.findClass RX0 = some m.cls := hown
  have hl : lv_has ls 3 [(0, .ref h), (1, .int x1), (2, .int x2)] := hl
  have hn : n ≤ 10 := hL.1
  have hU := hL.2.1
  have hab := hS.1
  have hdf := hS.2.1
  have hbe := hS.2.2.1
  refine lv_aload_n hx hb dX0_drop_0 rfl (lv_at hl 0 rfl) ?_
  refine lv_iload_n hx hb dX0_drop_1 rfl (lv_at hl 1 rfl) ?_
  refine zcallI (rest := []) hx hb hml hown hts hK clX0_0_isClass (mX_isClass l D h ad dB dS dN dZ n ab df bt kn mt co be li ll ck sh ec es eo em ro dn x1 hn) ⟨Nat.le_of_ble_eq_true rfl, Nat.le_of_ble_eq_true rfl⟩ hW ⟨0, _, _, rfl, rfl, rfl⟩ rfl hl.1 rfl (Nat.le_of_ble_eq_true rfl) dX0_drop_2 ⟨Nat.le_refl 0, Nat.le_refl 0⟩ (fun v u H locs hv hW => ?_)
  rcases hv with ⟨rfl, k, hk, rfl⟩ | ⟨rfl, hc⟩
  · have _ := 0
    refine lv_if_eq (tgt := 29) hx hb dX0_drop_5 (by decide) (fun c5 => ?_) (fun c5 => ?_)
    · have _ := 0
      exact absurd c5 (by decide)
    · have _ := 0
      refine lv_iload_n hx hb dX0_drop_8 rfl (lv_at hl 2 rfl) ?_
      refine zcallS (rest := []) hx hb hml hown hts hK clX0_0_isSelector (mX_isSelector l D h ad dB dS dN dZ n ab df bt kn mt co be li ll ck sh ec es eo em ro dn x2) ⟨Nat.le_of_ble_eq_true rfl, Nat.le_of_ble_eq_true rfl⟩ hW rfl hl.1 rfl (Nat.le_of_ble_eq_true rfl) dX0_drop_9 ⟨Nat.le_refl 0, Nat.le_refl 0⟩ (fun v u H locs hv hW => ?_)
      rcases hv with ⟨rfl, j, hj, rfl⟩ | ⟨rfl, hs⟩
      · have _ := 0
        refine lv_if_eq (tgt := 29) hx hb dX0_drop_12 (by decide) (fun c12 => ?_) (fun c12 => ?_)
        · have _ := 0
          exact absurd c12 (by decide)
        · have _ := 0
          refine lv_aload_n hx hb dX0_drop_15 rfl (lv_at hl 0 rfl) ?_
          refine zg0_df hx hb hts hown hK hW dX0_drop_16 ?_
          refine lv_iload_n hx hb dX0_drop_19 rfl (lv_at hl 1 rfl) ?_
          refine lv_bipush (v := (nI 8)) hx hb dX0_drop_20 (by decide) ?_
          refine lv_imul hx hb dX0_drop_22 ?_
          refine z_top (show ((nI k) * (nI 8)) = (nI (k * 8)) from pk_mul _ _) ?_
          refine lv_iload_n hx hb dX0_drop_23 rfl (lv_at hl 2 rfl) ?_
          refine lv_iadd hx hb dX0_drop_24 ?_
          refine z_top (show ((nI (k * 8)) + (nI j)) = (nI ((k * 8) + j)) from nI_add _ _) ?_
          refine z_sald hx hb hK hW 2 1 rfl rfl (8 * k + j) (by rw [Nat.mul_comm 8 k]) (by omega) (by decide) dX0_drop_25 ?_
          refine z_top (show (df (8 * k + j)) = (d (8 * k + j)) from hdf _ (by omega)) ?_
          refine lv_if_ne (tgt := 31) hx hb dX0_drop_26 (by decide) (fun c26 => ?_) (fun c26 => ?_)
          · have _ := 0
            refine lv_aload_n hx hb dX0_drop_31 rfl (lv_at hl 0 rfl) ?_
            refine zg0_df hx hb hts hown hK hW dX0_drop_32 ?_
            refine lv_iload_n hx hb dX0_drop_35 rfl (lv_at hl 1 rfl) ?_
            refine lv_bipush (v := (nI 8)) hx hb dX0_drop_36 (by decide) ?_
            refine lv_imul hx hb dX0_drop_38 ?_
            refine z_top (show ((nI k) * (nI 8)) = (nI (k * 8)) from pk_mul _ _) ?_
            refine lv_iload_n hx hb dX0_drop_39 rfl (lv_at hl 2 rfl) ?_
            refine lv_iadd hx hb dX0_drop_40 ?_
            refine z_top (show ((nI (k * 8)) + (nI j)) = (nI ((k * 8) + j)) from nI_add _ _) ?_
            refine lv_iconst (v := (nI 0)) hx hb dX0_drop_41 (by decide) ?_
            refine z_sast (v := (nI 0)) hx hb hK hW 2 1 rfl rfl (8 * k + j) (by rw [Nat.mul_comm 8 k]) (by omega) (by decide) (z_nars (by omega)) dX0_drop_42 (fun H locs hW => ?_)
            have hW : zH D A s (wX h ad dB dS (nI n) ab (upd df (8 * k + j) (nI 0)) bt kn mt co be li ll ck sh ec es eo em ro dn) H locs := hW
            refine lv_aload_n hx hb dX0_drop_43 rfl (lv_at hl 0 rfl) ?_
            refine lv_iconst (v := (nI 0)) hx hb dX0_drop_44 (by decide) ?_
            refine zp0_bt hx hb hts hown hK hW rfl rfl dX0_drop_45 (fun H locs hW => ?_)
            refine lv_iconst (v := (nI 1)) hx hb dX0_drop_48 (by decide) ?_
            exact hend _ ((mkF (nI 0) ll ck), (mkS ab (upd df (8 * k + j) (nI 0)) kn mt co be li sh ec es eo em ro dn)) _ _ _ _ rfl (⟨upd d (8 * k + j) (nI 0), Or.inl ⟨k, j, ⟨hk, hj, rfl, rfl⟩, c26, rfl, rfl⟩, hab, df_upd hdf, hbe, Or.inl rfl⟩) hW dX0_drop_49
          · have _ := 0
            refine lv_iconst (v := (nI 0)) hx hb dX0_drop_29 (by decide) ?_
            exact hend _ ((mkF bt ll ck), (mkS ab df kn mt co be li sh ec es eo em ro dn)) _ _ _ _ rfl (⟨d, Or.inr ⟨fun k1 j1 ⟨a, b, e1, e2⟩ => by rw [← z_eq (by omega) (by omega) e1, ← z_eq (by omega) (by omega) e2]; exact c26, rfl, rfl⟩, hS⟩) hW dX0_drop_30
      · have _ := 0
        refine lv_if_eq (tgt := 29) hx hb dX0_drop_12 (by decide) (fun c12 => ?_) (fun c12 => ?_)
        · have _ := 0
          refine lv_iconst (v := (nI 0)) hx hb dX0_drop_29 (by decide) ?_
          exact hend _ ((mkF bt ll ck), (mkS ab df kn mt co be li sh ec es eo em ro dn)) _ _ _ _ rfl (⟨d, Or.inr ⟨fun k1 j1 ⟨a, b, e1, e2⟩ => absurd e2 (hs j1 b), rfl, rfl⟩, hS⟩) hW dX0_drop_30
        · have _ := 0
          exact absurd c12 (by decide)
  · have _ := 0
    refine lv_if_eq (tgt := 29) hx hb dX0_drop_5 (by decide) (fun c5 => ?_) (fun c5 => ?_)
    · have _ := 0
      refine lv_iconst (v := (nI 0)) hx hb dX0_drop_29 (by decide) ?_
      exact hend _ ((mkF bt ll ck), (mkS ab df kn mt co be li sh ec es eo em ro dn)) _ _ _ _ rfl (⟨d, Or.inr ⟨fun k1 j1 ⟨a, b, e1, e2⟩ => absurd e1 (hc k1 a), rfl, rfl⟩, hS⟩) hW dX0_drop_30
    · have _ := 0
      exact absurd c5 (by decide)
set_option maxHeartbeats 4000000 in
set_option maxRecDepth 100000 in
theorem mX_move (l : Launch) (D : va_G) (h : Nat) (ad : Nat → Nat) (dB dS dN dZ : ClassId) (n : Nat) (ab df : Nat → Int32) (bt : Int32) (kn mt co be li : Nat → Int32) (ll ck : Int32) (sh ec es eo em ro dn : Nat → Int32) (U d : Nat → Int32) (x1 : Int32) (x2 : Int32) (hL : LInv n U d) (hS : SysI n U d ab df bt kn mt be ck sh ec es eo em) : zMI l D (zT dB dS dN dZ) yX0_move cX0_move 3 .boolean 1 [.ref h, .int x1, .int x2] (wX h ad dB dS (nI n) ab df bt kn mt co be li ll ck sh ec es eo em ro dn) (fun v (u : (Nat → Int32) × (Nat → Nat → Int32)) => ∃ U2, MoveR n U x1 x2 v U2 ∧ Sys n U2 d u.1 u.2) (fun u => wS h ad dB dS n u.1 u.2) := by
  refine zStartI (by decide) (Nat.le_of_ble_eq_true rfl) ?_
  intro p e s m args below meth c A Q ls hx hb hml hown hts hK hend hW hl
  have hown : s.vm.findClass RX0 = some m.cls := hown
  have hl : lv_has ls 3 [(0, .ref h), (1, .int x1), (2, .int x2)] := hl
  have hn : n ≤ 10 := hL.1
  have hU := hL.2.1
  have hab := hS.1
  have hdf := hS.2.1
  have hbe := hS.2.2.1
  refine lv_aload_n hx hb dX0_move_0 rfl (lv_at hl 0 rfl) ?_
  refine lv_iload_n hx hb dX0_move_1 rfl (lv_at hl 1 rfl) ?_
  refine zcallI (rest := []) hx hb hml hown hts hK clX0_0_isClass (mX_isClass l D h ad dB dS dN dZ n ab df bt kn mt co be li ll ck sh ec es eo em ro dn x1 hn) ⟨Nat.le_of_ble_eq_true rfl, Nat.le_of_ble_eq_true rfl⟩ hW ⟨0, _, _, rfl, rfl, rfl⟩ rfl hl.1 rfl (Nat.le_of_ble_eq_true rfl) dX0_move_2 ⟨Nat.le_refl 0, Nat.le_refl 0⟩ (fun v u H locs hv hW => ?_)
  rcases hv with ⟨rfl, k, hk, rfl⟩ | ⟨rfl, hc⟩
  · have _ := 0
    refine lv_if_eq (tgt := 21) hx hb dX0_move_5 (by decide) (fun c5 => ?_) (fun c5 => ?_)
    · have _ := 0
      exact absurd c5 (by decide)
    · have _ := 0
      refine lv_iload_n hx hb dX0_move_8 rfl (lv_at hl 2 rfl) ?_
      refine lv_iconst (v := (-1)) hx hb dX0_move_9 (by decide) ?_
      refine lv_icmp_eq (tgt := 23) hx hb dX0_move_10 (by decide) (fun c10 => ?_) (fun c10 => ?_)
      · have _ := 0
        have hp : Par n x2 := Or.inl c10
        refine lv_iload_n hx hb dX0_move_23 rfl (lv_at hl 2 rfl) ?_
        refine lv_iconst (v := (-1)) hx hb dX0_move_24 (by decide) ?_
        refine lv_icmp_eq (tgt := 39) hx hb dX0_move_25 (by decide) (fun c25 => ?_) (fun c25 => ?_)
        · have _ := 0
          have hu : undF U (nI k) 10 x2 = false := by rw [c25]; exact und_neg (by decide)
          refine lv_aload_n hx hb dX0_move_39 rfl (lv_at hl 0 rfl) ?_
          refine zg0_ab hx hb hts hown hK hW dX0_move_40 ?_
          refine lv_iload_n hx hb dX0_move_43 rfl (lv_at hl 1 rfl) ?_
          refine lv_iload_n hx hb dX0_move_44 rfl (lv_at hl 2 rfl) ?_
          refine lv_i2b (v := x2) hx hb dX0_move_45 (par_i2b hn hp) ?_
          refine z_bast (v := x2) hx hb hK hW 1 0 rfl rfl k rfl (by omega) (by decide) (par_narb hn hp) dX0_move_46 (fun H locs hW => ?_)
          have hW : zH D A s (wX h ad dB dS (nI n) (upd ab k x2) df bt kn mt co be li ll ck sh ec es eo em ro dn) H locs := hW
          refine lv_aload_n hx hb dX0_move_47 rfl (lv_at hl 0 rfl) ?_
          refine lv_iconst (v := (nI 0)) hx hb dX0_move_48 (by decide) ?_
          refine zp0_bt hx hb hts hown hK hW rfl rfl dX0_move_49 (fun H locs hW => ?_)
          refine lv_iconst (v := (nI 1)) hx hb dX0_move_52 (by decide) ?_
          exact hend _ ((mkF (nI 0) ll ck), (mkS (upd ab k x2) df kn mt co be li sh ec es eo em ro dn)) _ _ _ _ rfl (⟨upd U k x2, Or.inl ⟨k, hk, rfl, hp, hu, rfl, rfl⟩, ab_upd hab, hdf, hbe, Or.inl rfl⟩) hW dX0_move_53
        · have _ := 0
          refine lv_aload_n hx hb dX0_move_28 rfl (lv_at hl 0 rfl) ?_
          refine lv_iload_n hx hb dX0_move_29 rfl (lv_at hl 2 rfl) ?_
          refine lv_iload_n hx hb dX0_move_30 rfl (lv_at hl 1 rfl) ?_
          refine zcallI (rest := []) hx hb hml hown hts hK clX0_0_under (mX_under l D h ad dB dS dN dZ n ab df bt kn mt co be li ll ck sh ec es eo em ro dn U k x2 hn hU hab hk hp) ⟨Nat.le_of_ble_eq_true rfl, Nat.le_of_ble_eq_true rfl⟩ hW ⟨0, _, _, rfl, rfl, rfl⟩ rfl hl.1 rfl (Nat.le_of_ble_eq_true rfl) dX0_move_31 ⟨Nat.le_refl 0, Nat.le_refl 0⟩ (fun v u H locs hv hW => ?_)
          subst hv
          refine lv_if_eq (tgt := 39) hx hb dX0_move_34 (by decide) (fun c34 => ?_) (fun c34 => ?_)
          · have _ := 0
            have c34 : (undF U (nI k) 10 x2) = false := z_b0 c34
            have hu := c34
            refine lv_aload_n hx hb dX0_move_39 rfl (lv_at hl 0 rfl) ?_
            refine zg0_ab hx hb hts hown hK hW dX0_move_40 ?_
            refine lv_iload_n hx hb dX0_move_43 rfl (lv_at hl 1 rfl) ?_
            refine lv_iload_n hx hb dX0_move_44 rfl (lv_at hl 2 rfl) ?_
            refine lv_i2b (v := x2) hx hb dX0_move_45 (par_i2b hn hp) ?_
            refine z_bast (v := x2) hx hb hK hW 1 0 rfl rfl k rfl (by omega) (by decide) (par_narb hn hp) dX0_move_46 (fun H locs hW => ?_)
            have hW : zH D A s (wX h ad dB dS (nI n) (upd ab k x2) df bt kn mt co be li ll ck sh ec es eo em ro dn) H locs := hW
            refine lv_aload_n hx hb dX0_move_47 rfl (lv_at hl 0 rfl) ?_
            refine lv_iconst (v := (nI 0)) hx hb dX0_move_48 (by decide) ?_
            refine zp0_bt hx hb hts hown hK hW rfl rfl dX0_move_49 (fun H locs hW => ?_)
            refine lv_iconst (v := (nI 1)) hx hb dX0_move_52 (by decide) ?_
            exact hend _ ((mkF (nI 0) ll ck), (mkS (upd ab k x2) df kn mt co be li sh ec es eo em ro dn)) _ _ _ _ rfl (⟨upd U k x2, Or.inl ⟨k, hk, rfl, hp, hu, rfl, rfl⟩, ab_upd hab, hdf, hbe, Or.inl rfl⟩) hW dX0_move_53
          · have _ := 0
            have c34 : (undF U (nI k) 10 x2) = true := z_b1 c34
            refine lv_iconst (v := (nI 0)) hx hb dX0_move_37 (by decide) ?_
            exact hend _ ((mkF bt ll ck), (mkS ab df kn mt co be li sh ec es eo em ro dn)) _ _ _ _ rfl (⟨U, Or.inr ⟨fun k1 a e1 pp => c34, rfl, rfl⟩, hS⟩) hW dX0_move_38
      · have _ := 0
        refine lv_aload_n hx hb dX0_move_13 rfl (lv_at hl 0 rfl) ?_
        refine lv_iload_n hx hb dX0_move_14 rfl (lv_at hl 2 rfl) ?_
        refine zcallI (rest := []) hx hb hml hown hts hK clX0_0_isClass (mX_isClass l D h ad dB dS dN dZ n ab df bt kn mt co be li ll ck sh ec es eo em ro dn x2 hn) ⟨Nat.le_of_ble_eq_true rfl, Nat.le_of_ble_eq_true rfl⟩ hW ⟨0, _, _, rfl, rfl, rfl⟩ rfl hl.1 rfl (Nat.le_of_ble_eq_true rfl) dX0_move_15 ⟨Nat.le_refl 0, Nat.le_refl 0⟩ (fun v u H locs hv hW => ?_)
        rcases hv with ⟨rfl, hp2⟩ | ⟨rfl, hc2⟩
        · have _ := 0
          refine lv_if_ne (tgt := 23) hx hb dX0_move_18 (by decide) (fun c18 => ?_) (fun c18 => ?_)
          · have _ := 0
            have hp : Par n x2 := Or.inr hp2
            refine lv_iload_n hx hb dX0_move_23 rfl (lv_at hl 2 rfl) ?_
            refine lv_iconst (v := (-1)) hx hb dX0_move_24 (by decide) ?_
            refine lv_icmp_eq (tgt := 39) hx hb dX0_move_25 (by decide) (fun c25 => ?_) (fun c25 => ?_)
            · have _ := 0
              have hu : undF U (nI k) 10 x2 = false := by rw [c25]; exact und_neg (by decide)
              refine lv_aload_n hx hb dX0_move_39 rfl (lv_at hl 0 rfl) ?_
              refine zg0_ab hx hb hts hown hK hW dX0_move_40 ?_
              refine lv_iload_n hx hb dX0_move_43 rfl (lv_at hl 1 rfl) ?_
              refine lv_iload_n hx hb dX0_move_44 rfl (lv_at hl 2 rfl) ?_
              refine lv_i2b (v := x2) hx hb dX0_move_45 (par_i2b hn hp) ?_
              refine z_bast (v := x2) hx hb hK hW 1 0 rfl rfl k rfl (by omega) (by decide) (par_narb hn hp) dX0_move_46 (fun H locs hW => ?_)
              have hW : zH D A s (wX h ad dB dS (nI n) (upd ab k x2) df bt kn mt co be li ll ck sh ec es eo em ro dn) H locs := hW
              refine lv_aload_n hx hb dX0_move_47 rfl (lv_at hl 0 rfl) ?_
              refine lv_iconst (v := (nI 0)) hx hb dX0_move_48 (by decide) ?_
              refine zp0_bt hx hb hts hown hK hW rfl rfl dX0_move_49 (fun H locs hW => ?_)
              refine lv_iconst (v := (nI 1)) hx hb dX0_move_52 (by decide) ?_
              exact hend _ ((mkF (nI 0) ll ck), (mkS (upd ab k x2) df kn mt co be li sh ec es eo em ro dn)) _ _ _ _ rfl (⟨upd U k x2, Or.inl ⟨k, hk, rfl, hp, hu, rfl, rfl⟩, ab_upd hab, hdf, hbe, Or.inl rfl⟩) hW dX0_move_53
            · have _ := 0
              refine lv_aload_n hx hb dX0_move_28 rfl (lv_at hl 0 rfl) ?_
              refine lv_iload_n hx hb dX0_move_29 rfl (lv_at hl 2 rfl) ?_
              refine lv_iload_n hx hb dX0_move_30 rfl (lv_at hl 1 rfl) ?_
              refine zcallI (rest := []) hx hb hml hown hts hK clX0_0_under (mX_under l D h ad dB dS dN dZ n ab df bt kn mt co be li ll ck sh ec es eo em ro dn U k x2 hn hU hab hk hp) ⟨Nat.le_of_ble_eq_true rfl, Nat.le_of_ble_eq_true rfl⟩ hW ⟨0, _, _, rfl, rfl, rfl⟩ rfl hl.1 rfl (Nat.le_of_ble_eq_true rfl) dX0_move_31 ⟨Nat.le_refl 0, Nat.le_refl 0⟩ (fun v u H locs hv hW => ?_)
              subst hv
              refine lv_if_eq (tgt := 39) hx hb dX0_move_34 (by decide) (fun c34 => ?_) (fun c34 => ?_)
              · have _ := 0
                have c34 : (undF U (nI k) 10 x2) = false := z_b0 c34
                have hu := c34
                refine lv_aload_n hx hb dX0_move_39 rfl (lv_at hl 0 rfl) ?_
                refine zg0_ab hx hb hts hown hK hW dX0_move_40 ?_
                refine lv_iload_n hx hb dX0_move_43 rfl (lv_at hl 1 rfl) ?_
                refine lv_iload_n hx hb dX0_move_44 rfl (lv_at hl 2 rfl) ?_
                refine lv_i2b (v := x2) hx hb dX0_move_45 (par_i2b hn hp) ?_
                refine z_bast (v := x2) hx hb hK hW 1 0 rfl rfl k rfl (by omega) (by decide) (par_narb hn hp) dX0_move_46 (fun H locs hW => ?_)
                have hW : zH D A s (wX h ad dB dS (nI n) (upd ab k x2) df bt kn mt co be li ll ck sh ec es eo em ro dn) H locs := hW
                refine lv_aload_n hx hb dX0_move_47 rfl (lv_at hl 0 rfl) ?_
                refine lv_iconst (v := (nI 0)) hx hb dX0_move_48 (by decide) ?_
                refine zp0_bt hx hb hts hown hK hW rfl rfl dX0_move_49 (fun H locs hW => ?_)
                refine lv_iconst (v := (nI 1)) hx hb dX0_move_52 (by decide) ?_
                exact hend _ ((mkF (nI 0) ll ck), (mkS (upd ab k x2) df kn mt co be li sh ec es eo em ro dn)) _ _ _ _ rfl (⟨upd U k x2, Or.inl ⟨k, hk, rfl, hp, hu, rfl, rfl⟩, ab_upd hab, hdf, hbe, Or.inl rfl⟩) hW dX0_move_53
              · have _ := 0
                have c34 : (undF U (nI k) 10 x2) = true := z_b1 c34
                refine lv_iconst (v := (nI 0)) hx hb dX0_move_37 (by decide) ?_
                exact hend _ ((mkF bt ll ck), (mkS ab df kn mt co be li sh ec es eo em ro dn)) _ _ _ _ rfl (⟨U, Or.inr ⟨fun k1 a e1 pp => c34, rfl, rfl⟩, hS⟩) hW dX0_move_38
          · have _ := 0
            exact absurd c18 (by decide)
        · have _ := 0
          refine lv_if_ne (tgt := 23) hx hb dX0_move_18 (by decide) (fun c18 => ?_) (fun c18 => ?_)
          · have _ := 0
            exact absurd c18 (by decide)
          · have _ := 0
            refine lv_iconst (v := (nI 0)) hx hb dX0_move_21 (by decide) ?_
            exact hend _ ((mkF bt ll ck), (mkS ab df kn mt co be li sh ec es eo em ro dn)) _ _ _ _ rfl (⟨U, Or.inr ⟨fun k1 a e1 pp => absurd pp (fun q => q.elim c10 (fun ⟨k2, a2, b2⟩ => hc2 k2 a2 b2)), rfl, rfl⟩, hS⟩) hW dX0_move_22
  · have _ := 0
    refine lv_if_eq (tgt := 21) hx hb dX0_move_5 (by decide) (fun c5 => ?_) (fun c5 => ?_)
    · have _ := 0
      refine lv_iconst (v := (nI 0)) hx hb dX0_move_21 (by decide) ?_
      exact hend _ ((mkF bt ll ck), (mkS ab df kn mt co be li sh ec es eo em ro dn)) _ _ _ _ rfl (⟨U, Or.inr ⟨fun k1 a e1 pp => absurd e1 (hc k1 a), rfl, rfl⟩, hS⟩) hW dX0_move_22
    · have _ := 0
      exact absurd c5 (by decide)
set_option maxHeartbeats 4000000 in
set_option maxRecDepth 100000 in
theorem mX_classes (l : Launch) (D : va_G) (h : Nat) (ad : Nat → Nat) (dB dS dN dZ : ClassId) (n : Nat) (ab df : Nat → Int32) (bt : Int32) (kn mt co be li : Nat → Int32) (ll ck : Int32) (sh ec es eo em ro dn : Nat → Int32) (U d : Nat → Int32)  (hL : LInv n U d) (hS : SysI n U d ab df bt kn mt be ck sh ec es eo em) : zMI l D (zT dB dS dN dZ) yX0_classes cX0_classes 1 .int 0 [.ref h] (wX h ad dB dS (nI n) ab df bt kn mt co be li ll ck sh ec es eo em ro dn) (fun v (u : (Nat → Int32) × (Nat → Nat → Int32)) => Sys n U d u.1 u.2 ∧ v = nI n) (fun u => wS h ad dB dS n u.1 u.2) := by
  refine zStartI (by decide) (Nat.le_of_ble_eq_true rfl) ?_
  intro p e s m args below meth c A Q ls hx hb hml hown hts hK hend hW hl
  have hown : s.vm.findClass RX0 = some m.cls := hown
  have hl : lv_has ls 1 [(0, .ref h)] := hl
  refine lv_aload_n hx hb dX0_classes_0 rfl (lv_at hl 0 rfl) ?_
  refine zg0_cn hx hb hts hown hK hW dX0_classes_1 ?_
  exact hend _ ((mkF bt ll ck), (mkS ab df kn mt co be li sh ec es eo em ro dn)) _ _ _ _ rfl (⟨hS, rfl⟩) hW dX0_classes_4
set_option maxHeartbeats 4000000 in
set_option maxRecDepth 100000 in
theorem mX_parent (l : Launch) (D : va_G) (h : Nat) (ad : Nat → Nat) (dB dS dN dZ : ClassId) (n : Nat) (ab df : Nat → Int32) (bt : Int32) (kn mt co be li : Nat → Int32) (ll ck : Int32) (sh ec es eo em ro dn : Nat → Int32) (U d : Nat → Int32) (x1 : Int32) (hL : LInv n U d) (hS : SysI n U d ab df bt kn mt be ck sh ec es eo em) : zMI l D (zT dB dS dN dZ) yX0_parent cX0_parent 2 .int 1 [.ref h, .int x1] (wX h ad dB dS (nI n) ab df bt kn mt co be li ll ck sh ec es eo em ro dn) (fun v (u : (Nat → Int32) × (Nat → Nat → Int32)) => Sys n U d u.1 u.2 ∧ ParR n U x1 v) (fun u => wS h ad dB dS n u.1 u.2) := by
  refine zStartI (by decide) (Nat.le_of_ble_eq_true rfl) ?_
  intro p e s m args below meth c A Q ls hx hb hml hown hts hK hend hW hl
  have hown : s.vm.findClass RX0 = some m.cls := hown
  have hl : lv_has ls 2 [(0, .ref h), (1, .int x1)] := hl
  have hn : n ≤ 10 := hL.1
  have hU := hL.2.1
  have hab := hS.1
  have hdf := hS.2.1
  have hbe := hS.2.2.1
  refine lv_aload_n hx hb dX0_parent_0 rfl (lv_at hl 0 rfl) ?_
  refine lv_iload_n hx hb dX0_parent_1 rfl (lv_at hl 1 rfl) ?_
  refine zcallI (rest := []) hx hb hml hown hts hK clX0_0_isClass (mX_isClass l D h ad dB dS dN dZ n ab df bt kn mt co be li ll ck sh ec es eo em ro dn x1 hn) ⟨Nat.le_of_ble_eq_true rfl, Nat.le_of_ble_eq_true rfl⟩ hW ⟨0, _, _, rfl, rfl, rfl⟩ rfl hl.1 rfl (Nat.le_of_ble_eq_true rfl) dX0_parent_2 ⟨Nat.le_refl 0, Nat.le_refl 0⟩ (fun v u H locs hv hW => ?_)
  rcases hv with ⟨rfl, k, hk, rfl⟩ | ⟨rfl, hc⟩
  · have _ := 0
    refine lv_if_eq (tgt := 17) hx hb dX0_parent_5 (by decide) (fun c5 => ?_) (fun c5 => ?_)
    · have _ := 0
      exact absurd c5 (by decide)
    · have _ := 0
      refine lv_aload_n hx hb dX0_parent_8 rfl (lv_at hl 0 rfl) ?_
      refine zg0_ab hx hb hts hown hK hW dX0_parent_9 ?_
      refine lv_iload_n hx hb dX0_parent_12 rfl (lv_at hl 1 rfl) ?_
      refine z_bald hx hb hK hW 1 0 rfl rfl k rfl (by omega) (by decide) dX0_parent_13 ?_
      refine z_top (show (ab k) = (U k) from hab k hk) ?_
      refine lv_goto (tgt := 18) hx hb dX0_parent_14 (by decide) ?_
      exact hend _ ((mkF bt ll ck), (mkS ab df kn mt co be li sh ec es eo em ro dn)) _ _ _ _ rfl (⟨hS, Or.inl ⟨k, hk, rfl, rfl⟩⟩) hW dX0_parent_18
  · have _ := 0
    refine lv_if_eq (tgt := 17) hx hb dX0_parent_5 (by decide) (fun c5 => ?_) (fun c5 => ?_)
    · have _ := 0
      refine lv_iconst (v := (-1)) hx hb dX0_parent_17 (by decide) ?_
      exact hend _ ((mkF bt ll ck), (mkS ab df kn mt co be li sh ec es eo em ro dn)) _ _ _ _ rfl (⟨hS, Or.inr ⟨hc, rfl⟩⟩) hW dX0_parent_18
    · have _ := 0
      exact absurd c5 (by decide)
end
section
set_option maxRecDepth 100000
/-! worlds side by side, and what the law itself does -/
section ZG
variable {D : va_G} {A : Nat → Prop} {s : State} {u v u1 : va_W} {H H1 : Heap} {locs locs1 : List Loc}
theorem zl_left {u v : va_W} {i : Nat} {q : Nat × va_E} (h : u[i]? = some q) : (u ++ v)[i]? = some q := by
  have hl := (List.getElem?_eq_some_iff.mp h).1
  rw [List.getElem?_append_left hl]
  exact h
theorem zl_right {u v : va_W} {i : Nat} {q : Nat × va_E} (h : v[i]? = some q) : (u ++ v)[u.length + i]? = some q := by
  rw [List.getElem?_append_right (by omega), show u.length + i - u.length = i by omega]
  exact h
theorem zapp_l (h : zH D A s (u ++ v) H locs) : zH D A s u H locs := by
  obtain ⟨h1, h2, h3, h4⟩ := h
  exact ⟨fun k q hk => h1 k q (zl_left hk), ⟨fun i j p q hi hj e => h2.1 i j p q (zl_left hi) (zl_left hj) e, fun k q hk => h2.2 k q (zl_left hk)⟩, h3, h4⟩
theorem zapp_r (h : zH D A s (u ++ v) H locs) : zH D A s v H locs := by
  obtain ⟨h1, h2, h3, h4⟩ := h
  exact ⟨fun k q hk => h1 _ q (zl_right hk), ⟨fun i j p q hi hj e => by have := h2.1 _ _ p q (zl_right (u := u) hi) (zl_right (u := u) hj) e; omega, fun k q hk => h2.2 _ q (zl_right hk)⟩, h3, h4⟩
theorem zdis (h : zH D A s (u ++ v) H locs) : ∀ (i j : Nat) (p q : Nat × va_E), u[i]? = some p → v[j]? = some q → p.1 ≠ q.1 := by
  intro i j p q hi hj e
  have := h.2.1.1 _ _ p q (zl_left hi) (zl_right (u := u) hj) e
  have hl := (List.getElem?_eq_some_iff.mp hi).1
  omega
theorem zout_r (h : zH D A s (u ++ v) H locs) : ∀ (j : Nat) (q : Nat × va_E), v[j]? = some q → q.1 < H.size ∧ ¬ va_A u H.size q.1 := by
  intro j q hj
  have hl := ((zapp_r h).1 j q hj).lt
  refine ⟨hl, fun z => ?_⟩
  rcases z with ⟨k, e, hk⟩ | z
  · exact zdis h k j _ q hk hj rfl
  · omega
theorem zout_l (h : zH D A s (u ++ v) H locs) : ∀ (j : Nat) (q : Nat × va_E), u[j]? = some q → q.1 < H.size ∧ ¬ va_A v H.size q.1 := by
  intro j q hj
  have hl := ((zapp_l h).1 j q hj).lt
  refine ⟨hl, fun z => ?_⟩
  rcases z with ⟨k, e, hk⟩ | z
  · exact zdis h j k q _ hj hk rfl
  · omega
theorem zglueL (h : zH D A s (u ++ v) H locs) (hP1 : va_P D vwCl u1 H1) (hD1 : va_D (va_A u H.size) u1) (hk : ∀ q : Nat, q < H.size → ¬ va_A u H.size q → H1[q]? = H[q]?) (hS1 : va_S A s.heap H1 locs1) : zH D A s (u1 ++ v) H1 locs1 := by
  have hF := zfree (zapp_l h)
  refine ⟨va_P.app hP1 (fun k q hq => ((zapp_r h).1 k q hq).kept (hk q.1 (zout_r h k q hq).1 (zout_r h k q hq).2)), va_D.app (hD1.weaken (fun _ q _ z => hF q.1 z)) (zapp_r h).2.1 (fun i j p q hp hq e => ?_), hS1, h.2.2.2⟩
  exact (zout_r h j q hq).2 (by rw [← e]; exact hD1.2 i p hp)
theorem zglueR (h : zH D A s (u ++ v) H locs) (hP1 : va_P D vwCl u1 H1) (hD1 : va_D (va_A v H.size) u1) (hk : ∀ q : Nat, q < H.size → ¬ va_A v H.size q → H1[q]? = H[q]?) (hS1 : va_S A s.heap H1 locs1) : zH D A s (u ++ u1) H1 locs1 := by
  have hF := zfree (zapp_r h)
  refine ⟨va_P.app (fun k q hq => ((zapp_l h).1 k q hq).kept (hk q.1 (zout_l h k q hq).1 (zout_l h k q hq).2)) hP1, va_D.app (zapp_l h).2.1 (hD1.weaken (fun _ q _ z => hF q.1 z)) (fun i j p q hp hq e => ?_), hS1, h.2.2.2⟩
  exact (zout_l h i p hp).2 (by rw [e]; exact hD1.2 j q hq)
end ZG
/-- a contract of a constructor -/
def zMC {S : Type} (l : Launch) (D : va_G) (tys : List (ClassId × FieldType)) (y : MethodName) (cc : ByteArray) (L : Nat) (rm : Room) (mc ms : Nat) (As : List Value) (w0 : va_W) (post : S → Prop) (wf : S → va_W) : Prop :=
  ∀ sz : Nat, Met l y (ws_ y cc L none) rm (zPc D tys As w0 sz) (va_Qv post (fun u t => zB D tys (va_A w0 sz) (wf u) t) (va_A w0 sz)) mc ms (va_A w0 sz)
theorem zStartC {S : Type} {l : Launch} {D : va_G} {tys : List (ClassId × FieldType)} {y : MethodName} {cc : ByteArray} {L : Nat} {rm : Room} {mc ms : Nat} {As : List Value} {w0 : va_W} {post : S → Prop} {wf : S → va_W}
    (hy : plainName y.cls = true) (hAs : (lg_sl As).length ≤ L)
    (body : ∀ (p : Program) (e : Env) (s : State) (m : MethodId) (args : Array Value) (below : List Frame) (meth : Method) (c : Code) (A : Nat → Prop) (Q : State → Prop) (ls : Array Slot), p.tables.exec = Jvm.exec → c.code = cc → c.maxLocals = L → s.vm.findClass y.cls = some m.cls → (∀ w ∈ lw_all, w.before args s = true) → va_K D vwCl tys s → meth.name = y.name →
      (∀ (u : S) (H : Heap) (locs : List Loc) (pc : Nat) (ls : Array Slot), post u → zH D A s (wf u) H locs → decode cc pc = .ok (.return_, 1) → W p l e rm s m args below meth c H locs mc ms Q (F0 m pc ls [])) →
      zH D A s w0 s.heap [] → lv_has ls L (lv_args 0 As) → W p l e rm s m args below meth c s.heap [] 0 0 Q (F0 m 0 ls [])) : zMC l D tys y cc L rm mc ms As w0 post wf := by
  intro sz
  refine Met.ofW (cc := cc) (maxL := L) (ret := none) hy rfl ?_
  intro p e s m args below meth c s₁ B hml hv
  obtain ⟨rfl, hsz, hP, hK, hD0⟩ := hv
  have hx := B.exec
  have hb := B.bytes
  have hr := B.returns
  have hts := atoms_spec (ws := ws_ y cc L none) B.pre
  have hts : ∀ w ∈ lw_all, w.before _ s = true := fun w h => hts w (List.mem_cons_of_mem _ h)
  have hown : s.vm.findClass y.cls = some m.cls := findClass_of_methodNamed B.named
  have hlocks := B.notSynchronized
  have hin : meth.name = y.name := (name_of_methodNamed B.named B.method).1
  subst hsz
  have hD := hD0.self (sz := s.heap.size)
  generalize hAe : va_A w0 s.heap.size = A at hD ⊢
  have hA : ∀ q : Nat, s.heap.size ≤ q → A q := fun q h => by rw [← hAe]; exact Or.inr h
  have hl := lv_entry As (n := L) hAs
  rw [lg_entry_eq]
  generalize (lg_sl As ++ List.replicate (L - (lg_sl As).length) Slot.unset).toArray = ls at hl ⊢
  refine body p e s m _ below meth c A _ ls hx hb hml hown hts hK hin ?_ ⟨hP, hD, va_S.rf, hA⟩ hl
  intro u H locs pc ls hp hH hd
  exact W.vret hx hb hr (fun t ht hW => ⟨⟨u, rfl, hp, by rw [ht]; exact hH.1, va_K.moved hW.alike hK, hH.2.1⟩, hH.2.2.1.F ht⟩) hH.2.2.1.2.2 hd
/-- an array of zeros -/
def zz : Nat → Int32 := fun _ => nI 0
theorem zK_one {D : va_G} {tys : List (ClassId × FieldType)} {s : State} {a b : ClassId} {ty : FieldType} (h : va_K D vwCl tys s) (i j : Nat) (hi : tys[i]? = some (a, ty)) (hj : tys[j]? = some (b, ty)) (hr : ∀ c : ClassId, va_RA s c ty → s.vm.findClass ("[" ++ ty.toString) = some c) : b = a := by
  have h1 := hr a (h.2 i _ hi).2
  have h2 := hr b (h.2 j _ hj).2
  rw [h1] at h2
  exact (Option.some.inj h2).symm
section ZL
variable {p : Program} {l : Launch} {e : Env} {R : Room} {s : State} {m : MethodId} {args : Array Value} {below : List Frame} {meth : Method} {c : Code} {H : Heap} {locs : List Loc} {cells slots : Nat} {Q : State → Prop}
variable {cc cb : ByteArray} {pc nL Lb k n index : Nat} {ls : Array Slot} {rest st0 As : List Value} {D : va_G} {A : Nat → Prop} {tys : List (ClassId × FieldType)} {w w0 wl wr : va_W} {own C : String} {y : MethodName} {b : Nat}
theorem zcallIL {S : Type} {post : Int32 → S → Prop} {wf : S → va_W} {rt : FieldType} (hx : p.tables.exec = Jvm.exec) (hb : c.code = cc) (hml : c.maxLocals = nL) (hown : s.vm.findClass own = some m.cls) (hts : ∀ w ∈ lw_all, w.before args s = true) (hK : va_K D vwCl tys s)
    (hcl : zCl own C index y cb Lb (some rt) n) (hM : zMI l D tys y cb Lb rt k (.ref b :: As) w0 post wf) (hR : k + 1 ≤ R.frames ∧ 8 + (Lb + 11) + 30 * k ≤ R.locals) (hW : zH D A s (w0 ++ wr) H locs) (hrv : zRv C b w0) (hn : As.length = n) (hsz : ls.size = nL) (hst : st0 = As.reverse ++ .ref b :: rest) (hroom : (rest.map fun v => v.category).sum ≤ 8) (hdg : decode cc pc = .ok (.invokevirtual index, 3)) (hcs : cells + 0 ≤ R.cells ∧ slots + 0 ≤ R.slots)
    (kk : ∀ (v : Int32) (u : S) (H : Heap) (locs : List Loc), post v u → zH D A s (wf u ++ wr) H locs → W p l e R s m args below meth c H locs cells slots Q (F0 m (pc + 3) ls (.int v :: rest))) : W p l e R s m args below meth c H locs cells slots Q (F0 m pc ls st0) := by
  have hW0 := zapp_l hW
  have hFc := zfree hW0
  refine va_calli (va_runV (As := As) (rest := rest) ⟨hx, hb, hml, hown, hts⟩ (hM H.size) (cwV n hts hcl.1 rfl rfl rfl hcl.2 hR) ⟨zblind, zrecv hK hW0.1 hrv, fun U hU hW' => ⟨rfl, by rw [hU], by rw [hU]; exact hW0.1, va_K.moved hW'.alike hK, hW0.2.1.weaken (fun _ _ _ _ => trivial)⟩⟩ rfl hn hsz hst (lv_room hroom) hdg hcs) hW0.2.2.1 (fun q _ h => hFc q h) hFc (fun r u t H1 locs1 ht hvm hw hB hz1 hk1 hS1 => ?_)
  obtain ⟨hP1, -, hD1⟩ := hB
  rw [ht] at hP1
  exact kk r u H1 locs1 hw (zglueL hW hP1 hD1 hk1 hS1)
theorem zcallIR {S : Type} {post : Int32 → S → Prop} {wf : S → va_W} {rt : FieldType} (hx : p.tables.exec = Jvm.exec) (hb : c.code = cc) (hml : c.maxLocals = nL) (hown : s.vm.findClass own = some m.cls) (hts : ∀ w ∈ lw_all, w.before args s = true) (hK : va_K D vwCl tys s)
    (hcl : zCl own C index y cb Lb (some rt) n) (hM : zMI l D tys y cb Lb rt k (.ref b :: As) w0 post wf) (hR : k + 1 ≤ R.frames ∧ 8 + (Lb + 11) + 30 * k ≤ R.locals) (hW : zH D A s (wl ++ w0) H locs) (hrv : zRv C b w0) (hn : As.length = n) (hsz : ls.size = nL) (hst : st0 = As.reverse ++ .ref b :: rest) (hroom : (rest.map fun v => v.category).sum ≤ 8) (hdg : decode cc pc = .ok (.invokevirtual index, 3)) (hcs : cells + 0 ≤ R.cells ∧ slots + 0 ≤ R.slots)
    (kk : ∀ (v : Int32) (u : S) (H : Heap) (locs : List Loc), post v u → zH D A s (wl ++ wf u) H locs → W p l e R s m args below meth c H locs cells slots Q (F0 m (pc + 3) ls (.int v :: rest))) : W p l e R s m args below meth c H locs cells slots Q (F0 m pc ls st0) := by
  have hW0 := zapp_r hW
  have hFc := zfree hW0
  refine va_calli (va_runV (As := As) (rest := rest) ⟨hx, hb, hml, hown, hts⟩ (hM H.size) (cwV n hts hcl.1 rfl rfl rfl hcl.2 hR) ⟨zblind, zrecv hK hW0.1 hrv, fun U hU hW' => ⟨rfl, by rw [hU], by rw [hU]; exact hW0.1, va_K.moved hW'.alike hK, hW0.2.1.weaken (fun _ _ _ _ => trivial)⟩⟩ rfl hn hsz hst (lv_room hroom) hdg hcs) hW0.2.2.1 (fun q _ h => hFc q h) hFc (fun r u t H1 locs1 ht hvm hw hB hz1 hk1 hS1 => ?_)
  obtain ⟨hP1, -, hD1⟩ := hB
  rw [ht] at hP1
  exact kk r u H1 locs1 hw (zglueR hW hP1 hD1 hk1 hS1)
theorem zcallC {S : Type} {post : S → Prop} {wf : S → va_W} {rm : Room} {mc ms : Nat} (hx : p.tables.exec = Jvm.exec) (hb : c.code = cc) (hml : c.maxLocals = nL) (hown : s.vm.findClass own = some m.cls) (hts : ∀ w ∈ lw_all, w.before args s = true) (hK : va_K D vwCl tys s)
    (hM : zMC l D tys y cb Lb rm mc ms (.ref b :: As) w0 post wf) (cw : CallB R s args own index y cb Lb none (ws_ y cb Lb none) rm mc ms n ∧ y.name = "<init>" ∧ (Cond.instanceMethod y).before args s = true) (hW : zH D A s (wl ++ w0) H locs) (hn : As.length = n) (hsz : ls.size = nL) (hst : st0 = As.reverse ++ .ref b :: rest) (hroom : (rest.map fun v => v.category).sum ≤ 8) (hdg : decode cc pc = .ok (.invokespecial index, 3)) (hcs : cells + mc ≤ R.cells ∧ slots + ms ≤ R.slots)
    (kk : ∀ (u : S) (H : Heap) (locs : List Loc), post u → zH D A s (wl ++ wf u) H locs → W p l e R s m args below meth c H locs (cells + mc) (slots + ms) Q (F0 m (pc + 3) ls rest)) : W p l e R s m args below meth c H locs cells slots Q (F0 m pc ls st0) := by
  have hW0 := zapp_r hW
  have hFc := zfree hW0
  refine va_callv (va_runI (As := As) (rest := rest) ⟨hx, hb, hml, hown, hts⟩ (hM H.size) cw ⟨zblind, fun U hU hW' => ⟨rfl, by rw [hU], by rw [hU]; exact hW0.1, va_K.moved hW'.alike hK, hW0.2.1.weaken (fun _ _ _ _ => trivial)⟩⟩ rfl hn hsz hst (lv_room hroom) hdg hcs) hW0.2.2.1 (fun q _ h => hFc q h) hFc (fun u t H1 locs1 ht hvm hw hB hz1 hk1 hS1 => ?_)
  obtain ⟨hP1, -, hD1⟩ := hB
  rw [ht] at hP1
  exact kk u H1 locs1 hw (zglueR hW hP1 hD1 hk1 hS1)
theorem z_sld (hx : p.tables.exec = Jvm.exec) (hb : c.code = cc) {a L : Nat} {xs : Nat → Int32} (hX : va_X a L xs s s.heap) (hbl : a < s.heap.size) (hbA : ¬ A a) (hW : zH D A s w H locs) (hL : L < 1000) {i : Int32} (j : Nat) (hi : i = nI j) (hj : j < L) (hdg : decode cc pc = .ok (.iaload, 1))
    (kk : W p l e R s m args below meth c H locs cells slots Q (F0 m (pc + 1) ls (.int (xs j) :: rest))) : W p l e R s m args below meth c H locs cells slots Q (F0 m pc ls (.int i :: .ref a :: rest)) := by
  subst hi
  refine va_sld hx hb hX hbl hbA hW.2.2.1 (vp_in_nI hj (by omega)) hdg ?_
  rw [nI_clamp (by omega)]
  exact kk
theorem z_slen (hx : p.tables.exec = Jvm.exec) (hb : c.code = cc) {a L : Nat} {xs : Nat → Int32} (hX : va_X a L xs s s.heap) (hbl : a < s.heap.size) (hbA : ¬ A a) (hW : zH D A s w H locs) (hdg : decode cc pc = .ok (.arraylength, 1))
    (kk : W p l e R s m args below meth c H locs cells slots Q (F0 m (pc + 1) ls (.int (nI L) :: rest))) : W p l e R s m args below meth c H locs cells slots Q (F0 m pc ls (.ref a :: rest)) := va_slen hx hb hX hbl hbA hW.2.2.1 hdg kk
theorem z_newb {dB dS dN dZ : ClassId} (hx : p.tables.exec = Jvm.exec) (hb : c.code = cc) (hts : ∀ w ∈ lw_all, w.before args s = true) (hK : va_K D vwCl (zT dB dS dN dZ) s) (hW : zH D A s w H locs) {i : Int32} {N : Nat} (hi : i = nI N) (hN : N < 1000) (hcells : cells + 1 ≤ R.cells) (hslots : slots + N ≤ R.slots) (hdg : decode cc pc = .ok (.newarray .byte, 2))
    (kk : ∀ (q : Nat) (H : Heap), zH D A s (w ++ [(q, .inl (dB, N, .inl zz))]) H locs → W p l e R s m args below meth c H locs (cells + 1) (slots + N) Q (F0 m (pc + 2) ls (.ref q :: rest))) : W p l e R s m args below meth c H locs cells slots Q (F0 m pc ls (.int i :: rest)) := by
  subst hi
  refine va_newa hx hb (atype := .byte) (hts _ q89) rfl hK hW.1 hW.2.1 hW.2.2.1 hW.2.2.2 (a0 := (N, .inl zz)) (fun _ => rfl) (nI_pos (by omega)) (nI_clamp (by omega)) (Nat.le_trans (Nat.mul_le_mul (Nat.le_of_lt hN) (show componentBytes .byte ≤ 8 by decide)) (by decide)) hcells hslots hdg (fun q cA H1 hK1 hP hD hS => ?_)
  obtain rfl := zK_one hK1 0 4 rfl rfl (fun _ h => h)
  exact kk q H1 ⟨hP, hD, hS, hW.2.2.2⟩
theorem z_news {dB dS dN dZ : ClassId} (hx : p.tables.exec = Jvm.exec) (hb : c.code = cc) (hts : ∀ w ∈ lw_all, w.before args s = true) (hK : va_K D vwCl (zT dB dS dN dZ) s) (hW : zH D A s w H locs) {i : Int32} {N : Nat} (hi : i = nI N) (hN : N < 1000) (hcells : cells + 1 ≤ R.cells) (hslots : slots + N ≤ R.slots) (hdg : decode cc pc = .ok (.newarray .short, 2))
    (kk : ∀ (q : Nat) (H : Heap), zH D A s (w ++ [(q, .inl (dS, N, .inl zz))]) H locs → W p l e R s m args below meth c H locs (cells + 1) (slots + N) Q (F0 m (pc + 2) ls (.ref q :: rest))) : W p l e R s m args below meth c H locs cells slots Q (F0 m pc ls (.int i :: rest)) := by
  subst hi
  refine va_newa hx hb (atype := .short) (hts _ q90) rfl hK hW.1 hW.2.1 hW.2.2.1 hW.2.2.2 (a0 := (N, .inl zz)) (fun _ => rfl) (nI_pos (by omega)) (nI_clamp (by omega)) (Nat.le_trans (Nat.mul_le_mul (Nat.le_of_lt hN) (show componentBytes .short ≤ 8 by decide)) (by decide)) hcells hslots hdg (fun q cA H1 hK1 hP hD hS => ?_)
  obtain rfl := zK_one hK1 1 4 rfl rfl (fun _ h => h)
  exact kk q H1 ⟨hP, hD, hS, hW.2.2.2⟩
theorem z_newn {dB dS dN dZ : ClassId} (hx : p.tables.exec = Jvm.exec) (hb : c.code = cc) (hts : ∀ w ∈ lw_all, w.before args s = true) (hK : va_K D vwCl (zT dB dS dN dZ) s) (hW : zH D A s w H locs) {i : Int32} {N : Nat} (hi : i = nI N) (hN : N < 1000) (hcells : cells + 1 ≤ R.cells) (hslots : slots + N ≤ R.slots) (hdg : decode cc pc = .ok (.newarray .int, 2))
    (kk : ∀ (q : Nat) (H : Heap), zH D A s (w ++ [(q, .inl (dN, N, .inl zz))]) H locs → W p l e R s m args below meth c H locs (cells + 1) (slots + N) Q (F0 m (pc + 2) ls (.ref q :: rest))) : W p l e R s m args below meth c H locs cells slots Q (F0 m pc ls (.int i :: rest)) := by
  subst hi
  refine va_newa hx hb (atype := .int) (hts _ q248) rfl hK hW.1 hW.2.1 hW.2.2.1 hW.2.2.2 (a0 := (N, .inl zz)) (fun _ => rfl) (nI_pos (by omega)) (nI_clamp (by omega)) (Nat.le_trans (Nat.mul_le_mul (Nat.le_of_lt hN) (show componentBytes .int ≤ 8 by decide)) (by decide)) hcells hslots hdg (fun q cA H1 hK1 hP hD hS => ?_)
  obtain rfl := zK_one hK1 2 4 rfl rfl (fun _ h => h)
  exact kk q H1 ⟨hP, hD, hS, hW.2.2.2⟩
theorem z_newy {dB dS dN dZ : ClassId} (hx : p.tables.exec = Jvm.exec) (hb : c.code = cc) (hts : ∀ w ∈ lw_all, w.before args s = true) (hK : va_K D vwCl (zT dB dS dN dZ) s) (hW : zH D A s w H locs) {i : Int32} {N : Nat} (hi : i = nI N) (hN : N < 1000) (hcells : cells + 1 ≤ R.cells) (hslots : slots + N ≤ R.slots) (hdg : decode cc pc = .ok (.newarray .boolean, 2))
    (kk : ∀ (q : Nat) (H : Heap), zH D A s (w ++ [(q, .inl (dZ, N, .inl zz))]) H locs → W p l e R s m args below meth c H locs (cells + 1) (slots + N) Q (F0 m (pc + 2) ls (.ref q :: rest))) : W p l e R s m args below meth c H locs cells slots Q (F0 m pc ls (.int i :: rest)) := by
  subst hi
  refine va_newa hx hb (atype := .boolean) (hts _ q249) rfl hK hW.1 hW.2.1 hW.2.2.1 hW.2.2.2 (a0 := (N, .inl zz)) (fun _ => rfl) (nI_pos (by omega)) (nI_clamp (by omega)) (Nat.le_trans (Nat.mul_le_mul (Nat.le_of_lt hN) (show componentBytes .boolean ≤ 8 by decide)) (by decide)) hcells hslots hdg (fun q cA H1 hK1 hP hD hS => ?_)
  obtain rfl := zK_one hK1 3 4 rfl rfl (fun _ h => h)
  exact kk q H1 ⟨hP, hD, hS, hW.2.2.2⟩
end ZL
end
section
set_option maxRecDepth 100000
/-! the two constructors -/
def fsX1 : List Value := [.int (nI 0), .null, .null, .null, .null, .null]
theorem fsX1_ok : ∀ j, j < 6 → defaultValue (tyX1 j) = vp_V fsX1 j := by
  intro j hj
  rcases (show j = 0 ∨ j = 1 ∨ j = 2 ∨ j = 3 ∨ j = 4 ∨ j = 5 by omega) with rfl | rfl | rfl | rfl | rfl | rfl <;> rfl
set_option maxHeartbeats 4000000 in
set_option maxRecDepth 100000 in
theorem mM_init (l : Launch) (D : va_G) (h : Nat) (dB dS dN dZ : ClassId) : zMC l D (zT dB dS dN dZ) yX1_init cX1_init 1 ({ frames := 1, cells := 5, slots := 610, locals := 12 }) 5 610 [.ref h] [(h, .inr (1, fsX1))] (fun (_ : Nat → Nat) => True) (fun ad => wM h ad dN dZ (nI 0) zz zz zz zz zz) := by
  refine zStartC (by decide) (Nat.le_of_ble_eq_true rfl) ?_
  intro p e s m args below meth c A Q ls hx hb hml hown hts hK hin hend hW hl
  have hown : s.vm.findClass RX1 = some m.cls := hown
  have hin : meth.name = "<init>" := hin
  have hl : lv_has ls 1 [(0, .ref h)] := hl
  generalize hlocs : ([] : List Loc) = locs at hW ⊢
  clear hlocs
  have hW : zH D A s [(h, .inr (1, [.int (nI 0), .null, .null, .null, .null, .null]))] s.heap locs := hW
  refine lv_aload_n hx hb dX1_init_0 rfl (lv_at hl 0 rfl) ?_
  refine W.objInit hx hb hown (hts _ q228) (hts _ q32) (hts _ q33) rfl (by rw [hml]; exact hl.1) rfl dX1_init_1 (Nat.le_of_ble_eq_true rfl) (Nat.le_of_ble_eq_true rfl) ?_
  refine W.eq (g2 := F0 m 4 ls []) rfl ?_
  refine lv_aload_n hx hb dX1_init_4 rfl (lv_at hl 0 rfl) ?_
  refine lv_bipush (v := (nI 10)) hx hb dX1_init_5 (by decide) ?_
  refine z_newn hx hb hts hK hW rfl (by decide) (Nat.le_of_ble_eq_true rfl) (Nat.le_of_ble_eq_true rfl) dX1_init_7 (fun a1 H hW => ?_)
  have hW : zH D A s [(h, .inr (1, [.int (nI 0), .null, .null, .null, .null, .null])), (a1, .inl (dN, 10, .inl zz))] H locs := hW
  refine W.widen (k := 1) (n := 10) (Nat.le_of_ble_eq_true rfl) (Nat.le_of_ble_eq_true rfl) ?_
  refine va_put (D := D) (ci := 1) (v := .ref a1) (ty := .array .int) (C := RX1) (T := TX1) (N := 6) hx hb hts in_X1 tyX1 tyX1_ok nmX1 hown hK hW.1 hW.2.1 hW.2.2.1 0 rfl rfl 1 (by decide) (hts _ q230) (fun _ h9 => h9) rfl (by decide +kernel) rfl rfl (Nat.le_of_ble_eq_true rfl) dX1_init_9 (fun H1 locs1 hP hD hS => ?_)
  have hW : zH D A s [(h, .inr (1, [.int (nI 0), .ref a1, .null, .null, .null, .null])), (a1, .inl (dN, 10, .inl zz))] H1 locs1 := ⟨hP, hD, hS, hW.2.2.2⟩
  generalize H1 = H at hW ⊢
  generalize locs1 = locs at hW ⊢
  refine lv_aload_n hx hb dX1_init_12 rfl (lv_at hl 0 rfl) ?_
  refine lv_bipush (v := (nI 80)) hx hb dX1_init_13 (by decide) ?_
  refine z_newn hx hb hts hK hW rfl (by decide) (Nat.le_of_ble_eq_true rfl) (Nat.le_of_ble_eq_true rfl) dX1_init_15 (fun a2 H hW => ?_)
  have hW : zH D A s [(h, .inr (1, [.int (nI 0), .ref a1, .null, .null, .null, .null])), (a1, .inl (dN, 10, .inl zz)), (a2, .inl (dN, 80, .inl zz))] H locs := hW
  refine W.widen (k := 2) (n := 90) (Nat.le_of_ble_eq_true rfl) (Nat.le_of_ble_eq_true rfl) ?_
  refine va_put (D := D) (ci := 1) (v := .ref a2) (ty := .array .int) (C := RX1) (T := TX1) (N := 6) hx hb hts in_X1 tyX1 tyX1_ok nmX1 hown hK hW.1 hW.2.1 hW.2.2.1 0 rfl rfl 2 (by decide) (hts _ q231) (fun _ h9 => h9) rfl (by decide +kernel) rfl rfl (Nat.le_of_ble_eq_true rfl) dX1_init_17 (fun H1 locs1 hP hD hS => ?_)
  have hW : zH D A s [(h, .inr (1, [.int (nI 0), .ref a1, .ref a2, .null, .null, .null])), (a1, .inl (dN, 10, .inl zz)), (a2, .inl (dN, 80, .inl zz))] H1 locs1 := ⟨hP, hD, hS, hW.2.2.2⟩
  generalize H1 = H at hW ⊢
  generalize locs1 = locs at hW ⊢
  refine lv_aload_n hx hb dX1_init_20 rfl (lv_at hl 0 rfl) ?_
  refine lv_bipush (v := (nI 8)) hx hb dX1_init_21 (by decide) ?_
  refine z_newn hx hb hts hK hW rfl (by decide) (Nat.le_of_ble_eq_true rfl) (Nat.le_of_ble_eq_true rfl) dX1_init_23 (fun a3 H hW => ?_)
  have hW : zH D A s [(h, .inr (1, [.int (nI 0), .ref a1, .ref a2, .null, .null, .null])), (a1, .inl (dN, 10, .inl zz)), (a2, .inl (dN, 80, .inl zz)), (a3, .inl (dN, 8, .inl zz))] H locs := hW
  refine W.widen (k := 3) (n := 98) (Nat.le_of_ble_eq_true rfl) (Nat.le_of_ble_eq_true rfl) ?_
  refine va_put (D := D) (ci := 1) (v := .ref a3) (ty := .array .int) (C := RX1) (T := TX1) (N := 6) hx hb hts in_X1 tyX1 tyX1_ok nmX1 hown hK hW.1 hW.2.1 hW.2.2.1 0 rfl rfl 3 (by decide) (hts _ q232) (fun _ h9 => h9) rfl (by decide +kernel) rfl rfl (Nat.le_of_ble_eq_true rfl) dX1_init_25 (fun H1 locs1 hP hD hS => ?_)
  have hW : zH D A s [(h, .inr (1, [.int (nI 0), .ref a1, .ref a2, .ref a3, .null, .null])), (a1, .inl (dN, 10, .inl zz)), (a2, .inl (dN, 80, .inl zz)), (a3, .inl (dN, 8, .inl zz))] H1 locs1 := ⟨hP, hD, hS, hW.2.2.2⟩
  generalize H1 = H at hW ⊢
  generalize locs1 = locs at hW ⊢
  refine lv_aload_n hx hb dX1_init_28 rfl (lv_at hl 0 rfl) ?_
  refine lv_sipush (v := (nI 256)) hx hb dX1_init_29 (by decide) ?_
  refine z_newy hx hb hts hK hW rfl (by decide) (Nat.le_of_ble_eq_true rfl) (Nat.le_of_ble_eq_true rfl) dX1_init_32 (fun a4 H hW => ?_)
  have hW : zH D A s [(h, .inr (1, [.int (nI 0), .ref a1, .ref a2, .ref a3, .null, .null])), (a1, .inl (dN, 10, .inl zz)), (a2, .inl (dN, 80, .inl zz)), (a3, .inl (dN, 8, .inl zz)), (a4, .inl (dZ, 256, .inl zz))] H locs := hW
  refine W.widen (k := 4) (n := 354) (Nat.le_of_ble_eq_true rfl) (Nat.le_of_ble_eq_true rfl) ?_
  refine va_put (D := D) (ci := 1) (v := .ref a4) (ty := .array .boolean) (C := RX1) (T := TX1) (N := 6) hx hb hts in_X1 tyX1 tyX1_ok nmX1 hown hK hW.1 hW.2.1 hW.2.2.1 0 rfl rfl 4 (by decide) (hts _ q233) (fun _ h9 => h9) rfl (by decide +kernel) rfl rfl (Nat.le_of_ble_eq_true rfl) dX1_init_34 (fun H1 locs1 hP hD hS => ?_)
  have hW : zH D A s [(h, .inr (1, [.int (nI 0), .ref a1, .ref a2, .ref a3, .ref a4, .null])), (a1, .inl (dN, 10, .inl zz)), (a2, .inl (dN, 80, .inl zz)), (a3, .inl (dN, 8, .inl zz)), (a4, .inl (dZ, 256, .inl zz))] H1 locs1 := ⟨hP, hD, hS, hW.2.2.2⟩
  generalize H1 = H at hW ⊢
  generalize locs1 = locs at hW ⊢
  refine lv_aload_n hx hb dX1_init_37 rfl (lv_at hl 0 rfl) ?_
  refine lv_sipush (v := (nI 256)) hx hb dX1_init_38 (by decide) ?_
  refine z_newn hx hb hts hK hW rfl (by decide) (Nat.le_of_ble_eq_true rfl) (Nat.le_of_ble_eq_true rfl) dX1_init_41 (fun a5 H hW => ?_)
  have hW : zH D A s [(h, .inr (1, [.int (nI 0), .ref a1, .ref a2, .ref a3, .ref a4, .null])), (a1, .inl (dN, 10, .inl zz)), (a2, .inl (dN, 80, .inl zz)), (a3, .inl (dN, 8, .inl zz)), (a4, .inl (dZ, 256, .inl zz)), (a5, .inl (dN, 256, .inl zz))] H locs := hW
  refine W.widen (k := 5) (n := 610) (Nat.le_of_ble_eq_true rfl) (Nat.le_of_ble_eq_true rfl) ?_
  refine va_put (D := D) (ci := 1) (v := .ref a5) (ty := .array .int) (C := RX1) (T := TX1) (N := 6) hx hb hts in_X1 tyX1 tyX1_ok nmX1 hown hK hW.1 hW.2.1 hW.2.2.1 0 rfl rfl 5 (by decide) (hts _ q234) (fun _ h9 => h9) rfl (by decide +kernel) rfl rfl (Nat.le_of_ble_eq_true rfl) dX1_init_43 (fun H1 locs1 hP hD hS => ?_)
  have hW : zH D A s [(h, .inr (1, [.int (nI 0), .ref a1, .ref a2, .ref a3, .ref a4, .ref a5])), (a1, .inl (dN, 10, .inl zz)), (a2, .inl (dN, 80, .inl zz)), (a3, .inl (dN, 8, .inl zz)), (a4, .inl (dZ, 256, .inl zz)), (a5, .inl (dN, 256, .inl zz))] H1 locs1 := ⟨hP, hD, hS, hW.2.2.2⟩
  generalize H1 = H at hW ⊢
  generalize locs1 = locs at hW ⊢
  exact hend (fun k => match k with | 1 => a1 | 2 => a2 | 3 => a3 | 4 => a4 | _ => a5) _ _ _ _ trivial hW dX1_init_46
def fsX0 : List Value := [.int (nI 0), .null, .null, .int (nI 0), .null, .null, .null, .null, .null, .int (nI 0), .int (nI 0), .null, .null, .null, .null, .null, .null, .null]
theorem fsX0_ok : ∀ j, j < 18 → defaultValue (tyX0 j) = vp_V fsX0 j := by
  intro j hj
  rcases (show j = 0 ∨ j = 1 ∨ j = 2 ∨ j = 3 ∨ j = 4 ∨ j = 5 ∨ j = 6 ∨ j = 7 ∨ j = 8 ∨ j = 9 ∨ j = 10 ∨ j = 11 ∨ j = 12 ∨ j = 13 ∨ j = 14 ∨ j = 15 ∨ j = 16 ∨ j = 17 by omega) with rfl | rfl | rfl | rfl | rfl | rfl | rfl | rfl | rfl | rfl | rfl | rfl | rfl | rfl | rfl | rfl | rfl | rfl <;> rfl
set_option maxHeartbeats 4000000 in
set_option maxRecDepth 100000 in
theorem mX_init (l : Launch) (D : va_G) (h : Nat) (dB dS dN dZ : ClassId) : zMC l D (zT dB dS dN dZ) yX0_init cX0_init 1 ({ frames := 1, cells := 14, slots := 544, locals := 12 }) 14 544 [.ref h] [(h, .inr (0, fsX0))] (fun (_ : Nat → Nat) => True) (fun ad => wX h ad dB dS (nI 0) zz zz (nI 0) zz zz zz zz zz (nI 0) (nI 0) zz zz zz zz zz zz zz) := by
  refine zStartC (by decide) (Nat.le_of_ble_eq_true rfl) ?_
  intro p e s m args below meth c A Q ls hx hb hml hown hts hK hin hend hW hl
  have hown : s.vm.findClass RX0 = some m.cls := hown
  have hin : meth.name = "<init>" := hin
  have hl : lv_has ls 1 [(0, .ref h)] := hl
  generalize hlocs : ([] : List Loc) = locs at hW ⊢
  clear hlocs
  have hW : zH D A s [(h, .inr (0, [.int (nI 0), .null, .null, .int (nI 0), .null, .null, .null, .null, .null, .int (nI 0), .int (nI 0), .null, .null, .null, .null, .null, .null, .null]))] s.heap locs := hW
  refine lv_aload_n hx hb dX0_init_0 rfl (lv_at hl 0 rfl) ?_
  refine W.objInit hx hb hown (hts _ q31) (hts _ q32) (hts _ q33) rfl (by rw [hml]; exact hl.1) rfl dX0_init_1 (Nat.le_of_ble_eq_true rfl) (Nat.le_of_ble_eq_true rfl) ?_
  refine W.eq (g2 := F0 m 4 ls []) rfl ?_
  refine lv_aload_n hx hb dX0_init_4 rfl (lv_at hl 0 rfl) ?_
  refine lv_bipush (v := (nI 10)) hx hb dX0_init_5 (by decide) ?_
  refine z_newb hx hb hts hK hW rfl (by decide) (Nat.le_of_ble_eq_true rfl) (Nat.le_of_ble_eq_true rfl) dX0_init_7 (fun a1 H hW => ?_)
  have hW : zH D A s [(h, .inr (0, [.int (nI 0), .null, .null, .int (nI 0), .null, .null, .null, .null, .null, .int (nI 0), .int (nI 0), .null, .null, .null, .null, .null, .null, .null])), (a1, .inl (dB, 10, .inl zz))] H locs := hW
  refine W.widen (k := 1) (n := 10) (Nat.le_of_ble_eq_true rfl) (Nat.le_of_ble_eq_true rfl) ?_
  refine va_putF (D := D) (ci := 0) (v := .ref a1) (ty := .array .byte) (C := RX0) (T := TX0) (N := 18) hx hb hts in_X0 tyX0 tyX0_ok nmX0 hown hK hW.1 hW.2.1 hW.2.2.1 0 rfl rfl 1 (by decide) (hts _ q35) (fun _ h9 => h9) rfl hin rfl (by decide +kernel) rfl rfl (Nat.le_of_ble_eq_true rfl) dX0_init_9 (fun H1 locs1 hP hD hS => ?_)
  have hW : zH D A s [(h, .inr (0, [.int (nI 0), .ref a1, .null, .int (nI 0), .null, .null, .null, .null, .null, .int (nI 0), .int (nI 0), .null, .null, .null, .null, .null, .null, .null])), (a1, .inl (dB, 10, .inl zz))] H1 locs1 := ⟨hP, hD, hS, hW.2.2.2⟩
  generalize H1 = H at hW ⊢
  generalize locs1 = locs at hW ⊢
  refine lv_aload_n hx hb dX0_init_12 rfl (lv_at hl 0 rfl) ?_
  refine lv_bipush (v := (nI 80)) hx hb dX0_init_13 (by decide) ?_
  refine z_news hx hb hts hK hW rfl (by decide) (Nat.le_of_ble_eq_true rfl) (Nat.le_of_ble_eq_true rfl) dX0_init_15 (fun a2 H hW => ?_)
  have hW : zH D A s [(h, .inr (0, [.int (nI 0), .ref a1, .null, .int (nI 0), .null, .null, .null, .null, .null, .int (nI 0), .int (nI 0), .null, .null, .null, .null, .null, .null, .null])), (a1, .inl (dB, 10, .inl zz)), (a2, .inl (dS, 80, .inl zz))] H locs := hW
  refine W.widen (k := 2) (n := 90) (Nat.le_of_ble_eq_true rfl) (Nat.le_of_ble_eq_true rfl) ?_
  refine va_putF (D := D) (ci := 0) (v := .ref a2) (ty := .array .short) (C := RX0) (T := TX0) (N := 18) hx hb hts in_X0 tyX0 tyX0_ok nmX0 hown hK hW.1 hW.2.1 hW.2.2.1 0 rfl rfl 2 (by decide) (hts _ q36) (fun _ h9 => h9) rfl hin rfl (by decide +kernel) rfl rfl (Nat.le_of_ble_eq_true rfl) dX0_init_17 (fun H1 locs1 hP hD hS => ?_)
  have hW : zH D A s [(h, .inr (0, [.int (nI 0), .ref a1, .ref a2, .int (nI 0), .null, .null, .null, .null, .null, .int (nI 0), .int (nI 0), .null, .null, .null, .null, .null, .null, .null])), (a1, .inl (dB, 10, .inl zz)), (a2, .inl (dS, 80, .inl zz))] H1 locs1 := ⟨hP, hD, hS, hW.2.2.2⟩
  generalize H1 = H at hW ⊢
  generalize locs1 = locs at hW ⊢
  refine lv_aload_n hx hb dX0_init_20 rfl (lv_at hl 0 rfl) ?_
  refine lv_bipush (v := (nI 10)) hx hb dX0_init_21 (by decide) ?_
  refine z_news hx hb hts hK hW rfl (by decide) (Nat.le_of_ble_eq_true rfl) (Nat.le_of_ble_eq_true rfl) dX0_init_23 (fun a4 H hW => ?_)
  have hW : zH D A s [(h, .inr (0, [.int (nI 0), .ref a1, .ref a2, .int (nI 0), .null, .null, .null, .null, .null, .int (nI 0), .int (nI 0), .null, .null, .null, .null, .null, .null, .null])), (a1, .inl (dB, 10, .inl zz)), (a2, .inl (dS, 80, .inl zz)), (a4, .inl (dS, 10, .inl zz))] H locs := hW
  refine W.widen (k := 3) (n := 100) (Nat.le_of_ble_eq_true rfl) (Nat.le_of_ble_eq_true rfl) ?_
  refine va_putF (D := D) (ci := 0) (v := .ref a4) (ty := .array .short) (C := RX0) (T := TX0) (N := 18) hx hb hts in_X0 tyX0 tyX0_ok nmX0 hown hK hW.1 hW.2.1 hW.2.2.1 0 rfl rfl 4 (by decide) (hts _ q38) (fun _ h9 => h9) rfl hin rfl (by decide +kernel) rfl rfl (Nat.le_of_ble_eq_true rfl) dX0_init_25 (fun H1 locs1 hP hD hS => ?_)
  have hW : zH D A s [(h, .inr (0, [.int (nI 0), .ref a1, .ref a2, .int (nI 0), .ref a4, .null, .null, .null, .null, .int (nI 0), .int (nI 0), .null, .null, .null, .null, .null, .null, .null])), (a1, .inl (dB, 10, .inl zz)), (a2, .inl (dS, 80, .inl zz)), (a4, .inl (dS, 10, .inl zz))] H1 locs1 := ⟨hP, hD, hS, hW.2.2.2⟩
  generalize H1 = H at hW ⊢
  generalize locs1 = locs at hW ⊢
  refine lv_aload_n hx hb dX0_init_28 rfl (lv_at hl 0 rfl) ?_
  refine lv_bipush (v := (nI 8)) hx hb dX0_init_29 (by decide) ?_
  refine z_news hx hb hts hK hW rfl (by decide) (Nat.le_of_ble_eq_true rfl) (Nat.le_of_ble_eq_true rfl) dX0_init_31 (fun a5 H hW => ?_)
  have hW : zH D A s [(h, .inr (0, [.int (nI 0), .ref a1, .ref a2, .int (nI 0), .ref a4, .null, .null, .null, .null, .int (nI 0), .int (nI 0), .null, .null, .null, .null, .null, .null, .null])), (a1, .inl (dB, 10, .inl zz)), (a2, .inl (dS, 80, .inl zz)), (a4, .inl (dS, 10, .inl zz)), (a5, .inl (dS, 8, .inl zz))] H locs := hW
  refine W.widen (k := 4) (n := 108) (Nat.le_of_ble_eq_true rfl) (Nat.le_of_ble_eq_true rfl) ?_
  refine va_putF (D := D) (ci := 0) (v := .ref a5) (ty := .array .short) (C := RX0) (T := TX0) (N := 18) hx hb hts in_X0 tyX0 tyX0_ok nmX0 hown hK hW.1 hW.2.1 hW.2.2.1 0 rfl rfl 5 (by decide) (hts _ q39) (fun _ h9 => h9) rfl hin rfl (by decide +kernel) rfl rfl (Nat.le_of_ble_eq_true rfl) dX0_init_33 (fun H1 locs1 hP hD hS => ?_)
  have hW : zH D A s [(h, .inr (0, [.int (nI 0), .ref a1, .ref a2, .int (nI 0), .ref a4, .ref a5, .null, .null, .null, .int (nI 0), .int (nI 0), .null, .null, .null, .null, .null, .null, .null])), (a1, .inl (dB, 10, .inl zz)), (a2, .inl (dS, 80, .inl zz)), (a4, .inl (dS, 10, .inl zz)), (a5, .inl (dS, 8, .inl zz))] H1 locs1 := ⟨hP, hD, hS, hW.2.2.2⟩
  generalize H1 = H at hW ⊢
  generalize locs1 = locs at hW ⊢
  refine lv_aload_n hx hb dX0_init_36 rfl (lv_at hl 0 rfl) ?_
  refine lv_bipush (v := (nI 8)) hx hb dX0_init_37 (by decide) ?_
  refine z_newb hx hb hts hK hW rfl (by decide) (Nat.le_of_ble_eq_true rfl) (Nat.le_of_ble_eq_true rfl) dX0_init_39 (fun a6 H hW => ?_)
  have hW : zH D A s [(h, .inr (0, [.int (nI 0), .ref a1, .ref a2, .int (nI 0), .ref a4, .ref a5, .null, .null, .null, .int (nI 0), .int (nI 0), .null, .null, .null, .null, .null, .null, .null])), (a1, .inl (dB, 10, .inl zz)), (a2, .inl (dS, 80, .inl zz)), (a4, .inl (dS, 10, .inl zz)), (a5, .inl (dS, 8, .inl zz)), (a6, .inl (dB, 8, .inl zz))] H locs := hW
  refine W.widen (k := 5) (n := 116) (Nat.le_of_ble_eq_true rfl) (Nat.le_of_ble_eq_true rfl) ?_
  refine va_putF (D := D) (ci := 0) (v := .ref a6) (ty := .array .byte) (C := RX0) (T := TX0) (N := 18) hx hb hts in_X0 tyX0 tyX0_ok nmX0 hown hK hW.1 hW.2.1 hW.2.2.1 0 rfl rfl 6 (by decide) (hts _ q40) (fun _ h9 => h9) rfl hin rfl (by decide +kernel) rfl rfl (Nat.le_of_ble_eq_true rfl) dX0_init_41 (fun H1 locs1 hP hD hS => ?_)
  have hW : zH D A s [(h, .inr (0, [.int (nI 0), .ref a1, .ref a2, .int (nI 0), .ref a4, .ref a5, .ref a6, .null, .null, .int (nI 0), .int (nI 0), .null, .null, .null, .null, .null, .null, .null])), (a1, .inl (dB, 10, .inl zz)), (a2, .inl (dS, 80, .inl zz)), (a4, .inl (dS, 10, .inl zz)), (a5, .inl (dS, 8, .inl zz)), (a6, .inl (dB, 8, .inl zz))] H1 locs1 := ⟨hP, hD, hS, hW.2.2.2⟩
  generalize H1 = H at hW ⊢
  generalize locs1 = locs at hW ⊢
  refine lv_aload_n hx hb dX0_init_44 rfl (lv_at hl 0 rfl) ?_
  refine lv_bipush (v := (nI 8)) hx hb dX0_init_45 (by decide) ?_
  refine z_newb hx hb hts hK hW rfl (by decide) (Nat.le_of_ble_eq_true rfl) (Nat.le_of_ble_eq_true rfl) dX0_init_47 (fun a7 H hW => ?_)
  have hW : zH D A s [(h, .inr (0, [.int (nI 0), .ref a1, .ref a2, .int (nI 0), .ref a4, .ref a5, .ref a6, .null, .null, .int (nI 0), .int (nI 0), .null, .null, .null, .null, .null, .null, .null])), (a1, .inl (dB, 10, .inl zz)), (a2, .inl (dS, 80, .inl zz)), (a4, .inl (dS, 10, .inl zz)), (a5, .inl (dS, 8, .inl zz)), (a6, .inl (dB, 8, .inl zz)), (a7, .inl (dB, 8, .inl zz))] H locs := hW
  refine W.widen (k := 6) (n := 124) (Nat.le_of_ble_eq_true rfl) (Nat.le_of_ble_eq_true rfl) ?_
  refine va_putF (D := D) (ci := 0) (v := .ref a7) (ty := .array .byte) (C := RX0) (T := TX0) (N := 18) hx hb hts in_X0 tyX0 tyX0_ok nmX0 hown hK hW.1 hW.2.1 hW.2.2.1 0 rfl rfl 7 (by decide) (hts _ q41) (fun _ h9 => h9) rfl hin rfl (by decide +kernel) rfl rfl (Nat.le_of_ble_eq_true rfl) dX0_init_49 (fun H1 locs1 hP hD hS => ?_)
  have hW : zH D A s [(h, .inr (0, [.int (nI 0), .ref a1, .ref a2, .int (nI 0), .ref a4, .ref a5, .ref a6, .ref a7, .null, .int (nI 0), .int (nI 0), .null, .null, .null, .null, .null, .null, .null])), (a1, .inl (dB, 10, .inl zz)), (a2, .inl (dS, 80, .inl zz)), (a4, .inl (dS, 10, .inl zz)), (a5, .inl (dS, 8, .inl zz)), (a6, .inl (dB, 8, .inl zz)), (a7, .inl (dB, 8, .inl zz))] H1 locs1 := ⟨hP, hD, hS, hW.2.2.2⟩
  generalize H1 = H at hW ⊢
  generalize locs1 = locs at hW ⊢
  refine lv_aload_n hx hb dX0_init_52 rfl (lv_at hl 0 rfl) ?_
  refine lv_bipush (v := (nI 8)) hx hb dX0_init_53 (by decide) ?_
  refine z_newb hx hb hts hK hW rfl (by decide) (Nat.le_of_ble_eq_true rfl) (Nat.le_of_ble_eq_true rfl) dX0_init_55 (fun a8 H hW => ?_)
  have hW : zH D A s [(h, .inr (0, [.int (nI 0), .ref a1, .ref a2, .int (nI 0), .ref a4, .ref a5, .ref a6, .ref a7, .null, .int (nI 0), .int (nI 0), .null, .null, .null, .null, .null, .null, .null])), (a1, .inl (dB, 10, .inl zz)), (a2, .inl (dS, 80, .inl zz)), (a4, .inl (dS, 10, .inl zz)), (a5, .inl (dS, 8, .inl zz)), (a6, .inl (dB, 8, .inl zz)), (a7, .inl (dB, 8, .inl zz)), (a8, .inl (dB, 8, .inl zz))] H locs := hW
  refine W.widen (k := 7) (n := 132) (Nat.le_of_ble_eq_true rfl) (Nat.le_of_ble_eq_true rfl) ?_
  refine va_putF (D := D) (ci := 0) (v := .ref a8) (ty := .array .byte) (C := RX0) (T := TX0) (N := 18) hx hb hts in_X0 tyX0 tyX0_ok nmX0 hown hK hW.1 hW.2.1 hW.2.2.1 0 rfl rfl 8 (by decide) (hts _ q42) (fun _ h9 => h9) rfl hin rfl (by decide +kernel) rfl rfl (Nat.le_of_ble_eq_true rfl) dX0_init_57 (fun H1 locs1 hP hD hS => ?_)
  have hW : zH D A s [(h, .inr (0, [.int (nI 0), .ref a1, .ref a2, .int (nI 0), .ref a4, .ref a5, .ref a6, .ref a7, .ref a8, .int (nI 0), .int (nI 0), .null, .null, .null, .null, .null, .null, .null])), (a1, .inl (dB, 10, .inl zz)), (a2, .inl (dS, 80, .inl zz)), (a4, .inl (dS, 10, .inl zz)), (a5, .inl (dS, 8, .inl zz)), (a6, .inl (dB, 8, .inl zz)), (a7, .inl (dB, 8, .inl zz)), (a8, .inl (dB, 8, .inl zz))] H1 locs1 := ⟨hP, hD, hS, hW.2.2.2⟩
  generalize H1 = H at hW ⊢
  generalize locs1 = locs at hW ⊢
  refine lv_aload_n hx hb dX0_init_60 rfl (lv_at hl 0 rfl) ?_
  refine lv_bipush (v := (nI 10)) hx hb dX0_init_61 (by decide) ?_
  refine z_newb hx hb hts hK hW rfl (by decide) (Nat.le_of_ble_eq_true rfl) (Nat.le_of_ble_eq_true rfl) dX0_init_63 (fun a11 H hW => ?_)
  have hW : zH D A s [(h, .inr (0, [.int (nI 0), .ref a1, .ref a2, .int (nI 0), .ref a4, .ref a5, .ref a6, .ref a7, .ref a8, .int (nI 0), .int (nI 0), .null, .null, .null, .null, .null, .null, .null])), (a1, .inl (dB, 10, .inl zz)), (a2, .inl (dS, 80, .inl zz)), (a4, .inl (dS, 10, .inl zz)), (a5, .inl (dS, 8, .inl zz)), (a6, .inl (dB, 8, .inl zz)), (a7, .inl (dB, 8, .inl zz)), (a8, .inl (dB, 8, .inl zz)), (a11, .inl (dB, 10, .inl zz))] H locs := hW
  refine W.widen (k := 8) (n := 142) (Nat.le_of_ble_eq_true rfl) (Nat.le_of_ble_eq_true rfl) ?_
  refine va_putF (D := D) (ci := 0) (v := .ref a11) (ty := .array .byte) (C := RX0) (T := TX0) (N := 18) hx hb hts in_X0 tyX0 tyX0_ok nmX0 hown hK hW.1 hW.2.1 hW.2.2.1 0 rfl rfl 11 (by decide) (hts _ q45) (fun _ h9 => h9) rfl hin rfl (by decide +kernel) rfl rfl (Nat.le_of_ble_eq_true rfl) dX0_init_65 (fun H1 locs1 hP hD hS => ?_)
  have hW : zH D A s [(h, .inr (0, [.int (nI 0), .ref a1, .ref a2, .int (nI 0), .ref a4, .ref a5, .ref a6, .ref a7, .ref a8, .int (nI 0), .int (nI 0), .ref a11, .null, .null, .null, .null, .null, .null])), (a1, .inl (dB, 10, .inl zz)), (a2, .inl (dS, 80, .inl zz)), (a4, .inl (dS, 10, .inl zz)), (a5, .inl (dS, 8, .inl zz)), (a6, .inl (dB, 8, .inl zz)), (a7, .inl (dB, 8, .inl zz)), (a8, .inl (dB, 8, .inl zz)), (a11, .inl (dB, 10, .inl zz))] H1 locs1 := ⟨hP, hD, hS, hW.2.2.2⟩
  generalize H1 = H at hW ⊢
  generalize locs1 = locs at hW ⊢
  refine lv_aload_n hx hb dX0_init_68 rfl (lv_at hl 0 rfl) ?_
  refine lv_bipush (v := (nI 96)) hx hb dX0_init_69 (by decide) ?_
  refine z_newb hx hb hts hK hW rfl (by decide) (Nat.le_of_ble_eq_true rfl) (Nat.le_of_ble_eq_true rfl) dX0_init_71 (fun a12 H hW => ?_)
  have hW : zH D A s [(h, .inr (0, [.int (nI 0), .ref a1, .ref a2, .int (nI 0), .ref a4, .ref a5, .ref a6, .ref a7, .ref a8, .int (nI 0), .int (nI 0), .ref a11, .null, .null, .null, .null, .null, .null])), (a1, .inl (dB, 10, .inl zz)), (a2, .inl (dS, 80, .inl zz)), (a4, .inl (dS, 10, .inl zz)), (a5, .inl (dS, 8, .inl zz)), (a6, .inl (dB, 8, .inl zz)), (a7, .inl (dB, 8, .inl zz)), (a8, .inl (dB, 8, .inl zz)), (a11, .inl (dB, 10, .inl zz)), (a12, .inl (dB, 96, .inl zz))] H locs := hW
  refine W.widen (k := 9) (n := 238) (Nat.le_of_ble_eq_true rfl) (Nat.le_of_ble_eq_true rfl) ?_
  refine va_putF (D := D) (ci := 0) (v := .ref a12) (ty := .array .byte) (C := RX0) (T := TX0) (N := 18) hx hb hts in_X0 tyX0 tyX0_ok nmX0 hown hK hW.1 hW.2.1 hW.2.2.1 0 rfl rfl 12 (by decide) (hts _ q46) (fun _ h9 => h9) rfl hin rfl (by decide +kernel) rfl rfl (Nat.le_of_ble_eq_true rfl) dX0_init_73 (fun H1 locs1 hP hD hS => ?_)
  have hW : zH D A s [(h, .inr (0, [.int (nI 0), .ref a1, .ref a2, .int (nI 0), .ref a4, .ref a5, .ref a6, .ref a7, .ref a8, .int (nI 0), .int (nI 0), .ref a11, .ref a12, .null, .null, .null, .null, .null])), (a1, .inl (dB, 10, .inl zz)), (a2, .inl (dS, 80, .inl zz)), (a4, .inl (dS, 10, .inl zz)), (a5, .inl (dS, 8, .inl zz)), (a6, .inl (dB, 8, .inl zz)), (a7, .inl (dB, 8, .inl zz)), (a8, .inl (dB, 8, .inl zz)), (a11, .inl (dB, 10, .inl zz)), (a12, .inl (dB, 96, .inl zz))] H1 locs1 := ⟨hP, hD, hS, hW.2.2.2⟩
  generalize H1 = H at hW ⊢
  generalize locs1 = locs at hW ⊢
  refine lv_aload_n hx hb dX0_init_76 rfl (lv_at hl 0 rfl) ?_
  refine lv_bipush (v := (nI 96)) hx hb dX0_init_77 (by decide) ?_
  refine z_newb hx hb hts hK hW rfl (by decide) (Nat.le_of_ble_eq_true rfl) (Nat.le_of_ble_eq_true rfl) dX0_init_79 (fun a13 H hW => ?_)
  have hW : zH D A s [(h, .inr (0, [.int (nI 0), .ref a1, .ref a2, .int (nI 0), .ref a4, .ref a5, .ref a6, .ref a7, .ref a8, .int (nI 0), .int (nI 0), .ref a11, .ref a12, .null, .null, .null, .null, .null])), (a1, .inl (dB, 10, .inl zz)), (a2, .inl (dS, 80, .inl zz)), (a4, .inl (dS, 10, .inl zz)), (a5, .inl (dS, 8, .inl zz)), (a6, .inl (dB, 8, .inl zz)), (a7, .inl (dB, 8, .inl zz)), (a8, .inl (dB, 8, .inl zz)), (a11, .inl (dB, 10, .inl zz)), (a12, .inl (dB, 96, .inl zz)), (a13, .inl (dB, 96, .inl zz))] H locs := hW
  refine W.widen (k := 10) (n := 334) (Nat.le_of_ble_eq_true rfl) (Nat.le_of_ble_eq_true rfl) ?_
  refine va_putF (D := D) (ci := 0) (v := .ref a13) (ty := .array .byte) (C := RX0) (T := TX0) (N := 18) hx hb hts in_X0 tyX0 tyX0_ok nmX0 hown hK hW.1 hW.2.1 hW.2.2.1 0 rfl rfl 13 (by decide) (hts _ q47) (fun _ h9 => h9) rfl hin rfl (by decide +kernel) rfl rfl (Nat.le_of_ble_eq_true rfl) dX0_init_81 (fun H1 locs1 hP hD hS => ?_)
  have hW : zH D A s [(h, .inr (0, [.int (nI 0), .ref a1, .ref a2, .int (nI 0), .ref a4, .ref a5, .ref a6, .ref a7, .ref a8, .int (nI 0), .int (nI 0), .ref a11, .ref a12, .ref a13, .null, .null, .null, .null])), (a1, .inl (dB, 10, .inl zz)), (a2, .inl (dS, 80, .inl zz)), (a4, .inl (dS, 10, .inl zz)), (a5, .inl (dS, 8, .inl zz)), (a6, .inl (dB, 8, .inl zz)), (a7, .inl (dB, 8, .inl zz)), (a8, .inl (dB, 8, .inl zz)), (a11, .inl (dB, 10, .inl zz)), (a12, .inl (dB, 96, .inl zz)), (a13, .inl (dB, 96, .inl zz))] H1 locs1 := ⟨hP, hD, hS, hW.2.2.2⟩
  generalize H1 = H at hW ⊢
  generalize locs1 = locs at hW ⊢
  refine lv_aload_n hx hb dX0_init_84 rfl (lv_at hl 0 rfl) ?_
  refine lv_bipush (v := (nI 96)) hx hb dX0_init_85 (by decide) ?_
  refine z_newb hx hb hts hK hW rfl (by decide) (Nat.le_of_ble_eq_true rfl) (Nat.le_of_ble_eq_true rfl) dX0_init_87 (fun a14 H hW => ?_)
  have hW : zH D A s [(h, .inr (0, [.int (nI 0), .ref a1, .ref a2, .int (nI 0), .ref a4, .ref a5, .ref a6, .ref a7, .ref a8, .int (nI 0), .int (nI 0), .ref a11, .ref a12, .ref a13, .null, .null, .null, .null])), (a1, .inl (dB, 10, .inl zz)), (a2, .inl (dS, 80, .inl zz)), (a4, .inl (dS, 10, .inl zz)), (a5, .inl (dS, 8, .inl zz)), (a6, .inl (dB, 8, .inl zz)), (a7, .inl (dB, 8, .inl zz)), (a8, .inl (dB, 8, .inl zz)), (a11, .inl (dB, 10, .inl zz)), (a12, .inl (dB, 96, .inl zz)), (a13, .inl (dB, 96, .inl zz)), (a14, .inl (dB, 96, .inl zz))] H locs := hW
  refine W.widen (k := 11) (n := 430) (Nat.le_of_ble_eq_true rfl) (Nat.le_of_ble_eq_true rfl) ?_
  refine va_putF (D := D) (ci := 0) (v := .ref a14) (ty := .array .byte) (C := RX0) (T := TX0) (N := 18) hx hb hts in_X0 tyX0 tyX0_ok nmX0 hown hK hW.1 hW.2.1 hW.2.2.1 0 rfl rfl 14 (by decide) (hts _ q48) (fun _ h9 => h9) rfl hin rfl (by decide +kernel) rfl rfl (Nat.le_of_ble_eq_true rfl) dX0_init_89 (fun H1 locs1 hP hD hS => ?_)
  have hW : zH D A s [(h, .inr (0, [.int (nI 0), .ref a1, .ref a2, .int (nI 0), .ref a4, .ref a5, .ref a6, .ref a7, .ref a8, .int (nI 0), .int (nI 0), .ref a11, .ref a12, .ref a13, .ref a14, .null, .null, .null])), (a1, .inl (dB, 10, .inl zz)), (a2, .inl (dS, 80, .inl zz)), (a4, .inl (dS, 10, .inl zz)), (a5, .inl (dS, 8, .inl zz)), (a6, .inl (dB, 8, .inl zz)), (a7, .inl (dB, 8, .inl zz)), (a8, .inl (dB, 8, .inl zz)), (a11, .inl (dB, 10, .inl zz)), (a12, .inl (dB, 96, .inl zz)), (a13, .inl (dB, 96, .inl zz)), (a14, .inl (dB, 96, .inl zz))] H1 locs1 := ⟨hP, hD, hS, hW.2.2.2⟩
  generalize H1 = H at hW ⊢
  generalize locs1 = locs at hW ⊢
  refine lv_aload_n hx hb dX0_init_92 rfl (lv_at hl 0 rfl) ?_
  refine lv_bipush (v := (nI 96)) hx hb dX0_init_93 (by decide) ?_
  refine z_news hx hb hts hK hW rfl (by decide) (Nat.le_of_ble_eq_true rfl) (Nat.le_of_ble_eq_true rfl) dX0_init_95 (fun a15 H hW => ?_)
  have hW : zH D A s [(h, .inr (0, [.int (nI 0), .ref a1, .ref a2, .int (nI 0), .ref a4, .ref a5, .ref a6, .ref a7, .ref a8, .int (nI 0), .int (nI 0), .ref a11, .ref a12, .ref a13, .ref a14, .null, .null, .null])), (a1, .inl (dB, 10, .inl zz)), (a2, .inl (dS, 80, .inl zz)), (a4, .inl (dS, 10, .inl zz)), (a5, .inl (dS, 8, .inl zz)), (a6, .inl (dB, 8, .inl zz)), (a7, .inl (dB, 8, .inl zz)), (a8, .inl (dB, 8, .inl zz)), (a11, .inl (dB, 10, .inl zz)), (a12, .inl (dB, 96, .inl zz)), (a13, .inl (dB, 96, .inl zz)), (a14, .inl (dB, 96, .inl zz)), (a15, .inl (dS, 96, .inl zz))] H locs := hW
  refine W.widen (k := 12) (n := 526) (Nat.le_of_ble_eq_true rfl) (Nat.le_of_ble_eq_true rfl) ?_
  refine va_putF (D := D) (ci := 0) (v := .ref a15) (ty := .array .short) (C := RX0) (T := TX0) (N := 18) hx hb hts in_X0 tyX0 tyX0_ok nmX0 hown hK hW.1 hW.2.1 hW.2.2.1 0 rfl rfl 15 (by decide) (hts _ q49) (fun _ h9 => h9) rfl hin rfl (by decide +kernel) rfl rfl (Nat.le_of_ble_eq_true rfl) dX0_init_97 (fun H1 locs1 hP hD hS => ?_)
  have hW : zH D A s [(h, .inr (0, [.int (nI 0), .ref a1, .ref a2, .int (nI 0), .ref a4, .ref a5, .ref a6, .ref a7, .ref a8, .int (nI 0), .int (nI 0), .ref a11, .ref a12, .ref a13, .ref a14, .ref a15, .null, .null])), (a1, .inl (dB, 10, .inl zz)), (a2, .inl (dS, 80, .inl zz)), (a4, .inl (dS, 10, .inl zz)), (a5, .inl (dS, 8, .inl zz)), (a6, .inl (dB, 8, .inl zz)), (a7, .inl (dB, 8, .inl zz)), (a8, .inl (dB, 8, .inl zz)), (a11, .inl (dB, 10, .inl zz)), (a12, .inl (dB, 96, .inl zz)), (a13, .inl (dB, 96, .inl zz)), (a14, .inl (dB, 96, .inl zz)), (a15, .inl (dS, 96, .inl zz))] H1 locs1 := ⟨hP, hD, hS, hW.2.2.2⟩
  generalize H1 = H at hW ⊢
  generalize locs1 = locs at hW ⊢
  refine lv_aload_n hx hb dX0_init_100 rfl (lv_at hl 0 rfl) ?_
  refine lv_bipush (v := (nI 8)) hx hb dX0_init_101 (by decide) ?_
  refine z_newb hx hb hts hK hW rfl (by decide) (Nat.le_of_ble_eq_true rfl) (Nat.le_of_ble_eq_true rfl) dX0_init_103 (fun a16 H hW => ?_)
  have hW : zH D A s [(h, .inr (0, [.int (nI 0), .ref a1, .ref a2, .int (nI 0), .ref a4, .ref a5, .ref a6, .ref a7, .ref a8, .int (nI 0), .int (nI 0), .ref a11, .ref a12, .ref a13, .ref a14, .ref a15, .null, .null])), (a1, .inl (dB, 10, .inl zz)), (a2, .inl (dS, 80, .inl zz)), (a4, .inl (dS, 10, .inl zz)), (a5, .inl (dS, 8, .inl zz)), (a6, .inl (dB, 8, .inl zz)), (a7, .inl (dB, 8, .inl zz)), (a8, .inl (dB, 8, .inl zz)), (a11, .inl (dB, 10, .inl zz)), (a12, .inl (dB, 96, .inl zz)), (a13, .inl (dB, 96, .inl zz)), (a14, .inl (dB, 96, .inl zz)), (a15, .inl (dS, 96, .inl zz)), (a16, .inl (dB, 8, .inl zz))] H locs := hW
  refine W.widen (k := 13) (n := 534) (Nat.le_of_ble_eq_true rfl) (Nat.le_of_ble_eq_true rfl) ?_
  refine va_putF (D := D) (ci := 0) (v := .ref a16) (ty := .array .byte) (C := RX0) (T := TX0) (N := 18) hx hb hts in_X0 tyX0 tyX0_ok nmX0 hown hK hW.1 hW.2.1 hW.2.2.1 0 rfl rfl 16 (by decide) (hts _ q50) (fun _ h9 => h9) rfl hin rfl (by decide +kernel) rfl rfl (Nat.le_of_ble_eq_true rfl) dX0_init_105 (fun H1 locs1 hP hD hS => ?_)
  have hW : zH D A s [(h, .inr (0, [.int (nI 0), .ref a1, .ref a2, .int (nI 0), .ref a4, .ref a5, .ref a6, .ref a7, .ref a8, .int (nI 0), .int (nI 0), .ref a11, .ref a12, .ref a13, .ref a14, .ref a15, .ref a16, .null])), (a1, .inl (dB, 10, .inl zz)), (a2, .inl (dS, 80, .inl zz)), (a4, .inl (dS, 10, .inl zz)), (a5, .inl (dS, 8, .inl zz)), (a6, .inl (dB, 8, .inl zz)), (a7, .inl (dB, 8, .inl zz)), (a8, .inl (dB, 8, .inl zz)), (a11, .inl (dB, 10, .inl zz)), (a12, .inl (dB, 96, .inl zz)), (a13, .inl (dB, 96, .inl zz)), (a14, .inl (dB, 96, .inl zz)), (a15, .inl (dS, 96, .inl zz)), (a16, .inl (dB, 8, .inl zz))] H1 locs1 := ⟨hP, hD, hS, hW.2.2.2⟩
  generalize H1 = H at hW ⊢
  generalize locs1 = locs at hW ⊢
  refine lv_aload_n hx hb dX0_init_108 rfl (lv_at hl 0 rfl) ?_
  refine lv_bipush (v := (nI 10)) hx hb dX0_init_109 (by decide) ?_
  refine z_newb hx hb hts hK hW rfl (by decide) (Nat.le_of_ble_eq_true rfl) (Nat.le_of_ble_eq_true rfl) dX0_init_111 (fun a17 H hW => ?_)
  have hW : zH D A s [(h, .inr (0, [.int (nI 0), .ref a1, .ref a2, .int (nI 0), .ref a4, .ref a5, .ref a6, .ref a7, .ref a8, .int (nI 0), .int (nI 0), .ref a11, .ref a12, .ref a13, .ref a14, .ref a15, .ref a16, .null])), (a1, .inl (dB, 10, .inl zz)), (a2, .inl (dS, 80, .inl zz)), (a4, .inl (dS, 10, .inl zz)), (a5, .inl (dS, 8, .inl zz)), (a6, .inl (dB, 8, .inl zz)), (a7, .inl (dB, 8, .inl zz)), (a8, .inl (dB, 8, .inl zz)), (a11, .inl (dB, 10, .inl zz)), (a12, .inl (dB, 96, .inl zz)), (a13, .inl (dB, 96, .inl zz)), (a14, .inl (dB, 96, .inl zz)), (a15, .inl (dS, 96, .inl zz)), (a16, .inl (dB, 8, .inl zz)), (a17, .inl (dB, 10, .inl zz))] H locs := hW
  refine W.widen (k := 14) (n := 544) (Nat.le_of_ble_eq_true rfl) (Nat.le_of_ble_eq_true rfl) ?_
  refine va_putF (D := D) (ci := 0) (v := .ref a17) (ty := .array .byte) (C := RX0) (T := TX0) (N := 18) hx hb hts in_X0 tyX0 tyX0_ok nmX0 hown hK hW.1 hW.2.1 hW.2.2.1 0 rfl rfl 17 (by decide) (hts _ q51) (fun _ h9 => h9) rfl hin rfl (by decide +kernel) rfl rfl (Nat.le_of_ble_eq_true rfl) dX0_init_113 (fun H1 locs1 hP hD hS => ?_)
  have hW : zH D A s [(h, .inr (0, [.int (nI 0), .ref a1, .ref a2, .int (nI 0), .ref a4, .ref a5, .ref a6, .ref a7, .ref a8, .int (nI 0), .int (nI 0), .ref a11, .ref a12, .ref a13, .ref a14, .ref a15, .ref a16, .ref a17])), (a1, .inl (dB, 10, .inl zz)), (a2, .inl (dS, 80, .inl zz)), (a4, .inl (dS, 10, .inl zz)), (a5, .inl (dS, 8, .inl zz)), (a6, .inl (dB, 8, .inl zz)), (a7, .inl (dB, 8, .inl zz)), (a8, .inl (dB, 8, .inl zz)), (a11, .inl (dB, 10, .inl zz)), (a12, .inl (dB, 96, .inl zz)), (a13, .inl (dB, 96, .inl zz)), (a14, .inl (dB, 96, .inl zz)), (a15, .inl (dS, 96, .inl zz)), (a16, .inl (dB, 8, .inl zz)), (a17, .inl (dB, 10, .inl zz))] H1 locs1 := ⟨hP, hD, hS, hW.2.2.2⟩
  generalize H1 = H at hW ⊢
  generalize locs1 = locs at hW ⊢
  exact hend (fun k => match k with | 1 => a1 | 2 => a2 | 4 => a4 | 5 => a5 | 6 => a6 | 7 => a7 | 8 => a8 | 11 => a11 | 12 => a12 | 13 => a13 | 14 => a14 | 15 => a15 | 16 => a16 | _ => a17) _ _ _ _ trivial hW dX0_init_116
end
section
set_option maxRecDepth 100000
/-! the law: one case of its switch a theorem -/
/-- both objects hold one logical state -/
def LW (D : va_G) (A : Nat → Prop) (s : State) (h0 h1 : Nat) (a0 a1 : Nat → Nat) (dB dS dN dZ : ClassId) (H : Heap) (locs : List Loc) : Prop := ∃ (n : Nat) (U d F : Nat → Int32) (S : Nat → Nat → Int32) (ma al le : Nat → Int32), LInv n U d ∧ Sys n U d F S ∧ zH D A s (wS h0 a0 dB dS n F S ++ wM h1 a1 dN dZ (nI n) U d ma al le) H locs
/-- what holds all through the law -/
def LA (p : Program) (s : State) (m : MethodId) (c : Code) (D : va_G) (A : Nat → Prop) (b L : Nat) (xs : Nat → Int32) (dB dS dN dZ : ClassId) : Prop := p.tables.exec = Jvm.exec ∧ c.code = code ∧ c.maxLocals = 4 ∧ s.vm.findClass "SendTableLaw" = some m.cls ∧ (∀ w ∈ lw_all, w.before #[Value.ref b] s = true) ∧ va_K D vwCl (zT dB dS dN dZ) s ∧ va_X b L xs s s.heap ∧ b < s.heap.size ∧ ¬ A b ∧ L < 1000
section LC
variable {p : Program} {l : Launch} {e : Env} {s : State} {m : MethodId} {below : List Frame} {meth : Method} {c : Code} {H : Heap} {locs : List Loc} {cells slots : Nat} {Q : State → Prop} {ls : Array Slot} {D : va_G} {A : Nat → Prop} {b L i : Nat} {xs : Nat → Int32} {dB dS dN dZ : ClassId} {h0 h1 : Nat} {a0 a1 : Nat → Nat}
set_option maxHeartbeats 4000000 in
theorem lc_addClass (hA : LA p s m c D A b L xs dB dS dN dZ) (hi : i + 4 ≤ L) (hcs : cells + 0 ≤ room_1.cells ∧ slots + 0 ≤ room_1.slots) (hl : lv_has ls 4 [(3, .int (nI i)), (2, .ref h1), (1, .ref h0), (0, .ref b)]) (kk : ∀ (H : Heap) (locs : List Loc), LW D A s h0 h1 a0 a1 dB dS dN dZ H locs → W p l e room_1 s m #[Value.ref b] below meth c H locs cells slots Q (F0 m 476 ls [])) (hw : LW D A s h0 h1 a0 a1 dB dS dN dZ H locs) : W p l e room_1 s m #[Value.ref b] below meth c H locs cells slots Q (F0 m 104 ls []) := by
  obtain ⟨hx, hb, hml, hown, hts, hK, hX, hbl, hbA, hL9⟩ := hA
  obtain ⟨n, U, d, F, S, ma, al, le, hL, hS, hW⟩ := hw
  refine lv_aload_n hx hb dL_law_104 rfl (lv_at hl 2 rfl) ?_
  refine lv_aload_n hx hb dL_law_105 rfl (lv_at hl 3 rfl) ?_
  refine lv_iload_n hx hb dL_law_106 rfl (lv_at hl 0 rfl) ?_
  refine lv_iconst (v := (nI 1)) hx hb dL_law_107 (by decide) ?_
  refine lv_iadd hx hb dL_law_108 ?_
  refine z_top (show (nI i) + (nI 1) = (nI (i + 1)) from nI_add _ _) ?_
  refine z_sld hx hb hX hbl hbA hW hL9 (i + 1) rfl (by omega) dL_law_109 ?_
  refine zcallIL (rest := []) hx hb hml hown hts hK clL_0_addClass (mX_addClass l D h0 a0 dB dS dN dZ n (S 1) (S 2) (F 3) (S 4) (S 5) (S 6) (S 7) (S 8) (F 9) (F 10) (S 11) (S 12) (S 13) (S 14) (S 15) (S 16) (S 17) U d (xs (i + 1)) hL hS) ⟨Nat.le_of_ble_eq_true rfl, Nat.le_of_ble_eq_true rfl⟩ hW ⟨0, _, _, rfl, rfl, rfl⟩ rfl hl.1 rfl (Nat.le_of_ble_eq_true rfl) dL_law_110 hcs (fun v u H locs hv hW => ?_)
  obtain ⟨n1, F1, S1⟩ := u
  obtain ⟨U1, hr1, hS1⟩ := hv
  have hr1 : AddR n U (xs (i + 1)) v n1 U1 := hr1
  have hS1 : Sys n1 U1 d F1 S1 := hS1
  have hW : zH D A s (wS h0 a0 dB dS n1 F1 S1 ++ wM h1 a1 dN dZ (nI n) U d ma al le) H locs := hW
  refine lv_aload_n hx hb dL_law_113 rfl (lv_at hl 1 rfl) ?_
  refine lv_aload_n hx hb dL_law_114 rfl (lv_at hl 3 rfl) ?_
  refine lv_iload_n hx hb dL_law_115 rfl (lv_at hl 0 rfl) ?_
  refine lv_iconst (v := (nI 1)) hx hb dL_law_116 (by decide) ?_
  refine lv_iadd hx hb dL_law_117 ?_
  refine z_top (show (nI i) + (nI 1) = (nI (i + 1)) from nI_add _ _) ?_
  refine z_sld hx hb hX hbl hbA hW hL9 (i + 1) rfl (by omega) dL_law_118 ?_
  refine zcallIR (rest := [.int v]) hx hb hml hown hts hK clL_1_addClass (mM_addClass l D h1 a1 dB dS dN dZ n U d ma al le (xs (i + 1)) hL.1) ⟨Nat.le_of_ble_eq_true rfl, Nat.le_of_ble_eq_true rfl⟩ hW ⟨1, _, _, rfl, rfl, rfl⟩ rfl hl.1 rfl (Nat.le_of_ble_eq_true rfl) dL_law_119 hcs (fun v2 u2 H locs hv2 hW => ?_)
  obtain ⟨n2, U2⟩ := u2
  have hv2 : AddR n U (xs (i + 1)) v2 n2 U2 := hv2
  obtain ⟨rfl, rfl, rfl⟩ := det_add hr1 hv2
  refine lv_icmp_eq (tgt := 476) hx hb dL_law_122 (by decide) (fun _ => ?_) (fun c9 => ?_)
  · exact kk _ _ ⟨n1, U1, d, F1, S1, ma, al, le, inv_add hL hr1, hS1, hW⟩
  · exact absurd rfl c9
set_option maxHeartbeats 4000000 in
theorem lc_define (hA : LA p s m c D A b L xs dB dS dN dZ) (hi : i + 4 ≤ L) (hcs : cells + 0 ≤ room_1.cells ∧ slots + 0 ≤ room_1.slots) (hl : lv_has ls 4 [(3, .int (nI i)), (2, .ref h1), (1, .ref h0), (0, .ref b)]) (kk : ∀ (H : Heap) (locs : List Loc), LW D A s h0 h1 a0 a1 dB dS dN dZ H locs → W p l e room_1 s m #[Value.ref b] below meth c H locs cells slots Q (F0 m 476 ls [])) (hw : LW D A s h0 h1 a0 a1 dB dS dN dZ H locs) : W p l e room_1 s m #[Value.ref b] below meth c H locs cells slots Q (F0 m 127 ls []) := by
  obtain ⟨hx, hb, hml, hown, hts, hK, hX, hbl, hbA, hL9⟩ := hA
  obtain ⟨n, U, d, F, S, ma, al, le, hL, hS, hW⟩ := hw
  refine lv_aload_n hx hb dL_law_127 rfl (lv_at hl 2 rfl) ?_
  refine lv_aload_n hx hb dL_law_128 rfl (lv_at hl 3 rfl) ?_
  refine lv_iload_n hx hb dL_law_129 rfl (lv_at hl 0 rfl) ?_
  refine lv_iconst (v := (nI 1)) hx hb dL_law_130 (by decide) ?_
  refine lv_iadd hx hb dL_law_131 ?_
  refine z_top (show (nI i) + (nI 1) = (nI (i + 1)) from nI_add _ _) ?_
  refine z_sld hx hb hX hbl hbA hW hL9 (i + 1) rfl (by omega) dL_law_132 ?_
  refine lv_aload_n hx hb dL_law_133 rfl (lv_at hl 3 rfl) ?_
  refine lv_iload_n hx hb dL_law_134 rfl (lv_at hl 0 rfl) ?_
  refine lv_iconst (v := (nI 2)) hx hb dL_law_135 (by decide) ?_
  refine lv_iadd hx hb dL_law_136 ?_
  refine z_top (show (nI i) + (nI 2) = (nI (i + 2)) from nI_add _ _) ?_
  refine z_sld hx hb hX hbl hbA hW hL9 (i + 2) rfl (by omega) dL_law_137 ?_
  refine lv_aload_n hx hb dL_law_138 rfl (lv_at hl 3 rfl) ?_
  refine lv_iload_n hx hb dL_law_139 rfl (lv_at hl 0 rfl) ?_
  refine lv_iconst (v := (nI 3)) hx hb dL_law_140 (by decide) ?_
  refine lv_iadd hx hb dL_law_141 ?_
  refine z_top (show (nI i) + (nI 3) = (nI (i + 3)) from nI_add _ _) ?_
  refine z_sld hx hb hX hbl hbA hW hL9 (i + 3) rfl (by omega) dL_law_142 ?_
  refine zcallIL (rest := []) hx hb hml hown hts hK clL_0_define (mX_define l D h0 a0 dB dS dN dZ n (S 1) (S 2) (F 3) (S 4) (S 5) (S 6) (S 7) (S 8) (F 9) (F 10) (S 11) (S 12) (S 13) (S 14) (S 15) (S 16) (S 17) U d (xs (i + 1)) (xs (i + 2)) (xs (i + 3)) hL hS) ⟨Nat.le_of_ble_eq_true rfl, Nat.le_of_ble_eq_true rfl⟩ hW ⟨0, _, _, rfl, rfl, rfl⟩ rfl hl.1 rfl (Nat.le_of_ble_eq_true rfl) dL_law_143 hcs (fun v u H locs hv hW => ?_)
  obtain ⟨F1, S1⟩ := u
  obtain ⟨d1, hr1, hS1⟩ := hv
  have hr1 : DefR n d (xs (i + 1)) (xs (i + 2)) (xs (i + 3)) v d1 := hr1
  have hS1 : Sys n U d1 F1 S1 := hS1
  have hW : zH D A s (wS h0 a0 dB dS n F1 S1 ++ wM h1 a1 dN dZ (nI n) U d ma al le) H locs := hW
  refine lv_aload_n hx hb dL_law_146 rfl (lv_at hl 1 rfl) ?_
  refine lv_aload_n hx hb dL_law_147 rfl (lv_at hl 3 rfl) ?_
  refine lv_iload_n hx hb dL_law_148 rfl (lv_at hl 0 rfl) ?_
  refine lv_iconst (v := (nI 1)) hx hb dL_law_149 (by decide) ?_
  refine lv_iadd hx hb dL_law_150 ?_
  refine z_top (show (nI i) + (nI 1) = (nI (i + 1)) from nI_add _ _) ?_
  refine z_sld hx hb hX hbl hbA hW hL9 (i + 1) rfl (by omega) dL_law_151 ?_
  refine lv_aload_n hx hb dL_law_152 rfl (lv_at hl 3 rfl) ?_
  refine lv_iload_n hx hb dL_law_153 rfl (lv_at hl 0 rfl) ?_
  refine lv_iconst (v := (nI 2)) hx hb dL_law_154 (by decide) ?_
  refine lv_iadd hx hb dL_law_155 ?_
  refine z_top (show (nI i) + (nI 2) = (nI (i + 2)) from nI_add _ _) ?_
  refine z_sld hx hb hX hbl hbA hW hL9 (i + 2) rfl (by omega) dL_law_156 ?_
  refine lv_aload_n hx hb dL_law_157 rfl (lv_at hl 3 rfl) ?_
  refine lv_iload_n hx hb dL_law_158 rfl (lv_at hl 0 rfl) ?_
  refine lv_iconst (v := (nI 3)) hx hb dL_law_159 (by decide) ?_
  refine lv_iadd hx hb dL_law_160 ?_
  refine z_top (show (nI i) + (nI 3) = (nI (i + 3)) from nI_add _ _) ?_
  refine z_sld hx hb hX hbl hbA hW hL9 (i + 3) rfl (by omega) dL_law_161 ?_
  refine zcallIR (rest := [.int v]) hx hb hml hown hts hK clL_1_define (mM_define l D h1 a1 dB dS dN dZ n U d ma al le (xs (i + 1)) (xs (i + 2)) (xs (i + 3)) hL.1) ⟨Nat.le_of_ble_eq_true rfl, Nat.le_of_ble_eq_true rfl⟩ hW ⟨1, _, _, rfl, rfl, rfl⟩ rfl hl.1 rfl (Nat.le_of_ble_eq_true rfl) dL_law_162 hcs (fun v2 u2 H locs hv2 hW => ?_)
  have hv2 : DefR n d (xs (i + 1)) (xs (i + 2)) (xs (i + 3)) v2 u2 := hv2
  obtain ⟨rfl, rfl⟩ := det_def hL.1 hr1 hv2
  refine lv_icmp_eq (tgt := 476) hx hb dL_law_165 (by decide) (fun _ => ?_) (fun c9 => ?_)
  · exact kk _ _ ⟨n, U, d1, F1, S1, ma, al, le, inv_def hL hr1, hS1, hW⟩
  · exact absurd rfl c9
set_option maxHeartbeats 4000000 in
theorem lc_drop (hA : LA p s m c D A b L xs dB dS dN dZ) (hi : i + 4 ≤ L) (hcs : cells + 0 ≤ room_1.cells ∧ slots + 0 ≤ room_1.slots) (hl : lv_has ls 4 [(3, .int (nI i)), (2, .ref h1), (1, .ref h0), (0, .ref b)]) (kk : ∀ (H : Heap) (locs : List Loc), LW D A s h0 h1 a0 a1 dB dS dN dZ H locs → W p l e room_1 s m #[Value.ref b] below meth c H locs cells slots Q (F0 m 476 ls [])) (hw : LW D A s h0 h1 a0 a1 dB dS dN dZ H locs) : W p l e room_1 s m #[Value.ref b] below meth c H locs cells slots Q (F0 m 170 ls []) := by
  obtain ⟨hx, hb, hml, hown, hts, hK, hX, hbl, hbA, hL9⟩ := hA
  obtain ⟨n, U, d, F, S, ma, al, le, hL, hS, hW⟩ := hw
  refine lv_aload_n hx hb dL_law_170 rfl (lv_at hl 2 rfl) ?_
  refine lv_aload_n hx hb dL_law_171 rfl (lv_at hl 3 rfl) ?_
  refine lv_iload_n hx hb dL_law_172 rfl (lv_at hl 0 rfl) ?_
  refine lv_iconst (v := (nI 1)) hx hb dL_law_173 (by decide) ?_
  refine lv_iadd hx hb dL_law_174 ?_
  refine z_top (show (nI i) + (nI 1) = (nI (i + 1)) from nI_add _ _) ?_
  refine z_sld hx hb hX hbl hbA hW hL9 (i + 1) rfl (by omega) dL_law_175 ?_
  refine lv_aload_n hx hb dL_law_176 rfl (lv_at hl 3 rfl) ?_
  refine lv_iload_n hx hb dL_law_177 rfl (lv_at hl 0 rfl) ?_
  refine lv_iconst (v := (nI 2)) hx hb dL_law_178 (by decide) ?_
  refine lv_iadd hx hb dL_law_179 ?_
  refine z_top (show (nI i) + (nI 2) = (nI (i + 2)) from nI_add _ _) ?_
  refine z_sld hx hb hX hbl hbA hW hL9 (i + 2) rfl (by omega) dL_law_180 ?_
  refine zcallIL (rest := []) hx hb hml hown hts hK clL_0_drop (mX_drop l D h0 a0 dB dS dN dZ n (S 1) (S 2) (F 3) (S 4) (S 5) (S 6) (S 7) (S 8) (F 9) (F 10) (S 11) (S 12) (S 13) (S 14) (S 15) (S 16) (S 17) U d (xs (i + 1)) (xs (i + 2)) hL hS) ⟨Nat.le_of_ble_eq_true rfl, Nat.le_of_ble_eq_true rfl⟩ hW ⟨0, _, _, rfl, rfl, rfl⟩ rfl hl.1 rfl (Nat.le_of_ble_eq_true rfl) dL_law_181 hcs (fun v u H locs hv hW => ?_)
  obtain ⟨F1, S1⟩ := u
  obtain ⟨d1, hr1, hS1⟩ := hv
  have hr1 : DropR n d (xs (i + 1)) (xs (i + 2)) v d1 := hr1
  have hS1 : Sys n U d1 F1 S1 := hS1
  have hW : zH D A s (wS h0 a0 dB dS n F1 S1 ++ wM h1 a1 dN dZ (nI n) U d ma al le) H locs := hW
  refine lv_aload_n hx hb dL_law_184 rfl (lv_at hl 1 rfl) ?_
  refine lv_aload_n hx hb dL_law_185 rfl (lv_at hl 3 rfl) ?_
  refine lv_iload_n hx hb dL_law_186 rfl (lv_at hl 0 rfl) ?_
  refine lv_iconst (v := (nI 1)) hx hb dL_law_187 (by decide) ?_
  refine lv_iadd hx hb dL_law_188 ?_
  refine z_top (show (nI i) + (nI 1) = (nI (i + 1)) from nI_add _ _) ?_
  refine z_sld hx hb hX hbl hbA hW hL9 (i + 1) rfl (by omega) dL_law_189 ?_
  refine lv_aload_n hx hb dL_law_190 rfl (lv_at hl 3 rfl) ?_
  refine lv_iload_n hx hb dL_law_191 rfl (lv_at hl 0 rfl) ?_
  refine lv_iconst (v := (nI 2)) hx hb dL_law_192 (by decide) ?_
  refine lv_iadd hx hb dL_law_193 ?_
  refine z_top (show (nI i) + (nI 2) = (nI (i + 2)) from nI_add _ _) ?_
  refine z_sld hx hb hX hbl hbA hW hL9 (i + 2) rfl (by omega) dL_law_194 ?_
  refine zcallIR (rest := [.int v]) hx hb hml hown hts hK clL_1_drop (mM_drop l D h1 a1 dB dS dN dZ n U d ma al le (xs (i + 1)) (xs (i + 2)) hL.1) ⟨Nat.le_of_ble_eq_true rfl, Nat.le_of_ble_eq_true rfl⟩ hW ⟨1, _, _, rfl, rfl, rfl⟩ rfl hl.1 rfl (Nat.le_of_ble_eq_true rfl) dL_law_195 hcs (fun v2 u2 H locs hv2 hW => ?_)
  have hv2 : DropR n d (xs (i + 1)) (xs (i + 2)) v2 u2 := hv2
  obtain ⟨rfl, rfl⟩ := det_drop hL.1 hr1 hv2
  refine lv_icmp_eq (tgt := 476) hx hb dL_law_198 (by decide) (fun _ => ?_) (fun c9 => ?_)
  · exact kk _ _ ⟨n, U, d1, F1, S1, ma, al, le, inv_drop hL hr1, hS1, hW⟩
  · exact absurd rfl c9
set_option maxHeartbeats 4000000 in
theorem lc_move (hA : LA p s m c D A b L xs dB dS dN dZ) (hi : i + 4 ≤ L) (hcs : cells + 0 ≤ room_1.cells ∧ slots + 0 ≤ room_1.slots) (hl : lv_has ls 4 [(3, .int (nI i)), (2, .ref h1), (1, .ref h0), (0, .ref b)]) (kk : ∀ (H : Heap) (locs : List Loc), LW D A s h0 h1 a0 a1 dB dS dN dZ H locs → W p l e room_1 s m #[Value.ref b] below meth c H locs cells slots Q (F0 m 476 ls [])) (hw : LW D A s h0 h1 a0 a1 dB dS dN dZ H locs) : W p l e room_1 s m #[Value.ref b] below meth c H locs cells slots Q (F0 m 203 ls []) := by
  obtain ⟨hx, hb, hml, hown, hts, hK, hX, hbl, hbA, hL9⟩ := hA
  obtain ⟨n, U, d, F, S, ma, al, le, hL, hS, hW⟩ := hw
  refine lv_aload_n hx hb dL_law_203 rfl (lv_at hl 2 rfl) ?_
  refine lv_aload_n hx hb dL_law_204 rfl (lv_at hl 3 rfl) ?_
  refine lv_iload_n hx hb dL_law_205 rfl (lv_at hl 0 rfl) ?_
  refine lv_iconst (v := (nI 1)) hx hb dL_law_206 (by decide) ?_
  refine lv_iadd hx hb dL_law_207 ?_
  refine z_top (show (nI i) + (nI 1) = (nI (i + 1)) from nI_add _ _) ?_
  refine z_sld hx hb hX hbl hbA hW hL9 (i + 1) rfl (by omega) dL_law_208 ?_
  refine lv_aload_n hx hb dL_law_209 rfl (lv_at hl 3 rfl) ?_
  refine lv_iload_n hx hb dL_law_210 rfl (lv_at hl 0 rfl) ?_
  refine lv_iconst (v := (nI 2)) hx hb dL_law_211 (by decide) ?_
  refine lv_iadd hx hb dL_law_212 ?_
  refine z_top (show (nI i) + (nI 2) = (nI (i + 2)) from nI_add _ _) ?_
  refine z_sld hx hb hX hbl hbA hW hL9 (i + 2) rfl (by omega) dL_law_213 ?_
  refine zcallIL (rest := []) hx hb hml hown hts hK clL_0_move (mX_move l D h0 a0 dB dS dN dZ n (S 1) (S 2) (F 3) (S 4) (S 5) (S 6) (S 7) (S 8) (F 9) (F 10) (S 11) (S 12) (S 13) (S 14) (S 15) (S 16) (S 17) U d (xs (i + 1)) (xs (i + 2)) hL hS) ⟨Nat.le_of_ble_eq_true rfl, Nat.le_of_ble_eq_true rfl⟩ hW ⟨0, _, _, rfl, rfl, rfl⟩ rfl hl.1 rfl (Nat.le_of_ble_eq_true rfl) dL_law_214 hcs (fun v u H locs hv hW => ?_)
  obtain ⟨F1, S1⟩ := u
  obtain ⟨U1, hr1, hS1⟩ := hv
  have hr1 : MoveR n U (xs (i + 1)) (xs (i + 2)) v U1 := hr1
  have hS1 : Sys n U1 d F1 S1 := hS1
  have hW : zH D A s (wS h0 a0 dB dS n F1 S1 ++ wM h1 a1 dN dZ (nI n) U d ma al le) H locs := hW
  refine lv_aload_n hx hb dL_law_217 rfl (lv_at hl 1 rfl) ?_
  refine lv_aload_n hx hb dL_law_218 rfl (lv_at hl 3 rfl) ?_
  refine lv_iload_n hx hb dL_law_219 rfl (lv_at hl 0 rfl) ?_
  refine lv_iconst (v := (nI 1)) hx hb dL_law_220 (by decide) ?_
  refine lv_iadd hx hb dL_law_221 ?_
  refine z_top (show (nI i) + (nI 1) = (nI (i + 1)) from nI_add _ _) ?_
  refine z_sld hx hb hX hbl hbA hW hL9 (i + 1) rfl (by omega) dL_law_222 ?_
  refine lv_aload_n hx hb dL_law_223 rfl (lv_at hl 3 rfl) ?_
  refine lv_iload_n hx hb dL_law_224 rfl (lv_at hl 0 rfl) ?_
  refine lv_iconst (v := (nI 2)) hx hb dL_law_225 (by decide) ?_
  refine lv_iadd hx hb dL_law_226 ?_
  refine z_top (show (nI i) + (nI 2) = (nI (i + 2)) from nI_add _ _) ?_
  refine z_sld hx hb hX hbl hbA hW hL9 (i + 2) rfl (by omega) dL_law_227 ?_
  refine zcallIR (rest := [.int v]) hx hb hml hown hts hK clL_1_move (mM_move l D h1 a1 dB dS dN dZ n U d ma al le (xs (i + 1)) (xs (i + 2)) hL.1 hL.2.1) ⟨Nat.le_of_ble_eq_true rfl, Nat.le_of_ble_eq_true rfl⟩ hW ⟨1, _, _, rfl, rfl, rfl⟩ rfl hl.1 rfl (Nat.le_of_ble_eq_true rfl) dL_law_228 hcs (fun v2 u2 H locs hv2 hW => ?_)
  have hv2 : MoveR n U (xs (i + 1)) (xs (i + 2)) v2 u2 := hv2
  obtain ⟨rfl, rfl⟩ := det_move hL.1 hr1 hv2
  refine lv_icmp_eq (tgt := 476) hx hb dL_law_231 (by decide) (fun _ => ?_) (fun c9 => ?_)
  · exact kk _ _ ⟨n, U1, d, F1, S1, ma, al, le, inv_move hL hr1, hS1, hW⟩
  · exact absurd rfl c9
set_option maxHeartbeats 4000000 in
theorem lc_classes (hA : LA p s m c D A b L xs dB dS dN dZ) (hi : i + 4 ≤ L) (hcs : cells + 0 ≤ room_1.cells ∧ slots + 0 ≤ room_1.slots) (hl : lv_has ls 4 [(3, .int (nI i)), (2, .ref h1), (1, .ref h0), (0, .ref b)]) (kk : ∀ (H : Heap) (locs : List Loc), LW D A s h0 h1 a0 a1 dB dS dN dZ H locs → W p l e room_1 s m #[Value.ref b] below meth c H locs cells slots Q (F0 m 476 ls [])) (hw : LW D A s h0 h1 a0 a1 dB dS dN dZ H locs) : W p l e room_1 s m #[Value.ref b] below meth c H locs cells slots Q (F0 m 236 ls []) := by
  obtain ⟨hx, hb, hml, hown, hts, hK, hX, hbl, hbA, hL9⟩ := hA
  obtain ⟨n, U, d, F, S, ma, al, le, hL, hS, hW⟩ := hw
  refine lv_aload_n hx hb dL_law_236 rfl (lv_at hl 2 rfl) ?_
  refine zcallIL (rest := []) hx hb hml hown hts hK clL_0_classes (mX_classes l D h0 a0 dB dS dN dZ n (S 1) (S 2) (F 3) (S 4) (S 5) (S 6) (S 7) (S 8) (F 9) (F 10) (S 11) (S 12) (S 13) (S 14) (S 15) (S 16) (S 17) U d  hL hS) ⟨Nat.le_of_ble_eq_true rfl, Nat.le_of_ble_eq_true rfl⟩ hW ⟨0, _, _, rfl, rfl, rfl⟩ rfl hl.1 rfl (Nat.le_of_ble_eq_true rfl) dL_law_237 hcs (fun v u H locs hv hW => ?_)
  obtain ⟨F1, S1⟩ := u
  obtain ⟨hS1, hr1⟩ := hv
  have hS1 : Sys n U d F1 S1 := hS1
  have hW : zH D A s (wS h0 a0 dB dS n F1 S1 ++ wM h1 a1 dN dZ (nI n) U d ma al le) H locs := hW
  refine lv_aload_n hx hb dL_law_240 rfl (lv_at hl 1 rfl) ?_
  refine zcallIR (rest := [.int v]) hx hb hml hown hts hK clL_1_classes (mM_classes l D h1 a1 dB dS dN dZ n U d ma al le  hL.1) ⟨Nat.le_of_ble_eq_true rfl, Nat.le_of_ble_eq_true rfl⟩ hW ⟨1, _, _, rfl, rfl, rfl⟩ rfl hl.1 rfl (Nat.le_of_ble_eq_true rfl) dL_law_241 hcs (fun v2 u2 H locs hv2 hW => ?_)
  obtain rfl : v = v2 := hr1.trans hv2.symm
  refine lv_icmp_eq (tgt := 476) hx hb dL_law_244 (by decide) (fun _ => ?_) (fun c9 => ?_)
  · exact kk _ _ ⟨n, U, d, F1, S1, ma, al, le, hL, hS1, hW⟩
  · exact absurd rfl c9
set_option maxHeartbeats 4000000 in
theorem lc_parent (hA : LA p s m c D A b L xs dB dS dN dZ) (hi : i + 4 ≤ L) (hcs : cells + 0 ≤ room_1.cells ∧ slots + 0 ≤ room_1.slots) (hl : lv_has ls 4 [(3, .int (nI i)), (2, .ref h1), (1, .ref h0), (0, .ref b)]) (kk : ∀ (H : Heap) (locs : List Loc), LW D A s h0 h1 a0 a1 dB dS dN dZ H locs → W p l e room_1 s m #[Value.ref b] below meth c H locs cells slots Q (F0 m 476 ls [])) (hw : LW D A s h0 h1 a0 a1 dB dS dN dZ H locs) : W p l e room_1 s m #[Value.ref b] below meth c H locs cells slots Q (F0 m 249 ls []) := by
  obtain ⟨hx, hb, hml, hown, hts, hK, hX, hbl, hbA, hL9⟩ := hA
  obtain ⟨n, U, d, F, S, ma, al, le, hL, hS, hW⟩ := hw
  refine lv_aload_n hx hb dL_law_249 rfl (lv_at hl 2 rfl) ?_
  refine lv_aload_n hx hb dL_law_250 rfl (lv_at hl 3 rfl) ?_
  refine lv_iload_n hx hb dL_law_251 rfl (lv_at hl 0 rfl) ?_
  refine lv_iconst (v := (nI 1)) hx hb dL_law_252 (by decide) ?_
  refine lv_iadd hx hb dL_law_253 ?_
  refine z_top (show (nI i) + (nI 1) = (nI (i + 1)) from nI_add _ _) ?_
  refine z_sld hx hb hX hbl hbA hW hL9 (i + 1) rfl (by omega) dL_law_254 ?_
  refine zcallIL (rest := []) hx hb hml hown hts hK clL_0_parent (mX_parent l D h0 a0 dB dS dN dZ n (S 1) (S 2) (F 3) (S 4) (S 5) (S 6) (S 7) (S 8) (F 9) (F 10) (S 11) (S 12) (S 13) (S 14) (S 15) (S 16) (S 17) U d (xs (i + 1)) hL hS) ⟨Nat.le_of_ble_eq_true rfl, Nat.le_of_ble_eq_true rfl⟩ hW ⟨0, _, _, rfl, rfl, rfl⟩ rfl hl.1 rfl (Nat.le_of_ble_eq_true rfl) dL_law_255 hcs (fun v u H locs hv hW => ?_)
  obtain ⟨F1, S1⟩ := u
  obtain ⟨hS1, hr1⟩ := hv
  have hS1 : Sys n U d F1 S1 := hS1
  have hW : zH D A s (wS h0 a0 dB dS n F1 S1 ++ wM h1 a1 dN dZ (nI n) U d ma al le) H locs := hW
  refine lv_aload_n hx hb dL_law_258 rfl (lv_at hl 1 rfl) ?_
  refine lv_aload_n hx hb dL_law_259 rfl (lv_at hl 3 rfl) ?_
  refine lv_iload_n hx hb dL_law_260 rfl (lv_at hl 0 rfl) ?_
  refine lv_iconst (v := (nI 1)) hx hb dL_law_261 (by decide) ?_
  refine lv_iadd hx hb dL_law_262 ?_
  refine z_top (show (nI i) + (nI 1) = (nI (i + 1)) from nI_add _ _) ?_
  refine z_sld hx hb hX hbl hbA hW hL9 (i + 1) rfl (by omega) dL_law_263 ?_
  refine zcallIR (rest := [.int v]) hx hb hml hown hts hK clL_1_parent (mM_parent l D h1 a1 dB dS dN dZ n U d ma al le (xs (i + 1)) hL.1) ⟨Nat.le_of_ble_eq_true rfl, Nat.le_of_ble_eq_true rfl⟩ hW ⟨1, _, _, rfl, rfl, rfl⟩ rfl hl.1 rfl (Nat.le_of_ble_eq_true rfl) dL_law_264 hcs (fun v2 u2 H locs hv2 hW => ?_)
  obtain rfl : v = v2 := det_par hL.1 hr1 hv2
  refine lv_icmp_eq (tgt := 476) hx hb dL_law_267 (by decide) (fun _ => ?_) (fun c9 => ?_)
  · exact kk _ _ ⟨n, U, d, F1, S1, ma, al, le, hL, hS1, hW⟩
  · exact absurd rfl c9
set_option maxHeartbeats 4000000 in
theorem lc_send (hA : LA p s m c D A b L xs dB dS dN dZ) (hi : i + 4 ≤ L) (hcs : cells + 0 ≤ room_1.cells ∧ slots + 0 ≤ room_1.slots) (hl : lv_has ls 4 [(3, .int (nI i)), (2, .ref h1), (1, .ref h0), (0, .ref b)]) (kk : ∀ (H : Heap) (locs : List Loc), LW D A s h0 h1 a0 a1 dB dS dN dZ H locs → W p l e room_1 s m #[Value.ref b] below meth c H locs cells slots Q (F0 m 476 ls [])) (hw : LW D A s h0 h1 a0 a1 dB dS dN dZ H locs) : W p l e room_1 s m #[Value.ref b] below meth c H locs cells slots Q (F0 m 272 ls []) := by
  obtain ⟨hx, hb, hml, hown, hts, hK, hX, hbl, hbA, hL9⟩ := hA
  obtain ⟨n, U, d, F, S, ma, al, le, hL, hS, hW⟩ := hw
  refine lv_aload_n hx hb dL_law_272 rfl (lv_at hl 2 rfl) ?_
  refine lv_aload_n hx hb dL_law_273 rfl (lv_at hl 3 rfl) ?_
  refine lv_iload_n hx hb dL_law_274 rfl (lv_at hl 0 rfl) ?_
  refine lv_iconst (v := (nI 1)) hx hb dL_law_275 (by decide) ?_
  refine lv_iadd hx hb dL_law_276 ?_
  refine z_top (show (nI i) + (nI 1) = (nI (i + 1)) from nI_add _ _) ?_
  refine z_sld hx hb hX hbl hbA hW hL9 (i + 1) rfl (by omega) dL_law_277 ?_
  refine lv_aload_n hx hb dL_law_278 rfl (lv_at hl 3 rfl) ?_
  refine lv_iload_n hx hb dL_law_279 rfl (lv_at hl 0 rfl) ?_
  refine lv_iconst (v := (nI 2)) hx hb dL_law_280 (by decide) ?_
  refine lv_iadd hx hb dL_law_281 ?_
  refine z_top (show (nI i) + (nI 2) = (nI (i + 2)) from nI_add _ _) ?_
  refine z_sld hx hb hX hbl hbA hW hL9 (i + 2) rfl (by omega) dL_law_282 ?_
  refine zcallIL (rest := []) hx hb hml hown hts hK clL_0_send (mX_send l D h0 a0 dB dS dN dZ n (S 1) (S 2) (F 3) (S 4) (S 5) (S 6) (S 7) (S 8) (F 9) (F 10) (S 11) (S 12) (S 13) (S 14) (S 15) (S 16) (S 17) U d (xs (i + 1)) (xs (i + 2)) hL hS) ⟨Nat.le_of_ble_eq_true rfl, Nat.le_of_ble_eq_true rfl⟩ hW ⟨0, _, _, rfl, rfl, rfl⟩ rfl hl.1 rfl (Nat.le_of_ble_eq_true rfl) dL_law_283 hcs (fun v u H locs hv hW => ?_)
  obtain ⟨F1, S1⟩ := u
  obtain ⟨hS1, hr1⟩ := hv
  have hS1 : Sys n U d F1 S1 := hS1
  have hW : zH D A s (wS h0 a0 dB dS n F1 S1 ++ wM h1 a1 dN dZ (nI n) U d ma al le) H locs := hW
  refine lv_aload_n hx hb dL_law_286 rfl (lv_at hl 1 rfl) ?_
  refine lv_aload_n hx hb dL_law_287 rfl (lv_at hl 3 rfl) ?_
  refine lv_iload_n hx hb dL_law_288 rfl (lv_at hl 0 rfl) ?_
  refine lv_iconst (v := (nI 1)) hx hb dL_law_289 (by decide) ?_
  refine lv_iadd hx hb dL_law_290 ?_
  refine z_top (show (nI i) + (nI 1) = (nI (i + 1)) from nI_add _ _) ?_
  refine z_sld hx hb hX hbl hbA hW hL9 (i + 1) rfl (by omega) dL_law_291 ?_
  refine lv_aload_n hx hb dL_law_292 rfl (lv_at hl 3 rfl) ?_
  refine lv_iload_n hx hb dL_law_293 rfl (lv_at hl 0 rfl) ?_
  refine lv_iconst (v := (nI 2)) hx hb dL_law_294 (by decide) ?_
  refine lv_iadd hx hb dL_law_295 ?_
  refine z_top (show (nI i) + (nI 2) = (nI (i + 2)) from nI_add _ _) ?_
  refine z_sld hx hb hX hbl hbA hW hL9 (i + 2) rfl (by omega) dL_law_296 ?_
  refine zcallIR (rest := [.int v]) hx hb hml hown hts hK clL_1_send (mM_send l D h1 a1 dB dS dN dZ n U d ma al le (xs (i + 1)) (xs (i + 2)) hL.1 hL.2.1) ⟨Nat.le_of_ble_eq_true rfl, Nat.le_of_ble_eq_true rfl⟩ hW ⟨1, _, _, rfl, rfl, rfl⟩ rfl hl.1 rfl (Nat.le_of_ble_eq_true rfl) dL_law_297 hcs (fun v2 u2 H locs hv2 hW => ?_)
  obtain rfl : v = v2 := det_snd hL.1 hr1 hv2
  refine lv_icmp_eq (tgt := 476) hx hb dL_law_300 (by decide) (fun _ => ?_) (fun c9 => ?_)
  · exact kk _ _ ⟨n, U, d, F1, S1, ma, al, le, hL, hS1, hW⟩
  · exact absurd rfl c9
set_option maxHeartbeats 4000000 in
theorem lc_sendSuper (hA : LA p s m c D A b L xs dB dS dN dZ) (hi : i + 4 ≤ L) (hcs : cells + 0 ≤ room_1.cells ∧ slots + 0 ≤ room_1.slots) (hl : lv_has ls 4 [(3, .int (nI i)), (2, .ref h1), (1, .ref h0), (0, .ref b)]) (kk : ∀ (H : Heap) (locs : List Loc), LW D A s h0 h1 a0 a1 dB dS dN dZ H locs → W p l e room_1 s m #[Value.ref b] below meth c H locs cells slots Q (F0 m 476 ls [])) (hw : LW D A s h0 h1 a0 a1 dB dS dN dZ H locs) : W p l e room_1 s m #[Value.ref b] below meth c H locs cells slots Q (F0 m 305 ls []) := by
  obtain ⟨hx, hb, hml, hown, hts, hK, hX, hbl, hbA, hL9⟩ := hA
  obtain ⟨n, U, d, F, S, ma, al, le, hL, hS, hW⟩ := hw
  refine lv_aload_n hx hb dL_law_305 rfl (lv_at hl 2 rfl) ?_
  refine lv_aload_n hx hb dL_law_306 rfl (lv_at hl 3 rfl) ?_
  refine lv_iload_n hx hb dL_law_307 rfl (lv_at hl 0 rfl) ?_
  refine lv_iconst (v := (nI 1)) hx hb dL_law_308 (by decide) ?_
  refine lv_iadd hx hb dL_law_309 ?_
  refine z_top (show (nI i) + (nI 1) = (nI (i + 1)) from nI_add _ _) ?_
  refine z_sld hx hb hX hbl hbA hW hL9 (i + 1) rfl (by omega) dL_law_310 ?_
  refine lv_aload_n hx hb dL_law_311 rfl (lv_at hl 3 rfl) ?_
  refine lv_iload_n hx hb dL_law_312 rfl (lv_at hl 0 rfl) ?_
  refine lv_iconst (v := (nI 2)) hx hb dL_law_313 (by decide) ?_
  refine lv_iadd hx hb dL_law_314 ?_
  refine z_top (show (nI i) + (nI 2) = (nI (i + 2)) from nI_add _ _) ?_
  refine z_sld hx hb hX hbl hbA hW hL9 (i + 2) rfl (by omega) dL_law_315 ?_
  refine zcallIL (rest := []) hx hb hml hown hts hK clL_0_sendSuper (mX_sendSuper l D h0 a0 dB dS dN dZ n (S 1) (S 2) (F 3) (S 4) (S 5) (S 6) (S 7) (S 8) (F 9) (F 10) (S 11) (S 12) (S 13) (S 14) (S 15) (S 16) (S 17) U d (xs (i + 1)) (xs (i + 2)) hL hS) ⟨Nat.le_of_ble_eq_true rfl, Nat.le_of_ble_eq_true rfl⟩ hW ⟨0, _, _, rfl, rfl, rfl⟩ rfl hl.1 rfl (Nat.le_of_ble_eq_true rfl) dL_law_316 hcs (fun v u H locs hv hW => ?_)
  obtain ⟨F1, S1⟩ := u
  obtain ⟨hS1, hr1⟩ := hv
  have hS1 : Sys n U d F1 S1 := hS1
  have hW : zH D A s (wS h0 a0 dB dS n F1 S1 ++ wM h1 a1 dN dZ (nI n) U d ma al le) H locs := hW
  refine lv_aload_n hx hb dL_law_319 rfl (lv_at hl 1 rfl) ?_
  refine lv_aload_n hx hb dL_law_320 rfl (lv_at hl 3 rfl) ?_
  refine lv_iload_n hx hb dL_law_321 rfl (lv_at hl 0 rfl) ?_
  refine lv_iconst (v := (nI 1)) hx hb dL_law_322 (by decide) ?_
  refine lv_iadd hx hb dL_law_323 ?_
  refine z_top (show (nI i) + (nI 1) = (nI (i + 1)) from nI_add _ _) ?_
  refine z_sld hx hb hX hbl hbA hW hL9 (i + 1) rfl (by omega) dL_law_324 ?_
  refine lv_aload_n hx hb dL_law_325 rfl (lv_at hl 3 rfl) ?_
  refine lv_iload_n hx hb dL_law_326 rfl (lv_at hl 0 rfl) ?_
  refine lv_iconst (v := (nI 2)) hx hb dL_law_327 (by decide) ?_
  refine lv_iadd hx hb dL_law_328 ?_
  refine z_top (show (nI i) + (nI 2) = (nI (i + 2)) from nI_add _ _) ?_
  refine z_sld hx hb hX hbl hbA hW hL9 (i + 2) rfl (by omega) dL_law_329 ?_
  refine zcallIR (rest := [.int v]) hx hb hml hown hts hK clL_1_sendSuper (mM_sendSuper l D h1 a1 dB dS dN dZ n U d ma al le (xs (i + 1)) (xs (i + 2)) hL.1 hL.2.1) ⟨Nat.le_of_ble_eq_true rfl, Nat.le_of_ble_eq_true rfl⟩ hW ⟨1, _, _, rfl, rfl, rfl⟩ rfl hl.1 rfl (Nat.le_of_ble_eq_true rfl) dL_law_330 hcs (fun v2 u2 H locs hv2 hW => ?_)
  obtain rfl : v = v2 := det_sup hL.1 hr1 hv2
  refine lv_icmp_eq (tgt := 476) hx hb dL_law_333 (by decide) (fun _ => ?_) (fun c9 => ?_)
  · exact kk _ _ ⟨n, U, d, F1, S1, ma, al, le, hL, hS1, hW⟩
  · exact absurd rfl c9
set_option maxHeartbeats 4000000 in
theorem lc_owner (hA : LA p s m c D A b L xs dB dS dN dZ) (hi : i + 4 ≤ L) (hcs : cells + 0 ≤ room_1.cells ∧ slots + 0 ≤ room_1.slots) (hl : lv_has ls 4 [(3, .int (nI i)), (2, .ref h1), (1, .ref h0), (0, .ref b)]) (kk : ∀ (H : Heap) (locs : List Loc), LW D A s h0 h1 a0 a1 dB dS dN dZ H locs → W p l e room_1 s m #[Value.ref b] below meth c H locs cells slots Q (F0 m 476 ls [])) (hw : LW D A s h0 h1 a0 a1 dB dS dN dZ H locs) : W p l e room_1 s m #[Value.ref b] below meth c H locs cells slots Q (F0 m 338 ls []) := by
  obtain ⟨hx, hb, hml, hown, hts, hK, hX, hbl, hbA, hL9⟩ := hA
  obtain ⟨n, U, d, F, S, ma, al, le, hL, hS, hW⟩ := hw
  refine lv_aload_n hx hb dL_law_338 rfl (lv_at hl 2 rfl) ?_
  refine lv_aload_n hx hb dL_law_339 rfl (lv_at hl 3 rfl) ?_
  refine lv_iload_n hx hb dL_law_340 rfl (lv_at hl 0 rfl) ?_
  refine lv_iconst (v := (nI 1)) hx hb dL_law_341 (by decide) ?_
  refine lv_iadd hx hb dL_law_342 ?_
  refine z_top (show (nI i) + (nI 1) = (nI (i + 1)) from nI_add _ _) ?_
  refine z_sld hx hb hX hbl hbA hW hL9 (i + 1) rfl (by omega) dL_law_343 ?_
  refine lv_aload_n hx hb dL_law_344 rfl (lv_at hl 3 rfl) ?_
  refine lv_iload_n hx hb dL_law_345 rfl (lv_at hl 0 rfl) ?_
  refine lv_iconst (v := (nI 2)) hx hb dL_law_346 (by decide) ?_
  refine lv_iadd hx hb dL_law_347 ?_
  refine z_top (show (nI i) + (nI 2) = (nI (i + 2)) from nI_add _ _) ?_
  refine z_sld hx hb hX hbl hbA hW hL9 (i + 2) rfl (by omega) dL_law_348 ?_
  refine zcallIL (rest := []) hx hb hml hown hts hK clL_0_owner (mX_owner l D h0 a0 dB dS dN dZ n (S 1) (S 2) (F 3) (S 4) (S 5) (S 6) (S 7) (S 8) (F 9) (F 10) (S 11) (S 12) (S 13) (S 14) (S 15) (S 16) (S 17) U d (xs (i + 1)) (xs (i + 2)) hL hS) ⟨Nat.le_of_ble_eq_true rfl, Nat.le_of_ble_eq_true rfl⟩ hW ⟨0, _, _, rfl, rfl, rfl⟩ rfl hl.1 rfl (Nat.le_of_ble_eq_true rfl) dL_law_349 hcs (fun v u H locs hv hW => ?_)
  obtain ⟨F1, S1⟩ := u
  obtain ⟨hS1, hr1⟩ := hv
  have hS1 : Sys n U d F1 S1 := hS1
  have hW : zH D A s (wS h0 a0 dB dS n F1 S1 ++ wM h1 a1 dN dZ (nI n) U d ma al le) H locs := hW
  refine lv_aload_n hx hb dL_law_352 rfl (lv_at hl 1 rfl) ?_
  refine lv_aload_n hx hb dL_law_353 rfl (lv_at hl 3 rfl) ?_
  refine lv_iload_n hx hb dL_law_354 rfl (lv_at hl 0 rfl) ?_
  refine lv_iconst (v := (nI 1)) hx hb dL_law_355 (by decide) ?_
  refine lv_iadd hx hb dL_law_356 ?_
  refine z_top (show (nI i) + (nI 1) = (nI (i + 1)) from nI_add _ _) ?_
  refine z_sld hx hb hX hbl hbA hW hL9 (i + 1) rfl (by omega) dL_law_357 ?_
  refine lv_aload_n hx hb dL_law_358 rfl (lv_at hl 3 rfl) ?_
  refine lv_iload_n hx hb dL_law_359 rfl (lv_at hl 0 rfl) ?_
  refine lv_iconst (v := (nI 2)) hx hb dL_law_360 (by decide) ?_
  refine lv_iadd hx hb dL_law_361 ?_
  refine z_top (show (nI i) + (nI 2) = (nI (i + 2)) from nI_add _ _) ?_
  refine z_sld hx hb hX hbl hbA hW hL9 (i + 2) rfl (by omega) dL_law_362 ?_
  refine zcallIR (rest := [.int v]) hx hb hml hown hts hK clL_1_owner (mM_owner l D h1 a1 dB dS dN dZ n U d ma al le (xs (i + 1)) (xs (i + 2)) hL.1 hL.2.1) ⟨Nat.le_of_ble_eq_true rfl, Nat.le_of_ble_eq_true rfl⟩ hW ⟨1, _, _, rfl, rfl, rfl⟩ rfl hl.1 rfl (Nat.le_of_ble_eq_true rfl) dL_law_363 hcs (fun v2 u2 H locs hv2 hW => ?_)
  obtain rfl : v = v2 := det_own hL.1 hr1 hv2
  refine lv_icmp_eq (tgt := 476) hx hb dL_law_366 (by decide) (fun _ => ?_) (fun c9 => ?_)
  · exact kk _ _ ⟨n, U, d, F1, S1, ma, al, le, hL, hS1, hW⟩
  · exact absurd rfl c9
set_option maxHeartbeats 4000000 in
theorem lc_understands (hA : LA p s m c D A b L xs dB dS dN dZ) (hi : i + 4 ≤ L) (hcs : cells + 0 ≤ room_1.cells ∧ slots + 0 ≤ room_1.slots) (hl : lv_has ls 4 [(3, .int (nI i)), (2, .ref h1), (1, .ref h0), (0, .ref b)]) (kk : ∀ (H : Heap) (locs : List Loc), LW D A s h0 h1 a0 a1 dB dS dN dZ H locs → W p l e room_1 s m #[Value.ref b] below meth c H locs cells slots Q (F0 m 476 ls [])) (hw : LW D A s h0 h1 a0 a1 dB dS dN dZ H locs) : W p l e room_1 s m #[Value.ref b] below meth c H locs cells slots Q (F0 m 371 ls []) := by
  obtain ⟨hx, hb, hml, hown, hts, hK, hX, hbl, hbA, hL9⟩ := hA
  obtain ⟨n, U, d, F, S, ma, al, le, hL, hS, hW⟩ := hw
  refine lv_aload_n hx hb dL_law_371 rfl (lv_at hl 2 rfl) ?_
  refine lv_aload_n hx hb dL_law_372 rfl (lv_at hl 3 rfl) ?_
  refine lv_iload_n hx hb dL_law_373 rfl (lv_at hl 0 rfl) ?_
  refine lv_iconst (v := (nI 1)) hx hb dL_law_374 (by decide) ?_
  refine lv_iadd hx hb dL_law_375 ?_
  refine z_top (show (nI i) + (nI 1) = (nI (i + 1)) from nI_add _ _) ?_
  refine z_sld hx hb hX hbl hbA hW hL9 (i + 1) rfl (by omega) dL_law_376 ?_
  refine zcallIL (rest := []) hx hb hml hown hts hK clL_0_understands (mX_understands l D h0 a0 dB dS dN dZ n (S 1) (S 2) (F 3) (S 4) (S 5) (S 6) (S 7) (S 8) (F 9) (F 10) (S 11) (S 12) (S 13) (S 14) (S 15) (S 16) (S 17) U d (xs (i + 1)) hL hS) ⟨Nat.le_of_ble_eq_true rfl, Nat.le_of_ble_eq_true rfl⟩ hW ⟨0, _, _, rfl, rfl, rfl⟩ rfl hl.1 rfl (Nat.le_of_ble_eq_true rfl) dL_law_377 hcs (fun v u H locs hv hW => ?_)
  obtain ⟨F1, S1⟩ := u
  obtain ⟨hS1, hr1⟩ := hv
  have hS1 : Sys n U d F1 S1 := hS1
  have hW : zH D A s (wS h0 a0 dB dS n F1 S1 ++ wM h1 a1 dN dZ (nI n) U d ma al le) H locs := hW
  refine lv_aload_n hx hb dL_law_380 rfl (lv_at hl 1 rfl) ?_
  refine lv_aload_n hx hb dL_law_381 rfl (lv_at hl 3 rfl) ?_
  refine lv_iload_n hx hb dL_law_382 rfl (lv_at hl 0 rfl) ?_
  refine lv_iconst (v := (nI 1)) hx hb dL_law_383 (by decide) ?_
  refine lv_iadd hx hb dL_law_384 ?_
  refine z_top (show (nI i) + (nI 1) = (nI (i + 1)) from nI_add _ _) ?_
  refine z_sld hx hb hX hbl hbA hW hL9 (i + 1) rfl (by omega) dL_law_385 ?_
  refine zcallIR (rest := [.int v]) hx hb hml hown hts hK clL_1_understands (mM_understands l D h1 a1 dB dS dN dZ n U d ma al le (xs (i + 1)) hL.1 hL.2.1) ⟨Nat.le_of_ble_eq_true rfl, Nat.le_of_ble_eq_true rfl⟩ hW ⟨1, _, _, rfl, rfl, rfl⟩ rfl hl.1 rfl (Nat.le_of_ble_eq_true rfl) dL_law_386 hcs (fun v2 u2 H locs hv2 hW => ?_)
  obtain rfl : v = v2 := det_und hL.1 hr1 hv2
  refine lv_icmp_eq (tgt := 476) hx hb dL_law_389 (by decide) (fun _ => ?_) (fun c9 => ?_)
  · exact kk _ _ ⟨n, U, d, F1, S1, ma, al, le, hL, hS1, hW⟩
  · exact absurd rfl c9
set_option maxHeartbeats 4000000 in
theorem lc_heirs (hA : LA p s m c D A b L xs dB dS dN dZ) (hi : i + 4 ≤ L) (hcs : cells + 0 ≤ room_1.cells ∧ slots + 0 ≤ room_1.slots) (hl : lv_has ls 4 [(3, .int (nI i)), (2, .ref h1), (1, .ref h0), (0, .ref b)]) (kk : ∀ (H : Heap) (locs : List Loc), LW D A s h0 h1 a0 a1 dB dS dN dZ H locs → W p l e room_1 s m #[Value.ref b] below meth c H locs cells slots Q (F0 m 476 ls [])) (hw : LW D A s h0 h1 a0 a1 dB dS dN dZ H locs) : W p l e room_1 s m #[Value.ref b] below meth c H locs cells slots Q (F0 m 394 ls []) := by
  obtain ⟨hx, hb, hml, hown, hts, hK, hX, hbl, hbA, hL9⟩ := hA
  obtain ⟨n, U, d, F, S, ma, al, le, hL, hS, hW⟩ := hw
  refine lv_aload_n hx hb dL_law_394 rfl (lv_at hl 2 rfl) ?_
  refine lv_aload_n hx hb dL_law_395 rfl (lv_at hl 3 rfl) ?_
  refine lv_iload_n hx hb dL_law_396 rfl (lv_at hl 0 rfl) ?_
  refine lv_iconst (v := (nI 1)) hx hb dL_law_397 (by decide) ?_
  refine lv_iadd hx hb dL_law_398 ?_
  refine z_top (show (nI i) + (nI 1) = (nI (i + 1)) from nI_add _ _) ?_
  refine z_sld hx hb hX hbl hbA hW hL9 (i + 1) rfl (by omega) dL_law_399 ?_
  refine lv_aload_n hx hb dL_law_400 rfl (lv_at hl 3 rfl) ?_
  refine lv_iload_n hx hb dL_law_401 rfl (lv_at hl 0 rfl) ?_
  refine lv_iconst (v := (nI 2)) hx hb dL_law_402 (by decide) ?_
  refine lv_iadd hx hb dL_law_403 ?_
  refine z_top (show (nI i) + (nI 2) = (nI (i + 2)) from nI_add _ _) ?_
  refine z_sld hx hb hX hbl hbA hW hL9 (i + 2) rfl (by omega) dL_law_404 ?_
  refine zcallIL (rest := []) hx hb hml hown hts hK clL_0_heirs (mX_heirs l D h0 a0 dB dS dN dZ n (S 1) (S 2) (F 3) (S 4) (S 5) (S 6) (S 7) (S 8) (F 9) (F 10) (S 11) (S 12) (S 13) (S 14) (S 15) (S 16) (S 17) U d (xs (i + 1)) (xs (i + 2)) hL hS) ⟨Nat.le_of_ble_eq_true rfl, Nat.le_of_ble_eq_true rfl⟩ hW ⟨0, _, _, rfl, rfl, rfl⟩ rfl hl.1 rfl (Nat.le_of_ble_eq_true rfl) dL_law_405 hcs (fun v u H locs hv hW => ?_)
  obtain ⟨F1, S1⟩ := u
  obtain ⟨hS1, hr1⟩ := hv
  have hS1 : Sys n U d F1 S1 := hS1
  have hW : zH D A s (wS h0 a0 dB dS n F1 S1 ++ wM h1 a1 dN dZ (nI n) U d ma al le) H locs := hW
  refine lv_aload_n hx hb dL_law_408 rfl (lv_at hl 1 rfl) ?_
  refine lv_aload_n hx hb dL_law_409 rfl (lv_at hl 3 rfl) ?_
  refine lv_iload_n hx hb dL_law_410 rfl (lv_at hl 0 rfl) ?_
  refine lv_iconst (v := (nI 1)) hx hb dL_law_411 (by decide) ?_
  refine lv_iadd hx hb dL_law_412 ?_
  refine z_top (show (nI i) + (nI 1) = (nI (i + 1)) from nI_add _ _) ?_
  refine z_sld hx hb hX hbl hbA hW hL9 (i + 1) rfl (by omega) dL_law_413 ?_
  refine lv_aload_n hx hb dL_law_414 rfl (lv_at hl 3 rfl) ?_
  refine lv_iload_n hx hb dL_law_415 rfl (lv_at hl 0 rfl) ?_
  refine lv_iconst (v := (nI 2)) hx hb dL_law_416 (by decide) ?_
  refine lv_iadd hx hb dL_law_417 ?_
  refine z_top (show (nI i) + (nI 2) = (nI (i + 2)) from nI_add _ _) ?_
  refine z_sld hx hb hX hbl hbA hW hL9 (i + 2) rfl (by omega) dL_law_418 ?_
  refine zcallIR (rest := [.int v]) hx hb hml hown hts hK clL_1_heirs (mM_heirs l D h1 a1 dB dS dN dZ n U d ma al le (xs (i + 1)) (xs (i + 2)) hL.1 hL.2.1) ⟨Nat.le_of_ble_eq_true rfl, Nat.le_of_ble_eq_true rfl⟩ hW ⟨1, _, _, rfl, rfl, rfl⟩ rfl hl.1 rfl (Nat.le_of_ble_eq_true rfl) dL_law_419 hcs (fun v2 u2 H locs hv2 hW => ?_)
  obtain rfl : v = v2 := det_hei hL.1 hr1 hv2
  refine lv_icmp_eq (tgt := 476) hx hb dL_law_422 (by decide) (fun _ => ?_) (fun c9 => ?_)
  · exact kk _ _ ⟨n, U, d, F1, S1, ma, al, le, hL, hS1, hW⟩
  · exact absurd rfl c9
set_option maxHeartbeats 4000000 in
theorem lc_apart (hA : LA p s m c D A b L xs dB dS dN dZ) (hi : i + 4 ≤ L) (hcs : cells + 0 ≤ room_1.cells ∧ slots + 0 ≤ room_1.slots) (hl : lv_has ls 4 [(3, .int (nI i)), (2, .ref h1), (1, .ref h0), (0, .ref b)]) (kk : ∀ (H : Heap) (locs : List Loc), LW D A s h0 h1 a0 a1 dB dS dN dZ H locs → W p l e room_1 s m #[Value.ref b] below meth c H locs cells slots Q (F0 m 476 ls [])) (hw : LW D A s h0 h1 a0 a1 dB dS dN dZ H locs) : W p l e room_1 s m #[Value.ref b] below meth c H locs cells slots Q (F0 m 427 ls []) := by
  obtain ⟨hx, hb, hml, hown, hts, hK, hX, hbl, hbA, hL9⟩ := hA
  obtain ⟨n, U, d, F, S, ma, al, le, hL, hS, hW⟩ := hw
  refine lv_aload_n hx hb dL_law_427 rfl (lv_at hl 2 rfl) ?_
  refine lv_aload_n hx hb dL_law_428 rfl (lv_at hl 3 rfl) ?_
  refine lv_iload_n hx hb dL_law_429 rfl (lv_at hl 0 rfl) ?_
  refine lv_iconst (v := (nI 1)) hx hb dL_law_430 (by decide) ?_
  refine lv_iadd hx hb dL_law_431 ?_
  refine z_top (show (nI i) + (nI 1) = (nI (i + 1)) from nI_add _ _) ?_
  refine z_sld hx hb hX hbl hbA hW hL9 (i + 1) rfl (by omega) dL_law_432 ?_
  refine zcallIL (rest := []) hx hb hml hown hts hK clL_0_apart (mX_apart l D h0 a0 dB dS dN dZ n (S 1) (S 2) (F 3) (S 4) (S 5) (S 6) (S 7) (S 8) (F 9) (F 10) (S 11) (S 12) (S 13) (S 14) (S 15) (S 16) (S 17) U d (xs (i + 1)) hL hS) ⟨Nat.le_of_ble_eq_true rfl, Nat.le_of_ble_eq_true rfl⟩ hW ⟨0, _, _, rfl, rfl, rfl⟩ rfl hl.1 rfl (Nat.le_of_ble_eq_true rfl) dL_law_433 hcs (fun v u H locs hv hW => ?_)
  obtain ⟨F1, S1⟩ := u
  obtain ⟨hS1, hr1⟩ := hv
  have hS1 : Sys n U d F1 S1 := hS1
  have hW : zH D A s (wS h0 a0 dB dS n F1 S1 ++ wM h1 a1 dN dZ (nI n) U d ma al le) H locs := hW
  refine lv_aload_n hx hb dL_law_436 rfl (lv_at hl 1 rfl) ?_
  refine lv_aload_n hx hb dL_law_437 rfl (lv_at hl 3 rfl) ?_
  refine lv_iload_n hx hb dL_law_438 rfl (lv_at hl 0 rfl) ?_
  refine lv_iconst (v := (nI 1)) hx hb dL_law_439 (by decide) ?_
  refine lv_iadd hx hb dL_law_440 ?_
  refine z_top (show (nI i) + (nI 1) = (nI (i + 1)) from nI_add _ _) ?_
  refine z_sld hx hb hX hbl hbA hW hL9 (i + 1) rfl (by omega) dL_law_441 ?_
  refine zcallIR (rest := [.int v]) hx hb hml hown hts hK clL_1_apart (mM_apart l D h1 a1 dB dS dN dZ n U d ma al le (xs (i + 1)) hL.1 hL.2.1) ⟨Nat.le_of_ble_eq_true rfl, Nat.le_of_ble_eq_true rfl⟩ hW ⟨1, _, _, rfl, rfl, rfl⟩ rfl hl.1 rfl (Nat.le_of_ble_eq_true rfl) dL_law_442 hcs (fun v2 u2 H locs hv2 hW => ?_)
  obtain rfl : v = v2 := det_apa hr1 hv2
  refine lv_icmp_eq (tgt := 476) hx hb dL_law_445 (by decide) (fun _ => ?_) (fun c9 => ?_)
  · exact kk _ _ ⟨n, U, d, F1, S1, ma, al, le, hL, hS1, hW⟩
  · exact absurd rfl c9
set_option maxHeartbeats 4000000 in
theorem lc_crowd (hA : LA p s m c D A b L xs dB dS dN dZ) (hi : i + 4 ≤ L) (hcs : cells + 0 ≤ room_1.cells ∧ slots + 0 ≤ room_1.slots) (hl : lv_has ls 4 [(3, .int (nI i)), (2, .ref h1), (1, .ref h0), (0, .ref b)]) (kk : ∀ (H : Heap) (locs : List Loc), LW D A s h0 h1 a0 a1 dB dS dN dZ H locs → W p l e room_1 s m #[Value.ref b] below meth c H locs cells slots Q (F0 m 476 ls [])) (hw : LW D A s h0 h1 a0 a1 dB dS dN dZ H locs) : W p l e room_1 s m #[Value.ref b] below meth c H locs cells slots Q (F0 m 450 ls []) := by
  obtain ⟨hx, hb, hml, hown, hts, hK, hX, hbl, hbA, hL9⟩ := hA
  obtain ⟨n, U, d, F, S, ma, al, le, hL, hS, hW⟩ := hw
  refine lv_aload_n hx hb dL_law_450 rfl (lv_at hl 2 rfl) ?_
  refine zcallIL (rest := []) hx hb hml hown hts hK clL_0_crowd (mX_crowd l D h0 a0 dB dS dN dZ n (S 1) (S 2) (F 3) (S 4) (S 5) (S 6) (S 7) (S 8) (F 9) (F 10) (S 11) (S 12) (S 13) (S 14) (S 15) (S 16) (S 17) U d  hL hS) ⟨Nat.le_of_ble_eq_true rfl, Nat.le_of_ble_eq_true rfl⟩ hW ⟨0, _, _, rfl, rfl, rfl⟩ rfl hl.1 rfl (Nat.le_of_ble_eq_true rfl) dL_law_451 hcs (fun v u H locs hv hW => ?_)
  obtain ⟨F1, S1⟩ := u
  obtain ⟨hS1, hr1⟩ := hv
  have hS1 : Sys n U d F1 S1 := hS1
  have hW : zH D A s (wS h0 a0 dB dS n F1 S1 ++ wM h1 a1 dN dZ (nI n) U d ma al le) H locs := hW
  refine lv_aload_n hx hb dL_law_454 rfl (lv_at hl 1 rfl) ?_
  refine zcallIR (rest := [.int v]) hx hb hml hown hts hK clL_1_crowd (mM_crowd l D h1 a1 dB dS dN dZ n U d ma al le  hL.1 hL.2.1) ⟨Nat.le_of_ble_eq_true rfl, Nat.le_of_ble_eq_true rfl⟩ hW ⟨1, _, _, rfl, rfl, rfl⟩ rfl hl.1 rfl (Nat.le_of_ble_eq_true rfl) dL_law_455 hcs (fun v2 u2 H locs hv2 hW => ?_)
  obtain rfl : v = v2 := hr1.trans hv2.1.symm
  refine lv_icmp_eq (tgt := 476) hx hb dL_law_458 (by decide) (fun _ => ?_) (fun c9 => ?_)
  · exact kk _ _ ⟨n, U, d, F1, S1, u2, al, le, hL, hS1, hW⟩
  · exact absurd rfl c9
set_option maxHeartbeats 4000000 in
theorem lc_colours (hA : LA p s m c D A b L xs dB dS dN dZ) (hi : i + 4 ≤ L) (hcs : cells + 0 ≤ room_1.cells ∧ slots + 0 ≤ room_1.slots) (hl : lv_has ls 4 [(3, .int (nI i)), (2, .ref h1), (1, .ref h0), (0, .ref b)]) (kk : ∀ (H : Heap) (locs : List Loc), LW D A s h0 h1 a0 a1 dB dS dN dZ H locs → W p l e room_1 s m #[Value.ref b] below meth c H locs cells slots Q (F0 m 476 ls [])) (hw : LW D A s h0 h1 a0 a1 dB dS dN dZ H locs) : W p l e room_1 s m #[Value.ref b] below meth c H locs cells slots Q (F0 m 463 ls []) := by
  obtain ⟨hx, hb, hml, hown, hts, hK, hX, hbl, hbA, hL9⟩ := hA
  obtain ⟨n, U, d, F, S, ma, al, le, hL, hS, hW⟩ := hw
  refine lv_aload_n hx hb dL_law_463 rfl (lv_at hl 2 rfl) ?_
  refine zcallIL (rest := []) hx hb hml hown hts hK clL_0_colours (mX_colours l D h0 a0 dB dS dN dZ n (S 1) (S 2) (F 3) (S 4) (S 5) (S 6) (S 7) (S 8) (F 9) (F 10) (S 11) (S 12) (S 13) (S 14) (S 15) (S 16) (S 17) U d  hL hS) ⟨Nat.le_of_ble_eq_true rfl, Nat.le_of_ble_eq_true rfl⟩ hW ⟨0, _, _, rfl, rfl, rfl⟩ rfl hl.1 rfl (Nat.le_of_ble_eq_true rfl) dL_law_464 hcs (fun v u H locs hv hW => ?_)
  obtain ⟨F1, S1⟩ := u
  obtain ⟨hS1, hr1⟩ := hv
  have hS1 : Sys n U d F1 S1 := hS1
  have hW : zH D A s (wS h0 a0 dB dS n F1 S1 ++ wM h1 a1 dN dZ (nI n) U d ma al le) H locs := hW
  refine lv_aload_n hx hb dL_law_467 rfl (lv_at hl 1 rfl) ?_
  refine zcallIR (rest := [.int v]) hx hb hml hown hts hK clL_1_colours (mM_colours l D h1 a1 dB dS dN dZ n U d ma al le  hL.1 hL.2.1) ⟨Nat.le_of_ble_eq_true rfl, Nat.le_of_ble_eq_true rfl⟩ hW ⟨1, _, _, rfl, rfl, rfl⟩ rfl hl.1 rfl (Nat.le_of_ble_eq_true rfl) dL_law_468 hcs (fun v2 u2 H locs hv2 hW => ?_)
  obtain ⟨x, hx1, hx2⟩ := hr1
  obtain rfl : v = v2 := by rw [hx1, hv2, chi_one hx2 (gF_chi U d n)]
  refine lv_icmp_eq (tgt := 476) hx hb dL_law_471 (by decide) (fun _ => ?_) (fun c9 => ?_)
  · exact kk _ _ ⟨n, U, d, F1, S1, u2.1, u2.2.1, u2.2.2, hL, hS1, hW⟩
  · exact absurd rfl c9
end LC
end
section
/-! THE CLAIM OUT OF ONE WALK OF THE LAW'S BODY. Your part is whole_start (and what it stands on); all else here is the same for every law, but numbers. -/
def R_law : String := "SendTableLaw"
def lw_P (b : Addr) (xs : List Int32) (args : Array Value) (s : State) : Prop := args = #[.ref b] ∧ s.IntsAt b xs ∧ xs.length ≤ 256 ∧ (Jvm.Cond.and given_1 narrow_1).before args s = true
def lw_Q (_ : Array Value) (s : State) (o : Outcome) (t : State) : Prop := o = .returned (some (.int 1)) ∧ Framed s o t [] 600000 7290000
def lw_Z (below : List Frame) (a : Array Value) (s : State) : State → Prop := fun t => ∃ o, t.status = .running ∧ Ended t below o ∧ lw_Q a s o t
/-- the law's own end, with 1 on the stack, nothing written that was there before, its room as the claim has it -/
theorem lw_ret {p : Program} {l : Launch} {e : Env} {s : State} {m : MethodId} {below : List Frame} {meth : Method} {c : Code} {b : Nat} (hx : p.tables.exec = Jvm.exec) (hb : c.code = code) (hr : meth.sig.returnType = ret) (hlocks : meth.locks = false) {pc : Nat} {H : Heap} {ls : Array Slot} (hdg : decode code pc = .ok (.ireturn, 1)) : W p l e room_1 s m #[Value.ref b] below meth c H [] 600000 7290000 (lw_Z below #[Value.ref b] s) (F0 m pc ls [.int 1]) := by
  intro T hT X
  obtain ⟨fs, hret, hrun, hended, hW, hframe⟩ := X.leave (v := some (.int 1)) (hlocks := hlocks) (fun h => by rw [hr] at h; cases h)
  have hmeth' : T.vm.method? m = some meth := X.method'
  refine ⟨T.setFrames fs, ?_, .returned (some (.int 1)), hrun, hended, rfl, ⟨_, rfl⟩, hW, hframe⟩
  jvm_step X.here [X.here.top, hx, hb, hdg, hmeth', hr, ret, narrow_b1]
  (try refine ⟨rfl, ?_⟩); (try refine ⟨rfl, ?_⟩)
  first | (intro acts; rw [hret _ acts rfl rfl rfl]) | rw [hret _ _ rfl rfl rfl]
  exact Steps.refl _
/-- what holds at the law's entry: the machine, the code, the tables' words (any of lw_tbl by 'hts w (by decide +kernel)'), the script of L ints xs at the cell b, what the Statement gives of the start (any of its parts by flat_of_before) -/
def lw_At (p : Program) (s : State) (m : MethodId) (meth : Method) (c : Code) (b L : Nat) (xs : Nat → Int32) : Prop :=
  p.tables.exec = Jvm.exec ∧ c.code = code ∧ meth.sig.returnType = ret ∧ c.maxLocals = 4 ∧ s.vm.findClass R_law = some m.cls ∧ (∀ w ∈ lw_tbl, w.before #[Value.ref b] s = true) ∧ va_X b L xs s s.heap ∧ b < s.heap.size ∧ meth.locks = false ∧ (Jvm.Cond.and given_1 narrow_1).before #[Value.ref b] s = true
end
section
set_option maxRecDepth 100000
theorem ls_15 (x : Int32) : ∃ k, k < 16 ∧ x &&& nI 15 = nI k := by
  have e : x = nI x.toBitVec.toNat := by
    apply Int32.toBitVec_inj.1
    show x.toBitVec = BitVec.ofNat 32 x.toBitVec.toNat
    simp
  refine ⟨x.toBitVec.toNat % 16, Nat.mod_lt _ (by omega), ?_⟩
  have h := fa_mask x.toBitVec.toNat 4
  rw [← e] at h
  exact h
theorem ls_small : ∀ L, L < 4 → ∀ i, i < 4 → nI L - nI 4 < nI i := by decide +kernel
theorem ls_le {L i : Nat} (hL : L < 1000) (hi : i ≤ L) (h : ¬ (nI L - nI 4) < nI i) : i + 4 ≤ L := by
  by_cases h4 : 4 ≤ L
  · rw [pk_sub h4] at h
    have := z_nlt (by omega) (by omega) h
    omega
  · exact absurd (ls_small L (by omega) i (by omega)) h
theorem z_inc4 (a : Nat) : nI a + Int32.ofInt 4 = nI (a + 4) := by
  rw [show Int32.ofInt 4 = nI 4 by decide]
  exact nI_add _ _
theorem zArr {args : Array Value} {s : State} {ty : FieldType} (h : (Cond.arrayClass ty).before args s = true) : ∃ cA : ClassId, ArrOfT s cA ty ∧ s.vm.findClass ("[" ++ ty.toString) = some cA := by
  obtain ⟨cA, kA, comp, h1, h2, h3⟩ := Cond.arrayClass_spec h
  exact ⟨cA, fun n z => ⟨fun k h => (by cases h), kA, h2, comp, h3⟩, h1⟩
theorem linv_0 : LInv 0 zz zz := ⟨by omega, fun k hk => absurd hk (by omega), ⟨fun _ => 0, fun c j hc => absurd hc (by omega)⟩, fun j _ => ⟨0, by omega, rfl⟩, fun j _ _ => rfl⟩
theorem sys_0 : Sys 0 zz zz (mkF (nI 0) (nI 0) (nI 0)) (mkS zz zz zz zz zz zz zz zz zz zz zz zz zz zz) := ⟨fun c hc => absurd hc (by omega), fun j _ => rfl, fun s _ => ⟨0, by omega, rfl⟩, Or.inl rfl⟩
set_option maxHeartbeats 4000000 in
theorem law_loop {p : Program} {l : Launch} {e : Env} {s : State} {m : MethodId} {below : List Frame} {meth : Method} {c : Code} {D : va_G} {b L : Nat} {xs : Nat → Int32} {dB dS dN dZ : ClassId} {h0 h1 : Nat} {a0 a1 : Nat → Nat} {cells slots : Nat} (hr : meth.sig.returnType = ret) (hlocks : meth.locks = false) (hA : LA p s m c D (fun q : Nat => s.heap.size ≤ q) b L xs dB dS dN dZ) (hc1 : cells ≤ 600000) (hc2 : slots ≤ 7290000) : ∀ (N i : Nat), L < i + N → i ≤ L → ∀ (H : Heap) (locs : List Loc) (ls : Array Slot), LW D (fun q : Nat => s.heap.size ≤ q) s h0 h1 a0 a1 dB dS dN dZ H locs → lv_has ls 4 [(3, .int (nI i)), (2, .ref h1), (1, .ref h0), (0, .ref b)] → W p l e room_1 s m #[Value.ref b] below meth c H locs cells slots (lw_Z below #[Value.ref b] s) (F0 m 18 ls []) := by
  obtain ⟨hx, hb, hml, hown, hts, hK, hX, hbl, hbA, hL9⟩ := id hA
  intro N
  induction N with
  | zero =>
    intro i hM hi
    exact absurd hM (by omega)
  | succ N ih =>
    intro i hM hi H locs ls hw hl
    obtain ⟨n, U, d, F, S, ma, al, le, hL, hS, hW⟩ := id hw
    refine lv_iload_n hx hb dL_law_18 rfl (lv_at hl 0 rfl) ?_
    refine lv_aload_n hx hb dL_law_19 rfl (lv_at hl 3 rfl) ?_
    refine z_slen hx hb hX hbl hbA hW dL_law_20 ?_
    refine lv_iconst (v := (nI 4)) hx hb dL_law_21 (by decide) ?_
    refine lv_isub hx hb dL_law_22 ?_
    refine lv_icmp_gt (tgt := 482) hx hb dL_law_23 (by decide) (fun c23 => ?_) (fun c23 => ?_)
    · refine lv_iconst (v := 1) hx hb dL_law_482 (by decide) ?_
      refine va_forget (fun q hq => hW.2.2.1.2.2 q hq) ?_
      refine W.widen (k := 600000) (n := 7290000) hc1 hc2 ?_
      exact lw_ret hx hb hr hlocks dL_law_483
    · have hi4 : i + 4 ≤ L := ls_le hL9 hi c23
      have hcs : cells + 0 ≤ room_1.cells ∧ slots + 0 ≤ room_1.slots := ⟨hc1, hc2⟩
      have kk : ∀ (H : Heap) (locs : List Loc), LW D (fun q : Nat => s.heap.size ≤ q) s h0 h1 a0 a1 dB dS dN dZ H locs → W p l e room_1 s m #[Value.ref b] below meth c H locs cells slots (lw_Z below #[Value.ref b] s) (F0 m 476 ls []) := by
        intro H locs hw
        refine lv_iinc (v := (nI (i + 4))) (lv' := [(3, .int (nI (i + 4))), (2, .ref h1), (1, .ref h0), (0, .ref b)]) hx hb dL_law_476 hl (k := 0) rfl (z_inc4 _) (by decide) rfl (fun ls hl => ?_)
        refine lv_goto (tgt := 18) hx hb dL_law_479 (by decide) ?_
        exact ih (i + 4) (by omega) hi4 H locs ls hw hl
      refine lv_aload_n hx hb dL_law_26 rfl (lv_at hl 3 rfl) ?_
      refine lv_iload_n hx hb dL_law_27 rfl (lv_at hl 0 rfl) ?_
      refine z_sld hx hb hX hbl hbA hW hL9 i rfl (by omega) dL_law_28 ?_
      refine lv_bipush (v := (nI 15)) hx hb dL_law_29 (by decide) ?_
      refine lv_iand hx hb dL_law_31 ?_
      obtain ⟨t, ht, et⟩ := ls_15 (xs i)
      refine z_top et ?_
      rcases (show t = 0 ∨ t = 1 ∨ t = 2 ∨ t = 3 ∨ t = 4 ∨ t = 5 ∨ t = 6 ∨ t = 7 ∨ t = 8 ∨ t = 9 ∨ t = 10 ∨ t = 11 ∨ t = 12 ∨ t = 13 ∨ t = 14 ∨ t = 15 by omega) with rfl | rfl | rfl | rfl | rfl | rfl | rfl | rfl | rfl | rfl | rfl | rfl | rfl | rfl | rfl | rfl
      · exact lv_tableIn (off := 72) (tgt := 104) hx hb dL_law_32 (by decide) (by decide) rfl (by decide) (lc_addClass hA hi4 hcs hl kk hw)
      · exact lv_tableIn (off := 95) (tgt := 127) hx hb dL_law_32 (by decide) (by decide) rfl (by decide) (lc_define hA hi4 hcs hl kk hw)
      · exact lv_tableIn (off := 138) (tgt := 170) hx hb dL_law_32 (by decide) (by decide) rfl (by decide) (lc_drop hA hi4 hcs hl kk hw)
      · exact lv_tableIn (off := 171) (tgt := 203) hx hb dL_law_32 (by decide) (by decide) rfl (by decide) (lc_move hA hi4 hcs hl kk hw)
      · exact lv_tableIn (off := 204) (tgt := 236) hx hb dL_law_32 (by decide) (by decide) rfl (by decide) (lc_classes hA hi4 hcs hl kk hw)
      · exact lv_tableIn (off := 217) (tgt := 249) hx hb dL_law_32 (by decide) (by decide) rfl (by decide) (lc_parent hA hi4 hcs hl kk hw)
      · exact lv_tableIn (off := 240) (tgt := 272) hx hb dL_law_32 (by decide) (by decide) rfl (by decide) (lc_send hA hi4 hcs hl kk hw)
      · exact lv_tableIn (off := 273) (tgt := 305) hx hb dL_law_32 (by decide) (by decide) rfl (by decide) (lc_sendSuper hA hi4 hcs hl kk hw)
      · exact lv_tableIn (off := 306) (tgt := 338) hx hb dL_law_32 (by decide) (by decide) rfl (by decide) (lc_owner hA hi4 hcs hl kk hw)
      · exact lv_tableIn (off := 339) (tgt := 371) hx hb dL_law_32 (by decide) (by decide) rfl (by decide) (lc_understands hA hi4 hcs hl kk hw)
      · exact lv_tableIn (off := 362) (tgt := 394) hx hb dL_law_32 (by decide) (by decide) rfl (by decide) (lc_heirs hA hi4 hcs hl kk hw)
      · exact lv_tableIn (off := 395) (tgt := 427) hx hb dL_law_32 (by decide) (by decide) rfl (by decide) (lc_apart hA hi4 hcs hl kk hw)
      · exact lv_tableIn (off := 418) (tgt := 450) hx hb dL_law_32 (by decide) (by decide) rfl (by decide) (lc_crowd hA hi4 hcs hl kk hw)
      · exact lv_tableIn (off := 431) (tgt := 463) hx hb dL_law_32 (by decide) (by decide) rfl (by decide) (lc_colours hA hi4 hcs hl kk hw)
      · exact lv_tableOut (tgt := 476) hx hb dL_law_32 (Or.inr (by decide)) (by decide) (kk _ _ hw)
      · exact lv_tableOut (tgt := 476) hx hb dL_law_32 (Or.inr (by decide)) (by decide) (kk _ _ hw)
set_option maxHeartbeats 4000000 in
/-- the law from its entry -/
theorem whole_start {p : Program} {e : Env} {s : State} {m : MethodId} {below : List Frame} {meth : Method} {c : Code} (l : Launch) {b L : Nat} {xs : Nat → Int32} (hL : L ≤ 256) (C0 : lw_At p s m meth c b L xs) : W p l e room_1 s m #[Value.ref b] below meth c s.heap [] 0 0 (lw_Z below #[Value.ref b] s) (entryFrame m ([Value.ref b] : List Value).toArray 4) := by
  obtain ⟨hx, hb, hr, hml, hown, hts0, hX, hbl, hlocks, hgv⟩ := C0
  have hts : ∀ w ∈ lw_all, w.before #[Value.ref b] s = true := fun w h => hts0 w (lw_all_tbl h)
  have hown : s.vm.findClass "SendTableLaw" = some m.cls := hown
  have hA : ∀ q : Nat, s.heap.size ≤ q → (fun q : Nat => s.heap.size ≤ q) q := fun _ h => h
  have hbA : ¬ (fun q : Nat => s.heap.size ≤ q) b := Nat.not_le.mpr hbl
  obtain ⟨c0_, iS0, hKn0⟩ := u_known (C := RX0) (T := TX0) (N := 18) (n := 18) hts in_X0 (hts _ q27)
  obtain ⟨c1_, iS1, hKn1⟩ := u_known (C := RX1) (T := TX1) (N := 6) (n := 6) hts in_X1 (hts _ q224)
  obtain ⟨dC, dI, hKc⟩ : ∃ (dC : Nat → ClassId) (dI : Nat → Nat → Nat), ∀ (k : Nat) (q : vw_C), vwCl[k]? = some q → u_Kn s q.1 q.2.1 q.2.2 (dC k) (dI k) := by
    refine ⟨fun k => if k = 0 then c0_ else c1_, fun k => if k = 0 then iS0 else iS1, ?_⟩
    intro k q hq
    match k, hq with
    | 0, hq => cases hq; exact hKn0
    | 1, hq => cases hq; exact hKn1
    | k + 2, hq => simp [vwCl] at hq
  obtain ⟨dB, hB1, hB2⟩ := zArr (hts _ q89)
  obtain ⟨dS, hS1, hS2⟩ := zArr (hts _ q90)
  obtain ⟨dN, hN1, hN2⟩ := zArr (hts _ q248)
  obtain ⟨dZ, hZ1, hZ2⟩ := zArr (hts _ q249)
  have hK : va_K (dC, dI) vwCl (zT dB dS dN dZ) s := by
    refine ⟨hKc, fun k q h => ?_⟩
    match k, h with
    | 0, h => cases h; exact ⟨hB1, hB2⟩
    | 1, h => cases h; exact ⟨hS1, hS2⟩
    | 2, h => cases h; exact ⟨hN1, hN2⟩
    | 3, h => cases h; exact ⟨hZ1, hZ2⟩
    | k + 4, h => simp [zT] at h
  have hS : va_S (fun q : Nat => s.heap.size ≤ q) s.heap s.heap [] := va_S.rf
  have hP : va_P (dC, dI) vwCl [] s.heap := fun k q h => by simp at h
  have hD : va_D (fun q : Nat => s.heap.size ≤ q) [] := ⟨fun i j p q h => by simp at h, fun k q h => by simp at h⟩
  have hl := lv_entry ([.ref b]) (n := 4) (Nat.le_of_ble_eq_true rfl)
  rw [lg_entry_eq]
  generalize (lg_sl ([.ref b]) ++ List.replicate (4 - (lg_sl ([.ref b])).length) Slot.unset).toArray = ls at hl ⊢
  have hl : lv_has ls 4 [(0, .ref b)] := hl
  refine va_new (ci := 0) (fs := fsX0) (C := RX0) (T := TX0) (N := 18) hx hb hts in_X0 tyX0 tyX0_ok hown (hts _ q26) (hts _ q27) (hts _ q24) hK hP hD hS hA rfl fsX0_ok (Nat.le_of_ble_eq_true rfl) (Nat.le_of_ble_eq_true rfl) dL_law_0 (fun h0 H hP hD hS => ?_)
  have hW : zH (dC, dI) (fun q : Nat => s.heap.size ≤ q) s ([] ++ [(h0, .inr (0, fsX0))]) H [] := ⟨hP, hD, hS, hA⟩
  refine W.widen (k := 1) (n := 18) (Nat.le_of_ble_eq_true rfl) (Nat.le_of_ble_eq_true rfl) ?_
  refine lv_dup hx hb dL_law_3 rfl ?_
  refine zcallC (own := "SendTableLaw") (rest := [.ref h0]) hx hb hml hown hts hK (mX_init l (dC, dI) h0 dB dS dN dZ) (cwI 0 hts (lw_meth q30) rfl rfl rfl (hts _ q24) (hts _ q28) (hts _ q29) rfl (by decide +kernel) ⟨Nat.le_of_ble_eq_true rfl, Nat.le_of_ble_eq_true rfl⟩) hW rfl hl.1 rfl (Nat.le_of_ble_eq_true rfl) dL_law_4 ⟨Nat.le_of_ble_eq_true rfl, Nat.le_of_ble_eq_true rfl⟩ (fun a0 H locs _ hW => ?_)
  have hW : zH (dC, dI) (fun q : Nat => s.heap.size ≤ q) s (wS h0 a0 dB dS 0 (mkF (nI 0) (nI 0) (nI 0)) (mkS zz zz zz zz zz zz zz zz zz zz zz zz zz zz)) H locs := hW
  refine W.widen (k := 15) (n := 562) (Nat.le_of_ble_eq_true rfl) (Nat.le_of_ble_eq_true rfl) ?_
  refine lv_astore_n (lv' := [(1, .ref h0), (0, .ref b)]) hx hb dL_law_7 rfl hl (by decide) rfl (fun ls hl => ?_)
  refine va_new (ci := 1) (fs := fsX1) (C := RX1) (T := TX1) (N := 6) hx hb hts in_X1 tyX1 tyX1_ok hown (hts _ q223) (hts _ q224) (hts _ q25) hK hW.1 hW.2.1 hW.2.2.1 hA rfl fsX1_ok (Nat.le_of_ble_eq_true rfl) (Nat.le_of_ble_eq_true rfl) dL_law_8 (fun h1 H hP hD hS => ?_)
  have hW : zH (dC, dI) (fun q : Nat => s.heap.size ≤ q) s (wS h0 a0 dB dS 0 (mkF (nI 0) (nI 0) (nI 0)) (mkS zz zz zz zz zz zz zz zz zz zz zz zz zz zz) ++ [(h1, .inr (1, fsX1))]) H locs := ⟨hP, hD, hS, hA⟩
  refine W.widen (k := 16) (n := 568) (Nat.le_of_ble_eq_true rfl) (Nat.le_of_ble_eq_true rfl) ?_
  refine lv_dup hx hb dL_law_11 rfl ?_
  refine zcallC (own := "SendTableLaw") (rest := [.ref h1]) hx hb hml hown hts hK (mM_init l (dC, dI) h1 dB dS dN dZ) (cwI 0 hts (lw_meth q227) rfl rfl rfl (hts _ q25) (hts _ q225) (hts _ q226) rfl (by decide +kernel) ⟨Nat.le_of_ble_eq_true rfl, Nat.le_of_ble_eq_true rfl⟩) hW rfl hl.1 rfl (Nat.le_of_ble_eq_true rfl) dL_law_12 ⟨Nat.le_of_ble_eq_true rfl, Nat.le_of_ble_eq_true rfl⟩ (fun a1 H locs _ hW => ?_)
  have hW : zH (dC, dI) (fun q : Nat => s.heap.size ≤ q) s (wS h0 a0 dB dS 0 (mkF (nI 0) (nI 0) (nI 0)) (mkS zz zz zz zz zz zz zz zz zz zz zz zz zz zz) ++ wM h1 a1 dN dZ (nI 0) zz zz zz zz zz) H locs := hW
  refine W.widen (k := 21) (n := 1178) (Nat.le_of_ble_eq_true rfl) (Nat.le_of_ble_eq_true rfl) ?_
  refine lv_astore_n (lv' := [(2, .ref h1), (1, .ref h0), (0, .ref b)]) hx hb dL_law_15 rfl hl (by decide) rfl (fun ls hl => ?_)
  refine lv_iconst (v := (nI 0)) hx hb dL_law_16 (by decide) ?_
  refine lv_istore_n (lv' := [(3, .int (nI 0)), (2, .ref h1), (1, .ref h0), (0, .ref b)]) hx hb dL_law_17 rfl hl (by decide) rfl (fun ls hl => ?_)
  exact law_loop hr hlocks ⟨hx, hb, hml, hown, hts, hK, hX, hbl, hbA, by omega⟩ (Nat.le_of_ble_eq_true rfl) (Nat.le_of_ble_eq_true rfl) (L + 1) 0 (by omega) (by omega) H locs ls ⟨0, zz, zz, _, _, zz, zz, zz, linv_0, sys_0, hW⟩ hl
end
section
-- ===== YOUR PART ENDS =====
set_option maxHeartbeats 4000000 in
theorem lw_walk (l : Launch) (b : Addr) (xs : List Int32) : MetFree l x (headSpec (Jvm.Cond.code x code maxLocals ret :: tables_1) room_1) (lw_P b xs) (fun _ _ _ _ _ => True) lw_Q := by
  refine MetFree.of_bodyS (code := code) (maxLocals := maxLocals) (ret := ret) (by decide) ?_ ?_
  · intro args s m h hn
    obtain ⟨meth, c, h1, h2, h3, h4, h5, h6, -, -⟩ := Cond.code_spec hn (atoms_spec (ws := Jvm.Cond.code x code maxLocals ret :: tables_1) h _ List.mem_cons_self)
    exact ⟨meth, c, h1, h2, h3, h4, h5, h6⟩
  · intro p e s m args below meth c s₁ B hml0 hP _
    obtain ⟨rfl, hx, hbd, hgv⟩ := hP
    obtain ⟨scr, harrAt, hlist, hof, hsmall⟩ := hx
    obtain ⟨hcb, hkn, -, -⟩ := State.arrayAt?_spec harrAt
    have hown : s.vm.findClass R_law = some m.cls := findClass_of_methodNamed B.named
    have hts0 : ∀ c ∈ (Jvm.Cond.code x code maxLocals ret :: tables_1), c.before #[Value.ref b] s = true := atoms_spec (ws := Jvm.Cond.code x code maxLocals ret :: tables_1) B.pre
    have hts : ∀ w ∈ lw_tbl, w.before #[Value.ref b] s = true := k2_hts_sels lw_privs (fun w hw => hts0 w (List.mem_cons_of_mem _ hw)) lw_privs_ok
    have hml : c.maxLocals = 4 := B.maxLocals_eq (hts0 _ List.mem_cons_self)
    have X₀ : Stand p l e room_1 s m #[Value.ref b] below meth c s₁ [] 0 0 := Stand.of_body B
    have hh0 : s₁.heap = s.heap := by rw [B.state]; rfl
    have hsz : scr.slots.size = xs.length := by rw [← Array.length_toList, hlist, List.length_map]
    have hval : ∀ j : Nat, j < xs.length → scr.slots[j]? = some (.int (xs.getD j 0)) := fun j hj => by
      rw [← Array.getElem?_toList, hlist]
      simp [hj]
    have hbl : b < s.heap.size := (Array.getElem?_eq_some_iff.mp hcb).1
    have hX : va_X b xs.length (fun j => xs.getD j 0) s s.heap := ⟨scr, hcb, hof, hkn, hsz, hval⟩
    have K : W p l e room_1 s m #[Value.ref b] below meth c s₁.heap [] 0 0 (lw_Z below #[Value.ref b] s) (entryFrame m ([Value.ref b] : List Value).toArray 4) := by
      rw [hh0]
      exact whole_start l hbd ⟨B.exec, B.bytes, B.returns, hml, hown, hts, hX, hbl, B.notSynchronized, hgv⟩
    obtain ⟨t, a1, o, b1, b2, b3⟩ := K s₁ rfl X₀
    exact ⟨t, o, a1, b1, b2, b3⟩
theorem lw_pre_spec {args : Array Value} {s : State} (h : (Jvm.Cond.and given_1 narrow_1).before args s = true) (hr : rest_1_c.before args s = true) : ∃ (b : Addr) (xs : List Int32), lw_P b xs args s := by
  have hs := flat_of_before _ h
  have hq := flat_of_before _ hr
  have hc : (Cond.count 1).before args s = true := hs _ (by decide +kernel)
  have harr : (Cond.arrayOf (.arg 0) .int).before args s = true := hs _ (by decide +kernel)
  have hle : (Cond.le (.length (.arg 0)) (.int 256)).before args s = true := hs _ (by decide +kernel)
  have hlen : (Cond.isInt (.length (.arg 0))).before args s = true := hq _ (by decide +kernel)
  have hall : (Cond.all (.arg 0) (.isInt (.elem (.arg 0) (.index 0)))).before args s = true := hq _ (by decide +kernel)
  obtain ⟨b, xs, hb, hx⟩ := State.ints_of_pre rfl harr hlen hall
  have hsm : xs.length < 2 ^ 31 := hx.choose_spec.2.2.2
  have hev : (Term.length (.arg 0)).eval args s none [] s = some (.int xs.length.toInt32) := hx.length_eval hb
  have hv := Cond.le_ints hev (show (Term.int 256).eval args s none [] s = some (.int 256) from rfl)
  have hd : xs.length.toInt32 ≤ 256 := by
    simpa [Cond.before, Cond.holds, hv] using hle
  have hN : xs.length ≤ 256 := (Int32.ofNat_le_ofNat hsm (by decide)).mp (show Int32.ofNat xs.length ≤ Int32.ofNat 256 from hd)
  exact ⟨b, xs, Cond.one_arg hc (show args[0]? = some (.ref b) from hb), hx, hN, h⟩
theorem lw_comes (l : Launch) : Comes l x (Jvm.Cond.code x code maxLocals ret :: tables_1) room_1 (fun tb e args s => Calls_1 tb e args s ∧ rest_1 tb e args s ∧ Pre_1 tb e args s)
    (fun _ _ args s o t => lw_Q args s o t) := by
  intro p e ha hc hk s m args below hf hfit hheap happ hpre
  obtain ⟨b, xs, hP⟩ := lw_pre_spec hpre.2.2 hpre.2.1
  obtain ⟨k, o, h1, h2, h3, hQ⟩ := lw_walk l b xs p e ha hc hk s m args below hf ((Spec.applies_iff_loose hf).mp happ).1 hP trivial
  exact ⟨k, o, h1, h2, h3, hQ⟩
theorem lw_frame {s t : State} {o : Outcome} {args : Array Value} (h : Framed s o t [] 600000 7290000) :
    Framed s o t (fieldLocs frame_1_writes args s ++ arrayLocs frame_1_arrays args s ++ staticLocs frame_1_statics s) 600000 7290000 := h
theorem lw_limb (L : Cond) (hL : ∀ (args : Array Value) (s t : State), L.after args s (.returned (some (.int 1))) t = true) :
    ArmFor flags0 classFile x code maxLocals ret World_1 tables_1 room_1 Calls_1 rest_1 Pre_1
      (fun tb e a s o t => postC L tb e a s o t ∧ Framed s o t (fieldLocs frame_1_writes a s ++ arrayLocs frame_1_arrays a s ++ staticLocs frame_1_statics s) 600000 7290000) := by
  intro l _ _ _ p e ha hc hk s m args below hf hfit hheap happ hpre
  obtain ⟨k, o, h1, h2, h3, rfl, hF⟩ := lw_comes l p e ha hc hk s m args below hf hfit hheap happ hpre
  exact ⟨k, _, h1, h2, h3, hL args s _, lw_frame hF⟩
theorem i_vc : Claimed_1_1 ∧ Claimed_1_2 := ⟨lw_limb limb_1_1 (fun args s t => by simp [limb_1_1, Cond.after, Cond.holds, Cond.value]), lw_limb limb_1_2 (fun args s t => Cond.after_iff.mpr (by
  first | (rw [show limb_1_2 = Cond.eq .result (.int 1) from rfl, Cond.eq_ints (x := 1) (y := 1) rfl rfl]; simp; done) | (simp [limb_1_2, Cond.value, Term.eval]; done)))⟩
end
