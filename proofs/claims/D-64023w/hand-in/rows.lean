section
-- ===== PART A: goes FIRST, ahead of the names: the tables' words, and 'selects' of the private methods out of them =====
/-- a private method of a class that the tables say can be made, by its rows of tables_1 -/
def lw_okq (q : MethodName × Nat) : Prop := (q.1.cls ≠ "java/lang/invoke/MethodHandle" ∧ q.1.cls ≠ "java/lang/invoke/VarHandle") ∧ Cond.instantiable q.1.cls q.2 ∈ tables_1 ∧ Cond.privateMethod q.1 ∈ tables_1 ∧ Cond.instanceMethod q.1 ∈ tables_1
set_option maxRecDepth 100000
theorem lw_t1 {w : Cond} (h : w ∈ tables_1_1) : w ∈ tables_1 := List.mem_append_left _ h
theorem lw_t2 {w : Cond} (h : w ∈ tables_1_2) : w ∈ tables_1 := List.mem_append_right _ h
theorem lw_p0 : lw_okq (⟨"CellIndex", "insert", "(I)V"⟩, 14) := ⟨⟨by decide +kernel, by decide +kernel⟩, lw_t1 (List.mem_of_getElem? (i := 4) rfl), lw_t1 (List.mem_of_getElem? (i := 64) rfl), lw_t1 (List.mem_of_getElem? (i := 65) rfl)⟩
theorem lw_p1 : lw_okq (⟨"CellIndex", "keyOf", "(I)I"⟩, 14) := ⟨⟨by decide +kernel, by decide +kernel⟩, lw_t1 (List.mem_of_getElem? (i := 4) rfl), lw_t1 (List.mem_of_getElem? (i := 68) rfl), lw_t1 (List.mem_of_getElem? (i := 69) rfl)⟩
theorem lw_p2 : lw_okq (⟨"CellIndex", "seek", "(I)I"⟩, 14) := ⟨⟨by decide +kernel, by decide +kernel⟩, lw_t1 (List.mem_of_getElem? (i := 4) rfl), lw_t1 (List.mem_of_getElem? (i := 75) rfl), lw_t1 (List.mem_of_getElem? (i := 76) rfl)⟩
theorem lw_p3 : lw_okq (⟨"CellIndex", "noPoint", "(I)Z"⟩, 14) := ⟨⟨by decide +kernel, by decide +kernel⟩, lw_t1 (List.mem_of_getElem? (i := 4) rfl), lw_t1 (List.mem_of_getElem? (i := 83) rfl), lw_t1 (List.mem_of_getElem? (i := 84) rfl)⟩
theorem lw_p4 : lw_okq (⟨"CellIndex", "dropPoint", "(I)V"⟩, 14) := ⟨⟨by decide +kernel, by decide +kernel⟩, lw_t1 (List.mem_of_getElem? (i := 4) rfl), lw_t1 (List.mem_of_getElem? (i := 87) rfl), lw_t1 (List.mem_of_getElem? (i := 88) rfl)⟩
theorem lw_p5 : lw_okq (⟨"CellIndex", "take", "(I)V"⟩, 14) := ⟨⟨by decide +kernel, by decide +kernel⟩, lw_t1 (List.mem_of_getElem? (i := 4) rfl), lw_t1 (List.mem_of_getElem? (i := 91) rfl), lw_t1 (List.mem_of_getElem? (i := 92) rfl)⟩
theorem lw_p6 : lw_okq (⟨"CellIndex", "setBoxOf", "(II)V"⟩, 14) := ⟨⟨by decide +kernel, by decide +kernel⟩, lw_t1 (List.mem_of_getElem? (i := 4) rfl), lw_t1 (List.mem_of_getElem? (i := 103) rfl), lw_t1 (List.mem_of_getElem? (i := 104) rfl)⟩
theorem lw_p7 : lw_okq (⟨"CellIndex", "setBox", "(IIII)V"⟩, 14) := ⟨⟨by decide +kernel, by decide +kernel⟩, lw_t1 (List.mem_of_getElem? (i := 4) rfl), lw_t1 (List.mem_of_getElem? (i := 107) rfl), lw_t1 (List.mem_of_getElem? (i := 108) rfl)⟩
theorem lw_p8 : lw_okq (⟨"CellIndex", "walk", "()V"⟩, 14) := ⟨⟨by decide +kernel, by decide +kernel⟩, lw_t1 (List.mem_of_getElem? (i := 4) rfl), lw_t1 (List.mem_of_getElem? (i := 111) rfl), lw_t1 (List.mem_of_getElem? (i := 112) rfl)⟩
theorem lw_p9 : lw_okq (⟨"CellIndex", "inBox", "(I)Z"⟩, 14) := ⟨⟨by decide +kernel, by decide +kernel⟩, lw_t1 (List.mem_of_getElem? (i := 4) rfl), lw_t1 (List.mem_of_getElem? (i := 115) rfl), lw_t1 (List.mem_of_getElem? (i := 116) rfl)⟩
theorem lw_p10 : lw_okq (⟨"CellIndex", "nextInside", "(I)I"⟩, 14) := ⟨⟨by decide +kernel, by decide +kernel⟩, lw_t1 (List.mem_of_getElem? (i := 4) rfl), lw_t1 (List.mem_of_getElem? (i := 119) rfl), lw_t1 (List.mem_of_getElem? (i := 120) rfl)⟩
theorem lw_p11 : lw_okq (⟨"CellIndex", "walkNear", "(III)V"⟩, 14) := ⟨⟨by decide +kernel, by decide +kernel⟩, lw_t1 (List.mem_of_getElem? (i := 4) rfl), lw_t1 (List.mem_of_getElem? (i := 138) rfl), lw_t1 (List.mem_of_getElem? (i := 139) rfl)⟩
theorem lw_p12 : lw_okq (⟨"CellIndex", "distanceTo", "(III)I"⟩, 14) := ⟨⟨by decide +kernel, by decide +kernel⟩, lw_t1 (List.mem_of_getElem? (i := 4) rfl), lw_t1 (List.mem_of_getElem? (i := 148) rfl), lw_t1 (List.mem_of_getElem? (i := 149) rfl)⟩
theorem lw_p13 : lw_okq (⟨"CellIndex", "sortFound", "(II)V"⟩, 14) := ⟨⟨by decide +kernel, by decide +kernel⟩, lw_t1 (List.mem_of_getElem? (i := 4) rfl), lw_t1 (List.mem_of_getElem? (i := 156) rfl), lw_t1 (List.mem_of_getElem? (i := 157) rfl)⟩
theorem lw_p14 : lw_okq (⟨"CellIndex", "nearer", "(IIII)Z"⟩, 14) := ⟨⟨by decide +kernel, by decide +kernel⟩, lw_t1 (List.mem_of_getElem? (i := 4) rfl), lw_t1 (List.mem_of_getElem? (i := 160) rfl), lw_t1 (List.mem_of_getElem? (i := 161) rfl)⟩
theorem lw_p15 : lw_okq (⟨"CellIndex", "closestTo", "(II)I"⟩, 14) := ⟨⟨by decide +kernel, by decide +kernel⟩, lw_t1 (List.mem_of_getElem? (i := 4) rfl), lw_t1 (List.mem_of_getElem? (i := 180) rfl), lw_t1 (List.mem_of_getElem? (i := 181) rfl)⟩
def lw_privs_1 : List (MethodName × Nat) := [(⟨"CellIndex", "insert", "(I)V"⟩, 14), (⟨"CellIndex", "keyOf", "(I)I"⟩, 14), (⟨"CellIndex", "seek", "(I)I"⟩, 14), (⟨"CellIndex", "noPoint", "(I)Z"⟩, 14), (⟨"CellIndex", "dropPoint", "(I)V"⟩, 14), (⟨"CellIndex", "take", "(I)V"⟩, 14), (⟨"CellIndex", "setBoxOf", "(II)V"⟩, 14), (⟨"CellIndex", "setBox", "(IIII)V"⟩, 14), (⟨"CellIndex", "walk", "()V"⟩, 14), (⟨"CellIndex", "inBox", "(I)Z"⟩, 14), (⟨"CellIndex", "nextInside", "(I)I"⟩, 14), (⟨"CellIndex", "walkNear", "(III)V"⟩, 14), (⟨"CellIndex", "distanceTo", "(III)I"⟩, 14), (⟨"CellIndex", "sortFound", "(II)V"⟩, 14), (⟨"CellIndex", "nearer", "(IIII)Z"⟩, 14), (⟨"CellIndex", "closestTo", "(II)I"⟩, 14)]
theorem lw_r1 : ∀ q ∈ lw_privs_1, lw_okq q := List.forall_mem_cons.mpr ⟨lw_p0, List.forall_mem_cons.mpr ⟨lw_p1, List.forall_mem_cons.mpr ⟨lw_p2, List.forall_mem_cons.mpr ⟨lw_p3, List.forall_mem_cons.mpr ⟨lw_p4, List.forall_mem_cons.mpr ⟨lw_p5, List.forall_mem_cons.mpr ⟨lw_p6, List.forall_mem_cons.mpr ⟨lw_p7, List.forall_mem_cons.mpr ⟨lw_p8, List.forall_mem_cons.mpr ⟨lw_p9, List.forall_mem_cons.mpr ⟨lw_p10, List.forall_mem_cons.mpr ⟨lw_p11, List.forall_mem_cons.mpr ⟨lw_p12, List.forall_mem_cons.mpr ⟨lw_p13, List.forall_mem_cons.mpr ⟨lw_p14, List.forall_mem_cons.mpr ⟨lw_p15, fun _ h => absurd h List.not_mem_nil⟩⟩⟩⟩⟩⟩⟩⟩⟩⟩⟩⟩⟩⟩⟩⟩
theorem lw_p16 : lw_okq (⟨"CellIndexModel", "isPlace", "(I)Z"⟩, 3) := ⟨⟨by decide +kernel, by decide +kernel⟩, lw_t1 (List.mem_of_getElem? (i := 188) rfl), lw_t1 (List.mem_of_getElem? (i := 208) rfl), lw_t1 (List.mem_of_getElem? (i := 209) rfl)⟩
theorem lw_p17 : lw_okq (⟨"CellIndexModel", "isPoint", "(I)Z"⟩, 3) := ⟨⟨by decide +kernel, by decide +kernel⟩, lw_t1 (List.mem_of_getElem? (i := 188) rfl), lw_t1 (List.mem_of_getElem? (i := 216) rfl), lw_t1 (List.mem_of_getElem? (i := 217) rfl)⟩
theorem lw_p18 : lw_okq (⟨"CellIndexModel", "inBox", "(III)Z"⟩, 3) := ⟨⟨by decide +kernel, by decide +kernel⟩, lw_t1 (List.mem_of_getElem? (i := 188) rfl), lw_t1 (List.mem_of_getElem? (i := 236) rfl), lw_t1 (List.mem_of_getElem? (i := 237) rfl)⟩
theorem lw_p19 : lw_okq (⟨"CellIndexModel", "between", "(III)Z"⟩, 3) := ⟨⟨by decide +kernel, by decide +kernel⟩, lw_t1 (List.mem_of_getElem? (i := 188) rfl), lw_t2 (List.mem_of_getElem? (i := 0) rfl), lw_t2 (List.mem_of_getElem? (i := 1) rfl)⟩
theorem lw_p20 : lw_okq (⟨"CellIndexModel", "distance", "(II)I"⟩, 3) := ⟨⟨by decide +kernel, by decide +kernel⟩, lw_t1 (List.mem_of_getElem? (i := 188) rfl), lw_t2 (List.mem_of_getElem? (i := 13) rfl), lw_t2 (List.mem_of_getElem? (i := 14) rfl)⟩
theorem lw_p21 : lw_okq (⟨"CellIndexModel", "before", "(II)I"⟩, 3) := ⟨⟨by decide +kernel, by decide +kernel⟩, lw_t1 (List.mem_of_getElem? (i := 188) rfl), lw_t2 (List.mem_of_getElem? (i := 21) rfl), lw_t2 (List.mem_of_getElem? (i := 22) rfl)⟩
def lw_privs_2 : List (MethodName × Nat) := [(⟨"CellIndexModel", "isPlace", "(I)Z"⟩, 3), (⟨"CellIndexModel", "isPoint", "(I)Z"⟩, 3), (⟨"CellIndexModel", "inBox", "(III)Z"⟩, 3), (⟨"CellIndexModel", "between", "(III)Z"⟩, 3), (⟨"CellIndexModel", "distance", "(II)I"⟩, 3), (⟨"CellIndexModel", "before", "(II)I"⟩, 3)]
theorem lw_r2 : ∀ q ∈ lw_privs_2, lw_okq q := List.forall_mem_cons.mpr ⟨lw_p16, List.forall_mem_cons.mpr ⟨lw_p17, List.forall_mem_cons.mpr ⟨lw_p18, List.forall_mem_cons.mpr ⟨lw_p19, List.forall_mem_cons.mpr ⟨lw_p20, List.forall_mem_cons.mpr ⟨lw_p21, fun _ h => absurd h List.not_mem_nil⟩⟩⟩⟩⟩⟩
def lw_privs : List (MethodName × Nat) := lw_privs_1 ++ (lw_privs_2)
def lw_tbl : List Cond := k2_sels lw_privs ++ tables_1
theorem lw_privs_ok : ∀ q ∈ lw_privs, lw_okq q := by
  show ∀ q ∈ lw_privs_1 ++ (lw_privs_2), lw_okq q
  exact List.forall_mem_append.mpr ⟨lw_r1, lw_r2⟩
-- ===== ONE list of words for every method: the tables' words that hold all through a run =====
def lw_all : List Cond := lw_tbl.filter goodWord
/-- a word of the tables by its place: claim/WORDS.tsv -/
theorem lw_w {w : Cond} (i : Nat) (h : lw_tbl[i]? = some w) (g : goodWord w = true) : w ∈ lw_all := List.mem_filter.mpr ⟨List.mem_of_getElem? h, g⟩
theorem lw_all_tbl {w : Cond} (h : w ∈ lw_all) : w ∈ lw_tbl := (List.mem_filter.mp h).1
theorem lw_self : GoodIn lw_all lw_all := fun w h => ⟨h, good_of_word (List.mem_filter.mp h).2⟩
/-- a class's field words, by their places -/
theorem lw_in (ws : List Cond) (ps : List Nat) (hp : ws = ps.filterMap (fun i => lw_tbl[i]?)) (hg : ws.all goodWord = true) : ∀ w ∈ ws, w ∈ lw_all := by
  intro w h
  have h1 := List.all_eq_true.mp hg w h
  rw [hp] at h
  obtain ⟨i, -, hi⟩ := List.mem_filterMap.mp h
  exact lw_w i hi h1
/-- the words of a contract for the method y with code b, L locals, answer r -/
abbrev ws_ (y : MethodName) (b : ByteArray) (L : Nat) (r : Option FieldType) : List Cond := Cond.code y b L r :: lw_all
theorem lw_meth {y : MethodName} {b : ByteArray} {L : Nat} {r : Option FieldType} (h : Cond.code y b L r ∈ lw_all) : GoodIn lw_all (ws_ y b L r) := by
  intro w hw
  rcases List.mem_cons.mp hw with e | e
  · rw [e]
    exact lw_self _ h
  · exact lw_self _ e
theorem lw_app {a c : List Cond} (ha : ∀ w ∈ a, w ∈ lw_all) (hc : GoodIn lw_all c) : GoodIn lw_all (a ++ c) := by
  intro w hw
  rcases List.mem_append.mp hw with e | e
  · exact lw_self w (ha w e)
  · exact hc w e
/-- what a call through an object asks: cwV n hts (lw_V ..) -/
theorem lw_V {own : String} {idx : Nat} {C : String} {y : MethodName} {b : ByteArray} {L : Nat} {r : Option FieldType} (h1 : Cond.methodLink own idx y ∈ lw_all) (h2 : Cond.instanceMethod y ∈ lw_all) (h3 : Cond.selects C y y ∈ lw_all) (h4 : Cond.initialized C ∈ lw_all) (h5 : Cond.code y b L r ∈ lw_all) : GoodIn lw_all (wsV own idx C y (ws_ y b L r)) := by
  refine lw_app ?_ (lw_meth h5)
  intro w hw
  simp only [List.mem_cons, List.not_mem_nil, or_false] at hw
  rcases hw with e | e | e | e
  · rw [e]; exact h1
  · rw [e]; exact h2
  · rw [e]; exact h3
  · rw [e]; exact h4
/-- what a static call asks: va_cwS n hts (lw_S ..) -/
theorem lw_S {own : String} {idx : Nat} {y : MethodName} {b : ByteArray} {L : Nat} {r : Option FieldType} (h1 : Cond.methodLink own idx y ∈ lw_all) (h2 : Cond.static y ∈ lw_all) (h3 : Cond.initialized y.cls ∈ lw_all) (h4 : Cond.code y b L r ∈ lw_all) : GoodIn lw_all (va_wsS own idx y (ws_ y b L r)) := by
  refine lw_app ?_ (lw_meth h4)
  intro w hw
  simp only [List.mem_cons, List.not_mem_nil, or_false] at hw
  rcases hw with e | e | e
  · rw [e]; exact h1
  · rw [e]; exact h2
  · rw [e]; exact h3
/-- the words of a contract for a method WITH HANDLERS (hh: its table) -/
abbrev wsW_ (y : MethodName) (b : ByteArray) (L : Nat) (r : Option FieldType) (hh : List (Nat × Nat × Nat × Nat)) : List Cond := Cond.codeWith y b L r hh :: lw_all
theorem lw_methW {y : MethodName} {b : ByteArray} {L : Nat} {r : Option FieldType} {hh : List (Nat × Nat × Nat × Nat)} (h : Cond.codeWith y b L r hh ∈ lw_all) : GoodIn lw_all (wsW_ y b L r hh) := by
  intro w hw
  rcases List.mem_cons.mp hw with e | e
  · rw [e]
    exact lw_self _ h
  · exact lw_self _ e
/-- any list of words by their places (lw_in), good -/
theorem lw_good {ws : List Cond} (h : ∀ w ∈ ws, w ∈ lw_all) : GoodIn lw_all ws := fun w hw => lw_self w (h w hw)
/-- what a call of a method with handlers asks: vx_cwVW n hts (lw_VW ..), vx_cwSW n hts (lw_SW ..) -/
theorem lw_VW {own : String} {idx : Nat} {C : String} {y : MethodName} {b : ByteArray} {L : Nat} {r : Option FieldType} {hh : List (Nat × Nat × Nat × Nat)} (h1 : Cond.methodLink own idx y ∈ lw_all) (h2 : Cond.instanceMethod y ∈ lw_all) (h3 : Cond.selects C y y ∈ lw_all) (h4 : Cond.initialized C ∈ lw_all) (h5 : Cond.codeWith y b L r hh ∈ lw_all) : GoodIn lw_all (wsV own idx C y (wsW_ y b L r hh)) := by
  refine lw_app ?_ (lw_methW h5)
  intro w hw
  simp only [List.mem_cons, List.not_mem_nil, or_false] at hw
  rcases hw with e | e | e | e
  · rw [e]; exact h1
  · rw [e]; exact h2
  · rw [e]; exact h3
  · rw [e]; exact h4
theorem lw_SW {own : String} {idx : Nat} {y : MethodName} {b : ByteArray} {L : Nat} {r : Option FieldType} {hh : List (Nat × Nat × Nat × Nat)} (h1 : Cond.methodLink own idx y ∈ lw_all) (h2 : Cond.static y ∈ lw_all) (h3 : Cond.initialized y.cls ∈ lw_all) (h4 : Cond.codeWith y b L r hh ∈ lw_all) : GoodIn lw_all (va_wsS own idx y (wsW_ y b L r hh)) := by
  refine lw_app ?_ (lw_methW h4)
  intro w hw
  simp only [List.mem_cons, List.not_mem_nil, or_false] at hw
  rcases hw with e | e | e
  · rw [e]; exact h1
  · rw [e]; exact h2
  · rw [e]; exact h3
/-- a word by its place in its run of the tables -/
theorem lw_at {r : List Cond} (hr : ∀ w ∈ r, w ∈ lw_tbl) {w : Cond} (i : Nat) (h : r[i]? = some w) : w ∈ lw_tbl := hr w (List.mem_of_getElem? h)
theorem lw_g {w : Cond} (h : w ∈ lw_tbl) (g : goodWord w = true) : w ∈ lw_all := List.mem_filter.mpr ⟨h, g⟩
theorem lw_ms : ∀ w ∈ k2_sels lw_privs, w ∈ lw_tbl := fun w h => show w ∈ k2_sels lw_privs ++ tables_1 from List.mem_append_left _ h
theorem lw_m1 : ∀ w ∈ tables_1_1, w ∈ lw_tbl := fun w h => show w ∈ k2_sels lw_privs ++ tables_1 from List.mem_append_right (k2_sels lw_privs) (show w ∈ tables_1 from List.mem_append_left _ h)
theorem lw_m2 : ∀ w ∈ tables_1_2, w ∈ lw_tbl := fun w h => show w ∈ k2_sels lw_privs ++ tables_1 from List.mem_append_right (k2_sels lw_privs) (show w ∈ tables_1 from List.mem_append_right _ h)
theorem qs0 : (Cond.selects "CellIndex" ⟨"CellIndex", "insert", "(I)V"⟩ ⟨"CellIndex", "insert", "(I)V"⟩) ∈ lw_all := lw_g (lw_at lw_ms 0 rfl) rfl
theorem qs1 : (Cond.selects "CellIndex" ⟨"CellIndex", "keyOf", "(I)I"⟩ ⟨"CellIndex", "keyOf", "(I)I"⟩) ∈ lw_all := lw_g (lw_at lw_ms 1 rfl) rfl
theorem qs2 : (Cond.selects "CellIndex" ⟨"CellIndex", "seek", "(I)I"⟩ ⟨"CellIndex", "seek", "(I)I"⟩) ∈ lw_all := lw_g (lw_at lw_ms 2 rfl) rfl
theorem qs3 : (Cond.selects "CellIndex" ⟨"CellIndex", "noPoint", "(I)Z"⟩ ⟨"CellIndex", "noPoint", "(I)Z"⟩) ∈ lw_all := lw_g (lw_at lw_ms 3 rfl) rfl
theorem qs4 : (Cond.selects "CellIndex" ⟨"CellIndex", "dropPoint", "(I)V"⟩ ⟨"CellIndex", "dropPoint", "(I)V"⟩) ∈ lw_all := lw_g (lw_at lw_ms 4 rfl) rfl
theorem qs5 : (Cond.selects "CellIndex" ⟨"CellIndex", "take", "(I)V"⟩ ⟨"CellIndex", "take", "(I)V"⟩) ∈ lw_all := lw_g (lw_at lw_ms 5 rfl) rfl
theorem qs6 : (Cond.selects "CellIndex" ⟨"CellIndex", "setBoxOf", "(II)V"⟩ ⟨"CellIndex", "setBoxOf", "(II)V"⟩) ∈ lw_all := lw_g (lw_at lw_ms 6 rfl) rfl
theorem qs7 : (Cond.selects "CellIndex" ⟨"CellIndex", "setBox", "(IIII)V"⟩ ⟨"CellIndex", "setBox", "(IIII)V"⟩) ∈ lw_all := lw_g (lw_at lw_ms 7 rfl) rfl
theorem qs8 : (Cond.selects "CellIndex" ⟨"CellIndex", "walk", "()V"⟩ ⟨"CellIndex", "walk", "()V"⟩) ∈ lw_all := lw_g (lw_at lw_ms 8 rfl) rfl
theorem qs9 : (Cond.selects "CellIndex" ⟨"CellIndex", "inBox", "(I)Z"⟩ ⟨"CellIndex", "inBox", "(I)Z"⟩) ∈ lw_all := lw_g (lw_at lw_ms 9 rfl) rfl
theorem qs10 : (Cond.selects "CellIndex" ⟨"CellIndex", "nextInside", "(I)I"⟩ ⟨"CellIndex", "nextInside", "(I)I"⟩) ∈ lw_all := lw_g (lw_at lw_ms 10 rfl) rfl
theorem qs11 : (Cond.selects "CellIndex" ⟨"CellIndex", "walkNear", "(III)V"⟩ ⟨"CellIndex", "walkNear", "(III)V"⟩) ∈ lw_all := lw_g (lw_at lw_ms 11 rfl) rfl
theorem qs12 : (Cond.selects "CellIndex" ⟨"CellIndex", "distanceTo", "(III)I"⟩ ⟨"CellIndex", "distanceTo", "(III)I"⟩) ∈ lw_all := lw_g (lw_at lw_ms 12 rfl) rfl
theorem qs13 : (Cond.selects "CellIndex" ⟨"CellIndex", "sortFound", "(II)V"⟩ ⟨"CellIndex", "sortFound", "(II)V"⟩) ∈ lw_all := lw_g (lw_at lw_ms 13 rfl) rfl
theorem qs14 : (Cond.selects "CellIndex" ⟨"CellIndex", "nearer", "(IIII)Z"⟩ ⟨"CellIndex", "nearer", "(IIII)Z"⟩) ∈ lw_all := lw_g (lw_at lw_ms 14 rfl) rfl
theorem qs15 : (Cond.selects "CellIndex" ⟨"CellIndex", "closestTo", "(II)I"⟩ ⟨"CellIndex", "closestTo", "(II)I"⟩) ∈ lw_all := lw_g (lw_at lw_ms 15 rfl) rfl
theorem qs16 : (Cond.selects "CellIndexModel" ⟨"CellIndexModel", "isPlace", "(I)Z"⟩ ⟨"CellIndexModel", "isPlace", "(I)Z"⟩) ∈ lw_all := lw_g (lw_at lw_ms 16 rfl) rfl
theorem qs17 : (Cond.selects "CellIndexModel" ⟨"CellIndexModel", "isPoint", "(I)Z"⟩ ⟨"CellIndexModel", "isPoint", "(I)Z"⟩) ∈ lw_all := lw_g (lw_at lw_ms 17 rfl) rfl
theorem qs18 : (Cond.selects "CellIndexModel" ⟨"CellIndexModel", "inBox", "(III)Z"⟩ ⟨"CellIndexModel", "inBox", "(III)Z"⟩) ∈ lw_all := lw_g (lw_at lw_ms 18 rfl) rfl
theorem qs19 : (Cond.selects "CellIndexModel" ⟨"CellIndexModel", "between", "(III)Z"⟩ ⟨"CellIndexModel", "between", "(III)Z"⟩) ∈ lw_all := lw_g (lw_at lw_ms 19 rfl) rfl
theorem qs20 : (Cond.selects "CellIndexModel" ⟨"CellIndexModel", "distance", "(II)I"⟩ ⟨"CellIndexModel", "distance", "(II)I"⟩) ∈ lw_all := lw_g (lw_at lw_ms 20 rfl) rfl
theorem qs21 : (Cond.selects "CellIndexModel" ⟨"CellIndexModel", "before", "(II)I"⟩ ⟨"CellIndexModel", "before", "(II)I"⟩) ∈ lw_all := lw_g (lw_at lw_ms 21 rfl) rfl
end
section
set_option maxRecDepth 100000
/-! CellIndex -/
def RX0 : String := "CellIndex"
def TX0 : u_T := fun k => match k with
  | 0 => ("CellIndex", "used", "[Z", true)
  | 1 => ("CellIndex", "xs", "[I", true)
  | 2 => ("CellIndex", "ys", "[I", true)
  | 3 => ("CellIndex", "labels", "[I", true)
  | 4 => ("CellIndex", "count", "I", false)
  | 5 => ("CellIndex", "keys", "[I", true)
  | 6 => ("CellIndex", "least", "I", false)
  | 7 => ("CellIndex", "most", "I", false)
  | 8 => ("CellIndex", "x0", "I", false)
  | 9 => ("CellIndex", "x1", "I", false)
  | 10 => ("CellIndex", "y0", "I", false)
  | 11 => ("CellIndex", "y1", "I", false)
  | 12 => ("CellIndex", "found", "I", false)
  | _ => ("CellIndex", "inside", "[I", true)
def tyX0 : Nat → FieldType := fun k => match k with
  | 0 => .array .boolean
  | 1 => .array .int
  | 2 => .array .int
  | 3 => .array .int
  | 4 => .int
  | 5 => .array .int
  | 6 => .int
  | 7 => .int
  | 8 => .int
  | 9 => .int
  | 10 => .int
  | 11 => .int
  | 12 => .int
  | _ => .array .int
abbrev wsX00 : List Cond := u_ws RX0 TX0 14
set_option maxRecDepth 100000 in
theorem nmX0 : ∀ a, a < 14 → ∀ b, b < 14 → a ≠ b → (TX0 a).2.1 ≠ (TX0 b).2.1 := by decide +kernel
set_option maxRecDepth 100000 in
theorem tyX0_ok : ∀ k, k < 14 → parseFieldDescriptor (TX0 k).2.2.1 = some (tyX0 k) := by decide +kernel
abbrev cX0_init : ByteArray := prog_1_method_1_code
def yX0_init : MethodName := ⟨RX0, "<init>", "()V"⟩
abbrev cX0_add : ByteArray := prog_1_method_9_code
def yX0_add : MethodName := ⟨RX0, "add", "(II)I"⟩
abbrev cX0_bad : ByteArray := prog_1_method_2_code
def yX0_bad : MethodName := ⟨RX0, "bad", "(I)Z"⟩
abbrev cX0_insert : ByteArray := prog_1_method_7_code
def yX0_insert : MethodName := ⟨RX0, "insert", "(I)V"⟩
abbrev cX0_keyOf : ByteArray := prog_1_method_5_code
def yX0_keyOf : MethodName := ⟨RX0, "keyOf", "(I)I"⟩
abbrev cX0_interleave : ByteArray := prog_1_method_4_code
def yX0_interleave : MethodName := ⟨RX0, "interleave", "(II)I"⟩
abbrev cX0_seek : ByteArray := prog_1_method_6_code
def yX0_seek : MethodName := ⟨RX0, "seek", "(I)I"⟩
abbrev cX0_remove : ByteArray := prog_1_method_11_code
def yX0_remove : MethodName := ⟨RX0, "remove", "(I)I"⟩
abbrev cX0_noPoint : ByteArray := prog_1_method_3_code
def yX0_noPoint : MethodName := ⟨RX0, "noPoint", "(I)Z"⟩
abbrev cX0_dropPoint : ByteArray := prog_1_method_10_code
def yX0_dropPoint : MethodName := ⟨RX0, "dropPoint", "(I)V"⟩
abbrev cX0_take : ByteArray := prog_1_method_8_code
def yX0_take : MethodName := ⟨RX0, "take", "(I)V"⟩
abbrev cX0_move : ByteArray := prog_1_method_12_code
def yX0_move : MethodName := ⟨RX0, "move", "(II)I"⟩
abbrev cX0_clearBox : ByteArray := prog_1_method_20_code
def yX0_clearBox : MethodName := ⟨RX0, "clearBox", "(II)I"⟩
abbrev cX0_setBoxOf : ByteArray := prog_1_method_15_code
def yX0_setBoxOf : MethodName := ⟨RX0, "setBoxOf", "(II)V"⟩
abbrev cX0_setBox : ByteArray := prog_1_method_14_code
def yX0_setBox : MethodName := ⟨RX0, "setBox", "(IIII)V"⟩
abbrev cX0_walk : ByteArray := prog_1_method_19_code
def yX0_walk : MethodName := ⟨RX0, "walk", "()V"⟩
abbrev cX0_inBox : ByteArray := prog_1_method_18_code
def yX0_inBox : MethodName := ⟨RX0, "inBox", "(I)Z"⟩
abbrev cX0_nextInside : ByteArray := prog_1_method_17_code
def yX0_nextInside : MethodName := ⟨RX0, "nextInside", "(I)I"⟩
abbrev cX0_lowerBits : ByteArray := prog_1_method_16_code
def yX0_lowerBits : MethodName := ⟨RX0, "lowerBits", "(I)I"⟩
abbrev cX0_countBox : ByteArray := prog_1_method_21_code
def yX0_countBox : MethodName := ⟨RX0, "countBox", "(II)I"⟩
abbrev cX0_sumBox : ByteArray := prog_1_method_22_code
def yX0_sumBox : MethodName := ⟨RX0, "sumBox", "(II)I"⟩
abbrev cX0_countNear : ByteArray := prog_1_method_26_code
def yX0_countNear : MethodName := ⟨RX0, "countNear", "(II)I"⟩
abbrev cX0_walkNear : ByteArray := prog_1_method_25_code
def yX0_walkNear : MethodName := ⟨RX0, "walkNear", "(III)V"⟩
abbrev cX0_rootOf : ByteArray := prog_1_method_24_code
def yX0_rootOf : MethodName := ⟨RX0, "rootOf", "(I)I"⟩
abbrev cX0_clamp : ByteArray := prog_1_method_13_code
def yX0_clamp : MethodName := ⟨RX0, "clamp", "(I)I"⟩
abbrev cX0_distanceTo : ByteArray := prog_1_method_23_code
def yX0_distanceTo : MethodName := ⟨RX0, "distanceTo", "(III)I"⟩
abbrev cX0_nearest : ByteArray := prog_1_method_29_code
def yX0_nearest : MethodName := ⟨RX0, "nearest", "(II)I"⟩
abbrev cX0_sortFound : ByteArray := prog_1_method_28_code
def yX0_sortFound : MethodName := ⟨RX0, "sortFound", "(II)V"⟩
abbrev cX0_nearer : ByteArray := prog_1_method_27_code
def yX0_nearer : MethodName := ⟨RX0, "nearer", "(IIII)Z"⟩
abbrev cX0_firstIn : ByteArray := prog_1_method_30_code
def yX0_firstIn : MethodName := ⟨RX0, "firstIn", "(II)I"⟩
abbrev cX0_placeOf : ByteArray := prog_1_method_31_code
def yX0_placeOf : MethodName := ⟨RX0, "placeOf", "(I)I"⟩
abbrev cX0_labelOf : ByteArray := prog_1_method_32_code
def yX0_labelOf : MethodName := ⟨RX0, "labelOf", "(I)I"⟩
abbrev cX0_closest : ByteArray := prog_1_method_34_code
def yX0_closest : MethodName := ⟨RX0, "closest", "()I"⟩
abbrev cX0_closestTo : ByteArray := prog_1_method_33_code
def yX0_closestTo : MethodName := ⟨RX0, "closestTo", "(II)I"⟩
abbrev cX0_count : ByteArray := prog_1_method_35_code
def yX0_count : MethodName := ⟨RX0, "count", "()I"⟩
theorem q23 : (Jvm.Cond.initialized "CellIndex") ∈ lw_all := lw_g (lw_at lw_m1 1 rfl) rfl
theorem q26 : (Jvm.Cond.instantiable "CellIndex" (14 : Nat)) ∈ lw_all := lw_g (lw_at lw_m1 4 rfl) rfl
theorem q28 : (Jvm.Cond.instanceMethod ({ cls := "CellIndex", name := "<init>", desc := "()V" } : Jvm.MethodName)) ∈ lw_all := lw_g (lw_at lw_m1 6 rfl) rfl
theorem q29 : (Jvm.Cond.code ({ cls := "CellIndex", name := "<init>", desc := "()V" } : Jvm.MethodName) prog_1_method_1_code (1 : Nat) (Option.none : Option Jvm.ClassFile.FieldType)) ∈ lw_all := lw_g (lw_at lw_m1 7 rfl) rfl
theorem q30 : (Jvm.Cond.methodLink "CellIndex" (1 : Nat) ({ cls := "java/lang/Object", name := "<init>", desc := "()V" } : Jvm.MethodName)) ∈ lw_all := lw_g (lw_at lw_m1 8 rfl) rfl
theorem q33 : (Jvm.Cond.fieldLink "CellIndex" (7 : Nat) "CellIndex" "used" "[Z") ∈ lw_all := lw_g (lw_at lw_m1 11 rfl) rfl
theorem q34 : (Jvm.Cond.fieldLink "CellIndex" (13 : Nat) "CellIndex" "xs" "[I") ∈ lw_all := lw_g (lw_at lw_m1 12 rfl) rfl
theorem q35 : (Jvm.Cond.fieldLink "CellIndex" (17 : Nat) "CellIndex" "ys" "[I") ∈ lw_all := lw_g (lw_at lw_m1 13 rfl) rfl
theorem q36 : (Jvm.Cond.fieldLink "CellIndex" (20 : Nat) "CellIndex" "labels" "[I") ∈ lw_all := lw_g (lw_at lw_m1 14 rfl) rfl
theorem q37 : (Jvm.Cond.fieldLink "CellIndex" (29 : Nat) "CellIndex" "count" "I") ∈ lw_all := lw_g (lw_at lw_m1 15 rfl) rfl
theorem q38 : (Jvm.Cond.fieldLink "CellIndex" (23 : Nat) "CellIndex" "keys" "[I") ∈ lw_all := lw_g (lw_at lw_m1 16 rfl) rfl
theorem q39 : (Jvm.Cond.fieldLink "CellIndex" (73 : Nat) "CellIndex" "least" "I") ∈ lw_all := lw_g (lw_at lw_m1 17 rfl) rfl
theorem q40 : (Jvm.Cond.fieldLink "CellIndex" (76 : Nat) "CellIndex" "most" "I") ∈ lw_all := lw_g (lw_at lw_m1 18 rfl) rfl
theorem q41 : (Jvm.Cond.fieldLink "CellIndex" (61 : Nat) "CellIndex" "x0" "I") ∈ lw_all := lw_g (lw_at lw_m1 19 rfl) rfl
theorem q42 : (Jvm.Cond.fieldLink "CellIndex" (64 : Nat) "CellIndex" "x1" "I") ∈ lw_all := lw_g (lw_at lw_m1 20 rfl) rfl
theorem q43 : (Jvm.Cond.fieldLink "CellIndex" (67 : Nat) "CellIndex" "y0" "I") ∈ lw_all := lw_g (lw_at lw_m1 21 rfl) rfl
theorem q44 : (Jvm.Cond.fieldLink "CellIndex" (70 : Nat) "CellIndex" "y1" "I") ∈ lw_all := lw_g (lw_at lw_m1 22 rfl) rfl
theorem q45 : (Jvm.Cond.fieldLink "CellIndex" (86 : Nat) "CellIndex" "found" "I") ∈ lw_all := lw_g (lw_at lw_m1 23 rfl) rfl
theorem q46 : (Jvm.Cond.fieldLink "CellIndex" (26 : Nat) "CellIndex" "inside" "[I") ∈ lw_all := lw_g (lw_at lw_m1 24 rfl) rfl
theorem q47 : (Jvm.Cond.laysFinal "CellIndex" "CellIndex" "used" "[Z") ∈ lw_all := lw_g (lw_at lw_m1 25 rfl) rfl
theorem q48 : (Jvm.Cond.soleField "CellIndex" "used") ∈ lw_all := lw_g (lw_at lw_m1 26 rfl) rfl
theorem q49 : (Jvm.Cond.laysFinal "CellIndex" "CellIndex" "xs" "[I") ∈ lw_all := lw_g (lw_at lw_m1 27 rfl) rfl
theorem q50 : (Jvm.Cond.soleField "CellIndex" "xs") ∈ lw_all := lw_g (lw_at lw_m1 28 rfl) rfl
theorem q51 : (Jvm.Cond.laysFinal "CellIndex" "CellIndex" "ys" "[I") ∈ lw_all := lw_g (lw_at lw_m1 29 rfl) rfl
theorem q52 : (Jvm.Cond.soleField "CellIndex" "ys") ∈ lw_all := lw_g (lw_at lw_m1 30 rfl) rfl
theorem q53 : (Jvm.Cond.laysFinal "CellIndex" "CellIndex" "labels" "[I") ∈ lw_all := lw_g (lw_at lw_m1 31 rfl) rfl
theorem q54 : (Jvm.Cond.soleField "CellIndex" "labels") ∈ lw_all := lw_g (lw_at lw_m1 32 rfl) rfl
theorem q55 : (Jvm.Cond.lays "CellIndex" "CellIndex" "count" "I") ∈ lw_all := lw_g (lw_at lw_m1 33 rfl) rfl
theorem q56 : (Jvm.Cond.soleField "CellIndex" "count") ∈ lw_all := lw_g (lw_at lw_m1 34 rfl) rfl
theorem q57 : (Jvm.Cond.laysFinal "CellIndex" "CellIndex" "keys" "[I") ∈ lw_all := lw_g (lw_at lw_m1 35 rfl) rfl
theorem q58 : (Jvm.Cond.soleField "CellIndex" "keys") ∈ lw_all := lw_g (lw_at lw_m1 36 rfl) rfl
theorem q59 : (Jvm.Cond.lays "CellIndex" "CellIndex" "least" "I") ∈ lw_all := lw_g (lw_at lw_m1 37 rfl) rfl
theorem q60 : (Jvm.Cond.soleField "CellIndex" "least") ∈ lw_all := lw_g (lw_at lw_m1 38 rfl) rfl
theorem q61 : (Jvm.Cond.lays "CellIndex" "CellIndex" "most" "I") ∈ lw_all := lw_g (lw_at lw_m1 39 rfl) rfl
theorem q62 : (Jvm.Cond.soleField "CellIndex" "most") ∈ lw_all := lw_g (lw_at lw_m1 40 rfl) rfl
theorem q63 : (Jvm.Cond.lays "CellIndex" "CellIndex" "x0" "I") ∈ lw_all := lw_g (lw_at lw_m1 41 rfl) rfl
theorem q64 : (Jvm.Cond.soleField "CellIndex" "x0") ∈ lw_all := lw_g (lw_at lw_m1 42 rfl) rfl
theorem q65 : (Jvm.Cond.lays "CellIndex" "CellIndex" "x1" "I") ∈ lw_all := lw_g (lw_at lw_m1 43 rfl) rfl
theorem q66 : (Jvm.Cond.soleField "CellIndex" "x1") ∈ lw_all := lw_g (lw_at lw_m1 44 rfl) rfl
theorem q67 : (Jvm.Cond.lays "CellIndex" "CellIndex" "y0" "I") ∈ lw_all := lw_g (lw_at lw_m1 45 rfl) rfl
theorem q68 : (Jvm.Cond.soleField "CellIndex" "y0") ∈ lw_all := lw_g (lw_at lw_m1 46 rfl) rfl
theorem q69 : (Jvm.Cond.lays "CellIndex" "CellIndex" "y1" "I") ∈ lw_all := lw_g (lw_at lw_m1 47 rfl) rfl
theorem q70 : (Jvm.Cond.soleField "CellIndex" "y1") ∈ lw_all := lw_g (lw_at lw_m1 48 rfl) rfl
theorem q71 : (Jvm.Cond.lays "CellIndex" "CellIndex" "found" "I") ∈ lw_all := lw_g (lw_at lw_m1 49 rfl) rfl
theorem q72 : (Jvm.Cond.soleField "CellIndex" "found") ∈ lw_all := lw_g (lw_at lw_m1 50 rfl) rfl
theorem q73 : (Jvm.Cond.laysFinal "CellIndex" "CellIndex" "inside" "[I") ∈ lw_all := lw_g (lw_at lw_m1 51 rfl) rfl
theorem q74 : (Jvm.Cond.soleField "CellIndex" "inside") ∈ lw_all := lw_g (lw_at lw_m1 52 rfl) rfl
theorem q75 : (Jvm.Cond.superclass "CellIndex" "java/lang/Object") ∈ lw_all := lw_g (lw_at lw_m1 53 rfl) rfl
theorem q79 : (Jvm.Cond.instanceMethod ({ cls := "CellIndex", name := "add", desc := "(II)I" } : Jvm.MethodName)) ∈ lw_all := lw_g (lw_at lw_m1 57 rfl) rfl
theorem q80 : (Jvm.Cond.selects "CellIndex" ({ cls := "CellIndex", name := "add", desc := "(II)I" } : Jvm.MethodName) ({ cls := "CellIndex", name := "add", desc := "(II)I" } : Jvm.MethodName)) ∈ lw_all := lw_g (lw_at lw_m1 58 rfl) rfl
theorem q81 : (Jvm.Cond.code ({ cls := "CellIndex", name := "add", desc := "(II)I" } : Jvm.MethodName) prog_1_method_9_code (4 : Nat) (Option.some Jvm.ClassFile.FieldType.int)) ∈ lw_all := lw_g (lw_at lw_m1 59 rfl) rfl
theorem q82 : (Jvm.Cond.methodLink "CellIndex" (44 : Nat) ({ cls := "CellIndex", name := "bad", desc := "(I)Z" } : Jvm.MethodName)) ∈ lw_all := lw_g (lw_at lw_m1 60 rfl) rfl
theorem q83 : (Jvm.Cond.static ({ cls := "CellIndex", name := "bad", desc := "(I)Z" } : Jvm.MethodName)) ∈ lw_all := lw_g (lw_at lw_m1 61 rfl) rfl
theorem q84 : (Jvm.Cond.code ({ cls := "CellIndex", name := "bad", desc := "(I)Z" } : Jvm.MethodName) prog_1_method_2_code (1 : Nat) (Option.some Jvm.ClassFile.FieldType.boolean)) ∈ lw_all := lw_g (lw_at lw_m1 62 rfl) rfl
theorem q85 : (Jvm.Cond.methodLink "CellIndex" (48 : Nat) ({ cls := "CellIndex", name := "insert", desc := "(I)V" } : Jvm.MethodName)) ∈ lw_all := lw_g (lw_at lw_m1 63 rfl) rfl
theorem q86 : (Jvm.Cond.privateMethod ({ cls := "CellIndex", name := "insert", desc := "(I)V" } : Jvm.MethodName)) ∈ lw_tbl := lw_at lw_m1 64 rfl
theorem q87 : (Jvm.Cond.instanceMethod ({ cls := "CellIndex", name := "insert", desc := "(I)V" } : Jvm.MethodName)) ∈ lw_all := lw_g (lw_at lw_m1 65 rfl) rfl
theorem q88 : (Jvm.Cond.code ({ cls := "CellIndex", name := "insert", desc := "(I)V" } : Jvm.MethodName) prog_1_method_7_code (5 : Nat) (Option.none : Option Jvm.ClassFile.FieldType)) ∈ lw_all := lw_g (lw_at lw_m1 66 rfl) rfl
theorem q89 : (Jvm.Cond.methodLink "CellIndex" (37 : Nat) ({ cls := "CellIndex", name := "keyOf", desc := "(I)I" } : Jvm.MethodName)) ∈ lw_all := lw_g (lw_at lw_m1 67 rfl) rfl
theorem q90 : (Jvm.Cond.privateMethod ({ cls := "CellIndex", name := "keyOf", desc := "(I)I" } : Jvm.MethodName)) ∈ lw_tbl := lw_at lw_m1 68 rfl
theorem q91 : (Jvm.Cond.instanceMethod ({ cls := "CellIndex", name := "keyOf", desc := "(I)I" } : Jvm.MethodName)) ∈ lw_all := lw_g (lw_at lw_m1 69 rfl) rfl
theorem q92 : (Jvm.Cond.code ({ cls := "CellIndex", name := "keyOf", desc := "(I)I" } : Jvm.MethodName) prog_1_method_5_code (2 : Nat) (Option.some Jvm.ClassFile.FieldType.int)) ∈ lw_all := lw_g (lw_at lw_m1 70 rfl) rfl
theorem q93 : (Jvm.Cond.methodLink "CellIndex" (33 : Nat) ({ cls := "CellIndex", name := "interleave", desc := "(II)I" } : Jvm.MethodName)) ∈ lw_all := lw_g (lw_at lw_m1 71 rfl) rfl
theorem q94 : (Jvm.Cond.static ({ cls := "CellIndex", name := "interleave", desc := "(II)I" } : Jvm.MethodName)) ∈ lw_all := lw_g (lw_at lw_m1 72 rfl) rfl
theorem q95 : (Jvm.Cond.code ({ cls := "CellIndex", name := "interleave", desc := "(II)I" } : Jvm.MethodName) prog_1_method_4_code (4 : Nat) (Option.some Jvm.ClassFile.FieldType.int)) ∈ lw_all := lw_g (lw_at lw_m1 73 rfl) rfl
theorem q96 : (Jvm.Cond.methodLink "CellIndex" (41 : Nat) ({ cls := "CellIndex", name := "seek", desc := "(I)I" } : Jvm.MethodName)) ∈ lw_all := lw_g (lw_at lw_m1 74 rfl) rfl
theorem q97 : (Jvm.Cond.privateMethod ({ cls := "CellIndex", name := "seek", desc := "(I)I" } : Jvm.MethodName)) ∈ lw_tbl := lw_at lw_m1 75 rfl
theorem q98 : (Jvm.Cond.instanceMethod ({ cls := "CellIndex", name := "seek", desc := "(I)I" } : Jvm.MethodName)) ∈ lw_all := lw_g (lw_at lw_m1 76 rfl) rfl
theorem q99 : (Jvm.Cond.code ({ cls := "CellIndex", name := "seek", desc := "(I)I" } : Jvm.MethodName) prog_1_method_6_code (5 : Nat) (Option.some Jvm.ClassFile.FieldType.int)) ∈ lw_all := lw_g (lw_at lw_m1 77 rfl) rfl
theorem q101 : (Jvm.Cond.instanceMethod ({ cls := "CellIndex", name := "remove", desc := "(I)I" } : Jvm.MethodName)) ∈ lw_all := lw_g (lw_at lw_m1 79 rfl) rfl
theorem q102 : (Jvm.Cond.selects "CellIndex" ({ cls := "CellIndex", name := "remove", desc := "(I)I" } : Jvm.MethodName) ({ cls := "CellIndex", name := "remove", desc := "(I)I" } : Jvm.MethodName)) ∈ lw_all := lw_g (lw_at lw_m1 80 rfl) rfl
theorem q103 : (Jvm.Cond.code ({ cls := "CellIndex", name := "remove", desc := "(I)I" } : Jvm.MethodName) prog_1_method_11_code (2 : Nat) (Option.some Jvm.ClassFile.FieldType.int)) ∈ lw_all := lw_g (lw_at lw_m1 81 rfl) rfl
theorem q104 : (Jvm.Cond.methodLink "CellIndex" (55 : Nat) ({ cls := "CellIndex", name := "noPoint", desc := "(I)Z" } : Jvm.MethodName)) ∈ lw_all := lw_g (lw_at lw_m1 82 rfl) rfl
theorem q105 : (Jvm.Cond.privateMethod ({ cls := "CellIndex", name := "noPoint", desc := "(I)Z" } : Jvm.MethodName)) ∈ lw_tbl := lw_at lw_m1 83 rfl
theorem q106 : (Jvm.Cond.instanceMethod ({ cls := "CellIndex", name := "noPoint", desc := "(I)Z" } : Jvm.MethodName)) ∈ lw_all := lw_g (lw_at lw_m1 84 rfl) rfl
theorem q107 : (Jvm.Cond.code ({ cls := "CellIndex", name := "noPoint", desc := "(I)Z" } : Jvm.MethodName) prog_1_method_3_code (2 : Nat) (Option.some Jvm.ClassFile.FieldType.boolean)) ∈ lw_all := lw_g (lw_at lw_m1 85 rfl) rfl
theorem q108 : (Jvm.Cond.methodLink "CellIndex" (58 : Nat) ({ cls := "CellIndex", name := "dropPoint", desc := "(I)V" } : Jvm.MethodName)) ∈ lw_all := lw_g (lw_at lw_m1 86 rfl) rfl
theorem q109 : (Jvm.Cond.privateMethod ({ cls := "CellIndex", name := "dropPoint", desc := "(I)V" } : Jvm.MethodName)) ∈ lw_tbl := lw_at lw_m1 87 rfl
theorem q110 : (Jvm.Cond.instanceMethod ({ cls := "CellIndex", name := "dropPoint", desc := "(I)V" } : Jvm.MethodName)) ∈ lw_all := lw_g (lw_at lw_m1 88 rfl) rfl
theorem q111 : (Jvm.Cond.code ({ cls := "CellIndex", name := "dropPoint", desc := "(I)V" } : Jvm.MethodName) prog_1_method_10_code (2 : Nat) (Option.none : Option Jvm.ClassFile.FieldType)) ∈ lw_all := lw_g (lw_at lw_m1 89 rfl) rfl
theorem q112 : (Jvm.Cond.methodLink "CellIndex" (52 : Nat) ({ cls := "CellIndex", name := "take", desc := "(I)V" } : Jvm.MethodName)) ∈ lw_all := lw_g (lw_at lw_m1 90 rfl) rfl
theorem q113 : (Jvm.Cond.privateMethod ({ cls := "CellIndex", name := "take", desc := "(I)V" } : Jvm.MethodName)) ∈ lw_tbl := lw_at lw_m1 91 rfl
theorem q114 : (Jvm.Cond.instanceMethod ({ cls := "CellIndex", name := "take", desc := "(I)V" } : Jvm.MethodName)) ∈ lw_all := lw_g (lw_at lw_m1 92 rfl) rfl
theorem q115 : (Jvm.Cond.code ({ cls := "CellIndex", name := "take", desc := "(I)V" } : Jvm.MethodName) prog_1_method_8_code (5 : Nat) (Option.none : Option Jvm.ClassFile.FieldType)) ∈ lw_all := lw_g (lw_at lw_m1 93 rfl) rfl
theorem q117 : (Jvm.Cond.instanceMethod ({ cls := "CellIndex", name := "move", desc := "(II)I" } : Jvm.MethodName)) ∈ lw_all := lw_g (lw_at lw_m1 95 rfl) rfl
theorem q118 : (Jvm.Cond.selects "CellIndex" ({ cls := "CellIndex", name := "move", desc := "(II)I" } : Jvm.MethodName) ({ cls := "CellIndex", name := "move", desc := "(II)I" } : Jvm.MethodName)) ∈ lw_all := lw_g (lw_at lw_m1 96 rfl) rfl
theorem q119 : (Jvm.Cond.code ({ cls := "CellIndex", name := "move", desc := "(II)I" } : Jvm.MethodName) prog_1_method_12_code (4 : Nat) (Option.some Jvm.ClassFile.FieldType.int)) ∈ lw_all := lw_g (lw_at lw_m1 97 rfl) rfl
theorem q121 : (Jvm.Cond.instanceMethod ({ cls := "CellIndex", name := "clearBox", desc := "(II)I" } : Jvm.MethodName)) ∈ lw_all := lw_g (lw_at lw_m1 99 rfl) rfl
theorem q122 : (Jvm.Cond.selects "CellIndex" ({ cls := "CellIndex", name := "clearBox", desc := "(II)I" } : Jvm.MethodName) ({ cls := "CellIndex", name := "clearBox", desc := "(II)I" } : Jvm.MethodName)) ∈ lw_all := lw_g (lw_at lw_m1 100 rfl) rfl
theorem q123 : (Jvm.Cond.code ({ cls := "CellIndex", name := "clearBox", desc := "(II)I" } : Jvm.MethodName) prog_1_method_20_code (4 : Nat) (Option.some Jvm.ClassFile.FieldType.int)) ∈ lw_all := lw_g (lw_at lw_m1 101 rfl) rfl
theorem q124 : (Jvm.Cond.methodLink "CellIndex" (95 : Nat) ({ cls := "CellIndex", name := "setBoxOf", desc := "(II)V" } : Jvm.MethodName)) ∈ lw_all := lw_g (lw_at lw_m1 102 rfl) rfl
theorem q125 : (Jvm.Cond.privateMethod ({ cls := "CellIndex", name := "setBoxOf", desc := "(II)V" } : Jvm.MethodName)) ∈ lw_tbl := lw_at lw_m1 103 rfl
theorem q126 : (Jvm.Cond.instanceMethod ({ cls := "CellIndex", name := "setBoxOf", desc := "(II)V" } : Jvm.MethodName)) ∈ lw_all := lw_g (lw_at lw_m1 104 rfl) rfl
theorem q127 : (Jvm.Cond.code ({ cls := "CellIndex", name := "setBoxOf", desc := "(II)V" } : Jvm.MethodName) prog_1_method_15_code (3 : Nat) (Option.none : Option Jvm.ClassFile.FieldType)) ∈ lw_all := lw_g (lw_at lw_m1 105 rfl) rfl
theorem q128 : (Jvm.Cond.methodLink "CellIndex" (79 : Nat) ({ cls := "CellIndex", name := "setBox", desc := "(IIII)V" } : Jvm.MethodName)) ∈ lw_all := lw_g (lw_at lw_m1 106 rfl) rfl
theorem q129 : (Jvm.Cond.privateMethod ({ cls := "CellIndex", name := "setBox", desc := "(IIII)V" } : Jvm.MethodName)) ∈ lw_tbl := lw_at lw_m1 107 rfl
theorem q130 : (Jvm.Cond.instanceMethod ({ cls := "CellIndex", name := "setBox", desc := "(IIII)V" } : Jvm.MethodName)) ∈ lw_all := lw_g (lw_at lw_m1 108 rfl) rfl
theorem q131 : (Jvm.Cond.code ({ cls := "CellIndex", name := "setBox", desc := "(IIII)V" } : Jvm.MethodName) prog_1_method_14_code (5 : Nat) (Option.none : Option Jvm.ClassFile.FieldType)) ∈ lw_all := lw_g (lw_at lw_m1 109 rfl) rfl
theorem q132 : (Jvm.Cond.methodLink "CellIndex" (99 : Nat) ({ cls := "CellIndex", name := "walk", desc := "()V" } : Jvm.MethodName)) ∈ lw_all := lw_g (lw_at lw_m1 110 rfl) rfl
theorem q133 : (Jvm.Cond.privateMethod ({ cls := "CellIndex", name := "walk", desc := "()V" } : Jvm.MethodName)) ∈ lw_tbl := lw_at lw_m1 111 rfl
theorem q134 : (Jvm.Cond.instanceMethod ({ cls := "CellIndex", name := "walk", desc := "()V" } : Jvm.MethodName)) ∈ lw_all := lw_g (lw_at lw_m1 112 rfl) rfl
theorem q135 : (Jvm.Cond.code ({ cls := "CellIndex", name := "walk", desc := "()V" } : Jvm.MethodName) prog_1_method_19_code (6 : Nat) (Option.none : Option Jvm.ClassFile.FieldType)) ∈ lw_all := lw_g (lw_at lw_m1 113 rfl) rfl
theorem q136 : (Jvm.Cond.methodLink "CellIndex" (89 : Nat) ({ cls := "CellIndex", name := "inBox", desc := "(I)Z" } : Jvm.MethodName)) ∈ lw_all := lw_g (lw_at lw_m1 114 rfl) rfl
theorem q137 : (Jvm.Cond.privateMethod ({ cls := "CellIndex", name := "inBox", desc := "(I)Z" } : Jvm.MethodName)) ∈ lw_tbl := lw_at lw_m1 115 rfl
theorem q138 : (Jvm.Cond.instanceMethod ({ cls := "CellIndex", name := "inBox", desc := "(I)Z" } : Jvm.MethodName)) ∈ lw_all := lw_g (lw_at lw_m1 116 rfl) rfl
theorem q139 : (Jvm.Cond.code ({ cls := "CellIndex", name := "inBox", desc := "(I)Z" } : Jvm.MethodName) prog_1_method_18_code (2 : Nat) (Option.some Jvm.ClassFile.FieldType.boolean)) ∈ lw_all := lw_g (lw_at lw_m1 117 rfl) rfl
theorem q140 : (Jvm.Cond.methodLink "CellIndex" (92 : Nat) ({ cls := "CellIndex", name := "nextInside", desc := "(I)I" } : Jvm.MethodName)) ∈ lw_all := lw_g (lw_at lw_m1 118 rfl) rfl
theorem q141 : (Jvm.Cond.privateMethod ({ cls := "CellIndex", name := "nextInside", desc := "(I)I" } : Jvm.MethodName)) ∈ lw_tbl := lw_at lw_m1 119 rfl
theorem q142 : (Jvm.Cond.instanceMethod ({ cls := "CellIndex", name := "nextInside", desc := "(I)I" } : Jvm.MethodName)) ∈ lw_all := lw_g (lw_at lw_m1 120 rfl) rfl
theorem q143 : (Jvm.Cond.code ({ cls := "CellIndex", name := "nextInside", desc := "(I)I" } : Jvm.MethodName) prog_1_method_17_code (10 : Nat) (Option.some Jvm.ClassFile.FieldType.int)) ∈ lw_all := lw_g (lw_at lw_m1 121 rfl) rfl
theorem q144 : (Jvm.Cond.methodLink "CellIndex" (83 : Nat) ({ cls := "CellIndex", name := "lowerBits", desc := "(I)I" } : Jvm.MethodName)) ∈ lw_all := lw_g (lw_at lw_m1 122 rfl) rfl
theorem q145 : (Jvm.Cond.static ({ cls := "CellIndex", name := "lowerBits", desc := "(I)I" } : Jvm.MethodName)) ∈ lw_all := lw_g (lw_at lw_m1 123 rfl) rfl
theorem q146 : (Jvm.Cond.code ({ cls := "CellIndex", name := "lowerBits", desc := "(I)I" } : Jvm.MethodName) prog_1_method_16_code (3 : Nat) (Option.some Jvm.ClassFile.FieldType.int)) ∈ lw_all := lw_g (lw_at lw_m1 124 rfl) rfl
theorem q148 : (Jvm.Cond.instanceMethod ({ cls := "CellIndex", name := "countBox", desc := "(II)I" } : Jvm.MethodName)) ∈ lw_all := lw_g (lw_at lw_m1 126 rfl) rfl
theorem q149 : (Jvm.Cond.selects "CellIndex" ({ cls := "CellIndex", name := "countBox", desc := "(II)I" } : Jvm.MethodName) ({ cls := "CellIndex", name := "countBox", desc := "(II)I" } : Jvm.MethodName)) ∈ lw_all := lw_g (lw_at lw_m1 127 rfl) rfl
theorem q150 : (Jvm.Cond.code ({ cls := "CellIndex", name := "countBox", desc := "(II)I" } : Jvm.MethodName) prog_1_method_21_code (3 : Nat) (Option.some Jvm.ClassFile.FieldType.int)) ∈ lw_all := lw_g (lw_at lw_m1 128 rfl) rfl
theorem q152 : (Jvm.Cond.instanceMethod ({ cls := "CellIndex", name := "sumBox", desc := "(II)I" } : Jvm.MethodName)) ∈ lw_all := lw_g (lw_at lw_m1 130 rfl) rfl
theorem q153 : (Jvm.Cond.selects "CellIndex" ({ cls := "CellIndex", name := "sumBox", desc := "(II)I" } : Jvm.MethodName) ({ cls := "CellIndex", name := "sumBox", desc := "(II)I" } : Jvm.MethodName)) ∈ lw_all := lw_g (lw_at lw_m1 131 rfl) rfl
theorem q154 : (Jvm.Cond.code ({ cls := "CellIndex", name := "sumBox", desc := "(II)I" } : Jvm.MethodName) prog_1_method_22_code (5 : Nat) (Option.some Jvm.ClassFile.FieldType.int)) ∈ lw_all := lw_g (lw_at lw_m1 132 rfl) rfl
theorem q156 : (Jvm.Cond.instanceMethod ({ cls := "CellIndex", name := "countNear", desc := "(II)I" } : Jvm.MethodName)) ∈ lw_all := lw_g (lw_at lw_m1 134 rfl) rfl
theorem q157 : (Jvm.Cond.selects "CellIndex" ({ cls := "CellIndex", name := "countNear", desc := "(II)I" } : Jvm.MethodName) ({ cls := "CellIndex", name := "countNear", desc := "(II)I" } : Jvm.MethodName)) ∈ lw_all := lw_g (lw_at lw_m1 135 rfl) rfl
theorem q158 : (Jvm.Cond.code ({ cls := "CellIndex", name := "countNear", desc := "(II)I" } : Jvm.MethodName) prog_1_method_26_code (3 : Nat) (Option.some Jvm.ClassFile.FieldType.int)) ∈ lw_all := lw_g (lw_at lw_m1 136 rfl) rfl
theorem q159 : (Jvm.Cond.methodLink "CellIndex" (112 : Nat) ({ cls := "CellIndex", name := "walkNear", desc := "(III)V" } : Jvm.MethodName)) ∈ lw_all := lw_g (lw_at lw_m1 137 rfl) rfl
theorem q160 : (Jvm.Cond.privateMethod ({ cls := "CellIndex", name := "walkNear", desc := "(III)V" } : Jvm.MethodName)) ∈ lw_tbl := lw_at lw_m1 138 rfl
theorem q161 : (Jvm.Cond.instanceMethod ({ cls := "CellIndex", name := "walkNear", desc := "(III)V" } : Jvm.MethodName)) ∈ lw_all := lw_g (lw_at lw_m1 139 rfl) rfl
theorem q162 : (Jvm.Cond.code ({ cls := "CellIndex", name := "walkNear", desc := "(III)V" } : Jvm.MethodName) prog_1_method_25_code (12 : Nat) (Option.none : Option Jvm.ClassFile.FieldType)) ∈ lw_all := lw_g (lw_at lw_m1 140 rfl) rfl
theorem q163 : (Jvm.Cond.methodLink "CellIndex" (102 : Nat) ({ cls := "CellIndex", name := "rootOf", desc := "(I)I" } : Jvm.MethodName)) ∈ lw_all := lw_g (lw_at lw_m1 141 rfl) rfl
theorem q164 : (Jvm.Cond.static ({ cls := "CellIndex", name := "rootOf", desc := "(I)I" } : Jvm.MethodName)) ∈ lw_all := lw_g (lw_at lw_m1 142 rfl) rfl
theorem q165 : (Jvm.Cond.code ({ cls := "CellIndex", name := "rootOf", desc := "(I)I" } : Jvm.MethodName) prog_1_method_24_code (2 : Nat) (Option.some Jvm.ClassFile.FieldType.int)) ∈ lw_all := lw_g (lw_at lw_m1 143 rfl) rfl
theorem q166 : (Jvm.Cond.methodLink "CellIndex" (105 : Nat) ({ cls := "CellIndex", name := "clamp", desc := "(I)I" } : Jvm.MethodName)) ∈ lw_all := lw_g (lw_at lw_m1 144 rfl) rfl
theorem q167 : (Jvm.Cond.static ({ cls := "CellIndex", name := "clamp", desc := "(I)I" } : Jvm.MethodName)) ∈ lw_all := lw_g (lw_at lw_m1 145 rfl) rfl
theorem q168 : (Jvm.Cond.code ({ cls := "CellIndex", name := "clamp", desc := "(I)I" } : Jvm.MethodName) prog_1_method_13_code (1 : Nat) (Option.some Jvm.ClassFile.FieldType.int)) ∈ lw_all := lw_g (lw_at lw_m1 146 rfl) rfl
theorem q169 : (Jvm.Cond.methodLink "CellIndex" (108 : Nat) ({ cls := "CellIndex", name := "distanceTo", desc := "(III)I" } : Jvm.MethodName)) ∈ lw_all := lw_g (lw_at lw_m1 147 rfl) rfl
theorem q170 : (Jvm.Cond.privateMethod ({ cls := "CellIndex", name := "distanceTo", desc := "(III)I" } : Jvm.MethodName)) ∈ lw_tbl := lw_at lw_m1 148 rfl
theorem q171 : (Jvm.Cond.instanceMethod ({ cls := "CellIndex", name := "distanceTo", desc := "(III)I" } : Jvm.MethodName)) ∈ lw_all := lw_g (lw_at lw_m1 149 rfl) rfl
theorem q172 : (Jvm.Cond.code ({ cls := "CellIndex", name := "distanceTo", desc := "(III)I" } : Jvm.MethodName) prog_1_method_23_code (6 : Nat) (Option.some Jvm.ClassFile.FieldType.int)) ∈ lw_all := lw_g (lw_at lw_m1 150 rfl) rfl
theorem q174 : (Jvm.Cond.instanceMethod ({ cls := "CellIndex", name := "nearest", desc := "(II)I" } : Jvm.MethodName)) ∈ lw_all := lw_g (lw_at lw_m1 152 rfl) rfl
theorem q175 : (Jvm.Cond.selects "CellIndex" ({ cls := "CellIndex", name := "nearest", desc := "(II)I" } : Jvm.MethodName) ({ cls := "CellIndex", name := "nearest", desc := "(II)I" } : Jvm.MethodName)) ∈ lw_all := lw_g (lw_at lw_m1 153 rfl) rfl
theorem q176 : (Jvm.Cond.code ({ cls := "CellIndex", name := "nearest", desc := "(II)I" } : Jvm.MethodName) prog_1_method_29_code (6 : Nat) (Option.some Jvm.ClassFile.FieldType.int)) ∈ lw_all := lw_g (lw_at lw_m1 154 rfl) rfl
theorem q177 : (Jvm.Cond.methodLink "CellIndex" (120 : Nat) ({ cls := "CellIndex", name := "sortFound", desc := "(II)V" } : Jvm.MethodName)) ∈ lw_all := lw_g (lw_at lw_m1 155 rfl) rfl
theorem q178 : (Jvm.Cond.privateMethod ({ cls := "CellIndex", name := "sortFound", desc := "(II)V" } : Jvm.MethodName)) ∈ lw_tbl := lw_at lw_m1 156 rfl
theorem q179 : (Jvm.Cond.instanceMethod ({ cls := "CellIndex", name := "sortFound", desc := "(II)V" } : Jvm.MethodName)) ∈ lw_all := lw_g (lw_at lw_m1 157 rfl) rfl
theorem q180 : (Jvm.Cond.code ({ cls := "CellIndex", name := "sortFound", desc := "(II)V" } : Jvm.MethodName) prog_1_method_28_code (6 : Nat) (Option.none : Option Jvm.ClassFile.FieldType)) ∈ lw_all := lw_g (lw_at lw_m1 158 rfl) rfl
theorem q181 : (Jvm.Cond.methodLink "CellIndex" (116 : Nat) ({ cls := "CellIndex", name := "nearer", desc := "(IIII)Z" } : Jvm.MethodName)) ∈ lw_all := lw_g (lw_at lw_m1 159 rfl) rfl
theorem q182 : (Jvm.Cond.privateMethod ({ cls := "CellIndex", name := "nearer", desc := "(IIII)Z" } : Jvm.MethodName)) ∈ lw_tbl := lw_at lw_m1 160 rfl
theorem q183 : (Jvm.Cond.instanceMethod ({ cls := "CellIndex", name := "nearer", desc := "(IIII)Z" } : Jvm.MethodName)) ∈ lw_all := lw_g (lw_at lw_m1 161 rfl) rfl
theorem q184 : (Jvm.Cond.code ({ cls := "CellIndex", name := "nearer", desc := "(IIII)Z" } : Jvm.MethodName) prog_1_method_27_code (7 : Nat) (Option.some Jvm.ClassFile.FieldType.boolean)) ∈ lw_all := lw_g (lw_at lw_m1 162 rfl) rfl
theorem q186 : (Jvm.Cond.instanceMethod ({ cls := "CellIndex", name := "firstIn", desc := "(II)I" } : Jvm.MethodName)) ∈ lw_all := lw_g (lw_at lw_m1 164 rfl) rfl
theorem q187 : (Jvm.Cond.selects "CellIndex" ({ cls := "CellIndex", name := "firstIn", desc := "(II)I" } : Jvm.MethodName) ({ cls := "CellIndex", name := "firstIn", desc := "(II)I" } : Jvm.MethodName)) ∈ lw_all := lw_g (lw_at lw_m1 165 rfl) rfl
theorem q188 : (Jvm.Cond.code ({ cls := "CellIndex", name := "firstIn", desc := "(II)I" } : Jvm.MethodName) prog_1_method_30_code (5 : Nat) (Option.some Jvm.ClassFile.FieldType.int)) ∈ lw_all := lw_g (lw_at lw_m1 166 rfl) rfl
theorem q190 : (Jvm.Cond.instanceMethod ({ cls := "CellIndex", name := "placeOf", desc := "(I)I" } : Jvm.MethodName)) ∈ lw_all := lw_g (lw_at lw_m1 168 rfl) rfl
theorem q191 : (Jvm.Cond.selects "CellIndex" ({ cls := "CellIndex", name := "placeOf", desc := "(I)I" } : Jvm.MethodName) ({ cls := "CellIndex", name := "placeOf", desc := "(I)I" } : Jvm.MethodName)) ∈ lw_all := lw_g (lw_at lw_m1 169 rfl) rfl
theorem q192 : (Jvm.Cond.code ({ cls := "CellIndex", name := "placeOf", desc := "(I)I" } : Jvm.MethodName) prog_1_method_31_code (2 : Nat) (Option.some Jvm.ClassFile.FieldType.int)) ∈ lw_all := lw_g (lw_at lw_m1 170 rfl) rfl
theorem q194 : (Jvm.Cond.instanceMethod ({ cls := "CellIndex", name := "labelOf", desc := "(I)I" } : Jvm.MethodName)) ∈ lw_all := lw_g (lw_at lw_m1 172 rfl) rfl
theorem q195 : (Jvm.Cond.selects "CellIndex" ({ cls := "CellIndex", name := "labelOf", desc := "(I)I" } : Jvm.MethodName) ({ cls := "CellIndex", name := "labelOf", desc := "(I)I" } : Jvm.MethodName)) ∈ lw_all := lw_g (lw_at lw_m1 173 rfl) rfl
theorem q196 : (Jvm.Cond.code ({ cls := "CellIndex", name := "labelOf", desc := "(I)I" } : Jvm.MethodName) prog_1_method_32_code (2 : Nat) (Option.some Jvm.ClassFile.FieldType.int)) ∈ lw_all := lw_g (lw_at lw_m1 174 rfl) rfl
theorem q198 : (Jvm.Cond.instanceMethod ({ cls := "CellIndex", name := "closest", desc := "()I" } : Jvm.MethodName)) ∈ lw_all := lw_g (lw_at lw_m1 176 rfl) rfl
theorem q199 : (Jvm.Cond.selects "CellIndex" ({ cls := "CellIndex", name := "closest", desc := "()I" } : Jvm.MethodName) ({ cls := "CellIndex", name := "closest", desc := "()I" } : Jvm.MethodName)) ∈ lw_all := lw_g (lw_at lw_m1 177 rfl) rfl
theorem q200 : (Jvm.Cond.code ({ cls := "CellIndex", name := "closest", desc := "()I" } : Jvm.MethodName) prog_1_method_34_code (3 : Nat) (Option.some Jvm.ClassFile.FieldType.int)) ∈ lw_all := lw_g (lw_at lw_m1 178 rfl) rfl
theorem q201 : (Jvm.Cond.methodLink "CellIndex" (123 : Nat) ({ cls := "CellIndex", name := "closestTo", desc := "(II)I" } : Jvm.MethodName)) ∈ lw_all := lw_g (lw_at lw_m1 179 rfl) rfl
theorem q202 : (Jvm.Cond.privateMethod ({ cls := "CellIndex", name := "closestTo", desc := "(II)I" } : Jvm.MethodName)) ∈ lw_tbl := lw_at lw_m1 180 rfl
theorem q203 : (Jvm.Cond.instanceMethod ({ cls := "CellIndex", name := "closestTo", desc := "(II)I" } : Jvm.MethodName)) ∈ lw_all := lw_g (lw_at lw_m1 181 rfl) rfl
theorem q204 : (Jvm.Cond.code ({ cls := "CellIndex", name := "closestTo", desc := "(II)I" } : Jvm.MethodName) prog_1_method_33_code (6 : Nat) (Option.some Jvm.ClassFile.FieldType.int)) ∈ lw_all := lw_g (lw_at lw_m1 182 rfl) rfl
theorem q206 : (Jvm.Cond.instanceMethod ({ cls := "CellIndex", name := "count", desc := "()I" } : Jvm.MethodName)) ∈ lw_all := lw_g (lw_at lw_m1 184 rfl) rfl
theorem q207 : (Jvm.Cond.selects "CellIndex" ({ cls := "CellIndex", name := "count", desc := "()I" } : Jvm.MethodName) ({ cls := "CellIndex", name := "count", desc := "()I" } : Jvm.MethodName)) ∈ lw_all := lw_g (lw_at lw_m1 185 rfl) rfl
theorem q208 : (Jvm.Cond.code ({ cls := "CellIndex", name := "count", desc := "()I" } : Jvm.MethodName) prog_1_method_35_code (1 : Nat) (Option.some Jvm.ClassFile.FieldType.int)) ∈ lw_all := lw_g (lw_at lw_m1 186 rfl) rfl
theorem in_X0 : ∀ w ∈ wsX00, w ∈ lw_all := lw_in wsX00 [47, 49, 51, 53, 55, 57, 59, 61, 63, 65, 67, 69, 71, 73] (by decide +kernel) (by decide +kernel)
/-! CellIndexModel -/
def RX1 : String := "CellIndexModel"
def TX1 : u_T := fun k => match k with
  | 0 => ("CellIndexModel", "there", "[Z", true)
  | 1 => ("CellIndexModel", "places", "[I", true)
  | _ => ("CellIndexModel", "labels", "[I", true)
def tyX1 : Nat → FieldType := fun k => match k with
  | 0 => .array .boolean
  | 1 => .array .int
  | _ => .array .int
abbrev wsX10 : List Cond := u_ws RX1 TX1 3
theorem nmX1 : ∀ a, a < 3 → ∀ b, b < 3 → a ≠ b → (TX1 a).2.1 ≠ (TX1 b).2.1 := by decide +kernel
theorem tyX1_ok : ∀ k, k < 3 → parseFieldDescriptor (TX1 k).2.2.1 = some (tyX1 k) := by decide +kernel
abbrev cX1_init : ByteArray := prog_3_method_1_code
def yX1_init : MethodName := ⟨RX1, "<init>", "()V"⟩
abbrev cX1_add : ByteArray := prog_3_method_4_code
def yX1_add : MethodName := ⟨RX1, "add", "(II)I"⟩
abbrev cX1_isPlace : ByteArray := prog_3_method_2_code
def yX1_isPlace : MethodName := ⟨RX1, "isPlace", "(I)Z"⟩
abbrev cX1_remove : ByteArray := prog_3_method_5_code
def yX1_remove : MethodName := ⟨RX1, "remove", "(I)I"⟩
abbrev cX1_isPoint : ByteArray := prog_3_method_3_code
def yX1_isPoint : MethodName := ⟨RX1, "isPoint", "(I)Z"⟩
abbrev cX1_count : ByteArray := prog_3_method_20_code
def yX1_count : MethodName := ⟨RX1, "count", "()I"⟩
abbrev cX1_move : ByteArray := prog_3_method_6_code
def yX1_move : MethodName := ⟨RX1, "move", "(II)I"⟩
abbrev cX1_clearBox : ByteArray := prog_3_method_9_code
def yX1_clearBox : MethodName := ⟨RX1, "clearBox", "(II)I"⟩
abbrev cX1_countBox : ByteArray := prog_3_method_10_code
def yX1_countBox : MethodName := ⟨RX1, "countBox", "(II)I"⟩
abbrev cX1_inBox : ByteArray := prog_3_method_8_code
def yX1_inBox : MethodName := ⟨RX1, "inBox", "(III)Z"⟩
abbrev cX1_between : ByteArray := prog_3_method_7_code
def yX1_between : MethodName := ⟨RX1, "between", "(III)Z"⟩
abbrev cX1_sumBox : ByteArray := prog_3_method_11_code
def yX1_sumBox : MethodName := ⟨RX1, "sumBox", "(II)I"⟩
abbrev cX1_countNear : ByteArray := prog_3_method_13_code
def yX1_countNear : MethodName := ⟨RX1, "countNear", "(II)I"⟩
abbrev cX1_distance : ByteArray := prog_3_method_12_code
def yX1_distance : MethodName := ⟨RX1, "distance", "(II)I"⟩
abbrev cX1_nearest : ByteArray := prog_3_method_15_code
def yX1_nearest : MethodName := ⟨RX1, "nearest", "(II)I"⟩
abbrev cX1_before : ByteArray := prog_3_method_14_code
def yX1_before : MethodName := ⟨RX1, "before", "(II)I"⟩
abbrev cX1_firstIn : ByteArray := prog_3_method_16_code
def yX1_firstIn : MethodName := ⟨RX1, "firstIn", "(II)I"⟩
abbrev cX1_placeOf : ByteArray := prog_3_method_17_code
def yX1_placeOf : MethodName := ⟨RX1, "placeOf", "(I)I"⟩
abbrev cX1_labelOf : ByteArray := prog_3_method_18_code
def yX1_labelOf : MethodName := ⟨RX1, "labelOf", "(I)I"⟩
abbrev cX1_closest : ByteArray := prog_3_method_19_code
def yX1_closest : MethodName := ⟨RX1, "closest", "()I"⟩
theorem q24 : (Jvm.Cond.initialized "CellIndexModel") ∈ lw_all := lw_g (lw_at lw_m1 2 rfl) rfl
theorem q210 : (Jvm.Cond.instantiable "CellIndexModel" (3 : Nat)) ∈ lw_all := lw_g (lw_at lw_m1 188 rfl) rfl
theorem q212 : (Jvm.Cond.instanceMethod ({ cls := "CellIndexModel", name := "<init>", desc := "()V" } : Jvm.MethodName)) ∈ lw_all := lw_g (lw_at lw_m1 190 rfl) rfl
theorem q213 : (Jvm.Cond.code ({ cls := "CellIndexModel", name := "<init>", desc := "()V" } : Jvm.MethodName) prog_3_method_1_code (1 : Nat) (Option.none : Option Jvm.ClassFile.FieldType)) ∈ lw_all := lw_g (lw_at lw_m1 191 rfl) rfl
theorem q214 : (Jvm.Cond.methodLink "CellIndexModel" (1 : Nat) ({ cls := "java/lang/Object", name := "<init>", desc := "()V" } : Jvm.MethodName)) ∈ lw_all := lw_g (lw_at lw_m1 192 rfl) rfl
theorem q215 : (Jvm.Cond.fieldLink "CellIndexModel" (7 : Nat) "CellIndexModel" "there" "[Z") ∈ lw_all := lw_g (lw_at lw_m1 193 rfl) rfl
theorem q216 : (Jvm.Cond.fieldLink "CellIndexModel" (13 : Nat) "CellIndexModel" "places" "[I") ∈ lw_all := lw_g (lw_at lw_m1 194 rfl) rfl
theorem q217 : (Jvm.Cond.fieldLink "CellIndexModel" (17 : Nat) "CellIndexModel" "labels" "[I") ∈ lw_all := lw_g (lw_at lw_m1 195 rfl) rfl
theorem q218 : (Jvm.Cond.laysFinal "CellIndexModel" "CellIndexModel" "there" "[Z") ∈ lw_all := lw_g (lw_at lw_m1 196 rfl) rfl
theorem q219 : (Jvm.Cond.soleField "CellIndexModel" "there") ∈ lw_all := lw_g (lw_at lw_m1 197 rfl) rfl
theorem q220 : (Jvm.Cond.laysFinal "CellIndexModel" "CellIndexModel" "places" "[I") ∈ lw_all := lw_g (lw_at lw_m1 198 rfl) rfl
theorem q221 : (Jvm.Cond.soleField "CellIndexModel" "places") ∈ lw_all := lw_g (lw_at lw_m1 199 rfl) rfl
theorem q222 : (Jvm.Cond.laysFinal "CellIndexModel" "CellIndexModel" "labels" "[I") ∈ lw_all := lw_g (lw_at lw_m1 200 rfl) rfl
theorem q223 : (Jvm.Cond.soleField "CellIndexModel" "labels") ∈ lw_all := lw_g (lw_at lw_m1 201 rfl) rfl
theorem q224 : (Jvm.Cond.superclass "CellIndexModel" "java/lang/Object") ∈ lw_all := lw_g (lw_at lw_m1 202 rfl) rfl
theorem q226 : (Jvm.Cond.instanceMethod ({ cls := "CellIndexModel", name := "add", desc := "(II)I" } : Jvm.MethodName)) ∈ lw_all := lw_g (lw_at lw_m1 204 rfl) rfl
theorem q227 : (Jvm.Cond.selects "CellIndexModel" ({ cls := "CellIndexModel", name := "add", desc := "(II)I" } : Jvm.MethodName) ({ cls := "CellIndexModel", name := "add", desc := "(II)I" } : Jvm.MethodName)) ∈ lw_all := lw_g (lw_at lw_m1 205 rfl) rfl
theorem q228 : (Jvm.Cond.code ({ cls := "CellIndexModel", name := "add", desc := "(II)I" } : Jvm.MethodName) prog_3_method_4_code (4 : Nat) (Option.some Jvm.ClassFile.FieldType.int)) ∈ lw_all := lw_g (lw_at lw_m1 206 rfl) rfl
theorem q229 : (Jvm.Cond.methodLink "CellIndexModel" (20 : Nat) ({ cls := "CellIndexModel", name := "isPlace", desc := "(I)Z" } : Jvm.MethodName)) ∈ lw_all := lw_g (lw_at lw_m1 207 rfl) rfl
theorem q230 : (Jvm.Cond.privateMethod ({ cls := "CellIndexModel", name := "isPlace", desc := "(I)Z" } : Jvm.MethodName)) ∈ lw_tbl := lw_at lw_m1 208 rfl
theorem q231 : (Jvm.Cond.instanceMethod ({ cls := "CellIndexModel", name := "isPlace", desc := "(I)Z" } : Jvm.MethodName)) ∈ lw_all := lw_g (lw_at lw_m1 209 rfl) rfl
theorem q232 : (Jvm.Cond.code ({ cls := "CellIndexModel", name := "isPlace", desc := "(I)Z" } : Jvm.MethodName) prog_3_method_2_code (2 : Nat) (Option.some Jvm.ClassFile.FieldType.boolean)) ∈ lw_all := lw_g (lw_at lw_m1 210 rfl) rfl
theorem q234 : (Jvm.Cond.instanceMethod ({ cls := "CellIndexModel", name := "remove", desc := "(I)I" } : Jvm.MethodName)) ∈ lw_all := lw_g (lw_at lw_m1 212 rfl) rfl
theorem q235 : (Jvm.Cond.selects "CellIndexModel" ({ cls := "CellIndexModel", name := "remove", desc := "(I)I" } : Jvm.MethodName) ({ cls := "CellIndexModel", name := "remove", desc := "(I)I" } : Jvm.MethodName)) ∈ lw_all := lw_g (lw_at lw_m1 213 rfl) rfl
theorem q236 : (Jvm.Cond.code ({ cls := "CellIndexModel", name := "remove", desc := "(I)I" } : Jvm.MethodName) prog_3_method_5_code (2 : Nat) (Option.some Jvm.ClassFile.FieldType.int)) ∈ lw_all := lw_g (lw_at lw_m1 214 rfl) rfl
theorem q237 : (Jvm.Cond.methodLink "CellIndexModel" (24 : Nat) ({ cls := "CellIndexModel", name := "isPoint", desc := "(I)Z" } : Jvm.MethodName)) ∈ lw_all := lw_g (lw_at lw_m1 215 rfl) rfl
theorem q238 : (Jvm.Cond.privateMethod ({ cls := "CellIndexModel", name := "isPoint", desc := "(I)Z" } : Jvm.MethodName)) ∈ lw_tbl := lw_at lw_m1 216 rfl
theorem q239 : (Jvm.Cond.instanceMethod ({ cls := "CellIndexModel", name := "isPoint", desc := "(I)Z" } : Jvm.MethodName)) ∈ lw_all := lw_g (lw_at lw_m1 217 rfl) rfl
theorem q240 : (Jvm.Cond.code ({ cls := "CellIndexModel", name := "isPoint", desc := "(I)Z" } : Jvm.MethodName) prog_3_method_3_code (2 : Nat) (Option.some Jvm.ClassFile.FieldType.boolean)) ∈ lw_all := lw_g (lw_at lw_m1 218 rfl) rfl
theorem q241 : (Jvm.Cond.methodLink "CellIndexModel" (27 : Nat) ({ cls := "CellIndexModel", name := "count", desc := "()I" } : Jvm.MethodName)) ∈ lw_all := lw_g (lw_at lw_m1 219 rfl) rfl
theorem q242 : (Jvm.Cond.instanceMethod ({ cls := "CellIndexModel", name := "count", desc := "()I" } : Jvm.MethodName)) ∈ lw_all := lw_g (lw_at lw_m1 220 rfl) rfl
theorem q243 : (Jvm.Cond.selects "CellIndexModel" ({ cls := "CellIndexModel", name := "count", desc := "()I" } : Jvm.MethodName) ({ cls := "CellIndexModel", name := "count", desc := "()I" } : Jvm.MethodName)) ∈ lw_all := lw_g (lw_at lw_m1 221 rfl) rfl
theorem q244 : (Jvm.Cond.code ({ cls := "CellIndexModel", name := "count", desc := "()I" } : Jvm.MethodName) prog_3_method_20_code (3 : Nat) (Option.some Jvm.ClassFile.FieldType.int)) ∈ lw_all := lw_g (lw_at lw_m1 222 rfl) rfl
theorem q246 : (Jvm.Cond.instanceMethod ({ cls := "CellIndexModel", name := "move", desc := "(II)I" } : Jvm.MethodName)) ∈ lw_all := lw_g (lw_at lw_m1 224 rfl) rfl
theorem q247 : (Jvm.Cond.selects "CellIndexModel" ({ cls := "CellIndexModel", name := "move", desc := "(II)I" } : Jvm.MethodName) ({ cls := "CellIndexModel", name := "move", desc := "(II)I" } : Jvm.MethodName)) ∈ lw_all := lw_g (lw_at lw_m1 225 rfl) rfl
theorem q248 : (Jvm.Cond.code ({ cls := "CellIndexModel", name := "move", desc := "(II)I" } : Jvm.MethodName) prog_3_method_6_code (4 : Nat) (Option.some Jvm.ClassFile.FieldType.int)) ∈ lw_all := lw_g (lw_at lw_m1 226 rfl) rfl
theorem q250 : (Jvm.Cond.instanceMethod ({ cls := "CellIndexModel", name := "clearBox", desc := "(II)I" } : Jvm.MethodName)) ∈ lw_all := lw_g (lw_at lw_m1 228 rfl) rfl
theorem q251 : (Jvm.Cond.selects "CellIndexModel" ({ cls := "CellIndexModel", name := "clearBox", desc := "(II)I" } : Jvm.MethodName) ({ cls := "CellIndexModel", name := "clearBox", desc := "(II)I" } : Jvm.MethodName)) ∈ lw_all := lw_g (lw_at lw_m1 229 rfl) rfl
theorem q252 : (Jvm.Cond.code ({ cls := "CellIndexModel", name := "clearBox", desc := "(II)I" } : Jvm.MethodName) prog_3_method_9_code (5 : Nat) (Option.some Jvm.ClassFile.FieldType.int)) ∈ lw_all := lw_g (lw_at lw_m1 230 rfl) rfl
theorem q253 : (Jvm.Cond.methodLink "CellIndexModel" (35 : Nat) ({ cls := "CellIndexModel", name := "countBox", desc := "(II)I" } : Jvm.MethodName)) ∈ lw_all := lw_g (lw_at lw_m1 231 rfl) rfl
theorem q254 : (Jvm.Cond.instanceMethod ({ cls := "CellIndexModel", name := "countBox", desc := "(II)I" } : Jvm.MethodName)) ∈ lw_all := lw_g (lw_at lw_m1 232 rfl) rfl
theorem q255 : (Jvm.Cond.selects "CellIndexModel" ({ cls := "CellIndexModel", name := "countBox", desc := "(II)I" } : Jvm.MethodName) ({ cls := "CellIndexModel", name := "countBox", desc := "(II)I" } : Jvm.MethodName)) ∈ lw_all := lw_g (lw_at lw_m1 233 rfl) rfl
theorem q256 : (Jvm.Cond.code ({ cls := "CellIndexModel", name := "countBox", desc := "(II)I" } : Jvm.MethodName) prog_3_method_10_code (5 : Nat) (Option.some Jvm.ClassFile.FieldType.int)) ∈ lw_all := lw_g (lw_at lw_m1 234 rfl) rfl
theorem q257 : (Jvm.Cond.methodLink "CellIndexModel" (39 : Nat) ({ cls := "CellIndexModel", name := "inBox", desc := "(III)Z" } : Jvm.MethodName)) ∈ lw_all := lw_g (lw_at lw_m1 235 rfl) rfl
theorem q258 : (Jvm.Cond.privateMethod ({ cls := "CellIndexModel", name := "inBox", desc := "(III)Z" } : Jvm.MethodName)) ∈ lw_tbl := lw_at lw_m1 236 rfl
theorem q259 : (Jvm.Cond.instanceMethod ({ cls := "CellIndexModel", name := "inBox", desc := "(III)Z" } : Jvm.MethodName)) ∈ lw_all := lw_g (lw_at lw_m1 237 rfl) rfl
theorem q260 : (Jvm.Cond.code ({ cls := "CellIndexModel", name := "inBox", desc := "(III)Z" } : Jvm.MethodName) prog_3_method_8_code (4 : Nat) (Option.some Jvm.ClassFile.FieldType.boolean)) ∈ lw_all := lw_g (lw_at lw_m1 238 rfl) rfl
theorem q261 : (Jvm.Cond.methodLink "CellIndexModel" (31 : Nat) ({ cls := "CellIndexModel", name := "between", desc := "(III)Z" } : Jvm.MethodName)) ∈ lw_all := lw_g (lw_at lw_m1 239 rfl) rfl
theorem q262 : (Jvm.Cond.privateMethod ({ cls := "CellIndexModel", name := "between", desc := "(III)Z" } : Jvm.MethodName)) ∈ lw_tbl := lw_at lw_m2 0 rfl
theorem q263 : (Jvm.Cond.instanceMethod ({ cls := "CellIndexModel", name := "between", desc := "(III)Z" } : Jvm.MethodName)) ∈ lw_all := lw_g (lw_at lw_m2 1 rfl) rfl
theorem q264 : (Jvm.Cond.code ({ cls := "CellIndexModel", name := "between", desc := "(III)Z" } : Jvm.MethodName) prog_3_method_7_code (4 : Nat) (Option.some Jvm.ClassFile.FieldType.boolean)) ∈ lw_all := lw_g (lw_at lw_m2 2 rfl) rfl
theorem q267 : (Jvm.Cond.instanceMethod ({ cls := "CellIndexModel", name := "sumBox", desc := "(II)I" } : Jvm.MethodName)) ∈ lw_all := lw_g (lw_at lw_m2 5 rfl) rfl
theorem q268 : (Jvm.Cond.selects "CellIndexModel" ({ cls := "CellIndexModel", name := "sumBox", desc := "(II)I" } : Jvm.MethodName) ({ cls := "CellIndexModel", name := "sumBox", desc := "(II)I" } : Jvm.MethodName)) ∈ lw_all := lw_g (lw_at lw_m2 6 rfl) rfl
theorem q269 : (Jvm.Cond.code ({ cls := "CellIndexModel", name := "sumBox", desc := "(II)I" } : Jvm.MethodName) prog_3_method_11_code (5 : Nat) (Option.some Jvm.ClassFile.FieldType.int)) ∈ lw_all := lw_g (lw_at lw_m2 7 rfl) rfl
theorem q271 : (Jvm.Cond.instanceMethod ({ cls := "CellIndexModel", name := "countNear", desc := "(II)I" } : Jvm.MethodName)) ∈ lw_all := lw_g (lw_at lw_m2 9 rfl) rfl
theorem q272 : (Jvm.Cond.selects "CellIndexModel" ({ cls := "CellIndexModel", name := "countNear", desc := "(II)I" } : Jvm.MethodName) ({ cls := "CellIndexModel", name := "countNear", desc := "(II)I" } : Jvm.MethodName)) ∈ lw_all := lw_g (lw_at lw_m2 10 rfl) rfl
theorem q273 : (Jvm.Cond.code ({ cls := "CellIndexModel", name := "countNear", desc := "(II)I" } : Jvm.MethodName) prog_3_method_13_code (5 : Nat) (Option.some Jvm.ClassFile.FieldType.int)) ∈ lw_all := lw_g (lw_at lw_m2 11 rfl) rfl
theorem q274 : (Jvm.Cond.methodLink "CellIndexModel" (42 : Nat) ({ cls := "CellIndexModel", name := "distance", desc := "(II)I" } : Jvm.MethodName)) ∈ lw_all := lw_g (lw_at lw_m2 12 rfl) rfl
theorem q275 : (Jvm.Cond.privateMethod ({ cls := "CellIndexModel", name := "distance", desc := "(II)I" } : Jvm.MethodName)) ∈ lw_tbl := lw_at lw_m2 13 rfl
theorem q276 : (Jvm.Cond.instanceMethod ({ cls := "CellIndexModel", name := "distance", desc := "(II)I" } : Jvm.MethodName)) ∈ lw_all := lw_g (lw_at lw_m2 14 rfl) rfl
theorem q277 : (Jvm.Cond.code ({ cls := "CellIndexModel", name := "distance", desc := "(II)I" } : Jvm.MethodName) prog_3_method_12_code (5 : Nat) (Option.some Jvm.ClassFile.FieldType.int)) ∈ lw_all := lw_g (lw_at lw_m2 15 rfl) rfl
theorem q279 : (Jvm.Cond.instanceMethod ({ cls := "CellIndexModel", name := "nearest", desc := "(II)I" } : Jvm.MethodName)) ∈ lw_all := lw_g (lw_at lw_m2 17 rfl) rfl
theorem q280 : (Jvm.Cond.selects "CellIndexModel" ({ cls := "CellIndexModel", name := "nearest", desc := "(II)I" } : Jvm.MethodName) ({ cls := "CellIndexModel", name := "nearest", desc := "(II)I" } : Jvm.MethodName)) ∈ lw_all := lw_g (lw_at lw_m2 18 rfl) rfl
theorem q281 : (Jvm.Cond.code ({ cls := "CellIndexModel", name := "nearest", desc := "(II)I" } : Jvm.MethodName) prog_3_method_15_code (4 : Nat) (Option.some Jvm.ClassFile.FieldType.int)) ∈ lw_all := lw_g (lw_at lw_m2 19 rfl) rfl
theorem q282 : (Jvm.Cond.methodLink "CellIndexModel" (45 : Nat) ({ cls := "CellIndexModel", name := "before", desc := "(II)I" } : Jvm.MethodName)) ∈ lw_all := lw_g (lw_at lw_m2 20 rfl) rfl
theorem q283 : (Jvm.Cond.privateMethod ({ cls := "CellIndexModel", name := "before", desc := "(II)I" } : Jvm.MethodName)) ∈ lw_tbl := lw_at lw_m2 21 rfl
theorem q284 : (Jvm.Cond.instanceMethod ({ cls := "CellIndexModel", name := "before", desc := "(II)I" } : Jvm.MethodName)) ∈ lw_all := lw_g (lw_at lw_m2 22 rfl) rfl
theorem q285 : (Jvm.Cond.code ({ cls := "CellIndexModel", name := "before", desc := "(II)I" } : Jvm.MethodName) prog_3_method_14_code (7 : Nat) (Option.some Jvm.ClassFile.FieldType.int)) ∈ lw_all := lw_g (lw_at lw_m2 23 rfl) rfl
theorem q287 : (Jvm.Cond.instanceMethod ({ cls := "CellIndexModel", name := "firstIn", desc := "(II)I" } : Jvm.MethodName)) ∈ lw_all := lw_g (lw_at lw_m2 25 rfl) rfl
theorem q288 : (Jvm.Cond.selects "CellIndexModel" ({ cls := "CellIndexModel", name := "firstIn", desc := "(II)I" } : Jvm.MethodName) ({ cls := "CellIndexModel", name := "firstIn", desc := "(II)I" } : Jvm.MethodName)) ∈ lw_all := lw_g (lw_at lw_m2 26 rfl) rfl
theorem q289 : (Jvm.Cond.code ({ cls := "CellIndexModel", name := "firstIn", desc := "(II)I" } : Jvm.MethodName) prog_3_method_16_code (4 : Nat) (Option.some Jvm.ClassFile.FieldType.int)) ∈ lw_all := lw_g (lw_at lw_m2 27 rfl) rfl
theorem q291 : (Jvm.Cond.instanceMethod ({ cls := "CellIndexModel", name := "placeOf", desc := "(I)I" } : Jvm.MethodName)) ∈ lw_all := lw_g (lw_at lw_m2 29 rfl) rfl
theorem q292 : (Jvm.Cond.selects "CellIndexModel" ({ cls := "CellIndexModel", name := "placeOf", desc := "(I)I" } : Jvm.MethodName) ({ cls := "CellIndexModel", name := "placeOf", desc := "(I)I" } : Jvm.MethodName)) ∈ lw_all := lw_g (lw_at lw_m2 30 rfl) rfl
theorem q293 : (Jvm.Cond.code ({ cls := "CellIndexModel", name := "placeOf", desc := "(I)I" } : Jvm.MethodName) prog_3_method_17_code (2 : Nat) (Option.some Jvm.ClassFile.FieldType.int)) ∈ lw_all := lw_g (lw_at lw_m2 31 rfl) rfl
theorem q295 : (Jvm.Cond.instanceMethod ({ cls := "CellIndexModel", name := "labelOf", desc := "(I)I" } : Jvm.MethodName)) ∈ lw_all := lw_g (lw_at lw_m2 33 rfl) rfl
theorem q296 : (Jvm.Cond.selects "CellIndexModel" ({ cls := "CellIndexModel", name := "labelOf", desc := "(I)I" } : Jvm.MethodName) ({ cls := "CellIndexModel", name := "labelOf", desc := "(I)I" } : Jvm.MethodName)) ∈ lw_all := lw_g (lw_at lw_m2 34 rfl) rfl
theorem q297 : (Jvm.Cond.code ({ cls := "CellIndexModel", name := "labelOf", desc := "(I)I" } : Jvm.MethodName) prog_3_method_18_code (2 : Nat) (Option.some Jvm.ClassFile.FieldType.int)) ∈ lw_all := lw_g (lw_at lw_m2 35 rfl) rfl
theorem q299 : (Jvm.Cond.instanceMethod ({ cls := "CellIndexModel", name := "closest", desc := "()I" } : Jvm.MethodName)) ∈ lw_all := lw_g (lw_at lw_m2 37 rfl) rfl
theorem q300 : (Jvm.Cond.selects "CellIndexModel" ({ cls := "CellIndexModel", name := "closest", desc := "()I" } : Jvm.MethodName) ({ cls := "CellIndexModel", name := "closest", desc := "()I" } : Jvm.MethodName)) ∈ lw_all := lw_g (lw_at lw_m2 38 rfl) rfl
theorem q301 : (Jvm.Cond.code ({ cls := "CellIndexModel", name := "closest", desc := "()I" } : Jvm.MethodName) prog_3_method_19_code (6 : Nat) (Option.some Jvm.ClassFile.FieldType.int)) ∈ lw_all := lw_g (lw_at lw_m2 39 rfl) rfl
theorem in_X1 : ∀ w ∈ wsX10, w ∈ lw_all := lw_in wsX10 [218, 220, 222] (by decide +kernel) (by decide +kernel)
/-! java/lang/Object -/
def RJ0 : String := "java/lang/Object"
abbrev cJ0_init : ByteArray := object_method_1_code
def yJ0_init : MethodName := ⟨RJ0, "<init>", "()V"⟩
theorem q31 : (Jvm.Cond.instanceMethod ({ cls := "java/lang/Object", name := "<init>", desc := "()V" } : Jvm.MethodName)) ∈ lw_all := lw_g (lw_at lw_m1 9 rfl) rfl
theorem q32 : (Jvm.Cond.code ({ cls := "java/lang/Object", name := "<init>", desc := "()V" } : Jvm.MethodName) object_method_1_code (1 : Nat) (Option.none : Option Jvm.ClassFile.FieldType)) ∈ lw_all := lw_g (lw_at lw_m1 10 rfl) rfl
theorem q76 : (Jvm.Cond.arrayClass Jvm.ClassFile.FieldType.boolean) ∈ lw_all := lw_g (lw_at lw_m1 54 rfl) rfl
theorem q77 : (Jvm.Cond.arrayClass Jvm.ClassFile.FieldType.int) ∈ lw_all := lw_g (lw_at lw_m1 55 rfl) rfl
theorem q22 : (Jvm.Cond.initialized "CellIndexLaw") ∈ lw_all := lw_g (lw_at lw_m1 0 rfl) rfl
theorem q25 : (Jvm.Cond.classLink "CellIndexLaw" (7 : Nat) "CellIndex") ∈ lw_all := lw_g (lw_at lw_m1 3 rfl) rfl
theorem q27 : (Jvm.Cond.methodLink "CellIndexLaw" (9 : Nat) ({ cls := "CellIndex", name := "<init>", desc := "()V" } : Jvm.MethodName)) ∈ lw_all := lw_g (lw_at lw_m1 5 rfl) rfl
theorem q78 : (Jvm.Cond.methodLink "CellIndexLaw" (13 : Nat) ({ cls := "CellIndex", name := "add", desc := "(II)I" } : Jvm.MethodName)) ∈ lw_all := lw_g (lw_at lw_m1 56 rfl) rfl
theorem q100 : (Jvm.Cond.methodLink "CellIndexLaw" (18 : Nat) ({ cls := "CellIndex", name := "remove", desc := "(I)I" } : Jvm.MethodName)) ∈ lw_all := lw_g (lw_at lw_m1 78 rfl) rfl
theorem q116 : (Jvm.Cond.methodLink "CellIndexLaw" (23 : Nat) ({ cls := "CellIndex", name := "move", desc := "(II)I" } : Jvm.MethodName)) ∈ lw_all := lw_g (lw_at lw_m1 94 rfl) rfl
theorem q120 : (Jvm.Cond.methodLink "CellIndexLaw" (27 : Nat) ({ cls := "CellIndex", name := "clearBox", desc := "(II)I" } : Jvm.MethodName)) ∈ lw_all := lw_g (lw_at lw_m1 98 rfl) rfl
theorem q147 : (Jvm.Cond.methodLink "CellIndexLaw" (31 : Nat) ({ cls := "CellIndex", name := "countBox", desc := "(II)I" } : Jvm.MethodName)) ∈ lw_all := lw_g (lw_at lw_m1 125 rfl) rfl
theorem q151 : (Jvm.Cond.methodLink "CellIndexLaw" (35 : Nat) ({ cls := "CellIndex", name := "sumBox", desc := "(II)I" } : Jvm.MethodName)) ∈ lw_all := lw_g (lw_at lw_m1 129 rfl) rfl
theorem q155 : (Jvm.Cond.methodLink "CellIndexLaw" (39 : Nat) ({ cls := "CellIndex", name := "countNear", desc := "(II)I" } : Jvm.MethodName)) ∈ lw_all := lw_g (lw_at lw_m1 133 rfl) rfl
theorem q173 : (Jvm.Cond.methodLink "CellIndexLaw" (43 : Nat) ({ cls := "CellIndex", name := "nearest", desc := "(II)I" } : Jvm.MethodName)) ∈ lw_all := lw_g (lw_at lw_m1 151 rfl) rfl
theorem q185 : (Jvm.Cond.methodLink "CellIndexLaw" (47 : Nat) ({ cls := "CellIndex", name := "firstIn", desc := "(II)I" } : Jvm.MethodName)) ∈ lw_all := lw_g (lw_at lw_m1 163 rfl) rfl
theorem q189 : (Jvm.Cond.methodLink "CellIndexLaw" (51 : Nat) ({ cls := "CellIndex", name := "placeOf", desc := "(I)I" } : Jvm.MethodName)) ∈ lw_all := lw_g (lw_at lw_m1 167 rfl) rfl
theorem q193 : (Jvm.Cond.methodLink "CellIndexLaw" (55 : Nat) ({ cls := "CellIndex", name := "labelOf", desc := "(I)I" } : Jvm.MethodName)) ∈ lw_all := lw_g (lw_at lw_m1 171 rfl) rfl
theorem q197 : (Jvm.Cond.methodLink "CellIndexLaw" (59 : Nat) ({ cls := "CellIndex", name := "closest", desc := "()I" } : Jvm.MethodName)) ∈ lw_all := lw_g (lw_at lw_m1 175 rfl) rfl
theorem q205 : (Jvm.Cond.methodLink "CellIndexLaw" (64 : Nat) ({ cls := "CellIndex", name := "count", desc := "()I" } : Jvm.MethodName)) ∈ lw_all := lw_g (lw_at lw_m1 183 rfl) rfl
theorem q209 : (Jvm.Cond.classLink "CellIndexLaw" (10 : Nat) "CellIndexModel") ∈ lw_all := lw_g (lw_at lw_m1 187 rfl) rfl
theorem q211 : (Jvm.Cond.methodLink "CellIndexLaw" (12 : Nat) ({ cls := "CellIndexModel", name := "<init>", desc := "()V" } : Jvm.MethodName)) ∈ lw_all := lw_g (lw_at lw_m1 189 rfl) rfl
theorem q225 : (Jvm.Cond.methodLink "CellIndexLaw" (17 : Nat) ({ cls := "CellIndexModel", name := "add", desc := "(II)I" } : Jvm.MethodName)) ∈ lw_all := lw_g (lw_at lw_m1 203 rfl) rfl
theorem q233 : (Jvm.Cond.methodLink "CellIndexLaw" (22 : Nat) ({ cls := "CellIndexModel", name := "remove", desc := "(I)I" } : Jvm.MethodName)) ∈ lw_all := lw_g (lw_at lw_m1 211 rfl) rfl
theorem q245 : (Jvm.Cond.methodLink "CellIndexLaw" (26 : Nat) ({ cls := "CellIndexModel", name := "move", desc := "(II)I" } : Jvm.MethodName)) ∈ lw_all := lw_g (lw_at lw_m1 223 rfl) rfl
theorem q249 : (Jvm.Cond.methodLink "CellIndexLaw" (30 : Nat) ({ cls := "CellIndexModel", name := "clearBox", desc := "(II)I" } : Jvm.MethodName)) ∈ lw_all := lw_g (lw_at lw_m1 227 rfl) rfl
theorem q265 : (Jvm.Cond.methodLink "CellIndexLaw" (34 : Nat) ({ cls := "CellIndexModel", name := "countBox", desc := "(II)I" } : Jvm.MethodName)) ∈ lw_all := lw_g (lw_at lw_m2 3 rfl) rfl
theorem q266 : (Jvm.Cond.methodLink "CellIndexLaw" (38 : Nat) ({ cls := "CellIndexModel", name := "sumBox", desc := "(II)I" } : Jvm.MethodName)) ∈ lw_all := lw_g (lw_at lw_m2 4 rfl) rfl
theorem q270 : (Jvm.Cond.methodLink "CellIndexLaw" (42 : Nat) ({ cls := "CellIndexModel", name := "countNear", desc := "(II)I" } : Jvm.MethodName)) ∈ lw_all := lw_g (lw_at lw_m2 8 rfl) rfl
theorem q278 : (Jvm.Cond.methodLink "CellIndexLaw" (46 : Nat) ({ cls := "CellIndexModel", name := "nearest", desc := "(II)I" } : Jvm.MethodName)) ∈ lw_all := lw_g (lw_at lw_m2 16 rfl) rfl
theorem q286 : (Jvm.Cond.methodLink "CellIndexLaw" (50 : Nat) ({ cls := "CellIndexModel", name := "firstIn", desc := "(II)I" } : Jvm.MethodName)) ∈ lw_all := lw_g (lw_at lw_m2 24 rfl) rfl
theorem q290 : (Jvm.Cond.methodLink "CellIndexLaw" (54 : Nat) ({ cls := "CellIndexModel", name := "placeOf", desc := "(I)I" } : Jvm.MethodName)) ∈ lw_all := lw_g (lw_at lw_m2 28 rfl) rfl
theorem q294 : (Jvm.Cond.methodLink "CellIndexLaw" (58 : Nat) ({ cls := "CellIndexModel", name := "labelOf", desc := "(I)I" } : Jvm.MethodName)) ∈ lw_all := lw_g (lw_at lw_m2 32 rfl) rfl
theorem q298 : (Jvm.Cond.methodLink "CellIndexLaw" (63 : Nat) ({ cls := "CellIndexModel", name := "closest", desc := "()I" } : Jvm.MethodName)) ∈ lw_all := lw_g (lw_at lw_m2 36 rfl) rfl
theorem q302 : (Jvm.Cond.methodLink "CellIndexLaw" (67 : Nat) ({ cls := "CellIndexModel", name := "count", desc := "()I" } : Jvm.MethodName)) ∈ lw_all := lw_g (lw_at lw_m2 40 rfl) rfl
end
section
set_option maxRecDepth 100000
theorem dX0_init_0 : decode cX0_init 0 = .ok (.aload_n 0, 1) := by decide +kernel
theorem dX0_init_1 : decode cX0_init 1 = .ok (.invokespecial 1, 3) := by decide +kernel
theorem dX0_init_4 : decode cX0_init 4 = .ok (.aload_n 0, 1) := by decide +kernel
theorem dX0_init_5 : decode cX0_init 5 = .ok (.bipush 40, 2) := by decide +kernel
theorem dX0_init_7 : decode cX0_init 7 = .ok (.newarray .boolean, 2) := by decide +kernel
theorem dX0_init_9 : decode cX0_init 9 = .ok (.putfield 7, 3) := by decide +kernel
theorem dX0_init_12 : decode cX0_init 12 = .ok (.aload_n 0, 1) := by decide +kernel
theorem dX0_init_13 : decode cX0_init 13 = .ok (.bipush 40, 2) := by decide +kernel
theorem dX0_init_15 : decode cX0_init 15 = .ok (.newarray .int, 2) := by decide +kernel
theorem dX0_init_17 : decode cX0_init 17 = .ok (.putfield 13, 3) := by decide +kernel
theorem dX0_init_20 : decode cX0_init 20 = .ok (.aload_n 0, 1) := by decide +kernel
theorem dX0_init_21 : decode cX0_init 21 = .ok (.bipush 40, 2) := by decide +kernel
theorem dX0_init_23 : decode cX0_init 23 = .ok (.newarray .int, 2) := by decide +kernel
theorem dX0_init_25 : decode cX0_init 25 = .ok (.putfield 17, 3) := by decide +kernel
theorem dX0_init_28 : decode cX0_init 28 = .ok (.aload_n 0, 1) := by decide +kernel
theorem dX0_init_29 : decode cX0_init 29 = .ok (.bipush 40, 2) := by decide +kernel
theorem dX0_init_31 : decode cX0_init 31 = .ok (.newarray .int, 2) := by decide +kernel
theorem dX0_init_33 : decode cX0_init 33 = .ok (.putfield 20, 3) := by decide +kernel
theorem dX0_init_36 : decode cX0_init 36 = .ok (.aload_n 0, 1) := by decide +kernel
theorem dX0_init_37 : decode cX0_init 37 = .ok (.bipush 40, 2) := by decide +kernel
theorem dX0_init_39 : decode cX0_init 39 = .ok (.newarray .int, 2) := by decide +kernel
theorem dX0_init_41 : decode cX0_init 41 = .ok (.putfield 23, 3) := by decide +kernel
theorem dX0_init_44 : decode cX0_init 44 = .ok (.aload_n 0, 1) := by decide +kernel
theorem dX0_init_45 : decode cX0_init 45 = .ok (.bipush 40, 2) := by decide +kernel
theorem dX0_init_47 : decode cX0_init 47 = .ok (.newarray .int, 2) := by decide +kernel
theorem dX0_init_49 : decode cX0_init 49 = .ok (.putfield 26, 3) := by decide +kernel
theorem dX0_init_52 : decode cX0_init 52 = .ok (.aload_n 0, 1) := by decide +kernel
theorem dX0_init_53 : decode cX0_init 53 = .ok (.iconst 0, 1) := by decide +kernel
theorem dX0_init_54 : decode cX0_init 54 = .ok (.putfield 29, 3) := by decide +kernel
theorem dX0_init_57 : decode cX0_init 57 = .ok (.return_, 1) := by decide +kernel
theorem dX0_add_0 : decode cX0_add 0 = .ok (.iload_n 1, 1) := by decide +kernel
theorem dX0_add_1 : decode cX0_add 1 = .ok (.invokestatic 44, 3) := by decide +kernel
theorem dX0_add_4 : decode cX0_add 4 = .ok (.ifCond .eq 5, 3) := by decide +kernel
theorem dX0_add_7 : decode cX0_add 7 = .ok (.iconst (-1), 1) := by decide +kernel
theorem dX0_add_8 : decode cX0_add 8 = .ok (.ireturn, 1) := by decide +kernel
theorem dX0_add_9 : decode cX0_add 9 = .ok (.aload_n 0, 1) := by decide +kernel
theorem dX0_add_10 : decode cX0_add 10 = .ok (.getfield 29, 3) := by decide +kernel
theorem dX0_add_13 : decode cX0_add 13 = .ok (.bipush 40, 2) := by decide +kernel
theorem dX0_add_15 : decode cX0_add 15 = .ok (.if_icmp .lt 6, 3) := by decide +kernel
theorem dX0_add_18 : decode cX0_add 18 = .ok (.bipush (-2), 2) := by decide +kernel
theorem dX0_add_20 : decode cX0_add 20 = .ok (.ireturn, 1) := by decide +kernel
theorem dX0_add_21 : decode cX0_add 21 = .ok (.iconst 0, 1) := by decide +kernel
theorem dX0_add_22 : decode cX0_add 22 = .ok (.istore_n 3, 1) := by decide +kernel
theorem dX0_add_23 : decode cX0_add 23 = .ok (.iload_n 3, 1) := by decide +kernel
theorem dX0_add_24 : decode cX0_add 24 = .ok (.bipush 39, 2) := by decide +kernel
theorem dX0_add_26 : decode cX0_add 26 = .ok (.if_icmp .ge 18, 3) := by decide +kernel
theorem dX0_add_29 : decode cX0_add 29 = .ok (.aload_n 0, 1) := by decide +kernel
theorem dX0_add_30 : decode cX0_add 30 = .ok (.getfield 7, 3) := by decide +kernel
theorem dX0_add_33 : decode cX0_add 33 = .ok (.iload_n 3, 1) := by decide +kernel
theorem dX0_add_34 : decode cX0_add 34 = .ok (.baload, 1) := by decide +kernel
theorem dX0_add_35 : decode cX0_add 35 = .ok (.ifCond .eq 9, 3) := by decide +kernel
theorem dX0_add_38 : decode cX0_add 38 = .ok (.iinc 3 1, 3) := by decide +kernel
theorem dX0_add_41 : decode cX0_add 41 = .ok (.goto (-18), 3) := by decide +kernel
theorem dX0_add_44 : decode cX0_add 44 = .ok (.aload_n 0, 1) := by decide +kernel
theorem dX0_add_45 : decode cX0_add 45 = .ok (.getfield 7, 3) := by decide +kernel
theorem dX0_add_48 : decode cX0_add 48 = .ok (.iload_n 3, 1) := by decide +kernel
theorem dX0_add_49 : decode cX0_add 49 = .ok (.iconst 1, 1) := by decide +kernel
theorem dX0_add_50 : decode cX0_add 50 = .ok (.bastore, 1) := by decide +kernel
theorem dX0_add_51 : decode cX0_add 51 = .ok (.aload_n 0, 1) := by decide +kernel
theorem dX0_add_52 : decode cX0_add 52 = .ok (.getfield 13, 3) := by decide +kernel
theorem dX0_add_55 : decode cX0_add 55 = .ok (.iload_n 3, 1) := by decide +kernel
theorem dX0_add_56 : decode cX0_add 56 = .ok (.iload_n 1, 1) := by decide +kernel
theorem dX0_add_57 : decode cX0_add 57 = .ok (.bipush 63, 2) := by decide +kernel
theorem dX0_add_59 : decode cX0_add 59 = .ok (.iand, 1) := by decide +kernel
theorem dX0_add_60 : decode cX0_add 60 = .ok (.iastore, 1) := by decide +kernel
theorem dX0_add_61 : decode cX0_add 61 = .ok (.aload_n 0, 1) := by decide +kernel
theorem dX0_add_62 : decode cX0_add 62 = .ok (.getfield 17, 3) := by decide +kernel
theorem dX0_add_65 : decode cX0_add 65 = .ok (.iload_n 3, 1) := by decide +kernel
theorem dX0_add_66 : decode cX0_add 66 = .ok (.iload_n 1, 1) := by decide +kernel
theorem dX0_add_67 : decode cX0_add 67 = .ok (.bipush 6, 2) := by decide +kernel
theorem dX0_add_69 : decode cX0_add 69 = .ok (.ishr, 1) := by decide +kernel
theorem dX0_add_70 : decode cX0_add 70 = .ok (.iastore, 1) := by decide +kernel
theorem dX0_add_71 : decode cX0_add 71 = .ok (.aload_n 0, 1) := by decide +kernel
theorem dX0_add_72 : decode cX0_add 72 = .ok (.getfield 20, 3) := by decide +kernel
theorem dX0_add_75 : decode cX0_add 75 = .ok (.iload_n 3, 1) := by decide +kernel
theorem dX0_add_76 : decode cX0_add 76 = .ok (.iload_n 2, 1) := by decide +kernel
theorem dX0_add_77 : decode cX0_add 77 = .ok (.iastore, 1) := by decide +kernel
theorem dX0_add_78 : decode cX0_add 78 = .ok (.aload_n 0, 1) := by decide +kernel
theorem dX0_add_79 : decode cX0_add 79 = .ok (.iload_n 3, 1) := by decide +kernel
theorem dX0_add_80 : decode cX0_add 80 = .ok (.invokevirtual 48, 3) := by decide +kernel
theorem dX0_add_83 : decode cX0_add 83 = .ok (.iload_n 3, 1) := by decide +kernel
theorem dX0_add_84 : decode cX0_add 84 = .ok (.ireturn, 1) := by decide +kernel
theorem dX0_bad_0 : decode cX0_bad 0 = .ok (.iload_n 0, 1) := by decide +kernel
theorem dX0_bad_1 : decode cX0_bad 1 = .ok (.ifCond .lt 10, 3) := by decide +kernel
theorem dX0_bad_4 : decode cX0_bad 4 = .ok (.iload_n 0, 1) := by decide +kernel
theorem dX0_bad_5 : decode cX0_bad 5 = .ok (.sipush 4096, 3) := by decide +kernel
theorem dX0_bad_8 : decode cX0_bad 8 = .ok (.if_icmp .lt 7, 3) := by decide +kernel
theorem dX0_bad_11 : decode cX0_bad 11 = .ok (.iconst 1, 1) := by decide +kernel
theorem dX0_bad_12 : decode cX0_bad 12 = .ok (.goto 4, 3) := by decide +kernel
theorem dX0_bad_15 : decode cX0_bad 15 = .ok (.iconst 0, 1) := by decide +kernel
theorem dX0_bad_16 : decode cX0_bad 16 = .ok (.ireturn, 1) := by decide +kernel
theorem dX0_insert_0 : decode cX0_insert 0 = .ok (.aload_n 0, 1) := by decide +kernel
theorem dX0_insert_1 : decode cX0_insert 1 = .ok (.iload_n 1, 1) := by decide +kernel
theorem dX0_insert_2 : decode cX0_insert 2 = .ok (.invokevirtual 37, 3) := by decide +kernel
theorem dX0_insert_5 : decode cX0_insert 5 = .ok (.istore_n 2, 1) := by decide +kernel
theorem dX0_insert_6 : decode cX0_insert 6 = .ok (.aload_n 0, 1) := by decide +kernel
theorem dX0_insert_7 : decode cX0_insert 7 = .ok (.iload_n 2, 1) := by decide +kernel
theorem dX0_insert_8 : decode cX0_insert 8 = .ok (.invokevirtual 41, 3) := by decide +kernel
theorem dX0_insert_11 : decode cX0_insert 11 = .ok (.istore_n 3, 1) := by decide +kernel
theorem dX0_insert_12 : decode cX0_insert 12 = .ok (.aload_n 0, 1) := by decide +kernel
theorem dX0_insert_13 : decode cX0_insert 13 = .ok (.getfield 29, 3) := by decide +kernel
theorem dX0_insert_16 : decode cX0_insert 16 = .ok (.istore 4, 2) := by decide +kernel
theorem dX0_insert_18 : decode cX0_insert 18 = .ok (.iload 4, 2) := by decide +kernel
theorem dX0_insert_20 : decode cX0_insert 20 = .ok (.iload_n 3, 1) := by decide +kernel
theorem dX0_insert_21 : decode cX0_insert 21 = .ok (.if_icmp .le 25, 3) := by decide +kernel
theorem dX0_insert_24 : decode cX0_insert 24 = .ok (.aload_n 0, 1) := by decide +kernel
theorem dX0_insert_25 : decode cX0_insert 25 = .ok (.getfield 23, 3) := by decide +kernel
theorem dX0_insert_28 : decode cX0_insert 28 = .ok (.iload 4, 2) := by decide +kernel
theorem dX0_insert_30 : decode cX0_insert 30 = .ok (.aload_n 0, 1) := by decide +kernel
theorem dX0_insert_31 : decode cX0_insert 31 = .ok (.getfield 23, 3) := by decide +kernel
theorem dX0_insert_34 : decode cX0_insert 34 = .ok (.iload 4, 2) := by decide +kernel
theorem dX0_insert_36 : decode cX0_insert 36 = .ok (.iconst 1, 1) := by decide +kernel
theorem dX0_insert_37 : decode cX0_insert 37 = .ok (.isub, 1) := by decide +kernel
theorem dX0_insert_38 : decode cX0_insert 38 = .ok (.iaload, 1) := by decide +kernel
theorem dX0_insert_39 : decode cX0_insert 39 = .ok (.iastore, 1) := by decide +kernel
theorem dX0_insert_40 : decode cX0_insert 40 = .ok (.iinc 4 (-1), 3) := by decide +kernel
theorem dX0_insert_43 : decode cX0_insert 43 = .ok (.goto (-25), 3) := by decide +kernel
theorem dX0_insert_46 : decode cX0_insert 46 = .ok (.aload_n 0, 1) := by decide +kernel
theorem dX0_insert_47 : decode cX0_insert 47 = .ok (.getfield 23, 3) := by decide +kernel
theorem dX0_insert_50 : decode cX0_insert 50 = .ok (.iload_n 3, 1) := by decide +kernel
theorem dX0_insert_51 : decode cX0_insert 51 = .ok (.iload_n 2, 1) := by decide +kernel
theorem dX0_insert_52 : decode cX0_insert 52 = .ok (.iastore, 1) := by decide +kernel
theorem dX0_insert_53 : decode cX0_insert 53 = .ok (.aload_n 0, 1) := by decide +kernel
theorem dX0_insert_54 : decode cX0_insert 54 = .ok (.dup, 1) := by decide +kernel
theorem dX0_insert_55 : decode cX0_insert 55 = .ok (.getfield 29, 3) := by decide +kernel
theorem dX0_insert_58 : decode cX0_insert 58 = .ok (.iconst 1, 1) := by decide +kernel
theorem dX0_insert_59 : decode cX0_insert 59 = .ok (.iadd, 1) := by decide +kernel
theorem dX0_insert_60 : decode cX0_insert 60 = .ok (.putfield 29, 3) := by decide +kernel
theorem dX0_insert_63 : decode cX0_insert 63 = .ok (.return_, 1) := by decide +kernel
theorem dX0_keyOf_0 : decode cX0_keyOf 0 = .ok (.aload_n 0, 1) := by decide +kernel
theorem dX0_keyOf_1 : decode cX0_keyOf 1 = .ok (.getfield 13, 3) := by decide +kernel
theorem dX0_keyOf_4 : decode cX0_keyOf 4 = .ok (.iload_n 1, 1) := by decide +kernel
theorem dX0_keyOf_5 : decode cX0_keyOf 5 = .ok (.iaload, 1) := by decide +kernel
theorem dX0_keyOf_6 : decode cX0_keyOf 6 = .ok (.aload_n 0, 1) := by decide +kernel
theorem dX0_keyOf_7 : decode cX0_keyOf 7 = .ok (.getfield 17, 3) := by decide +kernel
theorem dX0_keyOf_10 : decode cX0_keyOf 10 = .ok (.iload_n 1, 1) := by decide +kernel
theorem dX0_keyOf_11 : decode cX0_keyOf 11 = .ok (.iaload, 1) := by decide +kernel
theorem dX0_keyOf_12 : decode cX0_keyOf 12 = .ok (.invokestatic 33, 3) := by decide +kernel
theorem dX0_keyOf_15 : decode cX0_keyOf 15 = .ok (.bipush 64, 2) := by decide +kernel
theorem dX0_keyOf_17 : decode cX0_keyOf 17 = .ok (.imul, 1) := by decide +kernel
theorem dX0_keyOf_18 : decode cX0_keyOf 18 = .ok (.iload_n 1, 1) := by decide +kernel
theorem dX0_keyOf_19 : decode cX0_keyOf 19 = .ok (.iadd, 1) := by decide +kernel
theorem dX0_keyOf_20 : decode cX0_keyOf 20 = .ok (.ireturn, 1) := by decide +kernel
theorem dX0_interleave_0 : decode cX0_interleave 0 = .ok (.iconst 0, 1) := by decide +kernel
theorem dX0_interleave_1 : decode cX0_interleave 1 = .ok (.istore_n 2, 1) := by decide +kernel
theorem dX0_interleave_2 : decode cX0_interleave 2 = .ok (.iconst 0, 1) := by decide +kernel
theorem dX0_interleave_3 : decode cX0_interleave 3 = .ok (.istore_n 3, 1) := by decide +kernel
theorem dX0_interleave_4 : decode cX0_interleave 4 = .ok (.iload_n 3, 1) := by decide +kernel
theorem dX0_interleave_5 : decode cX0_interleave 5 = .ok (.bipush 6, 2) := by decide +kernel
theorem dX0_interleave_7 : decode cX0_interleave 7 = .ok (.if_icmp .ge 33, 3) := by decide +kernel
theorem dX0_interleave_10 : decode cX0_interleave 10 = .ok (.iload_n 2, 1) := by decide +kernel
theorem dX0_interleave_11 : decode cX0_interleave 11 = .ok (.iload_n 0, 1) := by decide +kernel
theorem dX0_interleave_12 : decode cX0_interleave 12 = .ok (.iload_n 3, 1) := by decide +kernel
theorem dX0_interleave_13 : decode cX0_interleave 13 = .ok (.ishr, 1) := by decide +kernel
theorem dX0_interleave_14 : decode cX0_interleave 14 = .ok (.iconst 1, 1) := by decide +kernel
theorem dX0_interleave_15 : decode cX0_interleave 15 = .ok (.iand, 1) := by decide +kernel
theorem dX0_interleave_16 : decode cX0_interleave 16 = .ok (.iconst 2, 1) := by decide +kernel
theorem dX0_interleave_17 : decode cX0_interleave 17 = .ok (.iload_n 3, 1) := by decide +kernel
theorem dX0_interleave_18 : decode cX0_interleave 18 = .ok (.imul, 1) := by decide +kernel
theorem dX0_interleave_19 : decode cX0_interleave 19 = .ok (.ishl, 1) := by decide +kernel
theorem dX0_interleave_20 : decode cX0_interleave 20 = .ok (.iload_n 1, 1) := by decide +kernel
theorem dX0_interleave_21 : decode cX0_interleave 21 = .ok (.iload_n 3, 1) := by decide +kernel
theorem dX0_interleave_22 : decode cX0_interleave 22 = .ok (.ishr, 1) := by decide +kernel
theorem dX0_interleave_23 : decode cX0_interleave 23 = .ok (.iconst 1, 1) := by decide +kernel
theorem dX0_interleave_24 : decode cX0_interleave 24 = .ok (.iand, 1) := by decide +kernel
theorem dX0_interleave_25 : decode cX0_interleave 25 = .ok (.iconst 2, 1) := by decide +kernel
theorem dX0_interleave_26 : decode cX0_interleave 26 = .ok (.iload_n 3, 1) := by decide +kernel
theorem dX0_interleave_27 : decode cX0_interleave 27 = .ok (.imul, 1) := by decide +kernel
theorem dX0_interleave_28 : decode cX0_interleave 28 = .ok (.iconst 1, 1) := by decide +kernel
theorem dX0_interleave_29 : decode cX0_interleave 29 = .ok (.iadd, 1) := by decide +kernel
theorem dX0_interleave_30 : decode cX0_interleave 30 = .ok (.ishl, 1) := by decide +kernel
theorem dX0_interleave_31 : decode cX0_interleave 31 = .ok (.ior, 1) := by decide +kernel
theorem dX0_interleave_32 : decode cX0_interleave 32 = .ok (.ior, 1) := by decide +kernel
theorem dX0_interleave_33 : decode cX0_interleave 33 = .ok (.istore_n 2, 1) := by decide +kernel
theorem dX0_interleave_34 : decode cX0_interleave 34 = .ok (.iinc 3 1, 3) := by decide +kernel
theorem dX0_interleave_37 : decode cX0_interleave 37 = .ok (.goto (-33), 3) := by decide +kernel
theorem dX0_interleave_40 : decode cX0_interleave 40 = .ok (.iload_n 2, 1) := by decide +kernel
theorem dX0_interleave_41 : decode cX0_interleave 41 = .ok (.ireturn, 1) := by decide +kernel
theorem dX0_seek_0 : decode cX0_seek 0 = .ok (.iconst 0, 1) := by decide +kernel
theorem dX0_seek_1 : decode cX0_seek 1 = .ok (.istore_n 2, 1) := by decide +kernel
theorem dX0_seek_2 : decode cX0_seek 2 = .ok (.aload_n 0, 1) := by decide +kernel
theorem dX0_seek_3 : decode cX0_seek 3 = .ok (.getfield 29, 3) := by decide +kernel
theorem dX0_seek_6 : decode cX0_seek 6 = .ok (.istore_n 3, 1) := by decide +kernel
theorem dX0_seek_7 : decode cX0_seek 7 = .ok (.iload_n 2, 1) := by decide +kernel
theorem dX0_seek_8 : decode cX0_seek 8 = .ok (.iload_n 3, 1) := by decide +kernel
theorem dX0_seek_9 : decode cX0_seek 9 = .ok (.if_icmp .ge 35, 3) := by decide +kernel
theorem dX0_seek_12 : decode cX0_seek 12 = .ok (.iload_n 2, 1) := by decide +kernel
theorem dX0_seek_13 : decode cX0_seek 13 = .ok (.iload_n 3, 1) := by decide +kernel
theorem dX0_seek_14 : decode cX0_seek 14 = .ok (.iadd, 1) := by decide +kernel
theorem dX0_seek_15 : decode cX0_seek 15 = .ok (.iconst 2, 1) := by decide +kernel
theorem dX0_seek_16 : decode cX0_seek 16 = .ok (.idiv, 1) := by decide +kernel
theorem dX0_seek_17 : decode cX0_seek 17 = .ok (.istore 4, 2) := by decide +kernel
theorem dX0_seek_19 : decode cX0_seek 19 = .ok (.aload_n 0, 1) := by decide +kernel
theorem dX0_seek_20 : decode cX0_seek 20 = .ok (.getfield 23, 3) := by decide +kernel
theorem dX0_seek_23 : decode cX0_seek 23 = .ok (.iload 4, 2) := by decide +kernel
theorem dX0_seek_25 : decode cX0_seek 25 = .ok (.iaload, 1) := by decide +kernel
theorem dX0_seek_26 : decode cX0_seek 26 = .ok (.iload_n 1, 1) := by decide +kernel
theorem dX0_seek_27 : decode cX0_seek 27 = .ok (.if_icmp .ge 11, 3) := by decide +kernel
theorem dX0_seek_30 : decode cX0_seek 30 = .ok (.iload 4, 2) := by decide +kernel
theorem dX0_seek_32 : decode cX0_seek 32 = .ok (.iconst 1, 1) := by decide +kernel
theorem dX0_seek_33 : decode cX0_seek 33 = .ok (.iadd, 1) := by decide +kernel
theorem dX0_seek_34 : decode cX0_seek 34 = .ok (.istore_n 2, 1) := by decide +kernel
theorem dX0_seek_35 : decode cX0_seek 35 = .ok (.goto 6, 3) := by decide +kernel
theorem dX0_seek_38 : decode cX0_seek 38 = .ok (.iload 4, 2) := by decide +kernel
theorem dX0_seek_40 : decode cX0_seek 40 = .ok (.istore_n 3, 1) := by decide +kernel
theorem dX0_seek_41 : decode cX0_seek 41 = .ok (.goto (-34), 3) := by decide +kernel
theorem dX0_seek_44 : decode cX0_seek 44 = .ok (.iload_n 2, 1) := by decide +kernel
theorem dX0_seek_45 : decode cX0_seek 45 = .ok (.ireturn, 1) := by decide +kernel
theorem dX0_remove_0 : decode cX0_remove 0 = .ok (.aload_n 0, 1) := by decide +kernel
theorem dX0_remove_1 : decode cX0_remove 1 = .ok (.iload_n 1, 1) := by decide +kernel
theorem dX0_remove_2 : decode cX0_remove 2 = .ok (.invokevirtual 55, 3) := by decide +kernel
theorem dX0_remove_5 : decode cX0_remove 5 = .ok (.ifCond .eq 6, 3) := by decide +kernel
theorem dX0_remove_8 : decode cX0_remove 8 = .ok (.bipush (-3), 2) := by decide +kernel
theorem dX0_remove_10 : decode cX0_remove 10 = .ok (.ireturn, 1) := by decide +kernel
theorem dX0_remove_11 : decode cX0_remove 11 = .ok (.aload_n 0, 1) := by decide +kernel
theorem dX0_remove_12 : decode cX0_remove 12 = .ok (.iload_n 1, 1) := by decide +kernel
theorem dX0_remove_13 : decode cX0_remove 13 = .ok (.invokevirtual 58, 3) := by decide +kernel
theorem dX0_remove_16 : decode cX0_remove 16 = .ok (.aload_n 0, 1) := by decide +kernel
theorem dX0_remove_17 : decode cX0_remove 17 = .ok (.getfield 29, 3) := by decide +kernel
theorem dX0_remove_20 : decode cX0_remove 20 = .ok (.ireturn, 1) := by decide +kernel
theorem dX0_noPoint_0 : decode cX0_noPoint 0 = .ok (.iload_n 1, 1) := by decide +kernel
theorem dX0_noPoint_1 : decode cX0_noPoint 1 = .ok (.ifCond .lt 18, 3) := by decide +kernel
theorem dX0_noPoint_4 : decode cX0_noPoint 4 = .ok (.iload_n 1, 1) := by decide +kernel
theorem dX0_noPoint_5 : decode cX0_noPoint 5 = .ok (.bipush 40, 2) := by decide +kernel
theorem dX0_noPoint_7 : decode cX0_noPoint 7 = .ok (.if_icmp .ge 12, 3) := by decide +kernel
theorem dX0_noPoint_10 : decode cX0_noPoint 10 = .ok (.aload_n 0, 1) := by decide +kernel
theorem dX0_noPoint_11 : decode cX0_noPoint 11 = .ok (.getfield 7, 3) := by decide +kernel
theorem dX0_noPoint_14 : decode cX0_noPoint 14 = .ok (.iload_n 1, 1) := by decide +kernel
theorem dX0_noPoint_15 : decode cX0_noPoint 15 = .ok (.baload, 1) := by decide +kernel
theorem dX0_noPoint_16 : decode cX0_noPoint 16 = .ok (.ifCond .ne 7, 3) := by decide +kernel
theorem dX0_noPoint_19 : decode cX0_noPoint 19 = .ok (.iconst 1, 1) := by decide +kernel
theorem dX0_noPoint_20 : decode cX0_noPoint 20 = .ok (.goto 4, 3) := by decide +kernel
theorem dX0_noPoint_23 : decode cX0_noPoint 23 = .ok (.iconst 0, 1) := by decide +kernel
theorem dX0_noPoint_24 : decode cX0_noPoint 24 = .ok (.ireturn, 1) := by decide +kernel
theorem dX0_dropPoint_0 : decode cX0_dropPoint 0 = .ok (.aload_n 0, 1) := by decide +kernel
theorem dX0_dropPoint_1 : decode cX0_dropPoint 1 = .ok (.iload_n 1, 1) := by decide +kernel
theorem dX0_dropPoint_2 : decode cX0_dropPoint 2 = .ok (.invokevirtual 52, 3) := by decide +kernel
theorem dX0_dropPoint_5 : decode cX0_dropPoint 5 = .ok (.aload_n 0, 1) := by decide +kernel
theorem dX0_dropPoint_6 : decode cX0_dropPoint 6 = .ok (.getfield 7, 3) := by decide +kernel
theorem dX0_dropPoint_9 : decode cX0_dropPoint 9 = .ok (.iload_n 1, 1) := by decide +kernel
theorem dX0_dropPoint_10 : decode cX0_dropPoint 10 = .ok (.iconst 0, 1) := by decide +kernel
theorem dX0_dropPoint_11 : decode cX0_dropPoint 11 = .ok (.bastore, 1) := by decide +kernel
theorem dX0_dropPoint_12 : decode cX0_dropPoint 12 = .ok (.return_, 1) := by decide +kernel
theorem dX0_take_0 : decode cX0_take 0 = .ok (.aload_n 0, 1) := by decide +kernel
theorem dX0_take_1 : decode cX0_take 1 = .ok (.iload_n 1, 1) := by decide +kernel
theorem dX0_take_2 : decode cX0_take 2 = .ok (.invokevirtual 37, 3) := by decide +kernel
theorem dX0_take_5 : decode cX0_take 5 = .ok (.istore_n 2, 1) := by decide +kernel
theorem dX0_take_6 : decode cX0_take 6 = .ok (.aload_n 0, 1) := by decide +kernel
theorem dX0_take_7 : decode cX0_take 7 = .ok (.iload_n 2, 1) := by decide +kernel
theorem dX0_take_8 : decode cX0_take 8 = .ok (.invokevirtual 41, 3) := by decide +kernel
theorem dX0_take_11 : decode cX0_take 11 = .ok (.istore_n 3, 1) := by decide +kernel
theorem dX0_take_12 : decode cX0_take 12 = .ok (.aload_n 0, 1) := by decide +kernel
theorem dX0_take_13 : decode cX0_take 13 = .ok (.dup, 1) := by decide +kernel
theorem dX0_take_14 : decode cX0_take 14 = .ok (.getfield 29, 3) := by decide +kernel
theorem dX0_take_17 : decode cX0_take 17 = .ok (.iconst 1, 1) := by decide +kernel
theorem dX0_take_18 : decode cX0_take 18 = .ok (.isub, 1) := by decide +kernel
theorem dX0_take_19 : decode cX0_take 19 = .ok (.putfield 29, 3) := by decide +kernel
theorem dX0_take_22 : decode cX0_take 22 = .ok (.iload_n 3, 1) := by decide +kernel
theorem dX0_take_23 : decode cX0_take 23 = .ok (.istore 4, 2) := by decide +kernel
theorem dX0_take_25 : decode cX0_take 25 = .ok (.iload 4, 2) := by decide +kernel
theorem dX0_take_27 : decode cX0_take 27 = .ok (.aload_n 0, 1) := by decide +kernel
theorem dX0_take_28 : decode cX0_take 28 = .ok (.getfield 29, 3) := by decide +kernel
theorem dX0_take_31 : decode cX0_take 31 = .ok (.if_icmp .ge 25, 3) := by decide +kernel
theorem dX0_take_34 : decode cX0_take 34 = .ok (.aload_n 0, 1) := by decide +kernel
theorem dX0_take_35 : decode cX0_take 35 = .ok (.getfield 23, 3) := by decide +kernel
theorem dX0_take_38 : decode cX0_take 38 = .ok (.iload 4, 2) := by decide +kernel
theorem dX0_take_40 : decode cX0_take 40 = .ok (.aload_n 0, 1) := by decide +kernel
theorem dX0_take_41 : decode cX0_take 41 = .ok (.getfield 23, 3) := by decide +kernel
theorem dX0_take_44 : decode cX0_take 44 = .ok (.iload 4, 2) := by decide +kernel
theorem dX0_take_46 : decode cX0_take 46 = .ok (.iconst 1, 1) := by decide +kernel
theorem dX0_take_47 : decode cX0_take 47 = .ok (.iadd, 1) := by decide +kernel
theorem dX0_take_48 : decode cX0_take 48 = .ok (.iaload, 1) := by decide +kernel
theorem dX0_take_49 : decode cX0_take 49 = .ok (.iastore, 1) := by decide +kernel
theorem dX0_take_50 : decode cX0_take 50 = .ok (.iinc 4 1, 3) := by decide +kernel
theorem dX0_take_53 : decode cX0_take 53 = .ok (.goto (-28), 3) := by decide +kernel
theorem dX0_take_56 : decode cX0_take 56 = .ok (.return_, 1) := by decide +kernel
theorem dX0_move_0 : decode cX0_move 0 = .ok (.aload_n 0, 1) := by decide +kernel
theorem dX0_move_1 : decode cX0_move 1 = .ok (.iload_n 1, 1) := by decide +kernel
theorem dX0_move_2 : decode cX0_move 2 = .ok (.invokevirtual 55, 3) := by decide +kernel
theorem dX0_move_5 : decode cX0_move 5 = .ok (.ifCond .eq 6, 3) := by decide +kernel
theorem dX0_move_8 : decode cX0_move 8 = .ok (.bipush (-3), 2) := by decide +kernel
theorem dX0_move_10 : decode cX0_move 10 = .ok (.ireturn, 1) := by decide +kernel
theorem dX0_move_11 : decode cX0_move 11 = .ok (.iload_n 2, 1) := by decide +kernel
theorem dX0_move_12 : decode cX0_move 12 = .ok (.invokestatic 44, 3) := by decide +kernel
theorem dX0_move_15 : decode cX0_move 15 = .ok (.ifCond .eq 5, 3) := by decide +kernel
theorem dX0_move_18 : decode cX0_move 18 = .ok (.iconst (-1), 1) := by decide +kernel
theorem dX0_move_19 : decode cX0_move 19 = .ok (.ireturn, 1) := by decide +kernel
theorem dX0_move_20 : decode cX0_move 20 = .ok (.aload_n 0, 1) := by decide +kernel
theorem dX0_move_21 : decode cX0_move 21 = .ok (.getfield 13, 3) := by decide +kernel
theorem dX0_move_24 : decode cX0_move 24 = .ok (.iload_n 1, 1) := by decide +kernel
theorem dX0_move_25 : decode cX0_move 25 = .ok (.iaload, 1) := by decide +kernel
theorem dX0_move_26 : decode cX0_move 26 = .ok (.bipush 64, 2) := by decide +kernel
theorem dX0_move_28 : decode cX0_move 28 = .ok (.aload_n 0, 1) := by decide +kernel
theorem dX0_move_29 : decode cX0_move 29 = .ok (.getfield 17, 3) := by decide +kernel
theorem dX0_move_32 : decode cX0_move 32 = .ok (.iload_n 1, 1) := by decide +kernel
theorem dX0_move_33 : decode cX0_move 33 = .ok (.iaload, 1) := by decide +kernel
theorem dX0_move_34 : decode cX0_move 34 = .ok (.imul, 1) := by decide +kernel
theorem dX0_move_35 : decode cX0_move 35 = .ok (.iadd, 1) := by decide +kernel
theorem dX0_move_36 : decode cX0_move 36 = .ok (.istore_n 3, 1) := by decide +kernel
theorem dX0_move_37 : decode cX0_move 37 = .ok (.aload_n 0, 1) := by decide +kernel
theorem dX0_move_38 : decode cX0_move 38 = .ok (.iload_n 1, 1) := by decide +kernel
theorem dX0_move_39 : decode cX0_move 39 = .ok (.invokevirtual 52, 3) := by decide +kernel
theorem dX0_move_42 : decode cX0_move 42 = .ok (.aload_n 0, 1) := by decide +kernel
theorem dX0_move_43 : decode cX0_move 43 = .ok (.getfield 13, 3) := by decide +kernel
theorem dX0_move_46 : decode cX0_move 46 = .ok (.iload_n 1, 1) := by decide +kernel
theorem dX0_move_47 : decode cX0_move 47 = .ok (.iload_n 2, 1) := by decide +kernel
theorem dX0_move_48 : decode cX0_move 48 = .ok (.bipush 63, 2) := by decide +kernel
theorem dX0_move_50 : decode cX0_move 50 = .ok (.iand, 1) := by decide +kernel
theorem dX0_move_51 : decode cX0_move 51 = .ok (.iastore, 1) := by decide +kernel
theorem dX0_move_52 : decode cX0_move 52 = .ok (.aload_n 0, 1) := by decide +kernel
theorem dX0_move_53 : decode cX0_move 53 = .ok (.getfield 17, 3) := by decide +kernel
theorem dX0_move_56 : decode cX0_move 56 = .ok (.iload_n 1, 1) := by decide +kernel
theorem dX0_move_57 : decode cX0_move 57 = .ok (.iload_n 2, 1) := by decide +kernel
theorem dX0_move_58 : decode cX0_move 58 = .ok (.bipush 6, 2) := by decide +kernel
theorem dX0_move_60 : decode cX0_move 60 = .ok (.ishr, 1) := by decide +kernel
theorem dX0_move_61 : decode cX0_move 61 = .ok (.iastore, 1) := by decide +kernel
theorem dX0_move_62 : decode cX0_move 62 = .ok (.aload_n 0, 1) := by decide +kernel
theorem dX0_move_63 : decode cX0_move 63 = .ok (.iload_n 1, 1) := by decide +kernel
theorem dX0_move_64 : decode cX0_move 64 = .ok (.invokevirtual 48, 3) := by decide +kernel
theorem dX0_move_67 : decode cX0_move 67 = .ok (.iload_n 3, 1) := by decide +kernel
theorem dX0_move_68 : decode cX0_move 68 = .ok (.ireturn, 1) := by decide +kernel
theorem dX0_clearBox_0 : decode cX0_clearBox 0 = .ok (.iload_n 1, 1) := by decide +kernel
theorem dX0_clearBox_1 : decode cX0_clearBox 1 = .ok (.invokestatic 44, 3) := by decide +kernel
theorem dX0_clearBox_4 : decode cX0_clearBox 4 = .ok (.ifCond .ne 10, 3) := by decide +kernel
theorem dX0_clearBox_7 : decode cX0_clearBox 7 = .ok (.iload_n 2, 1) := by decide +kernel
theorem dX0_clearBox_8 : decode cX0_clearBox 8 = .ok (.invokestatic 44, 3) := by decide +kernel
theorem dX0_clearBox_11 : decode cX0_clearBox 11 = .ok (.ifCond .eq 5, 3) := by decide +kernel
theorem dX0_clearBox_14 : decode cX0_clearBox 14 = .ok (.iconst (-1), 1) := by decide +kernel
theorem dX0_clearBox_15 : decode cX0_clearBox 15 = .ok (.ireturn, 1) := by decide +kernel
theorem dX0_clearBox_16 : decode cX0_clearBox 16 = .ok (.aload_n 0, 1) := by decide +kernel
theorem dX0_clearBox_17 : decode cX0_clearBox 17 = .ok (.iload_n 1, 1) := by decide +kernel
theorem dX0_clearBox_18 : decode cX0_clearBox 18 = .ok (.iload_n 2, 1) := by decide +kernel
theorem dX0_clearBox_19 : decode cX0_clearBox 19 = .ok (.invokevirtual 95, 3) := by decide +kernel
theorem dX0_clearBox_22 : decode cX0_clearBox 22 = .ok (.aload_n 0, 1) := by decide +kernel
theorem dX0_clearBox_23 : decode cX0_clearBox 23 = .ok (.invokevirtual 99, 3) := by decide +kernel
theorem dX0_clearBox_26 : decode cX0_clearBox 26 = .ok (.iconst 0, 1) := by decide +kernel
theorem dX0_clearBox_27 : decode cX0_clearBox 27 = .ok (.istore_n 3, 1) := by decide +kernel
theorem dX0_clearBox_28 : decode cX0_clearBox 28 = .ok (.iload_n 3, 1) := by decide +kernel
theorem dX0_clearBox_29 : decode cX0_clearBox 29 = .ok (.aload_n 0, 1) := by decide +kernel
theorem dX0_clearBox_30 : decode cX0_clearBox 30 = .ok (.getfield 86, 3) := by decide +kernel
theorem dX0_clearBox_33 : decode cX0_clearBox 33 = .ok (.if_icmp .ge 19, 3) := by decide +kernel
theorem dX0_clearBox_36 : decode cX0_clearBox 36 = .ok (.aload_n 0, 1) := by decide +kernel
theorem dX0_clearBox_37 : decode cX0_clearBox 37 = .ok (.aload_n 0, 1) := by decide +kernel
theorem dX0_clearBox_38 : decode cX0_clearBox 38 = .ok (.getfield 26, 3) := by decide +kernel
theorem dX0_clearBox_41 : decode cX0_clearBox 41 = .ok (.iload_n 3, 1) := by decide +kernel
theorem dX0_clearBox_42 : decode cX0_clearBox 42 = .ok (.iaload, 1) := by decide +kernel
theorem dX0_clearBox_43 : decode cX0_clearBox 43 = .ok (.invokevirtual 58, 3) := by decide +kernel
theorem dX0_clearBox_46 : decode cX0_clearBox 46 = .ok (.iinc 3 1, 3) := by decide +kernel
theorem dX0_clearBox_49 : decode cX0_clearBox 49 = .ok (.goto (-21), 3) := by decide +kernel
theorem dX0_clearBox_52 : decode cX0_clearBox 52 = .ok (.aload_n 0, 1) := by decide +kernel
theorem dX0_clearBox_53 : decode cX0_clearBox 53 = .ok (.getfield 86, 3) := by decide +kernel
theorem dX0_clearBox_56 : decode cX0_clearBox 56 = .ok (.ireturn, 1) := by decide +kernel
theorem dX0_setBoxOf_0 : decode cX0_setBoxOf 0 = .ok (.aload_n 0, 1) := by decide +kernel
theorem dX0_setBoxOf_1 : decode cX0_setBoxOf 1 = .ok (.iload_n 1, 1) := by decide +kernel
theorem dX0_setBoxOf_2 : decode cX0_setBoxOf 2 = .ok (.bipush 63, 2) := by decide +kernel
theorem dX0_setBoxOf_4 : decode cX0_setBoxOf 4 = .ok (.iand, 1) := by decide +kernel
theorem dX0_setBoxOf_5 : decode cX0_setBoxOf 5 = .ok (.iload_n 1, 1) := by decide +kernel
theorem dX0_setBoxOf_6 : decode cX0_setBoxOf 6 = .ok (.bipush 6, 2) := by decide +kernel
theorem dX0_setBoxOf_8 : decode cX0_setBoxOf 8 = .ok (.ishr, 1) := by decide +kernel
theorem dX0_setBoxOf_9 : decode cX0_setBoxOf 9 = .ok (.iload_n 2, 1) := by decide +kernel
theorem dX0_setBoxOf_10 : decode cX0_setBoxOf 10 = .ok (.bipush 63, 2) := by decide +kernel
theorem dX0_setBoxOf_12 : decode cX0_setBoxOf 12 = .ok (.iand, 1) := by decide +kernel
theorem dX0_setBoxOf_13 : decode cX0_setBoxOf 13 = .ok (.iload_n 2, 1) := by decide +kernel
theorem dX0_setBoxOf_14 : decode cX0_setBoxOf 14 = .ok (.bipush 6, 2) := by decide +kernel
theorem dX0_setBoxOf_16 : decode cX0_setBoxOf 16 = .ok (.ishr, 1) := by decide +kernel
theorem dX0_setBoxOf_17 : decode cX0_setBoxOf 17 = .ok (.invokevirtual 79, 3) := by decide +kernel
theorem dX0_setBoxOf_20 : decode cX0_setBoxOf 20 = .ok (.return_, 1) := by decide +kernel
theorem dX0_setBox_0 : decode cX0_setBox 0 = .ok (.aload_n 0, 1) := by decide +kernel
theorem dX0_setBox_1 : decode cX0_setBox 1 = .ok (.iload_n 1, 1) := by decide +kernel
theorem dX0_setBox_2 : decode cX0_setBox 2 = .ok (.iload_n 3, 1) := by decide +kernel
theorem dX0_setBox_3 : decode cX0_setBox 3 = .ok (.if_icmp .ge 7, 3) := by decide +kernel
theorem dX0_setBox_6 : decode cX0_setBox 6 = .ok (.iload_n 1, 1) := by decide +kernel
theorem dX0_setBox_7 : decode cX0_setBox 7 = .ok (.goto 4, 3) := by decide +kernel
theorem dX0_setBox_10 : decode cX0_setBox 10 = .ok (.iload_n 3, 1) := by decide +kernel
theorem dX0_setBox_11 : decode cX0_setBox 11 = .ok (.putfield 61, 3) := by decide +kernel
theorem dX0_setBox_14 : decode cX0_setBox 14 = .ok (.aload_n 0, 1) := by decide +kernel
theorem dX0_setBox_15 : decode cX0_setBox 15 = .ok (.iload_n 1, 1) := by decide +kernel
theorem dX0_setBox_16 : decode cX0_setBox 16 = .ok (.iload_n 3, 1) := by decide +kernel
theorem dX0_setBox_17 : decode cX0_setBox 17 = .ok (.if_icmp .ge 7, 3) := by decide +kernel
theorem dX0_setBox_20 : decode cX0_setBox 20 = .ok (.iload_n 3, 1) := by decide +kernel
theorem dX0_setBox_21 : decode cX0_setBox 21 = .ok (.goto 4, 3) := by decide +kernel
theorem dX0_setBox_24 : decode cX0_setBox 24 = .ok (.iload_n 1, 1) := by decide +kernel
theorem dX0_setBox_25 : decode cX0_setBox 25 = .ok (.putfield 64, 3) := by decide +kernel
theorem dX0_setBox_28 : decode cX0_setBox 28 = .ok (.aload_n 0, 1) := by decide +kernel
theorem dX0_setBox_29 : decode cX0_setBox 29 = .ok (.iload_n 2, 1) := by decide +kernel
theorem dX0_setBox_30 : decode cX0_setBox 30 = .ok (.iload 4, 2) := by decide +kernel
theorem dX0_setBox_32 : decode cX0_setBox 32 = .ok (.if_icmp .ge 7, 3) := by decide +kernel
theorem dX0_setBox_35 : decode cX0_setBox 35 = .ok (.iload_n 2, 1) := by decide +kernel
theorem dX0_setBox_36 : decode cX0_setBox 36 = .ok (.goto 5, 3) := by decide +kernel
theorem dX0_setBox_39 : decode cX0_setBox 39 = .ok (.iload 4, 2) := by decide +kernel
theorem dX0_setBox_41 : decode cX0_setBox 41 = .ok (.putfield 67, 3) := by decide +kernel
theorem dX0_setBox_44 : decode cX0_setBox 44 = .ok (.aload_n 0, 1) := by decide +kernel
theorem dX0_setBox_45 : decode cX0_setBox 45 = .ok (.iload_n 2, 1) := by decide +kernel
theorem dX0_setBox_46 : decode cX0_setBox 46 = .ok (.iload 4, 2) := by decide +kernel
theorem dX0_setBox_48 : decode cX0_setBox 48 = .ok (.if_icmp .ge 8, 3) := by decide +kernel
theorem dX0_setBox_51 : decode cX0_setBox 51 = .ok (.iload 4, 2) := by decide +kernel
theorem dX0_setBox_53 : decode cX0_setBox 53 = .ok (.goto 4, 3) := by decide +kernel
theorem dX0_setBox_56 : decode cX0_setBox 56 = .ok (.iload_n 2, 1) := by decide +kernel
theorem dX0_setBox_57 : decode cX0_setBox 57 = .ok (.putfield 70, 3) := by decide +kernel
theorem dX0_setBox_60 : decode cX0_setBox 60 = .ok (.aload_n 0, 1) := by decide +kernel
theorem dX0_setBox_61 : decode cX0_setBox 61 = .ok (.aload_n 0, 1) := by decide +kernel
theorem dX0_setBox_62 : decode cX0_setBox 62 = .ok (.getfield 61, 3) := by decide +kernel
theorem dX0_setBox_65 : decode cX0_setBox 65 = .ok (.aload_n 0, 1) := by decide +kernel
theorem dX0_setBox_66 : decode cX0_setBox 66 = .ok (.getfield 67, 3) := by decide +kernel
theorem dX0_setBox_69 : decode cX0_setBox 69 = .ok (.invokestatic 33, 3) := by decide +kernel
theorem dX0_setBox_72 : decode cX0_setBox 72 = .ok (.putfield 73, 3) := by decide +kernel
theorem dX0_setBox_75 : decode cX0_setBox 75 = .ok (.aload_n 0, 1) := by decide +kernel
theorem dX0_setBox_76 : decode cX0_setBox 76 = .ok (.aload_n 0, 1) := by decide +kernel
theorem dX0_setBox_77 : decode cX0_setBox 77 = .ok (.getfield 64, 3) := by decide +kernel
theorem dX0_setBox_80 : decode cX0_setBox 80 = .ok (.aload_n 0, 1) := by decide +kernel
theorem dX0_setBox_81 : decode cX0_setBox 81 = .ok (.getfield 70, 3) := by decide +kernel
theorem dX0_setBox_84 : decode cX0_setBox 84 = .ok (.invokestatic 33, 3) := by decide +kernel
theorem dX0_setBox_87 : decode cX0_setBox 87 = .ok (.putfield 76, 3) := by decide +kernel
theorem dX0_setBox_90 : decode cX0_setBox 90 = .ok (.return_, 1) := by decide +kernel
theorem dX0_walk_0 : decode cX0_walk 0 = .ok (.aload_n 0, 1) := by decide +kernel
theorem dX0_walk_1 : decode cX0_walk 1 = .ok (.iconst 0, 1) := by decide +kernel
theorem dX0_walk_2 : decode cX0_walk 2 = .ok (.putfield 86, 3) := by decide +kernel
theorem dX0_walk_5 : decode cX0_walk 5 = .ok (.aload_n 0, 1) := by decide +kernel
theorem dX0_walk_6 : decode cX0_walk 6 = .ok (.aload_n 0, 1) := by decide +kernel
theorem dX0_walk_7 : decode cX0_walk 7 = .ok (.getfield 73, 3) := by decide +kernel
theorem dX0_walk_10 : decode cX0_walk 10 = .ok (.bipush 64, 2) := by decide +kernel
theorem dX0_walk_12 : decode cX0_walk 12 = .ok (.imul, 1) := by decide +kernel
theorem dX0_walk_13 : decode cX0_walk 13 = .ok (.invokevirtual 41, 3) := by decide +kernel
theorem dX0_walk_16 : decode cX0_walk 16 = .ok (.istore_n 1, 1) := by decide +kernel
theorem dX0_walk_17 : decode cX0_walk 17 = .ok (.iconst 0, 1) := by decide +kernel
theorem dX0_walk_18 : decode cX0_walk 18 = .ok (.istore_n 2, 1) := by decide +kernel
theorem dX0_walk_19 : decode cX0_walk 19 = .ok (.iload_n 2, 1) := by decide +kernel
theorem dX0_walk_20 : decode cX0_walk 20 = .ok (.bipush 80, 2) := by decide +kernel
theorem dX0_walk_22 : decode cX0_walk 22 = .ok (.if_icmp .ge 108, 3) := by decide +kernel
theorem dX0_walk_25 : decode cX0_walk 25 = .ok (.iload_n 1, 1) := by decide +kernel
theorem dX0_walk_26 : decode cX0_walk 26 = .ok (.aload_n 0, 1) := by decide +kernel
theorem dX0_walk_27 : decode cX0_walk 27 = .ok (.getfield 29, 3) := by decide +kernel
theorem dX0_walk_30 : decode cX0_walk 30 = .ok (.if_icmp .ge 100, 3) := by decide +kernel
theorem dX0_walk_33 : decode cX0_walk 33 = .ok (.aload_n 0, 1) := by decide +kernel
theorem dX0_walk_34 : decode cX0_walk 34 = .ok (.getfield 23, 3) := by decide +kernel
theorem dX0_walk_37 : decode cX0_walk 37 = .ok (.iload_n 1, 1) := by decide +kernel
theorem dX0_walk_38 : decode cX0_walk 38 = .ok (.iaload, 1) := by decide +kernel
theorem dX0_walk_39 : decode cX0_walk 39 = .ok (.aload_n 0, 1) := by decide +kernel
theorem dX0_walk_40 : decode cX0_walk 40 = .ok (.getfield 76, 3) := by decide +kernel
theorem dX0_walk_43 : decode cX0_walk 43 = .ok (.iconst 1, 1) := by decide +kernel
theorem dX0_walk_44 : decode cX0_walk 44 = .ok (.iadd, 1) := by decide +kernel
theorem dX0_walk_45 : decode cX0_walk 45 = .ok (.bipush 64, 2) := by decide +kernel
theorem dX0_walk_47 : decode cX0_walk 47 = .ok (.imul, 1) := by decide +kernel
theorem dX0_walk_48 : decode cX0_walk 48 = .ok (.if_icmp .ge 82, 3) := by decide +kernel
theorem dX0_walk_51 : decode cX0_walk 51 = .ok (.aload_n 0, 1) := by decide +kernel
theorem dX0_walk_52 : decode cX0_walk 52 = .ok (.getfield 23, 3) := by decide +kernel
theorem dX0_walk_55 : decode cX0_walk 55 = .ok (.iload_n 1, 1) := by decide +kernel
theorem dX0_walk_56 : decode cX0_walk 56 = .ok (.iaload, 1) := by decide +kernel
theorem dX0_walk_57 : decode cX0_walk 57 = .ok (.bipush 63, 2) := by decide +kernel
theorem dX0_walk_59 : decode cX0_walk 59 = .ok (.iand, 1) := by decide +kernel
theorem dX0_walk_60 : decode cX0_walk 60 = .ok (.istore_n 3, 1) := by decide +kernel
theorem dX0_walk_61 : decode cX0_walk 61 = .ok (.aload_n 0, 1) := by decide +kernel
theorem dX0_walk_62 : decode cX0_walk 62 = .ok (.iload_n 3, 1) := by decide +kernel
theorem dX0_walk_63 : decode cX0_walk 63 = .ok (.invokevirtual 89, 3) := by decide +kernel
theorem dX0_walk_66 : decode cX0_walk 66 = .ok (.istore 4, 2) := by decide +kernel
theorem dX0_walk_68 : decode cX0_walk 68 = .ok (.iload 4, 2) := by decide +kernel
theorem dX0_walk_70 : decode cX0_walk 70 = .ok (.ifCond .eq 29, 3) := by decide +kernel
theorem dX0_walk_73 : decode cX0_walk 73 = .ok (.aload_n 0, 1) := by decide +kernel
theorem dX0_walk_74 : decode cX0_walk 74 = .ok (.getfield 26, 3) := by decide +kernel
theorem dX0_walk_77 : decode cX0_walk 77 = .ok (.aload_n 0, 1) := by decide +kernel
theorem dX0_walk_78 : decode cX0_walk 78 = .ok (.getfield 86, 3) := by decide +kernel
theorem dX0_walk_81 : decode cX0_walk 81 = .ok (.iload_n 3, 1) := by decide +kernel
theorem dX0_walk_82 : decode cX0_walk 82 = .ok (.iastore, 1) := by decide +kernel
theorem dX0_walk_83 : decode cX0_walk 83 = .ok (.aload_n 0, 1) := by decide +kernel
theorem dX0_walk_84 : decode cX0_walk 84 = .ok (.dup, 1) := by decide +kernel
theorem dX0_walk_85 : decode cX0_walk 85 = .ok (.getfield 86, 3) := by decide +kernel
theorem dX0_walk_88 : decode cX0_walk 88 = .ok (.iconst 1, 1) := by decide +kernel
theorem dX0_walk_89 : decode cX0_walk 89 = .ok (.iadd, 1) := by decide +kernel
theorem dX0_walk_90 : decode cX0_walk 90 = .ok (.putfield 86, 3) := by decide +kernel
theorem dX0_walk_93 : decode cX0_walk 93 = .ok (.iinc 1 1, 3) := by decide +kernel
theorem dX0_walk_96 : decode cX0_walk 96 = .ok (.goto 28, 3) := by decide +kernel
theorem dX0_walk_99 : decode cX0_walk 99 = .ok (.aload_n 0, 1) := by decide +kernel
theorem dX0_walk_100 : decode cX0_walk 100 = .ok (.aload_n 0, 1) := by decide +kernel
theorem dX0_walk_101 : decode cX0_walk 101 = .ok (.getfield 23, 3) := by decide +kernel
theorem dX0_walk_104 : decode cX0_walk 104 = .ok (.iload_n 1, 1) := by decide +kernel
theorem dX0_walk_105 : decode cX0_walk 105 = .ok (.iaload, 1) := by decide +kernel
theorem dX0_walk_106 : decode cX0_walk 106 = .ok (.bipush 6, 2) := by decide +kernel
theorem dX0_walk_108 : decode cX0_walk 108 = .ok (.ishr, 1) := by decide +kernel
theorem dX0_walk_109 : decode cX0_walk 109 = .ok (.invokevirtual 92, 3) := by decide +kernel
theorem dX0_walk_112 : decode cX0_walk 112 = .ok (.istore 5, 2) := by decide +kernel
theorem dX0_walk_114 : decode cX0_walk 114 = .ok (.aload_n 0, 1) := by decide +kernel
theorem dX0_walk_115 : decode cX0_walk 115 = .ok (.iload 5, 2) := by decide +kernel
theorem dX0_walk_117 : decode cX0_walk 117 = .ok (.bipush 64, 2) := by decide +kernel
theorem dX0_walk_119 : decode cX0_walk 119 = .ok (.imul, 1) := by decide +kernel
theorem dX0_walk_120 : decode cX0_walk 120 = .ok (.invokevirtual 41, 3) := by decide +kernel
theorem dX0_walk_123 : decode cX0_walk 123 = .ok (.istore_n 1, 1) := by decide +kernel
theorem dX0_walk_124 : decode cX0_walk 124 = .ok (.iinc 2 1, 3) := by decide +kernel
theorem dX0_walk_127 : decode cX0_walk 127 = .ok (.goto (-108), 3) := by decide +kernel
theorem dX0_walk_130 : decode cX0_walk 130 = .ok (.return_, 1) := by decide +kernel
theorem dX0_inBox_0 : decode cX0_inBox 0 = .ok (.aload_n 0, 1) := by decide +kernel
theorem dX0_inBox_1 : decode cX0_inBox 1 = .ok (.getfield 61, 3) := by decide +kernel
theorem dX0_inBox_4 : decode cX0_inBox 4 = .ok (.aload_n 0, 1) := by decide +kernel
theorem dX0_inBox_5 : decode cX0_inBox 5 = .ok (.getfield 13, 3) := by decide +kernel
theorem dX0_inBox_8 : decode cX0_inBox 8 = .ok (.iload_n 1, 1) := by decide +kernel
theorem dX0_inBox_9 : decode cX0_inBox 9 = .ok (.iaload, 1) := by decide +kernel
theorem dX0_inBox_10 : decode cX0_inBox 10 = .ok (.if_icmp .gt 46, 3) := by decide +kernel
theorem dX0_inBox_13 : decode cX0_inBox 13 = .ok (.aload_n 0, 1) := by decide +kernel
theorem dX0_inBox_14 : decode cX0_inBox 14 = .ok (.getfield 13, 3) := by decide +kernel
theorem dX0_inBox_17 : decode cX0_inBox 17 = .ok (.iload_n 1, 1) := by decide +kernel
theorem dX0_inBox_18 : decode cX0_inBox 18 = .ok (.iaload, 1) := by decide +kernel
theorem dX0_inBox_19 : decode cX0_inBox 19 = .ok (.aload_n 0, 1) := by decide +kernel
theorem dX0_inBox_20 : decode cX0_inBox 20 = .ok (.getfield 64, 3) := by decide +kernel
theorem dX0_inBox_23 : decode cX0_inBox 23 = .ok (.if_icmp .gt 33, 3) := by decide +kernel
theorem dX0_inBox_26 : decode cX0_inBox 26 = .ok (.aload_n 0, 1) := by decide +kernel
theorem dX0_inBox_27 : decode cX0_inBox 27 = .ok (.getfield 67, 3) := by decide +kernel
theorem dX0_inBox_30 : decode cX0_inBox 30 = .ok (.aload_n 0, 1) := by decide +kernel
theorem dX0_inBox_31 : decode cX0_inBox 31 = .ok (.getfield 17, 3) := by decide +kernel
theorem dX0_inBox_34 : decode cX0_inBox 34 = .ok (.iload_n 1, 1) := by decide +kernel
theorem dX0_inBox_35 : decode cX0_inBox 35 = .ok (.iaload, 1) := by decide +kernel
theorem dX0_inBox_36 : decode cX0_inBox 36 = .ok (.if_icmp .gt 20, 3) := by decide +kernel
theorem dX0_inBox_39 : decode cX0_inBox 39 = .ok (.aload_n 0, 1) := by decide +kernel
theorem dX0_inBox_40 : decode cX0_inBox 40 = .ok (.getfield 17, 3) := by decide +kernel
theorem dX0_inBox_43 : decode cX0_inBox 43 = .ok (.iload_n 1, 1) := by decide +kernel
theorem dX0_inBox_44 : decode cX0_inBox 44 = .ok (.iaload, 1) := by decide +kernel
theorem dX0_inBox_45 : decode cX0_inBox 45 = .ok (.aload_n 0, 1) := by decide +kernel
theorem dX0_inBox_46 : decode cX0_inBox 46 = .ok (.getfield 70, 3) := by decide +kernel
theorem dX0_inBox_49 : decode cX0_inBox 49 = .ok (.if_icmp .gt 7, 3) := by decide +kernel
theorem dX0_inBox_52 : decode cX0_inBox 52 = .ok (.iconst 1, 1) := by decide +kernel
theorem dX0_inBox_53 : decode cX0_inBox 53 = .ok (.goto 4, 3) := by decide +kernel
theorem dX0_inBox_56 : decode cX0_inBox 56 = .ok (.iconst 0, 1) := by decide +kernel
theorem dX0_inBox_57 : decode cX0_inBox 57 = .ok (.ireturn, 1) := by decide +kernel
theorem dX0_nextInside_0 : decode cX0_nextInside 0 = .ok (.aload_n 0, 1) := by decide +kernel
theorem dX0_nextInside_1 : decode cX0_nextInside 1 = .ok (.getfield 73, 3) := by decide +kernel
theorem dX0_nextInside_4 : decode cX0_nextInside 4 = .ok (.istore_n 2, 1) := by decide +kernel
theorem dX0_nextInside_5 : decode cX0_nextInside 5 = .ok (.aload_n 0, 1) := by decide +kernel
theorem dX0_nextInside_6 : decode cX0_nextInside 6 = .ok (.getfield 76, 3) := by decide +kernel
theorem dX0_nextInside_9 : decode cX0_nextInside 9 = .ok (.istore_n 3, 1) := by decide +kernel
theorem dX0_nextInside_10 : decode cX0_nextInside 10 = .ok (.sipush 4096, 3) := by decide +kernel
theorem dX0_nextInside_13 : decode cX0_nextInside 13 = .ok (.istore 4, 2) := by decide +kernel
theorem dX0_nextInside_15 : decode cX0_nextInside 15 = .ok (.bipush 11, 2) := by decide +kernel
theorem dX0_nextInside_17 : decode cX0_nextInside 17 = .ok (.istore 5, 2) := by decide +kernel
theorem dX0_nextInside_19 : decode cX0_nextInside 19 = .ok (.iload 5, 2) := by decide +kernel
theorem dX0_nextInside_21 : decode cX0_nextInside 21 = .ok (.ifCond .lt 126, 3) := by decide +kernel
theorem dX0_nextInside_24 : decode cX0_nextInside 24 = .ok (.iload_n 1, 1) := by decide +kernel
theorem dX0_nextInside_25 : decode cX0_nextInside 25 = .ok (.iload 5, 2) := by decide +kernel
theorem dX0_nextInside_27 : decode cX0_nextInside 27 = .ok (.ishr, 1) := by decide +kernel
theorem dX0_nextInside_28 : decode cX0_nextInside 28 = .ok (.iconst 1, 1) := by decide +kernel
theorem dX0_nextInside_29 : decode cX0_nextInside 29 = .ok (.iand, 1) := by decide +kernel
theorem dX0_nextInside_30 : decode cX0_nextInside 30 = .ok (.istore 6, 2) := by decide +kernel
theorem dX0_nextInside_32 : decode cX0_nextInside 32 = .ok (.iload_n 2, 1) := by decide +kernel
theorem dX0_nextInside_33 : decode cX0_nextInside 33 = .ok (.iload 5, 2) := by decide +kernel
theorem dX0_nextInside_35 : decode cX0_nextInside 35 = .ok (.ishr, 1) := by decide +kernel
theorem dX0_nextInside_36 : decode cX0_nextInside 36 = .ok (.iconst 1, 1) := by decide +kernel
theorem dX0_nextInside_37 : decode cX0_nextInside 37 = .ok (.iand, 1) := by decide +kernel
theorem dX0_nextInside_38 : decode cX0_nextInside 38 = .ok (.istore 7, 2) := by decide +kernel
theorem dX0_nextInside_40 : decode cX0_nextInside 40 = .ok (.iload_n 3, 1) := by decide +kernel
theorem dX0_nextInside_41 : decode cX0_nextInside 41 = .ok (.iload 5, 2) := by decide +kernel
theorem dX0_nextInside_43 : decode cX0_nextInside 43 = .ok (.ishr, 1) := by decide +kernel
theorem dX0_nextInside_44 : decode cX0_nextInside 44 = .ok (.iconst 1, 1) := by decide +kernel
theorem dX0_nextInside_45 : decode cX0_nextInside 45 = .ok (.iand, 1) := by decide +kernel
end
section
set_option maxRecDepth 100000
theorem dX0_nextInside_46 : decode cX0_nextInside 46 = .ok (.istore 8, 2) := by decide +kernel
theorem dX0_nextInside_48 : decode cX0_nextInside 48 = .ok (.iload 5, 2) := by decide +kernel
theorem dX0_nextInside_50 : decode cX0_nextInside 50 = .ok (.invokestatic 83, 3) := by decide +kernel
theorem dX0_nextInside_53 : decode cX0_nextInside 53 = .ok (.istore 9, 2) := by decide +kernel
theorem dX0_nextInside_55 : decode cX0_nextInside 55 = .ok (.iload 6, 2) := by decide +kernel
theorem dX0_nextInside_57 : decode cX0_nextInside 57 = .ok (.ifCond .ne 11, 3) := by decide +kernel
theorem dX0_nextInside_60 : decode cX0_nextInside 60 = .ok (.iload 7, 2) := by decide +kernel
theorem dX0_nextInside_62 : decode cX0_nextInside 62 = .ok (.iconst 1, 1) := by decide +kernel
theorem dX0_nextInside_63 : decode cX0_nextInside 63 = .ok (.if_icmp .ne 5, 3) := by decide +kernel
theorem dX0_nextInside_66 : decode cX0_nextInside 66 = .ok (.iload_n 2, 1) := by decide +kernel
theorem dX0_nextInside_67 : decode cX0_nextInside 67 = .ok (.ireturn, 1) := by decide +kernel
theorem dX0_nextInside_68 : decode cX0_nextInside 68 = .ok (.iload 6, 2) := by decide +kernel
theorem dX0_nextInside_70 : decode cX0_nextInside 70 = .ok (.iconst 1, 1) := by decide +kernel
theorem dX0_nextInside_71 : decode cX0_nextInside 71 = .ok (.if_icmp .ne 11, 3) := by decide +kernel
theorem dX0_nextInside_74 : decode cX0_nextInside 74 = .ok (.iload 8, 2) := by decide +kernel
theorem dX0_nextInside_76 : decode cX0_nextInside 76 = .ok (.ifCond .ne 6, 3) := by decide +kernel
theorem dX0_nextInside_79 : decode cX0_nextInside 79 = .ok (.iload 4, 2) := by decide +kernel
theorem dX0_nextInside_81 : decode cX0_nextInside 81 = .ok (.ireturn, 1) := by decide +kernel
theorem dX0_nextInside_82 : decode cX0_nextInside 82 = .ok (.iload 7, 2) := by decide +kernel
theorem dX0_nextInside_84 : decode cX0_nextInside 84 = .ok (.iload 8, 2) := by decide +kernel
theorem dX0_nextInside_86 : decode cX0_nextInside 86 = .ok (.if_icmp .eq 36, 3) := by decide +kernel
theorem dX0_nextInside_89 : decode cX0_nextInside 89 = .ok (.iload 6, 2) := by decide +kernel
theorem dX0_nextInside_91 : decode cX0_nextInside 91 = .ok (.ifCond .ne 31, 3) := by decide +kernel
theorem dX0_nextInside_94 : decode cX0_nextInside 94 = .ok (.iload_n 2, 1) := by decide +kernel
theorem dX0_nextInside_95 : decode cX0_nextInside 95 = .ok (.iload 9, 2) := by decide +kernel
theorem dX0_nextInside_97 : decode cX0_nextInside 97 = .ok (.iconst (-1), 1) := by decide +kernel
theorem dX0_nextInside_98 : decode cX0_nextInside 98 = .ok (.ixor, 1) := by decide +kernel
theorem dX0_nextInside_99 : decode cX0_nextInside 99 = .ok (.iand, 1) := by decide +kernel
theorem dX0_nextInside_100 : decode cX0_nextInside 100 = .ok (.iconst 1, 1) := by decide +kernel
theorem dX0_nextInside_101 : decode cX0_nextInside 101 = .ok (.iload 5, 2) := by decide +kernel
theorem dX0_nextInside_103 : decode cX0_nextInside 103 = .ok (.ishl, 1) := by decide +kernel
theorem dX0_nextInside_104 : decode cX0_nextInside 104 = .ok (.ior, 1) := by decide +kernel
theorem dX0_nextInside_105 : decode cX0_nextInside 105 = .ok (.istore 4, 2) := by decide +kernel
theorem dX0_nextInside_107 : decode cX0_nextInside 107 = .ok (.iload_n 3, 1) := by decide +kernel
theorem dX0_nextInside_108 : decode cX0_nextInside 108 = .ok (.iconst 1, 1) := by decide +kernel
theorem dX0_nextInside_109 : decode cX0_nextInside 109 = .ok (.iload 5, 2) := by decide +kernel
theorem dX0_nextInside_111 : decode cX0_nextInside 111 = .ok (.ishl, 1) := by decide +kernel
theorem dX0_nextInside_112 : decode cX0_nextInside 112 = .ok (.iconst (-1), 1) := by decide +kernel
theorem dX0_nextInside_113 : decode cX0_nextInside 113 = .ok (.ixor, 1) := by decide +kernel
theorem dX0_nextInside_114 : decode cX0_nextInside 114 = .ok (.iand, 1) := by decide +kernel
theorem dX0_nextInside_115 : decode cX0_nextInside 115 = .ok (.iload 9, 2) := by decide +kernel
theorem dX0_nextInside_117 : decode cX0_nextInside 117 = .ok (.ior, 1) := by decide +kernel
theorem dX0_nextInside_118 : decode cX0_nextInside 118 = .ok (.istore_n 3, 1) := by decide +kernel
theorem dX0_nextInside_119 : decode cX0_nextInside 119 = .ok (.goto 22, 3) := by decide +kernel
theorem dX0_nextInside_122 : decode cX0_nextInside 122 = .ok (.iload 7, 2) := by decide +kernel
theorem dX0_nextInside_124 : decode cX0_nextInside 124 = .ok (.iload 8, 2) := by decide +kernel
theorem dX0_nextInside_126 : decode cX0_nextInside 126 = .ok (.if_icmp .eq 15, 3) := by decide +kernel
theorem dX0_nextInside_129 : decode cX0_nextInside 129 = .ok (.iload_n 2, 1) := by decide +kernel
theorem dX0_nextInside_130 : decode cX0_nextInside 130 = .ok (.iload 9, 2) := by decide +kernel
theorem dX0_nextInside_132 : decode cX0_nextInside 132 = .ok (.iconst (-1), 1) := by decide +kernel
theorem dX0_nextInside_133 : decode cX0_nextInside 133 = .ok (.ixor, 1) := by decide +kernel
theorem dX0_nextInside_134 : decode cX0_nextInside 134 = .ok (.iand, 1) := by decide +kernel
theorem dX0_nextInside_135 : decode cX0_nextInside 135 = .ok (.iconst 1, 1) := by decide +kernel
theorem dX0_nextInside_136 : decode cX0_nextInside 136 = .ok (.iload 5, 2) := by decide +kernel
theorem dX0_nextInside_138 : decode cX0_nextInside 138 = .ok (.ishl, 1) := by decide +kernel
theorem dX0_nextInside_139 : decode cX0_nextInside 139 = .ok (.ior, 1) := by decide +kernel
theorem dX0_nextInside_140 : decode cX0_nextInside 140 = .ok (.istore_n 2, 1) := by decide +kernel
theorem dX0_nextInside_141 : decode cX0_nextInside 141 = .ok (.iinc 5 (-1), 3) := by decide +kernel
theorem dX0_nextInside_144 : decode cX0_nextInside 144 = .ok (.goto (-125), 3) := by decide +kernel
theorem dX0_nextInside_147 : decode cX0_nextInside 147 = .ok (.iload 4, 2) := by decide +kernel
theorem dX0_nextInside_149 : decode cX0_nextInside 149 = .ok (.ireturn, 1) := by decide +kernel
theorem dX0_lowerBits_0 : decode cX0_lowerBits 0 = .ok (.iconst 0, 1) := by decide +kernel
theorem dX0_lowerBits_1 : decode cX0_lowerBits 1 = .ok (.istore_n 1, 1) := by decide +kernel
theorem dX0_lowerBits_2 : decode cX0_lowerBits 2 = .ok (.iload_n 0, 1) := by decide +kernel
theorem dX0_lowerBits_3 : decode cX0_lowerBits 3 = .ok (.iconst 2, 1) := by decide +kernel
theorem dX0_lowerBits_4 : decode cX0_lowerBits 4 = .ok (.isub, 1) := by decide +kernel
theorem dX0_lowerBits_5 : decode cX0_lowerBits 5 = .ok (.istore_n 2, 1) := by decide +kernel
theorem dX0_lowerBits_6 : decode cX0_lowerBits 6 = .ok (.iload_n 2, 1) := by decide +kernel
theorem dX0_lowerBits_7 : decode cX0_lowerBits 7 = .ok (.ifCond .lt 15, 3) := by decide +kernel
theorem dX0_lowerBits_10 : decode cX0_lowerBits 10 = .ok (.iload_n 1, 1) := by decide +kernel
theorem dX0_lowerBits_11 : decode cX0_lowerBits 11 = .ok (.iconst 1, 1) := by decide +kernel
theorem dX0_lowerBits_12 : decode cX0_lowerBits 12 = .ok (.iload_n 2, 1) := by decide +kernel
theorem dX0_lowerBits_13 : decode cX0_lowerBits 13 = .ok (.ishl, 1) := by decide +kernel
theorem dX0_lowerBits_14 : decode cX0_lowerBits 14 = .ok (.ior, 1) := by decide +kernel
theorem dX0_lowerBits_15 : decode cX0_lowerBits 15 = .ok (.istore_n 1, 1) := by decide +kernel
theorem dX0_lowerBits_16 : decode cX0_lowerBits 16 = .ok (.iinc 2 (-2), 3) := by decide +kernel
theorem dX0_lowerBits_19 : decode cX0_lowerBits 19 = .ok (.goto (-13), 3) := by decide +kernel
theorem dX0_lowerBits_22 : decode cX0_lowerBits 22 = .ok (.iload_n 1, 1) := by decide +kernel
theorem dX0_lowerBits_23 : decode cX0_lowerBits 23 = .ok (.ireturn, 1) := by decide +kernel
theorem dX0_countBox_0 : decode cX0_countBox 0 = .ok (.iload_n 1, 1) := by decide +kernel
theorem dX0_countBox_1 : decode cX0_countBox 1 = .ok (.invokestatic 44, 3) := by decide +kernel
theorem dX0_countBox_4 : decode cX0_countBox 4 = .ok (.ifCond .ne 10, 3) := by decide +kernel
theorem dX0_countBox_7 : decode cX0_countBox 7 = .ok (.iload_n 2, 1) := by decide +kernel
theorem dX0_countBox_8 : decode cX0_countBox 8 = .ok (.invokestatic 44, 3) := by decide +kernel
theorem dX0_countBox_11 : decode cX0_countBox 11 = .ok (.ifCond .eq 5, 3) := by decide +kernel
theorem dX0_countBox_14 : decode cX0_countBox 14 = .ok (.iconst (-1), 1) := by decide +kernel
theorem dX0_countBox_15 : decode cX0_countBox 15 = .ok (.ireturn, 1) := by decide +kernel
theorem dX0_countBox_16 : decode cX0_countBox 16 = .ok (.aload_n 0, 1) := by decide +kernel
theorem dX0_countBox_17 : decode cX0_countBox 17 = .ok (.iload_n 1, 1) := by decide +kernel
theorem dX0_countBox_18 : decode cX0_countBox 18 = .ok (.iload_n 2, 1) := by decide +kernel
theorem dX0_countBox_19 : decode cX0_countBox 19 = .ok (.invokevirtual 95, 3) := by decide +kernel
theorem dX0_countBox_22 : decode cX0_countBox 22 = .ok (.aload_n 0, 1) := by decide +kernel
theorem dX0_countBox_23 : decode cX0_countBox 23 = .ok (.invokevirtual 99, 3) := by decide +kernel
theorem dX0_countBox_26 : decode cX0_countBox 26 = .ok (.aload_n 0, 1) := by decide +kernel
theorem dX0_countBox_27 : decode cX0_countBox 27 = .ok (.getfield 86, 3) := by decide +kernel
theorem dX0_countBox_30 : decode cX0_countBox 30 = .ok (.ireturn, 1) := by decide +kernel
theorem dX0_sumBox_0 : decode cX0_sumBox 0 = .ok (.iload_n 1, 1) := by decide +kernel
theorem dX0_sumBox_1 : decode cX0_sumBox 1 = .ok (.invokestatic 44, 3) := by decide +kernel
theorem dX0_sumBox_4 : decode cX0_sumBox 4 = .ok (.ifCond .ne 10, 3) := by decide +kernel
theorem dX0_sumBox_7 : decode cX0_sumBox 7 = .ok (.iload_n 2, 1) := by decide +kernel
theorem dX0_sumBox_8 : decode cX0_sumBox 8 = .ok (.invokestatic 44, 3) := by decide +kernel
theorem dX0_sumBox_11 : decode cX0_sumBox 11 = .ok (.ifCond .eq 5, 3) := by decide +kernel
theorem dX0_sumBox_14 : decode cX0_sumBox 14 = .ok (.iconst (-1), 1) := by decide +kernel
theorem dX0_sumBox_15 : decode cX0_sumBox 15 = .ok (.ireturn, 1) := by decide +kernel
theorem dX0_sumBox_16 : decode cX0_sumBox 16 = .ok (.aload_n 0, 1) := by decide +kernel
theorem dX0_sumBox_17 : decode cX0_sumBox 17 = .ok (.iload_n 1, 1) := by decide +kernel
theorem dX0_sumBox_18 : decode cX0_sumBox 18 = .ok (.iload_n 2, 1) := by decide +kernel
theorem dX0_sumBox_19 : decode cX0_sumBox 19 = .ok (.invokevirtual 95, 3) := by decide +kernel
theorem dX0_sumBox_22 : decode cX0_sumBox 22 = .ok (.aload_n 0, 1) := by decide +kernel
theorem dX0_sumBox_23 : decode cX0_sumBox 23 = .ok (.invokevirtual 99, 3) := by decide +kernel
theorem dX0_sumBox_26 : decode cX0_sumBox 26 = .ok (.iconst 0, 1) := by decide +kernel
theorem dX0_sumBox_27 : decode cX0_sumBox 27 = .ok (.istore_n 3, 1) := by decide +kernel
theorem dX0_sumBox_28 : decode cX0_sumBox 28 = .ok (.iconst 0, 1) := by decide +kernel
theorem dX0_sumBox_29 : decode cX0_sumBox 29 = .ok (.istore 4, 2) := by decide +kernel
theorem dX0_sumBox_31 : decode cX0_sumBox 31 = .ok (.iload 4, 2) := by decide +kernel
theorem dX0_sumBox_33 : decode cX0_sumBox 33 = .ok (.aload_n 0, 1) := by decide +kernel
theorem dX0_sumBox_34 : decode cX0_sumBox 34 = .ok (.getfield 86, 3) := by decide +kernel
theorem dX0_sumBox_37 : decode cX0_sumBox 37 = .ok (.if_icmp .ge 24, 3) := by decide +kernel
theorem dX0_sumBox_40 : decode cX0_sumBox 40 = .ok (.iload_n 3, 1) := by decide +kernel
theorem dX0_sumBox_41 : decode cX0_sumBox 41 = .ok (.aload_n 0, 1) := by decide +kernel
theorem dX0_sumBox_42 : decode cX0_sumBox 42 = .ok (.getfield 20, 3) := by decide +kernel
theorem dX0_sumBox_45 : decode cX0_sumBox 45 = .ok (.aload_n 0, 1) := by decide +kernel
theorem dX0_sumBox_46 : decode cX0_sumBox 46 = .ok (.getfield 26, 3) := by decide +kernel
theorem dX0_sumBox_49 : decode cX0_sumBox 49 = .ok (.iload 4, 2) := by decide +kernel
theorem dX0_sumBox_51 : decode cX0_sumBox 51 = .ok (.iaload, 1) := by decide +kernel
theorem dX0_sumBox_52 : decode cX0_sumBox 52 = .ok (.iaload, 1) := by decide +kernel
theorem dX0_sumBox_53 : decode cX0_sumBox 53 = .ok (.iadd, 1) := by decide +kernel
theorem dX0_sumBox_54 : decode cX0_sumBox 54 = .ok (.istore_n 3, 1) := by decide +kernel
theorem dX0_sumBox_55 : decode cX0_sumBox 55 = .ok (.iinc 4 1, 3) := by decide +kernel
theorem dX0_sumBox_58 : decode cX0_sumBox 58 = .ok (.goto (-27), 3) := by decide +kernel
theorem dX0_sumBox_61 : decode cX0_sumBox 61 = .ok (.iload_n 3, 1) := by decide +kernel
theorem dX0_sumBox_62 : decode cX0_sumBox 62 = .ok (.ireturn, 1) := by decide +kernel
theorem dX0_countNear_0 : decode cX0_countNear 0 = .ok (.iload_n 1, 1) := by decide +kernel
theorem dX0_countNear_1 : decode cX0_countNear 1 = .ok (.invokestatic 44, 3) := by decide +kernel
theorem dX0_countNear_4 : decode cX0_countNear 4 = .ok (.ifCond .eq 5, 3) := by decide +kernel
theorem dX0_countNear_7 : decode cX0_countNear 7 = .ok (.iconst (-1), 1) := by decide +kernel
theorem dX0_countNear_8 : decode cX0_countNear 8 = .ok (.ireturn, 1) := by decide +kernel
theorem dX0_countNear_9 : decode cX0_countNear 9 = .ok (.iload_n 2, 1) := by decide +kernel
theorem dX0_countNear_10 : decode cX0_countNear 10 = .ok (.ifCond .ge 5, 3) := by decide +kernel
theorem dX0_countNear_13 : decode cX0_countNear 13 = .ok (.iconst 0, 1) := by decide +kernel
theorem dX0_countNear_14 : decode cX0_countNear 14 = .ok (.ireturn, 1) := by decide +kernel
theorem dX0_countNear_15 : decode cX0_countNear 15 = .ok (.aload_n 0, 1) := by decide +kernel
theorem dX0_countNear_16 : decode cX0_countNear 16 = .ok (.iload_n 1, 1) := by decide +kernel
theorem dX0_countNear_17 : decode cX0_countNear 17 = .ok (.bipush 63, 2) := by decide +kernel
theorem dX0_countNear_19 : decode cX0_countNear 19 = .ok (.iand, 1) := by decide +kernel
theorem dX0_countNear_20 : decode cX0_countNear 20 = .ok (.iload_n 1, 1) := by decide +kernel
theorem dX0_countNear_21 : decode cX0_countNear 21 = .ok (.bipush 6, 2) := by decide +kernel
theorem dX0_countNear_23 : decode cX0_countNear 23 = .ok (.ishr, 1) := by decide +kernel
theorem dX0_countNear_24 : decode cX0_countNear 24 = .ok (.iload_n 2, 1) := by decide +kernel
theorem dX0_countNear_25 : decode cX0_countNear 25 = .ok (.invokevirtual 112, 3) := by decide +kernel
theorem dX0_countNear_28 : decode cX0_countNear 28 = .ok (.aload_n 0, 1) := by decide +kernel
theorem dX0_countNear_29 : decode cX0_countNear 29 = .ok (.getfield 86, 3) := by decide +kernel
theorem dX0_countNear_32 : decode cX0_countNear 32 = .ok (.ireturn, 1) := by decide +kernel
theorem dX0_walkNear_0 : decode cX0_walkNear 0 = .ok (.iload_n 3, 1) := by decide +kernel
theorem dX0_walkNear_1 : decode cX0_walkNear 1 = .ok (.invokestatic 102, 3) := by decide +kernel
theorem dX0_walkNear_4 : decode cX0_walkNear 4 = .ok (.istore 4, 2) := by decide +kernel
theorem dX0_walkNear_6 : decode cX0_walkNear 6 = .ok (.iload_n 1, 1) := by decide +kernel
theorem dX0_walkNear_7 : decode cX0_walkNear 7 = .ok (.iload 4, 2) := by decide +kernel
theorem dX0_walkNear_9 : decode cX0_walkNear 9 = .ok (.isub, 1) := by decide +kernel
theorem dX0_walkNear_10 : decode cX0_walkNear 10 = .ok (.invokestatic 105, 3) := by decide +kernel
theorem dX0_walkNear_13 : decode cX0_walkNear 13 = .ok (.istore 5, 2) := by decide +kernel
theorem dX0_walkNear_15 : decode cX0_walkNear 15 = .ok (.iload_n 1, 1) := by decide +kernel
theorem dX0_walkNear_16 : decode cX0_walkNear 16 = .ok (.iload 4, 2) := by decide +kernel
theorem dX0_walkNear_18 : decode cX0_walkNear 18 = .ok (.iadd, 1) := by decide +kernel
theorem dX0_walkNear_19 : decode cX0_walkNear 19 = .ok (.invokestatic 105, 3) := by decide +kernel
theorem dX0_walkNear_22 : decode cX0_walkNear 22 = .ok (.istore 6, 2) := by decide +kernel
theorem dX0_walkNear_24 : decode cX0_walkNear 24 = .ok (.iload_n 2, 1) := by decide +kernel
theorem dX0_walkNear_25 : decode cX0_walkNear 25 = .ok (.iload 4, 2) := by decide +kernel
theorem dX0_walkNear_27 : decode cX0_walkNear 27 = .ok (.isub, 1) := by decide +kernel
theorem dX0_walkNear_28 : decode cX0_walkNear 28 = .ok (.invokestatic 105, 3) := by decide +kernel
theorem dX0_walkNear_31 : decode cX0_walkNear 31 = .ok (.istore 7, 2) := by decide +kernel
theorem dX0_walkNear_33 : decode cX0_walkNear 33 = .ok (.iload_n 2, 1) := by decide +kernel
theorem dX0_walkNear_34 : decode cX0_walkNear 34 = .ok (.iload 4, 2) := by decide +kernel
theorem dX0_walkNear_36 : decode cX0_walkNear 36 = .ok (.iadd, 1) := by decide +kernel
theorem dX0_walkNear_37 : decode cX0_walkNear 37 = .ok (.invokestatic 105, 3) := by decide +kernel
theorem dX0_walkNear_40 : decode cX0_walkNear 40 = .ok (.istore 8, 2) := by decide +kernel
theorem dX0_walkNear_42 : decode cX0_walkNear 42 = .ok (.aload_n 0, 1) := by decide +kernel
theorem dX0_walkNear_43 : decode cX0_walkNear 43 = .ok (.iload 5, 2) := by decide +kernel
theorem dX0_walkNear_45 : decode cX0_walkNear 45 = .ok (.iload 7, 2) := by decide +kernel
theorem dX0_walkNear_47 : decode cX0_walkNear 47 = .ok (.iload 6, 2) := by decide +kernel
theorem dX0_walkNear_49 : decode cX0_walkNear 49 = .ok (.iload 8, 2) := by decide +kernel
theorem dX0_walkNear_51 : decode cX0_walkNear 51 = .ok (.invokevirtual 79, 3) := by decide +kernel
theorem dX0_walkNear_54 : decode cX0_walkNear 54 = .ok (.aload_n 0, 1) := by decide +kernel
theorem dX0_walkNear_55 : decode cX0_walkNear 55 = .ok (.invokevirtual 99, 3) := by decide +kernel
theorem dX0_walkNear_58 : decode cX0_walkNear 58 = .ok (.iconst 0, 1) := by decide +kernel
theorem dX0_walkNear_59 : decode cX0_walkNear 59 = .ok (.istore 9, 2) := by decide +kernel
theorem dX0_walkNear_61 : decode cX0_walkNear 61 = .ok (.iconst 0, 1) := by decide +kernel
theorem dX0_walkNear_62 : decode cX0_walkNear 62 = .ok (.istore 10, 2) := by decide +kernel
theorem dX0_walkNear_64 : decode cX0_walkNear 64 = .ok (.iload 10, 2) := by decide +kernel
theorem dX0_walkNear_66 : decode cX0_walkNear 66 = .ok (.aload_n 0, 1) := by decide +kernel
theorem dX0_walkNear_67 : decode cX0_walkNear 67 = .ok (.getfield 86, 3) := by decide +kernel
theorem dX0_walkNear_70 : decode cX0_walkNear 70 = .ok (.if_icmp .ge 47, 3) := by decide +kernel
theorem dX0_walkNear_73 : decode cX0_walkNear 73 = .ok (.aload_n 0, 1) := by decide +kernel
theorem dX0_walkNear_74 : decode cX0_walkNear 74 = .ok (.iload_n 1, 1) := by decide +kernel
theorem dX0_walkNear_75 : decode cX0_walkNear 75 = .ok (.iload_n 2, 1) := by decide +kernel
theorem dX0_walkNear_76 : decode cX0_walkNear 76 = .ok (.aload_n 0, 1) := by decide +kernel
theorem dX0_walkNear_77 : decode cX0_walkNear 77 = .ok (.getfield 26, 3) := by decide +kernel
theorem dX0_walkNear_80 : decode cX0_walkNear 80 = .ok (.iload 10, 2) := by decide +kernel
theorem dX0_walkNear_82 : decode cX0_walkNear 82 = .ok (.iaload, 1) := by decide +kernel
theorem dX0_walkNear_83 : decode cX0_walkNear 83 = .ok (.invokevirtual 108, 3) := by decide +kernel
theorem dX0_walkNear_86 : decode cX0_walkNear 86 = .ok (.istore 11, 2) := by decide +kernel
theorem dX0_walkNear_88 : decode cX0_walkNear 88 = .ok (.iload 11, 2) := by decide +kernel
theorem dX0_walkNear_90 : decode cX0_walkNear 90 = .ok (.iload_n 3, 1) := by decide +kernel
theorem dX0_walkNear_91 : decode cX0_walkNear 91 = .ok (.if_icmp .gt 20, 3) := by decide +kernel
theorem dX0_walkNear_94 : decode cX0_walkNear 94 = .ok (.aload_n 0, 1) := by decide +kernel
theorem dX0_walkNear_95 : decode cX0_walkNear 95 = .ok (.getfield 26, 3) := by decide +kernel
theorem dX0_walkNear_98 : decode cX0_walkNear 98 = .ok (.iload 9, 2) := by decide +kernel
theorem dX0_walkNear_100 : decode cX0_walkNear 100 = .ok (.aload_n 0, 1) := by decide +kernel
theorem dX0_walkNear_101 : decode cX0_walkNear 101 = .ok (.getfield 26, 3) := by decide +kernel
theorem dX0_walkNear_104 : decode cX0_walkNear 104 = .ok (.iload 10, 2) := by decide +kernel
theorem dX0_walkNear_106 : decode cX0_walkNear 106 = .ok (.iaload, 1) := by decide +kernel
theorem dX0_walkNear_107 : decode cX0_walkNear 107 = .ok (.iastore, 1) := by decide +kernel
theorem dX0_walkNear_108 : decode cX0_walkNear 108 = .ok (.iinc 9 1, 3) := by decide +kernel
theorem dX0_walkNear_111 : decode cX0_walkNear 111 = .ok (.iinc 10 1, 3) := by decide +kernel
theorem dX0_walkNear_114 : decode cX0_walkNear 114 = .ok (.goto (-50), 3) := by decide +kernel
theorem dX0_walkNear_117 : decode cX0_walkNear 117 = .ok (.aload_n 0, 1) := by decide +kernel
theorem dX0_walkNear_118 : decode cX0_walkNear 118 = .ok (.iload 9, 2) := by decide +kernel
theorem dX0_walkNear_120 : decode cX0_walkNear 120 = .ok (.putfield 86, 3) := by decide +kernel
theorem dX0_walkNear_123 : decode cX0_walkNear 123 = .ok (.return_, 1) := by decide +kernel
theorem dX0_rootOf_0 : decode cX0_rootOf 0 = .ok (.iconst 0, 1) := by decide +kernel
theorem dX0_rootOf_1 : decode cX0_rootOf 1 = .ok (.istore_n 1, 1) := by decide +kernel
theorem dX0_rootOf_2 : decode cX0_rootOf 2 = .ok (.iload_n 1, 1) := by decide +kernel
theorem dX0_rootOf_3 : decode cX0_rootOf 3 = .ok (.bipush 90, 2) := by decide +kernel
theorem dX0_rootOf_5 : decode cX0_rootOf 5 = .ok (.if_icmp .ge 20, 3) := by decide +kernel
theorem dX0_rootOf_8 : decode cX0_rootOf 8 = .ok (.iload_n 1, 1) := by decide +kernel
theorem dX0_rootOf_9 : decode cX0_rootOf 9 = .ok (.iconst 1, 1) := by decide +kernel
theorem dX0_rootOf_10 : decode cX0_rootOf 10 = .ok (.iadd, 1) := by decide +kernel
theorem dX0_rootOf_11 : decode cX0_rootOf 11 = .ok (.iload_n 1, 1) := by decide +kernel
theorem dX0_rootOf_12 : decode cX0_rootOf 12 = .ok (.iconst 1, 1) := by decide +kernel
theorem dX0_rootOf_13 : decode cX0_rootOf 13 = .ok (.iadd, 1) := by decide +kernel
theorem dX0_rootOf_14 : decode cX0_rootOf 14 = .ok (.imul, 1) := by decide +kernel
theorem dX0_rootOf_15 : decode cX0_rootOf 15 = .ok (.iload_n 0, 1) := by decide +kernel
theorem dX0_rootOf_16 : decode cX0_rootOf 16 = .ok (.if_icmp .gt 9, 3) := by decide +kernel
theorem dX0_rootOf_19 : decode cX0_rootOf 19 = .ok (.iinc 1 1, 3) := by decide +kernel
theorem dX0_rootOf_22 : decode cX0_rootOf 22 = .ok (.goto (-20), 3) := by decide +kernel
theorem dX0_rootOf_25 : decode cX0_rootOf 25 = .ok (.iload_n 1, 1) := by decide +kernel
theorem dX0_rootOf_26 : decode cX0_rootOf 26 = .ok (.ireturn, 1) := by decide +kernel
theorem dX0_clamp_0 : decode cX0_clamp 0 = .ok (.iload_n 0, 1) := by decide +kernel
theorem dX0_clamp_1 : decode cX0_clamp 1 = .ok (.ifCond .ge 5, 3) := by decide +kernel
theorem dX0_clamp_4 : decode cX0_clamp 4 = .ok (.iconst 0, 1) := by decide +kernel
theorem dX0_clamp_5 : decode cX0_clamp 5 = .ok (.ireturn, 1) := by decide +kernel
theorem dX0_clamp_6 : decode cX0_clamp 6 = .ok (.iload_n 0, 1) := by decide +kernel
theorem dX0_clamp_7 : decode cX0_clamp 7 = .ok (.bipush 63, 2) := by decide +kernel
theorem dX0_clamp_9 : decode cX0_clamp 9 = .ok (.if_icmp .le 8, 3) := by decide +kernel
theorem dX0_clamp_12 : decode cX0_clamp 12 = .ok (.bipush 63, 2) := by decide +kernel
theorem dX0_clamp_14 : decode cX0_clamp 14 = .ok (.goto 4, 3) := by decide +kernel
theorem dX0_clamp_17 : decode cX0_clamp 17 = .ok (.iload_n 0, 1) := by decide +kernel
theorem dX0_clamp_18 : decode cX0_clamp 18 = .ok (.ireturn, 1) := by decide +kernel
theorem dX0_distanceTo_0 : decode cX0_distanceTo 0 = .ok (.aload_n 0, 1) := by decide +kernel
theorem dX0_distanceTo_1 : decode cX0_distanceTo 1 = .ok (.getfield 13, 3) := by decide +kernel
theorem dX0_distanceTo_4 : decode cX0_distanceTo 4 = .ok (.iload_n 3, 1) := by decide +kernel
theorem dX0_distanceTo_5 : decode cX0_distanceTo 5 = .ok (.iaload, 1) := by decide +kernel
theorem dX0_distanceTo_6 : decode cX0_distanceTo 6 = .ok (.iload_n 1, 1) := by decide +kernel
theorem dX0_distanceTo_7 : decode cX0_distanceTo 7 = .ok (.isub, 1) := by decide +kernel
theorem dX0_distanceTo_8 : decode cX0_distanceTo 8 = .ok (.istore 4, 2) := by decide +kernel
theorem dX0_distanceTo_10 : decode cX0_distanceTo 10 = .ok (.aload_n 0, 1) := by decide +kernel
theorem dX0_distanceTo_11 : decode cX0_distanceTo 11 = .ok (.getfield 17, 3) := by decide +kernel
theorem dX0_distanceTo_14 : decode cX0_distanceTo 14 = .ok (.iload_n 3, 1) := by decide +kernel
theorem dX0_distanceTo_15 : decode cX0_distanceTo 15 = .ok (.iaload, 1) := by decide +kernel
theorem dX0_distanceTo_16 : decode cX0_distanceTo 16 = .ok (.iload_n 2, 1) := by decide +kernel
theorem dX0_distanceTo_17 : decode cX0_distanceTo 17 = .ok (.isub, 1) := by decide +kernel
theorem dX0_distanceTo_18 : decode cX0_distanceTo 18 = .ok (.istore 5, 2) := by decide +kernel
theorem dX0_distanceTo_20 : decode cX0_distanceTo 20 = .ok (.iload 4, 2) := by decide +kernel
theorem dX0_distanceTo_22 : decode cX0_distanceTo 22 = .ok (.iload 4, 2) := by decide +kernel
theorem dX0_distanceTo_24 : decode cX0_distanceTo 24 = .ok (.imul, 1) := by decide +kernel
theorem dX0_distanceTo_25 : decode cX0_distanceTo 25 = .ok (.iload 5, 2) := by decide +kernel
theorem dX0_distanceTo_27 : decode cX0_distanceTo 27 = .ok (.iload 5, 2) := by decide +kernel
theorem dX0_distanceTo_29 : decode cX0_distanceTo 29 = .ok (.imul, 1) := by decide +kernel
theorem dX0_distanceTo_30 : decode cX0_distanceTo 30 = .ok (.iadd, 1) := by decide +kernel
theorem dX0_distanceTo_31 : decode cX0_distanceTo 31 = .ok (.ireturn, 1) := by decide +kernel
theorem dX0_nearest_0 : decode cX0_nearest 0 = .ok (.iload_n 1, 1) := by decide +kernel
theorem dX0_nearest_1 : decode cX0_nearest 1 = .ok (.invokestatic 44, 3) := by decide +kernel
theorem dX0_nearest_4 : decode cX0_nearest 4 = .ok (.ifCond .eq 5, 3) := by decide +kernel
theorem dX0_nearest_7 : decode cX0_nearest 7 = .ok (.iconst (-1), 1) := by decide +kernel
theorem dX0_nearest_8 : decode cX0_nearest 8 = .ok (.ireturn, 1) := by decide +kernel
theorem dX0_nearest_9 : decode cX0_nearest 9 = .ok (.iload_n 2, 1) := by decide +kernel
theorem dX0_nearest_10 : decode cX0_nearest 10 = .ok (.ifCond .ge 6, 3) := by decide +kernel
theorem dX0_nearest_13 : decode cX0_nearest 13 = .ok (.bipush (-4), 2) := by decide +kernel
theorem dX0_nearest_15 : decode cX0_nearest 15 = .ok (.ireturn, 1) := by decide +kernel
theorem dX0_nearest_16 : decode cX0_nearest 16 = .ok (.iload_n 2, 1) := by decide +kernel
theorem dX0_nearest_17 : decode cX0_nearest 17 = .ok (.aload_n 0, 1) := by decide +kernel
theorem dX0_nearest_18 : decode cX0_nearest 18 = .ok (.getfield 29, 3) := by decide +kernel
theorem dX0_nearest_21 : decode cX0_nearest 21 = .ok (.if_icmp .lt 6, 3) := by decide +kernel
theorem dX0_nearest_24 : decode cX0_nearest 24 = .ok (.bipush (-3), 2) := by decide +kernel
theorem dX0_nearest_26 : decode cX0_nearest 26 = .ok (.ireturn, 1) := by decide +kernel
theorem dX0_nearest_27 : decode cX0_nearest 27 = .ok (.iload_n 1, 1) := by decide +kernel
theorem dX0_nearest_28 : decode cX0_nearest 28 = .ok (.bipush 63, 2) := by decide +kernel
theorem dX0_nearest_30 : decode cX0_nearest 30 = .ok (.iand, 1) := by decide +kernel
theorem dX0_nearest_31 : decode cX0_nearest 31 = .ok (.istore_n 3, 1) := by decide +kernel
theorem dX0_nearest_32 : decode cX0_nearest 32 = .ok (.iload_n 1, 1) := by decide +kernel
theorem dX0_nearest_33 : decode cX0_nearest 33 = .ok (.bipush 6, 2) := by decide +kernel
theorem dX0_nearest_35 : decode cX0_nearest 35 = .ok (.ishr, 1) := by decide +kernel
theorem dX0_nearest_36 : decode cX0_nearest 36 = .ok (.istore 4, 2) := by decide +kernel
theorem dX0_nearest_38 : decode cX0_nearest 38 = .ok (.aload_n 0, 1) := by decide +kernel
theorem dX0_nearest_39 : decode cX0_nearest 39 = .ok (.iconst 0, 1) := by decide +kernel
theorem dX0_nearest_40 : decode cX0_nearest 40 = .ok (.putfield 86, 3) := by decide +kernel
theorem dX0_nearest_43 : decode cX0_nearest 43 = .ok (.iconst 2, 1) := by decide +kernel
theorem dX0_nearest_44 : decode cX0_nearest 44 = .ok (.istore 5, 2) := by decide +kernel
theorem dX0_nearest_46 : decode cX0_nearest 46 = .ok (.iload 5, 2) := by decide +kernel
theorem dX0_nearest_48 : decode cX0_nearest 48 = .ok (.sipush 128, 3) := by decide +kernel
theorem dX0_nearest_51 : decode cX0_nearest 51 = .ok (.if_icmp .gt 32, 3) := by decide +kernel
theorem dX0_nearest_54 : decode cX0_nearest 54 = .ok (.aload_n 0, 1) := by decide +kernel
theorem dX0_nearest_55 : decode cX0_nearest 55 = .ok (.getfield 86, 3) := by decide +kernel
theorem dX0_nearest_58 : decode cX0_nearest 58 = .ok (.iload_n 2, 1) := by decide +kernel
theorem dX0_nearest_59 : decode cX0_nearest 59 = .ok (.if_icmp .gt 24, 3) := by decide +kernel
theorem dX0_nearest_62 : decode cX0_nearest 62 = .ok (.aload_n 0, 1) := by decide +kernel
theorem dX0_nearest_63 : decode cX0_nearest 63 = .ok (.iload_n 3, 1) := by decide +kernel
theorem dX0_nearest_64 : decode cX0_nearest 64 = .ok (.iload 4, 2) := by decide +kernel
theorem dX0_nearest_66 : decode cX0_nearest 66 = .ok (.iload 5, 2) := by decide +kernel
theorem dX0_nearest_68 : decode cX0_nearest 68 = .ok (.iload 5, 2) := by decide +kernel
theorem dX0_nearest_70 : decode cX0_nearest 70 = .ok (.imul, 1) := by decide +kernel
theorem dX0_nearest_71 : decode cX0_nearest 71 = .ok (.invokevirtual 112, 3) := by decide +kernel
theorem dX0_nearest_74 : decode cX0_nearest 74 = .ok (.iload 5, 2) := by decide +kernel
theorem dX0_nearest_76 : decode cX0_nearest 76 = .ok (.iconst 2, 1) := by decide +kernel
theorem dX0_nearest_77 : decode cX0_nearest 77 = .ok (.imul, 1) := by decide +kernel
theorem dX0_nearest_78 : decode cX0_nearest 78 = .ok (.istore 5, 2) := by decide +kernel
theorem dX0_nearest_80 : decode cX0_nearest 80 = .ok (.goto (-34), 3) := by decide +kernel
theorem dX0_nearest_83 : decode cX0_nearest 83 = .ok (.aload_n 0, 1) := by decide +kernel
theorem dX0_nearest_84 : decode cX0_nearest 84 = .ok (.iload_n 3, 1) := by decide +kernel
theorem dX0_nearest_85 : decode cX0_nearest 85 = .ok (.iload 4, 2) := by decide +kernel
theorem dX0_nearest_87 : decode cX0_nearest 87 = .ok (.invokevirtual 120, 3) := by decide +kernel
theorem dX0_nearest_90 : decode cX0_nearest 90 = .ok (.aload_n 0, 1) := by decide +kernel
theorem dX0_nearest_91 : decode cX0_nearest 91 = .ok (.getfield 26, 3) := by decide +kernel
theorem dX0_nearest_94 : decode cX0_nearest 94 = .ok (.iload_n 2, 1) := by decide +kernel
theorem dX0_nearest_95 : decode cX0_nearest 95 = .ok (.iaload, 1) := by decide +kernel
theorem dX0_nearest_96 : decode cX0_nearest 96 = .ok (.ireturn, 1) := by decide +kernel
theorem dX0_sortFound_0 : decode cX0_sortFound 0 = .ok (.iconst 1, 1) := by decide +kernel
theorem dX0_sortFound_1 : decode cX0_sortFound 1 = .ok (.istore_n 3, 1) := by decide +kernel
theorem dX0_sortFound_2 : decode cX0_sortFound 2 = .ok (.iload_n 3, 1) := by decide +kernel
theorem dX0_sortFound_3 : decode cX0_sortFound 3 = .ok (.aload_n 0, 1) := by decide +kernel
theorem dX0_sortFound_4 : decode cX0_sortFound 4 = .ok (.getfield 86, 3) := by decide +kernel
theorem dX0_sortFound_7 : decode cX0_sortFound 7 = .ok (.if_icmp .ge 76, 3) := by decide +kernel
theorem dX0_sortFound_10 : decode cX0_sortFound 10 = .ok (.aload_n 0, 1) := by decide +kernel
theorem dX0_sortFound_11 : decode cX0_sortFound 11 = .ok (.getfield 26, 3) := by decide +kernel
theorem dX0_sortFound_14 : decode cX0_sortFound 14 = .ok (.iload_n 3, 1) := by decide +kernel
theorem dX0_sortFound_15 : decode cX0_sortFound 15 = .ok (.iaload, 1) := by decide +kernel
theorem dX0_sortFound_16 : decode cX0_sortFound 16 = .ok (.istore 4, 2) := by decide +kernel
theorem dX0_sortFound_18 : decode cX0_sortFound 18 = .ok (.iload_n 3, 1) := by decide +kernel
theorem dX0_sortFound_19 : decode cX0_sortFound 19 = .ok (.istore 5, 2) := by decide +kernel
theorem dX0_sortFound_21 : decode cX0_sortFound 21 = .ok (.iload 5, 2) := by decide +kernel
theorem dX0_sortFound_23 : decode cX0_sortFound 23 = .ok (.ifCond .le 45, 3) := by decide +kernel
theorem dX0_sortFound_26 : decode cX0_sortFound 26 = .ok (.aload_n 0, 1) := by decide +kernel
theorem dX0_sortFound_27 : decode cX0_sortFound 27 = .ok (.iload_n 1, 1) := by decide +kernel
theorem dX0_sortFound_28 : decode cX0_sortFound 28 = .ok (.iload_n 2, 1) := by decide +kernel
theorem dX0_sortFound_29 : decode cX0_sortFound 29 = .ok (.iload 4, 2) := by decide +kernel
theorem dX0_sortFound_31 : decode cX0_sortFound 31 = .ok (.aload_n 0, 1) := by decide +kernel
theorem dX0_sortFound_32 : decode cX0_sortFound 32 = .ok (.getfield 26, 3) := by decide +kernel
theorem dX0_sortFound_35 : decode cX0_sortFound 35 = .ok (.iload 5, 2) := by decide +kernel
theorem dX0_sortFound_37 : decode cX0_sortFound 37 = .ok (.iconst 1, 1) := by decide +kernel
theorem dX0_sortFound_38 : decode cX0_sortFound 38 = .ok (.isub, 1) := by decide +kernel
theorem dX0_sortFound_39 : decode cX0_sortFound 39 = .ok (.iaload, 1) := by decide +kernel
theorem dX0_sortFound_40 : decode cX0_sortFound 40 = .ok (.invokevirtual 116, 3) := by decide +kernel
theorem dX0_sortFound_43 : decode cX0_sortFound 43 = .ok (.ifCond .eq 25, 3) := by decide +kernel
theorem dX0_sortFound_46 : decode cX0_sortFound 46 = .ok (.aload_n 0, 1) := by decide +kernel
theorem dX0_sortFound_47 : decode cX0_sortFound 47 = .ok (.getfield 26, 3) := by decide +kernel
theorem dX0_sortFound_50 : decode cX0_sortFound 50 = .ok (.iload 5, 2) := by decide +kernel
theorem dX0_sortFound_52 : decode cX0_sortFound 52 = .ok (.aload_n 0, 1) := by decide +kernel
theorem dX0_sortFound_53 : decode cX0_sortFound 53 = .ok (.getfield 26, 3) := by decide +kernel
theorem dX0_sortFound_56 : decode cX0_sortFound 56 = .ok (.iload 5, 2) := by decide +kernel
theorem dX0_sortFound_58 : decode cX0_sortFound 58 = .ok (.iconst 1, 1) := by decide +kernel
theorem dX0_sortFound_59 : decode cX0_sortFound 59 = .ok (.isub, 1) := by decide +kernel
theorem dX0_sortFound_60 : decode cX0_sortFound 60 = .ok (.iaload, 1) := by decide +kernel
theorem dX0_sortFound_61 : decode cX0_sortFound 61 = .ok (.iastore, 1) := by decide +kernel
theorem dX0_sortFound_62 : decode cX0_sortFound 62 = .ok (.iinc 5 (-1), 3) := by decide +kernel
theorem dX0_sortFound_65 : decode cX0_sortFound 65 = .ok (.goto (-44), 3) := by decide +kernel
theorem dX0_sortFound_68 : decode cX0_sortFound 68 = .ok (.aload_n 0, 1) := by decide +kernel
theorem dX0_sortFound_69 : decode cX0_sortFound 69 = .ok (.getfield 26, 3) := by decide +kernel
theorem dX0_sortFound_72 : decode cX0_sortFound 72 = .ok (.iload 5, 2) := by decide +kernel
theorem dX0_sortFound_74 : decode cX0_sortFound 74 = .ok (.iload 4, 2) := by decide +kernel
theorem dX0_sortFound_76 : decode cX0_sortFound 76 = .ok (.iastore, 1) := by decide +kernel
theorem dX0_sortFound_77 : decode cX0_sortFound 77 = .ok (.iinc 3 1, 3) := by decide +kernel
theorem dX0_sortFound_80 : decode cX0_sortFound 80 = .ok (.goto (-78), 3) := by decide +kernel
theorem dX0_sortFound_83 : decode cX0_sortFound 83 = .ok (.return_, 1) := by decide +kernel
theorem dX0_nearer_0 : decode cX0_nearer 0 = .ok (.aload_n 0, 1) := by decide +kernel
theorem dX0_nearer_1 : decode cX0_nearer 1 = .ok (.iload_n 1, 1) := by decide +kernel
theorem dX0_nearer_2 : decode cX0_nearer 2 = .ok (.iload_n 2, 1) := by decide +kernel
theorem dX0_nearer_3 : decode cX0_nearer 3 = .ok (.iload_n 3, 1) := by decide +kernel
theorem dX0_nearer_4 : decode cX0_nearer 4 = .ok (.invokevirtual 108, 3) := by decide +kernel
theorem dX0_nearer_7 : decode cX0_nearer 7 = .ok (.istore 5, 2) := by decide +kernel
theorem dX0_nearer_9 : decode cX0_nearer 9 = .ok (.aload_n 0, 1) := by decide +kernel
theorem dX0_nearer_10 : decode cX0_nearer 10 = .ok (.iload_n 1, 1) := by decide +kernel
theorem dX0_nearer_11 : decode cX0_nearer 11 = .ok (.iload_n 2, 1) := by decide +kernel
theorem dX0_nearer_12 : decode cX0_nearer 12 = .ok (.iload 4, 2) := by decide +kernel
theorem dX0_nearer_14 : decode cX0_nearer 14 = .ok (.invokevirtual 108, 3) := by decide +kernel
theorem dX0_nearer_17 : decode cX0_nearer 17 = .ok (.istore 6, 2) := by decide +kernel
theorem dX0_nearer_19 : decode cX0_nearer 19 = .ok (.iload 5, 2) := by decide +kernel
theorem dX0_nearer_21 : decode cX0_nearer 21 = .ok (.iload 6, 2) := by decide +kernel
theorem dX0_nearer_23 : decode cX0_nearer 23 = .ok (.if_icmp .eq 18, 3) := by decide +kernel
theorem dX0_nearer_26 : decode cX0_nearer 26 = .ok (.iload 5, 2) := by decide +kernel
theorem dX0_nearer_28 : decode cX0_nearer 28 = .ok (.iload 6, 2) := by decide +kernel
theorem dX0_nearer_30 : decode cX0_nearer 30 = .ok (.if_icmp .ge 7, 3) := by decide +kernel
theorem dX0_nearer_33 : decode cX0_nearer 33 = .ok (.iconst 1, 1) := by decide +kernel
theorem dX0_nearer_34 : decode cX0_nearer 34 = .ok (.goto 18, 3) := by decide +kernel
theorem dX0_nearer_37 : decode cX0_nearer 37 = .ok (.iconst 0, 1) := by decide +kernel
theorem dX0_nearer_38 : decode cX0_nearer 38 = .ok (.goto 14, 3) := by decide +kernel
theorem dX0_nearer_41 : decode cX0_nearer 41 = .ok (.iload_n 3, 1) := by decide +kernel
theorem dX0_nearer_42 : decode cX0_nearer 42 = .ok (.iload 4, 2) := by decide +kernel
theorem dX0_nearer_44 : decode cX0_nearer 44 = .ok (.if_icmp .ge 7, 3) := by decide +kernel
theorem dX0_nearer_47 : decode cX0_nearer 47 = .ok (.iconst 1, 1) := by decide +kernel
theorem dX0_nearer_48 : decode cX0_nearer 48 = .ok (.goto 4, 3) := by decide +kernel
theorem dX0_nearer_51 : decode cX0_nearer 51 = .ok (.iconst 0, 1) := by decide +kernel
theorem dX0_nearer_52 : decode cX0_nearer 52 = .ok (.ireturn, 1) := by decide +kernel
theorem dX0_firstIn_0 : decode cX0_firstIn 0 = .ok (.iload_n 1, 1) := by decide +kernel
theorem dX0_firstIn_1 : decode cX0_firstIn 1 = .ok (.invokestatic 44, 3) := by decide +kernel
theorem dX0_firstIn_4 : decode cX0_firstIn 4 = .ok (.ifCond .ne 10, 3) := by decide +kernel
theorem dX0_firstIn_7 : decode cX0_firstIn 7 = .ok (.iload_n 2, 1) := by decide +kernel
theorem dX0_firstIn_8 : decode cX0_firstIn 8 = .ok (.invokestatic 44, 3) := by decide +kernel
theorem dX0_firstIn_11 : decode cX0_firstIn 11 = .ok (.ifCond .eq 5, 3) := by decide +kernel
theorem dX0_firstIn_14 : decode cX0_firstIn 14 = .ok (.iconst (-1), 1) := by decide +kernel
theorem dX0_firstIn_15 : decode cX0_firstIn 15 = .ok (.ireturn, 1) := by decide +kernel
theorem dX0_firstIn_16 : decode cX0_firstIn 16 = .ok (.aload_n 0, 1) := by decide +kernel
theorem dX0_firstIn_17 : decode cX0_firstIn 17 = .ok (.iload_n 1, 1) := by decide +kernel
theorem dX0_firstIn_18 : decode cX0_firstIn 18 = .ok (.iload_n 2, 1) := by decide +kernel
theorem dX0_firstIn_19 : decode cX0_firstIn 19 = .ok (.invokevirtual 95, 3) := by decide +kernel
theorem dX0_firstIn_22 : decode cX0_firstIn 22 = .ok (.aload_n 0, 1) := by decide +kernel
theorem dX0_firstIn_23 : decode cX0_firstIn 23 = .ok (.invokevirtual 99, 3) := by decide +kernel
theorem dX0_firstIn_26 : decode cX0_firstIn 26 = .ok (.bipush (-3), 2) := by decide +kernel
theorem dX0_firstIn_28 : decode cX0_firstIn 28 = .ok (.istore_n 3, 1) := by decide +kernel
theorem dX0_firstIn_29 : decode cX0_firstIn 29 = .ok (.iconst 0, 1) := by decide +kernel
theorem dX0_firstIn_30 : decode cX0_firstIn 30 = .ok (.istore 4, 2) := by decide +kernel
theorem dX0_firstIn_32 : decode cX0_firstIn 32 = .ok (.iload 4, 2) := by decide +kernel
theorem dX0_firstIn_34 : decode cX0_firstIn 34 = .ok (.aload_n 0, 1) := by decide +kernel
theorem dX0_firstIn_35 : decode cX0_firstIn 35 = .ok (.getfield 86, 3) := by decide +kernel
theorem dX0_firstIn_38 : decode cX0_firstIn 38 = .ok (.if_icmp .ge 32, 3) := by decide +kernel
theorem dX0_firstIn_41 : decode cX0_firstIn 41 = .ok (.iload_n 3, 1) := by decide +kernel
theorem dX0_firstIn_42 : decode cX0_firstIn 42 = .ok (.ifCond .lt 14, 3) := by decide +kernel
theorem dX0_firstIn_45 : decode cX0_firstIn 45 = .ok (.aload_n 0, 1) := by decide +kernel
theorem dX0_firstIn_46 : decode cX0_firstIn 46 = .ok (.getfield 26, 3) := by decide +kernel
theorem dX0_firstIn_49 : decode cX0_firstIn 49 = .ok (.iload 4, 2) := by decide +kernel
theorem dX0_firstIn_51 : decode cX0_firstIn 51 = .ok (.iaload, 1) := by decide +kernel
theorem dX0_firstIn_52 : decode cX0_firstIn 52 = .ok (.iload_n 3, 1) := by decide +kernel
theorem dX0_firstIn_53 : decode cX0_firstIn 53 = .ok (.if_icmp .ge 11, 3) := by decide +kernel
theorem dX0_firstIn_56 : decode cX0_firstIn 56 = .ok (.aload_n 0, 1) := by decide +kernel
theorem dX0_firstIn_57 : decode cX0_firstIn 57 = .ok (.getfield 26, 3) := by decide +kernel
theorem dX0_firstIn_60 : decode cX0_firstIn 60 = .ok (.iload 4, 2) := by decide +kernel
theorem dX0_firstIn_62 : decode cX0_firstIn 62 = .ok (.iaload, 1) := by decide +kernel
theorem dX0_firstIn_63 : decode cX0_firstIn 63 = .ok (.istore_n 3, 1) := by decide +kernel
theorem dX0_firstIn_64 : decode cX0_firstIn 64 = .ok (.iinc 4 1, 3) := by decide +kernel
theorem dX0_firstIn_67 : decode cX0_firstIn 67 = .ok (.goto (-35), 3) := by decide +kernel
theorem dX0_firstIn_70 : decode cX0_firstIn 70 = .ok (.iload_n 3, 1) := by decide +kernel
theorem dX0_firstIn_71 : decode cX0_firstIn 71 = .ok (.ireturn, 1) := by decide +kernel
theorem dX0_placeOf_0 : decode cX0_placeOf 0 = .ok (.aload_n 0, 1) := by decide +kernel
theorem dX0_placeOf_1 : decode cX0_placeOf 1 = .ok (.iload_n 1, 1) := by decide +kernel
theorem dX0_placeOf_2 : decode cX0_placeOf 2 = .ok (.invokevirtual 55, 3) := by decide +kernel
theorem dX0_placeOf_5 : decode cX0_placeOf 5 = .ok (.ifCond .eq 8, 3) := by decide +kernel
theorem dX0_placeOf_8 : decode cX0_placeOf 8 = .ok (.bipush (-3), 2) := by decide +kernel
theorem dX0_placeOf_10 : decode cX0_placeOf 10 = .ok (.goto 19, 3) := by decide +kernel
theorem dX0_placeOf_13 : decode cX0_placeOf 13 = .ok (.aload_n 0, 1) := by decide +kernel
theorem dX0_placeOf_14 : decode cX0_placeOf 14 = .ok (.getfield 13, 3) := by decide +kernel
theorem dX0_placeOf_17 : decode cX0_placeOf 17 = .ok (.iload_n 1, 1) := by decide +kernel
theorem dX0_placeOf_18 : decode cX0_placeOf 18 = .ok (.iaload, 1) := by decide +kernel
theorem dX0_placeOf_19 : decode cX0_placeOf 19 = .ok (.bipush 64, 2) := by decide +kernel
theorem dX0_placeOf_21 : decode cX0_placeOf 21 = .ok (.aload_n 0, 1) := by decide +kernel
theorem dX0_placeOf_22 : decode cX0_placeOf 22 = .ok (.getfield 17, 3) := by decide +kernel
theorem dX0_placeOf_25 : decode cX0_placeOf 25 = .ok (.iload_n 1, 1) := by decide +kernel
theorem dX0_placeOf_26 : decode cX0_placeOf 26 = .ok (.iaload, 1) := by decide +kernel
theorem dX0_placeOf_27 : decode cX0_placeOf 27 = .ok (.imul, 1) := by decide +kernel
theorem dX0_placeOf_28 : decode cX0_placeOf 28 = .ok (.iadd, 1) := by decide +kernel
theorem dX0_placeOf_29 : decode cX0_placeOf 29 = .ok (.ireturn, 1) := by decide +kernel
theorem dX0_labelOf_0 : decode cX0_labelOf 0 = .ok (.aload_n 0, 1) := by decide +kernel
theorem dX0_labelOf_1 : decode cX0_labelOf 1 = .ok (.iload_n 1, 1) := by decide +kernel
theorem dX0_labelOf_2 : decode cX0_labelOf 2 = .ok (.invokevirtual 55, 3) := by decide +kernel
theorem dX0_labelOf_5 : decode cX0_labelOf 5 = .ok (.ifCond .eq 7, 3) := by decide +kernel
theorem dX0_labelOf_8 : decode cX0_labelOf 8 = .ok (.iconst 0, 1) := by decide +kernel
theorem dX0_labelOf_9 : decode cX0_labelOf 9 = .ok (.goto 9, 3) := by decide +kernel
theorem dX0_labelOf_12 : decode cX0_labelOf 12 = .ok (.aload_n 0, 1) := by decide +kernel
theorem dX0_labelOf_13 : decode cX0_labelOf 13 = .ok (.getfield 20, 3) := by decide +kernel
theorem dX0_labelOf_16 : decode cX0_labelOf 16 = .ok (.iload_n 1, 1) := by decide +kernel
theorem dX0_labelOf_17 : decode cX0_labelOf 17 = .ok (.iaload, 1) := by decide +kernel
theorem dX0_labelOf_18 : decode cX0_labelOf 18 = .ok (.ireturn, 1) := by decide +kernel
theorem dX0_closest_0 : decode cX0_closest 0 = .ok (.aload_n 0, 1) := by decide +kernel
theorem dX0_closest_1 : decode cX0_closest 1 = .ok (.getfield 29, 3) := by decide +kernel
theorem dX0_closest_4 : decode cX0_closest 4 = .ok (.iconst 2, 1) := by decide +kernel
theorem dX0_closest_5 : decode cX0_closest 5 = .ok (.if_icmp .ge 6, 3) := by decide +kernel
theorem dX0_closest_8 : decode cX0_closest 8 = .ok (.bipush (-3), 2) := by decide +kernel
theorem dX0_closest_10 : decode cX0_closest 10 = .ok (.ireturn, 1) := by decide +kernel
theorem dX0_closest_11 : decode cX0_closest 11 = .ok (.sipush 7938, 3) := by decide +kernel
theorem dX0_closest_14 : decode cX0_closest 14 = .ok (.istore_n 1, 1) := by decide +kernel
theorem dX0_closest_15 : decode cX0_closest 15 = .ok (.iconst 0, 1) := by decide +kernel
theorem dX0_closest_16 : decode cX0_closest 16 = .ok (.istore_n 2, 1) := by decide +kernel
theorem dX0_closest_17 : decode cX0_closest 17 = .ok (.iload_n 2, 1) := by decide +kernel
theorem dX0_closest_18 : decode cX0_closest 18 = .ok (.bipush 40, 2) := by decide +kernel
theorem dX0_closest_20 : decode cX0_closest 20 = .ok (.if_icmp .ge 25, 3) := by decide +kernel
theorem dX0_closest_23 : decode cX0_closest 23 = .ok (.aload_n 0, 1) := by decide +kernel
theorem dX0_closest_24 : decode cX0_closest 24 = .ok (.getfield 7, 3) := by decide +kernel
theorem dX0_closest_27 : decode cX0_closest 27 = .ok (.iload_n 2, 1) := by decide +kernel
theorem dX0_closest_28 : decode cX0_closest 28 = .ok (.baload, 1) := by decide +kernel
theorem dX0_closest_29 : decode cX0_closest 29 = .ok (.ifCond .eq 10, 3) := by decide +kernel
theorem dX0_closest_32 : decode cX0_closest 32 = .ok (.aload_n 0, 1) := by decide +kernel
theorem dX0_closest_33 : decode cX0_closest 33 = .ok (.iload_n 2, 1) := by decide +kernel
theorem dX0_closest_34 : decode cX0_closest 34 = .ok (.iload_n 1, 1) := by decide +kernel
theorem dX0_closest_35 : decode cX0_closest 35 = .ok (.invokevirtual 123, 3) := by decide +kernel
theorem dX0_closest_38 : decode cX0_closest 38 = .ok (.istore_n 1, 1) := by decide +kernel
theorem dX0_closest_39 : decode cX0_closest 39 = .ok (.iinc 2 1, 3) := by decide +kernel
theorem dX0_closest_42 : decode cX0_closest 42 = .ok (.goto (-25), 3) := by decide +kernel
theorem dX0_closest_45 : decode cX0_closest 45 = .ok (.iload_n 1, 1) := by decide +kernel
theorem dX0_closest_46 : decode cX0_closest 46 = .ok (.ireturn, 1) := by decide +kernel
theorem dX0_closestTo_0 : decode cX0_closestTo 0 = .ok (.aload_n 0, 1) := by decide +kernel
theorem dX0_closestTo_1 : decode cX0_closestTo 1 = .ok (.aload_n 0, 1) := by decide +kernel
theorem dX0_closestTo_2 : decode cX0_closestTo 2 = .ok (.getfield 13, 3) := by decide +kernel
theorem dX0_closestTo_5 : decode cX0_closestTo 5 = .ok (.iload_n 1, 1) := by decide +kernel
theorem dX0_closestTo_6 : decode cX0_closestTo 6 = .ok (.iaload, 1) := by decide +kernel
theorem dX0_closestTo_7 : decode cX0_closestTo 7 = .ok (.aload_n 0, 1) := by decide +kernel
theorem dX0_closestTo_8 : decode cX0_closestTo 8 = .ok (.getfield 17, 3) := by decide +kernel
theorem dX0_closestTo_11 : decode cX0_closestTo 11 = .ok (.iload_n 1, 1) := by decide +kernel
theorem dX0_closestTo_12 : decode cX0_closestTo 12 = .ok (.iaload, 1) := by decide +kernel
theorem dX0_closestTo_13 : decode cX0_closestTo 13 = .ok (.iload_n 2, 1) := by decide +kernel
theorem dX0_closestTo_14 : decode cX0_closestTo 14 = .ok (.invokevirtual 112, 3) := by decide +kernel
theorem dX0_closestTo_17 : decode cX0_closestTo 17 = .ok (.iload_n 2, 1) := by decide +kernel
theorem dX0_closestTo_18 : decode cX0_closestTo 18 = .ok (.istore_n 3, 1) := by decide +kernel
theorem dX0_closestTo_19 : decode cX0_closestTo 19 = .ok (.iconst 0, 1) := by decide +kernel
theorem dX0_closestTo_20 : decode cX0_closestTo 20 = .ok (.istore 4, 2) := by decide +kernel
theorem dX0_closestTo_22 : decode cX0_closestTo 22 = .ok (.iload 4, 2) := by decide +kernel
theorem dX0_closestTo_24 : decode cX0_closestTo 24 = .ok (.aload_n 0, 1) := by decide +kernel
theorem dX0_closestTo_25 : decode cX0_closestTo 25 = .ok (.getfield 86, 3) := by decide +kernel
theorem dX0_closestTo_28 : decode cX0_closestTo 28 = .ok (.if_icmp .ge 54, 3) := by decide +kernel
theorem dX0_closestTo_31 : decode cX0_closestTo 31 = .ok (.aload_n 0, 1) := by decide +kernel
theorem dX0_closestTo_32 : decode cX0_closestTo 32 = .ok (.aload_n 0, 1) := by decide +kernel
theorem dX0_closestTo_33 : decode cX0_closestTo 33 = .ok (.getfield 13, 3) := by decide +kernel
theorem dX0_closestTo_36 : decode cX0_closestTo 36 = .ok (.iload_n 1, 1) := by decide +kernel
theorem dX0_closestTo_37 : decode cX0_closestTo 37 = .ok (.iaload, 1) := by decide +kernel
theorem dX0_closestTo_38 : decode cX0_closestTo 38 = .ok (.aload_n 0, 1) := by decide +kernel
theorem dX0_closestTo_39 : decode cX0_closestTo 39 = .ok (.getfield 17, 3) := by decide +kernel
theorem dX0_closestTo_42 : decode cX0_closestTo 42 = .ok (.iload_n 1, 1) := by decide +kernel
theorem dX0_closestTo_43 : decode cX0_closestTo 43 = .ok (.iaload, 1) := by decide +kernel
theorem dX0_closestTo_44 : decode cX0_closestTo 44 = .ok (.aload_n 0, 1) := by decide +kernel
theorem dX0_closestTo_45 : decode cX0_closestTo 45 = .ok (.getfield 26, 3) := by decide +kernel
theorem dX0_closestTo_48 : decode cX0_closestTo 48 = .ok (.iload 4, 2) := by decide +kernel
theorem dX0_closestTo_50 : decode cX0_closestTo 50 = .ok (.iaload, 1) := by decide +kernel
theorem dX0_closestTo_51 : decode cX0_closestTo 51 = .ok (.invokevirtual 108, 3) := by decide +kernel
theorem dX0_closestTo_54 : decode cX0_closestTo 54 = .ok (.istore 5, 2) := by decide +kernel
theorem dX0_closestTo_56 : decode cX0_closestTo 56 = .ok (.aload_n 0, 1) := by decide +kernel
theorem dX0_closestTo_57 : decode cX0_closestTo 57 = .ok (.getfield 26, 3) := by decide +kernel
theorem dX0_closestTo_60 : decode cX0_closestTo 60 = .ok (.iload 4, 2) := by decide +kernel
theorem dX0_closestTo_62 : decode cX0_closestTo 62 = .ok (.iaload, 1) := by decide +kernel
theorem dX0_closestTo_63 : decode cX0_closestTo 63 = .ok (.iload_n 1, 1) := by decide +kernel
theorem dX0_closestTo_64 : decode cX0_closestTo 64 = .ok (.if_icmp .eq 12, 3) := by decide +kernel
theorem dX0_closestTo_67 : decode cX0_closestTo 67 = .ok (.iload 5, 2) := by decide +kernel
theorem dX0_closestTo_69 : decode cX0_closestTo 69 = .ok (.iload_n 3, 1) := by decide +kernel
theorem dX0_closestTo_70 : decode cX0_closestTo 70 = .ok (.if_icmp .ge 6, 3) := by decide +kernel
theorem dX0_closestTo_73 : decode cX0_closestTo 73 = .ok (.iload 5, 2) := by decide +kernel
theorem dX0_closestTo_75 : decode cX0_closestTo 75 = .ok (.istore_n 3, 1) := by decide +kernel
theorem dX0_closestTo_76 : decode cX0_closestTo 76 = .ok (.iinc 4 1, 3) := by decide +kernel
theorem dX0_closestTo_79 : decode cX0_closestTo 79 = .ok (.goto (-57), 3) := by decide +kernel
theorem dX0_closestTo_82 : decode cX0_closestTo 82 = .ok (.iload_n 3, 1) := by decide +kernel
theorem dX0_closestTo_83 : decode cX0_closestTo 83 = .ok (.ireturn, 1) := by decide +kernel
theorem dX0_count_0 : decode cX0_count 0 = .ok (.aload_n 0, 1) := by decide +kernel
theorem dX0_count_1 : decode cX0_count 1 = .ok (.getfield 29, 3) := by decide +kernel
theorem dX0_count_4 : decode cX0_count 4 = .ok (.ireturn, 1) := by decide +kernel
end
section
set_option maxRecDepth 100000
theorem dX1_init_0 : decode cX1_init 0 = .ok (.aload_n 0, 1) := by decide +kernel
theorem dX1_init_1 : decode cX1_init 1 = .ok (.invokespecial 1, 3) := by decide +kernel
theorem dX1_init_4 : decode cX1_init 4 = .ok (.aload_n 0, 1) := by decide +kernel
theorem dX1_init_5 : decode cX1_init 5 = .ok (.bipush 40, 2) := by decide +kernel
theorem dX1_init_7 : decode cX1_init 7 = .ok (.newarray .boolean, 2) := by decide +kernel
theorem dX1_init_9 : decode cX1_init 9 = .ok (.putfield 7, 3) := by decide +kernel
theorem dX1_init_12 : decode cX1_init 12 = .ok (.aload_n 0, 1) := by decide +kernel
theorem dX1_init_13 : decode cX1_init 13 = .ok (.bipush 40, 2) := by decide +kernel
theorem dX1_init_15 : decode cX1_init 15 = .ok (.newarray .int, 2) := by decide +kernel
theorem dX1_init_17 : decode cX1_init 17 = .ok (.putfield 13, 3) := by decide +kernel
theorem dX1_init_20 : decode cX1_init 20 = .ok (.aload_n 0, 1) := by decide +kernel
theorem dX1_init_21 : decode cX1_init 21 = .ok (.bipush 40, 2) := by decide +kernel
theorem dX1_init_23 : decode cX1_init 23 = .ok (.newarray .int, 2) := by decide +kernel
theorem dX1_init_25 : decode cX1_init 25 = .ok (.putfield 17, 3) := by decide +kernel
theorem dX1_init_28 : decode cX1_init 28 = .ok (.return_, 1) := by decide +kernel
theorem dX1_add_0 : decode cX1_add 0 = .ok (.aload_n 0, 1) := by decide +kernel
theorem dX1_add_1 : decode cX1_add 1 = .ok (.iload_n 1, 1) := by decide +kernel
theorem dX1_add_2 : decode cX1_add 2 = .ok (.invokevirtual 20, 3) := by decide +kernel
theorem dX1_add_5 : decode cX1_add 5 = .ok (.ifCond .ne 5, 3) := by decide +kernel
theorem dX1_add_8 : decode cX1_add 8 = .ok (.iconst (-1), 1) := by decide +kernel
theorem dX1_add_9 : decode cX1_add 9 = .ok (.ireturn, 1) := by decide +kernel
theorem dX1_add_10 : decode cX1_add 10 = .ok (.iconst 0, 1) := by decide +kernel
theorem dX1_add_11 : decode cX1_add 11 = .ok (.istore_n 3, 1) := by decide +kernel
theorem dX1_add_12 : decode cX1_add 12 = .ok (.iload_n 3, 1) := by decide +kernel
theorem dX1_add_13 : decode cX1_add 13 = .ok (.bipush 40, 2) := by decide +kernel
theorem dX1_add_15 : decode cX1_add 15 = .ok (.if_icmp .ge 41, 3) := by decide +kernel
theorem dX1_add_18 : decode cX1_add 18 = .ok (.aload_n 0, 1) := by decide +kernel
theorem dX1_add_19 : decode cX1_add 19 = .ok (.getfield 7, 3) := by decide +kernel
theorem dX1_add_22 : decode cX1_add 22 = .ok (.iload_n 3, 1) := by decide +kernel
theorem dX1_add_23 : decode cX1_add 23 = .ok (.baload, 1) := by decide +kernel
theorem dX1_add_24 : decode cX1_add 24 = .ok (.ifCond .ne 26, 3) := by decide +kernel
theorem dX1_add_27 : decode cX1_add 27 = .ok (.aload_n 0, 1) := by decide +kernel
theorem dX1_add_28 : decode cX1_add 28 = .ok (.getfield 7, 3) := by decide +kernel
theorem dX1_add_31 : decode cX1_add 31 = .ok (.iload_n 3, 1) := by decide +kernel
theorem dX1_add_32 : decode cX1_add 32 = .ok (.iconst 1, 1) := by decide +kernel
theorem dX1_add_33 : decode cX1_add 33 = .ok (.bastore, 1) := by decide +kernel
theorem dX1_add_34 : decode cX1_add 34 = .ok (.aload_n 0, 1) := by decide +kernel
theorem dX1_add_35 : decode cX1_add 35 = .ok (.getfield 13, 3) := by decide +kernel
theorem dX1_add_38 : decode cX1_add 38 = .ok (.iload_n 3, 1) := by decide +kernel
theorem dX1_add_39 : decode cX1_add 39 = .ok (.iload_n 1, 1) := by decide +kernel
theorem dX1_add_40 : decode cX1_add 40 = .ok (.iastore, 1) := by decide +kernel
theorem dX1_add_41 : decode cX1_add 41 = .ok (.aload_n 0, 1) := by decide +kernel
theorem dX1_add_42 : decode cX1_add 42 = .ok (.getfield 17, 3) := by decide +kernel
theorem dX1_add_45 : decode cX1_add 45 = .ok (.iload_n 3, 1) := by decide +kernel
theorem dX1_add_46 : decode cX1_add 46 = .ok (.iload_n 2, 1) := by decide +kernel
theorem dX1_add_47 : decode cX1_add 47 = .ok (.iastore, 1) := by decide +kernel
theorem dX1_add_48 : decode cX1_add 48 = .ok (.iload_n 3, 1) := by decide +kernel
theorem dX1_add_49 : decode cX1_add 49 = .ok (.ireturn, 1) := by decide +kernel
theorem dX1_add_50 : decode cX1_add 50 = .ok (.iinc 3 1, 3) := by decide +kernel
theorem dX1_add_53 : decode cX1_add 53 = .ok (.goto (-41), 3) := by decide +kernel
theorem dX1_add_56 : decode cX1_add 56 = .ok (.bipush (-2), 2) := by decide +kernel
theorem dX1_add_58 : decode cX1_add 58 = .ok (.ireturn, 1) := by decide +kernel
theorem dX1_isPlace_0 : decode cX1_isPlace 0 = .ok (.iload_n 1, 1) := by decide +kernel
theorem dX1_isPlace_1 : decode cX1_isPlace 1 = .ok (.ifCond .lt 14, 3) := by decide +kernel
theorem dX1_isPlace_4 : decode cX1_isPlace 4 = .ok (.iload_n 1, 1) := by decide +kernel
theorem dX1_isPlace_5 : decode cX1_isPlace 5 = .ok (.sipush 4096, 3) := by decide +kernel
theorem dX1_isPlace_8 : decode cX1_isPlace 8 = .ok (.if_icmp .ge 7, 3) := by decide +kernel
theorem dX1_isPlace_11 : decode cX1_isPlace 11 = .ok (.iconst 1, 1) := by decide +kernel
theorem dX1_isPlace_12 : decode cX1_isPlace 12 = .ok (.goto 4, 3) := by decide +kernel
theorem dX1_isPlace_15 : decode cX1_isPlace 15 = .ok (.iconst 0, 1) := by decide +kernel
theorem dX1_isPlace_16 : decode cX1_isPlace 16 = .ok (.ireturn, 1) := by decide +kernel
theorem dX1_remove_0 : decode cX1_remove 0 = .ok (.aload_n 0, 1) := by decide +kernel
theorem dX1_remove_1 : decode cX1_remove 1 = .ok (.iload_n 1, 1) := by decide +kernel
theorem dX1_remove_2 : decode cX1_remove 2 = .ok (.invokevirtual 24, 3) := by decide +kernel
theorem dX1_remove_5 : decode cX1_remove 5 = .ok (.ifCond .ne 6, 3) := by decide +kernel
theorem dX1_remove_8 : decode cX1_remove 8 = .ok (.bipush (-3), 2) := by decide +kernel
theorem dX1_remove_10 : decode cX1_remove 10 = .ok (.ireturn, 1) := by decide +kernel
theorem dX1_remove_11 : decode cX1_remove 11 = .ok (.aload_n 0, 1) := by decide +kernel
theorem dX1_remove_12 : decode cX1_remove 12 = .ok (.getfield 7, 3) := by decide +kernel
theorem dX1_remove_15 : decode cX1_remove 15 = .ok (.iload_n 1, 1) := by decide +kernel
theorem dX1_remove_16 : decode cX1_remove 16 = .ok (.iconst 0, 1) := by decide +kernel
theorem dX1_remove_17 : decode cX1_remove 17 = .ok (.bastore, 1) := by decide +kernel
theorem dX1_remove_18 : decode cX1_remove 18 = .ok (.aload_n 0, 1) := by decide +kernel
theorem dX1_remove_19 : decode cX1_remove 19 = .ok (.invokevirtual 27, 3) := by decide +kernel
theorem dX1_remove_22 : decode cX1_remove 22 = .ok (.ireturn, 1) := by decide +kernel
theorem dX1_isPoint_0 : decode cX1_isPoint 0 = .ok (.iload_n 1, 1) := by decide +kernel
theorem dX1_isPoint_1 : decode cX1_isPoint 1 = .ok (.ifCond .lt 22, 3) := by decide +kernel
theorem dX1_isPoint_4 : decode cX1_isPoint 4 = .ok (.iload_n 1, 1) := by decide +kernel
theorem dX1_isPoint_5 : decode cX1_isPoint 5 = .ok (.bipush 40, 2) := by decide +kernel
theorem dX1_isPoint_7 : decode cX1_isPoint 7 = .ok (.if_icmp .ge 16, 3) := by decide +kernel
theorem dX1_isPoint_10 : decode cX1_isPoint 10 = .ok (.aload_n 0, 1) := by decide +kernel
theorem dX1_isPoint_11 : decode cX1_isPoint 11 = .ok (.getfield 7, 3) := by decide +kernel
theorem dX1_isPoint_14 : decode cX1_isPoint 14 = .ok (.iload_n 1, 1) := by decide +kernel
theorem dX1_isPoint_15 : decode cX1_isPoint 15 = .ok (.baload, 1) := by decide +kernel
theorem dX1_isPoint_16 : decode cX1_isPoint 16 = .ok (.ifCond .eq 7, 3) := by decide +kernel
theorem dX1_isPoint_19 : decode cX1_isPoint 19 = .ok (.iconst 1, 1) := by decide +kernel
theorem dX1_isPoint_20 : decode cX1_isPoint 20 = .ok (.goto 4, 3) := by decide +kernel
theorem dX1_isPoint_23 : decode cX1_isPoint 23 = .ok (.iconst 0, 1) := by decide +kernel
theorem dX1_isPoint_24 : decode cX1_isPoint 24 = .ok (.ireturn, 1) := by decide +kernel
theorem dX1_count_0 : decode cX1_count 0 = .ok (.iconst 0, 1) := by decide +kernel
theorem dX1_count_1 : decode cX1_count 1 = .ok (.istore_n 1, 1) := by decide +kernel
theorem dX1_count_2 : decode cX1_count 2 = .ok (.iconst 0, 1) := by decide +kernel
theorem dX1_count_3 : decode cX1_count 3 = .ok (.istore_n 2, 1) := by decide +kernel
theorem dX1_count_4 : decode cX1_count 4 = .ok (.iload_n 2, 1) := by decide +kernel
theorem dX1_count_5 : decode cX1_count 5 = .ok (.bipush 40, 2) := by decide +kernel
theorem dX1_count_7 : decode cX1_count 7 = .ok (.if_icmp .ge 21, 3) := by decide +kernel
theorem dX1_count_10 : decode cX1_count 10 = .ok (.aload_n 0, 1) := by decide +kernel
theorem dX1_count_11 : decode cX1_count 11 = .ok (.getfield 7, 3) := by decide +kernel
theorem dX1_count_14 : decode cX1_count 14 = .ok (.iload_n 2, 1) := by decide +kernel
theorem dX1_count_15 : decode cX1_count 15 = .ok (.baload, 1) := by decide +kernel
theorem dX1_count_16 : decode cX1_count 16 = .ok (.ifCond .eq 6, 3) := by decide +kernel
theorem dX1_count_19 : decode cX1_count 19 = .ok (.iinc 1 1, 3) := by decide +kernel
theorem dX1_count_22 : decode cX1_count 22 = .ok (.iinc 2 1, 3) := by decide +kernel
theorem dX1_count_25 : decode cX1_count 25 = .ok (.goto (-21), 3) := by decide +kernel
theorem dX1_count_28 : decode cX1_count 28 = .ok (.iload_n 1, 1) := by decide +kernel
theorem dX1_count_29 : decode cX1_count 29 = .ok (.ireturn, 1) := by decide +kernel
theorem dX1_move_0 : decode cX1_move 0 = .ok (.aload_n 0, 1) := by decide +kernel
theorem dX1_move_1 : decode cX1_move 1 = .ok (.iload_n 1, 1) := by decide +kernel
theorem dX1_move_2 : decode cX1_move 2 = .ok (.invokevirtual 24, 3) := by decide +kernel
theorem dX1_move_5 : decode cX1_move 5 = .ok (.ifCond .ne 6, 3) := by decide +kernel
theorem dX1_move_8 : decode cX1_move 8 = .ok (.bipush (-3), 2) := by decide +kernel
theorem dX1_move_10 : decode cX1_move 10 = .ok (.ireturn, 1) := by decide +kernel
theorem dX1_move_11 : decode cX1_move 11 = .ok (.aload_n 0, 1) := by decide +kernel
theorem dX1_move_12 : decode cX1_move 12 = .ok (.iload_n 2, 1) := by decide +kernel
theorem dX1_move_13 : decode cX1_move 13 = .ok (.invokevirtual 20, 3) := by decide +kernel
theorem dX1_move_16 : decode cX1_move 16 = .ok (.ifCond .ne 5, 3) := by decide +kernel
theorem dX1_move_19 : decode cX1_move 19 = .ok (.iconst (-1), 1) := by decide +kernel
theorem dX1_move_20 : decode cX1_move 20 = .ok (.ireturn, 1) := by decide +kernel
theorem dX1_move_21 : decode cX1_move 21 = .ok (.aload_n 0, 1) := by decide +kernel
theorem dX1_move_22 : decode cX1_move 22 = .ok (.getfield 13, 3) := by decide +kernel
theorem dX1_move_25 : decode cX1_move 25 = .ok (.iload_n 1, 1) := by decide +kernel
theorem dX1_move_26 : decode cX1_move 26 = .ok (.iaload, 1) := by decide +kernel
theorem dX1_move_27 : decode cX1_move 27 = .ok (.istore_n 3, 1) := by decide +kernel
theorem dX1_move_28 : decode cX1_move 28 = .ok (.aload_n 0, 1) := by decide +kernel
theorem dX1_move_29 : decode cX1_move 29 = .ok (.getfield 13, 3) := by decide +kernel
theorem dX1_move_32 : decode cX1_move 32 = .ok (.iload_n 1, 1) := by decide +kernel
theorem dX1_move_33 : decode cX1_move 33 = .ok (.iload_n 2, 1) := by decide +kernel
theorem dX1_move_34 : decode cX1_move 34 = .ok (.iastore, 1) := by decide +kernel
theorem dX1_move_35 : decode cX1_move 35 = .ok (.iload_n 3, 1) := by decide +kernel
theorem dX1_move_36 : decode cX1_move 36 = .ok (.ireturn, 1) := by decide +kernel
theorem dX1_clearBox_0 : decode cX1_clearBox 0 = .ok (.aload_n 0, 1) := by decide +kernel
theorem dX1_clearBox_1 : decode cX1_clearBox 1 = .ok (.iload_n 1, 1) := by decide +kernel
theorem dX1_clearBox_2 : decode cX1_clearBox 2 = .ok (.iload_n 2, 1) := by decide +kernel
theorem dX1_clearBox_3 : decode cX1_clearBox 3 = .ok (.invokevirtual 35, 3) := by decide +kernel
theorem dX1_clearBox_6 : decode cX1_clearBox 6 = .ok (.istore_n 3, 1) := by decide +kernel
theorem dX1_clearBox_7 : decode cX1_clearBox 7 = .ok (.iconst 0, 1) := by decide +kernel
theorem dX1_clearBox_8 : decode cX1_clearBox 8 = .ok (.istore 4, 2) := by decide +kernel
theorem dX1_clearBox_10 : decode cX1_clearBox 10 = .ok (.iload 4, 2) := by decide +kernel
theorem dX1_clearBox_12 : decode cX1_clearBox 12 = .ok (.bipush 40, 2) := by decide +kernel
theorem dX1_clearBox_14 : decode cX1_clearBox 14 = .ok (.if_icmp .ge 32, 3) := by decide +kernel
theorem dX1_clearBox_17 : decode cX1_clearBox 17 = .ok (.iload_n 3, 1) := by decide +kernel
theorem dX1_clearBox_18 : decode cX1_clearBox 18 = .ok (.ifCond .le 28, 3) := by decide +kernel
theorem dX1_clearBox_21 : decode cX1_clearBox 21 = .ok (.aload_n 0, 1) := by decide +kernel
theorem dX1_clearBox_22 : decode cX1_clearBox 22 = .ok (.iload 4, 2) := by decide +kernel
theorem dX1_clearBox_24 : decode cX1_clearBox 24 = .ok (.iload_n 1, 1) := by decide +kernel
theorem dX1_clearBox_25 : decode cX1_clearBox 25 = .ok (.iload_n 2, 1) := by decide +kernel
theorem dX1_clearBox_26 : decode cX1_clearBox 26 = .ok (.invokevirtual 39, 3) := by decide +kernel
theorem dX1_clearBox_29 : decode cX1_clearBox 29 = .ok (.ifCond .eq 11, 3) := by decide +kernel
theorem dX1_clearBox_32 : decode cX1_clearBox 32 = .ok (.aload_n 0, 1) := by decide +kernel
theorem dX1_clearBox_33 : decode cX1_clearBox 33 = .ok (.getfield 7, 3) := by decide +kernel
theorem dX1_clearBox_36 : decode cX1_clearBox 36 = .ok (.iload 4, 2) := by decide +kernel
theorem dX1_clearBox_38 : decode cX1_clearBox 38 = .ok (.iconst 0, 1) := by decide +kernel
theorem dX1_clearBox_39 : decode cX1_clearBox 39 = .ok (.bastore, 1) := by decide +kernel
theorem dX1_clearBox_40 : decode cX1_clearBox 40 = .ok (.iinc 4 1, 3) := by decide +kernel
theorem dX1_clearBox_43 : decode cX1_clearBox 43 = .ok (.goto (-33), 3) := by decide +kernel
theorem dX1_clearBox_46 : decode cX1_clearBox 46 = .ok (.iload_n 3, 1) := by decide +kernel
theorem dX1_clearBox_47 : decode cX1_clearBox 47 = .ok (.ireturn, 1) := by decide +kernel
theorem dX1_countBox_0 : decode cX1_countBox 0 = .ok (.aload_n 0, 1) := by decide +kernel
theorem dX1_countBox_1 : decode cX1_countBox 1 = .ok (.iload_n 1, 1) := by decide +kernel
theorem dX1_countBox_2 : decode cX1_countBox 2 = .ok (.invokevirtual 20, 3) := by decide +kernel
theorem dX1_countBox_5 : decode cX1_countBox 5 = .ok (.ifCond .eq 11, 3) := by decide +kernel
theorem dX1_countBox_8 : decode cX1_countBox 8 = .ok (.aload_n 0, 1) := by decide +kernel
theorem dX1_countBox_9 : decode cX1_countBox 9 = .ok (.iload_n 2, 1) := by decide +kernel
theorem dX1_countBox_10 : decode cX1_countBox 10 = .ok (.invokevirtual 20, 3) := by decide +kernel
theorem dX1_countBox_13 : decode cX1_countBox 13 = .ok (.ifCond .ne 5, 3) := by decide +kernel
theorem dX1_countBox_16 : decode cX1_countBox 16 = .ok (.iconst (-1), 1) := by decide +kernel
theorem dX1_countBox_17 : decode cX1_countBox 17 = .ok (.ireturn, 1) := by decide +kernel
theorem dX1_countBox_18 : decode cX1_countBox 18 = .ok (.iconst 0, 1) := by decide +kernel
theorem dX1_countBox_19 : decode cX1_countBox 19 = .ok (.istore_n 3, 1) := by decide +kernel
theorem dX1_countBox_20 : decode cX1_countBox 20 = .ok (.iconst 0, 1) := by decide +kernel
theorem dX1_countBox_21 : decode cX1_countBox 21 = .ok (.istore 4, 2) := by decide +kernel
theorem dX1_countBox_23 : decode cX1_countBox 23 = .ok (.iload 4, 2) := by decide +kernel
theorem dX1_countBox_25 : decode cX1_countBox 25 = .ok (.bipush 40, 2) := by decide +kernel
theorem dX1_countBox_27 : decode cX1_countBox 27 = .ok (.if_icmp .ge 23, 3) := by decide +kernel
theorem dX1_countBox_30 : decode cX1_countBox 30 = .ok (.aload_n 0, 1) := by decide +kernel
theorem dX1_countBox_31 : decode cX1_countBox 31 = .ok (.iload 4, 2) := by decide +kernel
theorem dX1_countBox_33 : decode cX1_countBox 33 = .ok (.iload_n 1, 1) := by decide +kernel
theorem dX1_countBox_34 : decode cX1_countBox 34 = .ok (.iload_n 2, 1) := by decide +kernel
theorem dX1_countBox_35 : decode cX1_countBox 35 = .ok (.invokevirtual 39, 3) := by decide +kernel
theorem dX1_countBox_38 : decode cX1_countBox 38 = .ok (.ifCond .eq 6, 3) := by decide +kernel
theorem dX1_countBox_41 : decode cX1_countBox 41 = .ok (.iinc 3 1, 3) := by decide +kernel
theorem dX1_countBox_44 : decode cX1_countBox 44 = .ok (.iinc 4 1, 3) := by decide +kernel
theorem dX1_countBox_47 : decode cX1_countBox 47 = .ok (.goto (-24), 3) := by decide +kernel
theorem dX1_countBox_50 : decode cX1_countBox 50 = .ok (.iload_n 3, 1) := by decide +kernel
theorem dX1_countBox_51 : decode cX1_countBox 51 = .ok (.ireturn, 1) := by decide +kernel
theorem dX1_inBox_0 : decode cX1_inBox 0 = .ok (.aload_n 0, 1) := by decide +kernel
theorem dX1_inBox_1 : decode cX1_inBox 1 = .ok (.getfield 7, 3) := by decide +kernel
theorem dX1_inBox_4 : decode cX1_inBox 4 = .ok (.iload_n 1, 1) := by decide +kernel
theorem dX1_inBox_5 : decode cX1_inBox 5 = .ok (.baload, 1) := by decide +kernel
theorem dX1_inBox_6 : decode cX1_inBox 6 = .ok (.ifCond .eq 55, 3) := by decide +kernel
theorem dX1_inBox_9 : decode cX1_inBox 9 = .ok (.aload_n 0, 1) := by decide +kernel
theorem dX1_inBox_10 : decode cX1_inBox 10 = .ok (.aload_n 0, 1) := by decide +kernel
theorem dX1_inBox_11 : decode cX1_inBox 11 = .ok (.getfield 13, 3) := by decide +kernel
theorem dX1_inBox_14 : decode cX1_inBox 14 = .ok (.iload_n 1, 1) := by decide +kernel
theorem dX1_inBox_15 : decode cX1_inBox 15 = .ok (.iaload, 1) := by decide +kernel
theorem dX1_inBox_16 : decode cX1_inBox 16 = .ok (.bipush 64, 2) := by decide +kernel
theorem dX1_inBox_18 : decode cX1_inBox 18 = .ok (.irem, 1) := by decide +kernel
theorem dX1_inBox_19 : decode cX1_inBox 19 = .ok (.iload_n 2, 1) := by decide +kernel
theorem dX1_inBox_20 : decode cX1_inBox 20 = .ok (.bipush 64, 2) := by decide +kernel
theorem dX1_inBox_22 : decode cX1_inBox 22 = .ok (.irem, 1) := by decide +kernel
theorem dX1_inBox_23 : decode cX1_inBox 23 = .ok (.iload_n 3, 1) := by decide +kernel
theorem dX1_inBox_24 : decode cX1_inBox 24 = .ok (.bipush 64, 2) := by decide +kernel
theorem dX1_inBox_26 : decode cX1_inBox 26 = .ok (.irem, 1) := by decide +kernel
theorem dX1_inBox_27 : decode cX1_inBox 27 = .ok (.invokevirtual 31, 3) := by decide +kernel
theorem dX1_inBox_30 : decode cX1_inBox 30 = .ok (.ifCond .eq 31, 3) := by decide +kernel
theorem dX1_inBox_33 : decode cX1_inBox 33 = .ok (.aload_n 0, 1) := by decide +kernel
theorem dX1_inBox_34 : decode cX1_inBox 34 = .ok (.aload_n 0, 1) := by decide +kernel
theorem dX1_inBox_35 : decode cX1_inBox 35 = .ok (.getfield 13, 3) := by decide +kernel
theorem dX1_inBox_38 : decode cX1_inBox 38 = .ok (.iload_n 1, 1) := by decide +kernel
theorem dX1_inBox_39 : decode cX1_inBox 39 = .ok (.iaload, 1) := by decide +kernel
theorem dX1_inBox_40 : decode cX1_inBox 40 = .ok (.bipush 64, 2) := by decide +kernel
theorem dX1_inBox_42 : decode cX1_inBox 42 = .ok (.idiv, 1) := by decide +kernel
theorem dX1_inBox_43 : decode cX1_inBox 43 = .ok (.iload_n 2, 1) := by decide +kernel
theorem dX1_inBox_44 : decode cX1_inBox 44 = .ok (.bipush 64, 2) := by decide +kernel
theorem dX1_inBox_46 : decode cX1_inBox 46 = .ok (.idiv, 1) := by decide +kernel
theorem dX1_inBox_47 : decode cX1_inBox 47 = .ok (.iload_n 3, 1) := by decide +kernel
theorem dX1_inBox_48 : decode cX1_inBox 48 = .ok (.bipush 64, 2) := by decide +kernel
theorem dX1_inBox_50 : decode cX1_inBox 50 = .ok (.idiv, 1) := by decide +kernel
theorem dX1_inBox_51 : decode cX1_inBox 51 = .ok (.invokevirtual 31, 3) := by decide +kernel
theorem dX1_inBox_54 : decode cX1_inBox 54 = .ok (.ifCond .eq 7, 3) := by decide +kernel
theorem dX1_inBox_57 : decode cX1_inBox 57 = .ok (.iconst 1, 1) := by decide +kernel
theorem dX1_inBox_58 : decode cX1_inBox 58 = .ok (.goto 4, 3) := by decide +kernel
theorem dX1_inBox_61 : decode cX1_inBox 61 = .ok (.iconst 0, 1) := by decide +kernel
theorem dX1_inBox_62 : decode cX1_inBox 62 = .ok (.ireturn, 1) := by decide +kernel
theorem dX1_between_0 : decode cX1_between 0 = .ok (.iload_n 1, 1) := by decide +kernel
theorem dX1_between_1 : decode cX1_between 1 = .ok (.iload_n 2, 1) := by decide +kernel
theorem dX1_between_2 : decode cX1_between 2 = .ok (.if_icmp .lt 8, 3) := by decide +kernel
theorem dX1_between_5 : decode cX1_between 5 = .ok (.iload_n 1, 1) := by decide +kernel
theorem dX1_between_6 : decode cX1_between 6 = .ok (.iload_n 3, 1) := by decide +kernel
theorem dX1_between_7 : decode cX1_between 7 = .ok (.if_icmp .le 13, 3) := by decide +kernel
theorem dX1_between_10 : decode cX1_between 10 = .ok (.iload_n 1, 1) := by decide +kernel
theorem dX1_between_11 : decode cX1_between 11 = .ok (.iload_n 3, 1) := by decide +kernel
theorem dX1_between_12 : decode cX1_between 12 = .ok (.if_icmp .lt 12, 3) := by decide +kernel
theorem dX1_between_15 : decode cX1_between 15 = .ok (.iload_n 1, 1) := by decide +kernel
theorem dX1_between_16 : decode cX1_between 16 = .ok (.iload_n 2, 1) := by decide +kernel
theorem dX1_between_17 : decode cX1_between 17 = .ok (.if_icmp .gt 7, 3) := by decide +kernel
theorem dX1_between_20 : decode cX1_between 20 = .ok (.iconst 1, 1) := by decide +kernel
theorem dX1_between_21 : decode cX1_between 21 = .ok (.goto 4, 3) := by decide +kernel
theorem dX1_between_24 : decode cX1_between 24 = .ok (.iconst 0, 1) := by decide +kernel
theorem dX1_between_25 : decode cX1_between 25 = .ok (.ireturn, 1) := by decide +kernel
theorem dX1_sumBox_0 : decode cX1_sumBox 0 = .ok (.aload_n 0, 1) := by decide +kernel
theorem dX1_sumBox_1 : decode cX1_sumBox 1 = .ok (.iload_n 1, 1) := by decide +kernel
theorem dX1_sumBox_2 : decode cX1_sumBox 2 = .ok (.invokevirtual 20, 3) := by decide +kernel
theorem dX1_sumBox_5 : decode cX1_sumBox 5 = .ok (.ifCond .eq 11, 3) := by decide +kernel
theorem dX1_sumBox_8 : decode cX1_sumBox 8 = .ok (.aload_n 0, 1) := by decide +kernel
theorem dX1_sumBox_9 : decode cX1_sumBox 9 = .ok (.iload_n 2, 1) := by decide +kernel
theorem dX1_sumBox_10 : decode cX1_sumBox 10 = .ok (.invokevirtual 20, 3) := by decide +kernel
theorem dX1_sumBox_13 : decode cX1_sumBox 13 = .ok (.ifCond .ne 5, 3) := by decide +kernel
theorem dX1_sumBox_16 : decode cX1_sumBox 16 = .ok (.iconst (-1), 1) := by decide +kernel
theorem dX1_sumBox_17 : decode cX1_sumBox 17 = .ok (.ireturn, 1) := by decide +kernel
theorem dX1_sumBox_18 : decode cX1_sumBox 18 = .ok (.iconst 0, 1) := by decide +kernel
theorem dX1_sumBox_19 : decode cX1_sumBox 19 = .ok (.istore_n 3, 1) := by decide +kernel
theorem dX1_sumBox_20 : decode cX1_sumBox 20 = .ok (.iconst 0, 1) := by decide +kernel
theorem dX1_sumBox_21 : decode cX1_sumBox 21 = .ok (.istore 4, 2) := by decide +kernel
theorem dX1_sumBox_23 : decode cX1_sumBox 23 = .ok (.iload 4, 2) := by decide +kernel
theorem dX1_sumBox_25 : decode cX1_sumBox 25 = .ok (.bipush 40, 2) := by decide +kernel
theorem dX1_sumBox_27 : decode cX1_sumBox 27 = .ok (.if_icmp .ge 30, 3) := by decide +kernel
theorem dX1_sumBox_30 : decode cX1_sumBox 30 = .ok (.aload_n 0, 1) := by decide +kernel
theorem dX1_sumBox_31 : decode cX1_sumBox 31 = .ok (.iload 4, 2) := by decide +kernel
theorem dX1_sumBox_33 : decode cX1_sumBox 33 = .ok (.iload_n 1, 1) := by decide +kernel
theorem dX1_sumBox_34 : decode cX1_sumBox 34 = .ok (.iload_n 2, 1) := by decide +kernel
theorem dX1_sumBox_35 : decode cX1_sumBox 35 = .ok (.invokevirtual 39, 3) := by decide +kernel
theorem dX1_sumBox_38 : decode cX1_sumBox 38 = .ok (.ifCond .eq 13, 3) := by decide +kernel
theorem dX1_sumBox_41 : decode cX1_sumBox 41 = .ok (.iload_n 3, 1) := by decide +kernel
theorem dX1_sumBox_42 : decode cX1_sumBox 42 = .ok (.aload_n 0, 1) := by decide +kernel
theorem dX1_sumBox_43 : decode cX1_sumBox 43 = .ok (.getfield 17, 3) := by decide +kernel
theorem dX1_sumBox_46 : decode cX1_sumBox 46 = .ok (.iload 4, 2) := by decide +kernel
theorem dX1_sumBox_48 : decode cX1_sumBox 48 = .ok (.iaload, 1) := by decide +kernel
theorem dX1_sumBox_49 : decode cX1_sumBox 49 = .ok (.iadd, 1) := by decide +kernel
theorem dX1_sumBox_50 : decode cX1_sumBox 50 = .ok (.istore_n 3, 1) := by decide +kernel
theorem dX1_sumBox_51 : decode cX1_sumBox 51 = .ok (.iinc 4 1, 3) := by decide +kernel
theorem dX1_sumBox_54 : decode cX1_sumBox 54 = .ok (.goto (-31), 3) := by decide +kernel
theorem dX1_sumBox_57 : decode cX1_sumBox 57 = .ok (.iload_n 3, 1) := by decide +kernel
theorem dX1_sumBox_58 : decode cX1_sumBox 58 = .ok (.ireturn, 1) := by decide +kernel
theorem dX1_countNear_0 : decode cX1_countNear 0 = .ok (.aload_n 0, 1) := by decide +kernel
theorem dX1_countNear_1 : decode cX1_countNear 1 = .ok (.iload_n 1, 1) := by decide +kernel
theorem dX1_countNear_2 : decode cX1_countNear 2 = .ok (.invokevirtual 20, 3) := by decide +kernel
theorem dX1_countNear_5 : decode cX1_countNear 5 = .ok (.ifCond .ne 5, 3) := by decide +kernel
theorem dX1_countNear_8 : decode cX1_countNear 8 = .ok (.iconst (-1), 1) := by decide +kernel
theorem dX1_countNear_9 : decode cX1_countNear 9 = .ok (.ireturn, 1) := by decide +kernel
theorem dX1_countNear_10 : decode cX1_countNear 10 = .ok (.iconst 0, 1) := by decide +kernel
theorem dX1_countNear_11 : decode cX1_countNear 11 = .ok (.istore_n 3, 1) := by decide +kernel
theorem dX1_countNear_12 : decode cX1_countNear 12 = .ok (.iconst 0, 1) := by decide +kernel
theorem dX1_countNear_13 : decode cX1_countNear 13 = .ok (.istore 4, 2) := by decide +kernel
theorem dX1_countNear_15 : decode cX1_countNear 15 = .ok (.iload 4, 2) := by decide +kernel
theorem dX1_countNear_17 : decode cX1_countNear 17 = .ok (.bipush 40, 2) := by decide +kernel
theorem dX1_countNear_19 : decode cX1_countNear 19 = .ok (.if_icmp .ge 38, 3) := by decide +kernel
theorem dX1_countNear_22 : decode cX1_countNear 22 = .ok (.aload_n 0, 1) := by decide +kernel
theorem dX1_countNear_23 : decode cX1_countNear 23 = .ok (.getfield 7, 3) := by decide +kernel
theorem dX1_countNear_26 : decode cX1_countNear 26 = .ok (.iload 4, 2) := by decide +kernel
theorem dX1_countNear_28 : decode cX1_countNear 28 = .ok (.baload, 1) := by decide +kernel
theorem dX1_countNear_29 : decode cX1_countNear 29 = .ok (.ifCond .eq 22, 3) := by decide +kernel
theorem dX1_countNear_32 : decode cX1_countNear 32 = .ok (.aload_n 0, 1) := by decide +kernel
theorem dX1_countNear_33 : decode cX1_countNear 33 = .ok (.aload_n 0, 1) := by decide +kernel
theorem dX1_countNear_34 : decode cX1_countNear 34 = .ok (.getfield 13, 3) := by decide +kernel
theorem dX1_countNear_37 : decode cX1_countNear 37 = .ok (.iload 4, 2) := by decide +kernel
theorem dX1_countNear_39 : decode cX1_countNear 39 = .ok (.iaload, 1) := by decide +kernel
theorem dX1_countNear_40 : decode cX1_countNear 40 = .ok (.iload_n 1, 1) := by decide +kernel
theorem dX1_countNear_41 : decode cX1_countNear 41 = .ok (.invokevirtual 42, 3) := by decide +kernel
theorem dX1_countNear_44 : decode cX1_countNear 44 = .ok (.iload_n 2, 1) := by decide +kernel
theorem dX1_countNear_45 : decode cX1_countNear 45 = .ok (.if_icmp .gt 6, 3) := by decide +kernel
theorem dX1_countNear_48 : decode cX1_countNear 48 = .ok (.iinc 3 1, 3) := by decide +kernel
theorem dX1_countNear_51 : decode cX1_countNear 51 = .ok (.iinc 4 1, 3) := by decide +kernel
theorem dX1_countNear_54 : decode cX1_countNear 54 = .ok (.goto (-39), 3) := by decide +kernel
theorem dX1_countNear_57 : decode cX1_countNear 57 = .ok (.iload_n 3, 1) := by decide +kernel
theorem dX1_countNear_58 : decode cX1_countNear 58 = .ok (.ireturn, 1) := by decide +kernel
theorem dX1_distance_0 : decode cX1_distance 0 = .ok (.iload_n 1, 1) := by decide +kernel
theorem dX1_distance_1 : decode cX1_distance 1 = .ok (.bipush 64, 2) := by decide +kernel
theorem dX1_distance_3 : decode cX1_distance 3 = .ok (.irem, 1) := by decide +kernel
theorem dX1_distance_4 : decode cX1_distance 4 = .ok (.iload_n 2, 1) := by decide +kernel
theorem dX1_distance_5 : decode cX1_distance 5 = .ok (.bipush 64, 2) := by decide +kernel
theorem dX1_distance_7 : decode cX1_distance 7 = .ok (.irem, 1) := by decide +kernel
theorem dX1_distance_8 : decode cX1_distance 8 = .ok (.isub, 1) := by decide +kernel
theorem dX1_distance_9 : decode cX1_distance 9 = .ok (.istore_n 3, 1) := by decide +kernel
theorem dX1_distance_10 : decode cX1_distance 10 = .ok (.iload_n 1, 1) := by decide +kernel
theorem dX1_distance_11 : decode cX1_distance 11 = .ok (.bipush 64, 2) := by decide +kernel
theorem dX1_distance_13 : decode cX1_distance 13 = .ok (.idiv, 1) := by decide +kernel
theorem dX1_distance_14 : decode cX1_distance 14 = .ok (.iload_n 2, 1) := by decide +kernel
theorem dX1_distance_15 : decode cX1_distance 15 = .ok (.bipush 64, 2) := by decide +kernel
theorem dX1_distance_17 : decode cX1_distance 17 = .ok (.idiv, 1) := by decide +kernel
theorem dX1_distance_18 : decode cX1_distance 18 = .ok (.isub, 1) := by decide +kernel
theorem dX1_distance_19 : decode cX1_distance 19 = .ok (.istore 4, 2) := by decide +kernel
theorem dX1_distance_21 : decode cX1_distance 21 = .ok (.iload_n 3, 1) := by decide +kernel
theorem dX1_distance_22 : decode cX1_distance 22 = .ok (.iload_n 3, 1) := by decide +kernel
theorem dX1_distance_23 : decode cX1_distance 23 = .ok (.imul, 1) := by decide +kernel
theorem dX1_distance_24 : decode cX1_distance 24 = .ok (.iload 4, 2) := by decide +kernel
theorem dX1_distance_26 : decode cX1_distance 26 = .ok (.iload 4, 2) := by decide +kernel
theorem dX1_distance_28 : decode cX1_distance 28 = .ok (.imul, 1) := by decide +kernel
theorem dX1_distance_29 : decode cX1_distance 29 = .ok (.iadd, 1) := by decide +kernel
theorem dX1_distance_30 : decode cX1_distance 30 = .ok (.ireturn, 1) := by decide +kernel
theorem dX1_nearest_0 : decode cX1_nearest 0 = .ok (.aload_n 0, 1) := by decide +kernel
theorem dX1_nearest_1 : decode cX1_nearest 1 = .ok (.iload_n 1, 1) := by decide +kernel
theorem dX1_nearest_2 : decode cX1_nearest 2 = .ok (.invokevirtual 20, 3) := by decide +kernel
theorem dX1_nearest_5 : decode cX1_nearest 5 = .ok (.ifCond .ne 5, 3) := by decide +kernel
theorem dX1_nearest_8 : decode cX1_nearest 8 = .ok (.iconst (-1), 1) := by decide +kernel
theorem dX1_nearest_9 : decode cX1_nearest 9 = .ok (.ireturn, 1) := by decide +kernel
theorem dX1_nearest_10 : decode cX1_nearest 10 = .ok (.iload_n 2, 1) := by decide +kernel
theorem dX1_nearest_11 : decode cX1_nearest 11 = .ok (.ifCond .ge 6, 3) := by decide +kernel
theorem dX1_nearest_14 : decode cX1_nearest 14 = .ok (.bipush (-4), 2) := by decide +kernel
theorem dX1_nearest_16 : decode cX1_nearest 16 = .ok (.ireturn, 1) := by decide +kernel
theorem dX1_nearest_17 : decode cX1_nearest 17 = .ok (.iconst 0, 1) := by decide +kernel
theorem dX1_nearest_18 : decode cX1_nearest 18 = .ok (.istore_n 3, 1) := by decide +kernel
theorem dX1_nearest_19 : decode cX1_nearest 19 = .ok (.iload_n 3, 1) := by decide +kernel
theorem dX1_nearest_20 : decode cX1_nearest 20 = .ok (.bipush 40, 2) := by decide +kernel
theorem dX1_nearest_22 : decode cX1_nearest 22 = .ok (.if_icmp .ge 30, 3) := by decide +kernel
theorem dX1_nearest_25 : decode cX1_nearest 25 = .ok (.aload_n 0, 1) := by decide +kernel
theorem dX1_nearest_26 : decode cX1_nearest 26 = .ok (.getfield 7, 3) := by decide +kernel
theorem dX1_nearest_29 : decode cX1_nearest 29 = .ok (.iload_n 3, 1) := by decide +kernel
theorem dX1_nearest_30 : decode cX1_nearest 30 = .ok (.baload, 1) := by decide +kernel
theorem dX1_nearest_31 : decode cX1_nearest 31 = .ok (.ifCond .eq 15, 3) := by decide +kernel
theorem dX1_nearest_34 : decode cX1_nearest 34 = .ok (.aload_n 0, 1) := by decide +kernel
theorem dX1_nearest_35 : decode cX1_nearest 35 = .ok (.iload_n 3, 1) := by decide +kernel
theorem dX1_nearest_36 : decode cX1_nearest 36 = .ok (.iload_n 1, 1) := by decide +kernel
theorem dX1_nearest_37 : decode cX1_nearest 37 = .ok (.invokevirtual 45, 3) := by decide +kernel
theorem dX1_nearest_40 : decode cX1_nearest 40 = .ok (.iload_n 2, 1) := by decide +kernel
theorem dX1_nearest_41 : decode cX1_nearest 41 = .ok (.if_icmp .ne 5, 3) := by decide +kernel
theorem dX1_nearest_44 : decode cX1_nearest 44 = .ok (.iload_n 3, 1) := by decide +kernel
theorem dX1_nearest_45 : decode cX1_nearest 45 = .ok (.ireturn, 1) := by decide +kernel
theorem dX1_nearest_46 : decode cX1_nearest 46 = .ok (.iinc 3 1, 3) := by decide +kernel
theorem dX1_nearest_49 : decode cX1_nearest 49 = .ok (.goto (-30), 3) := by decide +kernel
theorem dX1_nearest_52 : decode cX1_nearest 52 = .ok (.bipush (-3), 2) := by decide +kernel
theorem dX1_nearest_54 : decode cX1_nearest 54 = .ok (.ireturn, 1) := by decide +kernel
theorem dX1_before_0 : decode cX1_before 0 = .ok (.aload_n 0, 1) := by decide +kernel
theorem dX1_before_1 : decode cX1_before 1 = .ok (.aload_n 0, 1) := by decide +kernel
theorem dX1_before_2 : decode cX1_before 2 = .ok (.getfield 13, 3) := by decide +kernel
theorem dX1_before_5 : decode cX1_before 5 = .ok (.iload_n 1, 1) := by decide +kernel
theorem dX1_before_6 : decode cX1_before 6 = .ok (.iaload, 1) := by decide +kernel
theorem dX1_before_7 : decode cX1_before 7 = .ok (.iload_n 2, 1) := by decide +kernel
theorem dX1_before_8 : decode cX1_before 8 = .ok (.invokevirtual 42, 3) := by decide +kernel
theorem dX1_before_11 : decode cX1_before 11 = .ok (.istore_n 3, 1) := by decide +kernel
theorem dX1_before_12 : decode cX1_before 12 = .ok (.iconst 0, 1) := by decide +kernel
theorem dX1_before_13 : decode cX1_before 13 = .ok (.istore 4, 2) := by decide +kernel
theorem dX1_before_15 : decode cX1_before 15 = .ok (.iconst 0, 1) := by decide +kernel
theorem dX1_before_16 : decode cX1_before 16 = .ok (.istore 5, 2) := by decide +kernel
theorem dX1_before_18 : decode cX1_before 18 = .ok (.iload 5, 2) := by decide +kernel
theorem dX1_before_20 : decode cX1_before 20 = .ok (.bipush 40, 2) := by decide +kernel
theorem dX1_before_22 : decode cX1_before 22 = .ok (.if_icmp .ge 54, 3) := by decide +kernel
theorem dX1_before_25 : decode cX1_before 25 = .ok (.aload_n 0, 1) := by decide +kernel
theorem dX1_before_26 : decode cX1_before 26 = .ok (.aload_n 0, 1) := by decide +kernel
theorem dX1_before_27 : decode cX1_before 27 = .ok (.getfield 13, 3) := by decide +kernel
theorem dX1_before_30 : decode cX1_before 30 = .ok (.iload 5, 2) := by decide +kernel
theorem dX1_before_32 : decode cX1_before 32 = .ok (.iaload, 1) := by decide +kernel
theorem dX1_before_33 : decode cX1_before 33 = .ok (.iload_n 2, 1) := by decide +kernel
theorem dX1_before_34 : decode cX1_before 34 = .ok (.invokevirtual 42, 3) := by decide +kernel
theorem dX1_before_37 : decode cX1_before 37 = .ok (.istore 6, 2) := by decide +kernel
theorem dX1_before_39 : decode cX1_before 39 = .ok (.aload_n 0, 1) := by decide +kernel
theorem dX1_before_40 : decode cX1_before 40 = .ok (.getfield 7, 3) := by decide +kernel
theorem dX1_before_43 : decode cX1_before 43 = .ok (.iload 5, 2) := by decide +kernel
theorem dX1_before_45 : decode cX1_before 45 = .ok (.baload, 1) := by decide +kernel
theorem dX1_before_46 : decode cX1_before 46 = .ok (.ifCond .eq 24, 3) := by decide +kernel
theorem dX1_before_49 : decode cX1_before 49 = .ok (.iload 6, 2) := by decide +kernel
theorem dX1_before_51 : decode cX1_before 51 = .ok (.iload_n 3, 1) := by decide +kernel
theorem dX1_before_52 : decode cX1_before 52 = .ok (.if_icmp .lt 15, 3) := by decide +kernel
theorem dX1_before_55 : decode cX1_before 55 = .ok (.iload 6, 2) := by decide +kernel
theorem dX1_before_57 : decode cX1_before 57 = .ok (.iload_n 3, 1) := by decide +kernel
theorem dX1_before_58 : decode cX1_before 58 = .ok (.if_icmp .ne 12, 3) := by decide +kernel
theorem dX1_before_61 : decode cX1_before 61 = .ok (.iload 5, 2) := by decide +kernel
theorem dX1_before_63 : decode cX1_before 63 = .ok (.iload_n 1, 1) := by decide +kernel
theorem dX1_before_64 : decode cX1_before 64 = .ok (.if_icmp .ge 6, 3) := by decide +kernel
theorem dX1_before_67 : decode cX1_before 67 = .ok (.iinc 4 1, 3) := by decide +kernel
theorem dX1_before_70 : decode cX1_before 70 = .ok (.iinc 5 1, 3) := by decide +kernel
theorem dX1_before_73 : decode cX1_before 73 = .ok (.goto (-55), 3) := by decide +kernel
theorem dX1_before_76 : decode cX1_before 76 = .ok (.iload 4, 2) := by decide +kernel
theorem dX1_before_78 : decode cX1_before 78 = .ok (.ireturn, 1) := by decide +kernel
theorem dX1_firstIn_0 : decode cX1_firstIn 0 = .ok (.aload_n 0, 1) := by decide +kernel
theorem dX1_firstIn_1 : decode cX1_firstIn 1 = .ok (.iload_n 1, 1) := by decide +kernel
theorem dX1_firstIn_2 : decode cX1_firstIn 2 = .ok (.invokevirtual 20, 3) := by decide +kernel
theorem dX1_firstIn_5 : decode cX1_firstIn 5 = .ok (.ifCond .eq 11, 3) := by decide +kernel
theorem dX1_firstIn_8 : decode cX1_firstIn 8 = .ok (.aload_n 0, 1) := by decide +kernel
theorem dX1_firstIn_9 : decode cX1_firstIn 9 = .ok (.iload_n 2, 1) := by decide +kernel
theorem dX1_firstIn_10 : decode cX1_firstIn 10 = .ok (.invokevirtual 20, 3) := by decide +kernel
theorem dX1_firstIn_13 : decode cX1_firstIn 13 = .ok (.ifCond .ne 5, 3) := by decide +kernel
theorem dX1_firstIn_16 : decode cX1_firstIn 16 = .ok (.iconst (-1), 1) := by decide +kernel
theorem dX1_firstIn_17 : decode cX1_firstIn 17 = .ok (.ireturn, 1) := by decide +kernel
theorem dX1_firstIn_18 : decode cX1_firstIn 18 = .ok (.iconst 0, 1) := by decide +kernel
theorem dX1_firstIn_19 : decode cX1_firstIn 19 = .ok (.istore_n 3, 1) := by decide +kernel
theorem dX1_firstIn_20 : decode cX1_firstIn 20 = .ok (.iload_n 3, 1) := by decide +kernel
theorem dX1_firstIn_21 : decode cX1_firstIn 21 = .ok (.bipush 40, 2) := by decide +kernel
theorem dX1_firstIn_23 : decode cX1_firstIn 23 = .ok (.if_icmp .ge 21, 3) := by decide +kernel
theorem dX1_firstIn_26 : decode cX1_firstIn 26 = .ok (.aload_n 0, 1) := by decide +kernel
theorem dX1_firstIn_27 : decode cX1_firstIn 27 = .ok (.iload_n 3, 1) := by decide +kernel
theorem dX1_firstIn_28 : decode cX1_firstIn 28 = .ok (.iload_n 1, 1) := by decide +kernel
theorem dX1_firstIn_29 : decode cX1_firstIn 29 = .ok (.iload_n 2, 1) := by decide +kernel
theorem dX1_firstIn_30 : decode cX1_firstIn 30 = .ok (.invokevirtual 39, 3) := by decide +kernel
theorem dX1_firstIn_33 : decode cX1_firstIn 33 = .ok (.ifCond .eq 5, 3) := by decide +kernel
theorem dX1_firstIn_36 : decode cX1_firstIn 36 = .ok (.iload_n 3, 1) := by decide +kernel
theorem dX1_firstIn_37 : decode cX1_firstIn 37 = .ok (.ireturn, 1) := by decide +kernel
theorem dX1_firstIn_38 : decode cX1_firstIn 38 = .ok (.iinc 3 1, 3) := by decide +kernel
theorem dX1_firstIn_41 : decode cX1_firstIn 41 = .ok (.goto (-21), 3) := by decide +kernel
theorem dX1_firstIn_44 : decode cX1_firstIn 44 = .ok (.bipush (-3), 2) := by decide +kernel
theorem dX1_firstIn_46 : decode cX1_firstIn 46 = .ok (.ireturn, 1) := by decide +kernel
theorem dX1_placeOf_0 : decode cX1_placeOf 0 = .ok (.aload_n 0, 1) := by decide +kernel
theorem dX1_placeOf_1 : decode cX1_placeOf 1 = .ok (.iload_n 1, 1) := by decide +kernel
theorem dX1_placeOf_2 : decode cX1_placeOf 2 = .ok (.invokevirtual 24, 3) := by decide +kernel
theorem dX1_placeOf_5 : decode cX1_placeOf 5 = .ok (.ifCond .eq 12, 3) := by decide +kernel
theorem dX1_placeOf_8 : decode cX1_placeOf 8 = .ok (.aload_n 0, 1) := by decide +kernel
theorem dX1_placeOf_9 : decode cX1_placeOf 9 = .ok (.getfield 13, 3) := by decide +kernel
theorem dX1_placeOf_12 : decode cX1_placeOf 12 = .ok (.iload_n 1, 1) := by decide +kernel
theorem dX1_placeOf_13 : decode cX1_placeOf 13 = .ok (.iaload, 1) := by decide +kernel
theorem dX1_placeOf_14 : decode cX1_placeOf 14 = .ok (.goto 5, 3) := by decide +kernel
theorem dX1_placeOf_17 : decode cX1_placeOf 17 = .ok (.bipush (-3), 2) := by decide +kernel
theorem dX1_placeOf_19 : decode cX1_placeOf 19 = .ok (.ireturn, 1) := by decide +kernel
theorem dX1_labelOf_0 : decode cX1_labelOf 0 = .ok (.aload_n 0, 1) := by decide +kernel
theorem dX1_labelOf_1 : decode cX1_labelOf 1 = .ok (.iload_n 1, 1) := by decide +kernel
theorem dX1_labelOf_2 : decode cX1_labelOf 2 = .ok (.invokevirtual 24, 3) := by decide +kernel
theorem dX1_labelOf_5 : decode cX1_labelOf 5 = .ok (.ifCond .eq 12, 3) := by decide +kernel
theorem dX1_labelOf_8 : decode cX1_labelOf 8 = .ok (.aload_n 0, 1) := by decide +kernel
theorem dX1_labelOf_9 : decode cX1_labelOf 9 = .ok (.getfield 17, 3) := by decide +kernel
theorem dX1_labelOf_12 : decode cX1_labelOf 12 = .ok (.iload_n 1, 1) := by decide +kernel
theorem dX1_labelOf_13 : decode cX1_labelOf 13 = .ok (.iaload, 1) := by decide +kernel
theorem dX1_labelOf_14 : decode cX1_labelOf 14 = .ok (.goto 4, 3) := by decide +kernel
theorem dX1_labelOf_17 : decode cX1_labelOf 17 = .ok (.iconst 0, 1) := by decide +kernel
theorem dX1_labelOf_18 : decode cX1_labelOf 18 = .ok (.ireturn, 1) := by decide +kernel
theorem dX1_closest_0 : decode cX1_closest 0 = .ok (.bipush (-3), 2) := by decide +kernel
theorem dX1_closest_2 : decode cX1_closest 2 = .ok (.istore_n 1, 1) := by decide +kernel
theorem dX1_closest_3 : decode cX1_closest 3 = .ok (.iconst 0, 1) := by decide +kernel
theorem dX1_closest_4 : decode cX1_closest 4 = .ok (.istore_n 2, 1) := by decide +kernel
theorem dX1_closest_5 : decode cX1_closest 5 = .ok (.iload_n 2, 1) := by decide +kernel
theorem dX1_closest_6 : decode cX1_closest 6 = .ok (.sipush 1600, 3) := by decide +kernel
theorem dX1_closest_9 : decode cX1_closest 9 = .ok (.if_icmp .ge 100, 3) := by decide +kernel
theorem dX1_closest_12 : decode cX1_closest 12 = .ok (.iload_n 2, 1) := by decide +kernel
theorem dX1_closest_13 : decode cX1_closest 13 = .ok (.bipush 40, 2) := by decide +kernel
theorem dX1_closest_15 : decode cX1_closest 15 = .ok (.idiv, 1) := by decide +kernel
theorem dX1_closest_16 : decode cX1_closest 16 = .ok (.istore_n 3, 1) := by decide +kernel
theorem dX1_closest_17 : decode cX1_closest 17 = .ok (.iload_n 2, 1) := by decide +kernel
theorem dX1_closest_18 : decode cX1_closest 18 = .ok (.bipush 40, 2) := by decide +kernel
theorem dX1_closest_20 : decode cX1_closest 20 = .ok (.irem, 1) := by decide +kernel
theorem dX1_closest_21 : decode cX1_closest 21 = .ok (.istore 4, 2) := by decide +kernel
theorem dX1_closest_23 : decode cX1_closest 23 = .ok (.iload_n 3, 1) := by decide +kernel
theorem dX1_closest_24 : decode cX1_closest 24 = .ok (.iload 4, 2) := by decide +kernel
theorem dX1_closest_26 : decode cX1_closest 26 = .ok (.if_icmp .ge 26, 3) := by decide +kernel
theorem dX1_closest_29 : decode cX1_closest 29 = .ok (.aload_n 0, 1) := by decide +kernel
theorem dX1_closest_30 : decode cX1_closest 30 = .ok (.getfield 7, 3) := by decide +kernel
theorem dX1_closest_33 : decode cX1_closest 33 = .ok (.iload_n 3, 1) := by decide +kernel
theorem dX1_closest_34 : decode cX1_closest 34 = .ok (.baload, 1) := by decide +kernel
theorem dX1_closest_35 : decode cX1_closest 35 = .ok (.ifCond .eq 17, 3) := by decide +kernel
theorem dX1_closest_38 : decode cX1_closest 38 = .ok (.aload_n 0, 1) := by decide +kernel
theorem dX1_closest_39 : decode cX1_closest 39 = .ok (.getfield 7, 3) := by decide +kernel
theorem dX1_closest_42 : decode cX1_closest 42 = .ok (.iload 4, 2) := by decide +kernel
theorem dX1_closest_44 : decode cX1_closest 44 = .ok (.baload, 1) := by decide +kernel
theorem dX1_closest_45 : decode cX1_closest 45 = .ok (.ifCond .eq 7, 3) := by decide +kernel
theorem dX1_closest_48 : decode cX1_closest 48 = .ok (.iconst 1, 1) := by decide +kernel
theorem dX1_closest_49 : decode cX1_closest 49 = .ok (.goto 4, 3) := by decide +kernel
theorem dX1_closest_52 : decode cX1_closest 52 = .ok (.iconst 0, 1) := by decide +kernel
theorem dX1_closest_53 : decode cX1_closest 53 = .ok (.istore 5, 2) := by decide +kernel
theorem dX1_closest_55 : decode cX1_closest 55 = .ok (.iload 5, 2) := by decide +kernel
theorem dX1_closest_57 : decode cX1_closest 57 = .ok (.ifCond .eq 46, 3) := by decide +kernel
theorem dX1_closest_60 : decode cX1_closest 60 = .ok (.iload_n 1, 1) := by decide +kernel
theorem dX1_closest_61 : decode cX1_closest 61 = .ok (.ifCond .lt 24, 3) := by decide +kernel
theorem dX1_closest_64 : decode cX1_closest 64 = .ok (.aload_n 0, 1) := by decide +kernel
theorem dX1_closest_65 : decode cX1_closest 65 = .ok (.aload_n 0, 1) := by decide +kernel
theorem dX1_closest_66 : decode cX1_closest 66 = .ok (.getfield 13, 3) := by decide +kernel
theorem dX1_closest_69 : decode cX1_closest 69 = .ok (.iload_n 3, 1) := by decide +kernel
theorem dX1_closest_70 : decode cX1_closest 70 = .ok (.iaload, 1) := by decide +kernel
theorem dX1_closest_71 : decode cX1_closest 71 = .ok (.aload_n 0, 1) := by decide +kernel
theorem dX1_closest_72 : decode cX1_closest 72 = .ok (.getfield 13, 3) := by decide +kernel
theorem dX1_closest_75 : decode cX1_closest 75 = .ok (.iload 4, 2) := by decide +kernel
theorem dX1_closest_77 : decode cX1_closest 77 = .ok (.iaload, 1) := by decide +kernel
theorem dX1_closest_78 : decode cX1_closest 78 = .ok (.invokevirtual 42, 3) := by decide +kernel
theorem dX1_closest_81 : decode cX1_closest 81 = .ok (.iload_n 1, 1) := by decide +kernel
theorem dX1_closest_82 : decode cX1_closest 82 = .ok (.if_icmp .ge 21, 3) := by decide +kernel
theorem dX1_closest_85 : decode cX1_closest 85 = .ok (.aload_n 0, 1) := by decide +kernel
theorem dX1_closest_86 : decode cX1_closest 86 = .ok (.aload_n 0, 1) := by decide +kernel
theorem dX1_closest_87 : decode cX1_closest 87 = .ok (.getfield 13, 3) := by decide +kernel
theorem dX1_closest_90 : decode cX1_closest 90 = .ok (.iload_n 3, 1) := by decide +kernel
theorem dX1_closest_91 : decode cX1_closest 91 = .ok (.iaload, 1) := by decide +kernel
theorem dX1_closest_92 : decode cX1_closest 92 = .ok (.aload_n 0, 1) := by decide +kernel
theorem dX1_closest_93 : decode cX1_closest 93 = .ok (.getfield 13, 3) := by decide +kernel
theorem dX1_closest_96 : decode cX1_closest 96 = .ok (.iload 4, 2) := by decide +kernel
theorem dX1_closest_98 : decode cX1_closest 98 = .ok (.iaload, 1) := by decide +kernel
theorem dX1_closest_99 : decode cX1_closest 99 = .ok (.invokevirtual 42, 3) := by decide +kernel
theorem dX1_closest_102 : decode cX1_closest 102 = .ok (.istore_n 1, 1) := by decide +kernel
theorem dX1_closest_103 : decode cX1_closest 103 = .ok (.iinc 2 1, 3) := by decide +kernel
theorem dX1_closest_106 : decode cX1_closest 106 = .ok (.goto (-101), 3) := by decide +kernel
theorem dX1_closest_109 : decode cX1_closest 109 = .ok (.iload_n 1, 1) := by decide +kernel
theorem dX1_closest_110 : decode cX1_closest 110 = .ok (.ireturn, 1) := by decide +kernel
end
section
set_option maxRecDepth 100000
abbrev cL_law : ByteArray := code
theorem dL_law_0 : decode cL_law 0 = .ok (.new 7, 3) := by decide +kernel
theorem dL_law_3 : decode cL_law 3 = .ok (.dup, 1) := by decide +kernel
theorem dL_law_4 : decode cL_law 4 = .ok (.invokespecial 9, 3) := by decide +kernel
theorem dL_law_7 : decode cL_law 7 = .ok (.astore_n 1, 1) := by decide +kernel
theorem dL_law_8 : decode cL_law 8 = .ok (.new 10, 3) := by decide +kernel
theorem dL_law_11 : decode cL_law 11 = .ok (.dup, 1) := by decide +kernel
theorem dL_law_12 : decode cL_law 12 = .ok (.invokespecial 12, 3) := by decide +kernel
theorem dL_law_15 : decode cL_law 15 = .ok (.astore_n 2, 1) := by decide +kernel
theorem dL_law_16 : decode cL_law 16 = .ok (.iconst 0, 1) := by decide +kernel
theorem dL_law_17 : decode cL_law 17 = .ok (.istore_n 3, 1) := by decide +kernel
theorem dL_law_18 : decode cL_law 18 = .ok (.iload_n 3, 1) := by decide +kernel
theorem dL_law_19 : decode cL_law 19 = .ok (.aload_n 0, 1) := by decide +kernel
theorem dL_law_20 : decode cL_law 20 = .ok (.arraylength, 1) := by decide +kernel
theorem dL_law_21 : decode cL_law 21 = .ok (.iconst 3, 1) := by decide +kernel
theorem dL_law_22 : decode cL_law 22 = .ok (.isub, 1) := by decide +kernel
theorem dL_law_23 : decode cL_law 23 = .ok (.if_icmp .gt 442, 3) := by decide +kernel
theorem dL_law_26 : decode cL_law 26 = .ok (.aload_n 0, 1) := by decide +kernel
theorem dL_law_27 : decode cL_law 27 = .ok (.iload_n 3, 1) := by decide +kernel
theorem dL_law_28 : decode cL_law 28 = .ok (.iaload, 1) := by decide +kernel
theorem dL_law_29 : decode cL_law 29 = .ok (.bipush 15, 2) := by decide +kernel
theorem dL_law_31 : decode cL_law 31 = .ok (.iand, 1) := by decide +kernel
theorem dL_law_32 : decode cL_law 32 = .ok (.tableswitch 427 0 12 #[68, 101, 124, 157, 190, 223, 256, 289, 322, 355, 378, 401, 414], 68) := by decide +kernel
theorem dL_law_100 : decode cL_law 100 = .ok (.aload_n 1, 1) := by decide +kernel
theorem dL_law_101 : decode cL_law 101 = .ok (.aload_n 0, 1) := by decide +kernel
theorem dL_law_102 : decode cL_law 102 = .ok (.iload_n 3, 1) := by decide +kernel
theorem dL_law_103 : decode cL_law 103 = .ok (.iconst 1, 1) := by decide +kernel
theorem dL_law_104 : decode cL_law 104 = .ok (.iadd, 1) := by decide +kernel
theorem dL_law_105 : decode cL_law 105 = .ok (.iaload, 1) := by decide +kernel
theorem dL_law_106 : decode cL_law 106 = .ok (.aload_n 0, 1) := by decide +kernel
theorem dL_law_107 : decode cL_law 107 = .ok (.iload_n 3, 1) := by decide +kernel
theorem dL_law_108 : decode cL_law 108 = .ok (.iconst 2, 1) := by decide +kernel
theorem dL_law_109 : decode cL_law 109 = .ok (.iadd, 1) := by decide +kernel
theorem dL_law_110 : decode cL_law 110 = .ok (.iaload, 1) := by decide +kernel
theorem dL_law_111 : decode cL_law 111 = .ok (.invokevirtual 13, 3) := by decide +kernel
theorem dL_law_114 : decode cL_law 114 = .ok (.aload_n 2, 1) := by decide +kernel
theorem dL_law_115 : decode cL_law 115 = .ok (.aload_n 0, 1) := by decide +kernel
theorem dL_law_116 : decode cL_law 116 = .ok (.iload_n 3, 1) := by decide +kernel
theorem dL_law_117 : decode cL_law 117 = .ok (.iconst 1, 1) := by decide +kernel
theorem dL_law_118 : decode cL_law 118 = .ok (.iadd, 1) := by decide +kernel
theorem dL_law_119 : decode cL_law 119 = .ok (.iaload, 1) := by decide +kernel
theorem dL_law_120 : decode cL_law 120 = .ok (.aload_n 0, 1) := by decide +kernel
theorem dL_law_121 : decode cL_law 121 = .ok (.iload_n 3, 1) := by decide +kernel
theorem dL_law_122 : decode cL_law 122 = .ok (.iconst 2, 1) := by decide +kernel
theorem dL_law_123 : decode cL_law 123 = .ok (.iadd, 1) := by decide +kernel
theorem dL_law_124 : decode cL_law 124 = .ok (.iaload, 1) := by decide +kernel
theorem dL_law_125 : decode cL_law 125 = .ok (.invokevirtual 17, 3) := by decide +kernel
theorem dL_law_128 : decode cL_law 128 = .ok (.if_icmp .eq 331, 3) := by decide +kernel
theorem dL_law_131 : decode cL_law 131 = .ok (.iconst 0, 1) := by decide +kernel
theorem dL_law_132 : decode cL_law 132 = .ok (.ireturn, 1) := by decide +kernel
theorem dL_law_133 : decode cL_law 133 = .ok (.aload_n 1, 1) := by decide +kernel
theorem dL_law_134 : decode cL_law 134 = .ok (.aload_n 0, 1) := by decide +kernel
theorem dL_law_135 : decode cL_law 135 = .ok (.iload_n 3, 1) := by decide +kernel
theorem dL_law_136 : decode cL_law 136 = .ok (.iconst 1, 1) := by decide +kernel
theorem dL_law_137 : decode cL_law 137 = .ok (.iadd, 1) := by decide +kernel
theorem dL_law_138 : decode cL_law 138 = .ok (.iaload, 1) := by decide +kernel
theorem dL_law_139 : decode cL_law 139 = .ok (.invokevirtual 18, 3) := by decide +kernel
theorem dL_law_142 : decode cL_law 142 = .ok (.aload_n 2, 1) := by decide +kernel
theorem dL_law_143 : decode cL_law 143 = .ok (.aload_n 0, 1) := by decide +kernel
theorem dL_law_144 : decode cL_law 144 = .ok (.iload_n 3, 1) := by decide +kernel
theorem dL_law_145 : decode cL_law 145 = .ok (.iconst 1, 1) := by decide +kernel
theorem dL_law_146 : decode cL_law 146 = .ok (.iadd, 1) := by decide +kernel
theorem dL_law_147 : decode cL_law 147 = .ok (.iaload, 1) := by decide +kernel
theorem dL_law_148 : decode cL_law 148 = .ok (.invokevirtual 22, 3) := by decide +kernel
theorem dL_law_151 : decode cL_law 151 = .ok (.if_icmp .eq 308, 3) := by decide +kernel
theorem dL_law_154 : decode cL_law 154 = .ok (.iconst 0, 1) := by decide +kernel
theorem dL_law_155 : decode cL_law 155 = .ok (.ireturn, 1) := by decide +kernel
theorem dL_law_156 : decode cL_law 156 = .ok (.aload_n 1, 1) := by decide +kernel
theorem dL_law_157 : decode cL_law 157 = .ok (.aload_n 0, 1) := by decide +kernel
theorem dL_law_158 : decode cL_law 158 = .ok (.iload_n 3, 1) := by decide +kernel
theorem dL_law_159 : decode cL_law 159 = .ok (.iconst 1, 1) := by decide +kernel
theorem dL_law_160 : decode cL_law 160 = .ok (.iadd, 1) := by decide +kernel
theorem dL_law_161 : decode cL_law 161 = .ok (.iaload, 1) := by decide +kernel
theorem dL_law_162 : decode cL_law 162 = .ok (.aload_n 0, 1) := by decide +kernel
theorem dL_law_163 : decode cL_law 163 = .ok (.iload_n 3, 1) := by decide +kernel
theorem dL_law_164 : decode cL_law 164 = .ok (.iconst 2, 1) := by decide +kernel
theorem dL_law_165 : decode cL_law 165 = .ok (.iadd, 1) := by decide +kernel
theorem dL_law_166 : decode cL_law 166 = .ok (.iaload, 1) := by decide +kernel
theorem dL_law_167 : decode cL_law 167 = .ok (.invokevirtual 23, 3) := by decide +kernel
theorem dL_law_170 : decode cL_law 170 = .ok (.aload_n 2, 1) := by decide +kernel
theorem dL_law_171 : decode cL_law 171 = .ok (.aload_n 0, 1) := by decide +kernel
theorem dL_law_172 : decode cL_law 172 = .ok (.iload_n 3, 1) := by decide +kernel
theorem dL_law_173 : decode cL_law 173 = .ok (.iconst 1, 1) := by decide +kernel
theorem dL_law_174 : decode cL_law 174 = .ok (.iadd, 1) := by decide +kernel
theorem dL_law_175 : decode cL_law 175 = .ok (.iaload, 1) := by decide +kernel
theorem dL_law_176 : decode cL_law 176 = .ok (.aload_n 0, 1) := by decide +kernel
theorem dL_law_177 : decode cL_law 177 = .ok (.iload_n 3, 1) := by decide +kernel
theorem dL_law_178 : decode cL_law 178 = .ok (.iconst 2, 1) := by decide +kernel
theorem dL_law_179 : decode cL_law 179 = .ok (.iadd, 1) := by decide +kernel
theorem dL_law_180 : decode cL_law 180 = .ok (.iaload, 1) := by decide +kernel
theorem dL_law_181 : decode cL_law 181 = .ok (.invokevirtual 26, 3) := by decide +kernel
theorem dL_law_184 : decode cL_law 184 = .ok (.if_icmp .eq 275, 3) := by decide +kernel
theorem dL_law_187 : decode cL_law 187 = .ok (.iconst 0, 1) := by decide +kernel
theorem dL_law_188 : decode cL_law 188 = .ok (.ireturn, 1) := by decide +kernel
theorem dL_law_189 : decode cL_law 189 = .ok (.aload_n 1, 1) := by decide +kernel
theorem dL_law_190 : decode cL_law 190 = .ok (.aload_n 0, 1) := by decide +kernel
theorem dL_law_191 : decode cL_law 191 = .ok (.iload_n 3, 1) := by decide +kernel
theorem dL_law_192 : decode cL_law 192 = .ok (.iconst 1, 1) := by decide +kernel
theorem dL_law_193 : decode cL_law 193 = .ok (.iadd, 1) := by decide +kernel
theorem dL_law_194 : decode cL_law 194 = .ok (.iaload, 1) := by decide +kernel
theorem dL_law_195 : decode cL_law 195 = .ok (.aload_n 0, 1) := by decide +kernel
theorem dL_law_196 : decode cL_law 196 = .ok (.iload_n 3, 1) := by decide +kernel
theorem dL_law_197 : decode cL_law 197 = .ok (.iconst 2, 1) := by decide +kernel
theorem dL_law_198 : decode cL_law 198 = .ok (.iadd, 1) := by decide +kernel
theorem dL_law_199 : decode cL_law 199 = .ok (.iaload, 1) := by decide +kernel
theorem dL_law_200 : decode cL_law 200 = .ok (.invokevirtual 27, 3) := by decide +kernel
theorem dL_law_203 : decode cL_law 203 = .ok (.aload_n 2, 1) := by decide +kernel
theorem dL_law_204 : decode cL_law 204 = .ok (.aload_n 0, 1) := by decide +kernel
theorem dL_law_205 : decode cL_law 205 = .ok (.iload_n 3, 1) := by decide +kernel
theorem dL_law_206 : decode cL_law 206 = .ok (.iconst 1, 1) := by decide +kernel
theorem dL_law_207 : decode cL_law 207 = .ok (.iadd, 1) := by decide +kernel
theorem dL_law_208 : decode cL_law 208 = .ok (.iaload, 1) := by decide +kernel
theorem dL_law_209 : decode cL_law 209 = .ok (.aload_n 0, 1) := by decide +kernel
theorem dL_law_210 : decode cL_law 210 = .ok (.iload_n 3, 1) := by decide +kernel
theorem dL_law_211 : decode cL_law 211 = .ok (.iconst 2, 1) := by decide +kernel
theorem dL_law_212 : decode cL_law 212 = .ok (.iadd, 1) := by decide +kernel
theorem dL_law_213 : decode cL_law 213 = .ok (.iaload, 1) := by decide +kernel
theorem dL_law_214 : decode cL_law 214 = .ok (.invokevirtual 30, 3) := by decide +kernel
theorem dL_law_217 : decode cL_law 217 = .ok (.if_icmp .eq 242, 3) := by decide +kernel
theorem dL_law_220 : decode cL_law 220 = .ok (.iconst 0, 1) := by decide +kernel
theorem dL_law_221 : decode cL_law 221 = .ok (.ireturn, 1) := by decide +kernel
theorem dL_law_222 : decode cL_law 222 = .ok (.aload_n 1, 1) := by decide +kernel
theorem dL_law_223 : decode cL_law 223 = .ok (.aload_n 0, 1) := by decide +kernel
theorem dL_law_224 : decode cL_law 224 = .ok (.iload_n 3, 1) := by decide +kernel
theorem dL_law_225 : decode cL_law 225 = .ok (.iconst 1, 1) := by decide +kernel
theorem dL_law_226 : decode cL_law 226 = .ok (.iadd, 1) := by decide +kernel
theorem dL_law_227 : decode cL_law 227 = .ok (.iaload, 1) := by decide +kernel
theorem dL_law_228 : decode cL_law 228 = .ok (.aload_n 0, 1) := by decide +kernel
theorem dL_law_229 : decode cL_law 229 = .ok (.iload_n 3, 1) := by decide +kernel
theorem dL_law_230 : decode cL_law 230 = .ok (.iconst 2, 1) := by decide +kernel
theorem dL_law_231 : decode cL_law 231 = .ok (.iadd, 1) := by decide +kernel
theorem dL_law_232 : decode cL_law 232 = .ok (.iaload, 1) := by decide +kernel
theorem dL_law_233 : decode cL_law 233 = .ok (.invokevirtual 31, 3) := by decide +kernel
theorem dL_law_236 : decode cL_law 236 = .ok (.aload_n 2, 1) := by decide +kernel
theorem dL_law_237 : decode cL_law 237 = .ok (.aload_n 0, 1) := by decide +kernel
theorem dL_law_238 : decode cL_law 238 = .ok (.iload_n 3, 1) := by decide +kernel
theorem dL_law_239 : decode cL_law 239 = .ok (.iconst 1, 1) := by decide +kernel
theorem dL_law_240 : decode cL_law 240 = .ok (.iadd, 1) := by decide +kernel
theorem dL_law_241 : decode cL_law 241 = .ok (.iaload, 1) := by decide +kernel
theorem dL_law_242 : decode cL_law 242 = .ok (.aload_n 0, 1) := by decide +kernel
theorem dL_law_243 : decode cL_law 243 = .ok (.iload_n 3, 1) := by decide +kernel
theorem dL_law_244 : decode cL_law 244 = .ok (.iconst 2, 1) := by decide +kernel
theorem dL_law_245 : decode cL_law 245 = .ok (.iadd, 1) := by decide +kernel
theorem dL_law_246 : decode cL_law 246 = .ok (.iaload, 1) := by decide +kernel
theorem dL_law_247 : decode cL_law 247 = .ok (.invokevirtual 34, 3) := by decide +kernel
theorem dL_law_250 : decode cL_law 250 = .ok (.if_icmp .eq 209, 3) := by decide +kernel
theorem dL_law_253 : decode cL_law 253 = .ok (.iconst 0, 1) := by decide +kernel
theorem dL_law_254 : decode cL_law 254 = .ok (.ireturn, 1) := by decide +kernel
theorem dL_law_255 : decode cL_law 255 = .ok (.aload_n 1, 1) := by decide +kernel
theorem dL_law_256 : decode cL_law 256 = .ok (.aload_n 0, 1) := by decide +kernel
theorem dL_law_257 : decode cL_law 257 = .ok (.iload_n 3, 1) := by decide +kernel
theorem dL_law_258 : decode cL_law 258 = .ok (.iconst 1, 1) := by decide +kernel
theorem dL_law_259 : decode cL_law 259 = .ok (.iadd, 1) := by decide +kernel
theorem dL_law_260 : decode cL_law 260 = .ok (.iaload, 1) := by decide +kernel
theorem dL_law_261 : decode cL_law 261 = .ok (.aload_n 0, 1) := by decide +kernel
theorem dL_law_262 : decode cL_law 262 = .ok (.iload_n 3, 1) := by decide +kernel
theorem dL_law_263 : decode cL_law 263 = .ok (.iconst 2, 1) := by decide +kernel
theorem dL_law_264 : decode cL_law 264 = .ok (.iadd, 1) := by decide +kernel
theorem dL_law_265 : decode cL_law 265 = .ok (.iaload, 1) := by decide +kernel
theorem dL_law_266 : decode cL_law 266 = .ok (.invokevirtual 35, 3) := by decide +kernel
theorem dL_law_269 : decode cL_law 269 = .ok (.aload_n 2, 1) := by decide +kernel
theorem dL_law_270 : decode cL_law 270 = .ok (.aload_n 0, 1) := by decide +kernel
theorem dL_law_271 : decode cL_law 271 = .ok (.iload_n 3, 1) := by decide +kernel
theorem dL_law_272 : decode cL_law 272 = .ok (.iconst 1, 1) := by decide +kernel
theorem dL_law_273 : decode cL_law 273 = .ok (.iadd, 1) := by decide +kernel
theorem dL_law_274 : decode cL_law 274 = .ok (.iaload, 1) := by decide +kernel
theorem dL_law_275 : decode cL_law 275 = .ok (.aload_n 0, 1) := by decide +kernel
theorem dL_law_276 : decode cL_law 276 = .ok (.iload_n 3, 1) := by decide +kernel
theorem dL_law_277 : decode cL_law 277 = .ok (.iconst 2, 1) := by decide +kernel
theorem dL_law_278 : decode cL_law 278 = .ok (.iadd, 1) := by decide +kernel
theorem dL_law_279 : decode cL_law 279 = .ok (.iaload, 1) := by decide +kernel
theorem dL_law_280 : decode cL_law 280 = .ok (.invokevirtual 38, 3) := by decide +kernel
theorem dL_law_283 : decode cL_law 283 = .ok (.if_icmp .eq 176, 3) := by decide +kernel
theorem dL_law_286 : decode cL_law 286 = .ok (.iconst 0, 1) := by decide +kernel
theorem dL_law_287 : decode cL_law 287 = .ok (.ireturn, 1) := by decide +kernel
theorem dL_law_288 : decode cL_law 288 = .ok (.aload_n 1, 1) := by decide +kernel
theorem dL_law_289 : decode cL_law 289 = .ok (.aload_n 0, 1) := by decide +kernel
theorem dL_law_290 : decode cL_law 290 = .ok (.iload_n 3, 1) := by decide +kernel
theorem dL_law_291 : decode cL_law 291 = .ok (.iconst 1, 1) := by decide +kernel
theorem dL_law_292 : decode cL_law 292 = .ok (.iadd, 1) := by decide +kernel
theorem dL_law_293 : decode cL_law 293 = .ok (.iaload, 1) := by decide +kernel
theorem dL_law_294 : decode cL_law 294 = .ok (.aload_n 0, 1) := by decide +kernel
theorem dL_law_295 : decode cL_law 295 = .ok (.iload_n 3, 1) := by decide +kernel
theorem dL_law_296 : decode cL_law 296 = .ok (.iconst 2, 1) := by decide +kernel
theorem dL_law_297 : decode cL_law 297 = .ok (.iadd, 1) := by decide +kernel
theorem dL_law_298 : decode cL_law 298 = .ok (.iaload, 1) := by decide +kernel
theorem dL_law_299 : decode cL_law 299 = .ok (.invokevirtual 39, 3) := by decide +kernel
theorem dL_law_302 : decode cL_law 302 = .ok (.aload_n 2, 1) := by decide +kernel
theorem dL_law_303 : decode cL_law 303 = .ok (.aload_n 0, 1) := by decide +kernel
theorem dL_law_304 : decode cL_law 304 = .ok (.iload_n 3, 1) := by decide +kernel
theorem dL_law_305 : decode cL_law 305 = .ok (.iconst 1, 1) := by decide +kernel
theorem dL_law_306 : decode cL_law 306 = .ok (.iadd, 1) := by decide +kernel
theorem dL_law_307 : decode cL_law 307 = .ok (.iaload, 1) := by decide +kernel
theorem dL_law_308 : decode cL_law 308 = .ok (.aload_n 0, 1) := by decide +kernel
theorem dL_law_309 : decode cL_law 309 = .ok (.iload_n 3, 1) := by decide +kernel
theorem dL_law_310 : decode cL_law 310 = .ok (.iconst 2, 1) := by decide +kernel
theorem dL_law_311 : decode cL_law 311 = .ok (.iadd, 1) := by decide +kernel
theorem dL_law_312 : decode cL_law 312 = .ok (.iaload, 1) := by decide +kernel
theorem dL_law_313 : decode cL_law 313 = .ok (.invokevirtual 42, 3) := by decide +kernel
theorem dL_law_316 : decode cL_law 316 = .ok (.if_icmp .eq 143, 3) := by decide +kernel
theorem dL_law_319 : decode cL_law 319 = .ok (.iconst 0, 1) := by decide +kernel
theorem dL_law_320 : decode cL_law 320 = .ok (.ireturn, 1) := by decide +kernel
theorem dL_law_321 : decode cL_law 321 = .ok (.aload_n 1, 1) := by decide +kernel
theorem dL_law_322 : decode cL_law 322 = .ok (.aload_n 0, 1) := by decide +kernel
theorem dL_law_323 : decode cL_law 323 = .ok (.iload_n 3, 1) := by decide +kernel
theorem dL_law_324 : decode cL_law 324 = .ok (.iconst 1, 1) := by decide +kernel
theorem dL_law_325 : decode cL_law 325 = .ok (.iadd, 1) := by decide +kernel
theorem dL_law_326 : decode cL_law 326 = .ok (.iaload, 1) := by decide +kernel
theorem dL_law_327 : decode cL_law 327 = .ok (.aload_n 0, 1) := by decide +kernel
theorem dL_law_328 : decode cL_law 328 = .ok (.iload_n 3, 1) := by decide +kernel
theorem dL_law_329 : decode cL_law 329 = .ok (.iconst 2, 1) := by decide +kernel
theorem dL_law_330 : decode cL_law 330 = .ok (.iadd, 1) := by decide +kernel
theorem dL_law_331 : decode cL_law 331 = .ok (.iaload, 1) := by decide +kernel
theorem dL_law_332 : decode cL_law 332 = .ok (.invokevirtual 43, 3) := by decide +kernel
theorem dL_law_335 : decode cL_law 335 = .ok (.aload_n 2, 1) := by decide +kernel
theorem dL_law_336 : decode cL_law 336 = .ok (.aload_n 0, 1) := by decide +kernel
theorem dL_law_337 : decode cL_law 337 = .ok (.iload_n 3, 1) := by decide +kernel
theorem dL_law_338 : decode cL_law 338 = .ok (.iconst 1, 1) := by decide +kernel
theorem dL_law_339 : decode cL_law 339 = .ok (.iadd, 1) := by decide +kernel
theorem dL_law_340 : decode cL_law 340 = .ok (.iaload, 1) := by decide +kernel
theorem dL_law_341 : decode cL_law 341 = .ok (.aload_n 0, 1) := by decide +kernel
theorem dL_law_342 : decode cL_law 342 = .ok (.iload_n 3, 1) := by decide +kernel
theorem dL_law_343 : decode cL_law 343 = .ok (.iconst 2, 1) := by decide +kernel
theorem dL_law_344 : decode cL_law 344 = .ok (.iadd, 1) := by decide +kernel
theorem dL_law_345 : decode cL_law 345 = .ok (.iaload, 1) := by decide +kernel
theorem dL_law_346 : decode cL_law 346 = .ok (.invokevirtual 46, 3) := by decide +kernel
theorem dL_law_349 : decode cL_law 349 = .ok (.if_icmp .eq 110, 3) := by decide +kernel
theorem dL_law_352 : decode cL_law 352 = .ok (.iconst 0, 1) := by decide +kernel
theorem dL_law_353 : decode cL_law 353 = .ok (.ireturn, 1) := by decide +kernel
theorem dL_law_354 : decode cL_law 354 = .ok (.aload_n 1, 1) := by decide +kernel
theorem dL_law_355 : decode cL_law 355 = .ok (.aload_n 0, 1) := by decide +kernel
theorem dL_law_356 : decode cL_law 356 = .ok (.iload_n 3, 1) := by decide +kernel
theorem dL_law_357 : decode cL_law 357 = .ok (.iconst 1, 1) := by decide +kernel
theorem dL_law_358 : decode cL_law 358 = .ok (.iadd, 1) := by decide +kernel
theorem dL_law_359 : decode cL_law 359 = .ok (.iaload, 1) := by decide +kernel
theorem dL_law_360 : decode cL_law 360 = .ok (.aload_n 0, 1) := by decide +kernel
theorem dL_law_361 : decode cL_law 361 = .ok (.iload_n 3, 1) := by decide +kernel
theorem dL_law_362 : decode cL_law 362 = .ok (.iconst 2, 1) := by decide +kernel
theorem dL_law_363 : decode cL_law 363 = .ok (.iadd, 1) := by decide +kernel
theorem dL_law_364 : decode cL_law 364 = .ok (.iaload, 1) := by decide +kernel
theorem dL_law_365 : decode cL_law 365 = .ok (.invokevirtual 47, 3) := by decide +kernel
theorem dL_law_368 : decode cL_law 368 = .ok (.aload_n 2, 1) := by decide +kernel
theorem dL_law_369 : decode cL_law 369 = .ok (.aload_n 0, 1) := by decide +kernel
theorem dL_law_370 : decode cL_law 370 = .ok (.iload_n 3, 1) := by decide +kernel
theorem dL_law_371 : decode cL_law 371 = .ok (.iconst 1, 1) := by decide +kernel
theorem dL_law_372 : decode cL_law 372 = .ok (.iadd, 1) := by decide +kernel
theorem dL_law_373 : decode cL_law 373 = .ok (.iaload, 1) := by decide +kernel
theorem dL_law_374 : decode cL_law 374 = .ok (.aload_n 0, 1) := by decide +kernel
theorem dL_law_375 : decode cL_law 375 = .ok (.iload_n 3, 1) := by decide +kernel
theorem dL_law_376 : decode cL_law 376 = .ok (.iconst 2, 1) := by decide +kernel
theorem dL_law_377 : decode cL_law 377 = .ok (.iadd, 1) := by decide +kernel
theorem dL_law_378 : decode cL_law 378 = .ok (.iaload, 1) := by decide +kernel
theorem dL_law_379 : decode cL_law 379 = .ok (.invokevirtual 50, 3) := by decide +kernel
theorem dL_law_382 : decode cL_law 382 = .ok (.if_icmp .eq 77, 3) := by decide +kernel
theorem dL_law_385 : decode cL_law 385 = .ok (.iconst 0, 1) := by decide +kernel
theorem dL_law_386 : decode cL_law 386 = .ok (.ireturn, 1) := by decide +kernel
theorem dL_law_387 : decode cL_law 387 = .ok (.aload_n 1, 1) := by decide +kernel
theorem dL_law_388 : decode cL_law 388 = .ok (.aload_n 0, 1) := by decide +kernel
theorem dL_law_389 : decode cL_law 389 = .ok (.iload_n 3, 1) := by decide +kernel
theorem dL_law_390 : decode cL_law 390 = .ok (.iconst 1, 1) := by decide +kernel
theorem dL_law_391 : decode cL_law 391 = .ok (.iadd, 1) := by decide +kernel
theorem dL_law_392 : decode cL_law 392 = .ok (.iaload, 1) := by decide +kernel
theorem dL_law_393 : decode cL_law 393 = .ok (.invokevirtual 51, 3) := by decide +kernel
theorem dL_law_396 : decode cL_law 396 = .ok (.aload_n 2, 1) := by decide +kernel
theorem dL_law_397 : decode cL_law 397 = .ok (.aload_n 0, 1) := by decide +kernel
theorem dL_law_398 : decode cL_law 398 = .ok (.iload_n 3, 1) := by decide +kernel
theorem dL_law_399 : decode cL_law 399 = .ok (.iconst 1, 1) := by decide +kernel
theorem dL_law_400 : decode cL_law 400 = .ok (.iadd, 1) := by decide +kernel
theorem dL_law_401 : decode cL_law 401 = .ok (.iaload, 1) := by decide +kernel
theorem dL_law_402 : decode cL_law 402 = .ok (.invokevirtual 54, 3) := by decide +kernel
theorem dL_law_405 : decode cL_law 405 = .ok (.if_icmp .eq 54, 3) := by decide +kernel
theorem dL_law_408 : decode cL_law 408 = .ok (.iconst 0, 1) := by decide +kernel
theorem dL_law_409 : decode cL_law 409 = .ok (.ireturn, 1) := by decide +kernel
theorem dL_law_410 : decode cL_law 410 = .ok (.aload_n 1, 1) := by decide +kernel
theorem dL_law_411 : decode cL_law 411 = .ok (.aload_n 0, 1) := by decide +kernel
theorem dL_law_412 : decode cL_law 412 = .ok (.iload_n 3, 1) := by decide +kernel
theorem dL_law_413 : decode cL_law 413 = .ok (.iconst 1, 1) := by decide +kernel
theorem dL_law_414 : decode cL_law 414 = .ok (.iadd, 1) := by decide +kernel
theorem dL_law_415 : decode cL_law 415 = .ok (.iaload, 1) := by decide +kernel
theorem dL_law_416 : decode cL_law 416 = .ok (.invokevirtual 55, 3) := by decide +kernel
theorem dL_law_419 : decode cL_law 419 = .ok (.aload_n 2, 1) := by decide +kernel
theorem dL_law_420 : decode cL_law 420 = .ok (.aload_n 0, 1) := by decide +kernel
theorem dL_law_421 : decode cL_law 421 = .ok (.iload_n 3, 1) := by decide +kernel
theorem dL_law_422 : decode cL_law 422 = .ok (.iconst 1, 1) := by decide +kernel
theorem dL_law_423 : decode cL_law 423 = .ok (.iadd, 1) := by decide +kernel
theorem dL_law_424 : decode cL_law 424 = .ok (.iaload, 1) := by decide +kernel
theorem dL_law_425 : decode cL_law 425 = .ok (.invokevirtual 58, 3) := by decide +kernel
theorem dL_law_428 : decode cL_law 428 = .ok (.if_icmp .eq 31, 3) := by decide +kernel
theorem dL_law_431 : decode cL_law 431 = .ok (.iconst 0, 1) := by decide +kernel
theorem dL_law_432 : decode cL_law 432 = .ok (.ireturn, 1) := by decide +kernel
theorem dL_law_433 : decode cL_law 433 = .ok (.aload_n 1, 1) := by decide +kernel
theorem dL_law_434 : decode cL_law 434 = .ok (.invokevirtual 59, 3) := by decide +kernel
theorem dL_law_437 : decode cL_law 437 = .ok (.aload_n 2, 1) := by decide +kernel
theorem dL_law_438 : decode cL_law 438 = .ok (.invokevirtual 63, 3) := by decide +kernel
theorem dL_law_441 : decode cL_law 441 = .ok (.if_icmp .eq 18, 3) := by decide +kernel
theorem dL_law_444 : decode cL_law 444 = .ok (.iconst 0, 1) := by decide +kernel
theorem dL_law_445 : decode cL_law 445 = .ok (.ireturn, 1) := by decide +kernel
theorem dL_law_446 : decode cL_law 446 = .ok (.aload_n 1, 1) := by decide +kernel
theorem dL_law_447 : decode cL_law 447 = .ok (.invokevirtual 64, 3) := by decide +kernel
theorem dL_law_450 : decode cL_law 450 = .ok (.aload_n 2, 1) := by decide +kernel
theorem dL_law_451 : decode cL_law 451 = .ok (.invokevirtual 67, 3) := by decide +kernel
theorem dL_law_454 : decode cL_law 454 = .ok (.if_icmp .eq 5, 3) := by decide +kernel
theorem dL_law_457 : decode cL_law 457 = .ok (.iconst 0, 1) := by decide +kernel
theorem dL_law_458 : decode cL_law 458 = .ok (.ireturn, 1) := by decide +kernel
theorem dL_law_459 : decode cL_law 459 = .ok (.iinc 3 3, 3) := by decide +kernel
theorem dL_law_462 : decode cL_law 462 = .ok (.goto (-444), 3) := by decide +kernel
theorem dL_law_465 : decode cL_law 465 = .ok (.iconst 1, 1) := by decide +kernel
theorem dL_law_466 : decode cL_law 466 = .ok (.ireturn, 1) := by decide +kernel
end
section
/-! rows of my own: ints as numbers nI, booleans as bI, arrays as functions of numbers -/
def bI (b : Bool) : Int32 := match b with
  | true => 1
  | false => 0
theorem bI_0 {b : Bool} : bI b = 0 ↔ b = false := by cases b <;> decide +kernel
def aN (f : Nat → Nat) : Nat → Int32 := fun i => nI (f i)
def aB (f : Nat → Bool) : Nat → Int32 := fun i => bI (f i)
theorem up_aN (f : Nat → Nat) (k v : Nat) : upd (aN f) k (nI v) = aN (va_up f k v) := by
  funext j
  by_cases h : j = k
  · simp [upd, aN, va_up, h]
  · simp [upd, aN, va_up, h]
theorem up_aB (f : Nat → Bool) (k : Nat) (v : Bool) : upd (aB f) k (bI v) = aB (va_up f k v) := by
  funext j
  by_cases h : j = k
  · simp [upd, aB, va_up, h]
  · simp [upd, aB, va_up, h]
theorem up_L (f : Nat → Int32) (k : Nat) (v : Int32) : upd f k v = va_up f k v := rfl
theorem bI_nar (b : Bool) : vp_nar .boolean (bI b) = bI b := by cases b <;> decide +kernel
theorem ci_sm : ∀ n, n < 32 → ((nI n &&& 31).toBitVec.smod 32).toNat = n := by decide +kernel
theorem ci_bv (n : Nat) : (nI n).toBitVec = BitVec.ofNat 32 n := rfl
theorem ci_andE (a b : Nat) : nI a &&& nI b = nI (a &&& b) := by
  apply Int32.toBitVec_inj.mp
  rw [Int32.toBitVec_and, ci_bv, ci_bv, ci_bv]
  apply BitVec.eq_of_toNat_eq
  simp [BitVec.toNat_and, Nat.and_mod_two_pow]
theorem ci_orE (a b : Nat) : nI a ||| nI b = nI (a ||| b) := by
  apply Int32.toBitVec_inj.mp
  rw [Int32.toBitVec_or, ci_bv, ci_bv, ci_bv]
  apply BitVec.eq_of_toNat_eq
  simp [BitVec.toNat_or, Nat.or_mod_two_pow]
theorem ci_xorE (a b : Nat) : nI a ^^^ nI b = nI (a ^^^ b) := by
  apply Int32.toBitVec_inj.mp
  rw [Int32.toBitVec_xor, ci_bv, ci_bv, ci_bv]
  apply BitVec.eq_of_toNat_eq
  simp [BitVec.toNat_xor, Nat.xor_mod_two_pow]
theorem ci_shlE (a : Nat) {b : Nat} (hb : b < 32) : nI a <<< (nI b &&& 31) = nI (a * 2 ^ b) := by
  apply Int32.toBitVec_inj.mp
  apply BitVec.eq_of_toNat_eq
  rw [pk_shl (nI a) _ b (ci_sm b hb), ci_bv, ci_bv, BitVec.toNat_ofNat, BitVec.toNat_ofNat, Nat.mod_mul_mod]
theorem ci_shrE {a : Nat} (ha : a < 2147483648) {b : Nat} (hb : b < 32) : nI a >>> (nI b &&& 31) = nI (a / 2 ^ b) := pk_shrN ha _ b (ci_sm b hb)
theorem ci_inc (a : Nat) : nI a + Int32.ofInt 1 = nI (a + 1) := nI_1 a
theorem ci_inc3 (a : Nat) : nI a + Int32.ofInt 3 = nI (a + 3) := nI_add a 3
theorem ci_dec {a : Nat} (h : 1 ≤ a) : nI a + Int32.ofInt (-1) = nI (a - 1) := by
  obtain ⟨b, rfl⟩ : ∃ b, a = b + 1 := ⟨a - 1, by omega⟩
  exact pk_m1 b
section CIR
variable {p : Program} {l : Launch} {e : Env} {R : Room} {s : State} {m : MethodId} {args : Array Value} {below : List Frame} {meth : Method} {c : Code} {H : Heap} {locs : List Loc} {cells slots : Nat} {Q : State → Prop}
variable {cc : ByteArray} {pc : Nat} {ls : Array Slot} {rest : List Value} {a b : Nat}
theorem ci_top (h : a = b) (k : W p l e R s m args below meth c H locs cells slots Q (F0 m pc ls (.int (nI b) :: rest))) : W p l e R s m args below meth c H locs cells slots Q (F0 m pc ls (.int (nI a) :: rest)) := h ▸ k
theorem ci_topr {x y : Int32} (h : x = y) (k : W p l e R s m args below meth c H locs cells slots Q (F0 m pc ls (.int y :: rest))) : W p l e R s m args below meth c H locs cells slots Q (F0 m pc ls (.int x :: rest)) := h ▸ k
theorem ci_iadd (hx : p.tables.exec = Jvm.exec) (hb : c.code = cc) (hdg : decode cc pc = .ok (.iadd, 1)) (k : W p l e R s m args below meth c H locs cells slots Q (F0 m (pc + 1) ls (.int (nI (a + b)) :: rest))) : W p l e R s m args below meth c H locs cells slots Q (F0 m pc ls (.int (nI b) :: .int (nI a) :: rest)) := lv_iadd hx hb hdg (by rw [nI_add]; exact k)
theorem ci_isub (hx : p.tables.exec = Jvm.exec) (hb : c.code = cc) (hdg : decode cc pc = .ok (.isub, 1)) (h : b ≤ a) (k : W p l e R s m args below meth c H locs cells slots Q (F0 m (pc + 1) ls (.int (nI (a - b)) :: rest))) : W p l e R s m args below meth c H locs cells slots Q (F0 m pc ls (.int (nI b) :: .int (nI a) :: rest)) := lv_isub hx hb hdg (by rw [pk_sub h]; exact k)
theorem ci_imul (hx : p.tables.exec = Jvm.exec) (hb : c.code = cc) (hdg : decode cc pc = .ok (.imul, 1)) (k : W p l e R s m args below meth c H locs cells slots Q (F0 m (pc + 1) ls (.int (nI (a * b)) :: rest))) : W p l e R s m args below meth c H locs cells slots Q (F0 m pc ls (.int (nI b) :: .int (nI a) :: rest)) := lv_imul hx hb hdg (by rw [pk_mul]; exact k)
theorem ci_idiv (hx : p.tables.exec = Jvm.exec) (hb : c.code = cc) (hdg : decode cc pc = .ok (.idiv, 1)) (ha : a < 2147483648) (h0 : 0 < b) (hd : b < 2147483648) (k : W p l e R s m args below meth c H locs cells slots Q (F0 m (pc + 1) ls (.int (nI (a / b)) :: rest))) : W p l e R s m args below meth c H locs cells slots Q (F0 m pc ls (.int (nI b) :: .int (nI a) :: rest)) := lv_idiv hx hb hdg (nI_ne0 h0 hd) (by rw [pk_div ha h0 hd]; exact k)
theorem ci_irem (hx : p.tables.exec = Jvm.exec) (hb : c.code = cc) (hdg : decode cc pc = .ok (.irem, 1)) (ha : a < 2147483648) (h0 : 0 < b) (hd : b < 2147483648) (k : W p l e R s m args below meth c H locs cells slots Q (F0 m (pc + 1) ls (.int (nI (a % b)) :: rest))) : W p l e R s m args below meth c H locs cells slots Q (F0 m pc ls (.int (nI b) :: .int (nI a) :: rest)) := lv_irem hx hb hdg (nI_ne0 h0 hd) (by rw [pk_rem ha h0 hd]; exact k)
theorem ci_iand (hx : p.tables.exec = Jvm.exec) (hb : c.code = cc) (hdg : decode cc pc = .ok (.iand, 1)) (k : W p l e R s m args below meth c H locs cells slots Q (F0 m (pc + 1) ls (.int (nI (a &&& b)) :: rest))) : W p l e R s m args below meth c H locs cells slots Q (F0 m pc ls (.int (nI b) :: .int (nI a) :: rest)) := lv_iand hx hb hdg (by rw [ci_andE]; exact k)
theorem ci_and63 (hx : p.tables.exec = Jvm.exec) (hb : c.code = cc) (hdg : decode cc pc = .ok (.iand, 1)) (k : W p l e R s m args below meth c H locs cells slots Q (F0 m (pc + 1) ls (.int (nI (a % 64)) :: rest))) : W p l e R s m args below meth c H locs cells slots Q (F0 m pc ls (.int (nI 63) :: .int (nI a) :: rest)) := ci_iand hx hb hdg (by rw [show a &&& 63 = a % 64 from Nat.and_two_pow_sub_one_eq_mod a 6]; exact k)
theorem ci_and1 (hx : p.tables.exec = Jvm.exec) (hb : c.code = cc) (hdg : decode cc pc = .ok (.iand, 1)) (k : W p l e R s m args below meth c H locs cells slots Q (F0 m (pc + 1) ls (.int (nI (a % 2)) :: rest))) : W p l e R s m args below meth c H locs cells slots Q (F0 m pc ls (.int (nI 1) :: .int (nI a) :: rest)) := ci_iand hx hb hdg (by rw [show a &&& 1 = a % 2 from Nat.and_two_pow_sub_one_eq_mod a 1]; exact k)
theorem ci_ior (hx : p.tables.exec = Jvm.exec) (hb : c.code = cc) (hdg : decode cc pc = .ok (.ior, 1)) (k : W p l e R s m args below meth c H locs cells slots Q (F0 m (pc + 1) ls (.int (nI (a ||| b)) :: rest))) : W p l e R s m args below meth c H locs cells slots Q (F0 m pc ls (.int (nI b) :: .int (nI a) :: rest)) := lv_ior hx hb hdg (by rw [ci_orE]; exact k)
theorem ci_ixor (hx : p.tables.exec = Jvm.exec) (hb : c.code = cc) (hdg : decode cc pc = .ok (.ixor, 1)) (k : W p l e R s m args below meth c H locs cells slots Q (F0 m (pc + 1) ls (.int (nI (a ^^^ b)) :: rest))) : W p l e R s m args below meth c H locs cells slots Q (F0 m pc ls (.int (nI b) :: .int (nI a) :: rest)) := lv_ixor hx hb hdg (by rw [ci_xorE]; exact k)
theorem ci_ishl (hx : p.tables.exec = Jvm.exec) (hb : c.code = cc) (hdg : decode cc pc = .ok (.ishl, 1)) (h : b < 32) (k : W p l e R s m args below meth c H locs cells slots Q (F0 m (pc + 1) ls (.int (nI (a * 2 ^ b)) :: rest))) : W p l e R s m args below meth c H locs cells slots Q (F0 m pc ls (.int (nI b) :: .int (nI a) :: rest)) := lv_ishl hx hb hdg (by rw [ci_shlE a h]; exact k)
theorem ci_ishr (hx : p.tables.exec = Jvm.exec) (hb : c.code = cc) (hdg : decode cc pc = .ok (.ishr, 1)) (ha : a < 2147483648) (h : b < 32) (k : W p l e R s m args below meth c H locs cells slots Q (F0 m (pc + 1) ls (.int (nI (a / 2 ^ b)) :: rest))) : W p l e R s m args below meth c H locs cells slots Q (F0 m pc ls (.int (nI b) :: .int (nI a) :: rest)) := lv_ishr hx hb hdg (by rw [ci_shrE ha h]; exact k)
theorem ci_shr6 (hx : p.tables.exec = Jvm.exec) (hb : c.code = cc) (hdg : decode cc pc = .ok (.ishr, 1)) (ha : a < 2147483648) (k : W p l e R s m args below meth c H locs cells slots Q (F0 m (pc + 1) ls (.int (nI (a / 64)) :: rest))) : W p l e R s m args below meth c H locs cells slots Q (F0 m pc ls (.int (nI 6) :: .int (nI a) :: rest)) := ci_ishr hx hb hdg ha (by decide) k
theorem ci_icmp_lt (hx : p.tables.exec = Jvm.exec) (hb : c.code = cc) {off : Int} {tgt : Nat} (hdg : decode cc pc = .ok (.if_icmp .lt off, 3)) (ht : (pc : Int) + off = (tgt : Int)) (ha : a < 2147483648) (hb' : b < 2147483648)
    (kt : a < b → W p l e R s m args below meth c H locs cells slots Q (F0 m tgt ls rest)) (kf : b ≤ a → W p l e R s m args below meth c H locs cells slots Q (F0 m (pc + 3) ls rest)) : W p l e R s m args below meth c H locs cells slots Q (F0 m pc ls (.int (nI b) :: .int (nI a) :: rest)) :=
  lv_icmp_lt hx hb hdg ht (fun h => kt ((nI_ltI ha hb').mp h)) (fun h => kf (Nat.le_of_not_lt fun q => h ((nI_ltI ha hb').mpr q)))
theorem ci_icmp_ge (hx : p.tables.exec = Jvm.exec) (hb : c.code = cc) {off : Int} {tgt : Nat} (hdg : decode cc pc = .ok (.if_icmp .ge off, 3)) (ht : (pc : Int) + off = (tgt : Int)) (ha : a < 2147483648) (hb' : b < 2147483648)
    (kt : b ≤ a → W p l e R s m args below meth c H locs cells slots Q (F0 m tgt ls rest)) (kf : a < b → W p l e R s m args below meth c H locs cells slots Q (F0 m (pc + 3) ls rest)) : W p l e R s m args below meth c H locs cells slots Q (F0 m pc ls (.int (nI b) :: .int (nI a) :: rest)) :=
  lv_icmp_ge hx hb hdg ht (fun h => kt ((nI_leI hb' ha).mp h)) (fun h => kf (Nat.lt_of_not_le fun q => h ((nI_leI hb' ha).mpr q)))
theorem ci_icmp_gt (hx : p.tables.exec = Jvm.exec) (hb : c.code = cc) {off : Int} {tgt : Nat} (hdg : decode cc pc = .ok (.if_icmp .gt off, 3)) (ht : (pc : Int) + off = (tgt : Int)) (ha : a < 2147483648) (hb' : b < 2147483648)
    (kt : b < a → W p l e R s m args below meth c H locs cells slots Q (F0 m tgt ls rest)) (kf : a ≤ b → W p l e R s m args below meth c H locs cells slots Q (F0 m (pc + 3) ls rest)) : W p l e R s m args below meth c H locs cells slots Q (F0 m pc ls (.int (nI b) :: .int (nI a) :: rest)) :=
  lv_icmp_gt hx hb hdg ht (fun h => kt ((nI_ltI hb' ha).mp h)) (fun h => kf (Nat.le_of_not_lt fun q => h ((nI_ltI hb' ha).mpr q)))
theorem ci_icmp_le (hx : p.tables.exec = Jvm.exec) (hb : c.code = cc) {off : Int} {tgt : Nat} (hdg : decode cc pc = .ok (.if_icmp .le off, 3)) (ht : (pc : Int) + off = (tgt : Int)) (ha : a < 2147483648) (hb' : b < 2147483648)
    (kt : a ≤ b → W p l e R s m args below meth c H locs cells slots Q (F0 m tgt ls rest)) (kf : b < a → W p l e R s m args below meth c H locs cells slots Q (F0 m (pc + 3) ls rest)) : W p l e R s m args below meth c H locs cells slots Q (F0 m pc ls (.int (nI b) :: .int (nI a) :: rest)) :=
  lv_icmp_le hx hb hdg ht (fun h => kt ((nI_leI ha hb').mp h)) (fun h => kf (Nat.lt_of_not_le fun q => h ((nI_leI ha hb').mpr q)))
theorem ci_icmp_eq (hx : p.tables.exec = Jvm.exec) (hb : c.code = cc) {off : Int} {tgt : Nat} (hdg : decode cc pc = .ok (.if_icmp .eq off, 3)) (ht : (pc : Int) + off = (tgt : Int)) (ha : a < 2147483648) (hb' : b < 2147483648)
    (kt : a = b → W p l e R s m args below meth c H locs cells slots Q (F0 m tgt ls rest)) (kf : a ≠ b → W p l e R s m args below meth c H locs cells slots Q (F0 m (pc + 3) ls rest)) : W p l e R s m args below meth c H locs cells slots Q (F0 m pc ls (.int (nI b) :: .int (nI a) :: rest)) :=
  lv_icmp_eq hx hb hdg ht (fun h => kt ((nI_eq ha hb').mp h)) (fun h => kf (fun q => h ((nI_eq ha hb').mpr q)))
theorem ci_icmp_ne (hx : p.tables.exec = Jvm.exec) (hb : c.code = cc) {off : Int} {tgt : Nat} (hdg : decode cc pc = .ok (.if_icmp .ne off, 3)) (ht : (pc : Int) + off = (tgt : Int)) (ha : a < 2147483648) (hb' : b < 2147483648)
    (kt : a ≠ b → W p l e R s m args below meth c H locs cells slots Q (F0 m tgt ls rest)) (kf : a = b → W p l e R s m args below meth c H locs cells slots Q (F0 m (pc + 3) ls rest)) : W p l e R s m args below meth c H locs cells slots Q (F0 m pc ls (.int (nI b) :: .int (nI a) :: rest)) :=
  lv_icmp_ne hx hb hdg ht (fun h => kt (fun q => h ((nI_eq ha hb').mpr q))) (fun h => kf ((nI_eq ha hb').mp h))
theorem ci_ifb_eq (hx : p.tables.exec = Jvm.exec) (hb : c.code = cc) {v : Bool} {off : Int} {tgt : Nat} (hdg : decode cc pc = .ok (.ifCond .eq off, 3)) (ht : (pc : Int) + off = (tgt : Int))
    (kt : v = false → W p l e R s m args below meth c H locs cells slots Q (F0 m tgt ls rest)) (kf : v = true → W p l e R s m args below meth c H locs cells slots Q (F0 m (pc + 3) ls rest)) : W p l e R s m args below meth c H locs cells slots Q (F0 m pc ls (.int (bI v) :: rest)) :=
  lv_if_eq hx hb hdg ht (fun h => kt (bI_0.mp h)) (fun h => kf (by cases v; exact absurd (bI_0.mpr rfl) h; rfl))
theorem ci_ifb_ne (hx : p.tables.exec = Jvm.exec) (hb : c.code = cc) {v : Bool} {off : Int} {tgt : Nat} (hdg : decode cc pc = .ok (.ifCond .ne off, 3)) (ht : (pc : Int) + off = (tgt : Int))
    (kt : v = true → W p l e R s m args below meth c H locs cells slots Q (F0 m tgt ls rest)) (kf : v = false → W p l e R s m args below meth c H locs cells slots Q (F0 m (pc + 3) ls rest)) : W p l e R s m args below meth c H locs cells slots Q (F0 m pc ls (.int (bI v) :: rest)) :=
  lv_if_ne hx hb hdg ht (fun h => kt (by cases v; exact absurd (bI_0.mpr rfl) h; rfl)) (fun h => kf (bI_0.mp h))
theorem ci_ifn_eq (hx : p.tables.exec = Jvm.exec) (hb : c.code = cc) {off : Int} {tgt : Nat} (hdg : decode cc pc = .ok (.ifCond .eq off, 3)) (ht : (pc : Int) + off = (tgt : Int)) (ha : a < 2147483648)
    (kt : a = 0 → W p l e R s m args below meth c H locs cells slots Q (F0 m tgt ls rest)) (kf : a ≠ 0 → W p l e R s m args below meth c H locs cells slots Q (F0 m (pc + 3) ls rest)) : W p l e R s m args below meth c H locs cells slots Q (F0 m pc ls (.int (nI a) :: rest)) :=
  lv_if_eq hx hb hdg ht (fun h => kt ((nI_eq ha (by decide)).mp (show nI a = nI 0 from h))) (fun h => kf (fun q => h (show nI a = nI 0 from (nI_eq ha (by decide)).mpr q)))
theorem ci_ifn_ne (hx : p.tables.exec = Jvm.exec) (hb : c.code = cc) {off : Int} {tgt : Nat} (hdg : decode cc pc = .ok (.ifCond .ne off, 3)) (ht : (pc : Int) + off = (tgt : Int)) (ha : a < 2147483648)
    (kt : a ≠ 0 → W p l e R s m args below meth c H locs cells slots Q (F0 m tgt ls rest)) (kf : a = 0 → W p l e R s m args below meth c H locs cells slots Q (F0 m (pc + 3) ls rest)) : W p l e R s m args below meth c H locs cells slots Q (F0 m pc ls (.int (nI a) :: rest)) :=
  lv_if_ne hx hb hdg ht (fun h => kt (fun q => h (show nI a = nI 0 from (nI_eq ha (by decide)).mpr q))) (fun h => kf ((nI_eq ha (by decide)).mp (show nI a = nI 0 from h)))
theorem ci_ifn_le (hx : p.tables.exec = Jvm.exec) (hb : c.code = cc) {off : Int} {tgt : Nat} (hdg : decode cc pc = .ok (.ifCond .le off, 3)) (ht : (pc : Int) + off = (tgt : Int)) (ha : a < 2147483648)
    (kt : a = 0 → W p l e R s m args below meth c H locs cells slots Q (F0 m tgt ls rest)) (kf : 0 < a → W p l e R s m args below meth c H locs cells slots Q (F0 m (pc + 3) ls rest)) : W p l e R s m args below meth c H locs cells slots Q (F0 m pc ls (.int (nI a) :: rest)) :=
  lv_if_le hx hb hdg ht (fun h => kt (Nat.le_zero.mp ((nI_leI ha (by decide)).mp (show nI a ≤ nI 0 from h)))) (fun h => kf (Nat.pos_of_ne_zero (fun q => h (show nI a ≤ nI 0 from by rw [q]; exact nI_le (Nat.le_refl 0) (by decide)))))
theorem ci_ifn_lt (hx : p.tables.exec = Jvm.exec) (hb : c.code = cc) {off : Int} {tgt : Nat} (hdg : decode cc pc = .ok (.ifCond .lt off, 3)) (ht : (pc : Int) + off = (tgt : Int)) (ha : a < 2147483648)
    (kf : W p l e R s m args below meth c H locs cells slots Q (F0 m (pc + 3) ls rest)) : W p l e R s m args below meth c H locs cells slots Q (F0 m pc ls (.int (nI a) :: rest)) :=
  lv_if_lt hx hb hdg ht (fun h => absurd h (nI_pos ha)) (fun _ => kf)
theorem ci_ifn_ge (hx : p.tables.exec = Jvm.exec) (hb : c.code = cc) {off : Int} {tgt : Nat} (hdg : decode cc pc = .ok (.ifCond .ge off, 3)) (ht : (pc : Int) + off = (tgt : Int)) (ha : a < 2147483648)
    (kt : W p l e R s m args below meth c H locs cells slots Q (F0 m tgt ls rest)) : W p l e R s m args below meth c H locs cells slots Q (F0 m pc ls (.int (nI a) :: rest)) :=
  lv_if_ge hx hb hdg ht (fun _ => kt) (fun h => absurd (nI_pos' ha) h)
end CIR
section CIA
variable {p : Program} {l : Launch} {e : Env} {R : Room} {s : State} {m : MethodId} {args : Array Value} {below : List Frame} {meth : Method} {c : Code} {H : Heap} {locs : List Loc} {cells slots : Nat} {Q : State → Prop}
variable {cc : ByteArray} {pc : Nat} {ls : Array Slot} {rest : List Value} {D : va_G} {cl : List vw_C} {A : Nat → Prop} {a : Nat} {tys : List (ClassId × FieldType)} {ws : va_W} {H0 : Heap} {cA : ClassId} {n i : Nat}
theorem ci_iald (hx : p.tables.exec = Jvm.exec) (hb : c.code = cc) (hK : va_K D cl tys s) (hP : va_P D cl ws H) (q0 t0 : Nat) {f : Nat → Nat} (ha : ws[q0]? = some (a, .inl (cA, n, .inl (aN f)))) (ht : tys[t0]? = some (cA, .int)) (hi : i < n) (hn : n < 2147483648) (hdg : decode cc pc = .ok (.iaload, 1))
    (kk : W p l e R s m args below meth c H locs cells slots Q (F0 m (pc + 1) ls (.int (nI (f i)) :: rest))) : W p l e R s m args below meth c H locs cells slots Q (F0 m pc ls (.int (nI i) :: .ref a :: rest)) :=
  va_iald hx hb hK hP q0 t0 ha ht (vp_in_nI hi hn) hdg (by rw [nI_clamp (show i < 2 ^ 31 by omega)]; exact kk)
theorem ci_rald (hx : p.tables.exec = Jvm.exec) (hb : c.code = cc) (hK : va_K D cl tys s) (hP : va_P D cl ws H) (q0 t0 : Nat) {f : Nat → Int32} (ha : ws[q0]? = some (a, .inl (cA, n, .inl f))) (ht : tys[t0]? = some (cA, .int)) (hi : i < n) (hn : n < 2147483648) (hdg : decode cc pc = .ok (.iaload, 1))
    (kk : W p l e R s m args below meth c H locs cells slots Q (F0 m (pc + 1) ls (.int (f i) :: rest))) : W p l e R s m args below meth c H locs cells slots Q (F0 m pc ls (.int (nI i) :: .ref a :: rest)) :=
  va_iald hx hb hK hP q0 t0 ha ht (vp_in_nI hi hn) hdg (by rw [nI_clamp (show i < 2 ^ 31 by omega)]; exact kk)
theorem ci_zald (hx : p.tables.exec = Jvm.exec) (hb : c.code = cc) (hK : va_K D cl tys s) (hP : va_P D cl ws H) (q0 t0 : Nat) {f : Nat → Bool} (ha : ws[q0]? = some (a, .inl (cA, n, .inl (aB f)))) (ht : tys[t0]? = some (cA, .boolean)) (hi : i < n) (hn : n < 2147483648) (hdg : decode cc pc = .ok (.baload, 1))
    (kk : W p l e R s m args below meth c H locs cells slots Q (F0 m (pc + 1) ls (.int (bI (f i)) :: rest))) : W p l e R s m args below meth c H locs cells slots Q (F0 m pc ls (.int (nI i) :: .ref a :: rest)) :=
  va_zald hx hb hK hP q0 t0 ha ht (vp_in_nI hi hn) hdg (by rw [nI_clamp (show i < 2 ^ 31 by omega)]; exact kk)
theorem ci_iast (hx : p.tables.exec = Jvm.exec) (hb : c.code = cc) (hK : va_K D cl tys s) (hP : va_P D cl ws H) (hD : va_D A ws) (hS : va_S A H0 H locs) (q0 t0 : Nat) {f : Nat → Nat} {v : Nat} (ha : ws[q0]? = some (a, .inl (cA, n, .inl (aN f)))) (ht : tys[t0]? = some (cA, .int)) (hi : i < n) (hn : n < 2147483648) (hdg : decode cc pc = .ok (.iastore, 1))
    (kk : ∀ (H1 : Heap) (locs1 : List Loc), va_P D cl (ws.set q0 (a, .inl (cA, n, .inl (aN (va_up f i v))))) H1 → va_S A H0 H1 locs1 → W p l e R s m args below meth c H1 locs1 cells slots Q (F0 m (pc + 1) ls rest)) : W p l e R s m args below meth c H locs cells slots Q (F0 m pc ls (.int (nI v) :: .int (nI i) :: .ref a :: rest)) := by
  refine va_iast hx hb hK hP hD hS q0 t0 ha ht (vp_in_nI hi hn) hdg fun H1 L h1 _ h3 => ?_
  rw [nI_clamp (show i < 2 ^ 31 by omega), up_aN] at h1
  exact kk H1 L h1 h3
theorem ci_rast (hx : p.tables.exec = Jvm.exec) (hb : c.code = cc) (hK : va_K D cl tys s) (hP : va_P D cl ws H) (hD : va_D A ws) (hS : va_S A H0 H locs) (q0 t0 : Nat) {f : Nat → Int32} {v : Int32} (ha : ws[q0]? = some (a, .inl (cA, n, .inl f))) (ht : tys[t0]? = some (cA, .int)) (hi : i < n) (hn : n < 2147483648) (hdg : decode cc pc = .ok (.iastore, 1))
    (kk : ∀ (H1 : Heap) (locs1 : List Loc), va_P D cl (ws.set q0 (a, .inl (cA, n, .inl (va_up f i v)))) H1 → va_S A H0 H1 locs1 → W p l e R s m args below meth c H1 locs1 cells slots Q (F0 m (pc + 1) ls rest)) : W p l e R s m args below meth c H locs cells slots Q (F0 m pc ls (.int v :: .int (nI i) :: .ref a :: rest)) := by
  refine va_iast hx hb hK hP hD hS q0 t0 ha ht (vp_in_nI hi hn) hdg fun H1 L h1 _ h3 => ?_
  rw [nI_clamp (show i < 2 ^ 31 by omega), up_L] at h1
  exact kk H1 L h1 h3
theorem ci_zast (hx : p.tables.exec = Jvm.exec) (hb : c.code = cc) (hK : va_K D cl tys s) (hP : va_P D cl ws H) (hD : va_D A ws) (hS : va_S A H0 H locs) (q0 t0 : Nat) {f : Nat → Bool} {x : Int32} (v : Bool) (hv : bI v = x) (ha : ws[q0]? = some (a, .inl (cA, n, .inl (aB f)))) (ht : tys[t0]? = some (cA, .boolean)) (hi : i < n) (hn : n < 2147483648) (hdg : decode cc pc = .ok (.bastore, 1))
    (kk : ∀ (H1 : Heap) (locs1 : List Loc), va_P D cl (ws.set q0 (a, .inl (cA, n, .inl (aB (va_up f i v))))) H1 → va_S A H0 H1 locs1 → W p l e R s m args below meth c H1 locs1 cells slots Q (F0 m (pc + 1) ls rest)) : W p l e R s m args below meth c H locs cells slots Q (F0 m pc ls (.int x :: .int (nI i) :: .ref a :: rest)) := by
  subst hv
  refine va_zast hx hb hK hP hD hS q0 t0 ha ht (vp_in_nI hi hn) hdg fun H1 L h1 _ h3 => ?_
  rw [nI_clamp (show i < 2 ^ 31 by omega), bI_nar, up_aB] at h1
  exact kk H1 L h1 h3
end CIA
/-! the two classes, their pictures, contracts -/
abbrev vwCl : List vw_C := [(RX0, TX0, 14), (RX1, TX1, 3)]
def xN (N : Nat) (g : Nat → Nat) : Prop := ∀ i j, i < N → j < N → g i = g j → i = j
def xA (N : Nat) (g : Nat → Nat) : Nat → Prop := fun q => ∃ k, k < N ∧ q = g k
theorem xD_of {N : Nat} {g : Nat → Nat} {ws : va_W} (h : ws.map (fun q => q.1) = (List.range N).map g) (hg : xN N g) : va_D (xA N g) ws := by
  have key : ∀ (i : Nat) (q : Nat × va_E), ws[i]? = some q → i < N ∧ q.1 = g i := by
    intro i q hq
    have h1 : (ws.map (fun q => q.1))[i]? = some q.1 := by rw [List.getElem?_map, hq]; rfl
    rw [h, List.getElem?_map] at h1
    by_cases hi : i < N
    · rw [List.getElem?_range hi] at h1
      exact ⟨hi, (Option.some.inj h1).symm⟩
    · rw [List.getElem?_eq_none (by simp; omega)] at h1
      cases h1
  refine ⟨fun i j p q hi hj e => ?_, fun k q hk => ?_⟩
  · obtain ⟨a1, a2⟩ := key i p hi
    obtain ⟨b1, b2⟩ := key j q hj
    exact hg i j a1 b1 (by rw [← a2, ← b2]; exact e)
  · obtain ⟨a1, a2⟩ := key k q hk
    exact ⟨k, a1, a2⟩
abbrev wX (g : Nat → Nat) (d : Nat → ClassId) (u : Nat → Bool) (px py : Nat → Nat) (lb : Nat → Int32) (n : Nat) (k : Nat → Nat) (le mo x0 x1 y0 y1 fo : Nat) (ins : Nat → Nat) : va_W :=
  [(g 0, .inr (0, [.ref (g 1), .ref (g 2), .ref (g 3), .ref (g 4), .int (nI n), .ref (g 5), .int (nI le), .int (nI mo), .int (nI x0), .int (nI x1), .int (nI y0), .int (nI y1), .int (nI fo), .ref (g 6)])),
   (g 1, .inl (d 1, 40, .inl (aB u))), (g 2, .inl (d 2, 40, .inl (aN px))), (g 3, .inl (d 3, 40, .inl (aN py))), (g 4, .inl (d 4, 40, .inl lb)), (g 5, .inl (d 5, 40, .inl (aN k))), (g 6, .inl (d 6, 40, .inl (aN ins)))]
abbrev tX (d : Nat → ClassId) : List (ClassId × FieldType) := [(d 1, .boolean), (d 2, .int), (d 3, .int), (d 4, .int), (d 5, .int), (d 6, .int)]
theorem wX_D {g : Nat → Nat} (hg : xN 7 g) {d : Nat → ClassId} {u : Nat → Bool} {px py : Nat → Nat} {lb : Nat → Int32} {n : Nat} {k : Nat → Nat} {le mo x0 x1 y0 y1 fo : Nat} {ins : Nat → Nat} : va_D (xA 7 g) (wX g d u px py lb n k le mo x0 x1 y0 y1 fo ins) := xD_of rfl hg
abbrev wM (g : Nat → Nat) (d : Nat → ClassId) (u : Nat → Bool) (pl : Nat → Nat) (lb : Nat → Int32) : va_W :=
  [(g 0, .inr (1, [.ref (g 1), .ref (g 2), .ref (g 3)])), (g 1, .inl (d 1, 40, .inl (aB u))), (g 2, .inl (d 2, 40, .inl (aN pl))), (g 3, .inl (d 3, 40, .inl lb))]
abbrev tM (d : Nat → ClassId) : List (ClassId × FieldType) := [(d 1, .boolean), (d 2, .int), (d 3, .int)]
theorem wM_D {g : Nat → Nat} (hg : xN 4 g) {d : Nat → ClassId} {u : Nat → Bool} {pl : Nat → Nat} {lb : Nat → Int32} : va_D (xA 4 g) (wM g d u pl lb) := xD_of rfl hg
def ci_R (D : va_G) (w : va_W) (tys : List (ClassId × FieldType)) (av : List Value) : Array Value → State → Prop := va_Pc av (fun U => va_P D vwCl w U.heap ∧ va_K D vwCl tys U)
def ci_Rs (av : List Value) : Array Value → State → Prop := va_Pc av (fun _ => True)
theorem ci_pre {s : State} {H : Heap} {D : va_G} {w : va_W} {tys : List (ClassId × FieldType)} {b q0 ci : Nat} {q : vw_C} {fs : List Value} {As : List Value} (hK : va_K D vwCl tys s) (hP : va_P D vwCl w H) (hc : vwCl[ci]? = some q) (he : w[q0]? = some (b, .inr (ci, fs))) : PreV s H q.1 b (ci_R D w tys (.ref b :: As)) As :=
  ⟨fun a U g mk z => ⟨z.1, z.2.1, va_K.moved (u := U) (U := U.calling g mk a) (Vm.Alike.refl U.vm) z.2.2⟩, va_recv hK hP hc he, fun U hU hW => ⟨rfl, by rw [hU]; exact hP, va_K.moved hW.alike hK⟩⟩
theorem ci_preS {s : State} {H : Heap} {As : List Value} : PreS s H (ci_Rs As) As := ⟨fun _ _ _ _ z => z, fun _ _ _ => ⟨rfl, trivial⟩⟩
theorem ci_of {l : Launch} {y : MethodName} {cc : ByteArray} {maxL : Nat} {ret : Option FieldType} {rm : Room} {D : va_G} {w : va_W} {tys : List (ClassId × FieldType)} {av : List Value} {Qc : Array Value → State → Outcome → State → Prop} {mc ms : Nat} {free : Addr → Prop} (hy : plainName y.cls = true) (hlen : (lg_sl av).length ≤ maxL)
    (body : ∀ (p : Program) (e : Env) (s : State) (m : MethodId) (args : Array Value) (below : List Frame) (meth : Method) (c : Code) (Q0 : State → Prop), p.tables.exec = Jvm.exec → c.code = cc → meth.sig.returnType = ret → c.maxLocals = maxL → s.vm.findClass y.cls = some m.cls → (∀ w ∈ lw_all, w.before args s = true) → meth.locks = false → meth.name = y.name → Q0 = MQ below Qc args s mc ms free → va_P D vwCl w s.heap → va_K D vwCl tys s → ∀ ls : Array Slot, lv_has ls maxL (lv_args 0 av) →
      W p l e rm s m args below meth c s.heap [] 0 0 Q0 (F0 m 0 ls [])) : Met l y (ws_ y cc maxL ret) rm (ci_R D w tys av) Qc mc ms free := by
  refine Met.ofW (cc := cc) (maxL := maxL) (ret := ret) hy rfl ?_
  intro p e s m args below meth c s₁ B hml hv
  obtain ⟨hav, hP, hK⟩ := hv
  have hts := atoms_spec (ws := ws_ y cc maxL ret) B.pre
  have hts : ∀ w ∈ lw_all, w.before args s = true := fun w h => hts w (List.mem_cons_of_mem _ h)
  have hl := lv_entry av (n := maxL) hlen
  have h0 := body p e s m args below meth c _ B.exec B.bytes B.returns hml (findClass_of_methodNamed B.named) hts B.notSynchronized (name_of_methodNamed B.named B.method).1 rfl hP hK _ hl
  rw [show entryFrame m args maxL = entryFrame m av.toArray maxL by rw [hav], lg_entry_eq]
  exact h0
theorem ci_ofS {l : Launch} {y : MethodName} {cc : ByteArray} {maxL : Nat} {ret : Option FieldType} {rm : Room} {av : List Value} {Qc : Array Value → State → Outcome → State → Prop} {mc ms : Nat} {free : Addr → Prop} (hy : plainName y.cls = true) (hlen : (lg_sl av).length ≤ maxL)
    (body : ∀ (p : Program) (e : Env) (s : State) (m : MethodId) (args : Array Value) (below : List Frame) (meth : Method) (c : Code) (Q0 : State → Prop), p.tables.exec = Jvm.exec → c.code = cc → meth.sig.returnType = ret → c.maxLocals = maxL → s.vm.findClass y.cls = some m.cls → (∀ w ∈ lw_all, w.before args s = true) → meth.locks = false → Q0 = MQ below Qc args s mc ms free → ∀ ls : Array Slot, lv_has ls maxL (lv_args 0 av) →
      W p l e rm s m args below meth c s.heap [] 0 0 Q0 (F0 m 0 ls [])) : Met l y (ws_ y cc maxL ret) rm (ci_Rs av) Qc mc ms free := by
  refine Met.ofW (cc := cc) (maxL := maxL) (ret := ret) hy rfl ?_
  intro p e s m args below meth c s₁ B hml hv
  obtain ⟨hav, -⟩ := hv
  have hts := atoms_spec (ws := ws_ y cc maxL ret) B.pre
  have hts : ∀ w ∈ lw_all, w.before args s = true := fun w h => hts w (List.mem_cons_of_mem _ h)
  have hl := lv_entry av (n := maxL) hlen
  have h0 := body p e s m args below meth c _ B.exec B.bytes B.returns hml (findClass_of_methodNamed B.named) hts B.notSynchronized rfl _ hl
  rw [show entryFrame m args maxL = entryFrame m av.toArray maxL by rw [hav], lg_entry_eq]
  exact h0
section CIE
variable {p : Program} {l : Launch} {e : Env} {R : Room} {s : State} {m : MethodId} {args : Array Value} {below : List Frame} {meth : Method} {c : Code} {H : Heap} {locs : List Loc} {Q0 : State → Prop}
variable {cc : ByteArray} {pc : Nat} {ls : Array Slot} {D : va_G} {A : Nat → Prop}
theorem ci_iretR {post : Int32 → Prop} {v : Int32} (hQ : Q0 = MQ below (vp_Si post) args s 0 0 (fun _ => False)) (hx : p.tables.exec = Jvm.exec) (hb : c.code = cc) (hrt : meth.sig.returnType = some .int) (hlk : meth.locks = false) (hdg : decode cc pc = .ok (.ireturn, 1)) (hp : post v) : W p l e R s m args below meth c s.heap [] 0 0 Q0 (F0 m pc ls [.int v]) := by
  rw [hQ]
  exact W.iret hx hb hrt (fun t ht _ => ⟨v, rfl, hp, ht⟩) (fun q h => by cases h) hdg
theorem ci_zretR {post : Int32 → Prop} {v : Int32} (w : Bool) (hv : bI w = v) (hQ : Q0 = MQ below (vp_Si post) args s 0 0 (fun _ => False)) (hx : p.tables.exec = Jvm.exec) (hb : c.code = cc) (hrt : meth.sig.returnType = some .boolean) (hlk : meth.locks = false) (hdg : decode cc pc = .ok (.ireturn, 1)) (hp : post (bI w)) : W p l e R s m args below meth c s.heap [] 0 0 Q0 (F0 m pc ls [.int v]) := by
  rw [hQ]
  subst hv
  exact W.zret hx hb hrt (by cases w <;> rfl) (fun t ht _ => ⟨bI w, rfl, hp, ht⟩) (fun q h => by cases h) hdg
theorem ci_vretW {S : Type} {post : S → Prop} {w : S → va_W} (hQ : Q0 = MQ below (va_Qv post (fun z t => va_P D vwCl (w z) t.heap) A) args s 0 0 A) (hx : p.tables.exec = Jvm.exec) (hb : c.code = cc) (hrt : meth.sig.returnType = none) (hlk : meth.locks = false) (hS : va_S A s.heap H locs) (hdg : decode cc pc = .ok (.return_, 1)) (z : S) (hp : post z) (hP : va_P D vwCl (w z) H) : W p l e R s m args below meth c H locs 0 0 Q0 (F0 m pc ls []) := by
  rw [hQ]
  exact W.vret hx hb hrt (fun t ht _ => ⟨⟨z, rfl, hp, by show va_P D vwCl (w z) t.heap; rw [ht]; exact hP⟩, hS.F ht⟩) hS.2.2 hdg
theorem ci_iretW {S : Type} {post : Int32 → S → Prop} {w : S → va_W} {v : Int32} (hQ : Q0 = MQ below (va_Qi post (fun z t => va_P D vwCl (w z) t.heap) A) args s 0 0 A) (hx : p.tables.exec = Jvm.exec) (hb : c.code = cc) (hrt : meth.sig.returnType = some .int) (hlk : meth.locks = false) (hS : va_S A s.heap H locs) (hdg : decode cc pc = .ok (.ireturn, 1)) (z : S) (hp : post v z) (hP : va_P D vwCl (w z) H) : W p l e R s m args below meth c H locs 0 0 Q0 (F0 m pc ls [.int v]) := by
  rw [hQ]
  exact W.iret hx hb hrt (fun t ht _ => ⟨⟨v, z, rfl, hp, by show va_P D vwCl (w z) t.heap; rw [ht]; exact hP⟩, hS.F ht⟩) hS.2.2 hdg
end CIE
section CIF
variable {p : Program} {l : Launch} {e : Env} {R : Room} {s : State} {m : MethodId} {args : Array Value} {below : List Frame} {meth : Method} {c : Code} {H : Heap} {locs : List Loc} {cells slots : Nat} {Q : State → Prop}
variable {cc : ByteArray} {pc : Nat} {ls : Array Slot} {rest : List Value} {D : va_G} {A : Nat → Prop} {a index : Nat} {tys : List (ClassId × FieldType)} {wr : va_W} {H0 : Heap} {fs : List Value}
theorem cx_get (k : Nat) {v : Value} (hx : p.tables.exec = Jvm.exec) (hb : c.code = cc) (hts : ∀ w ∈ lw_all, w.before args s = true) (hown : s.vm.findClass RX0 = some m.cls) (hK : va_K D vwCl tys s) (hP : va_P D vwCl ((a, .inr (0, fs)) :: wr) H) (hk : k < 14) (hlink : (Cond.fieldLink RX0 index (TX0 k).1 (TX0 k).2.1 (TX0 k).2.2.1).before args s = true) (hv : fs[k]? = some v) (hdg : decode cc pc = .ok (.getfield index, 3))
    (kk : W p l e R s m args below meth c H locs cells slots Q (F0 m (pc + 3) ls (v :: rest))) : W p l e R s m args below meth c H locs cells slots Q (F0 m pc ls (.ref a :: rest)) :=
  va_get (C := RX0) (T := TX0) (N := 14) (ci := 0) hx hb hts in_X0 hown hK hP 0 rfl rfl k hk hlink (fun _ h => h) hv hdg kk
theorem cx_put (k : Nat) {v : Int32} (hx : p.tables.exec = Jvm.exec) (hb : c.code = cc) (hts : ∀ w ∈ lw_all, w.before args s = true) (hown : s.vm.findClass RX0 = some m.cls) (hK : va_K D vwCl tys s) (hP : va_P D vwCl ((a, .inr (0, fs)) :: wr) H) (hD : va_D A ((a, .inr (0, fs)) :: wr)) (hS : va_S A H0 H locs) (hk : k < 14) (hlink : (Cond.fieldLink RX0 index (TX0 k).1 (TX0 k).2.1 (TX0 k).2.2.1).before args s = true) (hfin : (TX0 k).2.2.2 = false) (hd : parseFieldDescriptor (TX0 k).2.2.1 = some .int) (hl : k < fs.length) (hdg : decode cc pc = .ok (.putfield index, 3))
    (kk : ∀ (H1 : Heap) (locs1 : List Loc), va_P D vwCl ((a, .inr (0, fs.set k (.int v))) :: wr) H1 → va_S A H0 H1 locs1 → W p l e R s m args below meth c H1 locs1 cells slots Q (F0 m (pc + 3) ls rest)) : W p l e R s m args below meth c H locs cells slots Q (F0 m pc ls (.int v :: .ref a :: rest)) :=
  va_put (C := RX0) (T := TX0) (N := 14) (ci := 0) (ty := .int) (v := .int v) hx hb hts in_X0 tyX0 tyX0_ok nmX0 hown hK hP hD hS 0 rfl rfl k hk hlink (fun _ h => h) hfin hd rfl rfl hl hdg (fun H1 L h1 _ h3 => kk H1 L h1 h3)
theorem cm_get (k : Nat) {v : Value} (hx : p.tables.exec = Jvm.exec) (hb : c.code = cc) (hts : ∀ w ∈ lw_all, w.before args s = true) (hown : s.vm.findClass RX1 = some m.cls) (hK : va_K D vwCl tys s) (hP : va_P D vwCl ((a, .inr (1, fs)) :: wr) H) (hk : k < 3) (hlink : (Cond.fieldLink RX1 index (TX1 k).1 (TX1 k).2.1 (TX1 k).2.2.1).before args s = true) (hv : fs[k]? = some v) (hdg : decode cc pc = .ok (.getfield index, 3))
    (kk : W p l e R s m args below meth c H locs cells slots Q (F0 m (pc + 3) ls (v :: rest))) : W p l e R s m args below meth c H locs cells slots Q (F0 m pc ls (.ref a :: rest)) :=
  va_get (C := RX1) (T := TX1) (N := 3) (ci := 1) hx hb hts in_X1 hown hK hP 0 rfl rfl k hk hlink (fun _ h => h) hv hdg kk
end CIF
end
section
/-! plain words: interleaved bits, places, distances, counts -/
def sp (x : Nat) : Nat := x % 2 + 4 * (x / 2 % 2) + 16 * (x / 4 % 2) + 64 * (x / 8 % 2) + 256 * (x / 16 % 2) + 1024 * (x / 32 % 2)
def il (x y : Nat) : Nat := sp x + 2 * sp y
def lwf (b : Nat) : Nat := [0, 0, 1, 2, 5, 10, 21, 42, 85, 170, 341, 682].getD b 0
set_option maxRecDepth 100000 in
theorem sp_mono : ∀ x, x < 64 → ∀ y, y < 64 → x ≤ y → sp x ≤ sp y := by decide +kernel
set_option maxRecDepth 100000 in
theorem sp_inj : ∀ x, x < 64 → ∀ y, y < 64 → sp x = sp y → x = y := by decide +kernel
theorem sp_lt (x : Nat) : sp x < 1366 := by unfold sp; omega
theorem sp_even (x : Nat) : sp x % 4 < 2 := by unfold sp; omega
theorem il_lt {x y : Nat} : il x y < 4096 := by
  have h1 := sp_lt x
  have h2 := sp_lt y
  unfold il
  omega
theorem il_mono {x y a b : Nat} (ha : a < 64) (hb : b < 64) (h1 : x ≤ a) (h2 : y ≤ b) : il x y ≤ il a b := by
  have e1 := sp_mono x (by omega) a ha h1
  have e2 := sp_mono y (by omega) b hb h2
  unfold il
  omega
set_option maxRecDepth 100000 in
theorem il_half : ∀ x, x < 64 → ∀ y, y < 64 → il x y / 2 = il y (x / 2) := by decide +kernel
theorem il_mod2 (x y : Nat) : il x y % 2 = x % 2 := by unfold il sp; omega
def unI (z : Nat) : Nat := z % 2 + 2 * (z / 4 % 2) + 4 * (z / 16 % 2) + 8 * (z / 64 % 2) + 16 * (z / 256 % 2) + 32 * (z / 1024 % 2)
set_option maxRecDepth 100000 in
theorem un_il : ∀ x, x < 64 → ∀ y, y < 64 → unI (il x y) = x ∧ unI (il x y / 2) = y := by decide +kernel
theorem il_inj {x y a b : Nat} (hx : x < 64) (hy : y < 64) (ha : a < 64) (hb : b < 64) (h : il x y = il a b) : x = a ∧ y = b := by
  have e1 := un_il x hx y hy
  have e2 := un_il a ha b hb
  rw [h] at e1
  exact ⟨e1.1.symm.trans e2.1, e1.2.symm.trans e2.2⟩
theorem il_pre : ∀ (k x y a b : Nat), x < 64 → y < 64 → a < 64 → b < 64 → (il x y / 2 ^ k = il a b / 2 ^ k ↔ x / 2 ^ ((k + 1) / 2) = a / 2 ^ ((k + 1) / 2) ∧ y / 2 ^ (k / 2) = b / 2 ^ (k / 2)) := by
  intro k
  induction k with
  | zero =>
    intro x y a b hx hy ha hb
    simp only [Nat.pow_zero, Nat.div_one]
    exact ⟨fun h => by simpa using il_inj hx hy ha hb h, fun h => by
      have h1 : x = a := by simpa using h.1
      have h2 : y = b := by simpa using h.2
      rw [h1, h2]⟩
  | succ k ih =>
    intro x y a b hx hy ha hb
    rw [Nat.pow_succ', ← Nat.div_div_eq_div_mul, ← Nat.div_div_eq_div_mul, il_half x hx y hy, il_half a ha b hb, ih y (x / 2) b (a / 2) hy (by omega) hb (by omega), Nat.div_div_eq_div_mul, Nat.div_div_eq_div_mul]
    rw [show (k + 1 + 1) / 2 = k / 2 + 1 by omega, Nat.pow_succ']
    exact And.comm
theorem il_bit : ∀ (b x y : Nat), x < 64 → y < 64 → il x y / 2 ^ b % 2 = if b % 2 = 0 then x / 2 ^ (b / 2) % 2 else y / 2 ^ (b / 2) % 2 := by
  intro b
  induction b with
  | zero =>
    intro x y hx hy
    simpa using il_mod2 x y
  | succ b ih =>
    intro x y hx hy
    rw [Nat.pow_succ', ← Nat.div_div_eq_div_mul, il_half x hx y hy, ih y (x / 2) hy (by omega)]
    by_cases h : b % 2 = 0
    · rw [if_pos h, if_neg (by omega), show (b + 1) / 2 = b / 2 by omega]
    · rw [if_neg h, if_pos (by omega), show (b + 1) / 2 = b / 2 + 1 by omega, Nat.pow_succ', ← Nat.div_div_eq_div_mul]
set_option maxRecDepth 100000 in
theorem il_step : ∀ b, b < 6 → ∀ x, x < 64 → ∀ y, y < 64 → (il (x % 2 ^ b) (y % 2 ^ b)) ||| ((x / 2 ^ b) % 2 * 2 ^ (2 * b) ||| (y / 2 ^ b) % 2 * 2 ^ (2 * b + 1)) = il (x % 2 ^ (b + 1)) (y % 2 ^ (b + 1)) := by decide +kernel
set_option maxRecDepth 100000 in
theorem cutL_ok : ∀ b, b < 12 → ∀ x, x < 64 → ∀ y, y < 64 → (il x y &&& (lwf b ^^^ 4294967295)) ||| (1 * 2 ^ b) = if b % 2 = 0 then il (x / 2 ^ (b / 2 + 1) * 2 ^ (b / 2 + 1) + 2 ^ (b / 2)) y else il x (y / 2 ^ (b / 2 + 1) * 2 ^ (b / 2 + 1) + 2 ^ (b / 2)) := by decide +kernel
set_option maxRecDepth 100000 in
theorem cutH_ok : ∀ b, b < 12 → ∀ x, x < 64 → ∀ y, y < 64 → (il x y &&& ((1 * 2 ^ b) ^^^ 4294967295)) ||| lwf b = if b % 2 = 0 then il (x / 2 ^ (b / 2 + 1) * 2 ^ (b / 2 + 1) + (2 ^ (b / 2) - 1)) y else il x (y / 2 ^ (b / 2 + 1) * 2 ^ (b / 2 + 1) + (2 ^ (b / 2) - 1)) := by decide +kernel
/-! places and points as ints -/
def badP (x : Int32) : Bool := decide (x < 0 ∨ nI 4096 ≤ x)
theorem badP_1 {x : Int32} (h : x < 0) : badP x = true := decide_eq_true (Or.inl h)
theorem badP_2 {x : Int32} (h : nI 4096 ≤ x) : badP x = true := decide_eq_true (Or.inr h)
theorem badP_3 {x : Int32} (h : ¬ x < 0) (h2 : ¬ nI 4096 ≤ x) : badP x = false := decide_eq_false (fun q => q.elim h h2)
theorem badP_n {a : Nat} (h : a < 4096) : badP (nI a) = false := badP_3 (nI_pos (by omega)) (nI_ge h (by decide))
theorem badP_f {x : Int32} (h : badP x = false) : ∃ a, a < 4096 ∧ x = nI a := by
  have h1 := of_decide_eq_false h
  rcases pk_ix x (n := 4096) (by decide) with q | q | q
  · exact absurd (Or.inl q) h1
  · exact absurd (Or.inr q) h1
  · exact q
def noP (u : Nat → Bool) (x : Int32) : Bool := decide (x < 0 ∨ nI 40 ≤ x) || !(u x.toNatClampNeg)
theorem noP_1 {u : Nat → Bool} {x : Int32} (h : x < 0) : noP u x = true := by
  unfold noP; rw [decide_eq_true (Or.inl h)]; rfl
theorem noP_2 {u : Nat → Bool} {x : Int32} (h : nI 40 ≤ x) : noP u x = true := by
  unfold noP; rw [decide_eq_true (Or.inr h)]; rfl
theorem noP_n {u : Nat → Bool} {a : Nat} (h : a < 40) : noP u (nI a) = !(u a) := by
  unfold noP
  rw [decide_eq_false (fun q => q.elim (nI_pos (by omega)) (nI_ge h (by decide))), nI_clamp (by omega)]
  rfl
theorem noP_f {u : Nat → Bool} {x : Int32} (h : noP u x = false) : ∃ a, a < 40 ∧ x = nI a ∧ u a = true := by
  rcases pk_ix x (n := 40) (by decide) with q | q | ⟨j, hj, rfl⟩
  · rw [noP_1 q] at h; cases h
  · rw [noP_2 q] at h; cases h
  · rw [noP_n hj] at h
    exact ⟨j, hj, rfl, by cases hu : u j; (rw [hu] at h; cases h); rfl⟩
theorem ix40 {x : Int32} (h1 : ¬ x < 0) (h2 : ¬ nI 40 ≤ x) : ∃ j, j < 40 ∧ x = nI j := by
  rcases pk_ix x (n := 40) (by decide) with q | q | q
  · exact absurd q h1
  · exact absurd q h2
  · exact q
def sq (a b : Nat) : Nat := (a - b) * (a - b) + (b - a) * (b - a)
theorem sq_comm (a b : Nat) : sq a b = sq b a := Nat.add_comm _ _
set_option maxRecDepth 100000 in
theorem sq_le : ∀ a, a < 64 → ∀ b, b < 64 → sq a b ≤ 3969 := by decide +kernel
theorem sq_I (a b : Nat) : (nI a - nI b) * (nI a - nI b) = nI (sq a b) := by
  unfold sq
  rcases Nat.le_total b a with h | h
  · rw [pk_sub h, pk_mul, show b - a = 0 by omega]
    rfl
  · rw [show nI a - nI b = -(nI b - nI a) by grind, pk_sub h, show -nI (b - a) * -nI (b - a) = nI (b - a) * nI (b - a) by grind, pk_mul, show a - b = 0 by omega]
    simp
def ds (x y a b : Nat) : Nat := sq a x + sq b y
theorem ds_le {x y a b : Nat} (h1 : x < 64) (h2 : y < 64) (h3 : a < 64) (h4 : b < 64) : ds x y a b ≤ 7938 := by
  have e1 := sq_le a h3 x h1
  have e2 := sq_le b h4 y h2
  unfold ds
  omega
theorem ds_comm (x y a b : Nat) : ds x y a b = ds a b x y := by
  unfold ds
  rw [sq_comm a x, sq_comm b y]
def inb (x0 x1 y0 y1 a b : Nat) : Bool := decide (x0 ≤ a) && decide (a ≤ x1) && decide (y0 ≤ b) && decide (b ≤ y1)
theorem inb_iff {x0 x1 y0 y1 a b : Nat} : inb x0 x1 y0 y1 a b = true ↔ x0 ≤ a ∧ a ≤ x1 ∧ y0 ≤ b ∧ b ≤ y1 := by
  unfold inb
  simp only [Bool.and_eq_true, decide_eq_true_eq]
  constructor
  · rintro ⟨⟨⟨h1, h2⟩, h3⟩, h4⟩
    exact ⟨h1, h2, h3, h4⟩
  · rintro ⟨h1, h2, h3, h4⟩
    exact ⟨⟨⟨h1, h2⟩, h3⟩, h4⟩
def cnt (P : Nat → Bool) : Nat → Nat
  | 0 => 0
  | m + 1 => cnt P m + (if P m = true then 1 else 0)
def sumP (P : Nat → Bool) (f : Nat → Int32) : Nat → Int32
  | 0 => 0
  | m + 1 => sumP P f m + (if P m = true then f m else 0)
theorem cnt_le (P : Nat → Bool) : ∀ m, cnt P m ≤ m
  | 0 => Nat.le_refl 0
  | m + 1 => by
    have := cnt_le P m
    unfold cnt
    split <;> omega
theorem cnt_congr {P R : Nat → Bool} : ∀ m, (∀ i, i < m → P i = R i) → cnt P m = cnt R m
  | 0, _ => rfl
  | m + 1, h => by
    unfold cnt
    rw [cnt_congr m (fun i hi => h i (by omega)), h m (by omega)]
theorem sumP_congr {P R : Nat → Bool} {f f' : Nat → Int32} : ∀ m, (∀ i, i < m → P i = R i ∧ f i = f' i) → sumP P f m = sumP R f' m
  | 0, _ => rfl
  | m + 1, h => by
    unfold sumP
    rw [sumP_congr m (fun i hi => h i (by omega)), (h m (by omega)).1, (h m (by omega)).2]
theorem cnt_add (P : Nat → Bool) {m x : Nat} (hx : x < m) (hP : P x = false) : cnt (va_up P x true) m = cnt P m + 1 := by
  induction m with
  | zero => omega
  | succ m ih =>
    unfold cnt
    rcases Nat.lt_or_ge x m with h | h
    · rw [ih h, va_up_ne P true (show m ≠ x by omega)]
      omega
    · obtain rfl : x = m := by omega
      rw [va_up_self, cnt_congr x (fun i hi => va_up_ne P true (show i ≠ x by omega)), hP]
      simp
theorem cnt_sub (P : Nat → Bool) {m x : Nat} (hx : x < m) (hP : P x = true) : cnt (va_up P x false) m + 1 = cnt P m := by
  induction m with
  | zero => omega
  | succ m ih =>
    unfold cnt
    rcases Nat.lt_or_ge x m with h | h
    · rw [va_up_ne P false (show m ≠ x by omega)]
      have := ih h
      omega
    · obtain rfl : x = m := by omega
      rw [va_up_self, cnt_congr x (fun i hi => va_up_ne P false (show i ≠ x by omega)), hP]
      simp
theorem cnt_full {P : Nat → Bool} : ∀ m, cnt P m = m → ∀ i, i < m → P i = true
  | 0, _, i, hi => by omega
  | m + 1, h, i, hi => by
    unfold cnt at h
    have h1 := cnt_le P m
    by_cases hm : P m = true
    · rw [if_pos hm] at h
      rcases Nat.lt_or_ge i m with q | q
      · exact cnt_full m (by omega) i q
      · obtain rfl : i = m := by omega
        exact hm
    · rw [if_neg hm] at h
      omega
theorem cnt_all {P : Nat → Bool} : ∀ m, (∀ i, i < m → P i = true) → cnt P m = m
  | 0, _ => rfl
  | m + 1, h => by
    unfold cnt
    rw [cnt_all m (fun i hi => h i (by omega)), if_pos (h m (by omega))]
theorem cnt_zero {P : Nat → Bool} : ∀ m, (∀ i, i < m → P i = false) → cnt P m = 0
  | 0, _ => rfl
  | m + 1, h => by
    unfold cnt
    rw [cnt_zero m (fun i hi => h i (by omega)), h m (by omega)]
    rfl
theorem cnt_one {P : Nat → Bool} {m x : Nat} (hx : x < m) (hP : P x = true) : 0 < cnt P m := by
  have := cnt_sub P hx hP
  omega
theorem cnt_two {P : Nat → Bool} {m x y : Nat} (hx : x < m) (hP : P x = true) (hy : y < m) (hQ : P y = true) (hne : x ≠ y) : 2 ≤ cnt P m := by
  have h1 := cnt_sub P hx hP
  have h2 := cnt_one (P := va_up P x false) hy (by rw [va_up_ne P false (Ne.symm hne)]; exact hQ)
  omega
theorem cnt_mono {P R : Nat → Bool} : ∀ m, (∀ i, i < m → P i = true → R i = true) → cnt P m ≤ cnt R m
  | 0, _ => Nat.le_refl 0
  | m + 1, h => by
    have h1 := cnt_mono m (fun i hi => h i (by omega))
    unfold cnt
    by_cases hp : P m = true
    · rw [if_pos hp, if_pos (h m (by omega) hp)]
      omega
    · rw [if_neg hp]
      omega
theorem cnt_ex {P : Nat → Bool} : ∀ m, 0 < cnt P m → ∃ i, i < m ∧ P i = true
  | 0, h => by exact absurd h (Nat.lt_irrefl 0)
  | m + 1, h => by
    by_cases hp : P m = true
    · exact ⟨m, by omega, hp⟩
    · unfold cnt at h
      rw [if_neg hp] at h
      obtain ⟨i, h1, h2⟩ := cnt_ex m (by omega)
      exact ⟨i, by omega, h2⟩
end
section
/-! the next interleaved place inside a box: plain law -/
theorem cut1 {M : Nat} (hM : M = 1 ∨ M = 2 ∨ M = 4 ∨ M = 8 ∨ M = 16 ∨ M = 32) {a h z : Nat} (hl : a / (2 * M) = z / (2 * M)) (hh : h / (2 * M) = z / (2 * M)) (b0 : a / M % 2 = 0) (t1 : h / M % 2 = 1) :
    a ≤ a / (2 * M) * (2 * M) + M ∧ a / (2 * M) * (2 * M) + M ≤ h ∧ a ≤ h / (2 * M) * (2 * M) + (M - 1) ∧ h / (2 * M) * (2 * M) + (M - 1) ≤ h ∧ (a / (2 * M) * (2 * M) + M) / (2 * M) = z / (2 * M) ∧ (a / (2 * M) * (2 * M) + M) / M % 2 = 1 := by
  rcases hM with rfl | rfl | rfl | rfl | rfl | rfl <;> omega
theorem cut2 {M : Nat} (hM : M = 1 ∨ M = 2 ∨ M = 4 ∨ M = 8 ∨ M = 16 ∨ M = 32) {h z : Nat} (hh : h / (2 * M) = z / (2 * M)) (z0 : z / M % 2 = 0) : (h / (2 * M) * (2 * M) + (M - 1)) / M = z / M ∧ ∀ w, w / M = z / M → w ≤ h / (2 * M) * (2 * M) + (M - 1) := by
  rcases hM with rfl | rfl | rfl | rfl | rfl | rfl <;> exact ⟨by omega, fun w hw => by omega⟩
theorem cut3 {M : Nat} (hM : M = 1 ∨ M = 2 ∨ M = 4 ∨ M = 8 ∨ M = 16 ∨ M = 32) {a z : Nat} (hl : a / (2 * M) = z / (2 * M)) : (z / M % 2 = 1 → (a / (2 * M) * (2 * M) + M) / M = z / M) ∧ ∀ w, w / (2 * M) = z / (2 * M) → w / M % 2 = 1 → a / (2 * M) * (2 * M) + M ≤ w := by
  rcases hM with rfl | rfl | rfl | rfl | rfl | rfl <;> exact ⟨fun h => by omega, fun w hw h1 => by omega⟩
theorem p2_6 : ∀ d, d < 6 → (2 ^ d = 1 ∨ 2 ^ d = 2 ∨ 2 ^ d = 4 ∨ 2 ^ d = 8 ∨ 2 ^ d = 16 ∨ 2 ^ d = 32) := by decide +kernel
/-- z < a, and every place of the box behind z is not below a -/
def NX (x0 x1 y0 y1 z a : Nat) : Prop := z < a ∧ a ≤ 4096 ∧ ∀ wx wy, wx < 64 → wy < 64 → x0 ≤ wx → wx ≤ x1 → y0 ≤ wy → wy ≤ y1 → z < il wx wy → a ≤ il wx wy
def BI (x0 x1 y0 y1 zx zy k lx ly hx hy a : Nat) : Prop :=
  lx ≤ hx ∧ hx < 64 ∧ ly ≤ hy ∧ hy < 64 ∧ il lx ly / 2 ^ k = il zx zy / 2 ^ k ∧ il hx hy / 2 ^ k = il zx zy / 2 ^ k ∧
  (∀ wx wy, wx < 64 → wy < 64 → il wx wy / 2 ^ k = il zx zy / 2 ^ k → x0 ≤ wx → wx ≤ x1 → y0 ≤ wy → wy ≤ y1 → lx ≤ wx ∧ wx ≤ hx ∧ ly ≤ wy ∧ wy ≤ hy) ∧
  il zx zy < a ∧ a ≤ 4096 ∧ ∀ wx wy, wx < 64 → wy < 64 → x0 ≤ wx → wx ≤ x1 → y0 ≤ wy → wy ≤ y1 → il zx zy / 2 ^ k < il wx wy / 2 ^ k → a ≤ il wx wy
theorem dv2 (X b : Nat) : X / 2 ^ (b + 1) = X / 2 ^ b / 2 := by rw [Nat.pow_succ, Nat.div_div_eq_div_mul]
theorem lt_dv {X Y b : Nat} (h : X / 2 ^ b < Y / 2 ^ b) : X < Y := by
  rcases Nat.lt_or_ge X Y with q | q
  · exact q
  · exact absurd (Nat.div_le_div_right (c := 2 ^ b) q) (by omega)
theorem BI_start {x0 x1 y0 y1 zx zy : Nat} (h1 : x0 ≤ x1) (h2 : x1 < 64) (h3 : y0 ≤ y1) (h4 : y1 < 64) : BI x0 x1 y0 y1 zx zy 12 x0 y0 x1 y1 4096 := by
  have e : ∀ x y, il x y / 2 ^ 12 = 0 := fun x y => Nat.div_eq_of_lt il_lt
  refine ⟨h1, h2, h3, h4, by rw [e, e], by rw [e, e], fun wx wy _ _ _ a b c d => ⟨a, b, c, d⟩, il_lt, Nat.le_refl _, fun wx wy _ _ _ _ _ _ q => ?_⟩
  rw [e, e] at q
  exact absurd q (Nat.lt_irrefl 0)
theorem BI_end {x0 x1 y0 y1 zx zy lx ly hx hy a : Nat} (h : BI x0 x1 y0 y1 zx zy 0 lx ly hx hy a) : NX x0 x1 y0 y1 (il zx zy) a := by
  obtain ⟨-, -, -, -, -, -, -, h1, h2, h3⟩ := h
  exact ⟨h1, h2, fun wx wy a1 a2 a3 a4 a5 a6 q => h3 wx wy a1 a2 a3 a4 a5 a6 (by simpa using q)⟩
/-- own bit 0, the box's bottom bit 1: the box begins behind z -/
theorem BI_low {x0 x1 y0 y1 zx zy b lx ly hx hy a : Nat} (h : BI x0 x1 y0 y1 zx zy (b + 1) lx ly hx hy a) (hz : il zx zy / 2 ^ b % 2 = 0) (hl : il lx ly / 2 ^ b % 2 = 1) : NX x0 x1 y0 y1 (il zx zy) (il lx ly) := by
  obtain ⟨e1, e2, e3, e4, e5, e6, e7, h1, h2, h3⟩ := h
  rw [dv2, dv2] at e5
  refine ⟨lt_dv (b := b) (by omega), Nat.le_of_lt il_lt, fun wx wy a1 a2 a3 a4 a5 a6 q => ?_⟩
  have q1 : il zx zy / 2 ^ (b + 1) ≤ il wx wy / 2 ^ (b + 1) := Nat.div_le_div_right (Nat.le_of_lt q)
  rcases Nat.eq_or_lt_of_le q1 with q2 | q2
  · obtain ⟨f1, f2, f3, f4⟩ := e7 wx wy a1 a2 q2.symm a3 a4 a5 a6
    exact il_mono a1 a2 f1 f3
  · exact Nat.le_of_lt (lt_dv (b := b + 1) (by rw [dv2, e5, ← dv2]; exact q2))
/-- own bit 1, the box's top bit 0: the box ends ahead of z -/
theorem BI_ans {x0 x1 y0 y1 zx zy b lx ly hx hy a : Nat} (h : BI x0 x1 y0 y1 zx zy (b + 1) lx ly hx hy a) (hz : il zx zy / 2 ^ b % 2 = 1) (hh : il hx hy / 2 ^ b % 2 = 0) : NX x0 x1 y0 y1 (il zx zy) a := by
  obtain ⟨e1, e2, e3, e4, e5, e6, e7, h1, h2, h3⟩ := h
  rw [dv2, dv2] at e6
  have hlt : il hx hy < il zx zy := lt_dv (b := b) (by omega)
  refine ⟨h1, h2, fun wx wy a1 a2 a3 a4 a5 a6 q => ?_⟩
  have q1 : il zx zy / 2 ^ (b + 1) ≤ il wx wy / 2 ^ (b + 1) := Nat.div_le_div_right (Nat.le_of_lt q)
  rcases Nat.eq_or_lt_of_le q1 with q2 | q2
  · obtain ⟨f1, f2, f3, f4⟩ := e7 wx wy a1 a2 q2.symm a3 a4 a5 a6
    have := il_mono e2 e4 f2 f4
    omega
  · exact h3 wx wy a1 a2 a3 a4 a5 a6 q2
/-- all three bits alike -/
theorem BI_same {x0 x1 y0 y1 zx zy b lx ly hx hy a : Nat} (h : BI x0 x1 y0 y1 zx zy (b + 1) lx ly hx hy a) (hz : il zx zy / 2 ^ b % 2 = il lx ly / 2 ^ b % 2) (hh : il hx hy / 2 ^ b % 2 = il lx ly / 2 ^ b % 2) : BI x0 x1 y0 y1 zx zy b lx ly hx hy a := by
  obtain ⟨e1, e2, e3, e4, e5, e6, e7, h1, h2, h3⟩ := h
  rw [dv2, dv2] at e5 e6
  refine ⟨e1, e2, e3, e4, by omega, by omega, fun wx wy a1 a2 q => e7 wx wy a1 a2 (by rw [dv2, dv2, q]), h1, h2, fun wx wy a1 a2 a3 a4 a5 a6 q => ?_⟩
  have q1 : il zx zy / 2 ^ (b + 1) ≤ il wx wy / 2 ^ (b + 1) := by rw [dv2, dv2]; omega
  rcases Nat.eq_or_lt_of_le q1 with q2 | q2
  · obtain ⟨f1, f2, f3, f4⟩ := e7 wx wy a1 a2 q2.symm a3 a4 a5 a6
    have r1 : il wx wy / 2 ^ b ≤ il hx hy / 2 ^ b := Nat.div_le_div_right (il_mono e2 e4 f2 f4)
    omega
  · exact h3 wx wy a1 a2 a3 a4 a5 a6 q2
def cLx (b x : Nat) : Nat := if b % 2 = 0 then x / 2 ^ (b / 2 + 1) * 2 ^ (b / 2 + 1) + 2 ^ (b / 2) else x
def cLy (b y : Nat) : Nat := if b % 2 = 0 then y else y / 2 ^ (b / 2 + 1) * 2 ^ (b / 2 + 1) + 2 ^ (b / 2)
def cHx (b x : Nat) : Nat := if b % 2 = 0 then x / 2 ^ (b / 2 + 1) * 2 ^ (b / 2 + 1) + (2 ^ (b / 2) - 1) else x
def cHy (b y : Nat) : Nat := if b % 2 = 0 then y else y / 2 ^ (b / 2 + 1) * 2 ^ (b / 2 + 1) + (2 ^ (b / 2) - 1)
theorem cutL_e {b x y : Nat} (hb : b < 12) (hx : x < 64) (hy : y < 64) : (il x y &&& (lwf b ^^^ 4294967295)) ||| (1 * 2 ^ b) = il (cLx b x) (cLy b y) := by
  rw [cutL_ok b hb x hx y hy]
  unfold cLx cLy
  by_cases h : b % 2 = 0
  · rw [if_pos h, if_pos h, if_pos h]
  · rw [if_neg h, if_neg h, if_neg h]
theorem cutH_e {b x y : Nat} (hb : b < 12) (hx : x < 64) (hy : y < 64) : (il x y &&& ((1 * 2 ^ b) ^^^ 4294967295)) ||| lwf b = il (cHx b x) (cHy b y) := by
  rw [cutH_ok b hb x hx y hy]
  unfold cHx cHy
  by_cases h : b % 2 = 0
  · rw [if_pos h, if_pos h, if_pos h]
  · rw [if_neg h, if_neg h, if_neg h]
/-- what a cut at bit b does to the low and the high corner -/
theorem BI_cut {x0 x1 y0 y1 zx zy b lx ly hx hy a : Nat} (hb : b < 12) (hzx : zx < 64) (hzy : zy < 64) (h : BI x0 x1 y0 y1 zx zy (b + 1) lx ly hx hy a) (hl : il lx ly / 2 ^ b % 2 = 0) (hh : il hx hy / 2 ^ b % 2 = 1) :
    (cLx b lx ≤ hx ∧ cLy b ly ≤ hy ∧ il (cLx b lx) (cLy b ly) / 2 ^ (b + 1) = il zx zy / 2 ^ (b + 1) ∧ il (cLx b lx) (cLy b ly) / 2 ^ b % 2 = 1 ∧ (∀ wx wy, wx < 64 → wy < 64 → il wx wy / 2 ^ (b + 1) = il zx zy / 2 ^ (b + 1) → il wx wy / 2 ^ b % 2 = 1 → lx ≤ wx → ly ≤ wy → cLx b lx ≤ wx ∧ cLy b ly ≤ wy)) ∧
    (il zx zy / 2 ^ b % 2 = 0 → lx ≤ cHx b hx ∧ cHx b hx < 64 ∧ ly ≤ cHy b hy ∧ cHy b hy < 64 ∧ il (cHx b hx) (cHy b hy) / 2 ^ b = il zx zy / 2 ^ b ∧ (∀ wx wy, wx < 64 → wy < 64 → il wx wy / 2 ^ b = il zx zy / 2 ^ b → wx ≤ hx → wy ≤ hy → wx ≤ cHx b hx ∧ wy ≤ cHy b hy)) := by
  obtain ⟨e1, e2, e3, e4, e5, e6, -, -, -, -⟩ := h
  have hM := p2_6 (b / 2) (by omega)
  have hlx : lx < 64 := by omega
  have hly : ly < 64 := by omega
  have g5 := (il_pre (b + 1) lx ly zx zy hlx hly hzx hzy).mp e5
  have g6 := (il_pre (b + 1) hx hy zx zy e2 e4 hzx hzy).mp e6
  rw [il_bit b lx ly hlx hly] at hl
  rw [il_bit b hx hy e2 e4] at hh
  unfold cLx cLy cHx cHy
  by_cases hb2 : b % 2 = 0
  · simp only [if_pos hb2] at hl hh ⊢
    rw [show (b + 1 + 1) / 2 = b / 2 + 1 by omega, show (b + 1) / 2 = b / 2 by omega] at g5 g6
    rw [Nat.pow_succ'] at g5 g6 ⊢
    obtain ⟨c1, c2, c3, c4, c5, c6⟩ := cut1 hM g5.1 g6.1 hl hh
    have k2 : lx / (2 * 2 ^ (b / 2)) * (2 * 2 ^ (b / 2)) + 2 ^ (b / 2) < 64 := by omega
    have k3 : hx / (2 * 2 ^ (b / 2)) * (2 * 2 ^ (b / 2)) + (2 ^ (b / 2) - 1) < 64 := by omega
    refine ⟨⟨c2, e3, ?_, ?_, ?_⟩, fun z0 => ?_⟩
    · rw [il_pre (b + 1) _ _ _ _ k2 hly hzx hzy, show (b + 1 + 1) / 2 = b / 2 + 1 by omega, show (b + 1) / 2 = b / 2 by omega, Nat.pow_succ']
      exact ⟨c5, g5.2⟩
    · rw [il_bit b _ _ k2 hly, if_pos hb2]
      exact c6
    · intro wx wy a1 a2 q q1 a3 a4
      rw [il_pre (b + 1) _ _ _ _ a1 a2 hzx hzy, show (b + 1 + 1) / 2 = b / 2 + 1 by omega, Nat.pow_succ'] at q
      rw [il_bit b _ _ a1 a2, if_pos hb2] at q1
      exact ⟨(cut3 hM g5.1).2 wx q.1 q1, a4⟩
    · rw [il_bit b _ _ hzx hzy, if_pos hb2] at z0
      obtain ⟨d1, d2⟩ := cut2 hM g6.1 z0
      refine ⟨c3, k3, e3, e4, ?_, ?_⟩
      · rw [il_pre b _ _ _ _ k3 e4 hzx hzy, show (b + 1) / 2 = b / 2 by omega]
        exact ⟨d1, g6.2⟩
      · intro wx wy a1 a2 q a3 a4
        rw [il_pre b _ _ _ _ a1 a2 hzx hzy, show (b + 1) / 2 = b / 2 by omega] at q
        exact ⟨d2 wx q.1, a4⟩
  · simp only [if_neg hb2] at hl hh ⊢
    rw [show (b + 1 + 1) / 2 = b / 2 + 1 by omega, show (b + 1) / 2 = b / 2 + 1 by omega] at g5 g6
    rw [Nat.pow_succ'] at g5 g6 ⊢
    obtain ⟨c1, c2, c3, c4, c5, c6⟩ := cut1 hM g5.2 g6.2 hl hh
    have k2 : ly / (2 * 2 ^ (b / 2)) * (2 * 2 ^ (b / 2)) + 2 ^ (b / 2) < 64 := by omega
    have k3 : hy / (2 * 2 ^ (b / 2)) * (2 * 2 ^ (b / 2)) + (2 ^ (b / 2) - 1) < 64 := by omega
    refine ⟨⟨e1, c2, ?_, ?_, ?_⟩, fun z0 => ?_⟩
    · rw [il_pre (b + 1) _ _ _ _ hlx k2 hzx hzy, show (b + 1 + 1) / 2 = b / 2 + 1 by omega, show (b + 1) / 2 = b / 2 + 1 by omega, Nat.pow_succ']
      exact ⟨g5.1, c5⟩
    · rw [il_bit b _ _ hlx k2, if_neg hb2]
      exact c6
    · intro wx wy a1 a2 q q1 a3 a4
      rw [il_pre (b + 1) _ _ _ _ a1 a2 hzx hzy, show (b + 1 + 1) / 2 = b / 2 + 1 by omega, show (b + 1) / 2 = b / 2 + 1 by omega, Nat.pow_succ'] at q
      rw [il_bit b _ _ a1 a2, if_neg hb2] at q1
      exact ⟨a3, (cut3 hM g5.2).2 wy q.2 q1⟩
    · rw [il_bit b _ _ hzx hzy, if_neg hb2] at z0
      obtain ⟨d1, d2⟩ := cut2 hM g6.2 z0
      refine ⟨e1, e2, c3, k3, ?_, ?_⟩
      · rw [il_pre b _ _ _ _ e2 k3 hzx hzy, show (b + 1) / 2 = b / 2 + 1 by omega, Nat.pow_succ']
        exact ⟨g6.1, d1⟩
      · intro wx wy a1 a2 q a3 a4
        rw [il_pre b _ _ _ _ a1 a2 hzx hzy, show (b + 1) / 2 = b / 2 + 1 by omega] at q
        exact ⟨a3, d2 wy q.2⟩
/-- z in the lower half: the upper half's begin is remembered -/
theorem BI_lower {x0 x1 y0 y1 zx zy b lx ly hx hy a : Nat} (hb : b < 12) (hzx : zx < 64) (hzy : zy < 64) (h : BI x0 x1 y0 y1 zx zy (b + 1) lx ly hx hy a) (hz : il zx zy / 2 ^ b % 2 = 0) (hl : il lx ly / 2 ^ b % 2 = 0) (hh : il hx hy / 2 ^ b % 2 = 1) : BI x0 x1 y0 y1 zx zy b lx ly (cHx b hx) (cHy b hy) (il (cLx b lx) (cLy b ly)) := by
  obtain ⟨⟨p1, p2, p3, p4, p5⟩, hr⟩ := BI_cut hb hzx hzy h hl hh
  obtain ⟨r1, r2, r3, r4, r5, r6⟩ := hr hz
  obtain ⟨e1, e2, e3, e4, e5, e6, e7, h1, h2, h3⟩ := h
  have e5' := e5
  have p3' := p3
  rw [dv2, dv2] at e5' p3'
  refine ⟨r1, r2, r3, r4, by omega, r5, fun wx wy a1 a2 q a3 a4 a5 a6 => ?_, lt_dv (b := b) (by omega), Nat.le_of_lt il_lt, fun wx wy a1 a2 a3 a4 a5 a6 q => ?_⟩
  · obtain ⟨f1, f2, f3, f4⟩ := e7 wx wy a1 a2 (by rw [dv2, dv2, q]) a3 a4 a5 a6
    obtain ⟨f5, f6⟩ := r6 wx wy a1 a2 q f2 f4
    exact ⟨f1, f5, f3, f6⟩
  · have q1 : il zx zy / 2 ^ (b + 1) ≤ il wx wy / 2 ^ (b + 1) := by rw [dv2, dv2]; omega
    rcases Nat.eq_or_lt_of_le q1 with q2 | q2
    · obtain ⟨f1, f2, f3, f4⟩ := e7 wx wy a1 a2 q2.symm a3 a4 a5 a6
      have q3 := q2
      rw [dv2, dv2] at q3
      obtain ⟨f5, f6⟩ := p5 wx wy a1 a2 q2.symm (by omega) f1 f3
      exact il_mono a1 a2 f5 f6
    · exact Nat.le_of_lt (lt_dv (b := b + 1) (by rw [p3]; exact q2))
/-- z in the upper half: it goes on there -/
theorem BI_upper {x0 x1 y0 y1 zx zy b lx ly hx hy a : Nat} (hb : b < 12) (hzx : zx < 64) (hzy : zy < 64) (h : BI x0 x1 y0 y1 zx zy (b + 1) lx ly hx hy a) (hz : il zx zy / 2 ^ b % 2 = 1) (hl : il lx ly / 2 ^ b % 2 = 0) (hh : il hx hy / 2 ^ b % 2 = 1) : BI x0 x1 y0 y1 zx zy b (cLx b lx) (cLy b ly) hx hy a := by
  obtain ⟨⟨p1, p2, p3, p4, p5⟩, -⟩ := BI_cut hb hzx hzy h hl hh
  obtain ⟨e1, e2, e3, e4, e5, e6, e7, h1, h2, h3⟩ := h
  have e6' := e6
  have p3' := p3
  rw [dv2, dv2] at e6' p3'
  refine ⟨p1, e2, p2, e4, by omega, by omega, fun wx wy a1 a2 q a3 a4 a5 a6 => ?_, h1, h2, fun wx wy a1 a2 a3 a4 a5 a6 q => ?_⟩
  · have q1 : il wx wy / 2 ^ (b + 1) = il zx zy / 2 ^ (b + 1) := by rw [dv2, dv2, q]
    obtain ⟨f1, f2, f3, f4⟩ := e7 wx wy a1 a2 q1 a3 a4 a5 a6
    obtain ⟨f5, f6⟩ := p5 wx wy a1 a2 q1 (by rw [q]; exact hz) f1 f3
    exact ⟨f5, f2, f6, f4⟩
  · have q1 : il zx zy / 2 ^ (b + 1) ≤ il wx wy / 2 ^ (b + 1) := by rw [dv2, dv2]; omega
    rcases Nat.eq_or_lt_of_le q1 with q2 | q2
    · have q3 := q2
      rw [dv2, dv2] at q3
      omega
    · exact h3 wx wy a1 a2 a3 a4 a5 a6 q2
theorem cL_lt {x0 x1 y0 y1 zx zy b lx ly hx hy a : Nat} (h : BI x0 x1 y0 y1 zx zy b lx ly hx hy a) : lx < 64 ∧ ly < 64 ∧ hx < 64 ∧ hy < 64 := by
  obtain ⟨e1, e2, e3, e4, -⟩ := h
  omega
end
section
/-! the sorted keys, the points that they stand for, what a walk has found: plain law -/
def So (n : Nat) (k : Nat → Nat) : Prop := ∀ i j, i < j → j < n → k i < k j
def Me (n : Nat) (k : Nat → Nat) (x : Nat) : Prop := ∃ j, j < n ∧ k j = x
def kf (px py : Nat → Nat) (i : Nat) : Nat := il (px i) (py i) * 64 + i
def Inv (u : Nat → Bool) (px py : Nat → Nat) (n : Nat) (k : Nat → Nat) : Prop :=
  (∀ i, i < 40 → px i < 64 ∧ py i < 64) ∧ n = cnt u 40 ∧ So n k ∧ ∀ x, Me n k x ↔ ∃ i, i < 40 ∧ u i = true ∧ x = kf px py i
theorem So_le {n : Nat} {k : Nat → Nat} (h : So n k) : ∀ i j, i < j → j < n → k i ≤ k j := fun i j a b => Nat.le_of_lt (h i j a b)
theorem Inv_n {u : Nat → Bool} {px py : Nat → Nat} {n : Nat} {k : Nat → Nat} (h : Inv u px py n k) : n ≤ 40 := by
  rw [h.2.1]
  exact cnt_le u 40
theorem kf_lt (px py : Nat → Nat) {i : Nat} (h : i < 40) : kf px py i < 262144 := by
  have := il_lt (x := px i) (y := py i)
  unfold kf
  omega
theorem kf_mod (px py : Nat → Nat) {i : Nat} (h : i < 40) : kf px py i % 64 = i := by unfold kf; omega
theorem kf_div (px py : Nat → Nat) {i : Nat} (h : i < 40) : kf px py i / 64 = il (px i) (py i) := by unfold kf; omega
theorem key_at {u : Nat → Bool} {px py : Nat → Nat} {n : Nat} {k : Nat → Nat} (h : Inv u px py n k) {j : Nat} (hj : j < n) : k j % 64 < 40 ∧ u (k j % 64) = true ∧ k j / 64 = il (px (k j % 64)) (py (k j % 64)) ∧ k j < 262144 ∧ k j = kf px py (k j % 64) := by
  obtain ⟨i, h1, h2, h3⟩ := (h.2.2.2 (k j)).mp ⟨j, hj, rfl⟩
  rw [h3, kf_mod px py h1, kf_div px py h1]
  exact ⟨h1, h2, rfl, kf_lt px py h1, rfl⟩
theorem key_lt {u : Nat → Bool} {px py : Nat → Nat} {n : Nat} {k : Nat → Nat} (h : Inv u px py n k) : ∀ j, j < n → k j < 2147483648 := fun j hj => Nat.lt_trans (key_at h hj).2.2.2.1 (by decide)
theorem ins_ok {n a key : Nat} {k z : Nat → Nat} (hs : So n k) (hm : ¬ Me n k key) (ha : a ≤ n) (h1 : ∀ j, j < a → k j < key) (h2 : ∀ j, a ≤ j → j < n → key ≤ k j)
    (z1 : ∀ j, j < a → z j = k j) (z2 : z a = key) (z3 : ∀ j, a < j → j ≤ n → z j = k (j - 1)) : So (n + 1) z ∧ ∀ x, Me (n + 1) z x ↔ x = key ∨ Me n k x := by
  have h2' : ∀ j, a ≤ j → j < n → key < k j := fun j q r => Nat.lt_of_le_of_ne (h2 j q r) (fun e => hm ⟨j, r, e.symm⟩)
  constructor
  · intro i j hij hj
    rcases Nat.lt_trichotomy j a with q | q | q
    · rw [z1 i (by omega), z1 j q]
      exact hs i j hij (by omega)
    · subst q
      rw [z1 i hij, z2]
      exact h1 i hij
    · rw [z3 j q (by omega)]
      rcases Nat.lt_trichotomy i a with r | r | r
      · rw [z1 i r]
        exact Nat.lt_trans (h1 i r) (h2' (j - 1) (by omega) (by omega))
      · subst r
        rw [z2]
        exact h2' (j - 1) (by omega) (by omega)
      · rw [z3 i r (by omega)]
        exact hs (i - 1) (j - 1) (by omega) (by omega)
  · intro x
    constructor
    · rintro ⟨j, hj, e⟩
      rcases Nat.lt_trichotomy j a with q | q | q
      · exact Or.inr ⟨j, by omega, by rw [← z1 j q]; exact e⟩
      · subst q
        exact Or.inl (by rw [← e, z2])
      · exact Or.inr ⟨j - 1, by omega, by rw [← z3 j q (by omega)]; exact e⟩
    · rintro (e | ⟨j, hj, e⟩)
      · exact ⟨a, by omega, by rw [z2, e]⟩
      · rcases Nat.lt_or_ge j a with q | q
        · exact ⟨j, by omega, by rw [z1 j q]; exact e⟩
        · exact ⟨j + 1, by omega, by rw [z3 (j + 1) (by omega) (by omega)]; exact e⟩
theorem seek_at {n a key : Nat} {k : Nat → Nat} (hs : So n k) (hm : Me n k key) (h1 : ∀ j, j < a → k j < key) (h2 : ∀ j, a ≤ j → j < n → key ≤ k j) : a < n ∧ k a = key := by
  obtain ⟨j, hj, e⟩ := hm
  rcases Nat.lt_or_ge j a with q | q
  · have := h1 j q
    omega
  · refine ⟨by omega, ?_⟩
    have h3 := h2 a (Nat.le_refl a) (by omega)
    rcases Nat.eq_or_lt_of_le q with r | r
    · rw [r]; exact e
    · have := hs a j r hj
      omega
theorem tak_ok {n a key : Nat} {k z : Nat → Nat} (hs : So n k) (ha : a < n) (hk : k a = key) (z1 : ∀ j, j < a → z j = k j) (z3 : ∀ j, a ≤ j → j < n - 1 → z j = k (j + 1)) : So (n - 1) z ∧ ∀ x, Me (n - 1) z x ↔ Me n k x ∧ x ≠ key := by
  constructor
  · intro i j hij hj
    rcases Nat.lt_or_ge j a with q | q
    · rw [z1 i (by omega), z1 j q]
      exact hs i j hij (by omega)
    · rw [z3 j q hj]
      rcases Nat.lt_or_ge i a with r | r
      · rw [z1 i r]
        exact hs i (j + 1) (by omega) (by omega)
      · rw [z3 i r (by omega)]
        exact hs (i + 1) (j + 1) (by omega) (by omega)
  · intro x
    constructor
    · rintro ⟨j, hj, e⟩
      rcases Nat.lt_or_ge j a with q | q
      · rw [z1 j q] at e
        refine ⟨⟨j, by omega, e⟩, ?_⟩
        have := hs j a q ha
        omega
      · rw [z3 j q hj] at e
        refine ⟨⟨j + 1, by omega, e⟩, ?_⟩
        have := hs a (j + 1) (by omega) (by omega)
        omega
    · rintro ⟨⟨j, hj, e⟩, hne⟩
      rcases Nat.lt_trichotomy j a with q | q | q
      · exact ⟨j, by omega, by rw [z1 j q]; exact e⟩
      · subst q
        exact absurd (e.symm.trans hk) hne
      · exact ⟨j - 1, by omega, by rw [z3 (j - 1) (by omega) (by omega), show j - 1 + 1 = j by omega]; exact e⟩
/-- a free point gets a place: the invariant goes on -/
theorem Inv_add {u : Nat → Bool} {px py : Nat → Nat} {n : Nat} {k z : Nat → Nat} {q a b : Nat} (h : Inv u px py n k) (hq : q < 40) (hu : u q = false) (ha : a < 64) (hb : b < 64) (hz : So (n + 1) z ∧ ∀ x, Me (n + 1) z x ↔ x = kf (va_up px q a) (va_up py q b) q ∨ Me n k x) : Inv (va_up u q true) (va_up px q a) (va_up py q b) (n + 1) z := by
  obtain ⟨h1, h2, h3, h4⟩ := h
  refine ⟨fun i hi => ?_, by rw [cnt_add u hq hu, h2], hz.1, fun x => ?_⟩
  · by_cases e : i = q
    · subst e
      rw [va_up_self, va_up_self]
      exact ⟨ha, hb⟩
    · rw [va_up_ne px a e, va_up_ne py b e]
      exact h1 i hi
  · rw [hz.2 x, h4 x]
    constructor
    · rintro (e | ⟨i, g1, g2, g3⟩)
      · exact ⟨q, hq, va_up_self _ _ _, e⟩
      · have e : i ≠ q := fun e => by rw [e, hu] at g2; cases g2
        exact ⟨i, g1, by rw [va_up_ne u true e]; exact g2, by rw [g3]; unfold kf; rw [va_up_ne px a e, va_up_ne py b e]⟩
    · rintro ⟨i, g1, g2, g3⟩
      by_cases e : i = q
      · subst e
        exact Or.inl g3
      · rw [va_up_ne u true e] at g2
        refine Or.inr ⟨i, g1, g2, ?_⟩
        rw [g3]
        unfold kf
        rw [va_up_ne px a e, va_up_ne py b e]
theorem Inv_new {u : Nat → Bool} {px py : Nat → Nat} {n : Nat} {k : Nat → Nat} {q : Nat} (h : Inv u px py n k) (hq : q < 40) (hu : u q = false) (qx qy : Nat → Nat) : ¬ Me n k (kf qx qy q) := by
  intro hm
  obtain ⟨i, h1, h2, h3⟩ := (h.2.2.2 _).mp hm
  have e : i = q := by
    have := congrArg (fun v => v % 64) h3
    simp only [kf_mod _ _ h1, kf_mod _ _ hq] at this
    exact this.symm
  rw [e, hu] at h2
  cases h2
theorem Inv_me {u : Nat → Bool} {px py : Nat → Nat} {n : Nat} {k : Nat → Nat} {q : Nat} (h : Inv u px py n k) (hq : q < 40) (hu : u q = true) : Me n k (kf px py q) := (h.2.2.2 _).mpr ⟨q, hq, hu, rfl⟩
theorem Inv_drop {u : Nat → Bool} {px py : Nat → Nat} {n : Nat} {k z : Nat → Nat} {q : Nat} (h : Inv u px py n k) (hq : q < 40) (hu : u q = true) (hz : So (n - 1) z ∧ ∀ x, Me (n - 1) z x ↔ Me n k x ∧ x ≠ kf px py q) : Inv (va_up u q false) px py (n - 1) z := by
  obtain ⟨h1, h2, h3, h4⟩ := h
  refine ⟨h1, by have := cnt_sub u hq hu; omega, hz.1, fun x => ?_⟩
  rw [hz.2 x, h4 x]
  constructor
  · rintro ⟨⟨i, g1, g2, g3⟩, hne⟩
    have e : i ≠ q := fun e => hne (by rw [g3, e])
    exact ⟨i, g1, by rw [va_up_ne u false e]; exact g2, g3⟩
  · rintro ⟨i, g1, g2, g3⟩
    have e : i ≠ q := fun e => by rw [e, va_up_self] at g2; cases g2
    rw [va_up_ne u false e] at g2
    refine ⟨⟨i, g1, g2, g3⟩, fun hk => e ?_⟩
    rw [g3] at hk
    have := congrArg (fun v => v % 64) hk
    simp only [kf_mod _ _ g1, kf_mod _ _ hq] at this
    exact this
theorem Inv_pos {u : Nat → Bool} {px py : Nat → Nat} {n : Nat} {k : Nat → Nat} {q : Nat} (h : Inv u px py n k) (hq : q < 40) (hu : u q = true) : 1 ≤ n := by
  rw [h.2.1]
  exact cnt_one hq hu
theorem Inv_back {u v : Nat → Bool} {px py : Nat → Nat} {n : Nat} {k : Nat → Nat} (h : Inv v px py n k) (e : ∀ i, i < 40 → u i = v i) : Inv u px py n k := by
  obtain ⟨h1, h2, h3, h4⟩ := h
  refine ⟨h1, by rw [h2]; exact (cnt_congr 40 e).symm, h3, fun x => (h4 x).trans ⟨?_, ?_⟩⟩
  · rintro ⟨i, g1, g2, g3⟩
    exact ⟨i, g1, by rw [e i g1]; exact g2, g3⟩
  · rintro ⟨i, g1, g2, g3⟩
    exact ⟨i, g1, by rw [← e i g1]; exact g2, g3⟩
/-- f enumerates the points below 40 with P, each once -/
def En (c : Nat) (f : Nat → Nat) (P : Nat → Bool) : Prop := (∀ i j, i < c → j < c → f i = f j → i = j) ∧ ∀ x, (∃ j, j < c ∧ f j = x) ↔ x < 40 ∧ P x = true
theorem En_rm {c : Nat} {f : Nat → Nat} {P : Nat → Bool} (h : En (c + 1) f P) : En c f (va_up P (f c) false) := by
  refine ⟨fun i j hi hj e => h.1 i j (by omega) (by omega) e, fun x => ⟨?_, ?_⟩⟩
  · rintro ⟨j, hj, e⟩
    obtain ⟨h1, h2⟩ := (h.2 x).mp ⟨j, by omega, e⟩
    refine ⟨h1, ?_⟩
    rw [va_up_ne]
    · exact h2
    · intro q
      rw [← e] at q
      have := h.1 j c (by omega) (by omega) q
      omega
  · rintro ⟨h1, h2⟩
    have hne : x ≠ f c := fun q => by rw [q, va_up_self] at h2; cases h2
    rw [va_up_ne P false hne] at h2
    obtain ⟨j, hj, e⟩ := (h.2 x).mpr ⟨h1, h2⟩
    refine ⟨j, ?_, e⟩
    rcases Nat.lt_or_ge j c with q | q
    · exact q
    · exact absurd (by rw [← e, show j = c by omega]) hne
theorem En_at {c : Nat} {f : Nat → Nat} {P : Nat → Bool} (h : En c f P) {j : Nat} (hj : j < c) : f j < 40 ∧ P (f j) = true := (h.2 (f j)).mp ⟨j, hj, rfl⟩
theorem En_cnt : ∀ (c : Nat) {f : Nat → Nat} {P : Nat → Bool}, En c f P → c = cnt P 40
  | 0, f, P, h => by
    rw [cnt_zero 40]
    intro i hi
    cases e : P i
    · rfl
    · obtain ⟨j, hj, -⟩ := (h.2 i).mpr ⟨hi, e⟩
      omega
  | c + 1, f, P, h => by
    obtain ⟨h1, h2⟩ := En_at h (Nat.lt_succ_self c)
    have := En_cnt c (En_rm h)
    have := cnt_sub P h1 h2
    omega
def sumF (g : Nat → Int32) (f : Nat → Nat) : Nat → Int32
  | 0 => 0
  | c + 1 => sumF g f c + g (f c)
theorem sumP_rm (P : Nat → Bool) (g : Nat → Int32) {m x : Nat} (hx : x < m) (hP : P x = true) : sumP P g m = sumP (va_up P x false) g m + g x := by
  induction m with
  | zero => omega
  | succ m ih =>
    unfold sumP
    rcases Nat.lt_or_ge x m with h | h
    · rw [ih h, va_up_ne P false (show m ≠ x by omega)]
      grind
    · obtain rfl : x = m := by omega
      rw [va_up_self, sumP_congr x (fun i hi => ⟨va_up_ne P false (show i ≠ x by omega), rfl⟩), hP]
      simp
theorem sumP_zero {P : Nat → Bool} (g : Nat → Int32) : ∀ m, (∀ i, i < m → P i = false) → sumP P g m = 0
  | 0, _ => rfl
  | m + 1, h => by
    unfold sumP
    rw [sumP_zero g m (fun i hi => h i (by omega)), h m (by omega)]
    simp
theorem En_sum : ∀ (c : Nat) {f : Nat → Nat} {P : Nat → Bool} (g : Nat → Int32), En c f P → sumF g f c = sumP P g 40
  | 0, f, P, g, h => by
    rw [sumP_zero g 40]
    · rfl
    · intro i hi
      cases e : P i
      · rfl
      · obtain ⟨j, hj, -⟩ := (h.2 i).mpr ⟨hi, e⟩
        omega
  | c + 1, f, P, g, h => by
    obtain ⟨h1, h2⟩ := En_at h (Nat.lt_succ_self c)
    rw [sumP_rm P g h1 h2, ← En_sum c g (En_rm h)]
    rfl
/-- what a walk has found among the first q keys -/
def Wk (px py : Nat → Nat) (k : Nat → Nat) (x0 x1 y0 y1 q fo : Nat) (ins : Nat → Nat) : Prop :=
  fo ≤ q ∧ (∀ i j, i < fo → j < fo → ins i = ins j → i = j) ∧ ∀ x, (∃ j, j < fo ∧ ins j = x) ↔ ∃ j, j < q ∧ k j % 64 = x ∧ inb x0 x1 y0 y1 (px x) (py x) = true
theorem Wk_skip {px py k : Nat → Nat} {x0 x1 y0 y1 q r fo : Nat} {ins : Nat → Nat} (h : Wk px py k x0 x1 y0 y1 q fo ins) (hqr : q ≤ r) (hno : ∀ j, q ≤ j → j < r → inb x0 x1 y0 y1 (px (k j % 64)) (py (k j % 64)) = false) : Wk px py k x0 x1 y0 y1 r fo ins := by
  refine ⟨by have := h.1; omega, h.2.1, fun x => (h.2.2 x).trans ⟨?_, ?_⟩⟩
  · rintro ⟨j, a, b, c⟩
    exact ⟨j, by omega, b, c⟩
  · rintro ⟨j, a, b, c⟩
    rcases Nat.lt_or_ge j q with z | z
    · exact ⟨j, z, b, c⟩
    · have := hno j z a
      rw [b, c] at this
      cases this
theorem Wk_start {px py k : Nat → Nat} {x0 x1 y0 y1 : Nat} {ins : Nat → Nat} : Wk px py k x0 x1 y0 y1 0 0 ins :=
  ⟨Nat.le_refl 0, fun i j hi => absurd hi (Nat.not_lt_zero i), fun x => ⟨fun ⟨j, hj, _⟩ => absurd hj (Nat.not_lt_zero j), fun ⟨j, hj, _⟩ => absurd hj (Nat.not_lt_zero j)⟩⟩
theorem Wk_in {u : Nat → Bool} {px py k : Nat → Nat} {n x0 x1 y0 y1 q fo : Nat} {ins : Nat → Nat} (hI : Inv u px py n k) (hq : q < n) (h : Wk px py k x0 x1 y0 y1 q fo ins) (hin : inb x0 x1 y0 y1 (px (k q % 64)) (py (k q % 64)) = true) : Wk px py k x0 x1 y0 y1 (q + 1) (fo + 1) (va_up ins fo (k q % 64)) := by
  obtain ⟨h1, h2, h3⟩ := h
  have hnew : ∀ j, j < fo → ins j ≠ k q % 64 := by
    intro j hj e
    obtain ⟨t, a, b, -⟩ := (h3 (ins j)).mp ⟨j, hj, rfl⟩
    have e1 := (key_at hI (show t < n by omega)).2.2.2.2
    have e2 := (key_at hI hq).2.2.2.2
    have := hI.2.2.1 t q a hq
    rw [b, e] at e1
    omega
  refine ⟨by omega, fun i j hi hj e => ?_, fun x => ⟨?_, ?_⟩⟩
  · by_cases ei : i = fo
    · by_cases ej : j = fo
      · omega
      · rw [ei, va_up_self, va_up_ne ins _ ej] at e
        exact absurd e.symm (hnew j (by omega))
    · by_cases ej : j = fo
      · rw [ej, va_up_self, va_up_ne ins _ ei] at e
        exact absurd e (hnew i (by omega))
      · rw [va_up_ne ins _ ei, va_up_ne ins _ ej] at e
        exact h2 i j (by omega) (by omega) e
  · rintro ⟨j, hj, e⟩
    by_cases ej : j = fo
    · rw [ej, va_up_self] at e
      exact ⟨q, by omega, e, by rw [← e]; exact hin⟩
    · rw [va_up_ne ins _ ej] at e
      obtain ⟨t, a, b, c⟩ := (h3 x).mp ⟨j, by omega, e⟩
      exact ⟨t, by omega, b, c⟩
  · rintro ⟨j, a, b, c⟩
    rcases Nat.lt_or_ge j q with z | z
    · obtain ⟨t, d, e⟩ := (h3 x).mpr ⟨j, z, b, c⟩
      exact ⟨t, by omega, by rw [va_up_ne ins _ (by omega)]; exact e⟩
    · refine ⟨fo, by omega, ?_⟩
      rw [va_up_self, ← b, show j = q by omega]
theorem Wk_jump {u : Nat → Bool} {px py k : Nat → Nat} {n x0 x1 y0 y1 q r a fo : Nat} {ins : Nat → Nat} (hI : Inv u px py n k) (hq : q < n) (h : Wk px py k x0 x1 y0 y1 q fo ins) (hout : inb x0 x1 y0 y1 (px (k q % 64)) (py (k q % 64)) = false) (hN : NX x0 x1 y0 y1 (k q / 64) a) (hr : r ≤ n) (r1 : ∀ j, j < r → k j < a * 64) (r2 : ∀ j, r ≤ j → j < n → a * 64 ≤ k j) : q < r ∧ Wk px py k x0 x1 y0 y1 r fo ins := by
  have hqr : q < r := by
    rcases Nat.lt_or_ge q r with z | z
    · exact z
    · have := r2 q z hq
      have := hN.1
      omega
  refine ⟨hqr, Wk_skip h (Nat.le_of_lt hqr) (fun j hj1 hj2 => ?_)⟩
  have hjn : j < n := by omega
  obtain ⟨g1, g2, g3, g4, g5⟩ := key_at hI hjn
  obtain ⟨f1, f2, f3, f4, f5⟩ := key_at hI hq
  have hb1 := hI.1 _ g1
  have hb2 := hI.1 _ f1
  cases e : inb x0 x1 y0 y1 (px (k j % 64)) (py (k j % 64))
  · rfl
  · exfalso
    obtain ⟨b1, b2, b3, b4⟩ := inb_iff.mp e
    rcases Nat.eq_or_lt_of_le (show k q / 64 ≤ k j / 64 from Nat.div_le_div_right (by rcases Nat.eq_or_lt_of_le hj1 with z | z; (rw [z]; exact Nat.le_refl _); exact Nat.le_of_lt (hI.2.2.1 q j z hjn))) with z | z
    · rw [f3, g3] at z
      obtain ⟨w1, w2⟩ := il_inj hb2.1 hb2.2 hb1.1 hb1.2 z
      rw [w1, w2, e] at hout
      cases hout
    · have := hN.2.2 _ _ hb1.1 hb1.2 b1 b2 b3 b4 (by rw [← g3]; exact z)
      have := r1 j hj2
      omega
theorem Wk_end {u : Nat → Bool} {px py k : Nat → Nat} {n x0 x1 y0 y1 q fo : Nat} {ins : Nat → Nat} (hI : Inv u px py n k) (h1 : x1 < 64) (h3 : y1 < 64) (h : Wk px py k x0 x1 y0 y1 q fo ins) (hqn : q ≤ n) (hq : q = n ∨ (il x1 y1 + 1) * 64 ≤ k q) : En fo ins (fun i => u i && inb x0 x1 y0 y1 (px i) (py i)) := by
  have h' : Wk px py k x0 x1 y0 y1 n fo ins := by
    refine Wk_skip h hqn (fun j a b => ?_)
    obtain ⟨g1, g2, g3, g4, g5⟩ := key_at hI b
    cases e : inb x0 x1 y0 y1 (px (k j % 64)) (py (k j % 64))
    · rfl
    · exfalso
      obtain ⟨b1, b2, b3, b4⟩ := inb_iff.mp e
      have hm := il_mono (x := px (k j % 64)) (y := py (k j % 64)) h1 h3 b2 b4
      rcases hq with z | z
      · omega
      · have : k q ≤ k j := by
          rcases Nat.eq_or_lt_of_le a with w | w
          · rw [w]; exact Nat.le_refl _
          · exact Nat.le_of_lt (hI.2.2.1 q j w b)
        omega
  refine ⟨h'.2.1, fun x => (h'.2.2 x).trans ⟨?_, ?_⟩⟩
  · rintro ⟨j, a, b, c⟩
    obtain ⟨g1, g2, -, -, -⟩ := key_at hI a
    rw [b] at g1 g2
    exact ⟨g1, by show (u x && inb x0 x1 y0 y1 (px x) (py x)) = true; rw [g2, c]; rfl⟩
  · rintro ⟨a, b⟩
    simp only [Bool.and_eq_true] at b
    obtain ⟨j, hj, e⟩ := Inv_me hI a b.1
    exact ⟨j, hj, by rw [e]; exact kf_mod px py a, b.2⟩
theorem Wk_first {u : Nat → Bool} {px py k : Nat → Nat} {n x0 x1 y0 y1 q : Nat} {ins : Nat → Nat} (hI : Inv u px py n k) (hqn : q ≤ n) (h : ∀ j, j < q → k j < il x0 y0 * 64) : Wk px py k x0 x1 y0 y1 q 0 ins := by
  refine Wk_skip Wk_start (Nat.zero_le q) (fun j _ b => ?_)
  obtain ⟨g1, g2, g3, g4, g5⟩ := key_at hI (show j < n by omega)
  have hb := hI.1 _ g1
  cases e : inb x0 x1 y0 y1 (px (k j % 64)) (py (k j % 64))
  · rfl
  · exfalso
    obtain ⟨b1, b2, b3, b4⟩ := inb_iff.mp e
    have hm := il_mono hb.1 hb.2 b1 b3
    have := h j b
    omega
end
section
/-! boxes, distances, ranks: plain law -/
abbrev BX : Type := Nat × Nat × Nat × Nat × Nat × Nat × Nat × (Nat → Nat)
abbrev wZ (g : Nat → Nat) (d : Nat → ClassId) (u : Nat → Bool) (px py : Nat → Nat) (lb : Nat → Int32) (n : Nat) (k : Nat → Nat) (z : BX) : va_W := wX g d u px py lb n k z.1 z.2.1 z.2.2.1 z.2.2.2.1 z.2.2.2.2.1 z.2.2.2.2.2.1 z.2.2.2.2.2.2.1 z.2.2.2.2.2.2.2
def bxP (u : Nat → Bool) (px py : Nat → Nat) (a b : Nat) : Nat → Bool := fun i => u i && inb (min (a % 64) (b % 64)) (max (a % 64) (b % 64)) (min (a / 64) (b / 64)) (max (a / 64) (b / 64)) (px i) (py i)
def nrP (u : Nat → Bool) (px py : Nat → Nat) (x y dd : Nat) : Nat → Bool := fun i => u i && decide (ds x y (px i) (py i) ≤ dd)
def lxb (px py : Nat → Nat) (x y a b : Nat) : Bool := decide (ds x y (px a) (py a) < ds x y (px b) (py b) ∨ (ds x y (px a) (py a) = ds x y (px b) (py b) ∧ a < b))
theorem nrP_iff {u : Nat → Bool} {px py : Nat → Nat} {x y dd i : Nat} : nrP u px py x y dd i = true ↔ u i = true ∧ ds x y (px i) (py i) ≤ dd := by
  unfold nrP
  rw [Bool.and_eq_true, decide_eq_true_eq]
theorem lxb_iff {px py : Nat → Nat} {x y a b : Nat} : lxb px py x y a b = true ↔ (ds x y (px a) (py a) < ds x y (px b) (py b) ∨ (ds x y (px a) (py a) = ds x y (px b) (py b) ∧ a < b)) := by
  unfold lxb
  rw [decide_eq_true_eq]
theorem lxb_tr {px py : Nat → Nat} {x y a b c : Nat} (h1 : lxb px py x y a b = true) (h2 : lxb px py x y b c = true) : lxb px py x y a c = true := by
  rw [lxb_iff] at *
  omega
theorem lxb_tot {px py : Nat → Nat} {x y a b : Nat} (h : lxb px py x y a b = false) (hne : a ≠ b) : lxb px py x y b a = true := by
  rw [lxb_iff]
  have h1 : ¬ (lxb px py x y a b = true) := by rw [h]; decide
  rw [lxb_iff] at h1
  omega
theorem lxb_asym {px py : Nat → Nat} {x y a b : Nat} (h1 : lxb px py x y a b = true) (h2 : lxb px py x y b a = true) : False := by
  rw [lxb_iff] at *
  omega
/-! clearing -/
theorem clr_step {u uu : Nat → Bool} {P : Nat → Bool} {ins : Nat → Nat} {fo i : Nat} (hE : En fo ins P) (hi : i < fo) (hP : ∀ x, P x = true → u x = true) (hU : ∀ x, x < 40 → (uu x = true ↔ u x = true ∧ ∀ j, j < i → ins j ≠ x)) : uu (ins i) = true ∧ ∀ x, x < 40 → (va_up uu (ins i) false x = true ↔ u x = true ∧ ∀ j, j < i + 1 → ins j ≠ x) := by
  obtain ⟨h1, h2⟩ := En_at hE hi
  refine ⟨(hU _ h1).mpr ⟨hP _ h2, fun j hj e => ?_⟩, fun x hx => ?_⟩
  · have := hE.1 j i (by omega) hi e
    omega
  · by_cases e : x = ins i
    · subst e
      rw [va_up_self]
      constructor
      · intro q; cases q
      · rintro ⟨-, q⟩
        exact absurd rfl (q i (by omega))
    · rw [va_up_ne uu false e, hU x hx]
      constructor
      · rintro ⟨a, b⟩
        refine ⟨a, fun j hj => ?_⟩
        rcases Nat.lt_or_ge j i with q | q
        · exact b j q
        · rw [show j = i by omega]
          exact Ne.symm e
      · rintro ⟨a, b⟩
        exact ⟨a, fun j hj => b j (by omega)⟩
theorem clr_end {u uu : Nat → Bool} {P : Nat → Bool} {ins : Nat → Nat} {fo : Nat} (hE : En fo ins P) (hU : ∀ x, x < 40 → (uu x = true ↔ u x = true ∧ ∀ j, j < fo → ins j ≠ x)) : ∀ x, x < 40 → uu x = (u x && !(P x)) := by
  intro x hx
  have h := hU x hx
  cases hp : P x
  · cases hu : u x
    · cases e : uu x
      · rfl
      · exact absurd (h.mp e).1 (by rw [hu]; decide)
    · show uu x = true
      refine h.mpr ⟨hu, fun j hj e => ?_⟩
      have := (En_at hE hj).2
      rw [e, hp] at this
      cases this
  · cases e : uu x
    · cases u x <;> rfl
    · obtain ⟨j, hj, q⟩ := (hE.2 x).mpr ⟨hx, hp⟩
      exact absurd q ((h.mp e).2 j hj)
/-! the first of them -/
def Fst (P : Nat → Bool) (r : Int32) : Prop := (r = -3 ∧ ∀ x, x < 40 → P x = false) ∨ ∃ v, v < 40 ∧ r = nI v ∧ P v = true ∧ ∀ y, y < v → P y = false
theorem Fst_eq {P R : Nat → Bool} {r t : Int32} (hPR : ∀ i, i < 40 → P i = R i) (h1 : Fst P r) (h2 : Fst R t) : r = t := by
  rcases h1 with ⟨e1, a1⟩ | ⟨v, v1, v2, v3, v4⟩
  · rcases h2 with ⟨e2, a2⟩ | ⟨w, w1, w2, w3, w4⟩
    · rw [e1, e2]
    · have := a1 w w1
      rw [hPR w w1, w3] at this
      cases this
  · rcases h2 with ⟨e2, a2⟩ | ⟨w, w1, w2, w3, w4⟩
    · have := a2 v v1
      rw [← hPR v v1, v3] at this
      cases this
    · rcases Nat.lt_trichotomy v w with q | q | q
      · have := w4 v q
        rw [← hPR v v1, v3] at this
        cases this
      · rw [v2, w2, q]
      · have := v4 w q
        rw [hPR w w1, w3] at this
        cases this
theorem Fst_none {P : Nat → Bool} {ins : Nat → Nat} (hE : En 0 ins P) : Fst P (-3) := by
  refine Or.inl ⟨rfl, fun x hx => ?_⟩
  cases e : P x
  · rfl
  · obtain ⟨j, hj, -⟩ := (hE.2 x).mpr ⟨hx, e⟩
    omega
theorem Fst_some {P : Nat → Bool} {ins : Nat → Nat} {fo v : Nat} (hE : En fo ins P) (h1 : ∃ j, j < fo ∧ ins j = v) (h2 : ∀ j, j < fo → v ≤ ins j) : Fst P (nI v) := by
  obtain ⟨a, b⟩ := (hE.2 v).mp h1
  refine Or.inr ⟨v, a, rfl, b, fun y hy => ?_⟩
  cases e : P y
  · rfl
  · obtain ⟨j, hj, q⟩ := (hE.2 y).mpr ⟨by omega, e⟩
    have := h2 j hj
    omega
/-! near -/
theorem clamp_sub {x t : Nat} (hx : x < 64) (ht : t ≤ 90) : (if nI x - nI t < 0 then nI 0 else if nI 63 < nI x - nI t then nI 63 else nI x - nI t) = nI (x - t) := by
  rcases Nat.lt_or_ge x t with h | h
  · rw [if_pos (pk_sneg (by omega) h), show x - t = 0 by omega]
  · rw [pk_sub h, if_neg (nI_pos (by omega)), if_neg (nI_nlt (by omega) (by omega))]
theorem clamp_add {x t : Nat} (hx : x < 64) (ht : t ≤ 90) : (if nI (x + t) < 0 then nI 0 else if nI 63 < nI (x + t) then nI 63 else nI (x + t)) = nI (min 63 (x + t)) := by
  rw [if_neg (nI_pos (by omega))]
  rcases Nat.lt_or_ge 63 (x + t) with h | h
  · rw [if_pos (nI_lt h (by omega)), show min 63 (x + t) = 63 by omega]
  · rw [if_neg (nI_nlt h (by omega)), show min 63 (x + t) = x + t by omega]
theorem sq_root {a x t dd : Nat} (ha : a < 64) (hx : x < 64) (ht : t = 90 ∨ dd < (t + 1) * (t + 1)) (h : sq a x ≤ dd) : x - t ≤ a ∧ a ≤ min 63 (x + t) := by
  rcases ht with e | e
  · omega
  · have h1 : a - x < t + 1 := by
      rcases Nat.lt_or_ge (a - x) (t + 1) with q | q
      · exact q
      · have := Nat.mul_le_mul q q
        unfold sq at h
        omega
    have h2 : x - a < t + 1 := by
      rcases Nat.lt_or_ge (x - a) (t + 1) with q | q
      · exact q
      · have := Nat.mul_le_mul q q
        unfold sq at h
        omega
    omega
theorem near_in {x y a b t dd : Nat} (hx : x < 64) (hy : y < 64) (ha : a < 64) (hb : b < 64) (ht : t = 90 ∨ dd < (t + 1) * (t + 1)) (h : ds x y a b ≤ dd) : x - t ≤ a ∧ a ≤ min 63 (x + t) ∧ y - t ≤ b ∧ b ≤ min 63 (y + t) := by
  unfold ds at h
  obtain ⟨h1, h2⟩ := sq_root ha hx ht (show sq a x ≤ dd by omega)
  obtain ⟨h3, h4⟩ := sq_root hb hy ht (show sq b y ≤ dd by omega)
  exact ⟨h1, h2, h3, h4⟩
/-- those kept among the first i found -/
def Kp (Q : Nat → Prop) (ins inz : Nat → Nat) (i kp : Nat) : Prop := kp ≤ i ∧ (∀ j, i ≤ j → inz j = ins j) ∧ (∀ a b, a < kp → b < kp → inz a = inz b → a = b) ∧ ∀ x, (∃ j, j < kp ∧ inz j = x) ↔ ∃ j, j < i ∧ ins j = x ∧ Q x
theorem Kp_0 {Q : Nat → Prop} {ins : Nat → Nat} : Kp Q ins ins 0 0 := ⟨Nat.le_refl 0, fun _ _ => rfl, fun a b ha => absurd ha (Nat.not_lt_zero a), fun x => ⟨fun ⟨j, hj, _⟩ => absurd hj (Nat.not_lt_zero j), fun ⟨j, hj, _⟩ => absurd hj (Nat.not_lt_zero j)⟩⟩
theorem Kp_no {Q : Nat → Prop} {ins inz : Nat → Nat} {i kp : Nat} (h : Kp Q ins inz i kp) (hn : ¬ Q (ins i)) : Kp Q ins inz (i + 1) kp := by
  obtain ⟨h1, h2, h3, h4⟩ := h
  refine ⟨by omega, fun j hj => h2 j (by omega), h3, fun x => (h4 x).trans ⟨?_, ?_⟩⟩
  · rintro ⟨j, a, b, c⟩
    exact ⟨j, by omega, b, c⟩
  · rintro ⟨j, a, b, c⟩
    rcases Nat.lt_or_ge j i with q | q
    · exact ⟨j, q, b, c⟩
    · rw [show j = i by omega] at b
      rw [← b] at c
      exact absurd c hn
theorem Kp_yes {Q : Nat → Prop} {P : Nat → Bool} {ins inz : Nat → Nat} {i kp fo : Nat} (hE : En fo ins P) (hi : i < fo) (h : Kp Q ins inz i kp) (hq : Q (ins i)) : Kp Q ins (va_up inz kp (inz i)) (i + 1) (kp + 1) := by
  obtain ⟨h1, h2, h3, h4⟩ := h
  have hne : ∀ a, a < kp → inz a ≠ ins i := by
    intro a ha e
    obtain ⟨j, q1, q2, -⟩ := (h4 (ins i)).mp ⟨a, ha, e⟩
    have := hE.1 j i (by omega) hi q2
    omega
  have e0 : inz i = ins i := h2 i (Nat.le_refl i)
  refine ⟨by omega, fun j hj => by rw [va_up_ne inz _ (by omega)]; exact h2 j (by omega), fun a b ha hb e => ?_, fun x => ⟨?_, ?_⟩⟩
  · by_cases ea : a = kp
    · by_cases eb : b = kp
      · omega
      · rw [ea, va_up_self, va_up_ne inz _ eb, e0] at e
        exact absurd e.symm (hne b (by omega))
    · by_cases eb : b = kp
      · rw [eb, va_up_self, va_up_ne inz _ ea, e0] at e
        exact absurd e (hne a (by omega))
      · rw [va_up_ne inz _ ea, va_up_ne inz _ eb] at e
        exact h3 a b (by omega) (by omega) e
  · rintro ⟨j, hj, e⟩
    by_cases ej : j = kp
    · rw [ej, va_up_self, e0] at e
      exact ⟨i, by omega, e, by rw [← e]; exact hq⟩
    · rw [va_up_ne inz _ ej] at e
      obtain ⟨t, a, b, c⟩ := (h4 x).mp ⟨j, by omega, e⟩
      exact ⟨t, by omega, b, c⟩
  · rintro ⟨j, a, b, c⟩
    rcases Nat.lt_or_ge j i with q | q
    · obtain ⟨t, d, e⟩ := (h4 x).mpr ⟨j, q, b, c⟩
      exact ⟨t, by omega, by rw [va_up_ne inz _ (by omega)]; exact e⟩
    · exact ⟨kp, by omega, by rw [va_up_self, e0, ← b, show j = i by omega]⟩
theorem Kp_end {u : Nat → Bool} {px py ins inz : Nat → Nat} {fo kp x y t dd : Nat} (hp : ∀ i, i < 40 → px i < 64 ∧ py i < 64) (hx : x < 64) (hy : y < 64) (ht : t = 90 ∨ dd < (t + 1) * (t + 1)) {x0 x1 y0 y1 : Nat} (e0 : x0 = x - t) (e1 : x1 = min 63 (x + t)) (e2 : y0 = y - t) (e3 : y1 = min 63 (y + t)) (hE : En fo ins (fun i => u i && inb x0 x1 y0 y1 (px i) (py i))) (h : Kp (fun i => ds x y (px i) (py i) ≤ dd) ins inz fo kp) : En kp inz (nrP u px py x y dd) := by
  obtain ⟨h1, h2, h3, h4⟩ := h
  refine ⟨h3, fun z => (h4 z).trans ⟨?_, ?_⟩⟩
  · rintro ⟨j, a, b, c⟩
    obtain ⟨q1, q2⟩ := (hE.2 z).mp ⟨j, a, b⟩
    simp only [Bool.and_eq_true] at q2
    exact ⟨q1, nrP_iff.mpr ⟨q2.1, c⟩⟩
  · rintro ⟨a, b⟩
    obtain ⟨b1, b2⟩ := nrP_iff.mp b
    obtain ⟨q1, q2⟩ := hp z a
    obtain ⟨r1, r2, r3, r4⟩ := near_in hx hy q1 q2 ht b2
    obtain ⟨j, w1, w2⟩ := (hE.2 z).mpr ⟨a, by
      show (u z && inb x0 x1 y0 y1 (px z) (py z)) = true
      rw [b1, inb_iff.mpr ⟨by omega, by omega, by omega, by omega⟩]
      rfl⟩
    exact ⟨j, w1, w2, b2⟩
/-! sorting what was found -/
def Srt (px py : Nat → Nat) (x y c : Nat) (f : Nat → Nat) : Prop := ∀ a b, a < b → b < c → lxb px py x y (f a) (f b) = true
theorem sort_step {P : Nat → Bool} {px py a w : Nat → Nat} {x y fo i h : Nat} (hE : En fo a P) (hi : i < fo) (hs : Srt px py x y i a) (hh : h ≤ i) (w0 : ∀ j, j < h → w j = a j) (w1 : w h = a i) (w2 : ∀ j, h < j → j ≤ i → w j = a (j - 1)) (w3 : ∀ j, i < j → w j = a j)
    (ha : ∀ j, h ≤ j → j < i → lxb px py x y (a i) (a j) = true) (hb : h = 0 ∨ lxb px py x y (a i) (a (h - 1)) = false) : En fo w P ∧ Srt px py x y (i + 1) w := by
  have hlow : ∀ j, j < h → lxb px py x y (a j) (a i) = true := by
    intro j hj
    rcases hb with q | q
    · omega
    · have h1 : lxb px py x y (a (h - 1)) (a i) = true := lxb_tot q (fun e => by have := hE.1 i (h - 1) hi (by omega) e; omega)
      rcases Nat.eq_or_lt_of_le (show j ≤ h - 1 by omega) with r | r
      · rw [r]; exact h1
      · exact lxb_tr (hs j (h - 1) r (by omega)) h1
  -- where each place of w comes from
  have src : ∀ j, j < fo → ∃ t, t < fo ∧ w j = a t ∧ (j < h → t = j) ∧ (j = h → t = i) ∧ (h < j → j ≤ i → t = j - 1) ∧ (i < j → t = j) := by
    intro j hj
    rcases Nat.lt_trichotomy j h with q | q | q
    · exact ⟨j, hj, w0 j q, by omega, by omega, by omega, by omega⟩
    · exact ⟨i, hi, by rw [q]; exact w1, by omega, by omega, by omega, by omega⟩
    · rcases Nat.lt_or_ge i j with r | r
      · exact ⟨j, hj, w3 j r, by omega, by omega, by omega, by omega⟩
      · exact ⟨j - 1, by omega, w2 j q r, by omega, by omega, by omega, by omega⟩
  refine ⟨⟨fun p q hp hq e => ?_, fun z => ⟨?_, ?_⟩⟩, fun p q hpq hq => ?_⟩
  · obtain ⟨t1, a1, b1, c1, d1, e1, f1⟩ := src p hp
    obtain ⟨t2, a2, b2, c2, d2, e2, f2⟩ := src q hq
    have ht := hE.1 t1 t2 a1 a2 (by rw [← b1, ← b2]; exact e)
    omega
  · rintro ⟨j, hj, e⟩
    obtain ⟨t, a1, b1, -⟩ := src j hj
    exact (hE.2 z).mp ⟨t, a1, by rw [← b1]; exact e⟩
  · intro q
    obtain ⟨t, ht, e⟩ := (hE.2 z).mpr q
    rcases Nat.lt_trichotomy t i with r | r | r
    · rcases Nat.lt_or_ge t h with v | v
      · exact ⟨t, ht, by rw [w0 t v]; exact e⟩
      · exact ⟨t + 1, by omega, by rw [w2 (t + 1) (by omega) (by omega)]; exact e⟩
    · exact ⟨h, by omega, by rw [w1, ← r]; exact e⟩
    · exact ⟨t, ht, by rw [w3 t r]; exact e⟩
  · rcases Nat.lt_trichotomy q h with r | r | r
    · rw [w0 p (by omega), w0 q r]
      exact hs p q hpq (by omega)
    · rw [w0 p (by omega), r, w1]
      exact hlow p (by omega)
    · rw [w2 q r (by omega)]
      rcases Nat.lt_trichotomy p h with v | v | v
      · rw [w0 p v]
        rcases Nat.lt_or_ge (q - 1) h with z | z
        · omega
        · exact hs p (q - 1) (by omega) (by omega)
      · rw [v, w1]
        exact ha (q - 1) (by omega) (by omega)
      · rw [w2 p v (by omega)]
        exact hs (p - 1) (q - 1) (by omega) (by omega)
/-- in a sorted finding, the one at place k has k points ahead of it -/
theorem rank_ok {u : Nat → Bool} {px py ins : Nat → Nat} {x y dd fo k : Nat} (hE : En fo ins (nrP u px py x y dd)) (hs : Srt px py x y fo ins) (hk : k < fo) : ins k < 40 ∧ u (ins k) = true ∧ cnt (fun j => u j && lxb px py x y j (ins k)) 40 = k := by
  obtain ⟨h1, h2⟩ := En_at hE hk
  obtain ⟨h3, h4⟩ := nrP_iff.mp h2
  refine ⟨h1, h3, (En_cnt k (f := ins) ⟨fun i j hi hj e => hE.1 i j (by omega) (by omega) e, fun z => ⟨?_, ?_⟩⟩).symm⟩
  · rintro ⟨j, hj, e⟩
    obtain ⟨q1, q2⟩ := En_at hE (show j < fo by omega)
    have := hs j k hj hk
    rw [e] at q1 q2 this
    exact ⟨q1, by show (u z && lxb px py x y z (ins k)) = true; rw [(nrP_iff.mp q2).1, this]; rfl⟩
  · rintro ⟨a, b⟩
    simp only [Bool.and_eq_true] at b
    have hz : nrP u px py x y dd z = true := nrP_iff.mpr ⟨b.1, by
      have := lxb_iff.mp b.2
      omega⟩
    obtain ⟨j, hj, e⟩ := (hE.2 z).mpr ⟨a, hz⟩
    refine ⟨j, ?_, e⟩
    rcases Nat.lt_trichotomy j k with q | q | q
    · exact q
    · rw [← e, q] at b
      exact absurd b.2 (fun w => lxb_asym w w)
    · have := hs k j q hj
      rw [e] at this
      exact (lxb_asym this b.2).elim
/-- ranks tell points apart -/
theorem rank_inj {u : Nat → Bool} {px py : Nat → Nat} {x y v w : Nat} (hv : v < 40) (hw : w < 40) (uv : u v = true) (uw : u w = true) (h : cnt (fun j => u j && lxb px py x y j v) 40 = cnt (fun j => u j && lxb px py x y j w) 40) : v = w := by
  have half : ∀ a b, a < 40 → u a = true → lxb px py x y a b = true → cnt (fun j => u j && lxb px py x y j a) 40 < cnt (fun j => u j && lxb px py x y j b) 40 := by
    intro a b ha ua hab
    have h1 : cnt (fun j => u j && lxb px py x y j a) 40 ≤ cnt (va_up (fun j => u j && lxb px py x y j b) a false) 40 := by
      refine cnt_mono 40 (fun i hi q => ?_)
      simp only [Bool.and_eq_true] at q
      have hne : i ≠ a := fun e => by rw [e] at q; exact lxb_asym q.2 q.2
      rw [va_up_ne _ _ hne, q.1, lxb_tr q.2 hab]
      rfl
    have h2 := cnt_sub (fun j => u j && lxb px py x y j b) ha (by show (u a && lxb px py x y a b) = true; rw [ua, hab]; rfl)
    omega
  rcases Nat.lt_trichotomy v w with q | q | q
  · cases e : lxb px py x y v w
    · have := half w v hw uw (lxb_tot e (by omega))
      omega
    · have := half v w hv uv e
      omega
  · exact q
  · cases e : lxb px py x y v w
    · have := half w v hw uw (lxb_tot e (by omega))
      omega
    · have := half v w hv uv e
      omega
theorem rank_lt {u : Nat → Bool} {px py : Nat → Nat} {x y v : Nat} (hv : v < 40) (uv : u v = true) : cnt (fun j => u j && lxb px py x y j v) 40 < cnt u 40 := by
  have h1 : cnt (fun j => u j && lxb px py x y j v) 40 ≤ cnt (va_up u v false) 40 := by
    refine cnt_mono 40 (fun i hi q => ?_)
    simp only [Bool.and_eq_true] at q
    have hne : i ≠ v := fun e => by rw [e] at q; exact lxb_asym q.2 q.2
    rw [va_up_ne _ _ hne]
    exact q.1
  have := cnt_sub u hv uv
  omega
/-! the closest pair -/
def Cls (u : Nat → Bool) (px py : Nat → Nat) (r : Int32) : Prop := (r = -3 ∧ ∀ i j, i < 40 → j < 40 → u i = true → u j = true → i = j) ∨ ∃ b, b ≤ 7938 ∧ r = nI b ∧ (∃ i j, i < 40 ∧ j < 40 ∧ i ≠ j ∧ u i = true ∧ u j = true ∧ b = ds (px i) (py i) (px j) (py j)) ∧ ∀ i j, i < 40 → j < 40 → i ≠ j → u i = true → u j = true → b ≤ ds (px i) (py i) (px j) (py j)
theorem Cls_eq {u : Nat → Bool} {px py : Nat → Nat} {r t : Int32} (h1 : Cls u px py r) (h2 : Cls u px py t) : r = t := by
  rcases h1 with ⟨e1, a1⟩ | ⟨b, bb, b1, ⟨i, j, i1, i2, i3, i4, i5, i6⟩, b3⟩
  · rcases h2 with ⟨e2, a2⟩ | ⟨b, bb, b1, ⟨i, j, i1, i2, i3, i4, i5, i6⟩, b3⟩
    · rw [e1, e2]
    · exact absurd (a1 i j i1 i2 i4 i5) i3
  · rcases h2 with ⟨e2, a2⟩ | ⟨b', bb', b1', ⟨i', j', i1', i2', i3', i4', i5', i6'⟩, b3'⟩
    · exact absurd (a2 i j i1 i2 i4 i5) i3
    · have q1 := b3' i j i1 i2 i3 i4 i5
      have q2 := b3 i' j' i1' i2' i3' i4' i5'
      rw [b1, b1', show b = b' by omega]
theorem cnt_pair {P : Nat → Bool} {m : Nat} (h : 2 ≤ cnt P m) : ∃ i j, i < m ∧ j < m ∧ i ≠ j ∧ P i = true ∧ P j = true := by
  obtain ⟨i, hi, pi⟩ := cnt_ex m (show 0 < cnt P m by omega)
  have h1 := cnt_sub P hi pi
  obtain ⟨j, hj, pj⟩ := cnt_ex (P := va_up P i false) m (by omega)
  have hne : j ≠ i := fun e => by rw [e, va_up_self] at pj; cases pj
  rw [va_up_ne P false hne] at pj
  exact ⟨i, j, hi, hj, Ne.symm hne, pi, pj⟩
theorem Cls_few {u : Nat → Bool} {px py : Nat → Nat} {n : Nat} (hn : n = cnt u 40) (h : n < 2) : Cls u px py (-3) := by
  refine Or.inl ⟨rfl, fun i j hi hj ui uj => ?_⟩
  rcases Nat.lt_trichotomy i j with q | q | q
  · have := cnt_two hi ui hj uj (by omega)
    omega
  · exact q
  · have := cnt_two hi ui hj uj (by omega)
    omega
theorem Cls_end {u : Nat → Bool} {px py : Nat → Nat} {n b : Nat} (hn : n = cnt u 40) (h : 2 ≤ n) (hp : ∀ i, i < 40 → px i < 64 ∧ py i < 64) (hb : b ≤ 7938) (h1 : b = 7938 ∨ ∃ i j, i < 40 ∧ j < 40 ∧ i ≠ j ∧ u i = true ∧ u j = true ∧ b = ds (px i) (py i) (px j) (py j)) (h2 : ∀ i, i < 40 → u i = true → ∀ j, j < 40 → u j = true → j ≠ i → b ≤ ds (px i) (py i) (px j) (py j)) : Cls u px py (nI b) := by
  refine Or.inr ⟨b, hb, rfl, ?_, fun i j a1 a2 a3 a4 a5 => h2 i a1 a4 j a2 a5 (Ne.symm a3)⟩
  rcases h1 with e | e
  · obtain ⟨i, j, a1, a2, a3, a4, a5⟩ := cnt_pair (P := u) (m := 40) (by omega)
    refine ⟨i, j, a1, a2, a3, a4, a5, ?_⟩
    have q1 := h2 i a1 a4 j a2 a5 (Ne.symm a3)
    have q2 := ds_le (hp i a1).1 (hp i a1).2 (hp j a2).1 (hp j a2).2
    omega
  · exact e
theorem all_near {u : Nat → Bool} {px py : Nat → Nat} {x y dd n fo : Nat} {ins : Nat → Nat} (hn : n = cnt u 40) (hp : ∀ i, i < 40 → px i < 64 ∧ py i < 64) (hx : x < 64) (hy : y < 64) (hd : 7938 ≤ dd) (hE : En fo ins (nrP u px py x y dd)) : fo = n := by
  rw [En_cnt fo hE, hn]
  refine cnt_congr 40 (fun i hi => ?_)
  have q2 := ds_le hx hy (hp i hi).1 (hp i hi).2
  unfold nrP
  rw [decide_eq_true (show ds x y (px i) (py i) ≤ dd by omega), Bool.and_true]
end
section
/-- bad(place) -/
abbrev rm_X0_bad : Room := { frames := 0, cells := 0, slots := 0, locals := 0 }
set_option maxHeartbeats 8000000 in
set_option maxRecDepth 100000 in
theorem met_X0_bad (l : Launch) (x : Int32)  : Met l yX0_bad (ws_ yX0_bad cX0_bad 1 (some .boolean)) rm_X0_bad (ci_Rs [.int x]) (vp_Si (fun r => r = bI (badP x))) 0 0 (fun _ => False) := by
  refine ci_ofS (by decide) (Nat.le_of_ble_eq_true rfl) ?_
  intro p e s m args below meth c Q0 hx hb hrt hml hown hts hlk hQ ls hl
  have hown : s.vm.findClass RX0 = some m.cls := hown
  have hl : lv_has ls 1 [(0, .int x)] := hl
  refine lv_iload_n hx hb dX0_bad_0 rfl (lv_at hl 0 rfl) ?_
  refine lv_if_lt (tgt := 11) hx hb dX0_bad_1 (by decide) (fun c1 => ?_) (fun c1 => ?_)
  · refine lv_iconst (v := (nI 1)) hx hb dX0_bad_11 (by decide +kernel) ?_
    refine lv_goto (tgt := 16) hx hb dX0_bad_12 (by decide) ?_
    exact ci_zretR true rfl hQ hx hb hrt hlk dX0_bad_16 (by first | rw [badP_1 c1] | rw [badP_2 (Int32.not_lt.mp c8)])
  · refine lv_iload_n hx hb dX0_bad_4 rfl (lv_at hl 0 rfl) ?_
    refine lv_sipush (v := (nI 4096)) hx hb dX0_bad_5 (by decide +kernel) ?_
    refine lv_icmp_lt (tgt := 15) hx hb dX0_bad_8 (by decide) (fun c8 => ?_) (fun c8 => ?_)
    · refine lv_iconst (v := (nI 0)) hx hb dX0_bad_15 (by decide +kernel) ?_
      exact ci_zretR false rfl hQ hx hb hrt hlk dX0_bad_16 (by rw [badP_3 c1 (fun q => Int32.not_le.mpr c8 q)])
    · refine lv_iconst (v := (nI 1)) hx hb dX0_bad_11 (by decide +kernel) ?_
      refine lv_goto (tgt := 16) hx hb dX0_bad_12 (by decide) ?_
      exact ci_zretR true rfl hQ hx hb hrt hlk dX0_bad_16 (by first | rw [badP_1 c1] | rw [badP_2 (Int32.not_lt.mp c8)])

/-- noPoint(point) -/
abbrev rm_X0_noPoint : Room := { frames := 0, cells := 0, slots := 0, locals := 0 }
set_option maxHeartbeats 8000000 in
set_option maxRecDepth 100000 in
theorem met_X0_noPoint (l : Launch) (D : va_G) (g : Nat → Nat) (d : Nat → ClassId) (u : Nat → Bool) (px py : Nat → Nat) (lb : Nat → Int32) (n : Nat) (k : Nat → Nat) (le mo x0 x1 y0 y1 fo : Nat) (ins : Nat → Nat) (x : Int32)  : Met l yX0_noPoint (ws_ yX0_noPoint cX0_noPoint 2 (some .boolean)) rm_X0_noPoint (ci_R D (wX g d u px py lb n k le mo x0 x1 y0 y1 fo ins) (tX d) [.ref (g 0), .int x]) (vp_Si (fun r => r = bI (noP u x))) 0 0 (fun _ => False) := by
  refine ci_of (by decide) (Nat.le_of_ble_eq_true rfl) ?_
  intro p e s m args below meth c Q0 hx hb hrt hml hown hts hlk hmn hQ hP hK ls hl
  have hown : s.vm.findClass RX0 = some m.cls := hown
  have hl : lv_has ls 2 [(0, .ref (g 0)), (1, .int x)] := hl
  refine lv_iload_n hx hb dX0_noPoint_0 rfl (lv_at hl 1 rfl) ?_
  refine lv_if_lt (tgt := 19) hx hb dX0_noPoint_1 (by decide) (fun c1 => ?_) (fun c1 => ?_)
  · refine lv_iconst (v := (nI 1)) hx hb dX0_noPoint_19 (by decide +kernel) ?_
    refine lv_goto (tgt := 24) hx hb dX0_noPoint_20 (by decide) ?_
    exact ci_zretR true rfl hQ hx hb hrt hlk dX0_noPoint_24 (by first | rw [noP_1 c1] | rw [noP_2 c7] | (rw [noP_n hpt, c16]; rfl))
  · refine lv_iload_n hx hb dX0_noPoint_4 rfl (lv_at hl 1 rfl) ?_
    refine lv_bipush (v := (nI 40)) hx hb dX0_noPoint_5 (by decide +kernel) ?_
    refine lv_icmp_ge (tgt := 19) hx hb dX0_noPoint_7 (by decide) (fun c7 => ?_) (fun c7 => ?_)
    · refine lv_iconst (v := (nI 1)) hx hb dX0_noPoint_19 (by decide +kernel) ?_
      refine lv_goto (tgt := 24) hx hb dX0_noPoint_20 (by decide) ?_
      exact ci_zretR true rfl hQ hx hb hrt hlk dX0_noPoint_24 (by first | rw [noP_1 c1] | rw [noP_2 c7] | (rw [noP_n hpt, c16]; rfl))
    · obtain ⟨pt, hpt, rfl⟩ := ix40 c1 c7
      refine lv_aload_n hx hb dX0_noPoint_10 rfl (lv_at hl 0 rfl) ?_
      refine cx_get 0 hx hb hts hown hK hP (by decide) (hts _ q33) rfl dX0_noPoint_11 ?_
      refine lv_iload_n hx hb dX0_noPoint_14 rfl (lv_at hl 1 rfl) ?_
      refine ci_zald hx hb hK hP 1 0 rfl rfl (by omega) (by decide) dX0_noPoint_15 ?_
      refine ci_ifb_ne (tgt := 23) hx hb dX0_noPoint_16 (by decide) (fun c16 => ?_) (fun c16 => ?_)
      · refine lv_iconst (v := (nI 0)) hx hb dX0_noPoint_23 (by decide +kernel) ?_
        exact ci_zretR false rfl hQ hx hb hrt hlk dX0_noPoint_24 (by rw [noP_n hpt, c16]; rfl)
      · refine lv_iconst (v := (nI 1)) hx hb dX0_noPoint_19 (by decide +kernel) ?_
        refine lv_goto (tgt := 24) hx hb dX0_noPoint_20 (by decide) ?_
        exact ci_zretR true rfl hQ hx hb hrt hlk dX0_noPoint_24 (by first | rw [noP_1 c1] | rw [noP_2 c7] | (rw [noP_n hpt, c16]; rfl))

/-- interleave(x, y) -/
abbrev rm_X0_interleave : Room := { frames := 0, cells := 0, slots := 0, locals := 0 }
set_option maxHeartbeats 8000000 in
set_option maxRecDepth 100000 in
theorem met_X0_interleave (l : Launch) (x y : Nat) (hx0 : x < 64) (hy0 : y < 64) : Met l yX0_interleave (ws_ yX0_interleave cX0_interleave 4 (some .int)) rm_X0_interleave (ci_Rs [.int (nI x), .int (nI y)]) (vp_Si (fun r => r = nI (il x y))) 0 0 (fun _ => False) := by
  refine ci_ofS (by decide) (Nat.le_of_ble_eq_true rfl) ?_
  intro p e s m args below meth c Q0 hx hb hrt hml hown hts hlk hQ ls hl
  have hown : s.vm.findClass RX0 = some m.cls := hown
  have hl : lv_has ls 4 [(0, .int (nI x)), (1, .int (nI y))] := hl
  refine lv_iconst (v := (nI 0)) hx hb dX0_interleave_0 (by decide +kernel) ?_
  refine lv_istore_n (lv' := [(2, .int (nI 0)), (0, .int (nI x)), (1, .int (nI y))]) hx hb dX0_interleave_1 rfl hl (by decide) rfl (fun ls hl => ?_)
  refine lv_iconst (v := (nI 0)) hx hb dX0_interleave_2 (by decide +kernel) ?_
  refine lv_istore_n (lv' := [(3, .int (nI 0)), (2, .int (nI 0)), (0, .int (nI x)), (1, .int (nI y))]) hx hb dX0_interleave_3 rfl hl (by decide) rfl (fun ls hl => ?_)
  have lp : ∀ (f : Nat) (b z : Nat), (6 - b < f) → (b ≤ 6) → (z = il (x % 2 ^ b) (y % 2 ^ b)) → ∀ ls : Array Slot, lv_has ls 4 [(0, .int (nI x)), (1, .int (nI y)), (2, .int (nI z)), (3, .int (nI b))] → W p l e rm_X0_interleave s m args below meth c s.heap [] 0 0 Q0 (F0 m 4 ls []) := by
    intro f
    induction f with
    | zero => intro b z hf; exact absurd hf (Nat.not_lt_zero _)
    | succ f ih =>
      intro b z hf hb6 hz  ls hl
      refine lv_iload_n hx hb dX0_interleave_4 rfl (lv_at hl 3 rfl) ?_
      refine lv_bipush (v := (nI 6)) hx hb dX0_interleave_5 (by decide +kernel) ?_
      refine ci_icmp_ge (tgt := 40) hx hb dX0_interleave_7 (by decide) (by omega) (by omega) (fun c7 => ?_) (fun c7 => ?_)
      · refine lv_iload_n hx hb dX0_interleave_40 rfl (lv_at hl 2 rfl) ?_
        exact ci_iretR hQ hx hb hrt hlk dX0_interleave_41 (by rw [hz, show b = 6 by omega, Nat.mod_eq_of_lt (show x < 2 ^ 6 by omega), Nat.mod_eq_of_lt (show y < 2 ^ 6 by omega)])
      · refine lv_iload_n hx hb dX0_interleave_10 rfl (lv_at hl 2 rfl) ?_
        refine lv_iload_n hx hb dX0_interleave_11 rfl (lv_at hl 0 rfl) ?_
        refine lv_iload_n hx hb dX0_interleave_12 rfl (lv_at hl 3 rfl) ?_
        refine ci_ishr hx hb dX0_interleave_13 (by omega) (by omega) ?_
        refine lv_iconst (v := (nI 1)) hx hb dX0_interleave_14 (by decide +kernel) ?_
        refine ci_and1 hx hb dX0_interleave_15 ?_
        refine lv_iconst (v := (nI 2)) hx hb dX0_interleave_16 (by decide +kernel) ?_
        refine lv_iload_n hx hb dX0_interleave_17 rfl (lv_at hl 3 rfl) ?_
        refine ci_imul hx hb dX0_interleave_18 ?_
        refine ci_ishl hx hb dX0_interleave_19 (by omega) ?_
        refine lv_iload_n hx hb dX0_interleave_20 rfl (lv_at hl 1 rfl) ?_
        refine lv_iload_n hx hb dX0_interleave_21 rfl (lv_at hl 3 rfl) ?_
        refine ci_ishr hx hb dX0_interleave_22 (by omega) (by omega) ?_
        refine lv_iconst (v := (nI 1)) hx hb dX0_interleave_23 (by decide +kernel) ?_
        refine ci_and1 hx hb dX0_interleave_24 ?_
        refine lv_iconst (v := (nI 2)) hx hb dX0_interleave_25 (by decide +kernel) ?_
        refine lv_iload_n hx hb dX0_interleave_26 rfl (lv_at hl 3 rfl) ?_
        refine ci_imul hx hb dX0_interleave_27 ?_
        refine lv_iconst (v := (nI 1)) hx hb dX0_interleave_28 (by decide +kernel) ?_
        refine ci_iadd hx hb dX0_interleave_29 ?_
        refine ci_ishl hx hb dX0_interleave_30 (by omega) ?_
        refine ci_ior hx hb dX0_interleave_31 ?_
        refine ci_ior hx hb dX0_interleave_32 ?_
        refine lv_istore_n (lv' := [(2, .int (nI (z ||| ((((x / 2 ^ b) % 2) * 2 ^ (2 * b)) ||| (((y / 2 ^ b) % 2) * 2 ^ ((2 * b) + 1)))))), (0, .int (nI x)), (1, .int (nI y)), (3, .int (nI b))]) hx hb dX0_interleave_33 rfl hl (by decide) rfl (fun ls hl => ?_)
        refine lv_iinc (v := (nI (b + 1))) (lv' := [(3, .int (nI (b + 1))), (2, .int (nI (z ||| ((((x / 2 ^ b) % 2) * 2 ^ (2 * b)) ||| (((y / 2 ^ b) % 2) * 2 ^ ((2 * b) + 1)))))), (0, .int (nI x)), (1, .int (nI y))]) hx hb dX0_interleave_34 hl (k := 3) rfl (ci_inc _) (by decide) rfl (fun ls hl => ?_)
        refine lv_goto (tgt := 4) hx hb dX0_interleave_37 (by decide) ?_
        exact ih (b + 1) _ (by omega) (by omega) (by rw [hz]; exact il_step b c7 x hx0 y hy0) ls (lv_sub hl [2, 3, 1, 0] rfl)
  exact lp 7 0 0 (by omega) (by omega) (by simp [Nat.mod_one]; rfl) ls (lv_sub hl [2, 3, 1, 0] rfl)

/-- keyOf(point) -/
abbrev rm_X0_keyOf : Room := { frames := 1, cells := 0, slots := 0, locals := 23 }
set_option maxHeartbeats 8000000 in
set_option maxRecDepth 100000 in
theorem met_X0_keyOf (l : Launch) (D : va_G) (g : Nat → Nat) (d : Nat → ClassId) (u : Nat → Bool) (px py : Nat → Nat) (lb : Nat → Int32) (n : Nat) (k : Nat → Nat) (le mo x0 x1 y0 y1 fo : Nat) (ins : Nat → Nat) (pt : Nat) (hpt : pt < 40) (hpx : px pt < 64) (hpy : py pt < 64) : Met l yX0_keyOf (ws_ yX0_keyOf cX0_keyOf 2 (some .int)) rm_X0_keyOf (ci_R D (wX g d u px py lb n k le mo x0 x1 y0 y1 fo ins) (tX d) [.ref (g 0), .int (nI pt)]) (vp_Si (fun r => r = nI (il (px pt) (py pt) * 64 + pt))) 0 0 (fun _ => False) := by
  refine ci_of (by decide) (Nat.le_of_ble_eq_true rfl) ?_
  intro p e s m args below meth c Q0 hx hb hrt hml hown hts hlk hmn hQ hP hK ls hl
  have hown : s.vm.findClass RX0 = some m.cls := hown
  have hl : lv_has ls 2 [(0, .ref (g 0)), (1, .int (nI pt))] := hl
  refine lv_aload_n hx hb dX0_keyOf_0 rfl (lv_at hl 0 rfl) ?_
  refine cx_get 1 hx hb hts hown hK hP (by decide) (hts _ q34) rfl dX0_keyOf_1 ?_
  refine lv_iload_n hx hb dX0_keyOf_4 rfl (lv_at hl 1 rfl) ?_
  refine ci_iald hx hb hK hP 2 1 rfl rfl (by omega) (by decide) dX0_keyOf_5 ?_
  refine lv_aload_n hx hb dX0_keyOf_6 rfl (lv_at hl 0 rfl) ?_
  refine cx_get 2 hx hb hts hown hK hP (by decide) (hts _ q35) rfl dX0_keyOf_7 ?_
  refine lv_iload_n hx hb dX0_keyOf_10 rfl (lv_at hl 1 rfl) ?_
  refine ci_iald hx hb hK hP 3 2 rfl rfl (by omega) (by decide) dX0_keyOf_11 ?_
  refine vp_callSi (W.runS (As := [.int (nI (px pt)), .int (nI (py pt))]) (rest := []) ⟨hx, hb, hml, hown, hts⟩ (met_X0_interleave l _ _ hpx hpy) (va_cwS 2 hts (lw_S q93 q94 q23 q95) rfl rfl rfl (by decide +kernel) ⟨Nat.le_of_ble_eq_true rfl, Nat.le_of_ble_eq_true rfl⟩) ci_preS rfl rfl hl.1 rfl (lv_room (Nat.le_of_ble_eq_true rfl)) dX0_keyOf_12 ⟨Nat.le_of_ble_eq_true rfl, Nat.le_of_ble_eq_true rfl⟩) (fun r hr => ?_)
  subst hr
  refine lv_bipush (v := (nI 64)) hx hb dX0_keyOf_15 (by decide +kernel) ?_
  refine ci_imul hx hb dX0_keyOf_17 ?_
  refine lv_iload_n hx hb dX0_keyOf_18 rfl (lv_at hl 1 rfl) ?_
  refine ci_iadd hx hb dX0_keyOf_19 ?_
  exact ci_iretR hQ hx hb hrt hlk dX0_keyOf_20 rfl

/-- seek(key) -/
abbrev rm_X0_seek : Room := { frames := 0, cells := 0, slots := 0, locals := 0 }
set_option maxHeartbeats 8000000 in
set_option maxRecDepth 100000 in
theorem met_X0_seek (l : Launch) (D : va_G) (g : Nat → Nat) (d : Nat → ClassId) (u : Nat → Bool) (px py : Nat → Nat) (lb : Nat → Int32) (n : Nat) (k : Nat → Nat) (le mo x0 x1 y0 y1 fo : Nat) (ins : Nat → Nat) (ky : Nat) (hky : ky < 2147483648) (hn : n ≤ 40) (hkk : ∀ j, j < n → k j < 2147483648) (hso : ∀ i j, i < j → j < n → k i ≤ k j) : Met l yX0_seek (ws_ yX0_seek cX0_seek 5 (some .int)) rm_X0_seek (ci_R D (wX g d u px py lb n k le mo x0 x1 y0 y1 fo ins) (tX d) [.ref (g 0), .int (nI ky)]) (vp_Si (fun r => ∃ a, r = nI a ∧ a ≤ n ∧ (∀ j, j < a → k j < ky) ∧ (∀ j, a ≤ j → j < n → ky ≤ k j))) 0 0 (fun _ => False) := by
  refine ci_of (by decide) (Nat.le_of_ble_eq_true rfl) ?_
  intro p e s m args below meth c Q0 hx hb hrt hml hown hts hlk hmn hQ hP hK ls hl
  have hown : s.vm.findClass RX0 = some m.cls := hown
  have hl : lv_has ls 5 [(0, .ref (g 0)), (1, .int (nI ky))] := hl
  refine lv_iconst (v := (nI 0)) hx hb dX0_seek_0 (by decide +kernel) ?_
  refine lv_istore_n (lv' := [(2, .int (nI 0)), (0, .ref (g 0)), (1, .int (nI ky))]) hx hb dX0_seek_1 rfl hl (by decide) rfl (fun ls hl => ?_)
  refine lv_aload_n hx hb dX0_seek_2 rfl (lv_at hl 1 rfl) ?_
  refine cx_get 4 hx hb hts hown hK hP (by decide) (hts _ q37) rfl dX0_seek_3 ?_
  refine lv_istore_n (lv' := [(3, .int (nI n)), (2, .int (nI 0)), (0, .ref (g 0)), (1, .int (nI ky))]) hx hb dX0_seek_6 rfl hl (by decide) rfl (fun ls hl => ?_)
  have lp : ∀ (f : Nat) (lo hi : Nat), (hi - lo < f) → (lo ≤ hi) → (hi ≤ n) → (∀ j, j < lo → k j < ky) → (∀ j, hi ≤ j → j < n → ky ≤ k j) → ∀ ls : Array Slot, lv_has ls 5 [(0, .ref (g 0)), (1, .int (nI ky)), (2, .int (nI lo)), (3, .int (nI hi))] → W p l e rm_X0_seek s m args below meth c s.heap [] 0 0 Q0 (F0 m 7 ls []) := by
    intro f
    induction f with
    | zero => intro lo hi hf; exact absurd hf (Nat.not_lt_zero _)
    | succ f ih =>
      intro lo hi hf h1 h2 h3 h4  ls hl
      refine lv_iload_n hx hb dX0_seek_7 rfl (lv_at hl 2 rfl) ?_
      refine lv_iload_n hx hb dX0_seek_8 rfl (lv_at hl 3 rfl) ?_
      refine ci_icmp_ge (tgt := 44) hx hb dX0_seek_9 (by decide) (by omega) (by omega) (fun c9 => ?_) (fun c9 => ?_)
      · refine lv_iload_n hx hb dX0_seek_44 rfl (lv_at hl 2 rfl) ?_
        exact ci_iretR hQ hx hb hrt hlk dX0_seek_45 ⟨lo, rfl, by omega, h3, fun j h5 h6 => h4 j (by omega) h6⟩
      · refine lv_iload_n hx hb dX0_seek_12 rfl (lv_at hl 2 rfl) ?_
        refine lv_iload_n hx hb dX0_seek_13 rfl (lv_at hl 3 rfl) ?_
        refine ci_iadd hx hb dX0_seek_14 ?_
        refine lv_iconst (v := (nI 2)) hx hb dX0_seek_15 (by decide +kernel) ?_
        refine ci_idiv hx hb dX0_seek_16 (by omega) (by omega) (by omega) ?_
        refine lv_istore (lv' := [(4, .int (nI ((lo + hi) / 2))), (0, .ref (g 0)), (1, .int (nI ky)), (2, .int (nI lo)), (3, .int (nI hi))]) hx hb dX0_seek_17 hl (by decide) rfl (fun ls hl => ?_)
        refine lv_aload_n hx hb dX0_seek_19 rfl (lv_at hl 1 rfl) ?_
        refine cx_get 5 hx hb hts hown hK hP (by decide) (hts _ q38) rfl dX0_seek_20 ?_
        refine lv_iload hx hb dX0_seek_23 (lv_at hl 0 rfl) ?_
        refine ci_iald hx hb hK hP 5 4 rfl rfl (by omega) (by decide) dX0_seek_25 ?_
        have hkm := hkk ((lo + hi) / 2) (by omega)
        refine lv_iload_n hx hb dX0_seek_26 rfl (lv_at hl 2 rfl) ?_
        refine ci_icmp_ge (tgt := 38) hx hb dX0_seek_27 (by decide) (by omega) (by omega) (fun c27 => ?_) (fun c27 => ?_)
        · refine lv_iload hx hb dX0_seek_38 (lv_at hl 0 rfl) ?_
          refine lv_istore_n (lv' := [(3, .int (nI ((lo + hi) / 2))), (4, .int (nI ((lo + hi) / 2))), (0, .ref (g 0)), (1, .int (nI ky)), (2, .int (nI lo))]) hx hb dX0_seek_40 rfl hl (by decide) rfl (fun ls hl => ?_)
          refine lv_goto (tgt := 7) hx hb dX0_seek_41 (by decide) ?_
          exact ih _ _ (by omega) (by omega) (by omega) h3 (fun j h5 h6 => by rcases Nat.lt_or_ge ((lo + hi) / 2) j with q | q; exact Nat.le_trans c27 (hso _ j q h6); rw [show j = (lo + hi) / 2 by omega]; exact c27) ls (lv_sub hl [2, 3, 4, 0] rfl)
        · refine lv_iload hx hb dX0_seek_30 (lv_at hl 0 rfl) ?_
          refine lv_iconst (v := (nI 1)) hx hb dX0_seek_32 (by decide +kernel) ?_
          refine ci_iadd hx hb dX0_seek_33 ?_
          refine lv_istore_n (lv' := [(2, .int (nI (((lo + hi) / 2) + 1))), (4, .int (nI ((lo + hi) / 2))), (0, .ref (g 0)), (1, .int (nI ky)), (3, .int (nI hi))]) hx hb dX0_seek_34 rfl hl (by decide) rfl (fun ls hl => ?_)
          refine lv_goto (tgt := 41) hx hb dX0_seek_35 (by decide) ?_
          refine lv_goto (tgt := 7) hx hb dX0_seek_41 (by decide) ?_
          exact ih _ _ (by omega) (by omega) h2 (fun j hj => by rcases Nat.lt_or_ge j ((lo + hi) / 2) with q | q; exact Nat.lt_of_le_of_lt (hso j _ q (by omega)) c27; rw [show j = (lo + hi) / 2 by omega]; exact c27) h4 ls (lv_sub hl [2, 3, 0, 4] rfl)
  exact lp (n + 1) 0 n (by omega) (by omega) (Nat.le_refl n) (fun j h => absurd h (Nat.not_lt_zero _)) (fun j h5 h6 => absurd h6 (by omega)) ls (lv_sub hl [2, 3, 1, 0] rfl)

/-- clamp(x) -/
abbrev rm_X0_clamp : Room := { frames := 0, cells := 0, slots := 0, locals := 0 }
set_option maxHeartbeats 8000000 in
set_option maxRecDepth 100000 in
theorem met_X0_clamp (l : Launch) (x : Int32)  : Met l yX0_clamp (ws_ yX0_clamp cX0_clamp 1 (some .int)) rm_X0_clamp (ci_Rs [.int x]) (vp_Si (fun r => r = if x < 0 then nI 0 else if nI 63 < x then nI 63 else x)) 0 0 (fun _ => False) := by
  refine ci_ofS (by decide) (Nat.le_of_ble_eq_true rfl) ?_
  intro p e s m args below meth c Q0 hx hb hrt hml hown hts hlk hQ ls hl
  have hown : s.vm.findClass RX0 = some m.cls := hown
  have hl : lv_has ls 1 [(0, .int x)] := hl
  refine lv_iload_n hx hb dX0_clamp_0 rfl (lv_at hl 0 rfl) ?_
  refine lv_if_ge (tgt := 6) hx hb dX0_clamp_1 (by decide) (fun c1 => ?_) (fun c1 => ?_)
  · refine lv_iload_n hx hb dX0_clamp_6 rfl (lv_at hl 0 rfl) ?_
    refine lv_bipush (v := (nI 63)) hx hb dX0_clamp_7 (by decide +kernel) ?_
    refine lv_icmp_le (tgt := 17) hx hb dX0_clamp_9 (by decide) (fun c9 => ?_) (fun c9 => ?_)
    · refine lv_iload_n hx hb dX0_clamp_17 rfl (lv_at hl 0 rfl) ?_
      exact ci_iretR hQ hx hb hrt hlk dX0_clamp_18 (by rw [if_neg (Int32.not_lt.mpr c1), if_neg (Int32.not_lt.mpr c9)])
    · refine lv_bipush (v := (nI 63)) hx hb dX0_clamp_12 (by decide +kernel) ?_
      refine lv_goto (tgt := 18) hx hb dX0_clamp_14 (by decide) ?_
      exact ci_iretR hQ hx hb hrt hlk dX0_clamp_18 (by rw [if_neg (Int32.not_lt.mpr c1), if_pos (Int32.not_le.mp c9)])
  · refine lv_iconst (v := (nI 0)) hx hb dX0_clamp_4 (by decide +kernel) ?_
    exact ci_iretR hQ hx hb hrt hlk dX0_clamp_5 (by rw [if_pos (Int32.not_le.mp c1)])

theorem lw_end : ∀ t, t < 2 → lwf t = 0 := by decide +kernel
theorem lw_or : ∀ t, t < 12 → 2 ≤ t → (1 * 2 ^ (t - 2)) ||| lwf (t - 2) = lwf t := by decide +kernel
theorem lw_step (t : Nat) (h2 : 2 ≤ t) (ht : t < 12) (z : Nat) : (z ||| (1 * 2 ^ (t - 2))) ||| lwf (t - 2) = z ||| lwf t := by rw [Nat.or_assoc, lw_or t ht h2]
theorem lw_dec {t : Nat} (h : 2 ≤ t) : nI (t - 2) + Int32.ofInt (-2) = nI (t - 2) - nI 2 := by
  rw [show Int32.ofInt (-2) = -nI 2 by decide +kernel]
  grind
/-- lowerBits(bit) -/
abbrev rm_X0_lowerBits : Room := { frames := 0, cells := 0, slots := 0, locals := 0 }
set_option maxHeartbeats 8000000 in
set_option maxRecDepth 100000 in
theorem met_X0_lowerBits (l : Launch) (b : Nat) (hb12 : b < 12) : Met l yX0_lowerBits (ws_ yX0_lowerBits cX0_lowerBits 3 (some .int)) rm_X0_lowerBits (ci_Rs [.int (nI b)]) (vp_Si (fun r => r = nI (lwf b))) 0 0 (fun _ => False) := by
  refine ci_ofS (by decide) (Nat.le_of_ble_eq_true rfl) ?_
  intro p e s m args below meth c Q0 hx hb hrt hml hown hts hlk hQ ls hl
  have hown : s.vm.findClass RX0 = some m.cls := hown
  have hl : lv_has ls 3 [(0, .int (nI b))] := hl
  refine lv_iconst (v := (nI 0)) hx hb dX0_lowerBits_0 (by decide +kernel) ?_
  refine lv_istore_n (lv' := [(1, .int (nI 0)), (0, .int (nI b))]) hx hb dX0_lowerBits_1 rfl hl (by decide) rfl (fun ls hl => ?_)
  refine lv_iload_n hx hb dX0_lowerBits_2 rfl (lv_at hl 1 rfl) ?_
  refine lv_iconst (v := (nI 2)) hx hb dX0_lowerBits_3 (by decide +kernel) ?_
  refine lv_isub hx hb dX0_lowerBits_4 ?_
  refine lv_istore_n (lv' := [(2, .int ((nI b) - (nI 2))), (1, .int (nI 0)), (0, .int (nI b))]) hx hb dX0_lowerBits_5 rfl hl (by decide) rfl (fun ls hl => ?_)
  have lp : ∀ (f : Nat) (t z : Nat) (x : Int32), (t < f) → (t < 12) → (x = nI t - nI 2) → (z ||| lwf t = lwf b) → ∀ ls : Array Slot, lv_has ls 3 [(0, .int (nI b)), (1, .int (nI z)), (2, .int x)] → W p l e rm_X0_lowerBits s m args below meth c s.heap [] 0 0 Q0 (F0 m 6 ls []) := by
    intro f
    induction f with
    | zero => intro t z x hf; exact absurd hf (Nat.not_lt_zero _)
    | succ f ih =>
      intro t z x hf ht hxt hz  ls hl
      refine lv_iload_n hx hb dX0_lowerBits_6 rfl (lv_at hl 2 rfl) ?_
      refine lv_if_lt (tgt := 22) hx hb dX0_lowerBits_7 (by decide) (fun c7 => ?_) (fun c7 => ?_)
      · have h2 : t < 2 := by
          rcases Nat.lt_or_ge t 2 with q | q
          · exact q
          · rw [hxt, pk_sub q] at c7
            exact absurd c7 (nI_pos (by omega))
        refine lv_iload_n hx hb dX0_lowerBits_22 rfl (lv_at hl 1 rfl) ?_
        exact ci_iretR hQ hx hb hrt hlk dX0_lowerBits_23 (by rw [← hz, lw_end t h2, Nat.or_zero])
      · have h2 : 2 ≤ t := by
          rcases Nat.lt_or_ge t 2 with q | q
          · exact absurd (by rw [hxt]; exact pk_sneg (by decide) q) c7
          · exact q
        rw [hxt, pk_sub h2] at hl
        refine lv_iload_n hx hb dX0_lowerBits_10 rfl (lv_at hl 1 rfl) ?_
        refine lv_iconst (v := (nI 1)) hx hb dX0_lowerBits_11 (by decide +kernel) ?_
        refine lv_iload_n hx hb dX0_lowerBits_12 rfl (lv_at hl 2 rfl) ?_
        refine ci_ishl hx hb dX0_lowerBits_13 (by omega) ?_
        refine ci_ior hx hb dX0_lowerBits_14 ?_
        refine lv_istore_n (lv' := [(1, .int (nI (z ||| (1 * 2 ^ (t - 2))))), (0, .int (nI b)), (2, .int (nI (t - 2)))]) hx hb dX0_lowerBits_15 rfl hl (by decide) rfl (fun ls hl => ?_)
        refine lv_iinc (v := ((nI (t - 2)) + Int32.ofInt (-2))) (lv' := [(2, .int ((nI (t - 2)) + Int32.ofInt (-2))), (1, .int (nI (z ||| (1 * 2 ^ (t - 2))))), (0, .int (nI b))]) hx hb dX0_lowerBits_16 hl (k := 2) rfl rfl (by decide) rfl (fun ls hl => ?_)
        refine lv_goto (tgt := 6) hx hb dX0_lowerBits_19 (by decide) ?_
        exact ih (t - 2) _ _ (by omega) (by omega) rfl (by rw [← hz]; exact lw_step t h2 ht z) ls (by rw [← lw_dec h2]; exact (lv_sub hl [2, 1, 0] rfl))
  exact lp 12 b 0 _ hb12 hb12 rfl (Nat.zero_or _) ls (lv_sub hl [2, 1, 0] rfl)

/-- inBox(point) -/
abbrev rm_X0_inBox : Room := { frames := 0, cells := 0, slots := 0, locals := 0 }
set_option maxHeartbeats 8000000 in
set_option maxRecDepth 100000 in
theorem met_X0_inBox (l : Launch) (D : va_G) (g : Nat → Nat) (d : Nat → ClassId) (u : Nat → Bool) (px py : Nat → Nat) (lb : Nat → Int32) (n : Nat) (k : Nat → Nat) (le mo x0 x1 y0 y1 fo : Nat) (ins : Nat → Nat) (pt : Nat) (hpt : pt < 40) (hpx : px pt < 64) (hpy : py pt < 64) (h0 : x0 < 64) (h1 : x1 < 64) (h2 : y0 < 64) (h3 : y1 < 64) : Met l yX0_inBox (ws_ yX0_inBox cX0_inBox 2 (some .boolean)) rm_X0_inBox (ci_R D (wX g d u px py lb n k le mo x0 x1 y0 y1 fo ins) (tX d) [.ref (g 0), .int (nI pt)]) (vp_Si (fun r => r = bI (inb x0 x1 y0 y1 (px pt) (py pt)))) 0 0 (fun _ => False) := by
  refine ci_of (by decide) (Nat.le_of_ble_eq_true rfl) ?_
  intro p e s m args below meth c Q0 hx hb hrt hml hown hts hlk hmn hQ hP hK ls hl
  have hown : s.vm.findClass RX0 = some m.cls := hown
  have hl : lv_has ls 2 [(0, .ref (g 0)), (1, .int (nI pt))] := hl
  refine lv_aload_n hx hb dX0_inBox_0 rfl (lv_at hl 0 rfl) ?_
  refine cx_get 8 hx hb hts hown hK hP (by decide) (hts _ q41) rfl dX0_inBox_1 ?_
  refine lv_aload_n hx hb dX0_inBox_4 rfl (lv_at hl 0 rfl) ?_
  refine cx_get 1 hx hb hts hown hK hP (by decide) (hts _ q34) rfl dX0_inBox_5 ?_
  refine lv_iload_n hx hb dX0_inBox_8 rfl (lv_at hl 1 rfl) ?_
  refine ci_iald hx hb hK hP 2 1 rfl rfl (by omega) (by decide) dX0_inBox_9 ?_
  refine ci_icmp_gt (tgt := 56) hx hb dX0_inBox_10 (by decide) (by omega) (by omega) (fun c10 => ?_) (fun c10 => ?_)
  · refine lv_iconst (v := (nI 0)) hx hb dX0_inBox_56 (by decide +kernel) ?_
    exact ci_zretR false rfl hQ hx hb hrt hlk dX0_inBox_57 (congrArg bI (Eq.symm (Bool.eq_false_iff.mpr (fun q => by have := inb_iff.mp q; omega))))
  · refine lv_aload_n hx hb dX0_inBox_13 rfl (lv_at hl 0 rfl) ?_
    refine cx_get 1 hx hb hts hown hK hP (by decide) (hts _ q34) rfl dX0_inBox_14 ?_
    refine lv_iload_n hx hb dX0_inBox_17 rfl (lv_at hl 1 rfl) ?_
    refine ci_iald hx hb hK hP 2 1 rfl rfl (by omega) (by decide) dX0_inBox_18 ?_
    refine lv_aload_n hx hb dX0_inBox_19 rfl (lv_at hl 0 rfl) ?_
    refine cx_get 9 hx hb hts hown hK hP (by decide) (hts _ q42) rfl dX0_inBox_20 ?_
    refine ci_icmp_gt (tgt := 56) hx hb dX0_inBox_23 (by decide) (by omega) (by omega) (fun c23 => ?_) (fun c23 => ?_)
    · refine lv_iconst (v := (nI 0)) hx hb dX0_inBox_56 (by decide +kernel) ?_
      exact ci_zretR false rfl hQ hx hb hrt hlk dX0_inBox_57 (congrArg bI (Eq.symm (Bool.eq_false_iff.mpr (fun q => by have := inb_iff.mp q; omega))))
    · refine lv_aload_n hx hb dX0_inBox_26 rfl (lv_at hl 0 rfl) ?_
      refine cx_get 10 hx hb hts hown hK hP (by decide) (hts _ q43) rfl dX0_inBox_27 ?_
      refine lv_aload_n hx hb dX0_inBox_30 rfl (lv_at hl 0 rfl) ?_
      refine cx_get 2 hx hb hts hown hK hP (by decide) (hts _ q35) rfl dX0_inBox_31 ?_
      refine lv_iload_n hx hb dX0_inBox_34 rfl (lv_at hl 1 rfl) ?_
      refine ci_iald hx hb hK hP 3 2 rfl rfl (by omega) (by decide) dX0_inBox_35 ?_
      refine ci_icmp_gt (tgt := 56) hx hb dX0_inBox_36 (by decide) (by omega) (by omega) (fun c36 => ?_) (fun c36 => ?_)
      · refine lv_iconst (v := (nI 0)) hx hb dX0_inBox_56 (by decide +kernel) ?_
        exact ci_zretR false rfl hQ hx hb hrt hlk dX0_inBox_57 (congrArg bI (Eq.symm (Bool.eq_false_iff.mpr (fun q => by have := inb_iff.mp q; omega))))
      · refine lv_aload_n hx hb dX0_inBox_39 rfl (lv_at hl 0 rfl) ?_
        refine cx_get 2 hx hb hts hown hK hP (by decide) (hts _ q35) rfl dX0_inBox_40 ?_
        refine lv_iload_n hx hb dX0_inBox_43 rfl (lv_at hl 1 rfl) ?_
        refine ci_iald hx hb hK hP 3 2 rfl rfl (by omega) (by decide) dX0_inBox_44 ?_
        refine lv_aload_n hx hb dX0_inBox_45 rfl (lv_at hl 0 rfl) ?_
        refine cx_get 11 hx hb hts hown hK hP (by decide) (hts _ q44) rfl dX0_inBox_46 ?_
        refine ci_icmp_gt (tgt := 56) hx hb dX0_inBox_49 (by decide) (by omega) (by omega) (fun c49 => ?_) (fun c49 => ?_)
        · refine lv_iconst (v := (nI 0)) hx hb dX0_inBox_56 (by decide +kernel) ?_
          exact ci_zretR false rfl hQ hx hb hrt hlk dX0_inBox_57 (congrArg bI (Eq.symm (Bool.eq_false_iff.mpr (fun q => by have := inb_iff.mp q; omega))))
        · refine lv_iconst (v := (nI 1)) hx hb dX0_inBox_52 (by decide +kernel) ?_
          refine lv_goto (tgt := 57) hx hb dX0_inBox_53 (by decide) ?_
          exact ci_zretR true rfl hQ hx hb hrt hlk dX0_inBox_57 (by rw [inb_iff.mpr ⟨by omega, by omega, by omega, by omega⟩])

/-- distanceTo(x, y, point) -/
abbrev rm_X0_distanceTo : Room := { frames := 0, cells := 0, slots := 0, locals := 0 }
set_option maxHeartbeats 8000000 in
set_option maxRecDepth 100000 in
theorem met_X0_distanceTo (l : Launch) (D : va_G) (g : Nat → Nat) (d : Nat → ClassId) (u : Nat → Bool) (px py : Nat → Nat) (lb : Nat → Int32) (n : Nat) (k : Nat → Nat) (le mo x0 x1 y0 y1 fo : Nat) (ins : Nat → Nat) (x y pt : Nat) (hpt : pt < 40) : Met l yX0_distanceTo (ws_ yX0_distanceTo cX0_distanceTo 6 (some .int)) rm_X0_distanceTo (ci_R D (wX g d u px py lb n k le mo x0 x1 y0 y1 fo ins) (tX d) [.ref (g 0), .int (nI x), .int (nI y), .int (nI pt)]) (vp_Si (fun r => r = nI (ds x y (px pt) (py pt)))) 0 0 (fun _ => False) := by
  refine ci_of (by decide) (Nat.le_of_ble_eq_true rfl) ?_
  intro p e s m args below meth c Q0 hx hb hrt hml hown hts hlk hmn hQ hP hK ls hl
  have hown : s.vm.findClass RX0 = some m.cls := hown
  have hl : lv_has ls 6 [(0, .ref (g 0)), (1, .int (nI x)), (2, .int (nI y)), (3, .int (nI pt))] := hl
  refine lv_aload_n hx hb dX0_distanceTo_0 rfl (lv_at hl 0 rfl) ?_
  refine cx_get 1 hx hb hts hown hK hP (by decide) (hts _ q34) rfl dX0_distanceTo_1 ?_
  refine lv_iload_n hx hb dX0_distanceTo_4 rfl (lv_at hl 3 rfl) ?_
  refine ci_iald hx hb hK hP 2 1 rfl rfl (by omega) (by decide) dX0_distanceTo_5 ?_
  refine lv_iload_n hx hb dX0_distanceTo_6 rfl (lv_at hl 1 rfl) ?_
  refine lv_isub hx hb dX0_distanceTo_7 ?_
  refine lv_istore (lv' := [(4, .int ((nI (px pt)) - (nI x))), (0, .ref (g 0)), (1, .int (nI x)), (2, .int (nI y)), (3, .int (nI pt))]) hx hb dX0_distanceTo_8 hl (by decide) rfl (fun ls hl => ?_)
  refine lv_aload_n hx hb dX0_distanceTo_10 rfl (lv_at hl 1 rfl) ?_
  refine cx_get 2 hx hb hts hown hK hP (by decide) (hts _ q35) rfl dX0_distanceTo_11 ?_
  refine lv_iload_n hx hb dX0_distanceTo_14 rfl (lv_at hl 4 rfl) ?_
  refine ci_iald hx hb hK hP 3 2 rfl rfl (by omega) (by decide) dX0_distanceTo_15 ?_
  refine lv_iload_n hx hb dX0_distanceTo_16 rfl (lv_at hl 3 rfl) ?_
  refine lv_isub hx hb dX0_distanceTo_17 ?_
  refine lv_istore (lv' := [(5, .int ((nI (py pt)) - (nI y))), (4, .int ((nI (px pt)) - (nI x))), (0, .ref (g 0)), (1, .int (nI x)), (2, .int (nI y)), (3, .int (nI pt))]) hx hb dX0_distanceTo_18 hl (by decide) rfl (fun ls hl => ?_)
  refine lv_iload hx hb dX0_distanceTo_20 (lv_at hl 1 rfl) ?_
  refine lv_iload hx hb dX0_distanceTo_22 (lv_at hl 1 rfl) ?_
  refine lv_imul hx hb dX0_distanceTo_24 ?_
  refine lv_iload hx hb dX0_distanceTo_25 (lv_at hl 0 rfl) ?_
  refine lv_iload hx hb dX0_distanceTo_27 (lv_at hl 0 rfl) ?_
  refine lv_imul hx hb dX0_distanceTo_29 ?_
  refine lv_iadd hx hb dX0_distanceTo_30 ?_
  exact ci_iretR hQ hx hb hrt hlk dX0_distanceTo_31 (by rw [sq_I, sq_I, nI_add]; rfl)

/-- rootOf(distance) -/
abbrev rm_X0_rootOf : Room := { frames := 0, cells := 0, slots := 0, locals := 0 }
set_option maxHeartbeats 8000000 in
set_option maxRecDepth 100000 in
theorem met_X0_rootOf (l : Launch) (dd : Nat) (hdd : dd < 2147483648) : Met l yX0_rootOf (ws_ yX0_rootOf cX0_rootOf 2 (some .int)) rm_X0_rootOf (ci_Rs [.int (nI dd)]) (vp_Si (fun r => ∃ a, r = nI a ∧ a ≤ 90 ∧ (a = 90 ∨ dd < (a + 1) * (a + 1)))) 0 0 (fun _ => False) := by
  refine ci_ofS (by decide) (Nat.le_of_ble_eq_true rfl) ?_
  intro p e s m args below meth c Q0 hx hb hrt hml hown hts hlk hQ ls hl
  have hown : s.vm.findClass RX0 = some m.cls := hown
  have hl : lv_has ls 2 [(0, .int (nI dd))] := hl
  refine lv_iconst (v := (nI 0)) hx hb dX0_rootOf_0 (by decide +kernel) ?_
  refine lv_istore_n (lv' := [(1, .int (nI 0)), (0, .int (nI dd))]) hx hb dX0_rootOf_1 rfl hl (by decide) rfl (fun ls hl => ?_)
  have lp : ∀ (f : Nat) (q : Nat), (90 - q < f) → (q ≤ 90) → ∀ ls : Array Slot, lv_has ls 2 [(0, .int (nI dd)), (1, .int (nI q))] → W p l e rm_X0_rootOf s m args below meth c s.heap [] 0 0 Q0 (F0 m 2 ls []) := by
    intro f
    induction f with
    | zero => intro q hf; exact absurd hf (Nat.not_lt_zero _)
    | succ f ih =>
      intro q hf hq  ls hl
      refine lv_iload_n hx hb dX0_rootOf_2 rfl (lv_at hl 1 rfl) ?_
      refine lv_bipush (v := (nI 90)) hx hb dX0_rootOf_3 (by decide +kernel) ?_
      refine ci_icmp_ge (tgt := 25) hx hb dX0_rootOf_5 (by decide) (by omega) (by omega) (fun c5 => ?_) (fun c5 => ?_)
      · refine lv_iload_n hx hb dX0_rootOf_25 rfl (lv_at hl 1 rfl) ?_
        exact ci_iretR hQ hx hb hrt hlk dX0_rootOf_26 ⟨q, rfl, hq, by first | exact Or.inr c16 | (left; omega)⟩
      · refine lv_iload_n hx hb dX0_rootOf_8 rfl (lv_at hl 1 rfl) ?_
        refine lv_iconst (v := (nI 1)) hx hb dX0_rootOf_9 (by decide +kernel) ?_
        refine ci_iadd hx hb dX0_rootOf_10 ?_
        refine lv_iload_n hx hb dX0_rootOf_11 rfl (lv_at hl 1 rfl) ?_
        refine lv_iconst (v := (nI 1)) hx hb dX0_rootOf_12 (by decide +kernel) ?_
        refine ci_iadd hx hb dX0_rootOf_13 ?_
        refine ci_imul hx hb dX0_rootOf_14 ?_
        refine lv_iload_n hx hb dX0_rootOf_15 rfl (lv_at hl 0 rfl) ?_
        refine ci_icmp_gt (tgt := 25) hx hb dX0_rootOf_16 (by decide) (Nat.lt_of_le_of_lt (Nat.mul_le_mul (show q + 1 ≤ 90 by omega) (show q + 1 ≤ 90 by omega)) (by decide)) hdd (fun c16 => ?_) (fun c16 => ?_)
        · refine lv_iload_n hx hb dX0_rootOf_25 rfl (lv_at hl 1 rfl) ?_
          exact ci_iretR hQ hx hb hrt hlk dX0_rootOf_26 ⟨q, rfl, hq, by first | exact Or.inr c16 | (left; omega)⟩
        · refine lv_iinc (v := (nI (q + 1))) (lv' := [(1, .int (nI (q + 1))), (0, .int (nI dd))]) hx hb dX0_rootOf_19 hl (k := 1) rfl (ci_inc _) (by decide) rfl (fun ls hl => ?_)
          refine lv_goto (tgt := 2) hx hb dX0_rootOf_22 (by decide) ?_
          exact ih (q + 1) (by omega) (by omega) ls (lv_sub hl [1, 0] rfl)
  exact lp 91 0 (by omega) (by omega) ls (lv_sub hl [1, 0] rfl)

/-- count() -/
abbrev rm_X0_count : Room := { frames := 0, cells := 0, slots := 0, locals := 0 }
set_option maxHeartbeats 8000000 in
set_option maxRecDepth 100000 in
theorem met_X0_count (l : Launch) (D : va_G) (g : Nat → Nat) (d : Nat → ClassId) (u : Nat → Bool) (px py : Nat → Nat) (lb : Nat → Int32) (n : Nat) (k : Nat → Nat) (le mo x0 x1 y0 y1 fo : Nat) (ins : Nat → Nat)   : Met l yX0_count (ws_ yX0_count cX0_count 1 (some .int)) rm_X0_count (ci_R D (wX g d u px py lb n k le mo x0 x1 y0 y1 fo ins) (tX d) [.ref (g 0)]) (vp_Si (fun r => r = nI n)) 0 0 (fun _ => False) := by
  refine ci_of (by decide) (Nat.le_of_ble_eq_true rfl) ?_
  intro p e s m args below meth c Q0 hx hb hrt hml hown hts hlk hmn hQ hP hK ls hl
  have hown : s.vm.findClass RX0 = some m.cls := hown
  have hl : lv_has ls 1 [(0, .ref (g 0))] := hl
  refine lv_aload_n hx hb dX0_count_0 rfl (lv_at hl 0 rfl) ?_
  refine cx_get 4 hx hb hts hown hK hP (by decide) (hts _ q37) rfl dX0_count_1 ?_
  exact ci_iretR hQ hx hb hrt hlk dX0_count_4 rfl
end
section
/-- nextInside(z) -/
abbrev rm_X0_nextInside : Room := { frames := 1, cells := 0, slots := 0, locals := 22 }
set_option maxHeartbeats 8000000 in
set_option maxRecDepth 100000 in
theorem met_X0_nextInside (l : Launch) (D : va_G) (g : Nat → Nat) (d : Nat → ClassId) (u : Nat → Bool) (px py : Nat → Nat) (lb : Nat → Int32) (n : Nat) (k : Nat → Nat) (le mo x0 x1 y0 y1 fo : Nat) (ins : Nat → Nat) (zx zy : Nat) (hzx : zx < 64) (hzy : zy < 64) (h01 : x0 ≤ x1) (hx1 : x1 < 64) (h23 : y0 ≤ y1) (hy1 : y1 < 64) (hle : le = il x0 y0) (hmo : mo = il x1 y1) : Met l yX0_nextInside (ws_ yX0_nextInside cX0_nextInside 10 (some .int)) rm_X0_nextInside (ci_R D (wX g d u px py lb n k le mo x0 x1 y0 y1 fo ins) (tX d) [.ref (g 0), .int (nI (il zx zy))]) (vp_Si (fun r => ∃ a, r = nI a ∧ NX x0 x1 y0 y1 (il zx zy) a)) 0 0 (fun _ => False) := by
  refine ci_of (by decide) (Nat.le_of_ble_eq_true rfl) ?_
  intro p e s m args below meth c Q0 hx hb hrt hml hown hts hlk hmn hQ hP hK ls hl
  have hown : s.vm.findClass RX0 = some m.cls := hown
  have hl : lv_has ls 10 [(0, .ref (g 0)), (1, .int (nI (il zx zy)))] := hl
  refine lv_aload_n hx hb dX0_nextInside_0 rfl (lv_at hl 0 rfl) ?_
  refine cx_get 6 hx hb hts hown hK hP (by decide) (hts _ q39) rfl dX0_nextInside_1 ?_
  refine lv_istore_n (lv' := [(2, .int (nI le)), (0, .ref (g 0)), (1, .int (nI (il zx zy)))]) hx hb dX0_nextInside_4 rfl hl (by decide) rfl (fun ls hl => ?_)
  refine lv_aload_n hx hb dX0_nextInside_5 rfl (lv_at hl 1 rfl) ?_
  refine cx_get 7 hx hb hts hown hK hP (by decide) (hts _ q40) rfl dX0_nextInside_6 ?_
  refine lv_istore_n (lv' := [(3, .int (nI mo)), (2, .int (nI le)), (0, .ref (g 0)), (1, .int (nI (il zx zy)))]) hx hb dX0_nextInside_9 rfl hl (by decide) rfl (fun ls hl => ?_)
  refine lv_sipush (v := (nI 4096)) hx hb dX0_nextInside_10 (by decide +kernel) ?_
  refine lv_istore (lv' := [(4, .int (nI 4096)), (3, .int (nI mo)), (2, .int (nI le)), (0, .ref (g 0)), (1, .int (nI (il zx zy)))]) hx hb dX0_nextInside_13 hl (by decide) rfl (fun ls hl => ?_)
  refine lv_bipush (v := (nI 11)) hx hb dX0_nextInside_15 (by decide +kernel) ?_
  refine lv_istore (lv' := [(5, .int (nI 11)), (4, .int (nI 4096)), (3, .int (nI mo)), (2, .int (nI le)), (0, .ref (g 0)), (1, .int (nI (il zx zy)))]) hx hb dX0_nextInside_17 hl (by decide) rfl (fun ls hl => ?_)
  have lp : ∀ (b lx ly hhx hhy a : Nat) (bb : Int32), bb = nI b - nI 1 → b ≤ 12 → BI x0 x1 y0 y1 zx zy b lx ly hhx hhy a → ∀ ls : Array Slot, lv_has ls 10 [(0, .ref (g 0)), (1, .int (nI (il zx zy))), (2, .int (nI (il lx ly))), (3, .int (nI (il hhx hhy))), (4, .int (nI a)), (5, .int bb)] → W p l e rm_X0_nextInside s m args below meth c s.heap [] 0 0 Q0 (F0 m 19 ls []) := by
    intro b
    induction b with
    | zero =>
      intro lx ly hhx hhy a bb hbb hb12 hB ls hl
      refine lv_iload hx hb dX0_nextInside_19 (lv_at hl 5 rfl) ?_
      refine lv_if_lt (tgt := 147) hx hb dX0_nextInside_21 (by decide) (fun c21 => ?_) (fun c21 => ?_)
      · refine lv_iload hx hb dX0_nextInside_147 (lv_at hl 4 rfl) ?_
        exact ci_iretR hQ hx hb hrt hlk dX0_nextInside_149 ⟨a, rfl, BI_end hB⟩
      · exact absurd (by rw [hbb]; decide +kernel) c21
    | succ b ih =>
      intro lx ly hhx hhy a bb hbb hb12 hB ls hl
      rw [show bb = nI b by rw [hbb]; exact nI_pred b] at hl
      obtain ⟨k1, k2, k3, k4⟩ := cL_lt hB
      have z1 : il zx zy < 4096 := il_lt
      have z2 : il lx ly < 4096 := il_lt
      have z3 : il hhx hhy < 4096 := il_lt
      have hb11 : b < 12 := by omega
      obtain ⟨oz, hoz⟩ : ∃ o, o = il zx zy / 2 ^ b % 2 := ⟨_, rfl⟩
      obtain ⟨ol, hol⟩ : ∃ o, o = il lx ly / 2 ^ b % 2 := ⟨_, rfl⟩
      obtain ⟨oh, hoh⟩ : ∃ o, o = il hhx hhy / 2 ^ b % 2 := ⟨_, rfl⟩
      have oz2 : oz < 2 := by omega
      have ol2 : ol < 2 := by omega
      have oh2 : oh < 2 := by omega
      refine lv_iload hx hb dX0_nextInside_19 (lv_at hl 5 rfl) ?_
      refine ci_ifn_lt (tgt := 147) hx hb dX0_nextInside_21 (by decide) (by omega) ?_
      refine lv_iload_n hx hb dX0_nextInside_24 rfl (lv_at hl 1 rfl) ?_
      refine lv_iload hx hb dX0_nextInside_25 (lv_at hl 5 rfl) ?_
      refine ci_ishr hx hb dX0_nextInside_27 (by omega) (by omega) ?_
      refine lv_iconst (v := (nI 1)) hx hb dX0_nextInside_28 (by decide +kernel) ?_
      refine ci_and1 hx hb dX0_nextInside_29 ?_
      refine ci_top hoz.symm ?_
      refine lv_istore (lv' := [(6, .int (nI oz)), (0, .ref (g 0)), (1, .int (nI (il zx zy))), (2, .int (nI (il lx ly))), (3, .int (nI (il hhx hhy))), (4, .int (nI a)), (5, .int (nI b))]) hx hb dX0_nextInside_30 hl (by decide) rfl (fun ls hl => ?_)
      refine lv_iload_n hx hb dX0_nextInside_32 rfl (lv_at hl 3 rfl) ?_
      refine lv_iload hx hb dX0_nextInside_33 (lv_at hl 6 rfl) ?_
      refine ci_ishr hx hb dX0_nextInside_35 (by omega) (by omega) ?_
      refine lv_iconst (v := (nI 1)) hx hb dX0_nextInside_36 (by decide +kernel) ?_
      refine ci_and1 hx hb dX0_nextInside_37 ?_
      refine ci_top hol.symm ?_
      refine lv_istore (lv' := [(7, .int (nI ol)), (6, .int (nI oz)), (0, .ref (g 0)), (1, .int (nI (il zx zy))), (2, .int (nI (il lx ly))), (3, .int (nI (il hhx hhy))), (4, .int (nI a)), (5, .int (nI b))]) hx hb dX0_nextInside_38 hl (by decide) rfl (fun ls hl => ?_)
      refine lv_iload_n hx hb dX0_nextInside_40 rfl (lv_at hl 5 rfl) ?_
      refine lv_iload hx hb dX0_nextInside_41 (lv_at hl 7 rfl) ?_
      refine ci_ishr hx hb dX0_nextInside_43 (by omega) (by omega) ?_
      refine lv_iconst (v := (nI 1)) hx hb dX0_nextInside_44 (by decide +kernel) ?_
      refine ci_and1 hx hb dX0_nextInside_45 ?_
      refine ci_top hoh.symm ?_
      refine lv_istore (lv' := [(8, .int (nI oh)), (7, .int (nI ol)), (6, .int (nI oz)), (0, .ref (g 0)), (1, .int (nI (il zx zy))), (2, .int (nI (il lx ly))), (3, .int (nI (il hhx hhy))), (4, .int (nI a)), (5, .int (nI b))]) hx hb dX0_nextInside_46 hl (by decide) rfl (fun ls hl => ?_)
      refine lv_iload hx hb dX0_nextInside_48 (lv_at hl 8 rfl) ?_
      refine vp_callSi (W.runS (As := [.int (nI b)]) (rest := []) ⟨hx, hb, hml, hown, hts⟩ (met_X0_lowerBits l b hb11) (va_cwS 1 hts (lw_S q144 q145 q23 q146) rfl rfl rfl (by decide +kernel) ⟨Nat.le_of_ble_eq_true rfl, Nat.le_of_ble_eq_true rfl⟩) ci_preS rfl rfl hl.1 rfl (lv_room (Nat.le_of_ble_eq_true rfl)) dX0_nextInside_50 ⟨Nat.le_of_ble_eq_true rfl, Nat.le_of_ble_eq_true rfl⟩) (fun r hr => ?_)
      subst hr
      refine lv_istore (lv' := [(9, .int (nI (lwf b))), (8, .int (nI oh)), (7, .int (nI ol)), (6, .int (nI oz)), (0, .ref (g 0)), (1, .int (nI (il zx zy))), (2, .int (nI (il lx ly))), (3, .int (nI (il hhx hhy))), (4, .int (nI a)), (5, .int (nI b))]) hx hb dX0_nextInside_53 hl (by decide) rfl (fun ls hl => ?_)
      refine lv_iload hx hb dX0_nextInside_55 (lv_at hl 3 rfl) ?_
      refine ci_ifn_ne (tgt := 68) hx hb dX0_nextInside_57 (by decide) (by omega) (fun c57 => ?_) (fun c57 => ?_)
      · refine lv_iload hx hb dX0_nextInside_68 (lv_at hl 3 rfl) ?_
        refine lv_iconst (v := (nI 1)) hx hb dX0_nextInside_70 (by decide +kernel) ?_
        refine ci_icmp_ne (tgt := 82) hx hb dX0_nextInside_71 (by decide) (by omega) (by omega) (fun c71 => ?_) (fun c71 => ?_)
        · refine lv_iload hx hb dX0_nextInside_82 (lv_at hl 2 rfl) ?_
          refine lv_iload hx hb dX0_nextInside_84 (lv_at hl 1 rfl) ?_
          refine ci_icmp_eq (tgt := 122) hx hb dX0_nextInside_86 (by decide) (by omega) (by omega) (fun c86 => ?_) (fun c86 => ?_)
          · refine lv_iload hx hb dX0_nextInside_122 (lv_at hl 2 rfl) ?_
            refine lv_iload hx hb dX0_nextInside_124 (lv_at hl 1 rfl) ?_
            refine ci_icmp_eq (tgt := 141) hx hb dX0_nextInside_126 (by decide) (by omega) (by omega) (fun c126 => ?_) (fun c126 => ?_)
            · refine lv_iinc (v := ((nI b) + Int32.ofInt (-1))) (lv' := [(5, .int ((nI b) + Int32.ofInt (-1))), (9, .int (nI (lwf b))), (8, .int (nI oh)), (7, .int (nI ol)), (6, .int (nI oz)), (0, .ref (g 0)), (1, .int (nI (il zx zy))), (2, .int (nI (il lx ly))), (3, .int (nI (il hhx hhy))), (4, .int (nI a))]) hx hb dX0_nextInside_141 hl (k := 9) rfl rfl (by decide) rfl (fun ls hl => ?_)
              refine lv_goto (tgt := 19) hx hb dX0_nextInside_144 (by decide) ?_
              exact ih _ _ _ _ _ _ (show nI b + Int32.ofInt (-1) = nI b - nI 1 by rw [show Int32.ofInt (-1) = -nI 1 by decide +kernel]; grind) (by omega) (BI_same hB (by omega) (by omega)) ls (lv_sub hl [5, 6, 7, 8, 9, 0] rfl)
            · refine lv_iload_n hx hb dX0_nextInside_129 rfl (lv_at hl 6 rfl) ?_
              refine lv_iload hx hb dX0_nextInside_130 (lv_at hl 0 rfl) ?_
              refine lv_iconst (v := (nI 4294967295)) hx hb dX0_nextInside_132 (by decide +kernel) ?_
              refine ci_ixor hx hb dX0_nextInside_133 ?_
              refine ci_iand hx hb dX0_nextInside_134 ?_
              refine lv_iconst (v := (nI 1)) hx hb dX0_nextInside_135 (by decide +kernel) ?_
              refine lv_iload hx hb dX0_nextInside_136 (lv_at hl 9 rfl) ?_
              refine ci_ishl hx hb dX0_nextInside_138 (by omega) ?_
              refine ci_ior hx hb dX0_nextInside_139 ?_
              refine ci_top (cutL_e hb11 k1 k2) ?_
              refine lv_istore_n (lv' := [(2, .int (nI (il (cLx b lx) (cLy b ly)))), (9, .int (nI (lwf b))), (8, .int (nI oh)), (7, .int (nI ol)), (6, .int (nI oz)), (0, .ref (g 0)), (1, .int (nI (il zx zy))), (3, .int (nI (il hhx hhy))), (4, .int (nI a)), (5, .int (nI b))]) hx hb dX0_nextInside_140 rfl hl (by decide) rfl (fun ls hl => ?_)
              refine lv_iinc (v := ((nI b) + Int32.ofInt (-1))) (lv' := [(5, .int ((nI b) + Int32.ofInt (-1))), (2, .int (nI (il (cLx b lx) (cLy b ly)))), (9, .int (nI (lwf b))), (8, .int (nI oh)), (7, .int (nI ol)), (6, .int (nI oz)), (0, .ref (g 0)), (1, .int (nI (il zx zy))), (3, .int (nI (il hhx hhy))), (4, .int (nI a))]) hx hb dX0_nextInside_141 hl (k := 9) rfl rfl (by decide) rfl (fun ls hl => ?_)
              refine lv_goto (tgt := 19) hx hb dX0_nextInside_144 (by decide) ?_
              exact ih _ _ _ _ _ _ (show nI b + Int32.ofInt (-1) = nI b - nI 1 by rw [show Int32.ofInt (-1) = -nI 1 by decide +kernel]; grind) (by omega) (BI_upper hb11 hzx hzy hB (by omega) (by omega) (by omega)) ls (lv_sub hl [6, 7, 1, 8, 9, 0] rfl)
          · refine lv_iload hx hb dX0_nextInside_89 (lv_at hl 3 rfl) ?_
            refine ci_ifn_ne (tgt := 122) hx hb dX0_nextInside_91 (by decide) (by omega) (fun c91 => ?_) (fun c91 => ?_)
            · refine lv_iload hx hb dX0_nextInside_122 (lv_at hl 2 rfl) ?_
              refine lv_iload hx hb dX0_nextInside_124 (lv_at hl 1 rfl) ?_
              refine ci_icmp_eq (tgt := 141) hx hb dX0_nextInside_126 (by decide) (by omega) (by omega) (fun c126 => ?_) (fun c126 => ?_)
              · refine lv_iinc (v := ((nI b) + Int32.ofInt (-1))) (lv' := [(5, .int ((nI b) + Int32.ofInt (-1))), (9, .int (nI (lwf b))), (8, .int (nI oh)), (7, .int (nI ol)), (6, .int (nI oz)), (0, .ref (g 0)), (1, .int (nI (il zx zy))), (2, .int (nI (il lx ly))), (3, .int (nI (il hhx hhy))), (4, .int (nI a))]) hx hb dX0_nextInside_141 hl (k := 9) rfl rfl (by decide) rfl (fun ls hl => ?_)
                refine lv_goto (tgt := 19) hx hb dX0_nextInside_144 (by decide) ?_
                exact ih _ _ _ _ _ _ (show nI b + Int32.ofInt (-1) = nI b - nI 1 by rw [show Int32.ofInt (-1) = -nI 1 by decide +kernel]; grind) (by omega) (BI_same hB (by omega) (by omega)) ls (lv_sub hl [5, 6, 7, 8, 9, 0] rfl)
              · refine lv_iload_n hx hb dX0_nextInside_129 rfl (lv_at hl 6 rfl) ?_
                refine lv_iload hx hb dX0_nextInside_130 (lv_at hl 0 rfl) ?_
                refine lv_iconst (v := (nI 4294967295)) hx hb dX0_nextInside_132 (by decide +kernel) ?_
                refine ci_ixor hx hb dX0_nextInside_133 ?_
                refine ci_iand hx hb dX0_nextInside_134 ?_
                refine lv_iconst (v := (nI 1)) hx hb dX0_nextInside_135 (by decide +kernel) ?_
                refine lv_iload hx hb dX0_nextInside_136 (lv_at hl 9 rfl) ?_
                refine ci_ishl hx hb dX0_nextInside_138 (by omega) ?_
                refine ci_ior hx hb dX0_nextInside_139 ?_
                refine ci_top (cutL_e hb11 k1 k2) ?_
                refine lv_istore_n (lv' := [(2, .int (nI (il (cLx b lx) (cLy b ly)))), (9, .int (nI (lwf b))), (8, .int (nI oh)), (7, .int (nI ol)), (6, .int (nI oz)), (0, .ref (g 0)), (1, .int (nI (il zx zy))), (3, .int (nI (il hhx hhy))), (4, .int (nI a)), (5, .int (nI b))]) hx hb dX0_nextInside_140 rfl hl (by decide) rfl (fun ls hl => ?_)
                refine lv_iinc (v := ((nI b) + Int32.ofInt (-1))) (lv' := [(5, .int ((nI b) + Int32.ofInt (-1))), (2, .int (nI (il (cLx b lx) (cLy b ly)))), (9, .int (nI (lwf b))), (8, .int (nI oh)), (7, .int (nI ol)), (6, .int (nI oz)), (0, .ref (g 0)), (1, .int (nI (il zx zy))), (3, .int (nI (il hhx hhy))), (4, .int (nI a))]) hx hb dX0_nextInside_141 hl (k := 9) rfl rfl (by decide) rfl (fun ls hl => ?_)
                refine lv_goto (tgt := 19) hx hb dX0_nextInside_144 (by decide) ?_
                exact ih _ _ _ _ _ _ (show nI b + Int32.ofInt (-1) = nI b - nI 1 by rw [show Int32.ofInt (-1) = -nI 1 by decide +kernel]; grind) (by omega) (BI_upper hb11 hzx hzy hB (by omega) (by omega) (by omega)) ls (lv_sub hl [6, 7, 1, 8, 9, 0] rfl)
            · refine lv_iload_n hx hb dX0_nextInside_94 rfl (lv_at hl 6 rfl) ?_
              refine lv_iload hx hb dX0_nextInside_95 (lv_at hl 0 rfl) ?_
              refine lv_iconst (v := (nI 4294967295)) hx hb dX0_nextInside_97 (by decide +kernel) ?_
              refine ci_ixor hx hb dX0_nextInside_98 ?_
              refine ci_iand hx hb dX0_nextInside_99 ?_
              refine lv_iconst (v := (nI 1)) hx hb dX0_nextInside_100 (by decide +kernel) ?_
              refine lv_iload hx hb dX0_nextInside_101 (lv_at hl 9 rfl) ?_
              refine ci_ishl hx hb dX0_nextInside_103 (by omega) ?_
              refine ci_ior hx hb dX0_nextInside_104 ?_
              refine ci_top (cutL_e hb11 k1 k2) ?_
              refine lv_istore (lv' := [(4, .int (nI (il (cLx b lx) (cLy b ly)))), (9, .int (nI (lwf b))), (8, .int (nI oh)), (7, .int (nI ol)), (6, .int (nI oz)), (0, .ref (g 0)), (1, .int (nI (il zx zy))), (2, .int (nI (il lx ly))), (3, .int (nI (il hhx hhy))), (5, .int (nI b))]) hx hb dX0_nextInside_105 hl (by decide) rfl (fun ls hl => ?_)
              refine lv_iload_n hx hb dX0_nextInside_107 rfl (lv_at hl 8 rfl) ?_
              refine lv_iconst (v := (nI 1)) hx hb dX0_nextInside_108 (by decide +kernel) ?_
              refine lv_iload hx hb dX0_nextInside_109 (lv_at hl 9 rfl) ?_
              refine ci_ishl hx hb dX0_nextInside_111 (by omega) ?_
              refine lv_iconst (v := (nI 4294967295)) hx hb dX0_nextInside_112 (by decide +kernel) ?_
              refine ci_ixor hx hb dX0_nextInside_113 ?_
              refine ci_iand hx hb dX0_nextInside_114 ?_
              refine lv_iload hx hb dX0_nextInside_115 (lv_at hl 1 rfl) ?_
              refine ci_ior hx hb dX0_nextInside_117 ?_
              refine ci_top (cutH_e hb11 k3 k4) ?_
              refine lv_istore_n (lv' := [(3, .int (nI (il (cHx b hhx) (cHy b hhy)))), (4, .int (nI (il (cLx b lx) (cLy b ly)))), (9, .int (nI (lwf b))), (8, .int (nI oh)), (7, .int (nI ol)), (6, .int (nI oz)), (0, .ref (g 0)), (1, .int (nI (il zx zy))), (2, .int (nI (il lx ly))), (5, .int (nI b))]) hx hb dX0_nextInside_118 rfl hl (by decide) rfl (fun ls hl => ?_)
              refine lv_goto (tgt := 141) hx hb dX0_nextInside_119 (by decide) ?_
              refine lv_iinc (v := ((nI b) + Int32.ofInt (-1))) (lv' := [(5, .int ((nI b) + Int32.ofInt (-1))), (3, .int (nI (il (cHx b hhx) (cHy b hhy)))), (4, .int (nI (il (cLx b lx) (cLy b ly)))), (9, .int (nI (lwf b))), (8, .int (nI oh)), (7, .int (nI ol)), (6, .int (nI oz)), (0, .ref (g 0)), (1, .int (nI (il zx zy))), (2, .int (nI (il lx ly)))]) hx hb dX0_nextInside_141 hl (k := 9) rfl rfl (by decide) rfl (fun ls hl => ?_)
              refine lv_goto (tgt := 19) hx hb dX0_nextInside_144 (by decide) ?_
              exact ih _ _ _ _ _ _ (show nI b + Int32.ofInt (-1) = nI b - nI 1 by rw [show Int32.ofInt (-1) = -nI 1 by decide +kernel]; grind) (by omega) (BI_lower hb11 hzx hzy hB (by omega) (by omega) (by omega)) ls (lv_sub hl [7, 8, 9, 1, 2, 0] rfl)
        · refine lv_iload hx hb dX0_nextInside_74 (lv_at hl 1 rfl) ?_
          refine ci_ifn_ne (tgt := 82) hx hb dX0_nextInside_76 (by decide) (by omega) (fun c76 => ?_) (fun c76 => ?_)
          · refine lv_iload hx hb dX0_nextInside_82 (lv_at hl 2 rfl) ?_
            refine lv_iload hx hb dX0_nextInside_84 (lv_at hl 1 rfl) ?_
            refine ci_icmp_eq (tgt := 122) hx hb dX0_nextInside_86 (by decide) (by omega) (by omega) (fun c86 => ?_) (fun c86 => ?_)
            · refine lv_iload hx hb dX0_nextInside_122 (lv_at hl 2 rfl) ?_
              refine lv_iload hx hb dX0_nextInside_124 (lv_at hl 1 rfl) ?_
              refine ci_icmp_eq (tgt := 141) hx hb dX0_nextInside_126 (by decide) (by omega) (by omega) (fun c126 => ?_) (fun c126 => ?_)
              · refine lv_iinc (v := ((nI b) + Int32.ofInt (-1))) (lv' := [(5, .int ((nI b) + Int32.ofInt (-1))), (9, .int (nI (lwf b))), (8, .int (nI oh)), (7, .int (nI ol)), (6, .int (nI oz)), (0, .ref (g 0)), (1, .int (nI (il zx zy))), (2, .int (nI (il lx ly))), (3, .int (nI (il hhx hhy))), (4, .int (nI a))]) hx hb dX0_nextInside_141 hl (k := 9) rfl rfl (by decide) rfl (fun ls hl => ?_)
                refine lv_goto (tgt := 19) hx hb dX0_nextInside_144 (by decide) ?_
                exact ih _ _ _ _ _ _ (show nI b + Int32.ofInt (-1) = nI b - nI 1 by rw [show Int32.ofInt (-1) = -nI 1 by decide +kernel]; grind) (by omega) (BI_same hB (by omega) (by omega)) ls (lv_sub hl [5, 6, 7, 8, 9, 0] rfl)
              · refine lv_iload_n hx hb dX0_nextInside_129 rfl (lv_at hl 6 rfl) ?_
                refine lv_iload hx hb dX0_nextInside_130 (lv_at hl 0 rfl) ?_
                refine lv_iconst (v := (nI 4294967295)) hx hb dX0_nextInside_132 (by decide +kernel) ?_
                refine ci_ixor hx hb dX0_nextInside_133 ?_
                refine ci_iand hx hb dX0_nextInside_134 ?_
                refine lv_iconst (v := (nI 1)) hx hb dX0_nextInside_135 (by decide +kernel) ?_
                refine lv_iload hx hb dX0_nextInside_136 (lv_at hl 9 rfl) ?_
                refine ci_ishl hx hb dX0_nextInside_138 (by omega) ?_
                refine ci_ior hx hb dX0_nextInside_139 ?_
                refine ci_top (cutL_e hb11 k1 k2) ?_
                refine lv_istore_n (lv' := [(2, .int (nI (il (cLx b lx) (cLy b ly)))), (9, .int (nI (lwf b))), (8, .int (nI oh)), (7, .int (nI ol)), (6, .int (nI oz)), (0, .ref (g 0)), (1, .int (nI (il zx zy))), (3, .int (nI (il hhx hhy))), (4, .int (nI a)), (5, .int (nI b))]) hx hb dX0_nextInside_140 rfl hl (by decide) rfl (fun ls hl => ?_)
                refine lv_iinc (v := ((nI b) + Int32.ofInt (-1))) (lv' := [(5, .int ((nI b) + Int32.ofInt (-1))), (2, .int (nI (il (cLx b lx) (cLy b ly)))), (9, .int (nI (lwf b))), (8, .int (nI oh)), (7, .int (nI ol)), (6, .int (nI oz)), (0, .ref (g 0)), (1, .int (nI (il zx zy))), (3, .int (nI (il hhx hhy))), (4, .int (nI a))]) hx hb dX0_nextInside_141 hl (k := 9) rfl rfl (by decide) rfl (fun ls hl => ?_)
                refine lv_goto (tgt := 19) hx hb dX0_nextInside_144 (by decide) ?_
                exact ih _ _ _ _ _ _ (show nI b + Int32.ofInt (-1) = nI b - nI 1 by rw [show Int32.ofInt (-1) = -nI 1 by decide +kernel]; grind) (by omega) (BI_upper hb11 hzx hzy hB (by omega) (by omega) (by omega)) ls (lv_sub hl [6, 7, 1, 8, 9, 0] rfl)
            · refine lv_iload hx hb dX0_nextInside_89 (lv_at hl 3 rfl) ?_
              refine ci_ifn_ne (tgt := 122) hx hb dX0_nextInside_91 (by decide) (by omega) (fun c91 => ?_) (fun c91 => ?_)
              · refine lv_iload hx hb dX0_nextInside_122 (lv_at hl 2 rfl) ?_
                refine lv_iload hx hb dX0_nextInside_124 (lv_at hl 1 rfl) ?_
                refine ci_icmp_eq (tgt := 141) hx hb dX0_nextInside_126 (by decide) (by omega) (by omega) (fun c126 => ?_) (fun c126 => ?_)
                · refine lv_iinc (v := ((nI b) + Int32.ofInt (-1))) (lv' := [(5, .int ((nI b) + Int32.ofInt (-1))), (9, .int (nI (lwf b))), (8, .int (nI oh)), (7, .int (nI ol)), (6, .int (nI oz)), (0, .ref (g 0)), (1, .int (nI (il zx zy))), (2, .int (nI (il lx ly))), (3, .int (nI (il hhx hhy))), (4, .int (nI a))]) hx hb dX0_nextInside_141 hl (k := 9) rfl rfl (by decide) rfl (fun ls hl => ?_)
                  refine lv_goto (tgt := 19) hx hb dX0_nextInside_144 (by decide) ?_
                  exact ih _ _ _ _ _ _ (show nI b + Int32.ofInt (-1) = nI b - nI 1 by rw [show Int32.ofInt (-1) = -nI 1 by decide +kernel]; grind) (by omega) (BI_same hB (by omega) (by omega)) ls (lv_sub hl [5, 6, 7, 8, 9, 0] rfl)
                · refine lv_iload_n hx hb dX0_nextInside_129 rfl (lv_at hl 6 rfl) ?_
                  refine lv_iload hx hb dX0_nextInside_130 (lv_at hl 0 rfl) ?_
                  refine lv_iconst (v := (nI 4294967295)) hx hb dX0_nextInside_132 (by decide +kernel) ?_
                  refine ci_ixor hx hb dX0_nextInside_133 ?_
                  refine ci_iand hx hb dX0_nextInside_134 ?_
                  refine lv_iconst (v := (nI 1)) hx hb dX0_nextInside_135 (by decide +kernel) ?_
                  refine lv_iload hx hb dX0_nextInside_136 (lv_at hl 9 rfl) ?_
                  refine ci_ishl hx hb dX0_nextInside_138 (by omega) ?_
                  refine ci_ior hx hb dX0_nextInside_139 ?_
                  refine ci_top (cutL_e hb11 k1 k2) ?_
                  refine lv_istore_n (lv' := [(2, .int (nI (il (cLx b lx) (cLy b ly)))), (9, .int (nI (lwf b))), (8, .int (nI oh)), (7, .int (nI ol)), (6, .int (nI oz)), (0, .ref (g 0)), (1, .int (nI (il zx zy))), (3, .int (nI (il hhx hhy))), (4, .int (nI a)), (5, .int (nI b))]) hx hb dX0_nextInside_140 rfl hl (by decide) rfl (fun ls hl => ?_)
                  refine lv_iinc (v := ((nI b) + Int32.ofInt (-1))) (lv' := [(5, .int ((nI b) + Int32.ofInt (-1))), (2, .int (nI (il (cLx b lx) (cLy b ly)))), (9, .int (nI (lwf b))), (8, .int (nI oh)), (7, .int (nI ol)), (6, .int (nI oz)), (0, .ref (g 0)), (1, .int (nI (il zx zy))), (3, .int (nI (il hhx hhy))), (4, .int (nI a))]) hx hb dX0_nextInside_141 hl (k := 9) rfl rfl (by decide) rfl (fun ls hl => ?_)
                  refine lv_goto (tgt := 19) hx hb dX0_nextInside_144 (by decide) ?_
                  exact ih _ _ _ _ _ _ (show nI b + Int32.ofInt (-1) = nI b - nI 1 by rw [show Int32.ofInt (-1) = -nI 1 by decide +kernel]; grind) (by omega) (BI_upper hb11 hzx hzy hB (by omega) (by omega) (by omega)) ls (lv_sub hl [6, 7, 1, 8, 9, 0] rfl)
              · refine lv_iload_n hx hb dX0_nextInside_94 rfl (lv_at hl 6 rfl) ?_
                refine lv_iload hx hb dX0_nextInside_95 (lv_at hl 0 rfl) ?_
                refine lv_iconst (v := (nI 4294967295)) hx hb dX0_nextInside_97 (by decide +kernel) ?_
                refine ci_ixor hx hb dX0_nextInside_98 ?_
                refine ci_iand hx hb dX0_nextInside_99 ?_
                refine lv_iconst (v := (nI 1)) hx hb dX0_nextInside_100 (by decide +kernel) ?_
                refine lv_iload hx hb dX0_nextInside_101 (lv_at hl 9 rfl) ?_
                refine ci_ishl hx hb dX0_nextInside_103 (by omega) ?_
                refine ci_ior hx hb dX0_nextInside_104 ?_
                refine ci_top (cutL_e hb11 k1 k2) ?_
                refine lv_istore (lv' := [(4, .int (nI (il (cLx b lx) (cLy b ly)))), (9, .int (nI (lwf b))), (8, .int (nI oh)), (7, .int (nI ol)), (6, .int (nI oz)), (0, .ref (g 0)), (1, .int (nI (il zx zy))), (2, .int (nI (il lx ly))), (3, .int (nI (il hhx hhy))), (5, .int (nI b))]) hx hb dX0_nextInside_105 hl (by decide) rfl (fun ls hl => ?_)
                refine lv_iload_n hx hb dX0_nextInside_107 rfl (lv_at hl 8 rfl) ?_
                refine lv_iconst (v := (nI 1)) hx hb dX0_nextInside_108 (by decide +kernel) ?_
                refine lv_iload hx hb dX0_nextInside_109 (lv_at hl 9 rfl) ?_
                refine ci_ishl hx hb dX0_nextInside_111 (by omega) ?_
                refine lv_iconst (v := (nI 4294967295)) hx hb dX0_nextInside_112 (by decide +kernel) ?_
                refine ci_ixor hx hb dX0_nextInside_113 ?_
                refine ci_iand hx hb dX0_nextInside_114 ?_
                refine lv_iload hx hb dX0_nextInside_115 (lv_at hl 1 rfl) ?_
                refine ci_ior hx hb dX0_nextInside_117 ?_
                refine ci_top (cutH_e hb11 k3 k4) ?_
                refine lv_istore_n (lv' := [(3, .int (nI (il (cHx b hhx) (cHy b hhy)))), (4, .int (nI (il (cLx b lx) (cLy b ly)))), (9, .int (nI (lwf b))), (8, .int (nI oh)), (7, .int (nI ol)), (6, .int (nI oz)), (0, .ref (g 0)), (1, .int (nI (il zx zy))), (2, .int (nI (il lx ly))), (5, .int (nI b))]) hx hb dX0_nextInside_118 rfl hl (by decide) rfl (fun ls hl => ?_)
                refine lv_goto (tgt := 141) hx hb dX0_nextInside_119 (by decide) ?_
                refine lv_iinc (v := ((nI b) + Int32.ofInt (-1))) (lv' := [(5, .int ((nI b) + Int32.ofInt (-1))), (3, .int (nI (il (cHx b hhx) (cHy b hhy)))), (4, .int (nI (il (cLx b lx) (cLy b ly)))), (9, .int (nI (lwf b))), (8, .int (nI oh)), (7, .int (nI ol)), (6, .int (nI oz)), (0, .ref (g 0)), (1, .int (nI (il zx zy))), (2, .int (nI (il lx ly)))]) hx hb dX0_nextInside_141 hl (k := 9) rfl rfl (by decide) rfl (fun ls hl => ?_)
                refine lv_goto (tgt := 19) hx hb dX0_nextInside_144 (by decide) ?_
                exact ih _ _ _ _ _ _ (show nI b + Int32.ofInt (-1) = nI b - nI 1 by rw [show Int32.ofInt (-1) = -nI 1 by decide +kernel]; grind) (by omega) (BI_lower hb11 hzx hzy hB (by omega) (by omega) (by omega)) ls (lv_sub hl [7, 8, 9, 1, 2, 0] rfl)
          · refine lv_iload hx hb dX0_nextInside_79 (lv_at hl 8 rfl) ?_
            exact ci_iretR hQ hx hb hrt hlk dX0_nextInside_81 ⟨a, rfl, BI_ans hB (by omega) (by omega)⟩
      · refine lv_iload hx hb dX0_nextInside_60 (lv_at hl 2 rfl) ?_
        refine lv_iconst (v := (nI 1)) hx hb dX0_nextInside_62 (by decide +kernel) ?_
        refine ci_icmp_ne (tgt := 68) hx hb dX0_nextInside_63 (by decide) (by omega) (by omega) (fun c63 => ?_) (fun c63 => ?_)
        · refine lv_iload hx hb dX0_nextInside_68 (lv_at hl 3 rfl) ?_
          refine lv_iconst (v := (nI 1)) hx hb dX0_nextInside_70 (by decide +kernel) ?_
          refine ci_icmp_ne (tgt := 82) hx hb dX0_nextInside_71 (by decide) (by omega) (by omega) (fun c71 => ?_) (fun c71 => ?_)
          · refine lv_iload hx hb dX0_nextInside_82 (lv_at hl 2 rfl) ?_
            refine lv_iload hx hb dX0_nextInside_84 (lv_at hl 1 rfl) ?_
            refine ci_icmp_eq (tgt := 122) hx hb dX0_nextInside_86 (by decide) (by omega) (by omega) (fun c86 => ?_) (fun c86 => ?_)
            · refine lv_iload hx hb dX0_nextInside_122 (lv_at hl 2 rfl) ?_
              refine lv_iload hx hb dX0_nextInside_124 (lv_at hl 1 rfl) ?_
              refine ci_icmp_eq (tgt := 141) hx hb dX0_nextInside_126 (by decide) (by omega) (by omega) (fun c126 => ?_) (fun c126 => ?_)
              · refine lv_iinc (v := ((nI b) + Int32.ofInt (-1))) (lv' := [(5, .int ((nI b) + Int32.ofInt (-1))), (9, .int (nI (lwf b))), (8, .int (nI oh)), (7, .int (nI ol)), (6, .int (nI oz)), (0, .ref (g 0)), (1, .int (nI (il zx zy))), (2, .int (nI (il lx ly))), (3, .int (nI (il hhx hhy))), (4, .int (nI a))]) hx hb dX0_nextInside_141 hl (k := 9) rfl rfl (by decide) rfl (fun ls hl => ?_)
                refine lv_goto (tgt := 19) hx hb dX0_nextInside_144 (by decide) ?_
                exact ih _ _ _ _ _ _ (show nI b + Int32.ofInt (-1) = nI b - nI 1 by rw [show Int32.ofInt (-1) = -nI 1 by decide +kernel]; grind) (by omega) (BI_same hB (by omega) (by omega)) ls (lv_sub hl [5, 6, 7, 8, 9, 0] rfl)
              · refine lv_iload_n hx hb dX0_nextInside_129 rfl (lv_at hl 6 rfl) ?_
                refine lv_iload hx hb dX0_nextInside_130 (lv_at hl 0 rfl) ?_
                refine lv_iconst (v := (nI 4294967295)) hx hb dX0_nextInside_132 (by decide +kernel) ?_
                refine ci_ixor hx hb dX0_nextInside_133 ?_
                refine ci_iand hx hb dX0_nextInside_134 ?_
                refine lv_iconst (v := (nI 1)) hx hb dX0_nextInside_135 (by decide +kernel) ?_
                refine lv_iload hx hb dX0_nextInside_136 (lv_at hl 9 rfl) ?_
                refine ci_ishl hx hb dX0_nextInside_138 (by omega) ?_
                refine ci_ior hx hb dX0_nextInside_139 ?_
                refine ci_top (cutL_e hb11 k1 k2) ?_
                refine lv_istore_n (lv' := [(2, .int (nI (il (cLx b lx) (cLy b ly)))), (9, .int (nI (lwf b))), (8, .int (nI oh)), (7, .int (nI ol)), (6, .int (nI oz)), (0, .ref (g 0)), (1, .int (nI (il zx zy))), (3, .int (nI (il hhx hhy))), (4, .int (nI a)), (5, .int (nI b))]) hx hb dX0_nextInside_140 rfl hl (by decide) rfl (fun ls hl => ?_)
                refine lv_iinc (v := ((nI b) + Int32.ofInt (-1))) (lv' := [(5, .int ((nI b) + Int32.ofInt (-1))), (2, .int (nI (il (cLx b lx) (cLy b ly)))), (9, .int (nI (lwf b))), (8, .int (nI oh)), (7, .int (nI ol)), (6, .int (nI oz)), (0, .ref (g 0)), (1, .int (nI (il zx zy))), (3, .int (nI (il hhx hhy))), (4, .int (nI a))]) hx hb dX0_nextInside_141 hl (k := 9) rfl rfl (by decide) rfl (fun ls hl => ?_)
                refine lv_goto (tgt := 19) hx hb dX0_nextInside_144 (by decide) ?_
                exact ih _ _ _ _ _ _ (show nI b + Int32.ofInt (-1) = nI b - nI 1 by rw [show Int32.ofInt (-1) = -nI 1 by decide +kernel]; grind) (by omega) (BI_upper hb11 hzx hzy hB (by omega) (by omega) (by omega)) ls (lv_sub hl [6, 7, 1, 8, 9, 0] rfl)
            · refine lv_iload hx hb dX0_nextInside_89 (lv_at hl 3 rfl) ?_
              refine ci_ifn_ne (tgt := 122) hx hb dX0_nextInside_91 (by decide) (by omega) (fun c91 => ?_) (fun c91 => ?_)
              · refine lv_iload hx hb dX0_nextInside_122 (lv_at hl 2 rfl) ?_
                refine lv_iload hx hb dX0_nextInside_124 (lv_at hl 1 rfl) ?_
                refine ci_icmp_eq (tgt := 141) hx hb dX0_nextInside_126 (by decide) (by omega) (by omega) (fun c126 => ?_) (fun c126 => ?_)
                · refine lv_iinc (v := ((nI b) + Int32.ofInt (-1))) (lv' := [(5, .int ((nI b) + Int32.ofInt (-1))), (9, .int (nI (lwf b))), (8, .int (nI oh)), (7, .int (nI ol)), (6, .int (nI oz)), (0, .ref (g 0)), (1, .int (nI (il zx zy))), (2, .int (nI (il lx ly))), (3, .int (nI (il hhx hhy))), (4, .int (nI a))]) hx hb dX0_nextInside_141 hl (k := 9) rfl rfl (by decide) rfl (fun ls hl => ?_)
                  refine lv_goto (tgt := 19) hx hb dX0_nextInside_144 (by decide) ?_
                  exact ih _ _ _ _ _ _ (show nI b + Int32.ofInt (-1) = nI b - nI 1 by rw [show Int32.ofInt (-1) = -nI 1 by decide +kernel]; grind) (by omega) (BI_same hB (by omega) (by omega)) ls (lv_sub hl [5, 6, 7, 8, 9, 0] rfl)
                · refine lv_iload_n hx hb dX0_nextInside_129 rfl (lv_at hl 6 rfl) ?_
                  refine lv_iload hx hb dX0_nextInside_130 (lv_at hl 0 rfl) ?_
                  refine lv_iconst (v := (nI 4294967295)) hx hb dX0_nextInside_132 (by decide +kernel) ?_
                  refine ci_ixor hx hb dX0_nextInside_133 ?_
                  refine ci_iand hx hb dX0_nextInside_134 ?_
                  refine lv_iconst (v := (nI 1)) hx hb dX0_nextInside_135 (by decide +kernel) ?_
                  refine lv_iload hx hb dX0_nextInside_136 (lv_at hl 9 rfl) ?_
                  refine ci_ishl hx hb dX0_nextInside_138 (by omega) ?_
                  refine ci_ior hx hb dX0_nextInside_139 ?_
                  refine ci_top (cutL_e hb11 k1 k2) ?_
                  refine lv_istore_n (lv' := [(2, .int (nI (il (cLx b lx) (cLy b ly)))), (9, .int (nI (lwf b))), (8, .int (nI oh)), (7, .int (nI ol)), (6, .int (nI oz)), (0, .ref (g 0)), (1, .int (nI (il zx zy))), (3, .int (nI (il hhx hhy))), (4, .int (nI a)), (5, .int (nI b))]) hx hb dX0_nextInside_140 rfl hl (by decide) rfl (fun ls hl => ?_)
                  refine lv_iinc (v := ((nI b) + Int32.ofInt (-1))) (lv' := [(5, .int ((nI b) + Int32.ofInt (-1))), (2, .int (nI (il (cLx b lx) (cLy b ly)))), (9, .int (nI (lwf b))), (8, .int (nI oh)), (7, .int (nI ol)), (6, .int (nI oz)), (0, .ref (g 0)), (1, .int (nI (il zx zy))), (3, .int (nI (il hhx hhy))), (4, .int (nI a))]) hx hb dX0_nextInside_141 hl (k := 9) rfl rfl (by decide) rfl (fun ls hl => ?_)
                  refine lv_goto (tgt := 19) hx hb dX0_nextInside_144 (by decide) ?_
                  exact ih _ _ _ _ _ _ (show nI b + Int32.ofInt (-1) = nI b - nI 1 by rw [show Int32.ofInt (-1) = -nI 1 by decide +kernel]; grind) (by omega) (BI_upper hb11 hzx hzy hB (by omega) (by omega) (by omega)) ls (lv_sub hl [6, 7, 1, 8, 9, 0] rfl)
              · refine lv_iload_n hx hb dX0_nextInside_94 rfl (lv_at hl 6 rfl) ?_
                refine lv_iload hx hb dX0_nextInside_95 (lv_at hl 0 rfl) ?_
                refine lv_iconst (v := (nI 4294967295)) hx hb dX0_nextInside_97 (by decide +kernel) ?_
                refine ci_ixor hx hb dX0_nextInside_98 ?_
                refine ci_iand hx hb dX0_nextInside_99 ?_
                refine lv_iconst (v := (nI 1)) hx hb dX0_nextInside_100 (by decide +kernel) ?_
                refine lv_iload hx hb dX0_nextInside_101 (lv_at hl 9 rfl) ?_
                refine ci_ishl hx hb dX0_nextInside_103 (by omega) ?_
                refine ci_ior hx hb dX0_nextInside_104 ?_
                refine ci_top (cutL_e hb11 k1 k2) ?_
                refine lv_istore (lv' := [(4, .int (nI (il (cLx b lx) (cLy b ly)))), (9, .int (nI (lwf b))), (8, .int (nI oh)), (7, .int (nI ol)), (6, .int (nI oz)), (0, .ref (g 0)), (1, .int (nI (il zx zy))), (2, .int (nI (il lx ly))), (3, .int (nI (il hhx hhy))), (5, .int (nI b))]) hx hb dX0_nextInside_105 hl (by decide) rfl (fun ls hl => ?_)
                refine lv_iload_n hx hb dX0_nextInside_107 rfl (lv_at hl 8 rfl) ?_
                refine lv_iconst (v := (nI 1)) hx hb dX0_nextInside_108 (by decide +kernel) ?_
                refine lv_iload hx hb dX0_nextInside_109 (lv_at hl 9 rfl) ?_
                refine ci_ishl hx hb dX0_nextInside_111 (by omega) ?_
                refine lv_iconst (v := (nI 4294967295)) hx hb dX0_nextInside_112 (by decide +kernel) ?_
                refine ci_ixor hx hb dX0_nextInside_113 ?_
                refine ci_iand hx hb dX0_nextInside_114 ?_
                refine lv_iload hx hb dX0_nextInside_115 (lv_at hl 1 rfl) ?_
                refine ci_ior hx hb dX0_nextInside_117 ?_
                refine ci_top (cutH_e hb11 k3 k4) ?_
                refine lv_istore_n (lv' := [(3, .int (nI (il (cHx b hhx) (cHy b hhy)))), (4, .int (nI (il (cLx b lx) (cLy b ly)))), (9, .int (nI (lwf b))), (8, .int (nI oh)), (7, .int (nI ol)), (6, .int (nI oz)), (0, .ref (g 0)), (1, .int (nI (il zx zy))), (2, .int (nI (il lx ly))), (5, .int (nI b))]) hx hb dX0_nextInside_118 rfl hl (by decide) rfl (fun ls hl => ?_)
                refine lv_goto (tgt := 141) hx hb dX0_nextInside_119 (by decide) ?_
                refine lv_iinc (v := ((nI b) + Int32.ofInt (-1))) (lv' := [(5, .int ((nI b) + Int32.ofInt (-1))), (3, .int (nI (il (cHx b hhx) (cHy b hhy)))), (4, .int (nI (il (cLx b lx) (cLy b ly)))), (9, .int (nI (lwf b))), (8, .int (nI oh)), (7, .int (nI ol)), (6, .int (nI oz)), (0, .ref (g 0)), (1, .int (nI (il zx zy))), (2, .int (nI (il lx ly)))]) hx hb dX0_nextInside_141 hl (k := 9) rfl rfl (by decide) rfl (fun ls hl => ?_)
                refine lv_goto (tgt := 19) hx hb dX0_nextInside_144 (by decide) ?_
                exact ih _ _ _ _ _ _ (show nI b + Int32.ofInt (-1) = nI b - nI 1 by rw [show Int32.ofInt (-1) = -nI 1 by decide +kernel]; grind) (by omega) (BI_lower hb11 hzx hzy hB (by omega) (by omega) (by omega)) ls (lv_sub hl [7, 8, 9, 1, 2, 0] rfl)
          · refine lv_iload hx hb dX0_nextInside_74 (lv_at hl 1 rfl) ?_
            refine ci_ifn_ne (tgt := 82) hx hb dX0_nextInside_76 (by decide) (by omega) (fun c76 => ?_) (fun c76 => ?_)
            · refine lv_iload hx hb dX0_nextInside_82 (lv_at hl 2 rfl) ?_
              refine lv_iload hx hb dX0_nextInside_84 (lv_at hl 1 rfl) ?_
              refine ci_icmp_eq (tgt := 122) hx hb dX0_nextInside_86 (by decide) (by omega) (by omega) (fun c86 => ?_) (fun c86 => ?_)
              · refine lv_iload hx hb dX0_nextInside_122 (lv_at hl 2 rfl) ?_
                refine lv_iload hx hb dX0_nextInside_124 (lv_at hl 1 rfl) ?_
                refine ci_icmp_eq (tgt := 141) hx hb dX0_nextInside_126 (by decide) (by omega) (by omega) (fun c126 => ?_) (fun c126 => ?_)
                · refine lv_iinc (v := ((nI b) + Int32.ofInt (-1))) (lv' := [(5, .int ((nI b) + Int32.ofInt (-1))), (9, .int (nI (lwf b))), (8, .int (nI oh)), (7, .int (nI ol)), (6, .int (nI oz)), (0, .ref (g 0)), (1, .int (nI (il zx zy))), (2, .int (nI (il lx ly))), (3, .int (nI (il hhx hhy))), (4, .int (nI a))]) hx hb dX0_nextInside_141 hl (k := 9) rfl rfl (by decide) rfl (fun ls hl => ?_)
                  refine lv_goto (tgt := 19) hx hb dX0_nextInside_144 (by decide) ?_
                  exact ih _ _ _ _ _ _ (show nI b + Int32.ofInt (-1) = nI b - nI 1 by rw [show Int32.ofInt (-1) = -nI 1 by decide +kernel]; grind) (by omega) (BI_same hB (by omega) (by omega)) ls (lv_sub hl [5, 6, 7, 8, 9, 0] rfl)
                · refine lv_iload_n hx hb dX0_nextInside_129 rfl (lv_at hl 6 rfl) ?_
                  refine lv_iload hx hb dX0_nextInside_130 (lv_at hl 0 rfl) ?_
                  refine lv_iconst (v := (nI 4294967295)) hx hb dX0_nextInside_132 (by decide +kernel) ?_
                  refine ci_ixor hx hb dX0_nextInside_133 ?_
                  refine ci_iand hx hb dX0_nextInside_134 ?_
                  refine lv_iconst (v := (nI 1)) hx hb dX0_nextInside_135 (by decide +kernel) ?_
                  refine lv_iload hx hb dX0_nextInside_136 (lv_at hl 9 rfl) ?_
                  refine ci_ishl hx hb dX0_nextInside_138 (by omega) ?_
                  refine ci_ior hx hb dX0_nextInside_139 ?_
                  refine ci_top (cutL_e hb11 k1 k2) ?_
                  refine lv_istore_n (lv' := [(2, .int (nI (il (cLx b lx) (cLy b ly)))), (9, .int (nI (lwf b))), (8, .int (nI oh)), (7, .int (nI ol)), (6, .int (nI oz)), (0, .ref (g 0)), (1, .int (nI (il zx zy))), (3, .int (nI (il hhx hhy))), (4, .int (nI a)), (5, .int (nI b))]) hx hb dX0_nextInside_140 rfl hl (by decide) rfl (fun ls hl => ?_)
                  refine lv_iinc (v := ((nI b) + Int32.ofInt (-1))) (lv' := [(5, .int ((nI b) + Int32.ofInt (-1))), (2, .int (nI (il (cLx b lx) (cLy b ly)))), (9, .int (nI (lwf b))), (8, .int (nI oh)), (7, .int (nI ol)), (6, .int (nI oz)), (0, .ref (g 0)), (1, .int (nI (il zx zy))), (3, .int (nI (il hhx hhy))), (4, .int (nI a))]) hx hb dX0_nextInside_141 hl (k := 9) rfl rfl (by decide) rfl (fun ls hl => ?_)
                  refine lv_goto (tgt := 19) hx hb dX0_nextInside_144 (by decide) ?_
                  exact ih _ _ _ _ _ _ (show nI b + Int32.ofInt (-1) = nI b - nI 1 by rw [show Int32.ofInt (-1) = -nI 1 by decide +kernel]; grind) (by omega) (BI_upper hb11 hzx hzy hB (by omega) (by omega) (by omega)) ls (lv_sub hl [6, 7, 1, 8, 9, 0] rfl)
              · refine lv_iload hx hb dX0_nextInside_89 (lv_at hl 3 rfl) ?_
                refine ci_ifn_ne (tgt := 122) hx hb dX0_nextInside_91 (by decide) (by omega) (fun c91 => ?_) (fun c91 => ?_)
                · refine lv_iload hx hb dX0_nextInside_122 (lv_at hl 2 rfl) ?_
                  refine lv_iload hx hb dX0_nextInside_124 (lv_at hl 1 rfl) ?_
                  refine ci_icmp_eq (tgt := 141) hx hb dX0_nextInside_126 (by decide) (by omega) (by omega) (fun c126 => ?_) (fun c126 => ?_)
                  · refine lv_iinc (v := ((nI b) + Int32.ofInt (-1))) (lv' := [(5, .int ((nI b) + Int32.ofInt (-1))), (9, .int (nI (lwf b))), (8, .int (nI oh)), (7, .int (nI ol)), (6, .int (nI oz)), (0, .ref (g 0)), (1, .int (nI (il zx zy))), (2, .int (nI (il lx ly))), (3, .int (nI (il hhx hhy))), (4, .int (nI a))]) hx hb dX0_nextInside_141 hl (k := 9) rfl rfl (by decide) rfl (fun ls hl => ?_)
                    refine lv_goto (tgt := 19) hx hb dX0_nextInside_144 (by decide) ?_
                    exact ih _ _ _ _ _ _ (show nI b + Int32.ofInt (-1) = nI b - nI 1 by rw [show Int32.ofInt (-1) = -nI 1 by decide +kernel]; grind) (by omega) (BI_same hB (by omega) (by omega)) ls (lv_sub hl [5, 6, 7, 8, 9, 0] rfl)
                  · refine lv_iload_n hx hb dX0_nextInside_129 rfl (lv_at hl 6 rfl) ?_
                    refine lv_iload hx hb dX0_nextInside_130 (lv_at hl 0 rfl) ?_
                    refine lv_iconst (v := (nI 4294967295)) hx hb dX0_nextInside_132 (by decide +kernel) ?_
                    refine ci_ixor hx hb dX0_nextInside_133 ?_
                    refine ci_iand hx hb dX0_nextInside_134 ?_
                    refine lv_iconst (v := (nI 1)) hx hb dX0_nextInside_135 (by decide +kernel) ?_
                    refine lv_iload hx hb dX0_nextInside_136 (lv_at hl 9 rfl) ?_
                    refine ci_ishl hx hb dX0_nextInside_138 (by omega) ?_
                    refine ci_ior hx hb dX0_nextInside_139 ?_
                    refine ci_top (cutL_e hb11 k1 k2) ?_
                    refine lv_istore_n (lv' := [(2, .int (nI (il (cLx b lx) (cLy b ly)))), (9, .int (nI (lwf b))), (8, .int (nI oh)), (7, .int (nI ol)), (6, .int (nI oz)), (0, .ref (g 0)), (1, .int (nI (il zx zy))), (3, .int (nI (il hhx hhy))), (4, .int (nI a)), (5, .int (nI b))]) hx hb dX0_nextInside_140 rfl hl (by decide) rfl (fun ls hl => ?_)
                    refine lv_iinc (v := ((nI b) + Int32.ofInt (-1))) (lv' := [(5, .int ((nI b) + Int32.ofInt (-1))), (2, .int (nI (il (cLx b lx) (cLy b ly)))), (9, .int (nI (lwf b))), (8, .int (nI oh)), (7, .int (nI ol)), (6, .int (nI oz)), (0, .ref (g 0)), (1, .int (nI (il zx zy))), (3, .int (nI (il hhx hhy))), (4, .int (nI a))]) hx hb dX0_nextInside_141 hl (k := 9) rfl rfl (by decide) rfl (fun ls hl => ?_)
                    refine lv_goto (tgt := 19) hx hb dX0_nextInside_144 (by decide) ?_
                    exact ih _ _ _ _ _ _ (show nI b + Int32.ofInt (-1) = nI b - nI 1 by rw [show Int32.ofInt (-1) = -nI 1 by decide +kernel]; grind) (by omega) (BI_upper hb11 hzx hzy hB (by omega) (by omega) (by omega)) ls (lv_sub hl [6, 7, 1, 8, 9, 0] rfl)
                · refine lv_iload_n hx hb dX0_nextInside_94 rfl (lv_at hl 6 rfl) ?_
                  refine lv_iload hx hb dX0_nextInside_95 (lv_at hl 0 rfl) ?_
                  refine lv_iconst (v := (nI 4294967295)) hx hb dX0_nextInside_97 (by decide +kernel) ?_
                  refine ci_ixor hx hb dX0_nextInside_98 ?_
                  refine ci_iand hx hb dX0_nextInside_99 ?_
                  refine lv_iconst (v := (nI 1)) hx hb dX0_nextInside_100 (by decide +kernel) ?_
                  refine lv_iload hx hb dX0_nextInside_101 (lv_at hl 9 rfl) ?_
                  refine ci_ishl hx hb dX0_nextInside_103 (by omega) ?_
                  refine ci_ior hx hb dX0_nextInside_104 ?_
                  refine ci_top (cutL_e hb11 k1 k2) ?_
                  refine lv_istore (lv' := [(4, .int (nI (il (cLx b lx) (cLy b ly)))), (9, .int (nI (lwf b))), (8, .int (nI oh)), (7, .int (nI ol)), (6, .int (nI oz)), (0, .ref (g 0)), (1, .int (nI (il zx zy))), (2, .int (nI (il lx ly))), (3, .int (nI (il hhx hhy))), (5, .int (nI b))]) hx hb dX0_nextInside_105 hl (by decide) rfl (fun ls hl => ?_)
                  refine lv_iload_n hx hb dX0_nextInside_107 rfl (lv_at hl 8 rfl) ?_
                  refine lv_iconst (v := (nI 1)) hx hb dX0_nextInside_108 (by decide +kernel) ?_
                  refine lv_iload hx hb dX0_nextInside_109 (lv_at hl 9 rfl) ?_
                  refine ci_ishl hx hb dX0_nextInside_111 (by omega) ?_
                  refine lv_iconst (v := (nI 4294967295)) hx hb dX0_nextInside_112 (by decide +kernel) ?_
                  refine ci_ixor hx hb dX0_nextInside_113 ?_
                  refine ci_iand hx hb dX0_nextInside_114 ?_
                  refine lv_iload hx hb dX0_nextInside_115 (lv_at hl 1 rfl) ?_
                  refine ci_ior hx hb dX0_nextInside_117 ?_
                  refine ci_top (cutH_e hb11 k3 k4) ?_
                  refine lv_istore_n (lv' := [(3, .int (nI (il (cHx b hhx) (cHy b hhy)))), (4, .int (nI (il (cLx b lx) (cLy b ly)))), (9, .int (nI (lwf b))), (8, .int (nI oh)), (7, .int (nI ol)), (6, .int (nI oz)), (0, .ref (g 0)), (1, .int (nI (il zx zy))), (2, .int (nI (il lx ly))), (5, .int (nI b))]) hx hb dX0_nextInside_118 rfl hl (by decide) rfl (fun ls hl => ?_)
                  refine lv_goto (tgt := 141) hx hb dX0_nextInside_119 (by decide) ?_
                  refine lv_iinc (v := ((nI b) + Int32.ofInt (-1))) (lv' := [(5, .int ((nI b) + Int32.ofInt (-1))), (3, .int (nI (il (cHx b hhx) (cHy b hhy)))), (4, .int (nI (il (cLx b lx) (cLy b ly)))), (9, .int (nI (lwf b))), (8, .int (nI oh)), (7, .int (nI ol)), (6, .int (nI oz)), (0, .ref (g 0)), (1, .int (nI (il zx zy))), (2, .int (nI (il lx ly)))]) hx hb dX0_nextInside_141 hl (k := 9) rfl rfl (by decide) rfl (fun ls hl => ?_)
                  refine lv_goto (tgt := 19) hx hb dX0_nextInside_144 (by decide) ?_
                  exact ih _ _ _ _ _ _ (show nI b + Int32.ofInt (-1) = nI b - nI 1 by rw [show Int32.ofInt (-1) = -nI 1 by decide +kernel]; grind) (by omega) (BI_lower hb11 hzx hzy hB (by omega) (by omega) (by omega)) ls (lv_sub hl [7, 8, 9, 1, 2, 0] rfl)
            · refine lv_iload hx hb dX0_nextInside_79 (lv_at hl 8 rfl) ?_
              exact ci_iretR hQ hx hb hrt hlk dX0_nextInside_81 ⟨a, rfl, BI_ans hB (by omega) (by omega)⟩
        · refine lv_iload_n hx hb dX0_nextInside_66 rfl (lv_at hl 6 rfl) ?_
          exact ci_iretR hQ hx hb hrt hlk dX0_nextInside_67 ⟨_, rfl, BI_low hB (by omega) (by omega)⟩
  have hB0 : BI x0 x1 y0 y1 zx zy 12 x0 y0 x1 y1 4096 := BI_start h01 hx1 h23 hy1
  rw [hle, hmo] at hl
  exact lp 12 x0 y0 x1 y1 4096 _ (by decide +kernel) (Nat.le_refl 12) hB0 ls (lv_sub hl [4, 5, 3, 2, 1, 0] rfl)
end
section
/-- insert(point) -/
abbrev rm_X0_insert : Room := { frames := 2, cells := 0, slots := 0, locals := 44 }
set_option maxHeartbeats 8000000 in
set_option maxRecDepth 100000 in
theorem met_X0_insert (l : Launch) (D : va_G) (g : Nat → Nat) (d : Nat → ClassId) (hg : xN 7 g) (u : Nat → Bool) (px py : Nat → Nat) (lb : Nat → Int32) (n : Nat) (k : Nat → Nat) (le mo x0 x1 y0 y1 fo : Nat) (ins : Nat → Nat) (pt : Nat) (hpt : pt < 40) (hpx : px pt < 64) (hpy : py pt < 64) (hn : n < 40) (hkk : ∀ j, j < n → k j < 2147483648) (hso : So n k) (hme : ¬ Me n k (kf px py pt)) : Met l yX0_insert (ws_ yX0_insert cX0_insert 5 none) rm_X0_insert (ci_R D (wX g d u px py lb n k le mo x0 x1 y0 y1 fo ins) (tX d) [.ref (g 0), .int (nI pt)]) (va_Qv (fun (z : Nat → Nat) => So (n + 1) z ∧ ∀ x, Me (n + 1) z x ↔ x = kf px py pt ∨ Me n k x) (fun z t => va_P D vwCl (wX g d u px py lb (n + 1) z le mo x0 x1 y0 y1 fo ins) t.heap) (xA 7 g)) 0 0 (xA 7 g) := by
  refine ci_of (by decide) (Nat.le_of_ble_eq_true rfl) ?_
  intro p e s m args below meth c Q0 hx hb hrt hml hown hts hlk hmn hQ hP hK ls hl
  have hS : va_S (xA 7 g) s.heap s.heap [] := va_S.rf
  have hown : s.vm.findClass RX0 = some m.cls := hown
  have hl : lv_has ls 5 [(0, .ref (g 0)), (1, .int (nI pt))] := hl
  have hkl := kf_lt px py hpt
  refine lv_aload_n hx hb dX0_insert_0 rfl (lv_at hl 0 rfl) ?_
  refine lv_iload_n hx hb dX0_insert_1 rfl (lv_at hl 1 rfl) ?_
  refine vp_callSi (W.runV (As := [.int (nI pt)]) (rest := []) ⟨hx, hb, hml, hown, hts⟩ (met_X0_keyOf l D g d u px py lb n k le mo x0 x1 y0 y1 fo ins pt hpt hpx hpy) (cwV 1 hts (lw_V q89 q91 qs1 q23 q92) rfl rfl rfl (by decide +kernel) ⟨Nat.le_of_ble_eq_true rfl, Nat.le_of_ble_eq_true rfl⟩) (ci_pre hK hP (ci := 0) (q0 := 0) rfl rfl) rfl rfl hl.1 rfl (lv_room (Nat.le_of_ble_eq_true rfl)) dX0_insert_2 ⟨Nat.le_of_ble_eq_true rfl, Nat.le_of_ble_eq_true rfl⟩) (fun r hr => ?_)
  subst hr
  refine lv_istore_n (lv' := [(2, .int (nI (kf px py pt))), (0, .ref (g 0)), (1, .int (nI pt))]) hx hb dX0_insert_5 rfl hl (by decide) rfl (fun ls hl => ?_)
  refine lv_aload_n hx hb dX0_insert_6 rfl (lv_at hl 1 rfl) ?_
  refine lv_iload_n hx hb dX0_insert_7 rfl (lv_at hl 0 rfl) ?_
  refine vp_callSi (W.runV (As := [.int (nI (kf px py pt))]) (rest := []) ⟨hx, hb, hml, hown, hts⟩ (met_X0_seek l D g d u px py lb n k le mo x0 x1 y0 y1 fo ins (kf px py pt) (by omega) (by omega) hkk (So_le hso)) (cwV 1 hts (lw_V q96 q98 qs2 q23 q99) rfl rfl rfl (by decide +kernel) ⟨Nat.le_of_ble_eq_true rfl, Nat.le_of_ble_eq_true rfl⟩) (ci_pre hK hP (ci := 0) (q0 := 0) rfl rfl) rfl rfl hl.1 rfl (lv_room (Nat.le_of_ble_eq_true rfl)) dX0_insert_8 ⟨Nat.le_of_ble_eq_true rfl, Nat.le_of_ble_eq_true rfl⟩) (fun r hr => ?_)
  obtain ⟨a, rfl, ha, hs1, hs2⟩ := hr
  refine lv_istore_n (lv' := [(3, .int (nI a)), (2, .int (nI (kf px py pt))), (0, .ref (g 0)), (1, .int (nI pt))]) hx hb dX0_insert_11 rfl hl (by decide) rfl (fun ls hl => ?_)
  refine lv_aload_n hx hb dX0_insert_12 rfl (lv_at hl 2 rfl) ?_
  refine cx_get 4 hx hb hts hown hK hP (by decide) (hts _ q37) rfl dX0_insert_13 ?_
  refine lv_istore (lv' := [(4, .int (nI n)), (3, .int (nI a)), (2, .int (nI (kf px py pt))), (0, .ref (g 0)), (1, .int (nI pt))]) hx hb dX0_insert_16 hl (by decide) rfl (fun ls hl => ?_)
  have lp : ∀ (f : Nat) (i : Nat) (kz : Nat → Nat), (i < f) → (a ≤ i) → (i ≤ n) → (∀ j, j ≤ i → kz j = k j) → (∀ j, i < j → j ≤ n → kz j = k (j - 1)) → ∀ (H : Heap) (locs : List Loc), va_P D vwCl (wX g d u px py lb n kz le mo x0 x1 y0 y1 fo ins) H → va_S (xA 7 g) s.heap H locs → ∀ ls : Array Slot, lv_has ls 5 [(0, .ref (g 0)), (2, .int (nI (kf px py pt))), (3, .int (nI a)), (4, .int (nI i))] → W p l e rm_X0_insert s m args below meth c H locs 0 0 Q0 (F0 m 18 ls []) := by
    intro f
    induction f with
    | zero => intro i kz hf; exact absurd hf (Nat.not_lt_zero _)
    | succ f ih =>
      intro i kz hf hia hin hk1 hk2 H locs hP hS ls hl
      refine lv_iload hx hb dX0_insert_18 (lv_at hl 3 rfl) ?_
      refine lv_iload_n hx hb dX0_insert_20 rfl (lv_at hl 2 rfl) ?_
      refine ci_icmp_le (tgt := 46) hx hb dX0_insert_21 (by decide) (by omega) (by omega) (fun c21 => ?_) (fun c21 => ?_)
      · refine lv_aload_n hx hb dX0_insert_46 rfl (lv_at hl 0 rfl) ?_
        refine cx_get 5 hx hb hts hown hK hP (by decide) (hts _ q38) rfl dX0_insert_47 ?_
        refine lv_iload_n hx hb dX0_insert_50 rfl (lv_at hl 2 rfl) ?_
        refine lv_iload_n hx hb dX0_insert_51 rfl (lv_at hl 1 rfl) ?_
        refine ci_iast hx hb hK hP (wX_D hg) hS 5 4 rfl rfl (by omega) (by decide) dX0_insert_52 (fun H locs hP hS => ?_)
        have hP : va_P D vwCl (wX g d u px py lb n (va_up kz a (kf px py pt)) le mo x0 x1 y0 y1 fo ins) H := hP
        refine lv_aload_n hx hb dX0_insert_53 rfl (lv_at hl 0 rfl) ?_
        refine lv_dup hx hb dX0_insert_54 rfl ?_
        refine cx_get 4 hx hb hts hown hK hP (by decide) (hts _ q37) rfl dX0_insert_55 ?_
        refine lv_iconst (v := (nI 1)) hx hb dX0_insert_58 (by decide +kernel) ?_
        refine ci_iadd hx hb dX0_insert_59 ?_
        refine cx_put 4 hx hb hts hown hK hP (wX_D hg) hS (by decide) (hts _ q37) rfl (by decide +kernel) (Nat.le_of_ble_eq_true rfl) dX0_insert_60 (fun H locs hP hS => ?_)
        have hP : va_P D vwCl (wX g d u px py lb (n + 1) (va_up kz a (kf px py pt)) le mo x0 x1 y0 y1 fo ins) H := hP
        exact ci_vretW hQ hx hb hrt hlk hS dX0_insert_63 _ (ins_ok hso hme ha hs1 hs2 (fun j hj => by rw [va_up_ne kz _ (by omega)]; exact hk1 j (by omega)) (va_up_self _ _ _) (fun j h1 h2 => by rw [va_up_ne kz _ (by omega)]; exact hk2 j (by omega) h2)) hP
      · refine lv_aload_n hx hb dX0_insert_24 rfl (lv_at hl 0 rfl) ?_
        refine cx_get 5 hx hb hts hown hK hP (by decide) (hts _ q38) rfl dX0_insert_25 ?_
        refine lv_iload hx hb dX0_insert_28 (lv_at hl 3 rfl) ?_
        refine lv_aload_n hx hb dX0_insert_30 rfl (lv_at hl 0 rfl) ?_
        refine cx_get 5 hx hb hts hown hK hP (by decide) (hts _ q38) rfl dX0_insert_31 ?_
        refine lv_iload hx hb dX0_insert_34 (lv_at hl 3 rfl) ?_
        refine lv_iconst (v := (nI 1)) hx hb dX0_insert_36 (by decide +kernel) ?_
        refine ci_isub hx hb dX0_insert_37 (by omega) ?_
        refine ci_iald hx hb hK hP 5 4 rfl rfl (by omega) (by decide) dX0_insert_38 ?_
        refine ci_iast hx hb hK hP (wX_D hg) hS 5 4 rfl rfl (by omega) (by decide) dX0_insert_39 (fun H locs hP hS => ?_)
        have hP : va_P D vwCl (wX g d u px py lb n (va_up kz i (kz (i - 1))) le mo x0 x1 y0 y1 fo ins) H := hP
        refine lv_iinc (v := (nI (i - 1))) (lv' := [(4, .int (nI (i - 1))), (0, .ref (g 0)), (2, .int (nI (kf px py pt))), (3, .int (nI a))]) hx hb dX0_insert_40 hl (k := 3) rfl (ci_dec (by omega)) (by decide) rfl (fun ls hl => ?_)
        refine lv_goto (tgt := 18) hx hb dX0_insert_43 (by decide) ?_
        exact ih (i - 1) _ (by omega) (by omega) (by omega) (fun j hj => by rw [va_up_ne kz _ (by omega)]; exact hk1 j (by omega)) (fun j h1 h2 => by by_cases e : j = i; (rw [e, va_up_self]; exact hk1 _ (by omega)); (rw [va_up_ne kz _ e]; exact hk2 j (by omega) h2)) H locs hP hS ls (lv_sub hl [1, 2, 3, 0] rfl)
  exact lp (n + 1) n k (by omega) ha (Nat.le_refl n) (fun j _ => rfl) (fun j h1 h2 => absurd h1 (by omega)) _ _ hP hS ls (lv_sub hl [3, 2, 1, 0] rfl)

/-- take(point) -/
abbrev rm_X0_take : Room := { frames := 2, cells := 0, slots := 0, locals := 44 }
set_option maxHeartbeats 8000000 in
set_option maxRecDepth 100000 in
theorem met_X0_take (l : Launch) (D : va_G) (g : Nat → Nat) (d : Nat → ClassId) (hg : xN 7 g) (u : Nat → Bool) (px py : Nat → Nat) (lb : Nat → Int32) (n : Nat) (k : Nat → Nat) (le mo x0 x1 y0 y1 fo : Nat) (ins : Nat → Nat) (pt : Nat) (hpt : pt < 40) (hpx : px pt < 64) (hpy : py pt < 64) (hn : n ≤ 40) (hkk : ∀ j, j < n → k j < 2147483648) (hso : So n k) (hme : Me n k (kf px py pt)) : Met l yX0_take (ws_ yX0_take cX0_take 5 none) rm_X0_take (ci_R D (wX g d u px py lb n k le mo x0 x1 y0 y1 fo ins) (tX d) [.ref (g 0), .int (nI pt)]) (va_Qv (fun (z : Nat → Nat) => So (n - 1) z ∧ ∀ x, Me (n - 1) z x ↔ Me n k x ∧ x ≠ kf px py pt) (fun z t => va_P D vwCl (wX g d u px py lb (n - 1) z le mo x0 x1 y0 y1 fo ins) t.heap) (xA 7 g)) 0 0 (xA 7 g) := by
  refine ci_of (by decide) (Nat.le_of_ble_eq_true rfl) ?_
  intro p e s m args below meth c Q0 hx hb hrt hml hown hts hlk hmn hQ hP hK ls hl
  have hS : va_S (xA 7 g) s.heap s.heap [] := va_S.rf
  have hown : s.vm.findClass RX0 = some m.cls := hown
  have hl : lv_has ls 5 [(0, .ref (g 0)), (1, .int (nI pt))] := hl
  have hkl := kf_lt px py hpt
  refine lv_aload_n hx hb dX0_take_0 rfl (lv_at hl 0 rfl) ?_
  refine lv_iload_n hx hb dX0_take_1 rfl (lv_at hl 1 rfl) ?_
  refine vp_callSi (W.runV (As := [.int (nI pt)]) (rest := []) ⟨hx, hb, hml, hown, hts⟩ (met_X0_keyOf l D g d u px py lb n k le mo x0 x1 y0 y1 fo ins pt hpt hpx hpy) (cwV 1 hts (lw_V q89 q91 qs1 q23 q92) rfl rfl rfl (by decide +kernel) ⟨Nat.le_of_ble_eq_true rfl, Nat.le_of_ble_eq_true rfl⟩) (ci_pre hK hP (ci := 0) (q0 := 0) rfl rfl) rfl rfl hl.1 rfl (lv_room (Nat.le_of_ble_eq_true rfl)) dX0_take_2 ⟨Nat.le_of_ble_eq_true rfl, Nat.le_of_ble_eq_true rfl⟩) (fun r hr => ?_)
  subst hr
  refine lv_istore_n (lv' := [(2, .int (nI (kf px py pt))), (0, .ref (g 0)), (1, .int (nI pt))]) hx hb dX0_take_5 rfl hl (by decide) rfl (fun ls hl => ?_)
  refine lv_aload_n hx hb dX0_take_6 rfl (lv_at hl 1 rfl) ?_
  refine lv_iload_n hx hb dX0_take_7 rfl (lv_at hl 0 rfl) ?_
  refine vp_callSi (W.runV (As := [.int (nI (kf px py pt))]) (rest := []) ⟨hx, hb, hml, hown, hts⟩ (met_X0_seek l D g d u px py lb n k le mo x0 x1 y0 y1 fo ins (kf px py pt) (by omega) (by omega) hkk (So_le hso)) (cwV 1 hts (lw_V q96 q98 qs2 q23 q99) rfl rfl rfl (by decide +kernel) ⟨Nat.le_of_ble_eq_true rfl, Nat.le_of_ble_eq_true rfl⟩) (ci_pre hK hP (ci := 0) (q0 := 0) rfl rfl) rfl rfl hl.1 rfl (lv_room (Nat.le_of_ble_eq_true rfl)) dX0_take_8 ⟨Nat.le_of_ble_eq_true rfl, Nat.le_of_ble_eq_true rfl⟩) (fun r hr => ?_)
  obtain ⟨a, rfl, ha, hs1, hs2⟩ := hr
  obtain ⟨han, hka⟩ := seek_at hso hme hs1 hs2
  refine lv_istore_n (lv' := [(3, .int (nI a)), (2, .int (nI (kf px py pt))), (0, .ref (g 0)), (1, .int (nI pt))]) hx hb dX0_take_11 rfl hl (by decide) rfl (fun ls hl => ?_)
  refine lv_aload_n hx hb dX0_take_12 rfl (lv_at hl 2 rfl) ?_
  refine lv_dup hx hb dX0_take_13 rfl ?_
  refine cx_get 4 hx hb hts hown hK hP (by decide) (hts _ q37) rfl dX0_take_14 ?_
  refine lv_iconst (v := (nI 1)) hx hb dX0_take_17 (by decide +kernel) ?_
  refine ci_isub hx hb dX0_take_18 (by omega) ?_
  refine cx_put 4 hx hb hts hown hK hP (wX_D hg) hS (by decide) (hts _ q37) rfl (by decide +kernel) (Nat.le_of_ble_eq_true rfl) dX0_take_19 (fun H locs hP hS => ?_)
  have hP : va_P D vwCl (wX g d u px py lb (n - 1) k le mo x0 x1 y0 y1 fo ins) H := hP
  refine lv_iload_n hx hb dX0_take_22 rfl (lv_at hl 0 rfl) ?_
  refine lv_istore (lv' := [(4, .int (nI a)), (3, .int (nI a)), (2, .int (nI (kf px py pt))), (0, .ref (g 0)), (1, .int (nI pt))]) hx hb dX0_take_23 hl (by decide) rfl (fun ls hl => ?_)
  have lp : ∀ (f : Nat) (i : Nat) (kz : Nat → Nat), (n - i < f) → (a ≤ i) → (i ≤ n - 1) → (∀ j, j < a → kz j = k j) → (∀ j, a ≤ j → j < i → kz j = k (j + 1)) → (∀ j, i ≤ j → kz j = k j) → ∀ (H : Heap) (locs : List Loc), va_P D vwCl (wX g d u px py lb (n - 1) kz le mo x0 x1 y0 y1 fo ins) H → va_S (xA 7 g) s.heap H locs → ∀ ls : Array Slot, lv_has ls 5 [(0, .ref (g 0)), (4, .int (nI i))] → W p l e rm_X0_take s m args below meth c H locs 0 0 Q0 (F0 m 25 ls []) := by
    intro f
    induction f with
    | zero => intro i kz hf; exact absurd hf (Nat.not_lt_zero _)
    | succ f ih =>
      intro i kz hf hia hin hk0 hk1 hk2 H locs hP hS ls hl
      refine lv_iload hx hb dX0_take_25 (lv_at hl 1 rfl) ?_
      refine lv_aload_n hx hb dX0_take_27 rfl (lv_at hl 0 rfl) ?_
      refine cx_get 4 hx hb hts hown hK hP (by decide) (hts _ q37) rfl dX0_take_28 ?_
      refine ci_icmp_ge (tgt := 56) hx hb dX0_take_31 (by decide) (by omega) (by omega) (fun c31 => ?_) (fun c31 => ?_)
      · exact ci_vretW hQ hx hb hrt hlk hS dX0_take_56 _ (tak_ok hso han hka hk0 (fun j h1 h2 => hk1 j h1 (by omega))) hP
      · refine lv_aload_n hx hb dX0_take_34 rfl (lv_at hl 0 rfl) ?_
        refine cx_get 5 hx hb hts hown hK hP (by decide) (hts _ q38) rfl dX0_take_35 ?_
        refine lv_iload hx hb dX0_take_38 (lv_at hl 1 rfl) ?_
        refine lv_aload_n hx hb dX0_take_40 rfl (lv_at hl 0 rfl) ?_
        refine cx_get 5 hx hb hts hown hK hP (by decide) (hts _ q38) rfl dX0_take_41 ?_
        refine lv_iload hx hb dX0_take_44 (lv_at hl 1 rfl) ?_
        refine lv_iconst (v := (nI 1)) hx hb dX0_take_46 (by decide +kernel) ?_
        refine ci_iadd hx hb dX0_take_47 ?_
        refine ci_iald hx hb hK hP 5 4 rfl rfl (by omega) (by decide) dX0_take_48 ?_
        refine ci_iast hx hb hK hP (wX_D hg) hS 5 4 rfl rfl (by omega) (by decide) dX0_take_49 (fun H locs hP hS => ?_)
        have hP : va_P D vwCl (wX g d u px py lb (n - 1) (va_up kz i (kz (i + 1))) le mo x0 x1 y0 y1 fo ins) H := hP
        refine lv_iinc (v := (nI (i + 1))) (lv' := [(4, .int (nI (i + 1))), (0, .ref (g 0))]) hx hb dX0_take_50 hl (k := 1) rfl (ci_inc _) (by decide) rfl (fun ls hl => ?_)
        refine lv_goto (tgt := 25) hx hb dX0_take_53 (by decide) ?_
        exact ih (i + 1) _ (by omega) (by omega) (by omega) (fun j hj => by rw [va_up_ne kz _ (by omega)]; exact hk0 j hj) (fun j h1 h2 => by by_cases e : j = i; (rw [e, va_up_self]; exact hk2 _ (by omega)); (rw [va_up_ne kz _ e]; exact hk1 j h1 (by omega))) (fun j h1 => by rw [va_up_ne kz _ (by omega)]; exact hk2 j (by omega)) H locs hP hS ls (lv_sub hl [1, 0] rfl)
  exact lp (n + 1) a k (by omega) (Nat.le_refl a) (by omega) (fun j _ => rfl) (fun j h1 h2 => absurd h1 (by omega)) (fun j _ => rfl) _ _ hP hS ls (lv_sub hl [3, 0] rfl)

/-- dropPoint(point) -/
abbrev rm_X0_dropPoint : Room := { frames := 3, cells := 0, slots := 0, locals := 68 }
set_option maxHeartbeats 8000000 in
set_option maxRecDepth 100000 in
theorem met_X0_dropPoint (l : Launch) (D : va_G) (g : Nat → Nat) (d : Nat → ClassId) (hg : xN 7 g) (u : Nat → Bool) (px py : Nat → Nat) (lb : Nat → Int32) (n : Nat) (k : Nat → Nat) (le mo x0 x1 y0 y1 fo : Nat) (ins : Nat → Nat) (pt : Nat) (hpt : pt < 40) (hu : u pt = true) (hI : Inv u px py n k) : Met l yX0_dropPoint (ws_ yX0_dropPoint cX0_dropPoint 2 none) rm_X0_dropPoint (ci_R D (wX g d u px py lb n k le mo x0 x1 y0 y1 fo ins) (tX d) [.ref (g 0), .int (nI pt)]) (va_Qv (fun (z : Nat → Nat) => Inv (va_up u pt false) px py (n - 1) z) (fun z t => va_P D vwCl (wX g d (va_up u pt false) px py lb (n - 1) z le mo x0 x1 y0 y1 fo ins) t.heap) (xA 7 g)) 0 0 (xA 7 g) := by
  refine ci_of (by decide) (Nat.le_of_ble_eq_true rfl) ?_
  intro p e s m args below meth c Q0 hx hb hrt hml hown hts hlk hmn hQ hP hK ls hl
  have hS : va_S (xA 7 g) s.heap s.heap [] := va_S.rf
  have hown : s.vm.findClass RX0 = some m.cls := hown
  have hl : lv_has ls 2 [(0, .ref (g 0)), (1, .int (nI pt))] := hl
  refine lv_aload_n hx hb dX0_dropPoint_0 rfl (lv_at hl 0 rfl) ?_
  refine lv_iload_n hx hb dX0_dropPoint_1 rfl (lv_at hl 1 rfl) ?_
  refine va_callv (va_runV (As := [.int (nI pt)]) (rest := []) ⟨hx, hb, hml, hown, hts⟩ (met_X0_take l D g d hg u px py lb n k le mo x0 x1 y0 y1 fo ins pt hpt (hI.1 pt hpt).1 (hI.1 pt hpt).2 (Inv_n hI) (key_lt hI) hI.2.2.1 (Inv_me hI hpt hu)) (cwV 1 hts (lw_V q112 q114 qs5 q23 q115) rfl rfl rfl (by decide +kernel) ⟨Nat.le_of_ble_eq_true rfl, Nat.le_of_ble_eq_true rfl⟩) (ci_pre hK hP (ci := 0) (q0 := 0) rfl rfl) rfl rfl hl.1 rfl (lv_room (Nat.le_of_ble_eq_true rfl)) dX0_dropPoint_2 ⟨Nat.le_of_ble_eq_true rfl, Nat.le_of_ble_eq_true rfl⟩) hS (fun q _ h => h) (fun q h => h) (fun zz tt H1 locs ht hvm hr hB hz1 hk1 hS => ?_)
  obtain ⟨k1, rfl⟩ : ∃ w, w = zz := ⟨_, rfl⟩
  have hP : va_P D vwCl (wX g d u px py lb (n - 1) k1 le mo x0 x1 y0 y1 fo ins) H1 := by rw [← ht]; exact hB
  clear hB hk1 hz1 ht hvm tt
  generalize H1 = H at hP hS ⊢
  refine lv_aload_n hx hb dX0_dropPoint_5 rfl (lv_at hl 0 rfl) ?_
  refine cx_get 0 hx hb hts hown hK hP (by decide) (hts _ q33) rfl dX0_dropPoint_6 ?_
  refine lv_iload_n hx hb dX0_dropPoint_9 rfl (lv_at hl 1 rfl) ?_
  refine lv_iconst (v := (nI 0)) hx hb dX0_dropPoint_10 (by decide +kernel) ?_
  refine ci_zast hx hb hK hP (wX_D hg) hS 1 0 false rfl rfl rfl (by omega) (by decide) dX0_dropPoint_11 (fun H locs hP hS => ?_)
  have hP : va_P D vwCl (wX g d (va_up u pt false) px py lb (n - 1) k1 le mo x0 x1 y0 y1 fo ins) H := hP
  exact ci_vretW hQ hx hb hrt hlk hS dX0_dropPoint_12 _ (Inv_drop hI hpt hu hr) hP

/-- remove(point) -/
abbrev rm_X0_remove : Room := { frames := 4, cells := 0, slots := 0, locals := 89 }
set_option maxHeartbeats 8000000 in
set_option maxRecDepth 100000 in
theorem met_X0_remove (l : Launch) (D : va_G) (g : Nat → Nat) (d : Nat → ClassId) (hg : xN 7 g) (u : Nat → Bool) (px py : Nat → Nat) (lb : Nat → Int32) (n : Nat) (k : Nat → Nat) (le mo x0 x1 y0 y1 fo : Nat) (ins : Nat → Nat) (x : Int32) (hI : Inv u px py n k) : Met l yX0_remove (ws_ yX0_remove cX0_remove 2 (some .int)) rm_X0_remove (ci_R D (wX g d u px py lb n k le mo x0 x1 y0 y1 fo ins) (tX d) [.ref (g 0), .int x]) (va_Qi (fun (r : Int32) (z : (Nat → Bool) × Nat × (Nat → Nat)) => (noP u x = true ∧ r = -3 ∧ z = (u, n, k)) ∨ (∃ pt, pt < 40 ∧ x = nI pt ∧ u pt = true ∧ z.1 = va_up u pt false ∧ r = nI z.2.1 ∧ Inv z.1 px py z.2.1 z.2.2)) (fun z t => va_P D vwCl (wX g d z.1 px py lb z.2.1 z.2.2 le mo x0 x1 y0 y1 fo ins) t.heap) (xA 7 g)) 0 0 (xA 7 g) := by
  refine ci_of (by decide) (Nat.le_of_ble_eq_true rfl) ?_
  intro p e s m args below meth c Q0 hx hb hrt hml hown hts hlk hmn hQ hP hK ls hl
  have hS : va_S (xA 7 g) s.heap s.heap [] := va_S.rf
  have hown : s.vm.findClass RX0 = some m.cls := hown
  have hl : lv_has ls 2 [(0, .ref (g 0)), (1, .int x)] := hl
  refine lv_aload_n hx hb dX0_remove_0 rfl (lv_at hl 0 rfl) ?_
  refine lv_iload_n hx hb dX0_remove_1 rfl (lv_at hl 1 rfl) ?_
  refine vp_callSi (W.runV (As := [.int x]) (rest := []) ⟨hx, hb, hml, hown, hts⟩ (met_X0_noPoint l D g d u px py lb n k le mo x0 x1 y0 y1 fo ins _) (cwV 1 hts (lw_V q104 q106 qs3 q23 q107) rfl rfl rfl (by decide +kernel) ⟨Nat.le_of_ble_eq_true rfl, Nat.le_of_ble_eq_true rfl⟩) (ci_pre hK hP (ci := 0) (q0 := 0) rfl rfl) rfl rfl hl.1 rfl (lv_room (Nat.le_of_ble_eq_true rfl)) dX0_remove_2 ⟨Nat.le_of_ble_eq_true rfl, Nat.le_of_ble_eq_true rfl⟩) (fun r hr => ?_)
  subst hr
  refine ci_ifb_eq (tgt := 11) hx hb dX0_remove_5 (by decide) (fun c5 => ?_) (fun c5 => ?_)
  · obtain ⟨pt, hpt, rfl, hu⟩ := noP_f c5
    refine lv_aload_n hx hb dX0_remove_11 rfl (lv_at hl 0 rfl) ?_
    refine lv_iload_n hx hb dX0_remove_12 rfl (lv_at hl 1 rfl) ?_
    refine va_callv (va_runV (As := [.int (nI pt)]) (rest := []) ⟨hx, hb, hml, hown, hts⟩ (met_X0_dropPoint l D g d hg u px py lb n k le mo x0 x1 y0 y1 fo ins pt hpt hu hI) (cwV 1 hts (lw_V q108 q110 qs4 q23 q111) rfl rfl rfl (by decide +kernel) ⟨Nat.le_of_ble_eq_true rfl, Nat.le_of_ble_eq_true rfl⟩) (ci_pre hK hP (ci := 0) (q0 := 0) rfl rfl) rfl rfl hl.1 rfl (lv_room (Nat.le_of_ble_eq_true rfl)) dX0_remove_13 ⟨Nat.le_of_ble_eq_true rfl, Nat.le_of_ble_eq_true rfl⟩) hS (fun q _ h => h) (fun q h => h) (fun zz tt H1 locs ht hvm hr hB hz1 hk1 hS => ?_)
    obtain ⟨k1, rfl⟩ : ∃ w, w = zz := ⟨_, rfl⟩
    have hP : va_P D vwCl (wX g d (va_up u pt false) px py lb (n - 1) k1 le mo x0 x1 y0 y1 fo ins) H1 := by rw [← ht]; exact hB
    clear hB hk1 hz1 ht hvm tt
    generalize H1 = H at hP hS ⊢
    refine lv_aload_n hx hb dX0_remove_16 rfl (lv_at hl 0 rfl) ?_
    refine cx_get 4 hx hb hts hown hK hP (by decide) (hts _ q37) rfl dX0_remove_17 ?_
    exact ci_iretW hQ hx hb hrt hlk hS dX0_remove_20 (va_up u pt false, n - 1, k1) (Or.inr ⟨pt, hpt, rfl, hu, rfl, rfl, hr⟩) hP
  · refine lv_bipush (v := (-3)) hx hb dX0_remove_8 (by decide +kernel) ?_
    exact ci_iretW hQ hx hb hrt hlk hS dX0_remove_10 (u, n, k) (Or.inl ⟨c5, rfl, rfl⟩) hP

/-- add(place, label) -/
abbrev rm_X0_add : Room := { frames := 3, cells := 0, slots := 0, locals := 68 }
set_option maxHeartbeats 8000000 in
set_option maxRecDepth 100000 in
theorem met_X0_add (l : Launch) (D : va_G) (g : Nat → Nat) (d : Nat → ClassId) (hg : xN 7 g) (u : Nat → Bool) (px py : Nat → Nat) (lb : Nat → Int32) (n : Nat) (k : Nat → Nat) (le mo x0 x1 y0 y1 fo : Nat) (ins : Nat → Nat) (x lab : Int32) (hI : Inv u px py n k) : Met l yX0_add (ws_ yX0_add cX0_add 4 (some .int)) rm_X0_add (ci_R D (wX g d u px py lb n k le mo x0 x1 y0 y1 fo ins) (tX d) [.ref (g 0), .int x, .int lab]) (va_Qi (fun (r : Int32) (z : (Nat → Bool) × (Nat → Nat) × (Nat → Nat) × (Nat → Int32) × Nat × (Nat → Nat)) => (badP x = true ∧ r = -1 ∧ z = (u, px, py, lb, n, k)) ∨ (badP x = false ∧ n = 40 ∧ r = -2 ∧ z = (u, px, py, lb, n, k)) ∨ (∃ a q, a < 4096 ∧ x = nI a ∧ q < 40 ∧ u q = false ∧ (∀ j, j < q → u j = true) ∧ r = nI q ∧ z.1 = va_up u q true ∧ z.2.1 = va_up px q (a % 64) ∧ z.2.2.1 = va_up py q (a / 64) ∧ z.2.2.2.1 = va_up lb q lab ∧ Inv z.1 z.2.1 z.2.2.1 z.2.2.2.2.1 z.2.2.2.2.2)) (fun z t => va_P D vwCl (wX g d z.1 z.2.1 z.2.2.1 z.2.2.2.1 z.2.2.2.2.1 z.2.2.2.2.2 le mo x0 x1 y0 y1 fo ins) t.heap) (xA 7 g)) 0 0 (xA 7 g) := by
  refine ci_of (by decide) (Nat.le_of_ble_eq_true rfl) ?_
  intro p e s m args below meth c Q0 hx hb hrt hml hown hts hlk hmn hQ hP hK ls hl
  have hS : va_S (xA 7 g) s.heap s.heap [] := va_S.rf
  have hown : s.vm.findClass RX0 = some m.cls := hown
  have hl : lv_has ls 4 [(0, .ref (g 0)), (1, .int x), (2, .int lab)] := hl
  have hn40 := Inv_n hI
  refine lv_iload_n hx hb dX0_add_0 rfl (lv_at hl 1 rfl) ?_
  refine vp_callSi (W.runS (As := [.int x]) (rest := []) ⟨hx, hb, hml, hown, hts⟩ (met_X0_bad l _) (va_cwS 1 hts (lw_S q82 q83 q23 q84) rfl rfl rfl (by decide +kernel) ⟨Nat.le_of_ble_eq_true rfl, Nat.le_of_ble_eq_true rfl⟩) ci_preS rfl rfl hl.1 rfl (lv_room (Nat.le_of_ble_eq_true rfl)) dX0_add_1 ⟨Nat.le_of_ble_eq_true rfl, Nat.le_of_ble_eq_true rfl⟩) (fun r hr => ?_)
  subst hr
  refine ci_ifb_eq (tgt := 9) hx hb dX0_add_4 (by decide) (fun c4 => ?_) (fun c4 => ?_)
  · obtain ⟨a, ha, rfl⟩ := badP_f c4
    refine lv_aload_n hx hb dX0_add_9 rfl (lv_at hl 0 rfl) ?_
    refine cx_get 4 hx hb hts hown hK hP (by decide) (hts _ q37) rfl dX0_add_10 ?_
    refine lv_bipush (v := (nI 40)) hx hb dX0_add_13 (by decide +kernel) ?_
    refine ci_icmp_lt (tgt := 21) hx hb dX0_add_15 (by decide) (by omega) (by omega) (fun c15 => ?_) (fun c15 => ?_)
    · refine lv_iconst (v := (nI 0)) hx hb dX0_add_21 (by decide +kernel) ?_
      refine lv_istore_n (lv' := [(3, .int (nI 0)), (0, .ref (g 0)), (1, .int (nI a)), (2, .int lab)]) hx hb dX0_add_22 rfl hl (by decide) rfl (fun ls hl => ?_)
      have lp : ∀ (f : Nat) (q : Nat), (40 - q < f) → (q ≤ 39) → (∀ j, j < q → u j = true) → ∀ (H : Heap) (locs : List Loc), va_P D vwCl (wX g d u px py lb n k le mo x0 x1 y0 y1 fo ins) H → va_S (xA 7 g) s.heap H locs → ∀ ls : Array Slot, lv_has ls 4 [(0, .ref (g 0)), (1, .int (nI a)), (2, .int lab), (3, .int (nI q))] → W p l e rm_X0_add s m args below meth c H locs 0 0 Q0 (F0 m 23 ls []) := by
        intro f
        induction f with
        | zero => intro q hf; exact absurd hf (Nat.not_lt_zero _)
        | succ f ih =>
          intro q hf hq hqu H locs hP hS ls hl
          refine lv_iload_n hx hb dX0_add_23 rfl (lv_at hl 3 rfl) ?_
          refine lv_bipush (v := (nI 39)) hx hb dX0_add_24 (by decide +kernel) ?_
          refine ci_icmp_ge (tgt := 44) hx hb dX0_add_26 (by decide) (by omega) (by omega) (fun c26 => ?_) (fun c26 => ?_)
          · have huq : u q = false := by
              first
              | exact c35
              | (cases e : u q
                 · rfl
                 · exfalso
                   have hall : cnt u 40 = 40 := cnt_all 40 (fun i hi => by rcases Nat.lt_or_ge i q with w | w; exact hqu i w; rw [show i = q by omega]; exact e)
                   have := hI.2.1
                   omega)
            refine lv_aload_n hx hb dX0_add_44 rfl (lv_at hl 0 rfl) ?_
            refine cx_get 0 hx hb hts hown hK hP (by decide) (hts _ q33) rfl dX0_add_45 ?_
            refine lv_iload_n hx hb dX0_add_48 rfl (lv_at hl 3 rfl) ?_
            refine lv_iconst (v := (nI 1)) hx hb dX0_add_49 (by decide +kernel) ?_
            refine ci_zast hx hb hK hP (wX_D hg) hS 1 0 true rfl rfl rfl (by omega) (by decide) dX0_add_50 (fun H locs hP hS => ?_)
            have hP : va_P D vwCl (wX g d (va_up u q true) px py lb n k le mo x0 x1 y0 y1 fo ins) H := hP
            refine lv_aload_n hx hb dX0_add_51 rfl (lv_at hl 0 rfl) ?_
            refine cx_get 1 hx hb hts hown hK hP (by decide) (hts _ q34) rfl dX0_add_52 ?_
            refine lv_iload_n hx hb dX0_add_55 rfl (lv_at hl 3 rfl) ?_
            refine lv_iload_n hx hb dX0_add_56 rfl (lv_at hl 1 rfl) ?_
            refine lv_bipush (v := (nI 63)) hx hb dX0_add_57 (by decide +kernel) ?_
            refine ci_and63 hx hb dX0_add_59 ?_
            refine ci_iast hx hb hK hP (wX_D hg) hS 2 1 rfl rfl (by omega) (by decide) dX0_add_60 (fun H locs hP hS => ?_)
            have hP : va_P D vwCl (wX g d (va_up u q true) (va_up px q (a % 64)) py lb n k le mo x0 x1 y0 y1 fo ins) H := hP
            refine lv_aload_n hx hb dX0_add_61 rfl (lv_at hl 0 rfl) ?_
            refine cx_get 2 hx hb hts hown hK hP (by decide) (hts _ q35) rfl dX0_add_62 ?_
            refine lv_iload_n hx hb dX0_add_65 rfl (lv_at hl 3 rfl) ?_
            refine lv_iload_n hx hb dX0_add_66 rfl (lv_at hl 1 rfl) ?_
            refine lv_bipush (v := (nI 6)) hx hb dX0_add_67 (by decide +kernel) ?_
            refine ci_shr6 hx hb dX0_add_69 (by omega) ?_
            refine ci_iast hx hb hK hP (wX_D hg) hS 3 2 rfl rfl (by omega) (by decide) dX0_add_70 (fun H locs hP hS => ?_)
            have hP : va_P D vwCl (wX g d (va_up u q true) (va_up px q (a % 64)) (va_up py q (a / 64)) lb n k le mo x0 x1 y0 y1 fo ins) H := hP
            refine lv_aload_n hx hb dX0_add_71 rfl (lv_at hl 0 rfl) ?_
            refine cx_get 3 hx hb hts hown hK hP (by decide) (hts _ q36) rfl dX0_add_72 ?_
            refine lv_iload_n hx hb dX0_add_75 rfl (lv_at hl 3 rfl) ?_
            refine lv_iload_n hx hb dX0_add_76 rfl (lv_at hl 2 rfl) ?_
            refine ci_rast hx hb hK hP (wX_D hg) hS 4 3 rfl rfl (by omega) (by decide) dX0_add_77 (fun H locs hP hS => ?_)
            have hP : va_P D vwCl (wX g d (va_up u q true) (va_up px q (a % 64)) (va_up py q (a / 64)) (va_up lb q lab) n k le mo x0 x1 y0 y1 fo ins) H := hP
            refine lv_aload_n hx hb dX0_add_78 rfl (lv_at hl 0 rfl) ?_
            refine lv_iload_n hx hb dX0_add_79 rfl (lv_at hl 3 rfl) ?_
            refine va_callv (va_runV (As := [.int (nI q)]) (rest := []) ⟨hx, hb, hml, hown, hts⟩ (met_X0_insert l D g d hg (va_up u q true) (va_up px q (a % 64)) (va_up py q (a / 64)) (va_up lb q lab) n k le mo x0 x1 y0 y1 fo ins q (by omega) (by rw [va_up_self]; omega) (by rw [va_up_self]; omega) (by omega) (key_lt hI) hI.2.2.1 (Inv_new hI (by omega) huq _ _)) (cwV 1 hts (lw_V q85 q87 qs0 q23 q88) rfl rfl rfl (by decide +kernel) ⟨Nat.le_of_ble_eq_true rfl, Nat.le_of_ble_eq_true rfl⟩) (ci_pre hK hP (ci := 0) (q0 := 0) rfl rfl) rfl rfl hl.1 rfl (lv_room (Nat.le_of_ble_eq_true rfl)) dX0_add_80 ⟨Nat.le_of_ble_eq_true rfl, Nat.le_of_ble_eq_true rfl⟩) hS (fun q _ h => h) (fun q h => h) (fun zz tt H1 locs ht hvm hr hB hz1 hk1 hS => ?_)
            obtain ⟨k1, rfl⟩ : ∃ w, w = zz := ⟨_, rfl⟩
            have hP : va_P D vwCl (wX g d (va_up u q true) (va_up px q (a % 64)) (va_up py q (a / 64)) (va_up lb q lab) (n + 1) k1 le mo x0 x1 y0 y1 fo ins) H1 := by rw [← ht]; exact hB
            clear hB hk1 hz1 ht hvm tt
            generalize H1 = H at hP hS ⊢
            refine lv_iload_n hx hb dX0_add_83 rfl (lv_at hl 3 rfl) ?_
            exact ci_iretW hQ hx hb hrt hlk hS dX0_add_84 (va_up u q true, va_up px q (a % 64), va_up py q (a / 64), va_up lb q lab, n + 1, k1) (Or.inr (Or.inr ⟨a, q, ha, rfl, by omega, huq, hqu, rfl, rfl, rfl, rfl, rfl, Inv_add hI (by omega) huq (by omega) (by omega) hr⟩)) hP
          · refine lv_aload_n hx hb dX0_add_29 rfl (lv_at hl 0 rfl) ?_
            refine cx_get 0 hx hb hts hown hK hP (by decide) (hts _ q33) rfl dX0_add_30 ?_
            refine lv_iload_n hx hb dX0_add_33 rfl (lv_at hl 3 rfl) ?_
            refine ci_zald hx hb hK hP 1 0 rfl rfl (by omega) (by decide) dX0_add_34 ?_
            refine ci_ifb_eq (tgt := 44) hx hb dX0_add_35 (by decide) (fun c35 => ?_) (fun c35 => ?_)
            · have huq : u q = false := by
                first
                | exact c35
                | (cases e : u q
                   · rfl
                   · exfalso
                     have hall : cnt u 40 = 40 := cnt_all 40 (fun i hi => by rcases Nat.lt_or_ge i q with w | w; exact hqu i w; rw [show i = q by omega]; exact e)
                     have := hI.2.1
                     omega)
              refine lv_aload_n hx hb dX0_add_44 rfl (lv_at hl 0 rfl) ?_
              refine cx_get 0 hx hb hts hown hK hP (by decide) (hts _ q33) rfl dX0_add_45 ?_
              refine lv_iload_n hx hb dX0_add_48 rfl (lv_at hl 3 rfl) ?_
              refine lv_iconst (v := (nI 1)) hx hb dX0_add_49 (by decide +kernel) ?_
              refine ci_zast hx hb hK hP (wX_D hg) hS 1 0 true rfl rfl rfl (by omega) (by decide) dX0_add_50 (fun H locs hP hS => ?_)
              have hP : va_P D vwCl (wX g d (va_up u q true) px py lb n k le mo x0 x1 y0 y1 fo ins) H := hP
              refine lv_aload_n hx hb dX0_add_51 rfl (lv_at hl 0 rfl) ?_
              refine cx_get 1 hx hb hts hown hK hP (by decide) (hts _ q34) rfl dX0_add_52 ?_
              refine lv_iload_n hx hb dX0_add_55 rfl (lv_at hl 3 rfl) ?_
              refine lv_iload_n hx hb dX0_add_56 rfl (lv_at hl 1 rfl) ?_
              refine lv_bipush (v := (nI 63)) hx hb dX0_add_57 (by decide +kernel) ?_
              refine ci_and63 hx hb dX0_add_59 ?_
              refine ci_iast hx hb hK hP (wX_D hg) hS 2 1 rfl rfl (by omega) (by decide) dX0_add_60 (fun H locs hP hS => ?_)
              have hP : va_P D vwCl (wX g d (va_up u q true) (va_up px q (a % 64)) py lb n k le mo x0 x1 y0 y1 fo ins) H := hP
              refine lv_aload_n hx hb dX0_add_61 rfl (lv_at hl 0 rfl) ?_
              refine cx_get 2 hx hb hts hown hK hP (by decide) (hts _ q35) rfl dX0_add_62 ?_
              refine lv_iload_n hx hb dX0_add_65 rfl (lv_at hl 3 rfl) ?_
              refine lv_iload_n hx hb dX0_add_66 rfl (lv_at hl 1 rfl) ?_
              refine lv_bipush (v := (nI 6)) hx hb dX0_add_67 (by decide +kernel) ?_
              refine ci_shr6 hx hb dX0_add_69 (by omega) ?_
              refine ci_iast hx hb hK hP (wX_D hg) hS 3 2 rfl rfl (by omega) (by decide) dX0_add_70 (fun H locs hP hS => ?_)
              have hP : va_P D vwCl (wX g d (va_up u q true) (va_up px q (a % 64)) (va_up py q (a / 64)) lb n k le mo x0 x1 y0 y1 fo ins) H := hP
              refine lv_aload_n hx hb dX0_add_71 rfl (lv_at hl 0 rfl) ?_
              refine cx_get 3 hx hb hts hown hK hP (by decide) (hts _ q36) rfl dX0_add_72 ?_
              refine lv_iload_n hx hb dX0_add_75 rfl (lv_at hl 3 rfl) ?_
              refine lv_iload_n hx hb dX0_add_76 rfl (lv_at hl 2 rfl) ?_
              refine ci_rast hx hb hK hP (wX_D hg) hS 4 3 rfl rfl (by omega) (by decide) dX0_add_77 (fun H locs hP hS => ?_)
              have hP : va_P D vwCl (wX g d (va_up u q true) (va_up px q (a % 64)) (va_up py q (a / 64)) (va_up lb q lab) n k le mo x0 x1 y0 y1 fo ins) H := hP
              refine lv_aload_n hx hb dX0_add_78 rfl (lv_at hl 0 rfl) ?_
              refine lv_iload_n hx hb dX0_add_79 rfl (lv_at hl 3 rfl) ?_
              refine va_callv (va_runV (As := [.int (nI q)]) (rest := []) ⟨hx, hb, hml, hown, hts⟩ (met_X0_insert l D g d hg (va_up u q true) (va_up px q (a % 64)) (va_up py q (a / 64)) (va_up lb q lab) n k le mo x0 x1 y0 y1 fo ins q (by omega) (by rw [va_up_self]; omega) (by rw [va_up_self]; omega) (by omega) (key_lt hI) hI.2.2.1 (Inv_new hI (by omega) huq _ _)) (cwV 1 hts (lw_V q85 q87 qs0 q23 q88) rfl rfl rfl (by decide +kernel) ⟨Nat.le_of_ble_eq_true rfl, Nat.le_of_ble_eq_true rfl⟩) (ci_pre hK hP (ci := 0) (q0 := 0) rfl rfl) rfl rfl hl.1 rfl (lv_room (Nat.le_of_ble_eq_true rfl)) dX0_add_80 ⟨Nat.le_of_ble_eq_true rfl, Nat.le_of_ble_eq_true rfl⟩) hS (fun q _ h => h) (fun q h => h) (fun zz tt H1 locs ht hvm hr hB hz1 hk1 hS => ?_)
              obtain ⟨k1, rfl⟩ : ∃ w, w = zz := ⟨_, rfl⟩
              have hP : va_P D vwCl (wX g d (va_up u q true) (va_up px q (a % 64)) (va_up py q (a / 64)) (va_up lb q lab) (n + 1) k1 le mo x0 x1 y0 y1 fo ins) H1 := by rw [← ht]; exact hB
              clear hB hk1 hz1 ht hvm tt
              generalize H1 = H at hP hS ⊢
              refine lv_iload_n hx hb dX0_add_83 rfl (lv_at hl 3 rfl) ?_
              exact ci_iretW hQ hx hb hrt hlk hS dX0_add_84 (va_up u q true, va_up px q (a % 64), va_up py q (a / 64), va_up lb q lab, n + 1, k1) (Or.inr (Or.inr ⟨a, q, ha, rfl, by omega, huq, hqu, rfl, rfl, rfl, rfl, rfl, Inv_add hI (by omega) huq (by omega) (by omega) hr⟩)) hP
            · refine lv_iinc (v := (nI (q + 1))) (lv' := [(3, .int (nI (q + 1))), (0, .ref (g 0)), (1, .int (nI a)), (2, .int lab)]) hx hb dX0_add_38 hl (k := 3) rfl (ci_inc _) (by decide) rfl (fun ls hl => ?_)
              refine lv_goto (tgt := 23) hx hb dX0_add_41 (by decide) ?_
              exact ih (q + 1) (by omega) (by omega) (fun j hj => by rcases Nat.lt_or_ge j q with w | w; exact hqu j w; rw [show j = q by omega]; exact c35) H locs hP hS ls (lv_sub hl [1, 2, 3, 0] rfl)
      exact lp 41 0 (by omega) (by omega) (fun j h => absurd h (Nat.not_lt_zero j)) _ _ hP hS ls (lv_sub hl [1, 2, 3, 0] rfl)
    · refine lv_bipush (v := (-2)) hx hb dX0_add_18 (by decide +kernel) ?_
      exact ci_iretW hQ hx hb hrt hlk hS dX0_add_20 (u, px, py, lb, n, k) (Or.inr (Or.inl ⟨badP_n ha, by omega, rfl, rfl⟩)) hP
  · refine lv_iconst (v := (-1)) hx hb dX0_add_7 (by decide +kernel) ?_
    exact ci_iretW hQ hx hb hrt hlk hS dX0_add_8 (u, px, py, lb, n, k) (Or.inl ⟨c4, rfl, rfl⟩) hP

/-- move(point, place) -/
abbrev rm_X0_move : Room := { frames := 3, cells := 0, slots := 0, locals := 68 }
set_option maxHeartbeats 8000000 in
set_option maxRecDepth 100000 in
theorem met_X0_move (l : Launch) (D : va_G) (g : Nat → Nat) (d : Nat → ClassId) (hg : xN 7 g) (u : Nat → Bool) (px py : Nat → Nat) (lb : Nat → Int32) (n : Nat) (k : Nat → Nat) (le mo x0 x1 y0 y1 fo : Nat) (ins : Nat → Nat) (x y : Int32) (hI : Inv u px py n k) : Met l yX0_move (ws_ yX0_move cX0_move 4 (some .int)) rm_X0_move (ci_R D (wX g d u px py lb n k le mo x0 x1 y0 y1 fo ins) (tX d) [.ref (g 0), .int x, .int y]) (va_Qi (fun (r : Int32) (z : (Nat → Nat) × (Nat → Nat) × Nat × (Nat → Nat)) => (noP u x = true ∧ r = -3 ∧ z = (px, py, n, k)) ∨ (noP u x = false ∧ badP y = true ∧ r = -1 ∧ z = (px, py, n, k)) ∨ (∃ pt a, pt < 40 ∧ x = nI pt ∧ u pt = true ∧ a < 4096 ∧ y = nI a ∧ r = nI (px pt + 64 * py pt) ∧ z.1 = va_up px pt (a % 64) ∧ z.2.1 = va_up py pt (a / 64) ∧ Inv u z.1 z.2.1 z.2.2.1 z.2.2.2)) (fun z t => va_P D vwCl (wX g d u z.1 z.2.1 lb z.2.2.1 z.2.2.2 le mo x0 x1 y0 y1 fo ins) t.heap) (xA 7 g)) 0 0 (xA 7 g) := by
  refine ci_of (by decide) (Nat.le_of_ble_eq_true rfl) ?_
  intro p e s m args below meth c Q0 hx hb hrt hml hown hts hlk hmn hQ hP hK ls hl
  have hS : va_S (xA 7 g) s.heap s.heap [] := va_S.rf
  have hown : s.vm.findClass RX0 = some m.cls := hown
  have hl : lv_has ls 4 [(0, .ref (g 0)), (1, .int x), (2, .int y)] := hl
  refine lv_aload_n hx hb dX0_move_0 rfl (lv_at hl 0 rfl) ?_
  refine lv_iload_n hx hb dX0_move_1 rfl (lv_at hl 1 rfl) ?_
  refine vp_callSi (W.runV (As := [.int x]) (rest := []) ⟨hx, hb, hml, hown, hts⟩ (met_X0_noPoint l D g d u px py lb n k le mo x0 x1 y0 y1 fo ins _) (cwV 1 hts (lw_V q104 q106 qs3 q23 q107) rfl rfl rfl (by decide +kernel) ⟨Nat.le_of_ble_eq_true rfl, Nat.le_of_ble_eq_true rfl⟩) (ci_pre hK hP (ci := 0) (q0 := 0) rfl rfl) rfl rfl hl.1 rfl (lv_room (Nat.le_of_ble_eq_true rfl)) dX0_move_2 ⟨Nat.le_of_ble_eq_true rfl, Nat.le_of_ble_eq_true rfl⟩) (fun r hr => ?_)
  subst hr
  refine ci_ifb_eq (tgt := 11) hx hb dX0_move_5 (by decide) (fun c5 => ?_) (fun c5 => ?_)
  · obtain ⟨pt, hpt, rfl, hu⟩ := noP_f c5
    refine lv_iload_n hx hb dX0_move_11 rfl (lv_at hl 2 rfl) ?_
    refine vp_callSi (W.runS (As := [.int y]) (rest := []) ⟨hx, hb, hml, hown, hts⟩ (met_X0_bad l _) (va_cwS 1 hts (lw_S q82 q83 q23 q84) rfl rfl rfl (by decide +kernel) ⟨Nat.le_of_ble_eq_true rfl, Nat.le_of_ble_eq_true rfl⟩) ci_preS rfl rfl hl.1 rfl (lv_room (Nat.le_of_ble_eq_true rfl)) dX0_move_12 ⟨Nat.le_of_ble_eq_true rfl, Nat.le_of_ble_eq_true rfl⟩) (fun r hr => ?_)
    subst hr
    refine ci_ifb_eq (tgt := 20) hx hb dX0_move_15 (by decide) (fun c15 => ?_) (fun c15 => ?_)
    · obtain ⟨a, ha, rfl⟩ := badP_f c15
      refine lv_aload_n hx hb dX0_move_20 rfl (lv_at hl 0 rfl) ?_
      refine cx_get 1 hx hb hts hown hK hP (by decide) (hts _ q34) rfl dX0_move_21 ?_
      refine lv_iload_n hx hb dX0_move_24 rfl (lv_at hl 1 rfl) ?_
      refine ci_iald hx hb hK hP 2 1 rfl rfl (by omega) (by decide) dX0_move_25 ?_
      refine lv_bipush (v := (nI 64)) hx hb dX0_move_26 (by decide +kernel) ?_
      refine lv_aload_n hx hb dX0_move_28 rfl (lv_at hl 0 rfl) ?_
      refine cx_get 2 hx hb hts hown hK hP (by decide) (hts _ q35) rfl dX0_move_29 ?_
      refine lv_iload_n hx hb dX0_move_32 rfl (lv_at hl 1 rfl) ?_
      refine ci_iald hx hb hK hP 3 2 rfl rfl (by omega) (by decide) dX0_move_33 ?_
      refine ci_imul hx hb dX0_move_34 ?_
      refine ci_iadd hx hb dX0_move_35 ?_
      refine lv_istore_n (lv' := [(3, .int (nI ((px pt) + (64 * (py pt))))), (0, .ref (g 0)), (1, .int (nI pt)), (2, .int (nI a))]) hx hb dX0_move_36 rfl hl (by decide) rfl (fun ls hl => ?_)
      refine lv_aload_n hx hb dX0_move_37 rfl (lv_at hl 1 rfl) ?_
      refine lv_iload_n hx hb dX0_move_38 rfl (lv_at hl 2 rfl) ?_
      refine va_callv (va_runV (As := [.int (nI pt)]) (rest := []) ⟨hx, hb, hml, hown, hts⟩ (met_X0_take l D g d hg u px py lb n k le mo x0 x1 y0 y1 fo ins pt hpt (hI.1 pt hpt).1 (hI.1 pt hpt).2 (Inv_n hI) (key_lt hI) hI.2.2.1 (Inv_me hI hpt hu)) (cwV 1 hts (lw_V q112 q114 qs5 q23 q115) rfl rfl rfl (by decide +kernel) ⟨Nat.le_of_ble_eq_true rfl, Nat.le_of_ble_eq_true rfl⟩) (ci_pre hK hP (ci := 0) (q0 := 0) rfl rfl) rfl rfl hl.1 rfl (lv_room (Nat.le_of_ble_eq_true rfl)) dX0_move_39 ⟨Nat.le_of_ble_eq_true rfl, Nat.le_of_ble_eq_true rfl⟩) hS (fun q _ h => h) (fun q h => h) (fun zz tt H1 locs ht hvm hr hB hz1 hk1 hS => ?_)
      obtain ⟨k1, rfl⟩ : ∃ w, w = zz := ⟨_, rfl⟩
      have hI1 := Inv_drop hI hpt hu hr
      have hn1 := Inv_n hI
      have hn2 := Inv_pos hI hpt hu
      have hP : va_P D vwCl (wX g d u px py lb (n - 1) k1 le mo x0 x1 y0 y1 fo ins) H1 := by rw [← ht]; exact hB
      clear hB hk1 hz1 ht hvm tt
      generalize H1 = H at hP hS ⊢
      refine lv_aload_n hx hb dX0_move_42 rfl (lv_at hl 1 rfl) ?_
      refine cx_get 1 hx hb hts hown hK hP (by decide) (hts _ q34) rfl dX0_move_43 ?_
      refine lv_iload_n hx hb dX0_move_46 rfl (lv_at hl 2 rfl) ?_
      refine lv_iload_n hx hb dX0_move_47 rfl (lv_at hl 3 rfl) ?_
      refine lv_bipush (v := (nI 63)) hx hb dX0_move_48 (by decide +kernel) ?_
      refine ci_and63 hx hb dX0_move_50 ?_
      refine ci_iast hx hb hK hP (wX_D hg) hS 2 1 rfl rfl (by omega) (by decide) dX0_move_51 (fun H locs hP hS => ?_)
      have hP : va_P D vwCl (wX g d u (va_up px pt (a % 64)) py lb (n - 1) k1 le mo x0 x1 y0 y1 fo ins) H := hP
      refine lv_aload_n hx hb dX0_move_52 rfl (lv_at hl 1 rfl) ?_
      refine cx_get 2 hx hb hts hown hK hP (by decide) (hts _ q35) rfl dX0_move_53 ?_
      refine lv_iload_n hx hb dX0_move_56 rfl (lv_at hl 2 rfl) ?_
      refine lv_iload_n hx hb dX0_move_57 rfl (lv_at hl 3 rfl) ?_
      refine lv_bipush (v := (nI 6)) hx hb dX0_move_58 (by decide +kernel) ?_
      refine ci_shr6 hx hb dX0_move_60 (by omega) ?_
      refine ci_iast hx hb hK hP (wX_D hg) hS 3 2 rfl rfl (by omega) (by decide) dX0_move_61 (fun H locs hP hS => ?_)
      have hP : va_P D vwCl (wX g d u (va_up px pt (a % 64)) (va_up py pt (a / 64)) lb (n - 1) k1 le mo x0 x1 y0 y1 fo ins) H := hP
      refine lv_aload_n hx hb dX0_move_62 rfl (lv_at hl 1 rfl) ?_
      refine lv_iload_n hx hb dX0_move_63 rfl (lv_at hl 2 rfl) ?_
      refine va_callv (va_runV (As := [.int (nI pt)]) (rest := []) ⟨hx, hb, hml, hown, hts⟩ (met_X0_insert l D g d hg u (va_up px pt (a % 64)) (va_up py pt (a / 64)) lb (n - 1) k1 le mo x0 x1 y0 y1 fo ins pt hpt (by rw [va_up_self]; omega) (by rw [va_up_self]; omega) (by omega) (key_lt hI1) hI1.2.2.1 (Inv_new hI1 hpt (va_up_self _ _ _) _ _)) (cwV 1 hts (lw_V q85 q87 qs0 q23 q88) rfl rfl rfl (by decide +kernel) ⟨Nat.le_of_ble_eq_true rfl, Nat.le_of_ble_eq_true rfl⟩) (ci_pre hK hP (ci := 0) (q0 := 0) rfl rfl) rfl rfl hl.1 rfl (lv_room (Nat.le_of_ble_eq_true rfl)) dX0_move_64 ⟨Nat.le_of_ble_eq_true rfl, Nat.le_of_ble_eq_true rfl⟩) hS (fun q _ h => h) (fun q h => h) (fun zz tt H1 locs ht hvm hr hB hz1 hk1 hS => ?_)
      obtain ⟨k2, rfl⟩ : ∃ w, w = zz := ⟨_, rfl⟩
      have hP : va_P D vwCl (wX g d u (va_up px pt (a % 64)) (va_up py pt (a / 64)) lb ((n - 1) + 1) k2 le mo x0 x1 y0 y1 fo ins) H1 := by rw [← ht]; exact hB
      clear hB hk1 hz1 ht hvm tt
      generalize H1 = H at hP hS ⊢
      refine lv_iload_n hx hb dX0_move_67 rfl (lv_at hl 0 rfl) ?_
      exact ci_iretW hQ hx hb hrt hlk hS dX0_move_68 (va_up px pt (a % 64), va_up py pt (a / 64), n - 1 + 1, k2) (Or.inr (Or.inr ⟨pt, a, hpt, rfl, hu, ha, rfl, rfl, rfl, rfl, Inv_back (Inv_add hI1 hpt (va_up_self _ _ _) (by omega) (by omega) hr) (fun i _ => by by_cases e : i = pt; (rw [e, va_up_self, hu]); (rw [va_up_ne _ _ e, va_up_ne _ _ e]))⟩)) hP
    · refine lv_iconst (v := (-1)) hx hb dX0_move_18 (by decide +kernel) ?_
      exact ci_iretW hQ hx hb hrt hlk hS dX0_move_19 (px, py, n, k) (Or.inr (Or.inl ⟨by rw [noP_n hpt, hu]; rfl, c15, rfl, rfl⟩)) hP
  · refine lv_bipush (v := (-3)) hx hb dX0_move_8 (by decide +kernel) ?_
    exact ci_iretW hQ hx hb hrt hlk hS dX0_move_10 (px, py, n, k) (Or.inl ⟨c5, rfl, rfl⟩) hP
end
section
/-- setBox -/
abbrev rm_X0_setBox : Room := { frames := 1, cells := 0, slots := 0, locals := 23 }
set_option maxHeartbeats 8000000 in
set_option maxRecDepth 100000 in
theorem met_X0_setBox (l : Launch) (D : va_G) (g : Nat → Nat) (d : Nat → ClassId) (hg : xN 7 g) (u : Nat → Bool) (px py : Nat → Nat) (lb : Nat → Int32) (n : Nat) (k : Nat → Nat) (le mo x0 x1 y0 y1 fo : Nat) (ins : Nat → Nat) (xa ya xb yb : Nat) (hxa : xa < 64) (hya : ya < 64) (hxb : xb < 64) (hyb : yb < 64) : Met l yX0_setBox (ws_ yX0_setBox cX0_setBox 5 none) rm_X0_setBox (ci_R D (wX g d u px py lb n k le mo x0 x1 y0 y1 fo ins) (tX d) [.ref (g 0), .int (nI xa), .int (nI ya), .int (nI xb), .int (nI yb)]) (va_Qv (fun (z : Unit) => True) (fun z t => va_P D vwCl (wX g d u px py lb n k (il (min xa xb) (min ya yb)) (il (max xa xb) (max ya yb)) (min xa xb) (max xa xb) (min ya yb) (max ya yb) fo ins) t.heap) (xA 7 g)) 0 0 (xA 7 g) := by
  refine ci_of (by decide) (Nat.le_of_ble_eq_true rfl) ?_
  intro p e s m args below meth c Q0 hx hb hrt hml hown hts hlk hmn hQ hP hK ls hl
  have hS : va_S (xA 7 g) s.heap s.heap [] := va_S.rf
  have hown : s.vm.findClass RX0 = some m.cls := hown
  have hl : lv_has ls 5 [(0, .ref (g 0)), (1, .int (nI xa)), (2, .int (nI ya)), (3, .int (nI xb)), (4, .int (nI yb))] := hl
  refine lv_aload_n hx hb dX0_setBox_0 rfl (lv_at hl 0 rfl) ?_
  refine lv_iload_n hx hb dX0_setBox_1 rfl (lv_at hl 1 rfl) ?_
  refine lv_iload_n hx hb dX0_setBox_2 rfl (lv_at hl 3 rfl) ?_
  have j3 : W p l e rm_X0_setBox s m args below meth c s.heap [] 0 0 Q0 (F0 m 11 ls [.int (nI (min xa xb)), .ref (g 0)]) := by
    refine cx_put 8 hx hb hts hown hK hP (wX_D hg) hS (by decide) (hts _ q41) rfl (by decide +kernel) (Nat.le_of_ble_eq_true rfl) dX0_setBox_11 (fun H locs hP hS => ?_)
    have hP : va_P D vwCl (wX g d u px py lb n k le mo (min xa xb) x1 y0 y1 fo ins) H := hP
    refine lv_aload_n hx hb dX0_setBox_14 rfl (lv_at hl 0 rfl) ?_
    refine lv_iload_n hx hb dX0_setBox_15 rfl (lv_at hl 1 rfl) ?_
    refine lv_iload_n hx hb dX0_setBox_16 rfl (lv_at hl 3 rfl) ?_
    have j17 : W p l e rm_X0_setBox s m args below meth c H locs 0 0 Q0 (F0 m 25 ls [.int (nI (max xa xb)), .ref (g 0)]) := by
      refine cx_put 9 hx hb hts hown hK hP (wX_D hg) hS (by decide) (hts _ q42) rfl (by decide +kernel) (Nat.le_of_ble_eq_true rfl) dX0_setBox_25 (fun H locs hP hS => ?_)
      have hP : va_P D vwCl (wX g d u px py lb n k le mo (min xa xb) (max xa xb) y0 y1 fo ins) H := hP
      refine lv_aload_n hx hb dX0_setBox_28 rfl (lv_at hl 0 rfl) ?_
      refine lv_iload_n hx hb dX0_setBox_29 rfl (lv_at hl 2 rfl) ?_
      refine lv_iload hx hb dX0_setBox_30 (lv_at hl 4 rfl) ?_
      have j32 : W p l e rm_X0_setBox s m args below meth c H locs 0 0 Q0 (F0 m 41 ls [.int (nI (min ya yb)), .ref (g 0)]) := by
        refine cx_put 10 hx hb hts hown hK hP (wX_D hg) hS (by decide) (hts _ q43) rfl (by decide +kernel) (Nat.le_of_ble_eq_true rfl) dX0_setBox_41 (fun H locs hP hS => ?_)
        have hP : va_P D vwCl (wX g d u px py lb n k le mo (min xa xb) (max xa xb) (min ya yb) y1 fo ins) H := hP
        refine lv_aload_n hx hb dX0_setBox_44 rfl (lv_at hl 0 rfl) ?_
        refine lv_iload_n hx hb dX0_setBox_45 rfl (lv_at hl 2 rfl) ?_
        refine lv_iload hx hb dX0_setBox_46 (lv_at hl 4 rfl) ?_
        have j48 : W p l e rm_X0_setBox s m args below meth c H locs 0 0 Q0 (F0 m 57 ls [.int (nI (max ya yb)), .ref (g 0)]) := by
          refine cx_put 11 hx hb hts hown hK hP (wX_D hg) hS (by decide) (hts _ q44) rfl (by decide +kernel) (Nat.le_of_ble_eq_true rfl) dX0_setBox_57 (fun H locs hP hS => ?_)
          have hP : va_P D vwCl (wX g d u px py lb n k le mo (min xa xb) (max xa xb) (min ya yb) (max ya yb) fo ins) H := hP
          refine lv_aload_n hx hb dX0_setBox_60 rfl (lv_at hl 0 rfl) ?_
          refine lv_aload_n hx hb dX0_setBox_61 rfl (lv_at hl 0 rfl) ?_
          refine cx_get 8 hx hb hts hown hK hP (by decide) (hts _ q41) rfl dX0_setBox_62 ?_
          refine lv_aload_n hx hb dX0_setBox_65 rfl (lv_at hl 0 rfl) ?_
          refine cx_get 10 hx hb hts hown hK hP (by decide) (hts _ q43) rfl dX0_setBox_66 ?_
          refine vp_callSi (W.runS (As := [.int (nI (min xa xb)), .int (nI (min ya yb))]) (rest := [.ref (g 0)]) ⟨hx, hb, hml, hown, hts⟩ (met_X0_interleave l _ _ (by omega) (by omega)) (va_cwS 2 hts (lw_S q93 q94 q23 q95) rfl rfl rfl (by decide +kernel) ⟨Nat.le_of_ble_eq_true rfl, Nat.le_of_ble_eq_true rfl⟩) ci_preS rfl rfl hl.1 rfl (lv_room (Nat.le_of_ble_eq_true rfl)) dX0_setBox_69 ⟨Nat.le_of_ble_eq_true rfl, Nat.le_of_ble_eq_true rfl⟩) (fun r hr => ?_)
          subst hr
          refine cx_put 6 hx hb hts hown hK hP (wX_D hg) hS (by decide) (hts _ q39) rfl (by decide +kernel) (Nat.le_of_ble_eq_true rfl) dX0_setBox_72 (fun H locs hP hS => ?_)
          have hP : va_P D vwCl (wX g d u px py lb n k (il (min xa xb) (min ya yb)) mo (min xa xb) (max xa xb) (min ya yb) (max ya yb) fo ins) H := hP
          refine lv_aload_n hx hb dX0_setBox_75 rfl (lv_at hl 0 rfl) ?_
          refine lv_aload_n hx hb dX0_setBox_76 rfl (lv_at hl 0 rfl) ?_
          refine cx_get 9 hx hb hts hown hK hP (by decide) (hts _ q42) rfl dX0_setBox_77 ?_
          refine lv_aload_n hx hb dX0_setBox_80 rfl (lv_at hl 0 rfl) ?_
          refine cx_get 11 hx hb hts hown hK hP (by decide) (hts _ q44) rfl dX0_setBox_81 ?_
          refine vp_callSi (W.runS (As := [.int (nI (max xa xb)), .int (nI (max ya yb))]) (rest := [.ref (g 0)]) ⟨hx, hb, hml, hown, hts⟩ (met_X0_interleave l _ _ (by omega) (by omega)) (va_cwS 2 hts (lw_S q93 q94 q23 q95) rfl rfl rfl (by decide +kernel) ⟨Nat.le_of_ble_eq_true rfl, Nat.le_of_ble_eq_true rfl⟩) ci_preS rfl rfl hl.1 rfl (lv_room (Nat.le_of_ble_eq_true rfl)) dX0_setBox_84 ⟨Nat.le_of_ble_eq_true rfl, Nat.le_of_ble_eq_true rfl⟩) (fun r hr => ?_)
          subst hr
          refine cx_put 7 hx hb hts hown hK hP (wX_D hg) hS (by decide) (hts _ q40) rfl (by decide +kernel) (Nat.le_of_ble_eq_true rfl) dX0_setBox_87 (fun H locs hP hS => ?_)
          have hP : va_P D vwCl (wX g d u px py lb n k (il (min xa xb) (min ya yb)) (il (max xa xb) (max ya yb)) (min xa xb) (max xa xb) (min ya yb) (max ya yb) fo ins) H := hP
          exact ci_vretW hQ hx hb hrt hlk hS dX0_setBox_90 () trivial hP
        refine ci_icmp_ge (tgt := 56) hx hb dX0_setBox_48 (by decide) (by omega) (by omega) (fun c48 => ?_) (fun c48 => ?_)
        · refine lv_iload_n hx hb dX0_setBox_56 rfl (lv_at hl 2 rfl) ?_
          exact ci_top (by omega) j48
        · refine lv_iload hx hb dX0_setBox_51 (lv_at hl 4 rfl) ?_
          refine lv_goto (tgt := 57) hx hb dX0_setBox_53 (by decide) ?_
          exact ci_top (by omega) j48
      refine ci_icmp_ge (tgt := 39) hx hb dX0_setBox_32 (by decide) (by omega) (by omega) (fun c32 => ?_) (fun c32 => ?_)
      · refine lv_iload hx hb dX0_setBox_39 (lv_at hl 4 rfl) ?_
        exact ci_top (by omega) j32
      · refine lv_iload_n hx hb dX0_setBox_35 rfl (lv_at hl 2 rfl) ?_
        refine lv_goto (tgt := 41) hx hb dX0_setBox_36 (by decide) ?_
        exact ci_top (by omega) j32
    refine ci_icmp_ge (tgt := 24) hx hb dX0_setBox_17 (by decide) (by omega) (by omega) (fun c17 => ?_) (fun c17 => ?_)
    · refine lv_iload_n hx hb dX0_setBox_24 rfl (lv_at hl 1 rfl) ?_
      exact ci_top (by omega) j17
    · refine lv_iload_n hx hb dX0_setBox_20 rfl (lv_at hl 3 rfl) ?_
      refine lv_goto (tgt := 25) hx hb dX0_setBox_21 (by decide) ?_
      exact ci_top (by omega) j17
  refine ci_icmp_ge (tgt := 10) hx hb dX0_setBox_3 (by decide) (by omega) (by omega) (fun c3 => ?_) (fun c3 => ?_)
  · refine lv_iload_n hx hb dX0_setBox_10 rfl (lv_at hl 3 rfl) ?_
    exact ci_top (by omega) j3
  · refine lv_iload_n hx hb dX0_setBox_6 rfl (lv_at hl 1 rfl) ?_
    refine lv_goto (tgt := 11) hx hb dX0_setBox_7 (by decide) ?_
    exact ci_top (by omega) j3

/-- setBoxOf -/
abbrev rm_X0_setBoxOf : Room := { frames := 2, cells := 0, slots := 0, locals := 47 }
set_option maxHeartbeats 8000000 in
set_option maxRecDepth 100000 in
theorem met_X0_setBoxOf (l : Launch) (D : va_G) (g : Nat → Nat) (d : Nat → ClassId) (hg : xN 7 g) (u : Nat → Bool) (px py : Nat → Nat) (lb : Nat → Int32) (n : Nat) (k : Nat → Nat) (le mo x0 x1 y0 y1 fo : Nat) (ins : Nat → Nat) (a b : Nat) (ha : a < 4096) (hb1 : b < 4096) : Met l yX0_setBoxOf (ws_ yX0_setBoxOf cX0_setBoxOf 3 none) rm_X0_setBoxOf (ci_R D (wX g d u px py lb n k le mo x0 x1 y0 y1 fo ins) (tX d) [.ref (g 0), .int (nI a), .int (nI b)]) (va_Qv (fun (z : Unit) => True) (fun z t => va_P D vwCl (wX g d u px py lb n k (il (min (a % 64) (b % 64)) (min (a / 64) (b / 64))) (il (max (a % 64) (b % 64)) (max (a / 64) (b / 64))) (min (a % 64) (b % 64)) (max (a % 64) (b % 64)) (min (a / 64) (b / 64)) (max (a / 64) (b / 64)) fo ins) t.heap) (xA 7 g)) 0 0 (xA 7 g) := by
  refine ci_of (by decide) (Nat.le_of_ble_eq_true rfl) ?_
  intro p e s m args below meth c Q0 hx hb hrt hml hown hts hlk hmn hQ hP hK ls hl
  have hS : va_S (xA 7 g) s.heap s.heap [] := va_S.rf
  have hown : s.vm.findClass RX0 = some m.cls := hown
  have hl : lv_has ls 3 [(0, .ref (g 0)), (1, .int (nI a)), (2, .int (nI b))] := hl
  refine lv_aload_n hx hb dX0_setBoxOf_0 rfl (lv_at hl 0 rfl) ?_
  refine lv_iload_n hx hb dX0_setBoxOf_1 rfl (lv_at hl 1 rfl) ?_
  refine lv_bipush (v := (nI 63)) hx hb dX0_setBoxOf_2 (by decide +kernel) ?_
  refine ci_and63 hx hb dX0_setBoxOf_4 ?_
  refine lv_iload_n hx hb dX0_setBoxOf_5 rfl (lv_at hl 1 rfl) ?_
  refine lv_bipush (v := (nI 6)) hx hb dX0_setBoxOf_6 (by decide +kernel) ?_
  refine ci_shr6 hx hb dX0_setBoxOf_8 (by omega) ?_
  refine lv_iload_n hx hb dX0_setBoxOf_9 rfl (lv_at hl 2 rfl) ?_
  refine lv_bipush (v := (nI 63)) hx hb dX0_setBoxOf_10 (by decide +kernel) ?_
  refine ci_and63 hx hb dX0_setBoxOf_12 ?_
  refine lv_iload_n hx hb dX0_setBoxOf_13 rfl (lv_at hl 2 rfl) ?_
  refine lv_bipush (v := (nI 6)) hx hb dX0_setBoxOf_14 (by decide +kernel) ?_
  refine ci_shr6 hx hb dX0_setBoxOf_16 (by omega) ?_
  refine va_callv (va_runV (As := [.int (nI (a % 64)), .int (nI (a / 64)), .int (nI (b % 64)), .int (nI (b / 64))]) (rest := []) ⟨hx, hb, hml, hown, hts⟩ (met_X0_setBox l D g d hg u px py lb n k le mo x0 x1 y0 y1 fo ins (a % 64) (a / 64) (b % 64) (b / 64) (by omega) (by omega) (by omega) (by omega)) (cwV 4 hts (lw_V q128 q130 qs7 q23 q131) rfl rfl rfl (by decide +kernel) ⟨Nat.le_of_ble_eq_true rfl, Nat.le_of_ble_eq_true rfl⟩) (ci_pre hK hP (ci := 0) (q0 := 0) rfl rfl) rfl rfl hl.1 rfl (lv_room (Nat.le_of_ble_eq_true rfl)) dX0_setBoxOf_17 ⟨Nat.le_of_ble_eq_true rfl, Nat.le_of_ble_eq_true rfl⟩) hS (fun q _ h => h) (fun q h => h) (fun zz tt H1 locs ht hvm hr hB hz1 hk1 hS => ?_)
  have hP : va_P D vwCl (wX g d u px py lb n k (il (min (a % 64) (b % 64)) (min (a / 64) (b / 64))) (il (max (a % 64) (b % 64)) (max (a / 64) (b / 64))) (min (a % 64) (b % 64)) (max (a % 64) (b % 64)) (min (a / 64) (b / 64)) (max (a / 64) (b / 64)) fo ins) H1 := by rw [← ht]; exact hB
  clear hB hk1 hz1 ht hvm tt
  generalize H1 = H at hP hS ⊢
  exact ci_vretW hQ hx hb hrt hlk hS dX0_setBoxOf_20 () trivial hP

/-- walk() -/
abbrev rm_X0_walk : Room := { frames := 2, cells := 0, slots := 0, locals := 51 }
set_option maxHeartbeats 8000000 in
set_option maxRecDepth 100000 in
theorem met_X0_walk (l : Launch) (D : va_G) (g : Nat → Nat) (d : Nat → ClassId) (hg : xN 7 g) (u : Nat → Bool) (px py : Nat → Nat) (lb : Nat → Int32) (n : Nat) (k : Nat → Nat) (le mo x0 x1 y0 y1 fo : Nat) (ins : Nat → Nat)  (hI : Inv u px py n k) (h01 : x0 ≤ x1) (hx1 : x1 < 64) (h23 : y0 ≤ y1) (hy1 : y1 < 64) (hle : le = il x0 y0) (hmo : mo = il x1 y1) : Met l yX0_walk (ws_ yX0_walk cX0_walk 6 none) rm_X0_walk (ci_R D (wX g d u px py lb n k le mo x0 x1 y0 y1 fo ins) (tX d) [.ref (g 0)]) (va_Qv (fun (z : Nat × (Nat → Nat)) => En z.1 z.2 (fun i => u i && inb x0 x1 y0 y1 (px i) (py i))) (fun z t => va_P D vwCl (wX g d u px py lb n k le mo x0 x1 y0 y1 z.1 z.2) t.heap) (xA 7 g)) 0 0 (xA 7 g) := by
  refine ci_of (by decide) (Nat.le_of_ble_eq_true rfl) ?_
  intro p e s m args below meth c Q0 hx hb hrt hml hown hts hlk hmn hQ hP hK ls hl
  have hS : va_S (xA 7 g) s.heap s.heap [] := va_S.rf
  have hown : s.vm.findClass RX0 = some m.cls := hown
  have hl : lv_has ls 6 [(0, .ref (g 0))] := hl
  have hn40 := Inv_n hI
  have hll : il x0 y0 < 4096 := il_lt
  have hmm : il x1 y1 < 4096 := il_lt
  refine lv_aload_n hx hb dX0_walk_0 rfl (lv_at hl 0 rfl) ?_
  refine lv_iconst (v := (nI 0)) hx hb dX0_walk_1 (by decide +kernel) ?_
  refine cx_put 12 hx hb hts hown hK hP (wX_D hg) hS (by decide) (hts _ q45) rfl (by decide +kernel) (Nat.le_of_ble_eq_true rfl) dX0_walk_2 (fun H locs hP hS => ?_)
  have hP : va_P D vwCl (wX g d u px py lb n k le mo x0 x1 y0 y1 0 ins) H := hP
  refine lv_aload_n hx hb dX0_walk_5 rfl (lv_at hl 0 rfl) ?_
  refine lv_aload_n hx hb dX0_walk_6 rfl (lv_at hl 0 rfl) ?_
  refine cx_get 6 hx hb hts hown hK hP (by decide) (hts _ q39) rfl dX0_walk_7 ?_
  refine lv_bipush (v := (nI 64)) hx hb dX0_walk_10 (by decide +kernel) ?_
  refine ci_imul hx hb dX0_walk_12 ?_
  refine vp_callSi (W.runV (As := [.int (nI (le * 64))]) (rest := []) ⟨hx, hb, hml, hown, hts⟩ (met_X0_seek l D g d u px py lb n k le mo x0 x1 y0 y1 0 ins (le * 64) (by omega) hn40 (key_lt hI) (So_le hI.2.2.1)) (cwV 1 hts (lw_V q96 q98 qs2 q23 q99) rfl rfl rfl (by decide +kernel) ⟨Nat.le_of_ble_eq_true rfl, Nat.le_of_ble_eq_true rfl⟩) (ci_pre hK hP (ci := 0) (q0 := 0) rfl rfl) rfl rfl hl.1 rfl (lv_room (Nat.le_of_ble_eq_true rfl)) dX0_walk_13 ⟨Nat.le_of_ble_eq_true rfl, Nat.le_of_ble_eq_true rfl⟩) (fun r hr => ?_)
  obtain ⟨q0, rfl, hq0, hs1, hs2⟩ := hr
  refine lv_istore_n (lv' := [(1, .int (nI q0)), (0, .ref (g 0))]) hx hb dX0_walk_16 rfl hl (by decide) rfl (fun ls hl => ?_)
  refine lv_iconst (v := (nI 0)) hx hb dX0_walk_17 (by decide +kernel) ?_
  refine lv_istore_n (lv' := [(2, .int (nI 0)), (1, .int (nI q0)), (0, .ref (g 0))]) hx hb dX0_walk_18 rfl hl (by decide) rfl (fun ls hl => ?_)
  have lp : ∀ (f : Nat) (q st fo : Nat) (ins : Nat → Nat), (n - q < f) → (st ≤ q) → (q ≤ n) → (Wk px py k x0 x1 y0 y1 q fo ins) → ∀ (H : Heap) (locs : List Loc), va_P D vwCl (wX g d u px py lb n k le mo x0 x1 y0 y1 fo ins) H → va_S (xA 7 g) s.heap H locs → ∀ ls : Array Slot, lv_has ls 6 [(0, .ref (g 0)), (1, .int (nI q)), (2, .int (nI st))] → W p l e rm_X0_walk s m args below meth c H locs 0 0 Q0 (F0 m 19 ls []) := by
    intro f
    induction f with
    | zero => intro q st fo ins hf; exact absurd hf (Nat.not_lt_zero _)
    | succ f ih =>
      intro q st fo ins hf hst hqn hW H locs hP hS ls hl
      refine lv_iload_n hx hb dX0_walk_19 rfl (lv_at hl 2 rfl) ?_
      refine lv_bipush (v := (nI 80)) hx hb dX0_walk_20 (by decide +kernel) ?_
      refine ci_icmp_ge (tgt := 130) hx hb dX0_walk_22 (by decide) (by omega) (by omega) (fun c22 => ?_) (fun c22 => ?_)
      · exfalso; omega
      · refine lv_iload_n hx hb dX0_walk_25 rfl (lv_at hl 1 rfl) ?_
        refine lv_aload_n hx hb dX0_walk_26 rfl (lv_at hl 0 rfl) ?_
        refine cx_get 4 hx hb hts hown hK hP (by decide) (hts _ q37) rfl dX0_walk_27 ?_
        refine ci_icmp_ge (tgt := 130) hx hb dX0_walk_30 (by decide) (by omega) (by omega) (fun c30 => ?_) (fun c30 => ?_)
        · exact ci_vretW hQ hx hb hrt hlk hS dX0_walk_130 (fo, ins) (Wk_end hI hx1 hy1 hW hqn (by first | (left; omega) | (right; rw [← hmo]; exact c48))) hP
        · obtain ⟨g1, g2, g3, g4, g5⟩ := key_at hI c30
          have hb1 := hI.1 _ g1
          have hfo := hW.1
          refine lv_aload_n hx hb dX0_walk_33 rfl (lv_at hl 0 rfl) ?_
          refine cx_get 5 hx hb hts hown hK hP (by decide) (hts _ q38) rfl dX0_walk_34 ?_
          refine lv_iload_n hx hb dX0_walk_37 rfl (lv_at hl 1 rfl) ?_
          refine ci_iald hx hb hK hP 5 4 rfl rfl (by omega) (by decide) dX0_walk_38 ?_
          refine lv_aload_n hx hb dX0_walk_39 rfl (lv_at hl 0 rfl) ?_
          refine cx_get 7 hx hb hts hown hK hP (by decide) (hts _ q40) rfl dX0_walk_40 ?_
          refine lv_iconst (v := (nI 1)) hx hb dX0_walk_43 (by decide +kernel) ?_
          refine ci_iadd hx hb dX0_walk_44 ?_
          refine lv_bipush (v := (nI 64)) hx hb dX0_walk_45 (by decide +kernel) ?_
          refine ci_imul hx hb dX0_walk_47 ?_
          refine ci_icmp_ge (tgt := 130) hx hb dX0_walk_48 (by decide) (by omega) (by omega) (fun c48 => ?_) (fun c48 => ?_)
          · exact ci_vretW hQ hx hb hrt hlk hS dX0_walk_130 (fo, ins) (Wk_end hI hx1 hy1 hW hqn (by first | (left; omega) | (right; rw [← hmo]; exact c48))) hP
          · refine lv_aload_n hx hb dX0_walk_51 rfl (lv_at hl 0 rfl) ?_
            refine cx_get 5 hx hb hts hown hK hP (by decide) (hts _ q38) rfl dX0_walk_52 ?_
            refine lv_iload_n hx hb dX0_walk_55 rfl (lv_at hl 1 rfl) ?_
            refine ci_iald hx hb hK hP 5 4 rfl rfl (by omega) (by decide) dX0_walk_56 ?_
            refine lv_bipush (v := (nI 63)) hx hb dX0_walk_57 (by decide +kernel) ?_
            refine ci_and63 hx hb dX0_walk_59 ?_
            refine lv_istore_n (lv' := [(3, .int (nI ((k q) % 64))), (0, .ref (g 0)), (1, .int (nI q)), (2, .int (nI st))]) hx hb dX0_walk_60 rfl hl (by decide) rfl (fun ls hl => ?_)
            refine lv_aload_n hx hb dX0_walk_61 rfl (lv_at hl 1 rfl) ?_
            refine lv_iload_n hx hb dX0_walk_62 rfl (lv_at hl 0 rfl) ?_
            refine vp_callSi (W.runV (As := [.int (nI ((k q) % 64))]) (rest := []) ⟨hx, hb, hml, hown, hts⟩ (met_X0_inBox l D g d u px py lb n k le mo x0 x1 y0 y1 fo ins (k q % 64) g1 hb1.1 hb1.2 (by omega) hx1 (by omega) hy1) (cwV 1 hts (lw_V q136 q138 qs9 q23 q139) rfl rfl rfl (by decide +kernel) ⟨Nat.le_of_ble_eq_true rfl, Nat.le_of_ble_eq_true rfl⟩) (ci_pre hK hP (ci := 0) (q0 := 0) rfl rfl) rfl rfl hl.1 rfl (lv_room (Nat.le_of_ble_eq_true rfl)) dX0_walk_63 ⟨Nat.le_of_ble_eq_true rfl, Nat.le_of_ble_eq_true rfl⟩) (fun r hr => ?_)
            subst hr
            refine lv_istore (lv' := [(4, .int (bI (inb x0 x1 y0 y1 (px (k q % 64)) (py (k q % 64))))), (3, .int (nI ((k q) % 64))), (0, .ref (g 0)), (1, .int (nI q)), (2, .int (nI st))]) hx hb dX0_walk_66 hl (by decide) rfl (fun ls hl => ?_)
            refine lv_iload hx hb dX0_walk_68 (lv_at hl 0 rfl) ?_
            refine ci_ifb_eq (tgt := 99) hx hb dX0_walk_70 (by decide) (fun c70 => ?_) (fun c70 => ?_)
            · refine lv_aload_n hx hb dX0_walk_99 rfl (lv_at hl 2 rfl) ?_
              refine lv_aload_n hx hb dX0_walk_100 rfl (lv_at hl 2 rfl) ?_
              refine cx_get 5 hx hb hts hown hK hP (by decide) (hts _ q38) rfl dX0_walk_101 ?_
              refine lv_iload_n hx hb dX0_walk_104 rfl (lv_at hl 3 rfl) ?_
              refine ci_iald hx hb hK hP 5 4 rfl rfl (by omega) (by decide) dX0_walk_105 ?_
              refine lv_bipush (v := (nI 6)) hx hb dX0_walk_106 (by decide +kernel) ?_
              refine ci_shr6 hx hb dX0_walk_108 (by omega) ?_
              refine ci_top g3 ?_
              refine vp_callSi (W.runV (As := [.int (nI (il (px (k q % 64)) (py (k q % 64))))]) (rest := []) ⟨hx, hb, hml, hown, hts⟩ (met_X0_nextInside l D g d u px py lb n k le mo x0 x1 y0 y1 fo ins _ _ hb1.1 hb1.2 h01 hx1 h23 hy1 hle hmo) (cwV 1 hts (lw_V q140 q142 qs10 q23 q143) rfl rfl rfl (by decide +kernel) ⟨Nat.le_of_ble_eq_true rfl, Nat.le_of_ble_eq_true rfl⟩) (ci_pre hK hP (ci := 0) (q0 := 0) rfl rfl) rfl rfl hl.1 rfl (lv_room (Nat.le_of_ble_eq_true rfl)) dX0_walk_109 ⟨Nat.le_of_ble_eq_true rfl, Nat.le_of_ble_eq_true rfl⟩) (fun r hr => ?_)
              obtain ⟨a, rfl, hN⟩ := hr
              refine lv_istore (lv' := [(5, .int (nI a)), (4, .int (bI (inb x0 x1 y0 y1 (px (k q % 64)) (py (k q % 64))))), (3, .int (nI ((k q) % 64))), (0, .ref (g 0)), (1, .int (nI q)), (2, .int (nI st))]) hx hb dX0_walk_112 hl (by decide) rfl (fun ls hl => ?_)
              refine lv_aload_n hx hb dX0_walk_114 rfl (lv_at hl 3 rfl) ?_
              refine lv_iload hx hb dX0_walk_115 (lv_at hl 0 rfl) ?_
              refine lv_bipush (v := (nI 64)) hx hb dX0_walk_117 (by decide +kernel) ?_
              refine ci_imul hx hb dX0_walk_119 ?_
              refine vp_callSi (W.runV (As := [.int (nI (a * 64))]) (rest := []) ⟨hx, hb, hml, hown, hts⟩ (met_X0_seek l D g d u px py lb n k le mo x0 x1 y0 y1 fo ins (a * 64) (by have := hN.2.1; omega) hn40 (key_lt hI) (So_le hI.2.2.1)) (cwV 1 hts (lw_V q96 q98 qs2 q23 q99) rfl rfl rfl (by decide +kernel) ⟨Nat.le_of_ble_eq_true rfl, Nat.le_of_ble_eq_true rfl⟩) (ci_pre hK hP (ci := 0) (q0 := 0) rfl rfl) rfl rfl hl.1 rfl (lv_room (Nat.le_of_ble_eq_true rfl)) dX0_walk_120 ⟨Nat.le_of_ble_eq_true rfl, Nat.le_of_ble_eq_true rfl⟩) (fun r hr => ?_)
              obtain ⟨q2, rfl, hq2, t1, t2⟩ := hr
              rw [← g3] at hN
              obtain ⟨hlt, hW2⟩ := Wk_jump hI c30 hW c70 hN hq2 t1 t2
              refine lv_istore_n (lv' := [(1, .int (nI q2)), (5, .int (nI a)), (4, .int (bI (inb x0 x1 y0 y1 (px (k q % 64)) (py (k q % 64))))), (3, .int (nI ((k q) % 64))), (0, .ref (g 0)), (2, .int (nI st))]) hx hb dX0_walk_123 rfl hl (by decide) rfl (fun ls hl => ?_)
              refine lv_iinc (v := (nI (st + 1))) (lv' := [(2, .int (nI (st + 1))), (1, .int (nI q2)), (5, .int (nI a)), (4, .int (bI (inb x0 x1 y0 y1 (px (k q % 64)) (py (k q % 64))))), (3, .int (nI ((k q) % 64))), (0, .ref (g 0))]) hx hb dX0_walk_124 hl (k := 5) rfl (ci_inc _) (by decide) rfl (fun ls hl => ?_)
              refine lv_goto (tgt := 19) hx hb dX0_walk_127 (by decide) ?_
              exact ih q2 (st + 1) fo ins (by omega) (by omega) hq2 hW2 H locs hP hS ls (lv_sub hl [5, 1, 0] rfl)
            · refine lv_aload_n hx hb dX0_walk_73 rfl (lv_at hl 2 rfl) ?_
              refine cx_get 13 hx hb hts hown hK hP (by decide) (hts _ q46) rfl dX0_walk_74 ?_
              refine lv_aload_n hx hb dX0_walk_77 rfl (lv_at hl 2 rfl) ?_
              refine cx_get 12 hx hb hts hown hK hP (by decide) (hts _ q45) rfl dX0_walk_78 ?_
              refine lv_iload_n hx hb dX0_walk_81 rfl (lv_at hl 1 rfl) ?_
              refine ci_iast hx hb hK hP (wX_D hg) hS 6 5 rfl rfl (by omega) (by decide) dX0_walk_82 (fun H locs hP hS => ?_)
              have hP : va_P D vwCl (wX g d u px py lb n k le mo x0 x1 y0 y1 fo (va_up ins fo ((k q) % 64))) H := hP
              refine lv_aload_n hx hb dX0_walk_83 rfl (lv_at hl 2 rfl) ?_
              refine lv_dup hx hb dX0_walk_84 rfl ?_
              refine cx_get 12 hx hb hts hown hK hP (by decide) (hts _ q45) rfl dX0_walk_85 ?_
              refine lv_iconst (v := (nI 1)) hx hb dX0_walk_88 (by decide +kernel) ?_
              refine ci_iadd hx hb dX0_walk_89 ?_
              refine cx_put 12 hx hb hts hown hK hP (wX_D hg) hS (by decide) (hts _ q45) rfl (by decide +kernel) (Nat.le_of_ble_eq_true rfl) dX0_walk_90 (fun H locs hP hS => ?_)
              have hP : va_P D vwCl (wX g d u px py lb n k le mo x0 x1 y0 y1 (fo + 1) (va_up ins fo ((k q) % 64))) H := hP
              refine lv_iinc (v := (nI (q + 1))) (lv' := [(1, .int (nI (q + 1))), (4, .int (bI (inb x0 x1 y0 y1 (px (k q % 64)) (py (k q % 64))))), (3, .int (nI ((k q) % 64))), (0, .ref (g 0)), (2, .int (nI st))]) hx hb dX0_walk_93 hl (k := 3) rfl (ci_inc _) (by decide) rfl (fun ls hl => ?_)
              refine lv_goto (tgt := 124) hx hb dX0_walk_96 (by decide) ?_
              refine lv_iinc (v := (nI (st + 1))) (lv' := [(2, .int (nI (st + 1))), (1, .int (nI (q + 1))), (4, .int (bI (inb x0 x1 y0 y1 (px (k q % 64)) (py (k q % 64))))), (3, .int (nI ((k q) % 64))), (0, .ref (g 0))]) hx hb dX0_walk_124 hl (k := 4) rfl (ci_inc _) (by decide) rfl (fun ls hl => ?_)
              refine lv_goto (tgt := 19) hx hb dX0_walk_127 (by decide) ?_
              exact ih (q + 1) (st + 1) _ _ (by omega) (by omega) (by omega) (Wk_in hI c30 hW c70) H locs hP hS ls (lv_sub hl [4, 1, 0] rfl)
  rw [hle] at hs1
  exact lp (n + 1) q0 0 0 ins (by omega) (by omega) hq0 (Wk_first hI hq0 hs1) _ _ hP hS ls (lv_sub hl [2, 1, 0] rfl)
end
section
/-- countBox(a, b) -/
abbrev rm_X0_countBox : Room := { frames := 3, cells := 0, slots := 0, locals := 76 }
set_option maxHeartbeats 8000000 in
set_option maxRecDepth 100000 in
theorem met_X0_countBox (l : Launch) (D : va_G) (g : Nat → Nat) (d : Nat → ClassId) (hg : xN 7 g) (u : Nat → Bool) (px py : Nat → Nat) (lb : Nat → Int32) (n : Nat) (k : Nat → Nat) (le mo x0 x1 y0 y1 fo : Nat) (ins : Nat → Nat) (x y : Int32) (hI : Inv u px py n k) : Met l yX0_countBox (ws_ yX0_countBox cX0_countBox 3 (some .int)) rm_X0_countBox (ci_R D (wX g d u px py lb n k le mo x0 x1 y0 y1 fo ins) (tX d) [.ref (g 0), .int x, .int y]) (va_Qi (fun (r : Int32) (z : BX) => ((badP x = true ∨ badP y = true) ∧ r = -1) ∨ (∃ a b, a < 4096 ∧ b < 4096 ∧ x = nI a ∧ y = nI b ∧ r = nI (cnt (bxP u px py a b) 40))) (fun z t => va_P D vwCl (wZ g d u px py lb n k z) t.heap) (xA 7 g)) 0 0 (xA 7 g) := by
  refine ci_of (by decide) (Nat.le_of_ble_eq_true rfl) ?_
  intro p e s m args below meth c Q0 hx hb hrt hml hown hts hlk hmn hQ hP hK ls hl
  have hS : va_S (xA 7 g) s.heap s.heap [] := va_S.rf
  have hown : s.vm.findClass RX0 = some m.cls := hown
  have hl : lv_has ls 3 [(0, .ref (g 0)), (1, .int x), (2, .int y)] := hl
  refine lv_iload_n hx hb dX0_countBox_0 rfl (lv_at hl 1 rfl) ?_
  refine vp_callSi (W.runS (As := [.int x]) (rest := []) ⟨hx, hb, hml, hown, hts⟩ (met_X0_bad l _) (va_cwS 1 hts (lw_S q82 q83 q23 q84) rfl rfl rfl (by decide +kernel) ⟨Nat.le_of_ble_eq_true rfl, Nat.le_of_ble_eq_true rfl⟩) ci_preS rfl rfl hl.1 rfl (lv_room (Nat.le_of_ble_eq_true rfl)) dX0_countBox_1 ⟨Nat.le_of_ble_eq_true rfl, Nat.le_of_ble_eq_true rfl⟩) (fun r hr => ?_)
  subst hr
  refine ci_ifb_ne (tgt := 14) hx hb dX0_countBox_4 (by decide) (fun c4 => ?_) (fun c4 => ?_)
  · refine lv_iconst (v := (-1)) hx hb dX0_countBox_14 (by decide +kernel) ?_
    exact ci_iretW hQ hx hb hrt hlk hS dX0_countBox_15 (le, mo, x0, x1, y0, y1, fo, ins) (Or.inl ⟨by first | exact Or.inl c4 | exact Or.inr c11, rfl⟩) hP
  · obtain ⟨a, ha, rfl⟩ := badP_f c4
    refine lv_iload_n hx hb dX0_countBox_7 rfl (lv_at hl 2 rfl) ?_
    refine vp_callSi (W.runS (As := [.int y]) (rest := []) ⟨hx, hb, hml, hown, hts⟩ (met_X0_bad l _) (va_cwS 1 hts (lw_S q82 q83 q23 q84) rfl rfl rfl (by decide +kernel) ⟨Nat.le_of_ble_eq_true rfl, Nat.le_of_ble_eq_true rfl⟩) ci_preS rfl rfl hl.1 rfl (lv_room (Nat.le_of_ble_eq_true rfl)) dX0_countBox_8 ⟨Nat.le_of_ble_eq_true rfl, Nat.le_of_ble_eq_true rfl⟩) (fun r hr => ?_)
    subst hr
    refine ci_ifb_eq (tgt := 16) hx hb dX0_countBox_11 (by decide) (fun c11 => ?_) (fun c11 => ?_)
    · obtain ⟨b, hb9, rfl⟩ := badP_f c11
      refine lv_aload_n hx hb dX0_countBox_16 rfl (lv_at hl 0 rfl) ?_
      refine lv_iload_n hx hb dX0_countBox_17 rfl (lv_at hl 1 rfl) ?_
      refine lv_iload_n hx hb dX0_countBox_18 rfl (lv_at hl 2 rfl) ?_
      refine va_callv (va_runV (As := [.int (nI a), .int (nI b)]) (rest := []) ⟨hx, hb, hml, hown, hts⟩ (met_X0_setBoxOf l D g d hg u px py lb n k le mo x0 x1 y0 y1 fo ins a b ha hb9) (cwV 2 hts (lw_V q124 q126 qs6 q23 q127) rfl rfl rfl (by decide +kernel) ⟨Nat.le_of_ble_eq_true rfl, Nat.le_of_ble_eq_true rfl⟩) (ci_pre hK hP (ci := 0) (q0 := 0) rfl rfl) rfl rfl hl.1 rfl (lv_room (Nat.le_of_ble_eq_true rfl)) dX0_countBox_19 ⟨Nat.le_of_ble_eq_true rfl, Nat.le_of_ble_eq_true rfl⟩) hS (fun q _ h => h) (fun q h => h) (fun zz tt H1 locs ht hvm hr hB hz1 hk1 hS => ?_)
      have hP : va_P D vwCl (wX g d u px py lb n k (il (min (a % 64) (b % 64)) (min (a / 64) (b / 64))) (il (max (a % 64) (b % 64)) (max (a / 64) (b / 64))) (min (a % 64) (b % 64)) (max (a % 64) (b % 64)) (min (a / 64) (b / 64)) (max (a / 64) (b / 64)) fo ins) H1 := by rw [← ht]; exact hB
      clear hB hk1 hz1 ht hvm tt
      generalize H1 = H at hP hS ⊢
      refine lv_aload_n hx hb dX0_countBox_22 rfl (lv_at hl 0 rfl) ?_
      refine va_callv (va_runV (As := []) (rest := []) ⟨hx, hb, hml, hown, hts⟩ (met_X0_walk l D g d hg u px py lb n k (il (min (a % 64) (b % 64)) (min (a / 64) (b / 64))) (il (max (a % 64) (b % 64)) (max (a / 64) (b / 64))) (min (a % 64) (b % 64)) (max (a % 64) (b % 64)) (min (a / 64) (b / 64)) (max (a / 64) (b / 64)) fo ins hI (by omega) (by omega) (by omega) (by omega) rfl rfl) (cwV 0 hts (lw_V q132 q134 qs8 q23 q135) rfl rfl rfl (by decide +kernel) ⟨Nat.le_of_ble_eq_true rfl, Nat.le_of_ble_eq_true rfl⟩) (ci_pre hK hP (ci := 0) (q0 := 0) rfl rfl) rfl rfl hl.1 rfl (lv_room (Nat.le_of_ble_eq_true rfl)) dX0_countBox_23 ⟨Nat.le_of_ble_eq_true rfl, Nat.le_of_ble_eq_true rfl⟩) hS (fun q _ h => h) (fun q h => h) (fun zz tt H1 locs ht hvm hr hB hz1 hk1 hS => ?_)
      obtain ⟨fo1, ins1⟩ := zz
      have hE0 := hr
      clear hr
      have hE : En fo1 ins1 (bxP u px py a b) := hE0
      have hfo : fo1 ≤ 40 := by rw [En_cnt fo1 hE]; exact cnt_le _ 40
      have hP : va_P D vwCl (wX g d u px py lb n k (il (min (a % 64) (b % 64)) (min (a / 64) (b / 64))) (il (max (a % 64) (b % 64)) (max (a / 64) (b / 64))) (min (a % 64) (b % 64)) (max (a % 64) (b % 64)) (min (a / 64) (b / 64)) (max (a / 64) (b / 64)) fo1 ins1) H1 := by rw [← ht]; exact hB
      clear hB hk1 hz1 ht hvm tt
      generalize H1 = H at hP hS ⊢
      refine lv_aload_n hx hb dX0_countBox_26 rfl (lv_at hl 0 rfl) ?_
      refine cx_get 12 hx hb hts hown hK hP (by decide) (hts _ q45) rfl dX0_countBox_27 ?_
      exact ci_iretW hQ hx hb hrt hlk hS dX0_countBox_30 (il (min (a % 64) (b % 64)) (min (a / 64) (b / 64)), il (max (a % 64) (b % 64)) (max (a / 64) (b / 64)), min (a % 64) (b % 64), max (a % 64) (b % 64), min (a / 64) (b / 64), max (a / 64) (b / 64), fo1, ins1) (Or.inr ⟨a, b, ha, hb9, rfl, rfl, by rw [← En_cnt fo1 hE]⟩) hP
    · refine lv_iconst (v := (-1)) hx hb dX0_countBox_14 (by decide +kernel) ?_
      exact ci_iretW hQ hx hb hrt hlk hS dX0_countBox_15 (le, mo, x0, x1, y0, y1, fo, ins) (Or.inl ⟨by first | exact Or.inl c4 | exact Or.inr c11, rfl⟩) hP

/-- clearBox(a, b) -/
abbrev rm_X0_clearBox : Room := { frames := 4, cells := 0, slots := 0, locals := 89 }
set_option maxHeartbeats 8000000 in
set_option maxRecDepth 100000 in
theorem met_X0_clearBox (l : Launch) (D : va_G) (g : Nat → Nat) (d : Nat → ClassId) (hg : xN 7 g) (u : Nat → Bool) (px py : Nat → Nat) (lb : Nat → Int32) (n : Nat) (k : Nat → Nat) (le mo x0 x1 y0 y1 fo : Nat) (ins : Nat → Nat) (x y : Int32) (hI : Inv u px py n k) : Met l yX0_clearBox (ws_ yX0_clearBox cX0_clearBox 4 (some .int)) rm_X0_clearBox (ci_R D (wX g d u px py lb n k le mo x0 x1 y0 y1 fo ins) (tX d) [.ref (g 0), .int x, .int y]) (va_Qi (fun (r : Int32) (z : (Nat → Bool) × Nat × (Nat → Nat) × BX) => Inv z.1 px py z.2.1 z.2.2.1 ∧ ((((badP x = true ∨ badP y = true) ∧ r = -1) ∧ z.1 = u) ∨ (∃ a b, a < 4096 ∧ b < 4096 ∧ x = nI a ∧ y = nI b ∧ r = nI (cnt (bxP u px py a b) 40) ∧ ∀ i, i < 40 → z.1 i = (u i && !(bxP u px py a b i))))) (fun z t => va_P D vwCl (wZ g d z.1 px py lb z.2.1 z.2.2.1 z.2.2.2) t.heap) (xA 7 g)) 0 0 (xA 7 g) := by
  refine ci_of (by decide) (Nat.le_of_ble_eq_true rfl) ?_
  intro p e s m args below meth c Q0 hx hb hrt hml hown hts hlk hmn hQ hP hK ls hl
  have hS : va_S (xA 7 g) s.heap s.heap [] := va_S.rf
  have hown : s.vm.findClass RX0 = some m.cls := hown
  have hl : lv_has ls 4 [(0, .ref (g 0)), (1, .int x), (2, .int y)] := hl
  refine lv_iload_n hx hb dX0_clearBox_0 rfl (lv_at hl 1 rfl) ?_
  refine vp_callSi (W.runS (As := [.int x]) (rest := []) ⟨hx, hb, hml, hown, hts⟩ (met_X0_bad l _) (va_cwS 1 hts (lw_S q82 q83 q23 q84) rfl rfl rfl (by decide +kernel) ⟨Nat.le_of_ble_eq_true rfl, Nat.le_of_ble_eq_true rfl⟩) ci_preS rfl rfl hl.1 rfl (lv_room (Nat.le_of_ble_eq_true rfl)) dX0_clearBox_1 ⟨Nat.le_of_ble_eq_true rfl, Nat.le_of_ble_eq_true rfl⟩) (fun r hr => ?_)
  subst hr
  refine ci_ifb_ne (tgt := 14) hx hb dX0_clearBox_4 (by decide) (fun c4 => ?_) (fun c4 => ?_)
  · refine lv_iconst (v := (-1)) hx hb dX0_clearBox_14 (by decide +kernel) ?_
    exact ci_iretW hQ hx hb hrt hlk hS dX0_clearBox_15 (u, n, k, le, mo, x0, x1, y0, y1, fo, ins) ⟨hI, Or.inl ⟨⟨by first | exact Or.inl c4 | exact Or.inr c11, rfl⟩, rfl⟩⟩ hP
  · obtain ⟨a, ha, rfl⟩ := badP_f c4
    refine lv_iload_n hx hb dX0_clearBox_7 rfl (lv_at hl 2 rfl) ?_
    refine vp_callSi (W.runS (As := [.int y]) (rest := []) ⟨hx, hb, hml, hown, hts⟩ (met_X0_bad l _) (va_cwS 1 hts (lw_S q82 q83 q23 q84) rfl rfl rfl (by decide +kernel) ⟨Nat.le_of_ble_eq_true rfl, Nat.le_of_ble_eq_true rfl⟩) ci_preS rfl rfl hl.1 rfl (lv_room (Nat.le_of_ble_eq_true rfl)) dX0_clearBox_8 ⟨Nat.le_of_ble_eq_true rfl, Nat.le_of_ble_eq_true rfl⟩) (fun r hr => ?_)
    subst hr
    refine ci_ifb_eq (tgt := 16) hx hb dX0_clearBox_11 (by decide) (fun c11 => ?_) (fun c11 => ?_)
    · obtain ⟨b, hb9, rfl⟩ := badP_f c11
      refine lv_aload_n hx hb dX0_clearBox_16 rfl (lv_at hl 0 rfl) ?_
      refine lv_iload_n hx hb dX0_clearBox_17 rfl (lv_at hl 1 rfl) ?_
      refine lv_iload_n hx hb dX0_clearBox_18 rfl (lv_at hl 2 rfl) ?_
      refine va_callv (va_runV (As := [.int (nI a), .int (nI b)]) (rest := []) ⟨hx, hb, hml, hown, hts⟩ (met_X0_setBoxOf l D g d hg u px py lb n k le mo x0 x1 y0 y1 fo ins a b ha hb9) (cwV 2 hts (lw_V q124 q126 qs6 q23 q127) rfl rfl rfl (by decide +kernel) ⟨Nat.le_of_ble_eq_true rfl, Nat.le_of_ble_eq_true rfl⟩) (ci_pre hK hP (ci := 0) (q0 := 0) rfl rfl) rfl rfl hl.1 rfl (lv_room (Nat.le_of_ble_eq_true rfl)) dX0_clearBox_19 ⟨Nat.le_of_ble_eq_true rfl, Nat.le_of_ble_eq_true rfl⟩) hS (fun q _ h => h) (fun q h => h) (fun zz tt H1 locs ht hvm hr hB hz1 hk1 hS => ?_)
      have hP : va_P D vwCl (wX g d u px py lb n k (il (min (a % 64) (b % 64)) (min (a / 64) (b / 64))) (il (max (a % 64) (b % 64)) (max (a / 64) (b / 64))) (min (a % 64) (b % 64)) (max (a % 64) (b % 64)) (min (a / 64) (b / 64)) (max (a / 64) (b / 64)) fo ins) H1 := by rw [← ht]; exact hB
      clear hB hk1 hz1 ht hvm tt
      generalize H1 = H at hP hS ⊢
      refine lv_aload_n hx hb dX0_clearBox_22 rfl (lv_at hl 0 rfl) ?_
      refine va_callv (va_runV (As := []) (rest := []) ⟨hx, hb, hml, hown, hts⟩ (met_X0_walk l D g d hg u px py lb n k (il (min (a % 64) (b % 64)) (min (a / 64) (b / 64))) (il (max (a % 64) (b % 64)) (max (a / 64) (b / 64))) (min (a % 64) (b % 64)) (max (a % 64) (b % 64)) (min (a / 64) (b / 64)) (max (a / 64) (b / 64)) fo ins hI (by omega) (by omega) (by omega) (by omega) rfl rfl) (cwV 0 hts (lw_V q132 q134 qs8 q23 q135) rfl rfl rfl (by decide +kernel) ⟨Nat.le_of_ble_eq_true rfl, Nat.le_of_ble_eq_true rfl⟩) (ci_pre hK hP (ci := 0) (q0 := 0) rfl rfl) rfl rfl hl.1 rfl (lv_room (Nat.le_of_ble_eq_true rfl)) dX0_clearBox_23 ⟨Nat.le_of_ble_eq_true rfl, Nat.le_of_ble_eq_true rfl⟩) hS (fun q _ h => h) (fun q h => h) (fun zz tt H1 locs ht hvm hr hB hz1 hk1 hS => ?_)
      obtain ⟨fo1, ins1⟩ := zz
      have hE0 := hr
      clear hr
      have hE : En fo1 ins1 (bxP u px py a b) := hE0
      have hfo : fo1 ≤ 40 := by rw [En_cnt fo1 hE]; exact cnt_le _ 40
      have hP : va_P D vwCl (wX g d u px py lb n k (il (min (a % 64) (b % 64)) (min (a / 64) (b / 64))) (il (max (a % 64) (b % 64)) (max (a / 64) (b / 64))) (min (a % 64) (b % 64)) (max (a % 64) (b % 64)) (min (a / 64) (b / 64)) (max (a / 64) (b / 64)) fo1 ins1) H1 := by rw [← ht]; exact hB
      clear hB hk1 hz1 ht hvm tt
      generalize H1 = H at hP hS ⊢
      refine lv_iconst (v := (nI 0)) hx hb dX0_clearBox_26 (by decide +kernel) ?_
      refine lv_istore_n (lv' := [(3, .int (nI 0)), (0, .ref (g 0)), (1, .int (nI a)), (2, .int (nI b))]) hx hb dX0_clearBox_27 rfl hl (by decide) rfl (fun ls hl => ?_)
      have lp : ∀ (f : Nat) (i nn : Nat) (uu : Nat → Bool) (kk : Nat → Nat), (fo1 - i < f) → (i ≤ fo1) → (Inv uu px py nn kk) → (∀ x, x < 40 → (uu x = true ↔ u x = true ∧ ∀ j, j < i → ins1 j ≠ x)) → ∀ (H : Heap) (locs : List Loc), va_P D vwCl (wX g d uu px py lb nn kk (il (min (a % 64) (b % 64)) (min (a / 64) (b / 64))) (il (max (a % 64) (b % 64)) (max (a / 64) (b / 64))) (min (a % 64) (b % 64)) (max (a % 64) (b % 64)) (min (a / 64) (b / 64)) (max (a / 64) (b / 64)) fo1 ins1) H → va_S (xA 7 g) s.heap H locs → ∀ ls : Array Slot, lv_has ls 4 [(0, .ref (g 0)), (3, .int (nI i))] → W p l e rm_X0_clearBox s m args below meth c H locs 0 0 Q0 (F0 m 28 ls []) := by
        intro f
        induction f with
        | zero => intro i nn uu kk hf; exact absurd hf (Nat.not_lt_zero _)
        | succ f ih =>
          intro i nn uu kk hf hif hJ hU H locs hP hS ls hl
          refine lv_iload_n hx hb dX0_clearBox_28 rfl (lv_at hl 1 rfl) ?_
          refine lv_aload_n hx hb dX0_clearBox_29 rfl (lv_at hl 0 rfl) ?_
          refine cx_get 12 hx hb hts hown hK hP (by decide) (hts _ q45) rfl dX0_clearBox_30 ?_
          refine ci_icmp_ge (tgt := 52) hx hb dX0_clearBox_33 (by decide) (by omega) (by omega) (fun c33 => ?_) (fun c33 => ?_)
          · refine lv_aload_n hx hb dX0_clearBox_52 rfl (lv_at hl 0 rfl) ?_
            refine cx_get 12 hx hb hts hown hK hP (by decide) (hts _ q45) rfl dX0_clearBox_53 ?_
            exact ci_iretW hQ hx hb hrt hlk hS dX0_clearBox_56 (uu, nn, kk, il (min (a % 64) (b % 64)) (min (a / 64) (b / 64)), il (max (a % 64) (b % 64)) (max (a / 64) (b / 64)), min (a % 64) (b % 64), max (a % 64) (b % 64), min (a / 64) (b / 64), max (a / 64) (b / 64), fo1, ins1) ⟨hJ, Or.inr ⟨a, b, ha, hb9, rfl, rfl, by rw [← En_cnt fo1 hE], clr_end hE (by rw [show i = fo1 by omega] at hU; exact hU)⟩⟩ hP
          · obtain ⟨hv, hU2⟩ := clr_step hE c33 (fun x h => by unfold bxP at h; rw [Bool.and_eq_true] at h; exact h.1) hU
            obtain ⟨hv1, hv2⟩ := En_at hE c33
            refine lv_aload_n hx hb dX0_clearBox_36 rfl (lv_at hl 0 rfl) ?_
            refine lv_aload_n hx hb dX0_clearBox_37 rfl (lv_at hl 0 rfl) ?_
            refine cx_get 13 hx hb hts hown hK hP (by decide) (hts _ q46) rfl dX0_clearBox_38 ?_
            refine lv_iload_n hx hb dX0_clearBox_41 rfl (lv_at hl 1 rfl) ?_
            refine ci_iald hx hb hK hP 6 5 rfl rfl (by omega) (by decide) dX0_clearBox_42 ?_
            refine va_callv (va_runV (As := [.int (nI (ins1 i))]) (rest := []) ⟨hx, hb, hml, hown, hts⟩ (met_X0_dropPoint l D g d hg uu px py lb nn kk (il (min (a % 64) (b % 64)) (min (a / 64) (b / 64))) (il (max (a % 64) (b % 64)) (max (a / 64) (b / 64))) (min (a % 64) (b % 64)) (max (a % 64) (b % 64)) (min (a / 64) (b / 64)) (max (a / 64) (b / 64)) fo1 ins1 (ins1 i) hv1 hv hJ) (cwV 1 hts (lw_V q108 q110 qs4 q23 q111) rfl rfl rfl (by decide +kernel) ⟨Nat.le_of_ble_eq_true rfl, Nat.le_of_ble_eq_true rfl⟩) (ci_pre hK hP (ci := 0) (q0 := 0) rfl rfl) rfl rfl hl.1 rfl (lv_room (Nat.le_of_ble_eq_true rfl)) dX0_clearBox_43 ⟨Nat.le_of_ble_eq_true rfl, Nat.le_of_ble_eq_true rfl⟩) hS (fun q _ h => h) (fun q h => h) (fun zz tt H1 locs ht hvm hr hB hz1 hk1 hS => ?_)
            obtain ⟨k1, rfl⟩ : ∃ w, w = zz := ⟨_, rfl⟩
            have hP : va_P D vwCl (wX g d (va_up uu (ins1 i) false) px py lb (nn - 1) k1 (il (min (a % 64) (b % 64)) (min (a / 64) (b / 64))) (il (max (a % 64) (b % 64)) (max (a / 64) (b / 64))) (min (a % 64) (b % 64)) (max (a % 64) (b % 64)) (min (a / 64) (b / 64)) (max (a / 64) (b / 64)) fo1 ins1) H1 := by rw [← ht]; exact hB
            clear hB hk1 hz1 ht hvm tt
            generalize H1 = H at hP hS ⊢
            refine lv_iinc (v := (nI (i + 1))) (lv' := [(3, .int (nI (i + 1))), (0, .ref (g 0))]) hx hb dX0_clearBox_46 hl (k := 1) rfl (ci_inc _) (by decide) rfl (fun ls hl => ?_)
            refine lv_goto (tgt := 28) hx hb dX0_clearBox_49 (by decide) ?_
            exact ih (i + 1) _ _ _ (by omega) (by omega) hr hU2 H locs hP hS ls (lv_sub hl [1, 0] rfl)
      exact lp (fo1 + 1) 0 n u k (by omega) (Nat.zero_le _) hI (fun x hx => ⟨fun h => ⟨h, fun j hj => absurd hj (Nat.not_lt_zero j)⟩, fun h => h.1⟩) _ _ hP hS ls (lv_sub hl [1, 0] rfl)
    · refine lv_iconst (v := (-1)) hx hb dX0_clearBox_14 (by decide +kernel) ?_
      exact ci_iretW hQ hx hb hrt hlk hS dX0_clearBox_15 (u, n, k, le, mo, x0, x1, y0, y1, fo, ins) ⟨hI, Or.inl ⟨⟨by first | exact Or.inl c4 | exact Or.inr c11, rfl⟩, rfl⟩⟩ hP

/-- sumBox(a, b) -/
abbrev rm_X0_sumBox : Room := { frames := 3, cells := 0, slots := 0, locals := 76 }
set_option maxHeartbeats 8000000 in
set_option maxRecDepth 100000 in
theorem met_X0_sumBox (l : Launch) (D : va_G) (g : Nat → Nat) (d : Nat → ClassId) (hg : xN 7 g) (u : Nat → Bool) (px py : Nat → Nat) (lb : Nat → Int32) (n : Nat) (k : Nat → Nat) (le mo x0 x1 y0 y1 fo : Nat) (ins : Nat → Nat) (x y : Int32) (hI : Inv u px py n k) : Met l yX0_sumBox (ws_ yX0_sumBox cX0_sumBox 5 (some .int)) rm_X0_sumBox (ci_R D (wX g d u px py lb n k le mo x0 x1 y0 y1 fo ins) (tX d) [.ref (g 0), .int x, .int y]) (va_Qi (fun (r : Int32) (z : BX) => ((badP x = true ∨ badP y = true) ∧ r = -1) ∨ (∃ a b, a < 4096 ∧ b < 4096 ∧ x = nI a ∧ y = nI b ∧ r = sumP (bxP u px py a b) lb 40)) (fun z t => va_P D vwCl (wZ g d u px py lb n k z) t.heap) (xA 7 g)) 0 0 (xA 7 g) := by
  refine ci_of (by decide) (Nat.le_of_ble_eq_true rfl) ?_
  intro p e s m args below meth c Q0 hx hb hrt hml hown hts hlk hmn hQ hP hK ls hl
  have hS : va_S (xA 7 g) s.heap s.heap [] := va_S.rf
  have hown : s.vm.findClass RX0 = some m.cls := hown
  have hl : lv_has ls 5 [(0, .ref (g 0)), (1, .int x), (2, .int y)] := hl
  refine lv_iload_n hx hb dX0_sumBox_0 rfl (lv_at hl 1 rfl) ?_
  refine vp_callSi (W.runS (As := [.int x]) (rest := []) ⟨hx, hb, hml, hown, hts⟩ (met_X0_bad l _) (va_cwS 1 hts (lw_S q82 q83 q23 q84) rfl rfl rfl (by decide +kernel) ⟨Nat.le_of_ble_eq_true rfl, Nat.le_of_ble_eq_true rfl⟩) ci_preS rfl rfl hl.1 rfl (lv_room (Nat.le_of_ble_eq_true rfl)) dX0_sumBox_1 ⟨Nat.le_of_ble_eq_true rfl, Nat.le_of_ble_eq_true rfl⟩) (fun r hr => ?_)
  subst hr
  refine ci_ifb_ne (tgt := 14) hx hb dX0_sumBox_4 (by decide) (fun c4 => ?_) (fun c4 => ?_)
  · refine lv_iconst (v := (-1)) hx hb dX0_sumBox_14 (by decide +kernel) ?_
    exact ci_iretW hQ hx hb hrt hlk hS dX0_sumBox_15 (le, mo, x0, x1, y0, y1, fo, ins) (Or.inl ⟨by first | exact Or.inl c4 | exact Or.inr c11, rfl⟩) hP
  · obtain ⟨a, ha, rfl⟩ := badP_f c4
    refine lv_iload_n hx hb dX0_sumBox_7 rfl (lv_at hl 2 rfl) ?_
    refine vp_callSi (W.runS (As := [.int y]) (rest := []) ⟨hx, hb, hml, hown, hts⟩ (met_X0_bad l _) (va_cwS 1 hts (lw_S q82 q83 q23 q84) rfl rfl rfl (by decide +kernel) ⟨Nat.le_of_ble_eq_true rfl, Nat.le_of_ble_eq_true rfl⟩) ci_preS rfl rfl hl.1 rfl (lv_room (Nat.le_of_ble_eq_true rfl)) dX0_sumBox_8 ⟨Nat.le_of_ble_eq_true rfl, Nat.le_of_ble_eq_true rfl⟩) (fun r hr => ?_)
    subst hr
    refine ci_ifb_eq (tgt := 16) hx hb dX0_sumBox_11 (by decide) (fun c11 => ?_) (fun c11 => ?_)
    · obtain ⟨b, hb9, rfl⟩ := badP_f c11
      refine lv_aload_n hx hb dX0_sumBox_16 rfl (lv_at hl 0 rfl) ?_
      refine lv_iload_n hx hb dX0_sumBox_17 rfl (lv_at hl 1 rfl) ?_
      refine lv_iload_n hx hb dX0_sumBox_18 rfl (lv_at hl 2 rfl) ?_
      refine va_callv (va_runV (As := [.int (nI a), .int (nI b)]) (rest := []) ⟨hx, hb, hml, hown, hts⟩ (met_X0_setBoxOf l D g d hg u px py lb n k le mo x0 x1 y0 y1 fo ins a b ha hb9) (cwV 2 hts (lw_V q124 q126 qs6 q23 q127) rfl rfl rfl (by decide +kernel) ⟨Nat.le_of_ble_eq_true rfl, Nat.le_of_ble_eq_true rfl⟩) (ci_pre hK hP (ci := 0) (q0 := 0) rfl rfl) rfl rfl hl.1 rfl (lv_room (Nat.le_of_ble_eq_true rfl)) dX0_sumBox_19 ⟨Nat.le_of_ble_eq_true rfl, Nat.le_of_ble_eq_true rfl⟩) hS (fun q _ h => h) (fun q h => h) (fun zz tt H1 locs ht hvm hr hB hz1 hk1 hS => ?_)
      have hP : va_P D vwCl (wX g d u px py lb n k (il (min (a % 64) (b % 64)) (min (a / 64) (b / 64))) (il (max (a % 64) (b % 64)) (max (a / 64) (b / 64))) (min (a % 64) (b % 64)) (max (a % 64) (b % 64)) (min (a / 64) (b / 64)) (max (a / 64) (b / 64)) fo ins) H1 := by rw [← ht]; exact hB
      clear hB hk1 hz1 ht hvm tt
      generalize H1 = H at hP hS ⊢
      refine lv_aload_n hx hb dX0_sumBox_22 rfl (lv_at hl 0 rfl) ?_
      refine va_callv (va_runV (As := []) (rest := []) ⟨hx, hb, hml, hown, hts⟩ (met_X0_walk l D g d hg u px py lb n k (il (min (a % 64) (b % 64)) (min (a / 64) (b / 64))) (il (max (a % 64) (b % 64)) (max (a / 64) (b / 64))) (min (a % 64) (b % 64)) (max (a % 64) (b % 64)) (min (a / 64) (b / 64)) (max (a / 64) (b / 64)) fo ins hI (by omega) (by omega) (by omega) (by omega) rfl rfl) (cwV 0 hts (lw_V q132 q134 qs8 q23 q135) rfl rfl rfl (by decide +kernel) ⟨Nat.le_of_ble_eq_true rfl, Nat.le_of_ble_eq_true rfl⟩) (ci_pre hK hP (ci := 0) (q0 := 0) rfl rfl) rfl rfl hl.1 rfl (lv_room (Nat.le_of_ble_eq_true rfl)) dX0_sumBox_23 ⟨Nat.le_of_ble_eq_true rfl, Nat.le_of_ble_eq_true rfl⟩) hS (fun q _ h => h) (fun q h => h) (fun zz tt H1 locs ht hvm hr hB hz1 hk1 hS => ?_)
      obtain ⟨fo1, ins1⟩ := zz
      have hE0 := hr
      clear hr
      have hE : En fo1 ins1 (bxP u px py a b) := hE0
      have hfo : fo1 ≤ 40 := by rw [En_cnt fo1 hE]; exact cnt_le _ 40
      have hP : va_P D vwCl (wX g d u px py lb n k (il (min (a % 64) (b % 64)) (min (a / 64) (b / 64))) (il (max (a % 64) (b % 64)) (max (a / 64) (b / 64))) (min (a % 64) (b % 64)) (max (a % 64) (b % 64)) (min (a / 64) (b / 64)) (max (a / 64) (b / 64)) fo1 ins1) H1 := by rw [← ht]; exact hB
      clear hB hk1 hz1 ht hvm tt
      generalize H1 = H at hP hS ⊢
      refine lv_iconst (v := (nI 0)) hx hb dX0_sumBox_26 (by decide +kernel) ?_
      refine lv_istore_n (lv' := [(3, .int (nI 0)), (0, .ref (g 0)), (1, .int (nI a)), (2, .int (nI b))]) hx hb dX0_sumBox_27 rfl hl (by decide) rfl (fun ls hl => ?_)
      refine lv_iconst (v := (nI 0)) hx hb dX0_sumBox_28 (by decide +kernel) ?_
      refine lv_istore (lv' := [(4, .int (nI 0)), (3, .int (nI 0)), (0, .ref (g 0)), (1, .int (nI a)), (2, .int (nI b))]) hx hb dX0_sumBox_29 hl (by decide) rfl (fun ls hl => ?_)
      have lp : ∀ (f : Nat) (i : Nat) (sm : Int32), (fo1 - i < f) → (i ≤ fo1) → (sm = sumF lb ins1 i) → ∀ (H : Heap) (locs : List Loc), va_P D vwCl (wX g d u px py lb n k (il (min (a % 64) (b % 64)) (min (a / 64) (b / 64))) (il (max (a % 64) (b % 64)) (max (a / 64) (b / 64))) (min (a % 64) (b % 64)) (max (a % 64) (b % 64)) (min (a / 64) (b / 64)) (max (a / 64) (b / 64)) fo1 ins1) H → va_S (xA 7 g) s.heap H locs → ∀ ls : Array Slot, lv_has ls 5 [(0, .ref (g 0)), (3, .int sm), (4, .int (nI i))] → W p l e rm_X0_sumBox s m args below meth c H locs 0 0 Q0 (F0 m 31 ls []) := by
        intro f
        induction f with
        | zero => intro i sm hf; exact absurd hf (Nat.not_lt_zero _)
        | succ f ih =>
          intro i sm hf hif hsm H locs hP hS ls hl
          refine lv_iload hx hb dX0_sumBox_31 (lv_at hl 2 rfl) ?_
          refine lv_aload_n hx hb dX0_sumBox_33 rfl (lv_at hl 0 rfl) ?_
          refine cx_get 12 hx hb hts hown hK hP (by decide) (hts _ q45) rfl dX0_sumBox_34 ?_
          refine ci_icmp_ge (tgt := 61) hx hb dX0_sumBox_37 (by decide) (by omega) (by omega) (fun c37 => ?_) (fun c37 => ?_)
          · refine lv_iload_n hx hb dX0_sumBox_61 rfl (lv_at hl 1 rfl) ?_
            exact ci_iretW hQ hx hb hrt hlk hS dX0_sumBox_62 (il (min (a % 64) (b % 64)) (min (a / 64) (b / 64)), il (max (a % 64) (b % 64)) (max (a / 64) (b / 64)), min (a % 64) (b % 64), max (a % 64) (b % 64), min (a / 64) (b / 64), max (a / 64) (b / 64), fo1, ins1) (Or.inr ⟨a, b, ha, hb9, rfl, rfl, by rw [hsm, show i = fo1 by omega, En_sum fo1 lb hE]⟩) hP
          · obtain ⟨hv1, hv2⟩ := En_at hE c37
            refine lv_iload_n hx hb dX0_sumBox_40 rfl (lv_at hl 1 rfl) ?_
            refine lv_aload_n hx hb dX0_sumBox_41 rfl (lv_at hl 0 rfl) ?_
            refine cx_get 3 hx hb hts hown hK hP (by decide) (hts _ q36) rfl dX0_sumBox_42 ?_
            refine lv_aload_n hx hb dX0_sumBox_45 rfl (lv_at hl 0 rfl) ?_
            refine cx_get 13 hx hb hts hown hK hP (by decide) (hts _ q46) rfl dX0_sumBox_46 ?_
            refine lv_iload hx hb dX0_sumBox_49 (lv_at hl 2 rfl) ?_
            refine ci_iald hx hb hK hP 6 5 rfl rfl (by omega) (by decide) dX0_sumBox_51 ?_
            refine ci_rald hx hb hK hP 4 3 rfl rfl (by omega) (by decide) dX0_sumBox_52 ?_
            refine lv_iadd hx hb dX0_sumBox_53 ?_
            refine lv_istore_n (lv' := [(3, .int (sm + (lb (ins1 i)))), (0, .ref (g 0)), (4, .int (nI i))]) hx hb dX0_sumBox_54 rfl hl (by decide) rfl (fun ls hl => ?_)
            refine lv_iinc (v := (nI (i + 1))) (lv' := [(4, .int (nI (i + 1))), (3, .int (sm + (lb (ins1 i)))), (0, .ref (g 0))]) hx hb dX0_sumBox_55 hl (k := 2) rfl (ci_inc _) (by decide) rfl (fun ls hl => ?_)
            refine lv_goto (tgt := 31) hx hb dX0_sumBox_58 (by decide) ?_
            exact ih (i + 1) _ (by omega) (by omega) (by rw [hsm]; rfl) H locs hP hS ls (lv_sub hl [2, 1, 0] rfl)
      exact lp (fo1 + 1) 0 (nI 0) (by omega) (Nat.zero_le _) nI_0 _ _ hP hS ls (lv_sub hl [2, 1, 0] rfl)
    · refine lv_iconst (v := (-1)) hx hb dX0_sumBox_14 (by decide +kernel) ?_
      exact ci_iretW hQ hx hb hrt hlk hS dX0_sumBox_15 (le, mo, x0, x1, y0, y1, fo, ins) (Or.inl ⟨by first | exact Or.inl c4 | exact Or.inr c11, rfl⟩) hP

/-- firstIn(a, b) -/
abbrev rm_X0_firstIn : Room := { frames := 3, cells := 0, slots := 0, locals := 76 }
set_option maxHeartbeats 8000000 in
set_option maxRecDepth 100000 in
theorem met_X0_firstIn (l : Launch) (D : va_G) (g : Nat → Nat) (d : Nat → ClassId) (hg : xN 7 g) (u : Nat → Bool) (px py : Nat → Nat) (lb : Nat → Int32) (n : Nat) (k : Nat → Nat) (le mo x0 x1 y0 y1 fo : Nat) (ins : Nat → Nat) (x y : Int32) (hI : Inv u px py n k) : Met l yX0_firstIn (ws_ yX0_firstIn cX0_firstIn 5 (some .int)) rm_X0_firstIn (ci_R D (wX g d u px py lb n k le mo x0 x1 y0 y1 fo ins) (tX d) [.ref (g 0), .int x, .int y]) (va_Qi (fun (r : Int32) (z : BX) => ((badP x = true ∨ badP y = true) ∧ r = -1) ∨ (∃ a b, a < 4096 ∧ b < 4096 ∧ x = nI a ∧ y = nI b ∧ Fst (bxP u px py a b) r)) (fun z t => va_P D vwCl (wZ g d u px py lb n k z) t.heap) (xA 7 g)) 0 0 (xA 7 g) := by
  refine ci_of (by decide) (Nat.le_of_ble_eq_true rfl) ?_
  intro p e s m args below meth c Q0 hx hb hrt hml hown hts hlk hmn hQ hP hK ls hl
  have hS : va_S (xA 7 g) s.heap s.heap [] := va_S.rf
  have hown : s.vm.findClass RX0 = some m.cls := hown
  have hl : lv_has ls 5 [(0, .ref (g 0)), (1, .int x), (2, .int y)] := hl
  refine lv_iload_n hx hb dX0_firstIn_0 rfl (lv_at hl 1 rfl) ?_
  refine vp_callSi (W.runS (As := [.int x]) (rest := []) ⟨hx, hb, hml, hown, hts⟩ (met_X0_bad l _) (va_cwS 1 hts (lw_S q82 q83 q23 q84) rfl rfl rfl (by decide +kernel) ⟨Nat.le_of_ble_eq_true rfl, Nat.le_of_ble_eq_true rfl⟩) ci_preS rfl rfl hl.1 rfl (lv_room (Nat.le_of_ble_eq_true rfl)) dX0_firstIn_1 ⟨Nat.le_of_ble_eq_true rfl, Nat.le_of_ble_eq_true rfl⟩) (fun r hr => ?_)
  subst hr
  refine ci_ifb_ne (tgt := 14) hx hb dX0_firstIn_4 (by decide) (fun c4 => ?_) (fun c4 => ?_)
  · refine lv_iconst (v := (-1)) hx hb dX0_firstIn_14 (by decide +kernel) ?_
    exact ci_iretW hQ hx hb hrt hlk hS dX0_firstIn_15 (le, mo, x0, x1, y0, y1, fo, ins) (Or.inl ⟨by first | exact Or.inl c4 | exact Or.inr c11, rfl⟩) hP
  · obtain ⟨a, ha, rfl⟩ := badP_f c4
    refine lv_iload_n hx hb dX0_firstIn_7 rfl (lv_at hl 2 rfl) ?_
    refine vp_callSi (W.runS (As := [.int y]) (rest := []) ⟨hx, hb, hml, hown, hts⟩ (met_X0_bad l _) (va_cwS 1 hts (lw_S q82 q83 q23 q84) rfl rfl rfl (by decide +kernel) ⟨Nat.le_of_ble_eq_true rfl, Nat.le_of_ble_eq_true rfl⟩) ci_preS rfl rfl hl.1 rfl (lv_room (Nat.le_of_ble_eq_true rfl)) dX0_firstIn_8 ⟨Nat.le_of_ble_eq_true rfl, Nat.le_of_ble_eq_true rfl⟩) (fun r hr => ?_)
    subst hr
    refine ci_ifb_eq (tgt := 16) hx hb dX0_firstIn_11 (by decide) (fun c11 => ?_) (fun c11 => ?_)
    · obtain ⟨b, hb9, rfl⟩ := badP_f c11
      refine lv_aload_n hx hb dX0_firstIn_16 rfl (lv_at hl 0 rfl) ?_
      refine lv_iload_n hx hb dX0_firstIn_17 rfl (lv_at hl 1 rfl) ?_
      refine lv_iload_n hx hb dX0_firstIn_18 rfl (lv_at hl 2 rfl) ?_
      refine va_callv (va_runV (As := [.int (nI a), .int (nI b)]) (rest := []) ⟨hx, hb, hml, hown, hts⟩ (met_X0_setBoxOf l D g d hg u px py lb n k le mo x0 x1 y0 y1 fo ins a b ha hb9) (cwV 2 hts (lw_V q124 q126 qs6 q23 q127) rfl rfl rfl (by decide +kernel) ⟨Nat.le_of_ble_eq_true rfl, Nat.le_of_ble_eq_true rfl⟩) (ci_pre hK hP (ci := 0) (q0 := 0) rfl rfl) rfl rfl hl.1 rfl (lv_room (Nat.le_of_ble_eq_true rfl)) dX0_firstIn_19 ⟨Nat.le_of_ble_eq_true rfl, Nat.le_of_ble_eq_true rfl⟩) hS (fun q _ h => h) (fun q h => h) (fun zz tt H1 locs ht hvm hr hB hz1 hk1 hS => ?_)
      have hP : va_P D vwCl (wX g d u px py lb n k (il (min (a % 64) (b % 64)) (min (a / 64) (b / 64))) (il (max (a % 64) (b % 64)) (max (a / 64) (b / 64))) (min (a % 64) (b % 64)) (max (a % 64) (b % 64)) (min (a / 64) (b / 64)) (max (a / 64) (b / 64)) fo ins) H1 := by rw [← ht]; exact hB
      clear hB hk1 hz1 ht hvm tt
      generalize H1 = H at hP hS ⊢
      refine lv_aload_n hx hb dX0_firstIn_22 rfl (lv_at hl 0 rfl) ?_
      refine va_callv (va_runV (As := []) (rest := []) ⟨hx, hb, hml, hown, hts⟩ (met_X0_walk l D g d hg u px py lb n k (il (min (a % 64) (b % 64)) (min (a / 64) (b / 64))) (il (max (a % 64) (b % 64)) (max (a / 64) (b / 64))) (min (a % 64) (b % 64)) (max (a % 64) (b % 64)) (min (a / 64) (b / 64)) (max (a / 64) (b / 64)) fo ins hI (by omega) (by omega) (by omega) (by omega) rfl rfl) (cwV 0 hts (lw_V q132 q134 qs8 q23 q135) rfl rfl rfl (by decide +kernel) ⟨Nat.le_of_ble_eq_true rfl, Nat.le_of_ble_eq_true rfl⟩) (ci_pre hK hP (ci := 0) (q0 := 0) rfl rfl) rfl rfl hl.1 rfl (lv_room (Nat.le_of_ble_eq_true rfl)) dX0_firstIn_23 ⟨Nat.le_of_ble_eq_true rfl, Nat.le_of_ble_eq_true rfl⟩) hS (fun q _ h => h) (fun q h => h) (fun zz tt H1 locs ht hvm hr hB hz1 hk1 hS => ?_)
      obtain ⟨fo1, ins1⟩ := zz
      have hE0 := hr
      clear hr
      have hE : En fo1 ins1 (bxP u px py a b) := hE0
      have hfo : fo1 ≤ 40 := by rw [En_cnt fo1 hE]; exact cnt_le _ 40
      have hP : va_P D vwCl (wX g d u px py lb n k (il (min (a % 64) (b % 64)) (min (a / 64) (b / 64))) (il (max (a % 64) (b % 64)) (max (a / 64) (b / 64))) (min (a % 64) (b % 64)) (max (a % 64) (b % 64)) (min (a / 64) (b / 64)) (max (a / 64) (b / 64)) fo1 ins1) H1 := by rw [← ht]; exact hB
      clear hB hk1 hz1 ht hvm tt
      generalize H1 = H at hP hS ⊢
      refine lv_bipush (v := (-3)) hx hb dX0_firstIn_26 (by decide +kernel) ?_
      refine lv_istore_n (lv' := [(3, .int (-3)), (0, .ref (g 0)), (1, .int (nI a)), (2, .int (nI b))]) hx hb dX0_firstIn_28 rfl hl (by decide) rfl (fun ls hl => ?_)
      refine lv_iconst (v := (nI 0)) hx hb dX0_firstIn_29 (by decide +kernel) ?_
      refine lv_istore (lv' := [(4, .int (nI 0)), (3, .int (-3)), (0, .ref (g 0)), (1, .int (nI a)), (2, .int (nI b))]) hx hb dX0_firstIn_30 hl (by decide) rfl (fun ls hl => ?_)
      have lp : ∀ (f : Nat) (i : Nat) (fi : Int32), (fo1 - i < f) → (i ≤ fo1) → ((i = 0 ∧ fi = -3) ∨ (∃ v, fi = nI v ∧ (∃ j, j < i ∧ ins1 j = v) ∧ ∀ j, j < i → v ≤ ins1 j)) → ∀ (H : Heap) (locs : List Loc), va_P D vwCl (wX g d u px py lb n k (il (min (a % 64) (b % 64)) (min (a / 64) (b / 64))) (il (max (a % 64) (b % 64)) (max (a / 64) (b / 64))) (min (a % 64) (b % 64)) (max (a % 64) (b % 64)) (min (a / 64) (b / 64)) (max (a / 64) (b / 64)) fo1 ins1) H → va_S (xA 7 g) s.heap H locs → ∀ ls : Array Slot, lv_has ls 5 [(0, .ref (g 0)), (3, .int fi), (4, .int (nI i))] → W p l e rm_X0_firstIn s m args below meth c H locs 0 0 Q0 (F0 m 32 ls []) := by
        intro f
        induction f with
        | zero => intro i fi hf; exact absurd hf (Nat.not_lt_zero _)
        | succ f ih =>
          intro i fi hf hif hfi H locs hP hS ls hl
          rcases hfi with ⟨hi0, rfl⟩ | ⟨v, rfl, hv1, hv2⟩
          · refine lv_iload hx hb dX0_firstIn_32 (lv_at hl 2 rfl) ?_
            refine lv_aload_n hx hb dX0_firstIn_34 rfl (lv_at hl 0 rfl) ?_
            refine cx_get 12 hx hb hts hown hK hP (by decide) (hts _ q45) rfl dX0_firstIn_35 ?_
            refine ci_icmp_ge (tgt := 70) hx hb dX0_firstIn_38 (by decide) (by omega) (by omega) (fun c38 => ?_) (fun c38 => ?_)
            · refine lv_iload_n hx hb dX0_firstIn_70 rfl (lv_at hl 1 rfl) ?_
              exact ci_iretW hQ hx hb hrt hlk hS dX0_firstIn_71 (il (min (a % 64) (b % 64)) (min (a / 64) (b / 64)), il (max (a % 64) (b % 64)) (max (a / 64) (b / 64)), min (a % 64) (b % 64), max (a % 64) (b % 64), min (a / 64) (b / 64), max (a / 64) (b / 64), fo1, ins1) (Or.inr ⟨a, b, ha, hb9, rfl, rfl, Fst_none (ins := ins1) (by rw [show fo1 = 0 by omega] at hE; exact hE)⟩) hP
            · obtain ⟨hw1, hw2⟩ := En_at hE c38
              refine lv_iload_n hx hb dX0_firstIn_41 rfl (lv_at hl 1 rfl) ?_
              refine lv_if_lt (tgt := 56) hx hb dX0_firstIn_42 (by decide) (fun c42 => ?_) (fun c42 => ?_)
              · refine lv_aload_n hx hb dX0_firstIn_56 rfl (lv_at hl 0 rfl) ?_
                refine cx_get 13 hx hb hts hown hK hP (by decide) (hts _ q46) rfl dX0_firstIn_57 ?_
                refine lv_iload hx hb dX0_firstIn_60 (lv_at hl 2 rfl) ?_
                refine ci_iald hx hb hK hP 6 5 rfl rfl (by omega) (by decide) dX0_firstIn_62 ?_
                refine lv_istore_n (lv' := [(3, .int (nI (ins1 i))), (0, .ref (g 0)), (4, .int (nI i))]) hx hb dX0_firstIn_63 rfl hl (by decide) rfl (fun ls hl => ?_)
                refine lv_iinc (v := (nI (i + 1))) (lv' := [(4, .int (nI (i + 1))), (3, .int (nI (ins1 i))), (0, .ref (g 0))]) hx hb dX0_firstIn_64 hl (k := 2) rfl (ci_inc _) (by decide) rfl (fun ls hl => ?_)
                refine lv_goto (tgt := 32) hx hb dX0_firstIn_67 (by decide) ?_
                exact ih (i + 1) _ (by omega) (by omega) (Or.inr ⟨ins1 i, rfl, ⟨i, by omega, rfl⟩, fun j hj => by rw [show j = i by omega]; exact Nat.le_refl _⟩) H locs hP hS ls (lv_sub hl [2, 1, 0] rfl)
              · exact absurd (by decide +kernel) c42
          · have hv40 : v < 40 := by obtain ⟨j, h1, h2⟩ := hv1; rw [← h2]; exact (En_at hE (by omega)).1
            refine lv_iload hx hb dX0_firstIn_32 (lv_at hl 2 rfl) ?_
            refine lv_aload_n hx hb dX0_firstIn_34 rfl (lv_at hl 0 rfl) ?_
            refine cx_get 12 hx hb hts hown hK hP (by decide) (hts _ q45) rfl dX0_firstIn_35 ?_
            refine ci_icmp_ge (tgt := 70) hx hb dX0_firstIn_38 (by decide) (by omega) (by omega) (fun c38 => ?_) (fun c38 => ?_)
            · refine lv_iload_n hx hb dX0_firstIn_70 rfl (lv_at hl 1 rfl) ?_
              exact ci_iretW hQ hx hb hrt hlk hS dX0_firstIn_71 (il (min (a % 64) (b % 64)) (min (a / 64) (b / 64)), il (max (a % 64) (b % 64)) (max (a / 64) (b / 64)), min (a % 64) (b % 64), max (a % 64) (b % 64), min (a / 64) (b / 64), max (a / 64) (b / 64), fo1, ins1) (Or.inr ⟨a, b, ha, hb9, rfl, rfl, Fst_some hE (by rw [← show i = fo1 by omega]; exact hv1) (by rw [← show i = fo1 by omega]; exact hv2)⟩) hP
            · obtain ⟨hw1, hw2⟩ := En_at hE c38
              refine lv_iload_n hx hb dX0_firstIn_41 rfl (lv_at hl 1 rfl) ?_
              refine ci_ifn_lt (tgt := 56) hx hb dX0_firstIn_42 (by decide) (by omega) ?_
              refine lv_aload_n hx hb dX0_firstIn_45 rfl (lv_at hl 0 rfl) ?_
              refine cx_get 13 hx hb hts hown hK hP (by decide) (hts _ q46) rfl dX0_firstIn_46 ?_
              refine lv_iload hx hb dX0_firstIn_49 (lv_at hl 2 rfl) ?_
              refine ci_iald hx hb hK hP 6 5 rfl rfl (by omega) (by decide) dX0_firstIn_51 ?_
              refine lv_iload_n hx hb dX0_firstIn_52 rfl (lv_at hl 1 rfl) ?_
              refine ci_icmp_ge (tgt := 64) hx hb dX0_firstIn_53 (by decide) (by omega) (by omega) (fun c53 => ?_) (fun c53 => ?_)
              · refine lv_iinc (v := (nI (i + 1))) (lv' := [(4, .int (nI (i + 1))), (0, .ref (g 0)), (3, .int (nI v))]) hx hb dX0_firstIn_64 hl (k := 2) rfl (ci_inc _) (by decide) rfl (fun ls hl => ?_)
                refine lv_goto (tgt := 32) hx hb dX0_firstIn_67 (by decide) ?_
                exact ih (i + 1) _ (by omega) (by omega) (Or.inr ⟨v, rfl, by obtain ⟨j, h1, h2⟩ := hv1; exact ⟨j, by omega, h2⟩, fun j hj => by rcases Nat.lt_or_ge j i with q | q; exact hv2 j q; rw [show j = i by omega]; exact c53⟩) H locs hP hS ls (lv_sub hl [1, 2, 0] rfl)
              · refine lv_aload_n hx hb dX0_firstIn_56 rfl (lv_at hl 0 rfl) ?_
                refine cx_get 13 hx hb hts hown hK hP (by decide) (hts _ q46) rfl dX0_firstIn_57 ?_
                refine lv_iload hx hb dX0_firstIn_60 (lv_at hl 2 rfl) ?_
                refine ci_iald hx hb hK hP 6 5 rfl rfl (by omega) (by decide) dX0_firstIn_62 ?_
                refine lv_istore_n (lv' := [(3, .int (nI (ins1 i))), (0, .ref (g 0)), (4, .int (nI i))]) hx hb dX0_firstIn_63 rfl hl (by decide) rfl (fun ls hl => ?_)
                refine lv_iinc (v := (nI (i + 1))) (lv' := [(4, .int (nI (i + 1))), (3, .int (nI (ins1 i))), (0, .ref (g 0))]) hx hb dX0_firstIn_64 hl (k := 2) rfl (ci_inc _) (by decide) rfl (fun ls hl => ?_)
                refine lv_goto (tgt := 32) hx hb dX0_firstIn_67 (by decide) ?_
                exact ih (i + 1) _ (by omega) (by omega) (Or.inr ⟨ins1 i, rfl, ⟨i, by omega, rfl⟩, fun j hj => by rcases Nat.lt_or_ge j i with q | q; exact Nat.le_trans (Nat.le_of_lt c53) (hv2 j q); rw [show j = i by omega]; exact Nat.le_refl _⟩) H locs hP hS ls (lv_sub hl [2, 1, 0] rfl)
      exact lp (fo1 + 1) 0 _ (by omega) (Nat.zero_le _) (Or.inl ⟨rfl, rfl⟩) _ _ hP hS ls (lv_sub hl [2, 1, 0] rfl)
    · refine lv_iconst (v := (-1)) hx hb dX0_firstIn_14 (by decide +kernel) ?_
      exact ci_iretW hQ hx hb hrt hlk hS dX0_firstIn_15 (le, mo, x0, x1, y0, y1, fo, ins) (Or.inl ⟨by first | exact Or.inl c4 | exact Or.inr c11, rfl⟩) hP
end
section
/-- walkNear(x, y, distance) -/
abbrev rm_X0_walkNear : Room := { frames := 3, cells := 0, slots := 0, locals := 76 }
set_option maxHeartbeats 8000000 in
set_option maxRecDepth 100000 in
theorem met_X0_walkNear (l : Launch) (D : va_G) (g : Nat → Nat) (d : Nat → ClassId) (hg : xN 7 g) (u : Nat → Bool) (px py : Nat → Nat) (lb : Nat → Int32) (n : Nat) (k : Nat → Nat) (le mo x0 x1 y0 y1 fo : Nat) (ins : Nat → Nat) (x y dd : Nat) (hI : Inv u px py n k) (hx0 : x < 64) (hy0 : y < 64) (hdd : dd < 2147483648) : Met l yX0_walkNear (ws_ yX0_walkNear cX0_walkNear 12 none) rm_X0_walkNear (ci_R D (wX g d u px py lb n k le mo x0 x1 y0 y1 fo ins) (tX d) [.ref (g 0), .int (nI x), .int (nI y), .int (nI dd)]) (va_Qv (fun (z : BX) => En z.2.2.2.2.2.2.1 z.2.2.2.2.2.2.2 (nrP u px py x y dd)) (fun z t => va_P D vwCl (wZ g d u px py lb n k z) t.heap) (xA 7 g)) 0 0 (xA 7 g) := by
  refine ci_of (by decide) (Nat.le_of_ble_eq_true rfl) ?_
  intro p e s m args below meth c Q0 hx hb hrt hml hown hts hlk hmn hQ hP hK ls hl
  have hS : va_S (xA 7 g) s.heap s.heap [] := va_S.rf
  have hown : s.vm.findClass RX0 = some m.cls := hown
  have hl : lv_has ls 12 [(0, .ref (g 0)), (1, .int (nI x)), (2, .int (nI y)), (3, .int (nI dd))] := hl
  refine lv_iload_n hx hb dX0_walkNear_0 rfl (lv_at hl 3 rfl) ?_
  refine vp_callSi (W.runS (As := [.int (nI dd)]) (rest := []) ⟨hx, hb, hml, hown, hts⟩ (met_X0_rootOf l dd hdd) (va_cwS 1 hts (lw_S q163 q164 q23 q165) rfl rfl rfl (by decide +kernel) ⟨Nat.le_of_ble_eq_true rfl, Nat.le_of_ble_eq_true rfl⟩) ci_preS rfl rfl hl.1 rfl (lv_room (Nat.le_of_ble_eq_true rfl)) dX0_walkNear_1 ⟨Nat.le_of_ble_eq_true rfl, Nat.le_of_ble_eq_true rfl⟩) (fun r hr => ?_)
  obtain ⟨t, rfl, ht, hroot⟩ := hr
  refine lv_istore (lv' := [(4, .int (nI t)), (0, .ref (g 0)), (1, .int (nI x)), (2, .int (nI y)), (3, .int (nI dd))]) hx hb dX0_walkNear_4 hl (by decide) rfl (fun ls hl => ?_)
  refine lv_iload_n hx hb dX0_walkNear_6 rfl (lv_at hl 2 rfl) ?_
  refine lv_iload hx hb dX0_walkNear_7 (lv_at hl 0 rfl) ?_
  refine lv_isub hx hb dX0_walkNear_9 ?_
  refine vp_callSi (W.runS (As := [.int ((nI x) - (nI t))]) (rest := []) ⟨hx, hb, hml, hown, hts⟩ (met_X0_clamp l _) (va_cwS 1 hts (lw_S q166 q167 q23 q168) rfl rfl rfl (by decide +kernel) ⟨Nat.le_of_ble_eq_true rfl, Nat.le_of_ble_eq_true rfl⟩) ci_preS rfl rfl hl.1 rfl (lv_room (Nat.le_of_ble_eq_true rfl)) dX0_walkNear_10 ⟨Nat.le_of_ble_eq_true rfl, Nat.le_of_ble_eq_true rfl⟩) (fun r hr => ?_)
  rw [clamp_sub (by omega) ht] at hr
  subst hr
  refine lv_istore (lv' := [(5, .int (nI (x - t))), (4, .int (nI t)), (0, .ref (g 0)), (1, .int (nI x)), (2, .int (nI y)), (3, .int (nI dd))]) hx hb dX0_walkNear_13 hl (by decide) rfl (fun ls hl => ?_)
  refine lv_iload_n hx hb dX0_walkNear_15 rfl (lv_at hl 3 rfl) ?_
  refine lv_iload hx hb dX0_walkNear_16 (lv_at hl 1 rfl) ?_
  refine ci_iadd hx hb dX0_walkNear_18 ?_
  refine vp_callSi (W.runS (As := [.int (nI (x + t))]) (rest := []) ⟨hx, hb, hml, hown, hts⟩ (met_X0_clamp l _) (va_cwS 1 hts (lw_S q166 q167 q23 q168) rfl rfl rfl (by decide +kernel) ⟨Nat.le_of_ble_eq_true rfl, Nat.le_of_ble_eq_true rfl⟩) ci_preS rfl rfl hl.1 rfl (lv_room (Nat.le_of_ble_eq_true rfl)) dX0_walkNear_19 ⟨Nat.le_of_ble_eq_true rfl, Nat.le_of_ble_eq_true rfl⟩) (fun r hr => ?_)
  rw [clamp_add (by omega) ht] at hr
  subst hr
  refine lv_istore (lv' := [(6, .int (nI (min 63 (x + t)))), (5, .int (nI (x - t))), (4, .int (nI t)), (0, .ref (g 0)), (1, .int (nI x)), (2, .int (nI y)), (3, .int (nI dd))]) hx hb dX0_walkNear_22 hl (by decide) rfl (fun ls hl => ?_)
  refine lv_iload_n hx hb dX0_walkNear_24 rfl (lv_at hl 5 rfl) ?_
  refine lv_iload hx hb dX0_walkNear_25 (lv_at hl 2 rfl) ?_
  refine lv_isub hx hb dX0_walkNear_27 ?_
  refine vp_callSi (W.runS (As := [.int ((nI y) - (nI t))]) (rest := []) ⟨hx, hb, hml, hown, hts⟩ (met_X0_clamp l _) (va_cwS 1 hts (lw_S q166 q167 q23 q168) rfl rfl rfl (by decide +kernel) ⟨Nat.le_of_ble_eq_true rfl, Nat.le_of_ble_eq_true rfl⟩) ci_preS rfl rfl hl.1 rfl (lv_room (Nat.le_of_ble_eq_true rfl)) dX0_walkNear_28 ⟨Nat.le_of_ble_eq_true rfl, Nat.le_of_ble_eq_true rfl⟩) (fun r hr => ?_)
  rw [clamp_sub (by omega) ht] at hr
  subst hr
  refine lv_istore (lv' := [(7, .int (nI (y - t))), (6, .int (nI (min 63 (x + t)))), (5, .int (nI (x - t))), (4, .int (nI t)), (0, .ref (g 0)), (1, .int (nI x)), (2, .int (nI y)), (3, .int (nI dd))]) hx hb dX0_walkNear_31 hl (by decide) rfl (fun ls hl => ?_)
  refine lv_iload_n hx hb dX0_walkNear_33 rfl (lv_at hl 6 rfl) ?_
  refine lv_iload hx hb dX0_walkNear_34 (lv_at hl 3 rfl) ?_
  refine ci_iadd hx hb dX0_walkNear_36 ?_
  refine vp_callSi (W.runS (As := [.int (nI (y + t))]) (rest := []) ⟨hx, hb, hml, hown, hts⟩ (met_X0_clamp l _) (va_cwS 1 hts (lw_S q166 q167 q23 q168) rfl rfl rfl (by decide +kernel) ⟨Nat.le_of_ble_eq_true rfl, Nat.le_of_ble_eq_true rfl⟩) ci_preS rfl rfl hl.1 rfl (lv_room (Nat.le_of_ble_eq_true rfl)) dX0_walkNear_37 ⟨Nat.le_of_ble_eq_true rfl, Nat.le_of_ble_eq_true rfl⟩) (fun r hr => ?_)
  rw [clamp_add (by omega) ht] at hr
  subst hr
  refine lv_istore (lv' := [(8, .int (nI (min 63 (y + t)))), (7, .int (nI (y - t))), (6, .int (nI (min 63 (x + t)))), (5, .int (nI (x - t))), (4, .int (nI t)), (0, .ref (g 0)), (1, .int (nI x)), (2, .int (nI y)), (3, .int (nI dd))]) hx hb dX0_walkNear_40 hl (by decide) rfl (fun ls hl => ?_)
  refine lv_aload_n hx hb dX0_walkNear_42 rfl (lv_at hl 5 rfl) ?_
  refine lv_iload hx hb dX0_walkNear_43 (lv_at hl 3 rfl) ?_
  refine lv_iload hx hb dX0_walkNear_45 (lv_at hl 1 rfl) ?_
  refine lv_iload hx hb dX0_walkNear_47 (lv_at hl 2 rfl) ?_
  refine lv_iload hx hb dX0_walkNear_49 (lv_at hl 0 rfl) ?_
  refine va_callv (va_runV (As := [.int (nI (x - t)), .int (nI (y - t)), .int (nI (min 63 (x + t))), .int (nI (min 63 (y + t)))]) (rest := []) ⟨hx, hb, hml, hown, hts⟩ (met_X0_setBox l D g d hg u px py lb n k le mo x0 x1 y0 y1 fo ins (x - t) (y - t) (min 63 (x + t)) (min 63 (y + t)) (by omega) (by omega) (by omega) (by omega)) (cwV 4 hts (lw_V q128 q130 qs7 q23 q131) rfl rfl rfl (by decide +kernel) ⟨Nat.le_of_ble_eq_true rfl, Nat.le_of_ble_eq_true rfl⟩) (ci_pre hK hP (ci := 0) (q0 := 0) rfl rfl) rfl rfl hl.1 rfl (lv_room (Nat.le_of_ble_eq_true rfl)) dX0_walkNear_51 ⟨Nat.le_of_ble_eq_true rfl, Nat.le_of_ble_eq_true rfl⟩) hS (fun q _ h => h) (fun q h => h) (fun zz tt H1 locs ht hvm hr hB hz1 hk1 hS => ?_)
  have hP : va_P D vwCl (wX g d u px py lb n k (il (min (x - t) (min 63 (x + t))) (min (y - t) (min 63 (y + t)))) (il (max (x - t) (min 63 (x + t))) (max (y - t) (min 63 (y + t)))) (min (x - t) (min 63 (x + t))) (max (x - t) (min 63 (x + t))) (min (y - t) (min 63 (y + t))) (max (y - t) (min 63 (y + t))) fo ins) H1 := by rw [← ht]; exact hB
  clear hB hk1 hz1 ht hvm tt
  generalize H1 = H at hP hS ⊢
  refine lv_aload_n hx hb dX0_walkNear_54 rfl (lv_at hl 5 rfl) ?_
  refine va_callv (va_runV (As := []) (rest := []) ⟨hx, hb, hml, hown, hts⟩ (met_X0_walk l D g d hg u px py lb n k (il (min (x - t) (min 63 (x + t))) (min (y - t) (min 63 (y + t)))) (il (max (x - t) (min 63 (x + t))) (max (y - t) (min 63 (y + t)))) (min (x - t) (min 63 (x + t))) (max (x - t) (min 63 (x + t))) (min (y - t) (min 63 (y + t))) (max (y - t) (min 63 (y + t))) fo ins hI (by omega) (by omega) (by omega) (by omega) rfl rfl) (cwV 0 hts (lw_V q132 q134 qs8 q23 q135) rfl rfl rfl (by decide +kernel) ⟨Nat.le_of_ble_eq_true rfl, Nat.le_of_ble_eq_true rfl⟩) (ci_pre hK hP (ci := 0) (q0 := 0) rfl rfl) rfl rfl hl.1 rfl (lv_room (Nat.le_of_ble_eq_true rfl)) dX0_walkNear_55 ⟨Nat.le_of_ble_eq_true rfl, Nat.le_of_ble_eq_true rfl⟩) hS (fun q _ h => h) (fun q h => h) (fun zz tt H1 locs ht hvm hr hB hz1 hk1 hS => ?_)
  obtain ⟨fo1, ins1⟩ := zz
  have hE := hr
  clear hr
  have hfo : fo1 ≤ 40 := by rw [En_cnt fo1 hE]; exact cnt_le _ 40
  have hP : va_P D vwCl (wX g d u px py lb n k (il (min (x - t) (min 63 (x + t))) (min (y - t) (min 63 (y + t)))) (il (max (x - t) (min 63 (x + t))) (max (y - t) (min 63 (y + t)))) (min (x - t) (min 63 (x + t))) (max (x - t) (min 63 (x + t))) (min (y - t) (min 63 (y + t))) (max (y - t) (min 63 (y + t))) fo1 ins1) H1 := by rw [← ht]; exact hB
  clear hB hk1 hz1 ht hvm tt
  generalize H1 = H at hP hS ⊢
  refine lv_iconst (v := (nI 0)) hx hb dX0_walkNear_58 (by decide +kernel) ?_
  refine lv_istore (lv' := [(9, .int (nI 0)), (8, .int (nI (min 63 (y + t)))), (7, .int (nI (y - t))), (6, .int (nI (min 63 (x + t)))), (5, .int (nI (x - t))), (4, .int (nI t)), (0, .ref (g 0)), (1, .int (nI x)), (2, .int (nI y)), (3, .int (nI dd))]) hx hb dX0_walkNear_59 hl (by decide) rfl (fun ls hl => ?_)
  refine lv_iconst (v := (nI 0)) hx hb dX0_walkNear_61 (by decide +kernel) ?_
  refine lv_istore (lv' := [(10, .int (nI 0)), (9, .int (nI 0)), (8, .int (nI (min 63 (y + t)))), (7, .int (nI (y - t))), (6, .int (nI (min 63 (x + t)))), (5, .int (nI (x - t))), (4, .int (nI t)), (0, .ref (g 0)), (1, .int (nI x)), (2, .int (nI y)), (3, .int (nI dd))]) hx hb dX0_walkNear_62 hl (by decide) rfl (fun ls hl => ?_)
  have lp : ∀ (f : Nat) (i kp : Nat) (inz : Nat → Nat), (fo1 - i < f) → (i ≤ fo1) → (Kp (fun i => ds x y (px i) (py i) ≤ dd) ins1 inz i kp) → ∀ (H : Heap) (locs : List Loc), va_P D vwCl (wX g d u px py lb n k (il (min (x - t) (min 63 (x + t))) (min (y - t) (min 63 (y + t)))) (il (max (x - t) (min 63 (x + t))) (max (y - t) (min 63 (y + t)))) (min (x - t) (min 63 (x + t))) (max (x - t) (min 63 (x + t))) (min (y - t) (min 63 (y + t))) (max (y - t) (min 63 (y + t))) fo1 inz) H → va_S (xA 7 g) s.heap H locs → ∀ ls : Array Slot, lv_has ls 12 [(0, .ref (g 0)), (1, .int (nI x)), (2, .int (nI y)), (3, .int (nI dd)), (9, .int (nI kp)), (10, .int (nI i))] → W p l e rm_X0_walkNear s m args below meth c H locs 0 0 Q0 (F0 m 64 ls []) := by
    intro f
    induction f with
    | zero => intro i kp inz hf; exact absurd hf (Nat.not_lt_zero _)
    | succ f ih =>
      intro i kp inz hf hif hKp H locs hP hS ls hl
      have hkp := hKp.1
      refine lv_iload hx hb dX0_walkNear_64 (lv_at hl 5 rfl) ?_
      refine lv_aload_n hx hb dX0_walkNear_66 rfl (lv_at hl 0 rfl) ?_
      refine cx_get 12 hx hb hts hown hK hP (by decide) (hts _ q45) rfl dX0_walkNear_67 ?_
      refine ci_icmp_ge (tgt := 117) hx hb dX0_walkNear_70 (by decide) (by omega) (by omega) (fun c70 => ?_) (fun c70 => ?_)
      · refine lv_aload_n hx hb dX0_walkNear_117 rfl (lv_at hl 0 rfl) ?_
        refine lv_iload hx hb dX0_walkNear_118 (lv_at hl 4 rfl) ?_
        refine cx_put 12 hx hb hts hown hK hP (wX_D hg) hS (by decide) (hts _ q45) rfl (by decide +kernel) (Nat.le_of_ble_eq_true rfl) dX0_walkNear_120 (fun H locs hP hS => ?_)
        have hP : va_P D vwCl (wX g d u px py lb n k (il (min (x - t) (min 63 (x + t))) (min (y - t) (min 63 (y + t)))) (il (max (x - t) (min 63 (x + t))) (max (y - t) (min 63 (y + t)))) (min (x - t) (min 63 (x + t))) (max (x - t) (min 63 (x + t))) (min (y - t) (min 63 (y + t))) (max (y - t) (min 63 (y + t))) kp inz) H := hP
        exact ci_vretW hQ hx hb hrt hlk hS dX0_walkNear_123 (il (min (x - t) (min 63 (x + t))) (min (y - t) (min 63 (y + t))), il (max (x - t) (min 63 (x + t))) (max (y - t) (min 63 (y + t))), min (x - t) (min 63 (x + t)), max (x - t) (min 63 (x + t)), min (y - t) (min 63 (y + t)), max (y - t) (min 63 (y + t)), kp, inz) (Kp_end hI.1 hx0 hy0 hroot (by omega) (by omega) (by omega) (by omega) hE (by rw [show i = fo1 by omega] at hKp; exact hKp)) hP
      · obtain ⟨hw1, hw2⟩ := En_at hE c70
        have hzi : inz i = ins1 i := hKp.2.1 i (Nat.le_refl i)
        have hw3 : inz i < 40 := by rw [hzi]; exact hw1
        have hdl := ds_le hx0 hy0 (hI.1 _ hw3).1 (hI.1 _ hw3).2
        refine lv_aload_n hx hb dX0_walkNear_73 rfl (lv_at hl 0 rfl) ?_
        refine lv_iload_n hx hb dX0_walkNear_74 rfl (lv_at hl 1 rfl) ?_
        refine lv_iload_n hx hb dX0_walkNear_75 rfl (lv_at hl 2 rfl) ?_
        refine lv_aload_n hx hb dX0_walkNear_76 rfl (lv_at hl 0 rfl) ?_
        refine cx_get 13 hx hb hts hown hK hP (by decide) (hts _ q46) rfl dX0_walkNear_77 ?_
        refine lv_iload hx hb dX0_walkNear_80 (lv_at hl 5 rfl) ?_
        refine ci_iald hx hb hK hP 6 5 rfl rfl (by omega) (by decide) dX0_walkNear_82 ?_
        refine vp_callSi (W.runV (As := [.int (nI x), .int (nI y), .int (nI (inz i))]) (rest := []) ⟨hx, hb, hml, hown, hts⟩ (met_X0_distanceTo l D g d u px py lb n k (il (min (x - t) (min 63 (x + t))) (min (y - t) (min 63 (y + t)))) (il (max (x - t) (min 63 (x + t))) (max (y - t) (min 63 (y + t)))) (min (x - t) (min 63 (x + t))) (max (x - t) (min 63 (x + t))) (min (y - t) (min 63 (y + t))) (max (y - t) (min 63 (y + t))) fo1 inz x y (inz i) hw3) (cwV 3 hts (lw_V q169 q171 qs12 q23 q172) rfl rfl rfl (by decide +kernel) ⟨Nat.le_of_ble_eq_true rfl, Nat.le_of_ble_eq_true rfl⟩) (ci_pre hK hP (ci := 0) (q0 := 0) rfl rfl) rfl rfl hl.1 rfl (lv_room (Nat.le_of_ble_eq_true rfl)) dX0_walkNear_83 ⟨Nat.le_of_ble_eq_true rfl, Nat.le_of_ble_eq_true rfl⟩) (fun r hr => ?_)
        subst hr
        refine lv_istore (lv' := [(11, .int (nI (ds x y (px (inz i)) (py (inz i))))), (0, .ref (g 0)), (1, .int (nI x)), (2, .int (nI y)), (3, .int (nI dd)), (9, .int (nI kp)), (10, .int (nI i))]) hx hb dX0_walkNear_86 hl (by decide) rfl (fun ls hl => ?_)
        refine lv_iload hx hb dX0_walkNear_88 (lv_at hl 0 rfl) ?_
        refine lv_iload_n hx hb dX0_walkNear_90 rfl (lv_at hl 4 rfl) ?_
        refine ci_icmp_gt (tgt := 111) hx hb dX0_walkNear_91 (by decide) (by omega) (by omega) (fun c91 => ?_) (fun c91 => ?_)
        · refine lv_iinc (v := (nI (i + 1))) (lv' := [(10, .int (nI (i + 1))), (11, .int (nI (ds x y (px (inz i)) (py (inz i))))), (0, .ref (g 0)), (1, .int (nI x)), (2, .int (nI y)), (3, .int (nI dd)), (9, .int (nI kp))]) hx hb dX0_walkNear_111 hl (k := 6) rfl (ci_inc _) (by decide) rfl (fun ls hl => ?_)
          refine lv_goto (tgt := 64) hx hb dX0_walkNear_114 (by decide) ?_
          exact ih (i + 1) kp _ (by omega) (by omega) (Kp_no hKp (by rw [← hzi]; omega)) H locs hP hS ls (lv_sub hl [2, 3, 4, 5, 6, 0] rfl)
        · refine lv_aload_n hx hb dX0_walkNear_94 rfl (lv_at hl 1 rfl) ?_
          refine cx_get 13 hx hb hts hown hK hP (by decide) (hts _ q46) rfl dX0_walkNear_95 ?_
          refine lv_iload hx hb dX0_walkNear_98 (lv_at hl 5 rfl) ?_
          refine lv_aload_n hx hb dX0_walkNear_100 rfl (lv_at hl 1 rfl) ?_
          refine cx_get 13 hx hb hts hown hK hP (by decide) (hts _ q46) rfl dX0_walkNear_101 ?_
          refine lv_iload hx hb dX0_walkNear_104 (lv_at hl 6 rfl) ?_
          refine ci_iald hx hb hK hP 6 5 rfl rfl (by omega) (by decide) dX0_walkNear_106 ?_
          refine ci_iast hx hb hK hP (wX_D hg) hS 6 5 rfl rfl (by omega) (by decide) dX0_walkNear_107 (fun H locs hP hS => ?_)
          have hP : va_P D vwCl (wX g d u px py lb n k (il (min (x - t) (min 63 (x + t))) (min (y - t) (min 63 (y + t)))) (il (max (x - t) (min 63 (x + t))) (max (y - t) (min 63 (y + t)))) (min (x - t) (min 63 (x + t))) (max (x - t) (min 63 (x + t))) (min (y - t) (min 63 (y + t))) (max (y - t) (min 63 (y + t))) fo1 (va_up inz kp (inz i))) H := hP
          refine lv_iinc (v := (nI (kp + 1))) (lv' := [(9, .int (nI (kp + 1))), (11, .int (nI (ds x y (px (inz i)) (py (inz i))))), (0, .ref (g 0)), (1, .int (nI x)), (2, .int (nI y)), (3, .int (nI dd)), (10, .int (nI i))]) hx hb dX0_walkNear_108 hl (k := 5) rfl (ci_inc _) (by decide) rfl (fun ls hl => ?_)
          refine lv_iinc (v := (nI (i + 1))) (lv' := [(10, .int (nI (i + 1))), (9, .int (nI (kp + 1))), (11, .int (nI (ds x y (px (inz i)) (py (inz i))))), (0, .ref (g 0)), (1, .int (nI x)), (2, .int (nI y)), (3, .int (nI dd))]) hx hb dX0_walkNear_111 hl (k := 6) rfl (ci_inc _) (by decide) rfl (fun ls hl => ?_)
          refine lv_goto (tgt := 64) hx hb dX0_walkNear_114 (by decide) ?_
          exact ih (i + 1) (kp + 1) _ (by omega) (by omega) (Kp_yes hE c70 hKp (by rw [← hzi]; exact c91)) H locs hP hS ls (lv_sub hl [3, 4, 5, 6, 1, 0] rfl)
  exact lp (fo1 + 1) 0 0 ins1 (by omega) (Nat.zero_le _) Kp_0 _ _ hP hS ls (lv_sub hl [7, 8, 9, 10, 1, 0] rfl)

/-- countNear(place, distance) -/
abbrev rm_X0_countNear : Room := { frames := 4, cells := 0, slots := 0, locals := 107 }
set_option maxHeartbeats 8000000 in
set_option maxRecDepth 100000 in
theorem met_X0_countNear (l : Launch) (D : va_G) (g : Nat → Nat) (d : Nat → ClassId) (hg : xN 7 g) (u : Nat → Bool) (px py : Nat → Nat) (lb : Nat → Int32) (n : Nat) (k : Nat → Nat) (le mo x0 x1 y0 y1 fo : Nat) (ins : Nat → Nat) (x y : Int32) (hI : Inv u px py n k) : Met l yX0_countNear (ws_ yX0_countNear cX0_countNear 3 (some .int)) rm_X0_countNear (ci_R D (wX g d u px py lb n k le mo x0 x1 y0 y1 fo ins) (tX d) [.ref (g 0), .int x, .int y]) (va_Qi (fun (r : Int32) (z : BX) => (badP x = true ∧ r = -1) ∨ (∃ a, a < 4096 ∧ x = nI a ∧ ((y < 0 ∧ r = nI 0) ∨ (∃ dd, dd < 2147483648 ∧ y = nI dd ∧ r = nI (cnt (nrP u px py (a % 64) (a / 64) dd) 40))))) (fun z t => va_P D vwCl (wZ g d u px py lb n k z) t.heap) (xA 7 g)) 0 0 (xA 7 g) := by
  refine ci_of (by decide) (Nat.le_of_ble_eq_true rfl) ?_
  intro p e s m args below meth c Q0 hx hb hrt hml hown hts hlk hmn hQ hP hK ls hl
  have hS : va_S (xA 7 g) s.heap s.heap [] := va_S.rf
  have hown : s.vm.findClass RX0 = some m.cls := hown
  have hl : lv_has ls 3 [(0, .ref (g 0)), (1, .int x), (2, .int y)] := hl
  refine lv_iload_n hx hb dX0_countNear_0 rfl (lv_at hl 1 rfl) ?_
  refine vp_callSi (W.runS (As := [.int x]) (rest := []) ⟨hx, hb, hml, hown, hts⟩ (met_X0_bad l _) (va_cwS 1 hts (lw_S q82 q83 q23 q84) rfl rfl rfl (by decide +kernel) ⟨Nat.le_of_ble_eq_true rfl, Nat.le_of_ble_eq_true rfl⟩) ci_preS rfl rfl hl.1 rfl (lv_room (Nat.le_of_ble_eq_true rfl)) dX0_countNear_1 ⟨Nat.le_of_ble_eq_true rfl, Nat.le_of_ble_eq_true rfl⟩) (fun r hr => ?_)
  subst hr
  refine ci_ifb_eq (tgt := 9) hx hb dX0_countNear_4 (by decide) (fun c4 => ?_) (fun c4 => ?_)
  · obtain ⟨a, ha, rfl⟩ := badP_f c4
    refine lv_iload_n hx hb dX0_countNear_9 rfl (lv_at hl 2 rfl) ?_
    refine lv_if_ge (tgt := 15) hx hb dX0_countNear_10 (by decide) (fun c10 => ?_) (fun c10 => ?_)
    · obtain ⟨dd, hdd, rfl⟩ := nI_of (Int32.not_lt.mpr c10)
      refine lv_aload_n hx hb dX0_countNear_15 rfl (lv_at hl 0 rfl) ?_
      refine lv_iload_n hx hb dX0_countNear_16 rfl (lv_at hl 1 rfl) ?_
      refine lv_bipush (v := (nI 63)) hx hb dX0_countNear_17 (by decide +kernel) ?_
      refine ci_and63 hx hb dX0_countNear_19 ?_
      refine lv_iload_n hx hb dX0_countNear_20 rfl (lv_at hl 1 rfl) ?_
      refine lv_bipush (v := (nI 6)) hx hb dX0_countNear_21 (by decide +kernel) ?_
      refine ci_shr6 hx hb dX0_countNear_23 (by omega) ?_
      refine lv_iload_n hx hb dX0_countNear_24 rfl (lv_at hl 2 rfl) ?_
      refine va_callv (va_runV (As := [.int (nI (a % 64)), .int (nI (a / 64)), .int (nI dd)]) (rest := []) ⟨hx, hb, hml, hown, hts⟩ (met_X0_walkNear l D g d hg u px py lb n k le mo x0 x1 y0 y1 fo ins (a % 64) (a / 64) dd hI (by omega) (by omega) hdd) (cwV 3 hts (lw_V q159 q161 qs11 q23 q162) rfl rfl rfl (by decide +kernel) ⟨Nat.le_of_ble_eq_true rfl, Nat.le_of_ble_eq_true rfl⟩) (ci_pre hK hP (ci := 0) (q0 := 0) rfl rfl) rfl rfl hl.1 rfl (lv_room (Nat.le_of_ble_eq_true rfl)) dX0_countNear_25 ⟨Nat.le_of_ble_eq_true rfl, Nat.le_of_ble_eq_true rfl⟩) hS (fun q _ h => h) (fun q h => h) (fun zz tt H1 locs ht hvm hr hB hz1 hk1 hS => ?_)
      obtain ⟨le1, mo1, xx0, xx1, yy0, yy1, fo1, ins1⟩ := zz
      have hE := hr
      clear hr
      have hE : En fo1 ins1 (nrP u px py (a % 64) (a / 64) dd) := hE
      have hP : va_P D vwCl (wX g d u px py lb n k le1 mo1 xx0 xx1 yy0 yy1 fo1 ins1) H1 := by rw [← ht]; exact hB
      clear hB hk1 hz1 ht hvm tt
      generalize H1 = H at hP hS ⊢
      refine lv_aload_n hx hb dX0_countNear_28 rfl (lv_at hl 0 rfl) ?_
      refine cx_get 12 hx hb hts hown hK hP (by decide) (hts _ q45) rfl dX0_countNear_29 ?_
      exact ci_iretW hQ hx hb hrt hlk hS dX0_countNear_32 (le1, mo1, xx0, xx1, yy0, yy1, fo1, ins1) (Or.inr ⟨a, ha, rfl, Or.inr ⟨dd, hdd, rfl, by rw [← En_cnt fo1 hE]⟩⟩) hP
    · refine lv_iconst (v := (nI 0)) hx hb dX0_countNear_13 (by decide +kernel) ?_
      exact ci_iretW hQ hx hb hrt hlk hS dX0_countNear_14 (le, mo, x0, x1, y0, y1, fo, ins) (Or.inr ⟨a, ha, rfl, Or.inl ⟨Int32.not_le.mp c10, rfl⟩⟩) hP
  · refine lv_iconst (v := (-1)) hx hb dX0_countNear_7 (by decide +kernel) ?_
    exact ci_iretW hQ hx hb hrt hlk hS dX0_countNear_8 (le, mo, x0, x1, y0, y1, fo, ins) (Or.inl ⟨c4, rfl⟩) hP

/-- nearer -/
abbrev rm_X0_nearer : Room := { frames := 1, cells := 0, slots := 0, locals := 25 }
set_option maxHeartbeats 8000000 in
set_option maxRecDepth 100000 in
theorem met_X0_nearer (l : Launch) (D : va_G) (g : Nat → Nat) (d : Nat → ClassId) (u : Nat → Bool) (px py : Nat → Nat) (lb : Nat → Int32) (n : Nat) (k : Nat → Nat) (le mo x0 x1 y0 y1 fo : Nat) (ins : Nat → Nat) (x y a b : Nat) (ha : a < 40) (hb9 : b < 40) (hda : ds x y (px a) (py a) ≤ 7938) (hdb : ds x y (px b) (py b) ≤ 7938) : Met l yX0_nearer (ws_ yX0_nearer cX0_nearer 7 (some .boolean)) rm_X0_nearer (ci_R D (wX g d u px py lb n k le mo x0 x1 y0 y1 fo ins) (tX d) [.ref (g 0), .int (nI x), .int (nI y), .int (nI a), .int (nI b)]) (vp_Si (fun r => r = bI (lxb px py x y a b))) 0 0 (fun _ => False) := by
  refine ci_of (by decide) (Nat.le_of_ble_eq_true rfl) ?_
  intro p e s m args below meth c Q0 hx hb hrt hml hown hts hlk hmn hQ hP hK ls hl
  have hown : s.vm.findClass RX0 = some m.cls := hown
  have hl : lv_has ls 7 [(0, .ref (g 0)), (1, .int (nI x)), (2, .int (nI y)), (3, .int (nI a)), (4, .int (nI b))] := hl
  refine lv_aload_n hx hb dX0_nearer_0 rfl (lv_at hl 0 rfl) ?_
  refine lv_iload_n hx hb dX0_nearer_1 rfl (lv_at hl 1 rfl) ?_
  refine lv_iload_n hx hb dX0_nearer_2 rfl (lv_at hl 2 rfl) ?_
  refine lv_iload_n hx hb dX0_nearer_3 rfl (lv_at hl 3 rfl) ?_
  refine vp_callSi (W.runV (As := [.int (nI x), .int (nI y), .int (nI a)]) (rest := []) ⟨hx, hb, hml, hown, hts⟩ (met_X0_distanceTo l D g d u px py lb n k le mo x0 x1 y0 y1 fo ins x y a (by omega)) (cwV 3 hts (lw_V q169 q171 qs12 q23 q172) rfl rfl rfl (by decide +kernel) ⟨Nat.le_of_ble_eq_true rfl, Nat.le_of_ble_eq_true rfl⟩) (ci_pre hK hP (ci := 0) (q0 := 0) rfl rfl) rfl rfl hl.1 rfl (lv_room (Nat.le_of_ble_eq_true rfl)) dX0_nearer_4 ⟨Nat.le_of_ble_eq_true rfl, Nat.le_of_ble_eq_true rfl⟩) (fun r hr => ?_)
  subst hr
  refine lv_istore (lv' := [(5, .int (nI (ds x y (px a) (py a)))), (0, .ref (g 0)), (1, .int (nI x)), (2, .int (nI y)), (3, .int (nI a)), (4, .int (nI b))]) hx hb dX0_nearer_7 hl (by decide) rfl (fun ls hl => ?_)
  refine lv_aload_n hx hb dX0_nearer_9 rfl (lv_at hl 1 rfl) ?_
  refine lv_iload_n hx hb dX0_nearer_10 rfl (lv_at hl 2 rfl) ?_
  refine lv_iload_n hx hb dX0_nearer_11 rfl (lv_at hl 3 rfl) ?_
  refine lv_iload hx hb dX0_nearer_12 (lv_at hl 5 rfl) ?_
  refine vp_callSi (W.runV (As := [.int (nI x), .int (nI y), .int (nI b)]) (rest := []) ⟨hx, hb, hml, hown, hts⟩ (met_X0_distanceTo l D g d u px py lb n k le mo x0 x1 y0 y1 fo ins x y b (by omega)) (cwV 3 hts (lw_V q169 q171 qs12 q23 q172) rfl rfl rfl (by decide +kernel) ⟨Nat.le_of_ble_eq_true rfl, Nat.le_of_ble_eq_true rfl⟩) (ci_pre hK hP (ci := 0) (q0 := 0) rfl rfl) rfl rfl hl.1 rfl (lv_room (Nat.le_of_ble_eq_true rfl)) dX0_nearer_14 ⟨Nat.le_of_ble_eq_true rfl, Nat.le_of_ble_eq_true rfl⟩) (fun r hr => ?_)
  subst hr
  refine lv_istore (lv' := [(6, .int (nI (ds x y (px b) (py b)))), (5, .int (nI (ds x y (px a) (py a)))), (0, .ref (g 0)), (1, .int (nI x)), (2, .int (nI y)), (3, .int (nI a)), (4, .int (nI b))]) hx hb dX0_nearer_17 hl (by decide) rfl (fun ls hl => ?_)
  refine lv_iload hx hb dX0_nearer_19 (lv_at hl 1 rfl) ?_
  refine lv_iload hx hb dX0_nearer_21 (lv_at hl 0 rfl) ?_
  refine ci_icmp_eq (tgt := 41) hx hb dX0_nearer_23 (by decide) (by omega) (by omega) (fun c23 => ?_) (fun c23 => ?_)
  · refine lv_iload_n hx hb dX0_nearer_41 rfl (lv_at hl 5 rfl) ?_
    refine lv_iload hx hb dX0_nearer_42 (lv_at hl 6 rfl) ?_
    refine ci_icmp_ge (tgt := 51) hx hb dX0_nearer_44 (by decide) (by omega) (by omega) (fun c44 => ?_) (fun c44 => ?_)
    · refine lv_iconst (v := (nI 0)) hx hb dX0_nearer_51 (by decide +kernel) ?_
      exact ci_zretR false rfl hQ hx hb hrt hlk dX0_nearer_52 (congrArg bI (Eq.symm (Bool.eq_false_iff.mpr (fun q => by have := lxb_iff.mp q; omega))))
    · refine lv_iconst (v := (nI 1)) hx hb dX0_nearer_47 (by decide +kernel) ?_
      refine lv_goto (tgt := 52) hx hb dX0_nearer_48 (by decide) ?_
      exact ci_zretR true rfl hQ hx hb hrt hlk dX0_nearer_52 (congrArg bI (Eq.symm (lxb_iff.mpr (by omega))))
  · refine lv_iload hx hb dX0_nearer_26 (lv_at hl 1 rfl) ?_
    refine lv_iload hx hb dX0_nearer_28 (lv_at hl 0 rfl) ?_
    refine ci_icmp_ge (tgt := 37) hx hb dX0_nearer_30 (by decide) (by omega) (by omega) (fun c30 => ?_) (fun c30 => ?_)
    · refine lv_iconst (v := (nI 0)) hx hb dX0_nearer_37 (by decide +kernel) ?_
      refine lv_goto (tgt := 52) hx hb dX0_nearer_38 (by decide) ?_
      exact ci_zretR false rfl hQ hx hb hrt hlk dX0_nearer_52 (congrArg bI (Eq.symm (Bool.eq_false_iff.mpr (fun q => by have := lxb_iff.mp q; omega))))
    · refine lv_iconst (v := (nI 1)) hx hb dX0_nearer_33 (by decide +kernel) ?_
      refine lv_goto (tgt := 52) hx hb dX0_nearer_34 (by decide) ?_
      exact ci_zretR true rfl hQ hx hb hrt hlk dX0_nearer_52 (congrArg bI (Eq.symm (lxb_iff.mpr (by omega))))

/-- sortFound(x, y) -/
abbrev rm_X0_sortFound : Room := { frames := 2, cells := 0, slots := 0, locals := 51 }
set_option maxHeartbeats 8000000 in
set_option maxRecDepth 100000 in
theorem met_X0_sortFound (l : Launch) (D : va_G) (g : Nat → Nat) (d : Nat → ClassId) (hg : xN 7 g) (u : Nat → Bool) (px py : Nat → Nat) (lb : Nat → Int32) (n : Nat) (k : Nat → Nat) (le mo x0 x1 y0 y1 fo : Nat) (ins : Nat → Nat) (x y : Nat) (P : Nat → Bool) (hp : ∀ i, i < 40 → px i < 64 ∧ py i < 64) (hx0 : x < 64) (hy0 : y < 64) (hE0 : En fo ins P) : Met l yX0_sortFound (ws_ yX0_sortFound cX0_sortFound 6 none) rm_X0_sortFound (ci_R D (wX g d u px py lb n k le mo x0 x1 y0 y1 fo ins) (tX d) [.ref (g 0), .int (nI x), .int (nI y)]) (va_Qv (fun (z : Nat → Nat) => En fo z P ∧ Srt px py x y fo z) (fun z t => va_P D vwCl (wX g d u px py lb n k le mo x0 x1 y0 y1 fo z) t.heap) (xA 7 g)) 0 0 (xA 7 g) := by
  refine ci_of (by decide) (Nat.le_of_ble_eq_true rfl) ?_
  intro p e s m args below meth c Q0 hx hb hrt hml hown hts hlk hmn hQ hP hK ls hl
  have hS : va_S (xA 7 g) s.heap s.heap [] := va_S.rf
  have hown : s.vm.findClass RX0 = some m.cls := hown
  have hl : lv_has ls 6 [(0, .ref (g 0)), (1, .int (nI x)), (2, .int (nI y))] := hl
  have hfo : fo ≤ 40 := by rw [En_cnt fo hE0]; exact cnt_le _ 40
  refine lv_iconst (v := (nI 1)) hx hb dX0_sortFound_0 (by decide +kernel) ?_
  refine lv_istore_n (lv' := [(3, .int (nI 1)), (0, .ref (g 0)), (1, .int (nI x)), (2, .int (nI y))]) hx hb dX0_sortFound_1 rfl hl (by decide) rfl (fun ls hl => ?_)
  have lp : ∀ (f : Nat) (i : Nat) (inz : Nat → Nat), (fo - i < f) → (1 ≤ i ∧ i ≤ 41) → (En fo inz P) → (Srt px py x y i inz) → ∀ (H : Heap) (locs : List Loc), va_P D vwCl (wX g d u px py lb n k le mo x0 x1 y0 y1 fo inz) H → va_S (xA 7 g) s.heap H locs → ∀ ls : Array Slot, lv_has ls 6 [(0, .ref (g 0)), (1, .int (nI x)), (2, .int (nI y)), (3, .int (nI i))] → W p l e rm_X0_sortFound s m args below meth c H locs 0 0 Q0 (F0 m 2 ls []) := by
    intro f
    induction f with
    | zero => intro i inz hf; exact absurd hf (Nat.not_lt_zero _)
    | succ f ih =>
      intro i inz hf hif hE hs H locs hP hS ls hl
      refine lv_iload_n hx hb dX0_sortFound_2 rfl (lv_at hl 3 rfl) ?_
      refine lv_aload_n hx hb dX0_sortFound_3 rfl (lv_at hl 0 rfl) ?_
      refine cx_get 12 hx hb hts hown hK hP (by decide) (hts _ q45) rfl dX0_sortFound_4 ?_
      refine ci_icmp_ge (tgt := 83) hx hb dX0_sortFound_7 (by decide) (by omega) (by omega) (fun c7 => ?_) (fun c7 => ?_)
      · exact ci_vretW hQ hx hb hrt hlk hS dX0_sortFound_83 inz ⟨hE, fun a b h1 h2 => hs a b h1 (by omega)⟩ hP
      · obtain ⟨hi40, hiP⟩ := En_at hE c7
        refine lv_aload_n hx hb dX0_sortFound_10 rfl (lv_at hl 0 rfl) ?_
        refine cx_get 13 hx hb hts hown hK hP (by decide) (hts _ q46) rfl dX0_sortFound_11 ?_
        refine lv_iload_n hx hb dX0_sortFound_14 rfl (lv_at hl 3 rfl) ?_
        refine ci_iald hx hb hK hP 6 5 rfl rfl (by omega) (by decide) dX0_sortFound_15 ?_
        refine lv_istore (lv' := [(4, .int (nI (inz i))), (0, .ref (g 0)), (1, .int (nI x)), (2, .int (nI y)), (3, .int (nI i))]) hx hb dX0_sortFound_16 hl (by decide) rfl (fun ls hl => ?_)
        refine lv_iload_n hx hb dX0_sortFound_18 rfl (lv_at hl 4 rfl) ?_
        refine lv_istore (lv' := [(5, .int (nI i)), (4, .int (nI (inz i))), (0, .ref (g 0)), (1, .int (nI x)), (2, .int (nI y)), (3, .int (nI i))]) hx hb dX0_sortFound_19 hl (by decide) rfl (fun ls hl => ?_)
        have lp2 : ∀ (f2 : Nat) (h : Nat) (w : Nat → Nat), (h < f2) → (h ≤ i) → (∀ j, j < h → w j = inz j) → (∀ j, h < j → j ≤ i → w j = inz (j - 1)) → (∀ j, i < j → w j = inz j) → (∀ j, h ≤ j → j < i → lxb px py x y (inz i) (inz j) = true) → ∀ (H : Heap) (locs : List Loc), va_P D vwCl (wX g d u px py lb n k le mo x0 x1 y0 y1 fo w) H → va_S (xA 7 g) s.heap H locs → ∀ ls : Array Slot, lv_has ls 6 [(0, .ref (g 0)), (1, .int (nI x)), (2, .int (nI y)), (3, .int (nI i)), (4, .int (nI (inz i))), (5, .int (nI h))] → W p l e rm_X0_sortFound s m args below meth c H locs 0 0 Q0 (F0 m 21 ls []) := by
          intro f2
          induction f2 with
          | zero => intro h w hf; exact absurd hf (Nat.not_lt_zero _)
          | succ f2 ih2 =>
            intro h w hf2 hh w0 w2 w3 hlx H locs hP hS ls hl
            refine lv_iload hx hb dX0_sortFound_21 (lv_at hl 5 rfl) ?_
            refine ci_ifn_le (tgt := 68) hx hb dX0_sortFound_23 (by decide) (by omega) (fun c23 => ?_) (fun c23 => ?_)
            · refine lv_aload_n hx hb dX0_sortFound_68 rfl (lv_at hl 0 rfl) ?_
              refine cx_get 13 hx hb hts hown hK hP (by decide) (hts _ q46) rfl dX0_sortFound_69 ?_
              refine lv_iload hx hb dX0_sortFound_72 (lv_at hl 5 rfl) ?_
              refine lv_iload hx hb dX0_sortFound_74 (lv_at hl 4 rfl) ?_
              refine ci_iast hx hb hK hP (wX_D hg) hS 6 5 rfl rfl (by omega) (by decide) dX0_sortFound_76 (fun H locs hP hS => ?_)
              have hP : va_P D vwCl (wX g d u px py lb n k le mo x0 x1 y0 y1 fo (va_up w h (inz i))) H := hP
              obtain ⟨hE2, hs2⟩ := sort_step hE c7 hs hh (fun j hj => by rw [va_up_ne w _ (by omega)]; exact w0 j hj) (va_up_self w h _) (fun j h1 h2 => by rw [va_up_ne w _ (by omega)]; exact w2 j h1 h2) (fun j hj => by rw [va_up_ne w _ (by omega)]; exact w3 j hj) hlx (by first | exact Or.inr c43 | (left; exact c23))
              refine lv_iinc (v := (nI (i + 1))) (lv' := [(3, .int (nI (i + 1))), (0, .ref (g 0)), (1, .int (nI x)), (2, .int (nI y)), (4, .int (nI (inz i))), (5, .int (nI h))]) hx hb dX0_sortFound_77 hl (k := 3) rfl (ci_inc _) (by decide) rfl (fun ls hl => ?_)
              refine lv_goto (tgt := 2) hx hb dX0_sortFound_80 (by decide) ?_
              exact ih (i + 1) _ (by omega) (by omega) hE2 hs2 H locs hP hS ls (lv_sub hl [1, 2, 3, 0] rfl)
            · obtain ⟨hj40, hjP⟩ := En_at hE (show h - 1 < fo by omega)
              have hw1 : w (h - 1) = inz (h - 1) := w0 _ (by omega)
              refine lv_aload_n hx hb dX0_sortFound_26 rfl (lv_at hl 0 rfl) ?_
              refine lv_iload_n hx hb dX0_sortFound_27 rfl (lv_at hl 1 rfl) ?_
              refine lv_iload_n hx hb dX0_sortFound_28 rfl (lv_at hl 2 rfl) ?_
              refine lv_iload hx hb dX0_sortFound_29 (lv_at hl 4 rfl) ?_
              refine lv_aload_n hx hb dX0_sortFound_31 rfl (lv_at hl 0 rfl) ?_
              refine cx_get 13 hx hb hts hown hK hP (by decide) (hts _ q46) rfl dX0_sortFound_32 ?_
              refine lv_iload hx hb dX0_sortFound_35 (lv_at hl 5 rfl) ?_
              refine lv_iconst (v := (nI 1)) hx hb dX0_sortFound_37 (by decide +kernel) ?_
              refine ci_isub hx hb dX0_sortFound_38 (by omega) ?_
              refine ci_iald hx hb hK hP 6 5 rfl rfl (by omega) (by decide) dX0_sortFound_39 ?_
              refine ci_top hw1 ?_
              refine vp_callSi (W.runV (As := [.int (nI x), .int (nI y), .int (nI (inz i)), .int (nI (inz (h - 1)))]) (rest := []) ⟨hx, hb, hml, hown, hts⟩ (met_X0_nearer l D g d u px py lb n k le mo x0 x1 y0 y1 fo w x y (inz i) (inz (h - 1)) hi40 hj40 (ds_le hx0 hy0 (hp _ hi40).1 (hp _ hi40).2) (ds_le hx0 hy0 (hp _ hj40).1 (hp _ hj40).2)) (cwV 4 hts (lw_V q181 q183 qs14 q23 q184) rfl rfl rfl (by decide +kernel) ⟨Nat.le_of_ble_eq_true rfl, Nat.le_of_ble_eq_true rfl⟩) (ci_pre hK hP (ci := 0) (q0 := 0) rfl rfl) rfl rfl hl.1 rfl (lv_room (Nat.le_of_ble_eq_true rfl)) dX0_sortFound_40 ⟨Nat.le_of_ble_eq_true rfl, Nat.le_of_ble_eq_true rfl⟩) (fun r hr => ?_)
              subst hr
              refine ci_ifb_eq (tgt := 68) hx hb dX0_sortFound_43 (by decide) (fun c43 => ?_) (fun c43 => ?_)
              · refine lv_aload_n hx hb dX0_sortFound_68 rfl (lv_at hl 0 rfl) ?_
                refine cx_get 13 hx hb hts hown hK hP (by decide) (hts _ q46) rfl dX0_sortFound_69 ?_
                refine lv_iload hx hb dX0_sortFound_72 (lv_at hl 5 rfl) ?_
                refine lv_iload hx hb dX0_sortFound_74 (lv_at hl 4 rfl) ?_
                refine ci_iast hx hb hK hP (wX_D hg) hS 6 5 rfl rfl (by omega) (by decide) dX0_sortFound_76 (fun H locs hP hS => ?_)
                have hP : va_P D vwCl (wX g d u px py lb n k le mo x0 x1 y0 y1 fo (va_up w h (inz i))) H := hP
                obtain ⟨hE2, hs2⟩ := sort_step hE c7 hs hh (fun j hj => by rw [va_up_ne w _ (by omega)]; exact w0 j hj) (va_up_self w h _) (fun j h1 h2 => by rw [va_up_ne w _ (by omega)]; exact w2 j h1 h2) (fun j hj => by rw [va_up_ne w _ (by omega)]; exact w3 j hj) hlx (by first | exact Or.inr c43 | (left; exact c23))
                refine lv_iinc (v := (nI (i + 1))) (lv' := [(3, .int (nI (i + 1))), (0, .ref (g 0)), (1, .int (nI x)), (2, .int (nI y)), (4, .int (nI (inz i))), (5, .int (nI h))]) hx hb dX0_sortFound_77 hl (k := 3) rfl (ci_inc _) (by decide) rfl (fun ls hl => ?_)
                refine lv_goto (tgt := 2) hx hb dX0_sortFound_80 (by decide) ?_
                exact ih (i + 1) _ (by omega) (by omega) hE2 hs2 H locs hP hS ls (lv_sub hl [1, 2, 3, 0] rfl)
              · refine lv_aload_n hx hb dX0_sortFound_46 rfl (lv_at hl 0 rfl) ?_
                refine cx_get 13 hx hb hts hown hK hP (by decide) (hts _ q46) rfl dX0_sortFound_47 ?_
                refine lv_iload hx hb dX0_sortFound_50 (lv_at hl 5 rfl) ?_
                refine lv_aload_n hx hb dX0_sortFound_52 rfl (lv_at hl 0 rfl) ?_
                refine cx_get 13 hx hb hts hown hK hP (by decide) (hts _ q46) rfl dX0_sortFound_53 ?_
                refine lv_iload hx hb dX0_sortFound_56 (lv_at hl 5 rfl) ?_
                refine lv_iconst (v := (nI 1)) hx hb dX0_sortFound_58 (by decide +kernel) ?_
                refine ci_isub hx hb dX0_sortFound_59 (by omega) ?_
                refine ci_iald hx hb hK hP 6 5 rfl rfl (by omega) (by decide) dX0_sortFound_60 ?_
                refine ci_iast hx hb hK hP (wX_D hg) hS 6 5 rfl rfl (by omega) (by decide) dX0_sortFound_61 (fun H locs hP hS => ?_)
                have hP : va_P D vwCl (wX g d u px py lb n k le mo x0 x1 y0 y1 fo (va_up w h (w (h - 1)))) H := hP
                refine lv_iinc (v := (nI (h - 1))) (lv' := [(5, .int (nI (h - 1))), (0, .ref (g 0)), (1, .int (nI x)), (2, .int (nI y)), (3, .int (nI i)), (4, .int (nI (inz i)))]) hx hb dX0_sortFound_62 hl (k := 5) rfl (ci_dec (by omega)) (by decide) rfl (fun ls hl => ?_)
                refine lv_goto (tgt := 21) hx hb dX0_sortFound_65 (by decide) ?_
                exact ih2 (h - 1) _ (by omega) (by omega) (fun j hj => by rw [va_up_ne w _ (by omega)]; exact w0 j (by omega)) (fun j h1 h2 => by by_cases e : j = h; (rw [e, va_up_self]; exact hw1); (rw [va_up_ne w _ e]; exact w2 j (by omega) h2)) (fun j hj => by rw [va_up_ne w _ (by omega)]; exact w3 j hj) (fun j h1 h2 => by rcases Nat.eq_or_lt_of_le h1 with q | q; (rw [← q]; exact c43); exact hlx j (by omega) h2) H locs hP hS ls (lv_sub hl [1, 2, 3, 4, 5, 0] rfl)
        exact lp2 (i + 1) i inz (by omega) (Nat.le_refl i) (fun j _ => rfl) (fun j h1 h2 => absurd h1 (by omega)) (fun j _ => rfl) (fun j h1 h2 => absurd h1 (by omega)) _ _ hP hS ls (lv_sub hl [2, 3, 4, 5, 1, 0] rfl)
  exact lp (fo + 1) 1 ins (by omega) (by omega) hE0 (fun a b h1 h2 => absurd h2 (by omega)) _ _ hP hS ls (lv_sub hl [1, 2, 3, 0] rfl)
end
section
/-- nearest(place, rank) -/
abbrev rm_X0_nearest : Room := { frames := 4, cells := 0, slots := 0, locals := 107 }
set_option maxHeartbeats 8000000 in
set_option maxRecDepth 100000 in
theorem met_X0_nearest (l : Launch) (D : va_G) (g : Nat → Nat) (d : Nat → ClassId) (hg : xN 7 g) (u : Nat → Bool) (px py : Nat → Nat) (lb : Nat → Int32) (n : Nat) (k : Nat → Nat) (le mo x0 x1 y0 y1 fo : Nat) (ins : Nat → Nat) (x y : Int32) (hI : Inv u px py n k) : Met l yX0_nearest (ws_ yX0_nearest cX0_nearest 6 (some .int)) rm_X0_nearest (ci_R D (wX g d u px py lb n k le mo x0 x1 y0 y1 fo ins) (tX d) [.ref (g 0), .int x, .int y]) (va_Qi (fun (r : Int32) (z : BX) => (badP x = true ∧ r = -1) ∨ (∃ a, a < 4096 ∧ x = nI a ∧ ((y < 0 ∧ r = -4) ∨ (∃ rk, rk < 2147483648 ∧ y = nI rk ∧ ((n ≤ rk ∧ r = -3) ∨ (rk < n ∧ ∃ w, w < 40 ∧ r = nI w ∧ u w = true ∧ cnt (fun j => u j && lxb px py (a % 64) (a / 64) j w) 40 = rk)))))) (fun z t => va_P D vwCl (wZ g d u px py lb n k z) t.heap) (xA 7 g)) 0 0 (xA 7 g) := by
  refine ci_of (by decide) (Nat.le_of_ble_eq_true rfl) ?_
  intro p e s m args below meth c Q0 hx hb hrt hml hown hts hlk hmn hQ hP hK ls hl
  have hS : va_S (xA 7 g) s.heap s.heap [] := va_S.rf
  have hown : s.vm.findClass RX0 = some m.cls := hown
  have hl : lv_has ls 6 [(0, .ref (g 0)), (1, .int x), (2, .int y)] := hl
  have hn40 := Inv_n hI
  refine lv_iload_n hx hb dX0_nearest_0 rfl (lv_at hl 1 rfl) ?_
  refine vp_callSi (W.runS (As := [.int x]) (rest := []) ⟨hx, hb, hml, hown, hts⟩ (met_X0_bad l _) (va_cwS 1 hts (lw_S q82 q83 q23 q84) rfl rfl rfl (by decide +kernel) ⟨Nat.le_of_ble_eq_true rfl, Nat.le_of_ble_eq_true rfl⟩) ci_preS rfl rfl hl.1 rfl (lv_room (Nat.le_of_ble_eq_true rfl)) dX0_nearest_1 ⟨Nat.le_of_ble_eq_true rfl, Nat.le_of_ble_eq_true rfl⟩) (fun r hr => ?_)
  subst hr
  refine ci_ifb_eq (tgt := 9) hx hb dX0_nearest_4 (by decide) (fun c4 => ?_) (fun c4 => ?_)
  · obtain ⟨a, ha, rfl⟩ := badP_f c4
    refine lv_iload_n hx hb dX0_nearest_9 rfl (lv_at hl 2 rfl) ?_
    refine lv_if_ge (tgt := 16) hx hb dX0_nearest_10 (by decide) (fun c10 => ?_) (fun c10 => ?_)
    · obtain ⟨rk, hrk, rfl⟩ := nI_of (Int32.not_lt.mpr c10)
      refine lv_iload_n hx hb dX0_nearest_16 rfl (lv_at hl 2 rfl) ?_
      refine lv_aload_n hx hb dX0_nearest_17 rfl (lv_at hl 0 rfl) ?_
      refine cx_get 4 hx hb hts hown hK hP (by decide) (hts _ q37) rfl dX0_nearest_18 ?_
      refine ci_icmp_lt (tgt := 27) hx hb dX0_nearest_21 (by decide) hrk (by omega) (fun c21 => ?_) (fun c21 => ?_)
      · refine lv_iload_n hx hb dX0_nearest_27 rfl (lv_at hl 1 rfl) ?_
        refine lv_bipush (v := (nI 63)) hx hb dX0_nearest_28 (by decide +kernel) ?_
        refine ci_and63 hx hb dX0_nearest_30 ?_
        refine lv_istore_n (lv' := [(3, .int (nI (a % 64))), (0, .ref (g 0)), (1, .int (nI a)), (2, .int (nI rk))]) hx hb dX0_nearest_31 rfl hl (by decide) rfl (fun ls hl => ?_)
        refine lv_iload_n hx hb dX0_nearest_32 rfl (lv_at hl 2 rfl) ?_
        refine lv_bipush (v := (nI 6)) hx hb dX0_nearest_33 (by decide +kernel) ?_
        refine ci_shr6 hx hb dX0_nearest_35 (by omega) ?_
        refine lv_istore (lv' := [(4, .int (nI (a / 64))), (3, .int (nI (a % 64))), (0, .ref (g 0)), (1, .int (nI a)), (2, .int (nI rk))]) hx hb dX0_nearest_36 hl (by decide) rfl (fun ls hl => ?_)
        refine lv_aload_n hx hb dX0_nearest_38 rfl (lv_at hl 2 rfl) ?_
        refine lv_iconst (v := (nI 0)) hx hb dX0_nearest_39 (by decide +kernel) ?_
        refine cx_put 12 hx hb hts hown hK hP (wX_D hg) hS (by decide) (hts _ q45) rfl (by decide +kernel) (Nat.le_of_ble_eq_true rfl) dX0_nearest_40 (fun H locs hP hS => ?_)
        have hP : va_P D vwCl (wX g d u px py lb n k le mo x0 x1 y0 y1 0 ins) H := hP
        refine lv_iconst (v := (nI 2)) hx hb dX0_nearest_43 (by decide +kernel) ?_
        refine lv_istore (lv' := [(5, .int (nI 2)), (4, .int (nI (a / 64))), (3, .int (nI (a % 64))), (0, .ref (g 0)), (1, .int (nI a)), (2, .int (nI rk))]) hx hb dX0_nearest_44 hl (by decide) rfl (fun ls hl => ?_)
        have lp : ∀ (f : Nat) (rr le mo x0 x1 y0 y1 fo : Nat) (ins : Nat → Nat), (258 - rr < f) → (rr = 2 ∨ rr = 4 ∨ rr = 8 ∨ rr = 16 ∨ rr = 32 ∨ rr = 64 ∨ rr = 128 ∨ rr = 256) → ((rr = 2 ∧ fo = 0) ∨ En fo ins (nrP u px py (a % 64) (a / 64) (rr / 2 * (rr / 2)))) → (fo ≤ 40) → ∀ (H : Heap) (locs : List Loc), va_P D vwCl (wX g d u px py lb n k le mo x0 x1 y0 y1 fo ins) H → va_S (xA 7 g) s.heap H locs → ∀ ls : Array Slot, lv_has ls 6 [(0, .ref (g 0)), (2, .int (nI rk)), (3, .int (nI (a % 64))), (4, .int (nI (a / 64))), (5, .int (nI rr))] → W p l e rm_X0_nearest s m args below meth c H locs 0 0 Q0 (F0 m 46 ls []) := by
          intro f
          induction f with
          | zero => intro rr le mo x0 x1 y0 y1 fo ins hf; exact absurd hf (Nat.not_lt_zero _)
          | succ f ih =>
            intro rr le mo x0 x1 y0 y1 fo ins hf hrr hfo hfb H locs hP hS ls hl
            refine lv_iload hx hb dX0_nearest_46 (lv_at hl 4 rfl) ?_
            refine lv_sipush (v := (nI 128)) hx hb dX0_nearest_48 (by decide +kernel) ?_
            refine ci_icmp_gt (tgt := 83) hx hb dX0_nearest_51 (by decide) (by omega) (by omega) (fun c51 => ?_) (fun c51 => ?_)
            · have hfin : En fo ins (nrP u px py (a % 64) (a / 64) (rr / 2 * (rr / 2))) ∧ rk < fo := by
                rcases hfo with ⟨q1, q2⟩ | q
                · exfalso; omega
                · refine ⟨q, ?_⟩
                  first
                  | exact c59
                  | (have e : rr = 256 := by omega
                     rw [e] at q
                     rw [all_near hI.2.1 hI.1 (by omega) (by omega) (by decide) q]
                     exact c21)
              obtain ⟨hE, hrf⟩ := hfin
              refine lv_aload_n hx hb dX0_nearest_83 rfl (lv_at hl 0 rfl) ?_
              refine lv_iload_n hx hb dX0_nearest_84 rfl (lv_at hl 2 rfl) ?_
              refine lv_iload hx hb dX0_nearest_85 (lv_at hl 3 rfl) ?_
              refine va_callv (va_runV (As := [.int (nI (a % 64)), .int (nI (a / 64))]) (rest := []) ⟨hx, hb, hml, hown, hts⟩ (met_X0_sortFound l D g d hg u px py lb n k le mo x0 x1 y0 y1 fo ins (a % 64) (a / 64) _ hI.1 (by omega) (by omega) hE) (cwV 2 hts (lw_V q177 q179 qs13 q23 q180) rfl rfl rfl (by decide +kernel) ⟨Nat.le_of_ble_eq_true rfl, Nat.le_of_ble_eq_true rfl⟩) (ci_pre hK hP (ci := 0) (q0 := 0) rfl rfl) rfl rfl hl.1 rfl (lv_room (Nat.le_of_ble_eq_true rfl)) dX0_nearest_87 ⟨Nat.le_of_ble_eq_true rfl, Nat.le_of_ble_eq_true rfl⟩) hS (fun q _ h => h) (fun q h => h) (fun zz tt H1 locs ht hvm hr hB hz1 hk1 hS => ?_)
              obtain ⟨ins2, rfl⟩ : ∃ w, w = zz := ⟨_, rfl⟩
              obtain ⟨hE2, hs2⟩ := hr
              have hk40 := (rank_ok hE2 hs2 hrf).1
              have hP : va_P D vwCl (wX g d u px py lb n k le mo x0 x1 y0 y1 fo ins2) H1 := by rw [← ht]; exact hB
              clear hB hk1 hz1 ht hvm tt
              generalize H1 = H at hP hS ⊢
              refine lv_aload_n hx hb dX0_nearest_90 rfl (lv_at hl 0 rfl) ?_
              refine cx_get 13 hx hb hts hown hK hP (by decide) (hts _ q46) rfl dX0_nearest_91 ?_
              refine lv_iload_n hx hb dX0_nearest_94 rfl (lv_at hl 1 rfl) ?_
              refine ci_iald hx hb hK hP 6 5 rfl rfl (by omega) (by decide) dX0_nearest_95 ?_
              exact ci_iretW hQ hx hb hrt hlk hS dX0_nearest_96 (le, mo, x0, x1, y0, y1, fo, ins2) (Or.inr ⟨a, ha, rfl, Or.inr ⟨rk, hrk, rfl, Or.inr ⟨c21, _, hk40, rfl, (rank_ok hE2 hs2 hrf).2⟩⟩⟩) hP
            · refine lv_aload_n hx hb dX0_nearest_54 rfl (lv_at hl 0 rfl) ?_
              refine cx_get 12 hx hb hts hown hK hP (by decide) (hts _ q45) rfl dX0_nearest_55 ?_
              refine lv_iload_n hx hb dX0_nearest_58 rfl (lv_at hl 1 rfl) ?_
              refine ci_icmp_gt (tgt := 83) hx hb dX0_nearest_59 (by decide) (by omega) hrk (fun c59 => ?_) (fun c59 => ?_)
              · have hfin : En fo ins (nrP u px py (a % 64) (a / 64) (rr / 2 * (rr / 2))) ∧ rk < fo := by
                  rcases hfo with ⟨q1, q2⟩ | q
                  · exfalso; omega
                  · refine ⟨q, ?_⟩
                    first
                    | exact c59
                    | (have e : rr = 256 := by omega
                       rw [e] at q
                       rw [all_near hI.2.1 hI.1 (by omega) (by omega) (by decide) q]
                       exact c21)
                obtain ⟨hE, hrf⟩ := hfin
                refine lv_aload_n hx hb dX0_nearest_83 rfl (lv_at hl 0 rfl) ?_
                refine lv_iload_n hx hb dX0_nearest_84 rfl (lv_at hl 2 rfl) ?_
                refine lv_iload hx hb dX0_nearest_85 (lv_at hl 3 rfl) ?_
                refine va_callv (va_runV (As := [.int (nI (a % 64)), .int (nI (a / 64))]) (rest := []) ⟨hx, hb, hml, hown, hts⟩ (met_X0_sortFound l D g d hg u px py lb n k le mo x0 x1 y0 y1 fo ins (a % 64) (a / 64) _ hI.1 (by omega) (by omega) hE) (cwV 2 hts (lw_V q177 q179 qs13 q23 q180) rfl rfl rfl (by decide +kernel) ⟨Nat.le_of_ble_eq_true rfl, Nat.le_of_ble_eq_true rfl⟩) (ci_pre hK hP (ci := 0) (q0 := 0) rfl rfl) rfl rfl hl.1 rfl (lv_room (Nat.le_of_ble_eq_true rfl)) dX0_nearest_87 ⟨Nat.le_of_ble_eq_true rfl, Nat.le_of_ble_eq_true rfl⟩) hS (fun q _ h => h) (fun q h => h) (fun zz tt H1 locs ht hvm hr hB hz1 hk1 hS => ?_)
                obtain ⟨ins2, rfl⟩ : ∃ w, w = zz := ⟨_, rfl⟩
                obtain ⟨hE2, hs2⟩ := hr
                have hk40 := (rank_ok hE2 hs2 hrf).1
                have hP : va_P D vwCl (wX g d u px py lb n k le mo x0 x1 y0 y1 fo ins2) H1 := by rw [← ht]; exact hB
                clear hB hk1 hz1 ht hvm tt
                generalize H1 = H at hP hS ⊢
                refine lv_aload_n hx hb dX0_nearest_90 rfl (lv_at hl 0 rfl) ?_
                refine cx_get 13 hx hb hts hown hK hP (by decide) (hts _ q46) rfl dX0_nearest_91 ?_
                refine lv_iload_n hx hb dX0_nearest_94 rfl (lv_at hl 1 rfl) ?_
                refine ci_iald hx hb hK hP 6 5 rfl rfl (by omega) (by decide) dX0_nearest_95 ?_
                exact ci_iretW hQ hx hb hrt hlk hS dX0_nearest_96 (le, mo, x0, x1, y0, y1, fo, ins2) (Or.inr ⟨a, ha, rfl, Or.inr ⟨rk, hrk, rfl, Or.inr ⟨c21, _, hk40, rfl, (rank_ok hE2 hs2 hrf).2⟩⟩⟩) hP
              · refine lv_aload_n hx hb dX0_nearest_62 rfl (lv_at hl 0 rfl) ?_
                refine lv_iload_n hx hb dX0_nearest_63 rfl (lv_at hl 2 rfl) ?_
                refine lv_iload hx hb dX0_nearest_64 (lv_at hl 3 rfl) ?_
                refine lv_iload hx hb dX0_nearest_66 (lv_at hl 4 rfl) ?_
                refine lv_iload hx hb dX0_nearest_68 (lv_at hl 4 rfl) ?_
                refine ci_imul hx hb dX0_nearest_70 ?_
                refine va_callv (va_runV (As := [.int (nI (a % 64)), .int (nI (a / 64)), .int (nI (rr * rr))]) (rest := []) ⟨hx, hb, hml, hown, hts⟩ (met_X0_walkNear l D g d hg u px py lb n k le mo x0 x1 y0 y1 fo ins (a % 64) (a / 64) (rr * rr) hI (by omega) (by omega) (Nat.lt_of_le_of_lt (Nat.mul_le_mul (show rr ≤ 128 by omega) (show rr ≤ 128 by omega)) (by decide))) (cwV 3 hts (lw_V q159 q161 qs11 q23 q162) rfl rfl rfl (by decide +kernel) ⟨Nat.le_of_ble_eq_true rfl, Nat.le_of_ble_eq_true rfl⟩) (ci_pre hK hP (ci := 0) (q0 := 0) rfl rfl) rfl rfl hl.1 rfl (lv_room (Nat.le_of_ble_eq_true rfl)) dX0_nearest_71 ⟨Nat.le_of_ble_eq_true rfl, Nat.le_of_ble_eq_true rfl⟩) hS (fun q _ h => h) (fun q h => h) (fun zz tt H1 locs ht hvm hr hB hz1 hk1 hS => ?_)
                obtain ⟨le1, mo1, xx0, xx1, yy0, yy1, fo1, ins1⟩ := zz
                have hE := hr
                clear hr
                have hE : En fo1 ins1 (nrP u px py (a % 64) (a / 64) (rr * rr)) := hE
                have hP : va_P D vwCl (wX g d u px py lb n k le1 mo1 xx0 xx1 yy0 yy1 fo1 ins1) H1 := by rw [← ht]; exact hB
                clear hB hk1 hz1 ht hvm tt
                generalize H1 = H at hP hS ⊢
                refine lv_iload hx hb dX0_nearest_74 (lv_at hl 4 rfl) ?_
                refine lv_iconst (v := (nI 2)) hx hb dX0_nearest_76 (by decide +kernel) ?_
                refine ci_imul hx hb dX0_nearest_77 ?_
                refine lv_istore (lv' := [(5, .int (nI (rr * 2))), (0, .ref (g 0)), (2, .int (nI rk)), (3, .int (nI (a % 64))), (4, .int (nI (a / 64)))]) hx hb dX0_nearest_78 hl (by decide) rfl (fun ls hl => ?_)
                refine lv_goto (tgt := 46) hx hb dX0_nearest_80 (by decide) ?_
                exact ih (rr * 2) _ _ _ _ _ _ _ _ (by omega) (by omega) (Or.inr (by rw [show rr * 2 / 2 = rr by omega]; exact hE)) (by rw [En_cnt _ hE]; exact cnt_le _ 40) H locs hP hS ls (lv_sub hl [1, 2, 3, 4, 0] rfl)
        exact lp 257 2 _ _ _ _ _ _ 0 ins (by omega) (by omega) (Or.inl ⟨rfl, rfl⟩) (by omega) _ _ hP hS ls (lv_sub hl [3, 5, 2, 1, 0] rfl)
      · refine lv_bipush (v := (-3)) hx hb dX0_nearest_24 (by decide +kernel) ?_
        exact ci_iretW hQ hx hb hrt hlk hS dX0_nearest_26 (le, mo, x0, x1, y0, y1, fo, ins) (Or.inr ⟨a, ha, rfl, Or.inr ⟨rk, hrk, rfl, Or.inl ⟨c21, rfl⟩⟩⟩) hP
    · refine lv_bipush (v := (-4)) hx hb dX0_nearest_13 (by decide +kernel) ?_
      exact ci_iretW hQ hx hb hrt hlk hS dX0_nearest_15 (le, mo, x0, x1, y0, y1, fo, ins) (Or.inr ⟨a, ha, rfl, Or.inl ⟨Int32.not_le.mp c10, rfl⟩⟩) hP
  · refine lv_iconst (v := (-1)) hx hb dX0_nearest_7 (by decide +kernel) ?_
    exact ci_iretW hQ hx hb hrt hlk hS dX0_nearest_8 (le, mo, x0, x1, y0, y1, fo, ins) (Or.inl ⟨c4, rfl⟩) hP

/-- placeOf(point) -/
abbrev rm_X0_placeOf : Room := { frames := 1, cells := 0, slots := 0, locals := 21 }
set_option maxHeartbeats 8000000 in
set_option maxRecDepth 100000 in
theorem met_X0_placeOf (l : Launch) (D : va_G) (g : Nat → Nat) (d : Nat → ClassId) (u : Nat → Bool) (px py : Nat → Nat) (lb : Nat → Int32) (n : Nat) (k : Nat → Nat) (le mo x0 x1 y0 y1 fo : Nat) (ins : Nat → Nat) (x : Int32)  : Met l yX0_placeOf (ws_ yX0_placeOf cX0_placeOf 2 (some .int)) rm_X0_placeOf (ci_R D (wX g d u px py lb n k le mo x0 x1 y0 y1 fo ins) (tX d) [.ref (g 0), .int x]) (vp_Si (fun r => (noP u x = true ∧ r = -3) ∨ (∃ pt, pt < 40 ∧ x = nI pt ∧ u pt = true ∧ r = nI (px pt + 64 * py pt)))) 0 0 (fun _ => False) := by
  refine ci_of (by decide) (Nat.le_of_ble_eq_true rfl) ?_
  intro p e s m args below meth c Q0 hx hb hrt hml hown hts hlk hmn hQ hP hK ls hl
  have hown : s.vm.findClass RX0 = some m.cls := hown
  have hl : lv_has ls 2 [(0, .ref (g 0)), (1, .int x)] := hl
  refine lv_aload_n hx hb dX0_placeOf_0 rfl (lv_at hl 0 rfl) ?_
  refine lv_iload_n hx hb dX0_placeOf_1 rfl (lv_at hl 1 rfl) ?_
  refine vp_callSi (W.runV (As := [.int x]) (rest := []) ⟨hx, hb, hml, hown, hts⟩ (met_X0_noPoint l D g d u px py lb n k le mo x0 x1 y0 y1 fo ins _) (cwV 1 hts (lw_V q104 q106 qs3 q23 q107) rfl rfl rfl (by decide +kernel) ⟨Nat.le_of_ble_eq_true rfl, Nat.le_of_ble_eq_true rfl⟩) (ci_pre hK hP (ci := 0) (q0 := 0) rfl rfl) rfl rfl hl.1 rfl (lv_room (Nat.le_of_ble_eq_true rfl)) dX0_placeOf_2 ⟨Nat.le_of_ble_eq_true rfl, Nat.le_of_ble_eq_true rfl⟩) (fun r hr => ?_)
  subst hr
  refine ci_ifb_eq (tgt := 13) hx hb dX0_placeOf_5 (by decide) (fun c5 => ?_) (fun c5 => ?_)
  · obtain ⟨pt, hpt, rfl, hu⟩ := noP_f c5
    refine lv_aload_n hx hb dX0_placeOf_13 rfl (lv_at hl 0 rfl) ?_
    refine cx_get 1 hx hb hts hown hK hP (by decide) (hts _ q34) rfl dX0_placeOf_14 ?_
    refine lv_iload_n hx hb dX0_placeOf_17 rfl (lv_at hl 1 rfl) ?_
    refine ci_iald hx hb hK hP 2 1 rfl rfl (by omega) (by decide) dX0_placeOf_18 ?_
    refine lv_bipush (v := (nI 64)) hx hb dX0_placeOf_19 (by decide +kernel) ?_
    refine lv_aload_n hx hb dX0_placeOf_21 rfl (lv_at hl 0 rfl) ?_
    refine cx_get 2 hx hb hts hown hK hP (by decide) (hts _ q35) rfl dX0_placeOf_22 ?_
    refine lv_iload_n hx hb dX0_placeOf_25 rfl (lv_at hl 1 rfl) ?_
    refine ci_iald hx hb hK hP 3 2 rfl rfl (by omega) (by decide) dX0_placeOf_26 ?_
    refine ci_imul hx hb dX0_placeOf_27 ?_
    refine ci_iadd hx hb dX0_placeOf_28 ?_
    exact ci_iretR hQ hx hb hrt hlk dX0_placeOf_29 (Or.inr ⟨pt, hpt, rfl, hu, rfl⟩)
  · refine lv_bipush (v := (-3)) hx hb dX0_placeOf_8 (by decide +kernel) ?_
    refine lv_goto (tgt := 29) hx hb dX0_placeOf_10 (by decide) ?_
    exact ci_iretR hQ hx hb hrt hlk dX0_placeOf_29 (Or.inl ⟨c5, rfl⟩)

/-- labelOf(point) -/
abbrev rm_X0_labelOf : Room := { frames := 1, cells := 0, slots := 0, locals := 21 }
set_option maxHeartbeats 8000000 in
set_option maxRecDepth 100000 in
theorem met_X0_labelOf (l : Launch) (D : va_G) (g : Nat → Nat) (d : Nat → ClassId) (u : Nat → Bool) (px py : Nat → Nat) (lb : Nat → Int32) (n : Nat) (k : Nat → Nat) (le mo x0 x1 y0 y1 fo : Nat) (ins : Nat → Nat) (x : Int32)  : Met l yX0_labelOf (ws_ yX0_labelOf cX0_labelOf 2 (some .int)) rm_X0_labelOf (ci_R D (wX g d u px py lb n k le mo x0 x1 y0 y1 fo ins) (tX d) [.ref (g 0), .int x]) (vp_Si (fun r => (noP u x = true ∧ r = nI 0) ∨ (∃ pt, pt < 40 ∧ x = nI pt ∧ u pt = true ∧ r = lb pt))) 0 0 (fun _ => False) := by
  refine ci_of (by decide) (Nat.le_of_ble_eq_true rfl) ?_
  intro p e s m args below meth c Q0 hx hb hrt hml hown hts hlk hmn hQ hP hK ls hl
  have hown : s.vm.findClass RX0 = some m.cls := hown
  have hl : lv_has ls 2 [(0, .ref (g 0)), (1, .int x)] := hl
  refine lv_aload_n hx hb dX0_labelOf_0 rfl (lv_at hl 0 rfl) ?_
  refine lv_iload_n hx hb dX0_labelOf_1 rfl (lv_at hl 1 rfl) ?_
  refine vp_callSi (W.runV (As := [.int x]) (rest := []) ⟨hx, hb, hml, hown, hts⟩ (met_X0_noPoint l D g d u px py lb n k le mo x0 x1 y0 y1 fo ins _) (cwV 1 hts (lw_V q104 q106 qs3 q23 q107) rfl rfl rfl (by decide +kernel) ⟨Nat.le_of_ble_eq_true rfl, Nat.le_of_ble_eq_true rfl⟩) (ci_pre hK hP (ci := 0) (q0 := 0) rfl rfl) rfl rfl hl.1 rfl (lv_room (Nat.le_of_ble_eq_true rfl)) dX0_labelOf_2 ⟨Nat.le_of_ble_eq_true rfl, Nat.le_of_ble_eq_true rfl⟩) (fun r hr => ?_)
  subst hr
  refine ci_ifb_eq (tgt := 12) hx hb dX0_labelOf_5 (by decide) (fun c5 => ?_) (fun c5 => ?_)
  · obtain ⟨pt, hpt, rfl, hu⟩ := noP_f c5
    refine lv_aload_n hx hb dX0_labelOf_12 rfl (lv_at hl 0 rfl) ?_
    refine cx_get 3 hx hb hts hown hK hP (by decide) (hts _ q36) rfl dX0_labelOf_13 ?_
    refine lv_iload_n hx hb dX0_labelOf_16 rfl (lv_at hl 1 rfl) ?_
    refine ci_rald hx hb hK hP 4 3 rfl rfl (by omega) (by decide) dX0_labelOf_17 ?_
    exact ci_iretR hQ hx hb hrt hlk dX0_labelOf_18 (Or.inr ⟨pt, hpt, rfl, hu, rfl⟩)
  · refine lv_iconst (v := (nI 0)) hx hb dX0_labelOf_8 (by decide +kernel) ?_
    refine lv_goto (tgt := 18) hx hb dX0_labelOf_9 (by decide) ?_
    exact ci_iretR hQ hx hb hrt hlk dX0_labelOf_18 (Or.inl ⟨c5, rfl⟩)

/-- closestTo(point, best) -/
abbrev rm_X0_closestTo : Room := { frames := 4, cells := 0, slots := 0, locals := 107 }
set_option maxHeartbeats 8000000 in
set_option maxRecDepth 100000 in
theorem met_X0_closestTo (l : Launch) (D : va_G) (g : Nat → Nat) (d : Nat → ClassId) (hg : xN 7 g) (u : Nat → Bool) (px py : Nat → Nat) (lb : Nat → Int32) (n : Nat) (k : Nat → Nat) (le mo x0 x1 y0 y1 fo : Nat) (ins : Nat → Nat) (pt bs : Nat) (hI : Inv u px py n k) (hpt : pt < 40) (hbs : bs ≤ 7938) : Met l yX0_closestTo (ws_ yX0_closestTo cX0_closestTo 6 (some .int)) rm_X0_closestTo (ci_R D (wX g d u px py lb n k le mo x0 x1 y0 y1 fo ins) (tX d) [.ref (g 0), .int (nI pt), .int (nI bs)]) (va_Qi (fun (r : Int32) (z : BX) => ∃ b, r = nI b ∧ b ≤ bs ∧ (b = bs ∨ ∃ i, i < 40 ∧ i ≠ pt ∧ u i = true ∧ b = ds (px pt) (py pt) (px i) (py i)) ∧ ∀ i, i < 40 → u i = true → i ≠ pt → b ≤ ds (px pt) (py pt) (px i) (py i)) (fun z t => va_P D vwCl (wZ g d u px py lb n k z) t.heap) (xA 7 g)) 0 0 (xA 7 g) := by
  refine ci_of (by decide) (Nat.le_of_ble_eq_true rfl) ?_
  intro p e s m args below meth c Q0 hx hb hrt hml hown hts hlk hmn hQ hP hK ls hl
  have hS : va_S (xA 7 g) s.heap s.heap [] := va_S.rf
  have hown : s.vm.findClass RX0 = some m.cls := hown
  have hl : lv_has ls 6 [(0, .ref (g 0)), (1, .int (nI pt)), (2, .int (nI bs))] := hl
  obtain ⟨hpx, hpy⟩ := hI.1 pt hpt
  refine lv_aload_n hx hb dX0_closestTo_0 rfl (lv_at hl 0 rfl) ?_
  refine lv_aload_n hx hb dX0_closestTo_1 rfl (lv_at hl 0 rfl) ?_
  refine cx_get 1 hx hb hts hown hK hP (by decide) (hts _ q34) rfl dX0_closestTo_2 ?_
  refine lv_iload_n hx hb dX0_closestTo_5 rfl (lv_at hl 1 rfl) ?_
  refine ci_iald hx hb hK hP 2 1 rfl rfl (by omega) (by decide) dX0_closestTo_6 ?_
  refine lv_aload_n hx hb dX0_closestTo_7 rfl (lv_at hl 0 rfl) ?_
  refine cx_get 2 hx hb hts hown hK hP (by decide) (hts _ q35) rfl dX0_closestTo_8 ?_
  refine lv_iload_n hx hb dX0_closestTo_11 rfl (lv_at hl 1 rfl) ?_
  refine ci_iald hx hb hK hP 3 2 rfl rfl (by omega) (by decide) dX0_closestTo_12 ?_
  refine lv_iload_n hx hb dX0_closestTo_13 rfl (lv_at hl 2 rfl) ?_
  refine va_callv (va_runV (As := [.int (nI (px pt)), .int (nI (py pt)), .int (nI bs)]) (rest := []) ⟨hx, hb, hml, hown, hts⟩ (met_X0_walkNear l D g d hg u px py lb n k le mo x0 x1 y0 y1 fo ins (px pt) (py pt) bs hI hpx hpy (by omega)) (cwV 3 hts (lw_V q159 q161 qs11 q23 q162) rfl rfl rfl (by decide +kernel) ⟨Nat.le_of_ble_eq_true rfl, Nat.le_of_ble_eq_true rfl⟩) (ci_pre hK hP (ci := 0) (q0 := 0) rfl rfl) rfl rfl hl.1 rfl (lv_room (Nat.le_of_ble_eq_true rfl)) dX0_closestTo_14 ⟨Nat.le_of_ble_eq_true rfl, Nat.le_of_ble_eq_true rfl⟩) hS (fun q _ h => h) (fun q h => h) (fun zz tt H1 locs ht hvm hr hB hz1 hk1 hS => ?_)
  obtain ⟨le1, mo1, xx0, xx1, yy0, yy1, fo1, ins1⟩ := zz
  have hE := hr
  clear hr
  have hE : En fo1 ins1 (nrP u px py (px pt) (py pt) bs) := hE
  have hP : va_P D vwCl (wX g d u px py lb n k le1 mo1 xx0 xx1 yy0 yy1 fo1 ins1) H1 := by rw [← ht]; exact hB
  clear hB hk1 hz1 ht hvm tt
  generalize H1 = H at hP hS ⊢
  refine lv_iload_n hx hb dX0_closestTo_17 rfl (lv_at hl 2 rfl) ?_
  refine lv_istore_n (lv' := [(3, .int (nI bs)), (0, .ref (g 0)), (1, .int (nI pt)), (2, .int (nI bs))]) hx hb dX0_closestTo_18 rfl hl (by decide) rfl (fun ls hl => ?_)
  refine lv_iconst (v := (nI 0)) hx hb dX0_closestTo_19 (by decide +kernel) ?_
  refine lv_istore (lv' := [(4, .int (nI 0)), (3, .int (nI bs)), (0, .ref (g 0)), (1, .int (nI pt)), (2, .int (nI bs))]) hx hb dX0_closestTo_20 hl (by decide) rfl (fun ls hl => ?_)
  have lp : ∀ (f : Nat) (i b : Nat), (fo1 - i < f) → (i ≤ fo1) → (b ≤ bs) → (b = bs ∨ ∃ i, i < 40 ∧ i ≠ pt ∧ u i = true ∧ b = ds (px pt) (py pt) (px i) (py i)) → (∀ j, j < i → ins1 j ≠ pt → b ≤ ds (px pt) (py pt) (px (ins1 j)) (py (ins1 j))) → ∀ (H : Heap) (locs : List Loc), va_P D vwCl (wX g d u px py lb n k le1 mo1 xx0 xx1 yy0 yy1 fo1 ins1) H → va_S (xA 7 g) s.heap H locs → ∀ ls : Array Slot, lv_has ls 6 [(0, .ref (g 0)), (1, .int (nI pt)), (3, .int (nI b)), (4, .int (nI i))] → W p l e rm_X0_closestTo s m args below meth c H locs 0 0 Q0 (F0 m 22 ls []) := by
    intro f
    induction f with
    | zero => intro i b hf; exact absurd hf (Nat.not_lt_zero _)
    | succ f ih =>
      intro i b hf hif hb1 hb2 hb3 H locs hP hS ls hl
      have hfo : fo1 ≤ 40 := by rw [En_cnt fo1 hE]; exact cnt_le _ 40
      refine lv_iload hx hb dX0_closestTo_22 (lv_at hl 3 rfl) ?_
      refine lv_aload_n hx hb dX0_closestTo_24 rfl (lv_at hl 0 rfl) ?_
      refine cx_get 12 hx hb hts hown hK hP (by decide) (hts _ q45) rfl dX0_closestTo_25 ?_
      refine ci_icmp_ge (tgt := 82) hx hb dX0_closestTo_28 (by decide) (by omega) (by omega) (fun c28 => ?_) (fun c28 => ?_)
      · refine lv_iload_n hx hb dX0_closestTo_82 rfl (lv_at hl 2 rfl) ?_
        exact ci_iretW hQ hx hb hrt hlk hS dX0_closestTo_83 (le1, mo1, xx0, xx1, yy0, yy1, fo1, ins1) ⟨b, rfl, hb1, hb2, fun z hz uz hne => by rcases Nat.lt_or_ge bs (ds (px pt) (py pt) (px z) (py z)) with q | q; omega; (obtain ⟨j, hj, e⟩ := (hE.2 z).mpr ⟨hz, nrP_iff.mpr ⟨uz, q⟩⟩); have := hb3 j (by omega) (by rw [e]; exact hne); rw [e] at this; exact this⟩ hP
      · obtain ⟨hw1, hw2⟩ := En_at hE c28
        have hdl := ds_le hpx hpy (hI.1 _ hw1).1 (hI.1 _ hw1).2
        refine lv_aload_n hx hb dX0_closestTo_31 rfl (lv_at hl 0 rfl) ?_
        refine lv_aload_n hx hb dX0_closestTo_32 rfl (lv_at hl 0 rfl) ?_
        refine cx_get 1 hx hb hts hown hK hP (by decide) (hts _ q34) rfl dX0_closestTo_33 ?_
        refine lv_iload_n hx hb dX0_closestTo_36 rfl (lv_at hl 1 rfl) ?_
        refine ci_iald hx hb hK hP 2 1 rfl rfl (by omega) (by decide) dX0_closestTo_37 ?_
        refine lv_aload_n hx hb dX0_closestTo_38 rfl (lv_at hl 0 rfl) ?_
        refine cx_get 2 hx hb hts hown hK hP (by decide) (hts _ q35) rfl dX0_closestTo_39 ?_
        refine lv_iload_n hx hb dX0_closestTo_42 rfl (lv_at hl 1 rfl) ?_
        refine ci_iald hx hb hK hP 3 2 rfl rfl (by omega) (by decide) dX0_closestTo_43 ?_
        refine lv_aload_n hx hb dX0_closestTo_44 rfl (lv_at hl 0 rfl) ?_
        refine cx_get 13 hx hb hts hown hK hP (by decide) (hts _ q46) rfl dX0_closestTo_45 ?_
        refine lv_iload hx hb dX0_closestTo_48 (lv_at hl 3 rfl) ?_
        refine ci_iald hx hb hK hP 6 5 rfl rfl (by omega) (by decide) dX0_closestTo_50 ?_
        refine vp_callSi (W.runV (As := [.int (nI (px pt)), .int (nI (py pt)), .int (nI (ins1 i))]) (rest := []) ⟨hx, hb, hml, hown, hts⟩ (met_X0_distanceTo l D g d u px py lb n k le1 mo1 xx0 xx1 yy0 yy1 fo1 ins1 (px pt) (py pt) (ins1 i) hw1) (cwV 3 hts (lw_V q169 q171 qs12 q23 q172) rfl rfl rfl (by decide +kernel) ⟨Nat.le_of_ble_eq_true rfl, Nat.le_of_ble_eq_true rfl⟩) (ci_pre hK hP (ci := 0) (q0 := 0) rfl rfl) rfl rfl hl.1 rfl (lv_room (Nat.le_of_ble_eq_true rfl)) dX0_closestTo_51 ⟨Nat.le_of_ble_eq_true rfl, Nat.le_of_ble_eq_true rfl⟩) (fun r hr => ?_)
        subst hr
        refine lv_istore (lv' := [(5, .int (nI (ds (px pt) (py pt) (px (ins1 i)) (py (ins1 i))))), (0, .ref (g 0)), (1, .int (nI pt)), (3, .int (nI b)), (4, .int (nI i))]) hx hb dX0_closestTo_54 hl (by decide) rfl (fun ls hl => ?_)
        refine lv_aload_n hx hb dX0_closestTo_56 rfl (lv_at hl 1 rfl) ?_
        refine cx_get 13 hx hb hts hown hK hP (by decide) (hts _ q46) rfl dX0_closestTo_57 ?_
        refine lv_iload hx hb dX0_closestTo_60 (lv_at hl 4 rfl) ?_
        refine ci_iald hx hb hK hP 6 5 rfl rfl (by omega) (by decide) dX0_closestTo_62 ?_
        refine lv_iload_n hx hb dX0_closestTo_63 rfl (lv_at hl 2 rfl) ?_
        refine ci_icmp_eq (tgt := 76) hx hb dX0_closestTo_64 (by decide) (by omega) (by omega) (fun c64 => ?_) (fun c64 => ?_)
        · refine lv_iinc (v := (nI (i + 1))) (lv' := [(4, .int (nI (i + 1))), (5, .int (nI (ds (px pt) (py pt) (px (ins1 i)) (py (ins1 i))))), (0, .ref (g 0)), (1, .int (nI pt)), (3, .int (nI b))]) hx hb dX0_closestTo_76 hl (k := 4) rfl (ci_inc _) (by decide) rfl (fun ls hl => ?_)
          refine lv_goto (tgt := 22) hx hb dX0_closestTo_79 (by decide) ?_
          exact ih (i + 1) b (by clear hb2; omega) (by clear hb2; omega) hb1 hb2 (fun j hj hne => by rcases Nat.lt_or_ge j i with q | q; exact hb3 j q hne; (obtain rfl : j = i := by clear hb2; omega); first | exact absurd c64 hne | exact c70) H locs hP hS ls (lv_sub hl [2, 3, 4, 0] rfl)
        · refine lv_iload hx hb dX0_closestTo_67 (lv_at hl 0 rfl) ?_
          refine lv_iload_n hx hb dX0_closestTo_69 rfl (lv_at hl 3 rfl) ?_
          refine ci_icmp_ge (tgt := 76) hx hb dX0_closestTo_70 (by decide) (by omega) (by omega) (fun c70 => ?_) (fun c70 => ?_)
          · refine lv_iinc (v := (nI (i + 1))) (lv' := [(4, .int (nI (i + 1))), (5, .int (nI (ds (px pt) (py pt) (px (ins1 i)) (py (ins1 i))))), (0, .ref (g 0)), (1, .int (nI pt)), (3, .int (nI b))]) hx hb dX0_closestTo_76 hl (k := 4) rfl (ci_inc _) (by decide) rfl (fun ls hl => ?_)
            refine lv_goto (tgt := 22) hx hb dX0_closestTo_79 (by decide) ?_
            exact ih (i + 1) b (by clear hb2; omega) (by clear hb2; omega) hb1 hb2 (fun j hj hne => by rcases Nat.lt_or_ge j i with q | q; exact hb3 j q hne; (obtain rfl : j = i := by clear hb2; omega); first | exact absurd c64 hne | exact c70) H locs hP hS ls (lv_sub hl [2, 3, 4, 0] rfl)
          · refine lv_iload hx hb dX0_closestTo_73 (lv_at hl 0 rfl) ?_
            refine lv_istore_n (lv' := [(3, .int (nI (ds (px pt) (py pt) (px (ins1 i)) (py (ins1 i))))), (5, .int (nI (ds (px pt) (py pt) (px (ins1 i)) (py (ins1 i))))), (0, .ref (g 0)), (1, .int (nI pt)), (4, .int (nI i))]) hx hb dX0_closestTo_75 rfl hl (by decide) rfl (fun ls hl => ?_)
            refine lv_iinc (v := (nI (i + 1))) (lv' := [(4, .int (nI (i + 1))), (3, .int (nI (ds (px pt) (py pt) (px (ins1 i)) (py (ins1 i))))), (5, .int (nI (ds (px pt) (py pt) (px (ins1 i)) (py (ins1 i))))), (0, .ref (g 0)), (1, .int (nI pt))]) hx hb dX0_closestTo_76 hl (k := 4) rfl (ci_inc _) (by decide) rfl (fun ls hl => ?_)
            refine lv_goto (tgt := 22) hx hb dX0_closestTo_79 (by decide) ?_
            exact ih (i + 1) _ (by clear hb2; omega) (by clear hb2; omega) (by clear hb2; omega) (Or.inr ⟨ins1 i, hw1, c64, (nrP_iff.mp hw2).1, rfl⟩) (fun j hj hne => by rcases Nat.lt_or_ge j i with q | q; exact Nat.le_trans (Nat.le_of_lt c70) (hb3 j q hne); (obtain rfl : j = i := by clear hb2; omega); exact Nat.le_refl _) H locs hP hS ls (lv_sub hl [3, 4, 1, 0] rfl)
  exact lp (fo1 + 1) 0 bs (by omega) (Nat.zero_le _) (Nat.le_refl _) (Or.inl rfl) (fun j hj => absurd hj (Nat.not_lt_zero j)) _ _ hP hS ls (lv_sub hl [2, 3, 1, 0] rfl)

/-- closest() -/
abbrev rm_X0_closest : Room := { frames := 5, cells := 0, slots := 0, locals := 132 }
set_option maxHeartbeats 8000000 in
set_option maxRecDepth 100000 in
theorem met_X0_closest (l : Launch) (D : va_G) (g : Nat → Nat) (d : Nat → ClassId) (hg : xN 7 g) (u : Nat → Bool) (px py : Nat → Nat) (lb : Nat → Int32) (n : Nat) (k : Nat → Nat) (le mo x0 x1 y0 y1 fo : Nat) (ins : Nat → Nat)  (hI : Inv u px py n k) : Met l yX0_closest (ws_ yX0_closest cX0_closest 3 (some .int)) rm_X0_closest (ci_R D (wX g d u px py lb n k le mo x0 x1 y0 y1 fo ins) (tX d) [.ref (g 0)]) (va_Qi (fun (r : Int32) (z : BX) => Cls u px py r) (fun z t => va_P D vwCl (wZ g d u px py lb n k z) t.heap) (xA 7 g)) 0 0 (xA 7 g) := by
  refine ci_of (by decide) (Nat.le_of_ble_eq_true rfl) ?_
  intro p e s m args below meth c Q0 hx hb hrt hml hown hts hlk hmn hQ hP hK ls hl
  have hS : va_S (xA 7 g) s.heap s.heap [] := va_S.rf
  have hown : s.vm.findClass RX0 = some m.cls := hown
  have hl : lv_has ls 3 [(0, .ref (g 0))] := hl
  have hn40 := Inv_n hI
  refine lv_aload_n hx hb dX0_closest_0 rfl (lv_at hl 0 rfl) ?_
  refine cx_get 4 hx hb hts hown hK hP (by decide) (hts _ q37) rfl dX0_closest_1 ?_
  refine lv_iconst (v := (nI 2)) hx hb dX0_closest_4 (by decide +kernel) ?_
  refine ci_icmp_ge (tgt := 11) hx hb dX0_closest_5 (by decide) (by omega) (by omega) (fun c5 => ?_) (fun c5 => ?_)
  · refine lv_sipush (v := (nI 7938)) hx hb dX0_closest_11 (by decide +kernel) ?_
    refine lv_istore_n (lv' := [(1, .int (nI 7938)), (0, .ref (g 0))]) hx hb dX0_closest_14 rfl hl (by decide) rfl (fun ls hl => ?_)
    refine lv_iconst (v := (nI 0)) hx hb dX0_closest_15 (by decide +kernel) ?_
    refine lv_istore_n (lv' := [(2, .int (nI 0)), (1, .int (nI 7938)), (0, .ref (g 0))]) hx hb dX0_closest_16 rfl hl (by decide) rfl (fun ls hl => ?_)
    have lp : ∀ (f : Nat) (i b le mo x0 x1 y0 y1 fo : Nat) (ins : Nat → Nat), (40 - i < f) → (i ≤ 40) → (b ≤ 7938) → (b = 7938 ∨ ∃ i j, i < 40 ∧ j < 40 ∧ i ≠ j ∧ u i = true ∧ u j = true ∧ b = ds (px i) (py i) (px j) (py j)) → (∀ t, t < i → u t = true → ∀ j, j < 40 → u j = true → j ≠ t → b ≤ ds (px t) (py t) (px j) (py j)) → ∀ (H : Heap) (locs : List Loc), va_P D vwCl (wX g d u px py lb n k le mo x0 x1 y0 y1 fo ins) H → va_S (xA 7 g) s.heap H locs → ∀ ls : Array Slot, lv_has ls 3 [(0, .ref (g 0)), (1, .int (nI b)), (2, .int (nI i))] → W p l e rm_X0_closest s m args below meth c H locs 0 0 Q0 (F0 m 17 ls []) := by
      intro f
      induction f with
      | zero => intro i b le mo x0 x1 y0 y1 fo ins hf; exact absurd hf (Nat.not_lt_zero _)
      | succ f ih =>
        intro i b le mo x0 x1 y0 y1 fo ins hf hi hb1 hb2 hb3 H locs hP hS ls hl
        refine lv_iload_n hx hb dX0_closest_17 rfl (lv_at hl 2 rfl) ?_
        refine lv_bipush (v := (nI 40)) hx hb dX0_closest_18 (by decide +kernel) ?_
        refine ci_icmp_ge (tgt := 45) hx hb dX0_closest_20 (by decide) (by omega) (by omega) (fun c20 => ?_) (fun c20 => ?_)
        · refine lv_iload_n hx hb dX0_closest_45 rfl (lv_at hl 1 rfl) ?_
          exact ci_iretW hQ hx hb hrt hlk hS dX0_closest_46 (le, mo, x0, x1, y0, y1, fo, ins) (Cls_end hI.2.1 c5 hI.1 hb1 hb2 (fun t ht ut j hj uj hne => hb3 t (by omega) ut j hj uj hne)) hP
        · refine lv_aload_n hx hb dX0_closest_23 rfl (lv_at hl 0 rfl) ?_
          refine cx_get 0 hx hb hts hown hK hP (by decide) (hts _ q33) rfl dX0_closest_24 ?_
          refine lv_iload_n hx hb dX0_closest_27 rfl (lv_at hl 2 rfl) ?_
          refine ci_zald hx hb hK hP 1 0 rfl rfl (by omega) (by decide) dX0_closest_28 ?_
          refine ci_ifb_eq (tgt := 39) hx hb dX0_closest_29 (by decide) (fun c29 => ?_) (fun c29 => ?_)
          · refine lv_iinc (v := (nI (i + 1))) (lv' := [(2, .int (nI (i + 1))), (0, .ref (g 0)), (1, .int (nI b))]) hx hb dX0_closest_39 hl (k := 2) rfl (ci_inc _) (by decide) rfl (fun ls hl => ?_)
            refine lv_goto (tgt := 17) hx hb dX0_closest_42 (by decide) ?_
            exact ih (i + 1) b _ _ _ _ _ _ _ _ (by clear hb2; omega) (by clear hb2; omega) hb1 hb2 (fun t ht ut => by rcases Nat.lt_or_ge t i with q | q; exact hb3 t q ut; (obtain rfl : t = i := by clear hb2; omega); rw [c29] at ut; cases ut) H locs hP hS ls (lv_sub hl [1, 2, 0] rfl)
          · refine lv_aload_n hx hb dX0_closest_32 rfl (lv_at hl 0 rfl) ?_
            refine lv_iload_n hx hb dX0_closest_33 rfl (lv_at hl 2 rfl) ?_
            refine lv_iload_n hx hb dX0_closest_34 rfl (lv_at hl 1 rfl) ?_
            refine va_calli (va_runV (As := [.int (nI i), .int (nI b)]) (rest := []) ⟨hx, hb, hml, hown, hts⟩ (met_X0_closestTo l D g d hg u px py lb n k le mo x0 x1 y0 y1 fo ins i b hI c20 hb1) (cwV 2 hts (lw_V q201 q203 qs15 q23 q204) rfl rfl rfl (by decide +kernel) ⟨Nat.le_of_ble_eq_true rfl, Nat.le_of_ble_eq_true rfl⟩) (ci_pre hK hP (ci := 0) (q0 := 0) rfl rfl) rfl rfl hl.1 rfl (lv_room (Nat.le_of_ble_eq_true rfl)) dX0_closest_35 ⟨Nat.le_of_ble_eq_true rfl, Nat.le_of_ble_eq_true rfl⟩) hS (fun q _ h => h) (fun q h => h) (fun r zz tt H1 locs ht hvm hr hB hz1 hk1 hS => ?_)
            obtain ⟨le1, mo1, xx0, xx1, yy0, yy1, fo1, ins1⟩ := zz
            obtain ⟨b1, rfl, hc1, hc2, hc3⟩ := hr
            have hP : va_P D vwCl (wX g d u px py lb n k le1 mo1 xx0 xx1 yy0 yy1 fo1 ins1) H1 := by rw [← ht]; exact hB
            clear hB hk1 hz1 ht hvm tt
            generalize H1 = H at hP hS ⊢
            refine lv_istore_n (lv' := [(1, .int (nI b1)), (0, .ref (g 0)), (2, .int (nI i))]) hx hb dX0_closest_38 rfl hl (by decide) rfl (fun ls hl => ?_)
            refine lv_iinc (v := (nI (i + 1))) (lv' := [(2, .int (nI (i + 1))), (1, .int (nI b1)), (0, .ref (g 0))]) hx hb dX0_closest_39 hl (k := 2) rfl (ci_inc _) (by decide) rfl (fun ls hl => ?_)
            refine lv_goto (tgt := 17) hx hb dX0_closest_42 (by decide) ?_
            exact ih (i + 1) b1 _ _ _ _ _ _ _ _ (by clear hb2 hc2; omega) (by clear hb2 hc2; omega) (by clear hb2 hc2; omega) (by rcases hc2 with q | ⟨j, j1, j2, j3, j4⟩; (rw [q]; exact hb2); exact Or.inr ⟨i, j, c20, j1, Ne.symm j2, c29, j3, j4⟩) (fun t ht ut j hj uj hne => by rcases Nat.lt_or_ge t i with q | q; exact Nat.le_trans hc1 (hb3 t q ut j hj uj hne); (obtain rfl : t = i := by clear hb2; omega); exact hc3 j hj uj hne) H locs hP hS ls (lv_sub hl [2, 1, 0] rfl)
    exact lp 41 0 7938 _ _ _ _ _ _ _ _ (by omega) (by omega) (Nat.le_refl _) (Or.inl rfl) (fun t ht => absurd ht (Nat.not_lt_zero t)) _ _ hP hS ls (lv_sub hl [2, 1, 0] rfl)
  · refine lv_bipush (v := (-3)) hx hb dX0_closest_8 (by decide +kernel) ?_
    exact ci_iretW hQ hx hb hrt hlk hS dX0_closest_10 (le, mo, x0, x1, y0, y1, fo, ins) (Cls_few hI.2.1 c5) hP
end
section
/-! the model's words -/
def mx (pl : Nat → Nat) : Nat → Nat := fun i => pl i % 64
def my (pl : Nat → Nat) : Nat → Nat := fun i => pl i / 64
def btw (v a b : Nat) : Bool := decide ((a ≤ v ∧ v ≤ b) ∨ (b ≤ v ∧ v ≤ a))
theorem btw_t {v a b : Nat} (h : (a ≤ v ∧ v ≤ b) ∨ (b ≤ v ∧ v ≤ a)) : btw v a b = true := decide_eq_true h
theorem btw_f {v a b : Nat} (h : ¬ ((a ≤ v ∧ v ≤ b) ∨ (b ≤ v ∧ v ≤ a))) : btw v a b = false := decide_eq_false h
theorem btw_iff {v a b : Nat} : btw v a b = true ↔ (a ≤ v ∧ v ≤ b) ∨ (b ≤ v ∧ v ≤ a) := by
  unfold btw
  rw [decide_eq_true_eq]
theorem box_iff {u : Nat → Bool} {pl : Nat → Nat} {a b i : Nat} : bxP u (mx pl) (my pl) a b i = true ↔ u i = true ∧ btw (pl i % 64) (a % 64) (b % 64) = true ∧ btw (pl i / 64) (a / 64) (b / 64) = true := by
  unfold bxP mx my
  rw [Bool.and_eq_true, inb_iff, btw_iff, btw_iff]
  constructor
  · rintro ⟨h, h1⟩
    exact ⟨h, by omega, by omega⟩
  · rintro ⟨h, h1, h2⟩
    exact ⟨h, by omega, by omega, by omega, by omega⟩
theorem box_f {u : Nat → Bool} {pl : Nat → Nat} {a b i : Nat} (h : u i = false ∨ btw (pl i % 64) (a % 64) (b % 64) = false ∨ btw (pl i / 64) (a / 64) (b / 64) = false) : bxP u (mx pl) (my pl) a b i = false := by
  rw [Bool.eq_false_iff]
  intro q
  obtain ⟨h1, h2, h3⟩ := box_iff.mp q
  rcases h with e | e | e
  · rw [h1] at e; cases e
  · rw [h2] at e; cases e
  · rw [h3] at e; cases e
theorem cnt_s1 {P : Nat → Bool} {i : Nat} (h : P i = true) : cnt P (i + 1) = cnt P i + 1 := by
  show cnt P i + _ = _
  rw [if_pos h]
theorem cnt_s0 {P : Nat → Bool} {i : Nat} (h : P i = false) : cnt P (i + 1) = cnt P i := by
  show cnt P i + _ = _
  rw [if_neg (by rw [h]; decide), Nat.add_zero]
theorem sumP_s1 {P : Nat → Bool} {f : Nat → Int32} {i : Nat} (h : P i = true) : sumP P f (i + 1) = sumP P f i + f i := by
  show sumP P f i + _ = _
  rw [if_pos h]
theorem sumP_s0 {P : Nat → Bool} {f : Nat → Int32} {i : Nat} (h : P i = false) : sumP P f (i + 1) = sumP P f i := by
  show sumP P f i + _ = _
  rw [if_neg (by rw [h]; decide)]
  exact Int32.add_zero _
theorem cnt_none {P : Nat → Bool} {m : Nat} (h : cnt P m = 0) : ∀ i, i < m → P i = false := by
  intro i hi
  cases e : P i
  · rfl
  · have := cnt_one hi e
    omega
/-- what the model's clearing has done ahead of i -/
def Clr (u uu P : Nat → Bool) (i : Nat) : Prop := (∀ j, j < i → uu j = (u j && !(P j))) ∧ ∀ j, i ≤ j → uu j = u j
theorem Clr_0 {u P : Nat → Bool} : Clr u u P 0 := ⟨fun j h => absurd h (Nat.not_lt_zero j), fun _ _ => rfl⟩
theorem Clr_yes {u uu P : Nat → Bool} {i : Nat} (h : Clr u uu P i) (hp : P i = true) : Clr u (va_up uu i false) P (i + 1) := by
  refine ⟨fun j hj => ?_, fun j hj => by rw [va_up_ne uu _ (by omega)]; exact h.2 j (by omega)⟩
  by_cases e : j = i
  · rw [e, va_up_self, hp]
    cases u i <;> rfl
  · rw [va_up_ne uu _ e]
    exact h.1 j (by omega)
theorem Clr_no {u uu P : Nat → Bool} {i : Nat} (h : Clr u uu P i) (hp : P i = false) : Clr u uu P (i + 1) := by
  refine ⟨fun j hj => ?_, fun j hj => h.2 j (by omega)⟩
  rcases Nat.lt_or_ge j i with q | q
  · exact h.1 j q
  · rw [h.2 j q, show j = i by omega, hp]
    cases u i <;> rfl
theorem Clr_end {u uu P : Nat → Bool} {i : Nat} (h : Clr u uu P i) (hi : i = 40 ∨ cnt P 40 = 0) : ∀ j, j < 40 → uu j = (u j && !(P j)) := by
  intro j hj
  rcases Nat.lt_or_ge j i with q | q
  · exact h.1 j q
  · rcases hi with e | e
    · omega
    · rw [h.2 j q, cnt_none e j hj]
      cases u j <;> rfl
theorem bxP_u {u uu : Nat → Bool} {px py : Nat → Nat} {a b i : Nat} (h : uu i = u i) : bxP uu px py a b i = bxP u px py a b i := by
  unfold bxP
  rw [h]
def ltp (u : Nat → Bool) (t : Nat) : Prop := t / 40 < t % 40 ∧ u (t / 40) = true ∧ u (t % 40) = true
def Lst (u : Nat → Bool) (pl : Nat → Nat) (t : Nat) (r : Int32) : Prop :=
  (r = -3 ∧ ∀ q, q < t → ¬ ltp u q) ∨ ∃ b, b ≤ 7938 ∧ r = nI b ∧ (∃ i j, i < 40 ∧ j < 40 ∧ i ≠ j ∧ u i = true ∧ u j = true ∧ b = ds (mx pl i) (my pl i) (mx pl j) (my pl j)) ∧ ∀ q, q < t → ltp u q → b ≤ ds (mx pl (q / 40)) (my pl (q / 40)) (mx pl (q % 40)) (my pl (q % 40))
theorem Lst_end {u : Nat → Bool} {pl : Nat → Nat} {r : Int32} (h : Lst u pl 1600 r) : Cls u (mx pl) (my pl) r := by
  rcases h with ⟨e, h⟩ | ⟨b, hb, e, h1, h2⟩
  · refine Or.inl ⟨e, fun i j hi hj ui uj => ?_⟩
    rcases Nat.lt_trichotomy i j with q | q | q
    · exact absurd ⟨by omega, by rw [show (i * 40 + j) / 40 = i by omega]; exact ui, by rw [show (i * 40 + j) % 40 = j by omega]; exact uj⟩ (h (i * 40 + j) (by omega))
    · exact q
    · exact absurd ⟨by omega, by rw [show (j * 40 + i) / 40 = j by omega]; exact uj, by rw [show (j * 40 + i) % 40 = i by omega]; exact ui⟩ (h (j * 40 + i) (by omega))
  · refine Or.inr ⟨b, hb, e, h1, fun i j hi hj hne ui uj => ?_⟩
    rcases Nat.lt_or_ge i j with q | q
    · have := h2 (i * 40 + j) (by omega) ⟨by omega, by rw [show (i * 40 + j) / 40 = i by omega]; exact ui, by rw [show (i * 40 + j) % 40 = j by omega]; exact uj⟩
      rw [show (i * 40 + j) / 40 = i by omega, show (i * 40 + j) % 40 = j by omega] at this
      exact this
    · have := h2 (j * 40 + i) (by omega) ⟨by omega, by rw [show (j * 40 + i) / 40 = j by omega]; exact uj, by rw [show (j * 40 + i) % 40 = i by omega]; exact ui⟩
      rw [show (j * 40 + i) / 40 = j by omega, show (j * 40 + i) % 40 = i by omega, ds_comm] at this
      exact this
theorem Lst_no {u : Nat → Bool} {pl : Nat → Nat} {t : Nat} {r : Int32} (h : Lst u pl t r) (hn : ¬ ltp u t) : Lst u pl (t + 1) r := by
  rcases h with ⟨e, h⟩ | ⟨b, hb, e, h1, h2⟩
  · refine Or.inl ⟨e, fun q hq => ?_⟩
    rcases Nat.lt_or_ge q t with z | z
    · exact h q z
    · rw [show q = t by omega]; exact hn
  · refine Or.inr ⟨b, hb, e, h1, fun q hq hp => ?_⟩
    rcases Nat.lt_or_ge q t with z | z
    · exact h2 q z hp
    · rw [show q = t by omega] at hp
      exact absurd hp hn
theorem Lst_old {u : Nat → Bool} {pl : Nat → Nat} {t b : Nat} (h : Lst u pl t (nI b)) (hb : b < 2147483648) (hle : b ≤ ds (mx pl (t / 40)) (my pl (t / 40)) (mx pl (t % 40)) (my pl (t % 40))) : Lst u pl (t + 1) (nI b) := by
  rcases h with ⟨e, h⟩ | ⟨c, hc, e, h1, h2⟩
  · exact absurd (show nI b < 0 from by rw [e]; decide +kernel) (nI_pos hb)
  · have ec : b = c := (nI_eq hb (by omega)).mp e
    subst ec
    refine Or.inr ⟨b, hc, rfl, h1, fun q hq hp => ?_⟩
    rcases Nat.lt_or_ge q t with z | z
    · exact h2 q z hp
    · rw [show q = t by omega]; exact hle
theorem Lst_new {u : Nat → Bool} {pl : Nat → Nat} {t c : Nat} {r : Int32} (hpl : ∀ i, i < 40 → pl i < 4096) (ht : t < 1600) (h : Lst u pl t r) (hp : ltp u t) (hlt : ∀ b, b ≤ 7938 → r = nI b → c ≤ b) (hc : c = ds (mx pl (t / 40)) (my pl (t / 40)) (mx pl (t % 40)) (my pl (t % 40))) : Lst u pl (t + 1) (nI c) := by
  have p1 := hpl (t / 40) (by omega)
  have p2 := hpl (t % 40) (by omega)
  have hc9 : c ≤ 7938 := by rw [hc]; exact ds_le (show mx pl (t / 40) < 64 by unfold mx; omega) (show my pl (t / 40) < 64 by unfold my; omega) (show mx pl (t % 40) < 64 by unfold mx; omega) (show my pl (t % 40) < 64 by unfold my; omega)
  obtain ⟨hp1, hp2, hp3⟩ := hp
  refine Or.inr ⟨c, hc9, rfl, ⟨t / 40, t % 40, by omega, by omega, by omega, hp2, hp3, hc⟩, fun q hq hpq => ?_⟩
  rcases Nat.lt_or_ge q t with z | z
  · rcases h with ⟨e, h⟩ | ⟨b, hb, e, h1, h2⟩
    · exact absurd hpq (h q z)
    · exact Nat.le_trans (hlt b hb e) (h2 q z hpq)
  · rw [show q = t by omega, ← hc]
    exact Nat.le_refl c
end
section
theorem bnt {b : Bool} (h : (!b) = true) : b = false := by cases b <;> first | rfl | cases h
theorem bnf {b : Bool} (h : (!b) = false) : b = true := by cases b <;> first | rfl | cases h
/-- isPlace(p) -/
abbrev rm_X1_isPlace : Room := { frames := 0, cells := 0, slots := 0, locals := 0 }
set_option maxHeartbeats 8000000 in
set_option maxRecDepth 100000 in
theorem met_X1_isPlace (l : Launch) (D : va_G) (g : Nat → Nat) (d : Nat → ClassId) (u : Nat → Bool) (pl : Nat → Nat) (lb : Nat → Int32) (x : Int32)  : Met l yX1_isPlace (ws_ yX1_isPlace cX1_isPlace 2 (some .boolean)) rm_X1_isPlace (ci_R D (wM g d u pl lb) (tM d) [.ref (g 0), .int x]) (vp_Si (fun r => r = bI (!(badP x)))) 0 0 (fun _ => False) := by
  refine ci_of (by decide) (Nat.le_of_ble_eq_true rfl) ?_
  intro p e s m args below meth c Q0 hx hb hrt hml hown hts hlk hmn hQ hP hK ls hl
  have hown : s.vm.findClass RX1 = some m.cls := hown
  have hl : lv_has ls 2 [(0, .ref (g 0)), (1, .int x)] := hl
  refine lv_iload_n hx hb dX1_isPlace_0 rfl (lv_at hl 1 rfl) ?_
  refine lv_if_lt (tgt := 15) hx hb dX1_isPlace_1 (by decide) (fun c1 => ?_) (fun c1 => ?_)
  · refine lv_iconst (v := (nI 0)) hx hb dX1_isPlace_15 (by decide +kernel) ?_
    exact ci_zretR false rfl hQ hx hb hrt hlk dX1_isPlace_16 (by first | (rw [badP_1 c1]; rfl) | (rw [badP_2 c8]; rfl))
  · refine lv_iload_n hx hb dX1_isPlace_4 rfl (lv_at hl 1 rfl) ?_
    refine lv_sipush (v := (nI 4096)) hx hb dX1_isPlace_5 (by decide +kernel) ?_
    refine lv_icmp_ge (tgt := 15) hx hb dX1_isPlace_8 (by decide) (fun c8 => ?_) (fun c8 => ?_)
    · refine lv_iconst (v := (nI 0)) hx hb dX1_isPlace_15 (by decide +kernel) ?_
      exact ci_zretR false rfl hQ hx hb hrt hlk dX1_isPlace_16 (by first | (rw [badP_1 c1]; rfl) | (rw [badP_2 c8]; rfl))
    · refine lv_iconst (v := (nI 1)) hx hb dX1_isPlace_11 (by decide +kernel) ?_
      refine lv_goto (tgt := 16) hx hb dX1_isPlace_12 (by decide) ?_
      exact ci_zretR true rfl hQ hx hb hrt hlk dX1_isPlace_16 (by rw [badP_3 c1 c8]; rfl)

/-- isPoint(i) -/
abbrev rm_X1_isPoint : Room := { frames := 0, cells := 0, slots := 0, locals := 0 }
set_option maxHeartbeats 8000000 in
set_option maxRecDepth 100000 in
theorem met_X1_isPoint (l : Launch) (D : va_G) (g : Nat → Nat) (d : Nat → ClassId) (u : Nat → Bool) (pl : Nat → Nat) (lb : Nat → Int32) (x : Int32)  : Met l yX1_isPoint (ws_ yX1_isPoint cX1_isPoint 2 (some .boolean)) rm_X1_isPoint (ci_R D (wM g d u pl lb) (tM d) [.ref (g 0), .int x]) (vp_Si (fun r => r = bI (!(noP u x)))) 0 0 (fun _ => False) := by
  refine ci_of (by decide) (Nat.le_of_ble_eq_true rfl) ?_
  intro p e s m args below meth c Q0 hx hb hrt hml hown hts hlk hmn hQ hP hK ls hl
  have hown : s.vm.findClass RX1 = some m.cls := hown
  have hl : lv_has ls 2 [(0, .ref (g 0)), (1, .int x)] := hl
  refine lv_iload_n hx hb dX1_isPoint_0 rfl (lv_at hl 1 rfl) ?_
  refine lv_if_lt (tgt := 23) hx hb dX1_isPoint_1 (by decide) (fun c1 => ?_) (fun c1 => ?_)
  · refine lv_iconst (v := (nI 0)) hx hb dX1_isPoint_23 (by decide +kernel) ?_
    exact ci_zretR false rfl hQ hx hb hrt hlk dX1_isPoint_24 (by first | (rw [noP_1 c1]; rfl) | (rw [noP_2 c7]; rfl) | (rw [noP_n hpt, c16]; rfl))
  · refine lv_iload_n hx hb dX1_isPoint_4 rfl (lv_at hl 1 rfl) ?_
    refine lv_bipush (v := (nI 40)) hx hb dX1_isPoint_5 (by decide +kernel) ?_
    refine lv_icmp_ge (tgt := 23) hx hb dX1_isPoint_7 (by decide) (fun c7 => ?_) (fun c7 => ?_)
    · refine lv_iconst (v := (nI 0)) hx hb dX1_isPoint_23 (by decide +kernel) ?_
      exact ci_zretR false rfl hQ hx hb hrt hlk dX1_isPoint_24 (by first | (rw [noP_1 c1]; rfl) | (rw [noP_2 c7]; rfl) | (rw [noP_n hpt, c16]; rfl))
    · obtain ⟨pt, hpt, rfl⟩ := ix40 c1 c7
      refine lv_aload_n hx hb dX1_isPoint_10 rfl (lv_at hl 0 rfl) ?_
      refine cm_get 0 hx hb hts hown hK hP (by decide) (hts _ q215) rfl dX1_isPoint_11 ?_
      refine lv_iload_n hx hb dX1_isPoint_14 rfl (lv_at hl 1 rfl) ?_
      refine ci_zald hx hb hK hP 1 0 rfl rfl (by omega) (by decide) dX1_isPoint_15 ?_
      refine ci_ifb_eq (tgt := 23) hx hb dX1_isPoint_16 (by decide) (fun c16 => ?_) (fun c16 => ?_)
      · refine lv_iconst (v := (nI 0)) hx hb dX1_isPoint_23 (by decide +kernel) ?_
        exact ci_zretR false rfl hQ hx hb hrt hlk dX1_isPoint_24 (by first | (rw [noP_1 c1]; rfl) | (rw [noP_2 c7]; rfl) | (rw [noP_n hpt, c16]; rfl))
      · refine lv_iconst (v := (nI 1)) hx hb dX1_isPoint_19 (by decide +kernel) ?_
        refine lv_goto (tgt := 24) hx hb dX1_isPoint_20 (by decide) ?_
        exact ci_zretR true rfl hQ hx hb hrt hlk dX1_isPoint_24 (by rw [noP_n hpt, c16]; rfl)

/-- count() -/
abbrev rm_X1_count : Room := { frames := 0, cells := 0, slots := 0, locals := 0 }
set_option maxHeartbeats 8000000 in
set_option maxRecDepth 100000 in
theorem met_X1_count (l : Launch) (D : va_G) (g : Nat → Nat) (d : Nat → ClassId) (u : Nat → Bool) (pl : Nat → Nat) (lb : Nat → Int32)   : Met l yX1_count (ws_ yX1_count cX1_count 3 (some .int)) rm_X1_count (ci_R D (wM g d u pl lb) (tM d) [.ref (g 0)]) (vp_Si (fun r => r = nI (cnt u 40))) 0 0 (fun _ => False) := by
  refine ci_of (by decide) (Nat.le_of_ble_eq_true rfl) ?_
  intro p e s m args below meth c Q0 hx hb hrt hml hown hts hlk hmn hQ hP hK ls hl
  have hown : s.vm.findClass RX1 = some m.cls := hown
  have hl : lv_has ls 3 [(0, .ref (g 0))] := hl
  refine lv_iconst (v := (nI 0)) hx hb dX1_count_0 (by decide +kernel) ?_
  refine lv_istore_n (lv' := [(1, .int (nI 0)), (0, .ref (g 0))]) hx hb dX1_count_1 rfl hl (by decide) rfl (fun ls hl => ?_)
  refine lv_iconst (v := (nI 0)) hx hb dX1_count_2 (by decide +kernel) ?_
  refine lv_istore_n (lv' := [(2, .int (nI 0)), (1, .int (nI 0)), (0, .ref (g 0))]) hx hb dX1_count_3 rfl hl (by decide) rfl (fun ls hl => ?_)
  have lp : ∀ (f : Nat) (i c1n : Nat), (40 - i < f) → (i ≤ 40) → (c1n = cnt u i) → ∀ ls : Array Slot, lv_has ls 3 [(0, .ref (g 0)), (1, .int (nI c1n)), (2, .int (nI i))] → W p l e rm_X1_count s m args below meth c s.heap [] 0 0 Q0 (F0 m 4 ls []) := by
    intro f
    induction f with
    | zero => intro i c1n hf; exact absurd hf (Nat.not_lt_zero _)
    | succ f ih =>
      intro i c1n hf hi hc  ls hl
      refine lv_iload_n hx hb dX1_count_4 rfl (lv_at hl 2 rfl) ?_
      refine lv_bipush (v := (nI 40)) hx hb dX1_count_5 (by decide +kernel) ?_
      refine ci_icmp_ge (tgt := 28) hx hb dX1_count_7 (by decide) (by omega) (by omega) (fun c7 => ?_) (fun c7 => ?_)
      · refine lv_iload_n hx hb dX1_count_28 rfl (lv_at hl 1 rfl) ?_
        exact ci_iretR hQ hx hb hrt hlk dX1_count_29 (by rw [hc, show i = 40 by omega])
      · refine lv_aload_n hx hb dX1_count_10 rfl (lv_at hl 0 rfl) ?_
        refine cm_get 0 hx hb hts hown hK hP (by decide) (hts _ q215) rfl dX1_count_11 ?_
        refine lv_iload_n hx hb dX1_count_14 rfl (lv_at hl 2 rfl) ?_
        refine ci_zald hx hb hK hP 1 0 rfl rfl (by omega) (by decide) dX1_count_15 ?_
        refine ci_ifb_eq (tgt := 22) hx hb dX1_count_16 (by decide) (fun c16 => ?_) (fun c16 => ?_)
        · refine lv_iinc (v := (nI (i + 1))) (lv' := [(2, .int (nI (i + 1))), (0, .ref (g 0)), (1, .int (nI c1n))]) hx hb dX1_count_22 hl (k := 2) rfl (ci_inc _) (by decide) rfl (fun ls hl => ?_)
          refine lv_goto (tgt := 4) hx hb dX1_count_25 (by decide) ?_
          exact ih (i + 1) _ (by omega) (by omega) (by rw [cnt_s0 c16, hc]) ls (lv_sub hl [1, 2, 0] rfl)
        · refine lv_iinc (v := (nI (c1n + 1))) (lv' := [(1, .int (nI (c1n + 1))), (0, .ref (g 0)), (2, .int (nI i))]) hx hb dX1_count_19 hl (k := 1) rfl (ci_inc _) (by decide) rfl (fun ls hl => ?_)
          refine lv_iinc (v := (nI (i + 1))) (lv' := [(2, .int (nI (i + 1))), (1, .int (nI (c1n + 1))), (0, .ref (g 0))]) hx hb dX1_count_22 hl (k := 2) rfl (ci_inc _) (by decide) rfl (fun ls hl => ?_)
          refine lv_goto (tgt := 4) hx hb dX1_count_25 (by decide) ?_
          exact ih (i + 1) _ (by omega) (by omega) (by rw [cnt_s1 c16, hc]) ls (lv_sub hl [2, 1, 0] rfl)
  exact lp 41 0 0 (by omega) (by omega) rfl ls (lv_sub hl [2, 1, 0] rfl)

/-- add(place, label) -/
abbrev rm_X1_add : Room := { frames := 1, cells := 0, slots := 0, locals := 21 }
set_option maxHeartbeats 8000000 in
set_option maxRecDepth 100000 in
theorem met_X1_add (l : Launch) (D : va_G) (g : Nat → Nat) (d : Nat → ClassId) (hg : xN 4 g) (u : Nat → Bool) (pl : Nat → Nat) (lb : Nat → Int32) (x lab : Int32)  : Met l yX1_add (ws_ yX1_add cX1_add 4 (some .int)) rm_X1_add (ci_R D (wM g d u pl lb) (tM d) [.ref (g 0), .int x, .int lab]) (va_Qi (fun (r : Int32) (z : (Nat → Bool) × (Nat → Nat) × (Nat → Int32)) => (badP x = true ∧ r = -1 ∧ z = (u, pl, lb)) ∨ (badP x = false ∧ (∀ j, j < 40 → u j = true) ∧ r = -2 ∧ z = (u, pl, lb)) ∨ (∃ a q, a < 4096 ∧ x = nI a ∧ q < 40 ∧ u q = false ∧ (∀ j, j < q → u j = true) ∧ r = nI q ∧ z = (va_up u q true, va_up pl q a, va_up lb q lab))) (fun z t => va_P D vwCl (wM g d z.1 z.2.1 z.2.2) t.heap) (xA 4 g)) 0 0 (xA 4 g) := by
  refine ci_of (by decide) (Nat.le_of_ble_eq_true rfl) ?_
  intro p e s m args below meth c Q0 hx hb hrt hml hown hts hlk hmn hQ hP hK ls hl
  have hS : va_S (xA 4 g) s.heap s.heap [] := va_S.rf
  have hown : s.vm.findClass RX1 = some m.cls := hown
  have hl : lv_has ls 4 [(0, .ref (g 0)), (1, .int x), (2, .int lab)] := hl
  refine lv_aload_n hx hb dX1_add_0 rfl (lv_at hl 0 rfl) ?_
  refine lv_iload_n hx hb dX1_add_1 rfl (lv_at hl 1 rfl) ?_
  refine vp_callSi (W.runV (As := [.int x]) (rest := []) ⟨hx, hb, hml, hown, hts⟩ (met_X1_isPlace l D g d u pl lb _) (cwV 1 hts (lw_V q229 q231 qs16 q24 q232) rfl rfl rfl (by decide +kernel) ⟨Nat.le_of_ble_eq_true rfl, Nat.le_of_ble_eq_true rfl⟩) (ci_pre hK hP (ci := 1) (q0 := 0) rfl rfl) rfl rfl hl.1 rfl (lv_room (Nat.le_of_ble_eq_true rfl)) dX1_add_2 ⟨Nat.le_of_ble_eq_true rfl, Nat.le_of_ble_eq_true rfl⟩) (fun r hr => ?_)
  subst hr
  refine ci_ifb_ne (tgt := 10) hx hb dX1_add_5 (by decide) (fun c5 => ?_) (fun c5 => ?_)
  · have c5b := bnt c5
    obtain ⟨a, ha, rfl⟩ := badP_f c5b
    refine lv_iconst (v := (nI 0)) hx hb dX1_add_10 (by decide +kernel) ?_
    refine lv_istore_n (lv' := [(3, .int (nI 0)), (0, .ref (g 0)), (1, .int (nI a)), (2, .int lab)]) hx hb dX1_add_11 rfl hl (by decide) rfl (fun ls hl => ?_)
    have lp : ∀ (f : Nat) (q : Nat), (40 - q < f) → (q ≤ 40) → (∀ j, j < q → u j = true) → ∀ (H : Heap) (locs : List Loc), va_P D vwCl (wM g d u pl lb) H → va_S (xA 4 g) s.heap H locs → ∀ ls : Array Slot, lv_has ls 4 [(0, .ref (g 0)), (1, .int (nI a)), (2, .int lab), (3, .int (nI q))] → W p l e rm_X1_add s m args below meth c H locs 0 0 Q0 (F0 m 12 ls []) := by
      intro f
      induction f with
      | zero => intro q hf; exact absurd hf (Nat.not_lt_zero _)
      | succ f ih =>
        intro q hf hq hqu H locs hP hS ls hl
        refine lv_iload_n hx hb dX1_add_12 rfl (lv_at hl 3 rfl) ?_
        refine lv_bipush (v := (nI 40)) hx hb dX1_add_13 (by decide +kernel) ?_
        refine ci_icmp_ge (tgt := 56) hx hb dX1_add_15 (by decide) (by omega) (by omega) (fun c15 => ?_) (fun c15 => ?_)
        · refine lv_bipush (v := (-2)) hx hb dX1_add_56 (by decide +kernel) ?_
          exact ci_iretW hQ hx hb hrt hlk hS dX1_add_58 (u, pl, lb) (Or.inr (Or.inl ⟨badP_n ha, fun j hj => hqu j (by omega), rfl, rfl⟩)) hP
        · refine lv_aload_n hx hb dX1_add_18 rfl (lv_at hl 0 rfl) ?_
          refine cm_get 0 hx hb hts hown hK hP (by decide) (hts _ q215) rfl dX1_add_19 ?_
          refine lv_iload_n hx hb dX1_add_22 rfl (lv_at hl 3 rfl) ?_
          refine ci_zald hx hb hK hP 1 0 rfl rfl (by omega) (by decide) dX1_add_23 ?_
          refine ci_ifb_ne (tgt := 50) hx hb dX1_add_24 (by decide) (fun c24 => ?_) (fun c24 => ?_)
          · refine lv_iinc (v := (nI (q + 1))) (lv' := [(3, .int (nI (q + 1))), (0, .ref (g 0)), (1, .int (nI a)), (2, .int lab)]) hx hb dX1_add_50 hl (k := 3) rfl (ci_inc _) (by decide) rfl (fun ls hl => ?_)
            refine lv_goto (tgt := 12) hx hb dX1_add_53 (by decide) ?_
            exact ih (q + 1) (by omega) (by omega) (fun j hj => by rcases Nat.lt_or_ge j q with w | w; exact hqu j w; rw [show j = q by omega]; exact c24) H locs hP hS ls (lv_sub hl [1, 2, 3, 0] rfl)
          · refine lv_aload_n hx hb dX1_add_27 rfl (lv_at hl 0 rfl) ?_
            refine cm_get 0 hx hb hts hown hK hP (by decide) (hts _ q215) rfl dX1_add_28 ?_
            refine lv_iload_n hx hb dX1_add_31 rfl (lv_at hl 3 rfl) ?_
            refine lv_iconst (v := (nI 1)) hx hb dX1_add_32 (by decide +kernel) ?_
            refine ci_zast hx hb hK hP (wM_D hg) hS 1 0 true rfl rfl rfl (by omega) (by decide) dX1_add_33 (fun H locs hP hS => ?_)
            have hP : va_P D vwCl (wM g d (va_up u q true) pl lb) H := hP
            refine lv_aload_n hx hb dX1_add_34 rfl (lv_at hl 0 rfl) ?_
            refine cm_get 1 hx hb hts hown hK hP (by decide) (hts _ q216) rfl dX1_add_35 ?_
            refine lv_iload_n hx hb dX1_add_38 rfl (lv_at hl 3 rfl) ?_
            refine lv_iload_n hx hb dX1_add_39 rfl (lv_at hl 1 rfl) ?_
            refine ci_iast hx hb hK hP (wM_D hg) hS 2 1 rfl rfl (by omega) (by decide) dX1_add_40 (fun H locs hP hS => ?_)
            have hP : va_P D vwCl (wM g d (va_up u q true) (va_up pl q a) lb) H := hP
            refine lv_aload_n hx hb dX1_add_41 rfl (lv_at hl 0 rfl) ?_
            refine cm_get 2 hx hb hts hown hK hP (by decide) (hts _ q217) rfl dX1_add_42 ?_
            refine lv_iload_n hx hb dX1_add_45 rfl (lv_at hl 3 rfl) ?_
            refine lv_iload_n hx hb dX1_add_46 rfl (lv_at hl 2 rfl) ?_
            refine ci_rast hx hb hK hP (wM_D hg) hS 3 2 rfl rfl (by omega) (by decide) dX1_add_47 (fun H locs hP hS => ?_)
            have hP : va_P D vwCl (wM g d (va_up u q true) (va_up pl q a) (va_up lb q lab)) H := hP
            refine lv_iload_n hx hb dX1_add_48 rfl (lv_at hl 3 rfl) ?_
            exact ci_iretW hQ hx hb hrt hlk hS dX1_add_49 (va_up u q true, va_up pl q a, va_up lb q lab) (Or.inr (Or.inr ⟨a, q, ha, rfl, by omega, c24, hqu, rfl, rfl⟩)) hP
    exact lp 41 0 (by omega) (by omega) (fun j h => absurd h (Nat.not_lt_zero j)) _ _ hP hS ls (lv_sub hl [1, 2, 3, 0] rfl)
  · refine lv_iconst (v := (-1)) hx hb dX1_add_8 (by decide +kernel) ?_
    exact ci_iretW hQ hx hb hrt hlk hS dX1_add_9 (u, pl, lb) (Or.inl ⟨bnf c5, rfl, rfl⟩) hP

/-- remove(point) -/
abbrev rm_X1_remove : Room := { frames := 1, cells := 0, slots := 0, locals := 22 }
set_option maxHeartbeats 8000000 in
set_option maxRecDepth 100000 in
theorem met_X1_remove (l : Launch) (D : va_G) (g : Nat → Nat) (d : Nat → ClassId) (hg : xN 4 g) (u : Nat → Bool) (pl : Nat → Nat) (lb : Nat → Int32) (x : Int32)  : Met l yX1_remove (ws_ yX1_remove cX1_remove 2 (some .int)) rm_X1_remove (ci_R D (wM g d u pl lb) (tM d) [.ref (g 0), .int x]) (va_Qi (fun (r : Int32) (z : Nat → Bool) => (noP u x = true ∧ r = -3 ∧ z = u) ∨ (∃ pt, pt < 40 ∧ x = nI pt ∧ u pt = true ∧ z = va_up u pt false ∧ r = nI (cnt z 40))) (fun z t => va_P D vwCl (wM g d z pl lb) t.heap) (xA 4 g)) 0 0 (xA 4 g) := by
  refine ci_of (by decide) (Nat.le_of_ble_eq_true rfl) ?_
  intro p e s m args below meth c Q0 hx hb hrt hml hown hts hlk hmn hQ hP hK ls hl
  have hS : va_S (xA 4 g) s.heap s.heap [] := va_S.rf
  have hown : s.vm.findClass RX1 = some m.cls := hown
  have hl : lv_has ls 2 [(0, .ref (g 0)), (1, .int x)] := hl
  refine lv_aload_n hx hb dX1_remove_0 rfl (lv_at hl 0 rfl) ?_
  refine lv_iload_n hx hb dX1_remove_1 rfl (lv_at hl 1 rfl) ?_
  refine vp_callSi (W.runV (As := [.int x]) (rest := []) ⟨hx, hb, hml, hown, hts⟩ (met_X1_isPoint l D g d u pl lb _) (cwV 1 hts (lw_V q237 q239 qs17 q24 q240) rfl rfl rfl (by decide +kernel) ⟨Nat.le_of_ble_eq_true rfl, Nat.le_of_ble_eq_true rfl⟩) (ci_pre hK hP (ci := 1) (q0 := 0) rfl rfl) rfl rfl hl.1 rfl (lv_room (Nat.le_of_ble_eq_true rfl)) dX1_remove_2 ⟨Nat.le_of_ble_eq_true rfl, Nat.le_of_ble_eq_true rfl⟩) (fun r hr => ?_)
  subst hr
  refine ci_ifb_ne (tgt := 11) hx hb dX1_remove_5 (by decide) (fun c5 => ?_) (fun c5 => ?_)
  · have c5b := bnt c5
    obtain ⟨pt, hpt, rfl, hu⟩ := noP_f c5b
    refine lv_aload_n hx hb dX1_remove_11 rfl (lv_at hl 0 rfl) ?_
    refine cm_get 0 hx hb hts hown hK hP (by decide) (hts _ q215) rfl dX1_remove_12 ?_
    refine lv_iload_n hx hb dX1_remove_15 rfl (lv_at hl 1 rfl) ?_
    refine lv_iconst (v := (nI 0)) hx hb dX1_remove_16 (by decide +kernel) ?_
    refine ci_zast hx hb hK hP (wM_D hg) hS 1 0 false rfl rfl rfl (by omega) (by decide) dX1_remove_17 (fun H locs hP hS => ?_)
    have hP : va_P D vwCl (wM g d (va_up u pt false) pl lb) H := hP
    refine lv_aload_n hx hb dX1_remove_18 rfl (lv_at hl 0 rfl) ?_
    refine vp_callSi (W.runV (As := []) (rest := []) ⟨hx, hb, hml, hown, hts⟩ (met_X1_count l D g d (va_up u pt false) pl lb) (cwV 0 hts (lw_V q241 q242 q243 q24 q244) rfl rfl rfl (by decide +kernel) ⟨Nat.le_of_ble_eq_true rfl, Nat.le_of_ble_eq_true rfl⟩) (ci_pre hK hP (ci := 1) (q0 := 0) rfl rfl) rfl rfl hl.1 rfl (lv_room (Nat.le_of_ble_eq_true rfl)) dX1_remove_19 ⟨Nat.le_of_ble_eq_true rfl, Nat.le_of_ble_eq_true rfl⟩) (fun r hr => ?_)
    subst hr
    exact ci_iretW hQ hx hb hrt hlk hS dX1_remove_22 (va_up u pt false) (Or.inr ⟨pt, hpt, rfl, hu, rfl, rfl⟩) hP
  · refine lv_bipush (v := (-3)) hx hb dX1_remove_8 (by decide +kernel) ?_
    exact ci_iretW hQ hx hb hrt hlk hS dX1_remove_10 u (Or.inl ⟨bnf c5, rfl, rfl⟩) hP

/-- move(point, place) -/
abbrev rm_X1_move : Room := { frames := 1, cells := 0, slots := 0, locals := 21 }
set_option maxHeartbeats 8000000 in
set_option maxRecDepth 100000 in
theorem met_X1_move (l : Launch) (D : va_G) (g : Nat → Nat) (d : Nat → ClassId) (hg : xN 4 g) (u : Nat → Bool) (pl : Nat → Nat) (lb : Nat → Int32) (x y : Int32)  : Met l yX1_move (ws_ yX1_move cX1_move 4 (some .int)) rm_X1_move (ci_R D (wM g d u pl lb) (tM d) [.ref (g 0), .int x, .int y]) (va_Qi (fun (r : Int32) (z : Nat → Nat) => (noP u x = true ∧ r = -3 ∧ z = pl) ∨ (noP u x = false ∧ badP y = true ∧ r = -1 ∧ z = pl) ∨ (∃ pt a, pt < 40 ∧ x = nI pt ∧ u pt = true ∧ a < 4096 ∧ y = nI a ∧ r = nI (pl pt) ∧ z = va_up pl pt a)) (fun z t => va_P D vwCl (wM g d u z lb) t.heap) (xA 4 g)) 0 0 (xA 4 g) := by
  refine ci_of (by decide) (Nat.le_of_ble_eq_true rfl) ?_
  intro p e s m args below meth c Q0 hx hb hrt hml hown hts hlk hmn hQ hP hK ls hl
  have hS : va_S (xA 4 g) s.heap s.heap [] := va_S.rf
  have hown : s.vm.findClass RX1 = some m.cls := hown
  have hl : lv_has ls 4 [(0, .ref (g 0)), (1, .int x), (2, .int y)] := hl
  refine lv_aload_n hx hb dX1_move_0 rfl (lv_at hl 0 rfl) ?_
  refine lv_iload_n hx hb dX1_move_1 rfl (lv_at hl 1 rfl) ?_
  refine vp_callSi (W.runV (As := [.int x]) (rest := []) ⟨hx, hb, hml, hown, hts⟩ (met_X1_isPoint l D g d u pl lb _) (cwV 1 hts (lw_V q237 q239 qs17 q24 q240) rfl rfl rfl (by decide +kernel) ⟨Nat.le_of_ble_eq_true rfl, Nat.le_of_ble_eq_true rfl⟩) (ci_pre hK hP (ci := 1) (q0 := 0) rfl rfl) rfl rfl hl.1 rfl (lv_room (Nat.le_of_ble_eq_true rfl)) dX1_move_2 ⟨Nat.le_of_ble_eq_true rfl, Nat.le_of_ble_eq_true rfl⟩) (fun r hr => ?_)
  subst hr
  refine ci_ifb_ne (tgt := 11) hx hb dX1_move_5 (by decide) (fun c5 => ?_) (fun c5 => ?_)
  · have c5b := bnt c5
    obtain ⟨pt, hpt, rfl, hu⟩ := noP_f c5b
    refine lv_aload_n hx hb dX1_move_11 rfl (lv_at hl 0 rfl) ?_
    refine lv_iload_n hx hb dX1_move_12 rfl (lv_at hl 2 rfl) ?_
    refine vp_callSi (W.runV (As := [.int y]) (rest := []) ⟨hx, hb, hml, hown, hts⟩ (met_X1_isPlace l D g d u pl lb _) (cwV 1 hts (lw_V q229 q231 qs16 q24 q232) rfl rfl rfl (by decide +kernel) ⟨Nat.le_of_ble_eq_true rfl, Nat.le_of_ble_eq_true rfl⟩) (ci_pre hK hP (ci := 1) (q0 := 0) rfl rfl) rfl rfl hl.1 rfl (lv_room (Nat.le_of_ble_eq_true rfl)) dX1_move_13 ⟨Nat.le_of_ble_eq_true rfl, Nat.le_of_ble_eq_true rfl⟩) (fun r hr => ?_)
    subst hr
    refine ci_ifb_ne (tgt := 21) hx hb dX1_move_16 (by decide) (fun c16 => ?_) (fun c16 => ?_)
    · have c16b := bnt c16
      obtain ⟨a, ha, rfl⟩ := badP_f c16b
      refine lv_aload_n hx hb dX1_move_21 rfl (lv_at hl 0 rfl) ?_
      refine cm_get 1 hx hb hts hown hK hP (by decide) (hts _ q216) rfl dX1_move_22 ?_
      refine lv_iload_n hx hb dX1_move_25 rfl (lv_at hl 1 rfl) ?_
      refine ci_iald hx hb hK hP 2 1 rfl rfl (by omega) (by decide) dX1_move_26 ?_
      refine lv_istore_n (lv' := [(3, .int (nI (pl pt))), (0, .ref (g 0)), (1, .int (nI pt)), (2, .int (nI a))]) hx hb dX1_move_27 rfl hl (by decide) rfl (fun ls hl => ?_)
      refine lv_aload_n hx hb dX1_move_28 rfl (lv_at hl 1 rfl) ?_
      refine cm_get 1 hx hb hts hown hK hP (by decide) (hts _ q216) rfl dX1_move_29 ?_
      refine lv_iload_n hx hb dX1_move_32 rfl (lv_at hl 2 rfl) ?_
      refine lv_iload_n hx hb dX1_move_33 rfl (lv_at hl 3 rfl) ?_
      refine ci_iast hx hb hK hP (wM_D hg) hS 2 1 rfl rfl (by omega) (by decide) dX1_move_34 (fun H locs hP hS => ?_)
      have hP : va_P D vwCl (wM g d u (va_up pl pt a) lb) H := hP
      refine lv_iload_n hx hb dX1_move_35 rfl (lv_at hl 0 rfl) ?_
      exact ci_iretW hQ hx hb hrt hlk hS dX1_move_36 (va_up pl pt a) (Or.inr (Or.inr ⟨pt, a, hpt, rfl, hu, ha, rfl, rfl, rfl⟩)) hP
    · refine lv_iconst (v := (-1)) hx hb dX1_move_19 (by decide +kernel) ?_
      exact ci_iretW hQ hx hb hrt hlk hS dX1_move_20 pl (Or.inr (Or.inl ⟨by rw [noP_n hpt, hu]; rfl, bnf c16, rfl, rfl⟩)) hP
  · refine lv_bipush (v := (-3)) hx hb dX1_move_8 (by decide +kernel) ?_
    exact ci_iretW hQ hx hb hrt hlk hS dX1_move_10 pl (Or.inl ⟨bnf c5, rfl, rfl⟩) hP

/-- between(v, a, b) -/
abbrev rm_X1_between : Room := { frames := 0, cells := 0, slots := 0, locals := 0 }
set_option maxHeartbeats 8000000 in
set_option maxRecDepth 100000 in
theorem met_X1_between (l : Launch) (D : va_G) (g : Nat → Nat) (d : Nat → ClassId) (u : Nat → Bool) (pl : Nat → Nat) (lb : Nat → Int32) (v a b : Nat) (hv : v < 2147483648) (ha : a < 2147483648) (hb9 : b < 2147483648) : Met l yX1_between (ws_ yX1_between cX1_between 4 (some .boolean)) rm_X1_between (ci_R D (wM g d u pl lb) (tM d) [.ref (g 0), .int (nI v), .int (nI a), .int (nI b)]) (vp_Si (fun r => r = bI (btw v a b))) 0 0 (fun _ => False) := by
  refine ci_of (by decide) (Nat.le_of_ble_eq_true rfl) ?_
  intro p e s m args below meth c Q0 hx hb hrt hml hown hts hlk hmn hQ hP hK ls hl
  have hown : s.vm.findClass RX1 = some m.cls := hown
  have hl : lv_has ls 4 [(0, .ref (g 0)), (1, .int (nI v)), (2, .int (nI a)), (3, .int (nI b))] := hl
  refine lv_iload_n hx hb dX1_between_0 rfl (lv_at hl 1 rfl) ?_
  refine lv_iload_n hx hb dX1_between_1 rfl (lv_at hl 2 rfl) ?_
  refine ci_icmp_lt (tgt := 10) hx hb dX1_between_2 (by decide) (by omega) (by omega) (fun c2 => ?_) (fun c2 => ?_)
  · refine lv_iload_n hx hb dX1_between_10 rfl (lv_at hl 1 rfl) ?_
    refine lv_iload_n hx hb dX1_between_11 rfl (lv_at hl 3 rfl) ?_
    refine ci_icmp_lt (tgt := 24) hx hb dX1_between_12 (by decide) (by omega) (by omega) (fun c12 => ?_) (fun c12 => ?_)
    · refine lv_iconst (v := (nI 0)) hx hb dX1_between_24 (by decide +kernel) ?_
      exact ci_zretR false rfl hQ hx hb hrt hlk dX1_between_25 (congrArg bI (Eq.symm (btw_f (by omega))))
    · refine lv_iload_n hx hb dX1_between_15 rfl (lv_at hl 1 rfl) ?_
      refine lv_iload_n hx hb dX1_between_16 rfl (lv_at hl 2 rfl) ?_
      refine ci_icmp_gt (tgt := 24) hx hb dX1_between_17 (by decide) (by omega) (by omega) (fun c17 => ?_) (fun c17 => ?_)
      · refine lv_iconst (v := (nI 0)) hx hb dX1_between_24 (by decide +kernel) ?_
        exact ci_zretR false rfl hQ hx hb hrt hlk dX1_between_25 (congrArg bI (Eq.symm (btw_f (by omega))))
      · refine lv_iconst (v := (nI 1)) hx hb dX1_between_20 (by decide +kernel) ?_
        refine lv_goto (tgt := 25) hx hb dX1_between_21 (by decide) ?_
        exact ci_zretR true rfl hQ hx hb hrt hlk dX1_between_25 (congrArg bI (Eq.symm (btw_t (by omega))))
  · refine lv_iload_n hx hb dX1_between_5 rfl (lv_at hl 1 rfl) ?_
    refine lv_iload_n hx hb dX1_between_6 rfl (lv_at hl 3 rfl) ?_
    refine ci_icmp_le (tgt := 20) hx hb dX1_between_7 (by decide) (by omega) (by omega) (fun c7 => ?_) (fun c7 => ?_)
    · refine lv_iconst (v := (nI 1)) hx hb dX1_between_20 (by decide +kernel) ?_
      refine lv_goto (tgt := 25) hx hb dX1_between_21 (by decide) ?_
      exact ci_zretR true rfl hQ hx hb hrt hlk dX1_between_25 (congrArg bI (Eq.symm (btw_t (by omega))))
    · refine lv_iload_n hx hb dX1_between_10 rfl (lv_at hl 1 rfl) ?_
      refine lv_iload_n hx hb dX1_between_11 rfl (lv_at hl 3 rfl) ?_
      refine ci_icmp_lt (tgt := 24) hx hb dX1_between_12 (by decide) (by omega) (by omega) (fun c12 => ?_) (fun c12 => ?_)
      · refine lv_iconst (v := (nI 0)) hx hb dX1_between_24 (by decide +kernel) ?_
        exact ci_zretR false rfl hQ hx hb hrt hlk dX1_between_25 (congrArg bI (Eq.symm (btw_f (by omega))))
      · refine lv_iload_n hx hb dX1_between_15 rfl (lv_at hl 1 rfl) ?_
        refine lv_iload_n hx hb dX1_between_16 rfl (lv_at hl 2 rfl) ?_
        refine ci_icmp_gt (tgt := 24) hx hb dX1_between_17 (by decide) (by omega) (by omega) (fun c17 => ?_) (fun c17 => ?_)
        · refine lv_iconst (v := (nI 0)) hx hb dX1_between_24 (by decide +kernel) ?_
          exact ci_zretR false rfl hQ hx hb hrt hlk dX1_between_25 (congrArg bI (Eq.symm (btw_f (by omega))))
        · refine lv_iconst (v := (nI 1)) hx hb dX1_between_20 (by decide +kernel) ?_
          refine lv_goto (tgt := 25) hx hb dX1_between_21 (by decide) ?_
          exact ci_zretR true rfl hQ hx hb hrt hlk dX1_between_25 (congrArg bI (Eq.symm (btw_t (by omega))))

/-- inBox(i, a, b) -/
abbrev rm_X1_inBox : Room := { frames := 1, cells := 0, slots := 0, locals := 23 }
set_option maxHeartbeats 8000000 in
set_option maxRecDepth 100000 in
theorem met_X1_inBox (l : Launch) (D : va_G) (g : Nat → Nat) (d : Nat → ClassId) (u : Nat → Bool) (pl : Nat → Nat) (lb : Nat → Int32) (i a b : Nat) (hi : i < 40) (ha : a < 4096) (hb9 : b < 4096) (hpi : pl i < 4096) : Met l yX1_inBox (ws_ yX1_inBox cX1_inBox 4 (some .boolean)) rm_X1_inBox (ci_R D (wM g d u pl lb) (tM d) [.ref (g 0), .int (nI i), .int (nI a), .int (nI b)]) (vp_Si (fun r => r = bI (bxP u (mx pl) (my pl) a b i))) 0 0 (fun _ => False) := by
  refine ci_of (by decide) (Nat.le_of_ble_eq_true rfl) ?_
  intro p e s m args below meth c Q0 hx hb hrt hml hown hts hlk hmn hQ hP hK ls hl
  have hown : s.vm.findClass RX1 = some m.cls := hown
  have hl : lv_has ls 4 [(0, .ref (g 0)), (1, .int (nI i)), (2, .int (nI a)), (3, .int (nI b))] := hl
  refine lv_aload_n hx hb dX1_inBox_0 rfl (lv_at hl 0 rfl) ?_
  refine cm_get 0 hx hb hts hown hK hP (by decide) (hts _ q215) rfl dX1_inBox_1 ?_
  refine lv_iload_n hx hb dX1_inBox_4 rfl (lv_at hl 1 rfl) ?_
  refine ci_zald hx hb hK hP 1 0 rfl rfl (by omega) (by decide) dX1_inBox_5 ?_
  refine ci_ifb_eq (tgt := 61) hx hb dX1_inBox_6 (by decide) (fun c6 => ?_) (fun c6 => ?_)
  · refine lv_iconst (v := (nI 0)) hx hb dX1_inBox_61 (by decide +kernel) ?_
    exact ci_zretR false rfl hQ hx hb hrt hlk dX1_inBox_62 (congrArg bI (Eq.symm (box_f (by first | exact Or.inl c6 | exact Or.inr (Or.inl c30) | exact Or.inr (Or.inr c54)))))
  · refine lv_aload_n hx hb dX1_inBox_9 rfl (lv_at hl 0 rfl) ?_
    refine lv_aload_n hx hb dX1_inBox_10 rfl (lv_at hl 0 rfl) ?_
    refine cm_get 1 hx hb hts hown hK hP (by decide) (hts _ q216) rfl dX1_inBox_11 ?_
    refine lv_iload_n hx hb dX1_inBox_14 rfl (lv_at hl 1 rfl) ?_
    refine ci_iald hx hb hK hP 2 1 rfl rfl (by omega) (by decide) dX1_inBox_15 ?_
    refine lv_bipush (v := (nI 64)) hx hb dX1_inBox_16 (by decide +kernel) ?_
    refine ci_irem hx hb dX1_inBox_18 (by omega) (by omega) (by omega) ?_
    refine lv_iload_n hx hb dX1_inBox_19 rfl (lv_at hl 2 rfl) ?_
    refine lv_bipush (v := (nI 64)) hx hb dX1_inBox_20 (by decide +kernel) ?_
    refine ci_irem hx hb dX1_inBox_22 (by omega) (by omega) (by omega) ?_
    refine lv_iload_n hx hb dX1_inBox_23 rfl (lv_at hl 3 rfl) ?_
    refine lv_bipush (v := (nI 64)) hx hb dX1_inBox_24 (by decide +kernel) ?_
    refine ci_irem hx hb dX1_inBox_26 (by omega) (by omega) (by omega) ?_
    refine vp_callSi (W.runV (As := [.int (nI ((pl i) % 64)), .int (nI (a % 64)), .int (nI (b % 64))]) (rest := []) ⟨hx, hb, hml, hown, hts⟩ (met_X1_between l D g d u pl lb ((pl i) % 64) (a % 64) (b % 64) (by omega) (by omega) (by omega)) (cwV 3 hts (lw_V q261 q263 qs19 q24 q264) rfl rfl rfl (by decide +kernel) ⟨Nat.le_of_ble_eq_true rfl, Nat.le_of_ble_eq_true rfl⟩) (ci_pre hK hP (ci := 1) (q0 := 0) rfl rfl) rfl rfl hl.1 rfl (lv_room (Nat.le_of_ble_eq_true rfl)) dX1_inBox_27 ⟨Nat.le_of_ble_eq_true rfl, Nat.le_of_ble_eq_true rfl⟩) (fun r hr => ?_)
    subst hr
    refine ci_ifb_eq (tgt := 61) hx hb dX1_inBox_30 (by decide) (fun c30 => ?_) (fun c30 => ?_)
    · refine lv_iconst (v := (nI 0)) hx hb dX1_inBox_61 (by decide +kernel) ?_
      exact ci_zretR false rfl hQ hx hb hrt hlk dX1_inBox_62 (congrArg bI (Eq.symm (box_f (by first | exact Or.inl c6 | exact Or.inr (Or.inl c30) | exact Or.inr (Or.inr c54)))))
    · refine lv_aload_n hx hb dX1_inBox_33 rfl (lv_at hl 0 rfl) ?_
      refine lv_aload_n hx hb dX1_inBox_34 rfl (lv_at hl 0 rfl) ?_
      refine cm_get 1 hx hb hts hown hK hP (by decide) (hts _ q216) rfl dX1_inBox_35 ?_
      refine lv_iload_n hx hb dX1_inBox_38 rfl (lv_at hl 1 rfl) ?_
      refine ci_iald hx hb hK hP 2 1 rfl rfl (by omega) (by decide) dX1_inBox_39 ?_
      refine lv_bipush (v := (nI 64)) hx hb dX1_inBox_40 (by decide +kernel) ?_
      refine ci_idiv hx hb dX1_inBox_42 (by omega) (by omega) (by omega) ?_
      refine lv_iload_n hx hb dX1_inBox_43 rfl (lv_at hl 2 rfl) ?_
      refine lv_bipush (v := (nI 64)) hx hb dX1_inBox_44 (by decide +kernel) ?_
      refine ci_idiv hx hb dX1_inBox_46 (by omega) (by omega) (by omega) ?_
      refine lv_iload_n hx hb dX1_inBox_47 rfl (lv_at hl 3 rfl) ?_
      refine lv_bipush (v := (nI 64)) hx hb dX1_inBox_48 (by decide +kernel) ?_
      refine ci_idiv hx hb dX1_inBox_50 (by omega) (by omega) (by omega) ?_
      refine vp_callSi (W.runV (As := [.int (nI ((pl i) / 64)), .int (nI (a / 64)), .int (nI (b / 64))]) (rest := []) ⟨hx, hb, hml, hown, hts⟩ (met_X1_between l D g d u pl lb ((pl i) / 64) (a / 64) (b / 64) (by omega) (by omega) (by omega)) (cwV 3 hts (lw_V q261 q263 qs19 q24 q264) rfl rfl rfl (by decide +kernel) ⟨Nat.le_of_ble_eq_true rfl, Nat.le_of_ble_eq_true rfl⟩) (ci_pre hK hP (ci := 1) (q0 := 0) rfl rfl) rfl rfl hl.1 rfl (lv_room (Nat.le_of_ble_eq_true rfl)) dX1_inBox_51 ⟨Nat.le_of_ble_eq_true rfl, Nat.le_of_ble_eq_true rfl⟩) (fun r hr => ?_)
      subst hr
      refine ci_ifb_eq (tgt := 61) hx hb dX1_inBox_54 (by decide) (fun c54 => ?_) (fun c54 => ?_)
      · refine lv_iconst (v := (nI 0)) hx hb dX1_inBox_61 (by decide +kernel) ?_
        exact ci_zretR false rfl hQ hx hb hrt hlk dX1_inBox_62 (congrArg bI (Eq.symm (box_f (by first | exact Or.inl c6 | exact Or.inr (Or.inl c30) | exact Or.inr (Or.inr c54)))))
      · refine lv_iconst (v := (nI 1)) hx hb dX1_inBox_57 (by decide +kernel) ?_
        refine lv_goto (tgt := 62) hx hb dX1_inBox_58 (by decide) ?_
        exact ci_zretR true rfl hQ hx hb hrt hlk dX1_inBox_62 (congrArg bI (Eq.symm (box_iff.mpr ⟨c6, c30, c54⟩)))

/-- countBox(a, b) -/
abbrev rm_X1_countBox : Room := { frames := 2, cells := 0, slots := 0, locals := 46 }
set_option maxHeartbeats 8000000 in
set_option maxRecDepth 100000 in
theorem met_X1_countBox (l : Launch) (D : va_G) (g : Nat → Nat) (d : Nat → ClassId) (u : Nat → Bool) (pl : Nat → Nat) (lb : Nat → Int32) (x y : Int32) (hpl : ∀ i, i < 40 → pl i < 4096) : Met l yX1_countBox (ws_ yX1_countBox cX1_countBox 5 (some .int)) rm_X1_countBox (ci_R D (wM g d u pl lb) (tM d) [.ref (g 0), .int x, .int y]) (vp_Si (fun r => ((badP x = true ∨ badP y = true) ∧ r = -1) ∨ (∃ a b, a < 4096 ∧ b < 4096 ∧ x = nI a ∧ y = nI b ∧ r = nI (cnt (bxP u (mx pl) (my pl) a b) 40)))) 0 0 (fun _ => False) := by
  refine ci_of (by decide) (Nat.le_of_ble_eq_true rfl) ?_
  intro p e s m args below meth c Q0 hx hb hrt hml hown hts hlk hmn hQ hP hK ls hl
  have hown : s.vm.findClass RX1 = some m.cls := hown
  have hl : lv_has ls 5 [(0, .ref (g 0)), (1, .int x), (2, .int y)] := hl
  refine lv_aload_n hx hb dX1_countBox_0 rfl (lv_at hl 0 rfl) ?_
  refine lv_iload_n hx hb dX1_countBox_1 rfl (lv_at hl 1 rfl) ?_
  refine vp_callSi (W.runV (As := [.int x]) (rest := []) ⟨hx, hb, hml, hown, hts⟩ (met_X1_isPlace l D g d u pl lb _) (cwV 1 hts (lw_V q229 q231 qs16 q24 q232) rfl rfl rfl (by decide +kernel) ⟨Nat.le_of_ble_eq_true rfl, Nat.le_of_ble_eq_true rfl⟩) (ci_pre hK hP (ci := 1) (q0 := 0) rfl rfl) rfl rfl hl.1 rfl (lv_room (Nat.le_of_ble_eq_true rfl)) dX1_countBox_2 ⟨Nat.le_of_ble_eq_true rfl, Nat.le_of_ble_eq_true rfl⟩) (fun r hr => ?_)
  subst hr
  refine ci_ifb_eq (tgt := 16) hx hb dX1_countBox_5 (by decide) (fun c5 => ?_) (fun c5 => ?_)
  · refine lv_iconst (v := (-1)) hx hb dX1_countBox_16 (by decide +kernel) ?_
    exact ci_iretR hQ hx hb hrt hlk dX1_countBox_17 (Or.inl ⟨by first | exact Or.inl (bnf c5) | exact Or.inr (bnf c13), rfl⟩)
  · have c5b := bnt c5
    obtain ⟨a, ha, rfl⟩ := badP_f c5b
    refine lv_aload_n hx hb dX1_countBox_8 rfl (lv_at hl 0 rfl) ?_
    refine lv_iload_n hx hb dX1_countBox_9 rfl (lv_at hl 2 rfl) ?_
    refine vp_callSi (W.runV (As := [.int y]) (rest := []) ⟨hx, hb, hml, hown, hts⟩ (met_X1_isPlace l D g d u pl lb _) (cwV 1 hts (lw_V q229 q231 qs16 q24 q232) rfl rfl rfl (by decide +kernel) ⟨Nat.le_of_ble_eq_true rfl, Nat.le_of_ble_eq_true rfl⟩) (ci_pre hK hP (ci := 1) (q0 := 0) rfl rfl) rfl rfl hl.1 rfl (lv_room (Nat.le_of_ble_eq_true rfl)) dX1_countBox_10 ⟨Nat.le_of_ble_eq_true rfl, Nat.le_of_ble_eq_true rfl⟩) (fun r hr => ?_)
    subst hr
    refine ci_ifb_ne (tgt := 18) hx hb dX1_countBox_13 (by decide) (fun c13 => ?_) (fun c13 => ?_)
    · have c13b := bnt c13
      obtain ⟨b, hb9, rfl⟩ := badP_f c13b
      refine lv_iconst (v := (nI 0)) hx hb dX1_countBox_18 (by decide +kernel) ?_
      refine lv_istore_n (lv' := [(3, .int (nI 0)), (0, .ref (g 0)), (1, .int (nI a)), (2, .int (nI b))]) hx hb dX1_countBox_19 rfl hl (by decide) rfl (fun ls hl => ?_)
      refine lv_iconst (v := (nI 0)) hx hb dX1_countBox_20 (by decide +kernel) ?_
      refine lv_istore (lv' := [(4, .int (nI 0)), (3, .int (nI 0)), (0, .ref (g 0)), (1, .int (nI a)), (2, .int (nI b))]) hx hb dX1_countBox_21 hl (by decide) rfl (fun ls hl => ?_)
      have lp : ∀ (f : Nat) (i cn : Nat), (40 - i < f) → (i ≤ 40) → (cn = cnt (bxP u (mx pl) (my pl) a b) i) → ∀ ls : Array Slot, lv_has ls 5 [(0, .ref (g 0)), (1, .int (nI a)), (2, .int (nI b)), (3, .int (nI cn)), (4, .int (nI i))] → W p l e rm_X1_countBox s m args below meth c s.heap [] 0 0 Q0 (F0 m 23 ls []) := by
        intro f
        induction f with
        | zero => intro i cn hf; exact absurd hf (Nat.not_lt_zero _)
        | succ f ih =>
          intro i cn hf hi hc  ls hl
          refine lv_iload hx hb dX1_countBox_23 (lv_at hl 4 rfl) ?_
          refine lv_bipush (v := (nI 40)) hx hb dX1_countBox_25 (by decide +kernel) ?_
          refine ci_icmp_ge (tgt := 50) hx hb dX1_countBox_27 (by decide) (by omega) (by omega) (fun c27 => ?_) (fun c27 => ?_)
          · refine lv_iload_n hx hb dX1_countBox_50 rfl (lv_at hl 3 rfl) ?_
            exact ci_iretR hQ hx hb hrt hlk dX1_countBox_51 (Or.inr ⟨a, b, ha, hb9, rfl, rfl, by rw [hc, show i = 40 by omega]⟩)
          · refine lv_aload_n hx hb dX1_countBox_30 rfl (lv_at hl 0 rfl) ?_
            refine lv_iload hx hb dX1_countBox_31 (lv_at hl 4 rfl) ?_
            refine lv_iload_n hx hb dX1_countBox_33 rfl (lv_at hl 1 rfl) ?_
            refine lv_iload_n hx hb dX1_countBox_34 rfl (lv_at hl 2 rfl) ?_
            refine vp_callSi (W.runV (As := [.int (nI i), .int (nI a), .int (nI b)]) (rest := []) ⟨hx, hb, hml, hown, hts⟩ (met_X1_inBox l D g d u pl lb i a b (by omega) ha hb9 (hpl i (by omega))) (cwV 3 hts (lw_V q257 q259 qs18 q24 q260) rfl rfl rfl (by decide +kernel) ⟨Nat.le_of_ble_eq_true rfl, Nat.le_of_ble_eq_true rfl⟩) (ci_pre hK hP (ci := 1) (q0 := 0) rfl rfl) rfl rfl hl.1 rfl (lv_room (Nat.le_of_ble_eq_true rfl)) dX1_countBox_35 ⟨Nat.le_of_ble_eq_true rfl, Nat.le_of_ble_eq_true rfl⟩) (fun r hr => ?_)
            subst hr
            refine ci_ifb_eq (tgt := 44) hx hb dX1_countBox_38 (by decide) (fun c38 => ?_) (fun c38 => ?_)
            · refine lv_iinc (v := (nI (i + 1))) (lv' := [(4, .int (nI (i + 1))), (0, .ref (g 0)), (1, .int (nI a)), (2, .int (nI b)), (3, .int (nI cn))]) hx hb dX1_countBox_44 hl (k := 4) rfl (ci_inc _) (by decide) rfl (fun ls hl => ?_)
              refine lv_goto (tgt := 23) hx hb dX1_countBox_47 (by decide) ?_
              exact ih (i + 1) _ (by omega) (by omega) (by rw [cnt_s0 c38, hc]) ls (lv_sub hl [1, 2, 3, 4, 0] rfl)
            · refine lv_iinc (v := (nI (cn + 1))) (lv' := [(3, .int (nI (cn + 1))), (0, .ref (g 0)), (1, .int (nI a)), (2, .int (nI b)), (4, .int (nI i))]) hx hb dX1_countBox_41 hl (k := 3) rfl (ci_inc _) (by decide) rfl (fun ls hl => ?_)
              refine lv_iinc (v := (nI (i + 1))) (lv' := [(4, .int (nI (i + 1))), (3, .int (nI (cn + 1))), (0, .ref (g 0)), (1, .int (nI a)), (2, .int (nI b))]) hx hb dX1_countBox_44 hl (k := 4) rfl (ci_inc _) (by decide) rfl (fun ls hl => ?_)
              refine lv_goto (tgt := 23) hx hb dX1_countBox_47 (by decide) ?_
              exact ih (i + 1) _ (by omega) (by omega) (by rw [cnt_s1 c38, hc]) ls (lv_sub hl [2, 3, 4, 1, 0] rfl)
      exact lp 41 0 0 (by omega) (by omega) rfl ls (lv_sub hl [2, 3, 4, 1, 0] rfl)
    · refine lv_iconst (v := (-1)) hx hb dX1_countBox_16 (by decide +kernel) ?_
      exact ci_iretR hQ hx hb hrt hlk dX1_countBox_17 (Or.inl ⟨by first | exact Or.inl (bnf c5) | exact Or.inr (bnf c13), rfl⟩)

/-- sumBox(a, b) -/
abbrev rm_X1_sumBox : Room := { frames := 2, cells := 0, slots := 0, locals := 46 }
set_option maxHeartbeats 8000000 in
set_option maxRecDepth 100000 in
theorem met_X1_sumBox (l : Launch) (D : va_G) (g : Nat → Nat) (d : Nat → ClassId) (u : Nat → Bool) (pl : Nat → Nat) (lb : Nat → Int32) (x y : Int32) (hpl : ∀ i, i < 40 → pl i < 4096) : Met l yX1_sumBox (ws_ yX1_sumBox cX1_sumBox 5 (some .int)) rm_X1_sumBox (ci_R D (wM g d u pl lb) (tM d) [.ref (g 0), .int x, .int y]) (vp_Si (fun r => ((badP x = true ∨ badP y = true) ∧ r = -1) ∨ (∃ a b, a < 4096 ∧ b < 4096 ∧ x = nI a ∧ y = nI b ∧ r = sumP (bxP u (mx pl) (my pl) a b) lb 40))) 0 0 (fun _ => False) := by
  refine ci_of (by decide) (Nat.le_of_ble_eq_true rfl) ?_
  intro p e s m args below meth c Q0 hx hb hrt hml hown hts hlk hmn hQ hP hK ls hl
  have hown : s.vm.findClass RX1 = some m.cls := hown
  have hl : lv_has ls 5 [(0, .ref (g 0)), (1, .int x), (2, .int y)] := hl
  refine lv_aload_n hx hb dX1_sumBox_0 rfl (lv_at hl 0 rfl) ?_
  refine lv_iload_n hx hb dX1_sumBox_1 rfl (lv_at hl 1 rfl) ?_
  refine vp_callSi (W.runV (As := [.int x]) (rest := []) ⟨hx, hb, hml, hown, hts⟩ (met_X1_isPlace l D g d u pl lb _) (cwV 1 hts (lw_V q229 q231 qs16 q24 q232) rfl rfl rfl (by decide +kernel) ⟨Nat.le_of_ble_eq_true rfl, Nat.le_of_ble_eq_true rfl⟩) (ci_pre hK hP (ci := 1) (q0 := 0) rfl rfl) rfl rfl hl.1 rfl (lv_room (Nat.le_of_ble_eq_true rfl)) dX1_sumBox_2 ⟨Nat.le_of_ble_eq_true rfl, Nat.le_of_ble_eq_true rfl⟩) (fun r hr => ?_)
  subst hr
  refine ci_ifb_eq (tgt := 16) hx hb dX1_sumBox_5 (by decide) (fun c5 => ?_) (fun c5 => ?_)
  · refine lv_iconst (v := (-1)) hx hb dX1_sumBox_16 (by decide +kernel) ?_
    exact ci_iretR hQ hx hb hrt hlk dX1_sumBox_17 (Or.inl ⟨by first | exact Or.inl (bnf c5) | exact Or.inr (bnf c13), rfl⟩)
  · have c5b := bnt c5
    obtain ⟨a, ha, rfl⟩ := badP_f c5b
    refine lv_aload_n hx hb dX1_sumBox_8 rfl (lv_at hl 0 rfl) ?_
    refine lv_iload_n hx hb dX1_sumBox_9 rfl (lv_at hl 2 rfl) ?_
    refine vp_callSi (W.runV (As := [.int y]) (rest := []) ⟨hx, hb, hml, hown, hts⟩ (met_X1_isPlace l D g d u pl lb _) (cwV 1 hts (lw_V q229 q231 qs16 q24 q232) rfl rfl rfl (by decide +kernel) ⟨Nat.le_of_ble_eq_true rfl, Nat.le_of_ble_eq_true rfl⟩) (ci_pre hK hP (ci := 1) (q0 := 0) rfl rfl) rfl rfl hl.1 rfl (lv_room (Nat.le_of_ble_eq_true rfl)) dX1_sumBox_10 ⟨Nat.le_of_ble_eq_true rfl, Nat.le_of_ble_eq_true rfl⟩) (fun r hr => ?_)
    subst hr
    refine ci_ifb_ne (tgt := 18) hx hb dX1_sumBox_13 (by decide) (fun c13 => ?_) (fun c13 => ?_)
    · have c13b := bnt c13
      obtain ⟨b, hb9, rfl⟩ := badP_f c13b
      refine lv_iconst (v := (nI 0)) hx hb dX1_sumBox_18 (by decide +kernel) ?_
      refine lv_istore_n (lv' := [(3, .int (nI 0)), (0, .ref (g 0)), (1, .int (nI a)), (2, .int (nI b))]) hx hb dX1_sumBox_19 rfl hl (by decide) rfl (fun ls hl => ?_)
      refine lv_iconst (v := (nI 0)) hx hb dX1_sumBox_20 (by decide +kernel) ?_
      refine lv_istore (lv' := [(4, .int (nI 0)), (3, .int (nI 0)), (0, .ref (g 0)), (1, .int (nI a)), (2, .int (nI b))]) hx hb dX1_sumBox_21 hl (by decide) rfl (fun ls hl => ?_)
      have lp : ∀ (f : Nat) (i : Nat) (sm : Int32), (40 - i < f) → (i ≤ 40) → (sm = sumP (bxP u (mx pl) (my pl) a b) lb i) → ∀ ls : Array Slot, lv_has ls 5 [(0, .ref (g 0)), (1, .int (nI a)), (2, .int (nI b)), (3, .int sm), (4, .int (nI i))] → W p l e rm_X1_sumBox s m args below meth c s.heap [] 0 0 Q0 (F0 m 23 ls []) := by
        intro f
        induction f with
        | zero => intro i sm hf; exact absurd hf (Nat.not_lt_zero _)
        | succ f ih =>
          intro i sm hf hi hc  ls hl
          refine lv_iload hx hb dX1_sumBox_23 (lv_at hl 4 rfl) ?_
          refine lv_bipush (v := (nI 40)) hx hb dX1_sumBox_25 (by decide +kernel) ?_
          refine ci_icmp_ge (tgt := 57) hx hb dX1_sumBox_27 (by decide) (by omega) (by omega) (fun c27 => ?_) (fun c27 => ?_)
          · refine lv_iload_n hx hb dX1_sumBox_57 rfl (lv_at hl 3 rfl) ?_
            exact ci_iretR hQ hx hb hrt hlk dX1_sumBox_58 (Or.inr ⟨a, b, ha, hb9, rfl, rfl, by rw [hc, show i = 40 by omega]⟩)
          · refine lv_aload_n hx hb dX1_sumBox_30 rfl (lv_at hl 0 rfl) ?_
            refine lv_iload hx hb dX1_sumBox_31 (lv_at hl 4 rfl) ?_
            refine lv_iload_n hx hb dX1_sumBox_33 rfl (lv_at hl 1 rfl) ?_
            refine lv_iload_n hx hb dX1_sumBox_34 rfl (lv_at hl 2 rfl) ?_
            refine vp_callSi (W.runV (As := [.int (nI i), .int (nI a), .int (nI b)]) (rest := []) ⟨hx, hb, hml, hown, hts⟩ (met_X1_inBox l D g d u pl lb i a b (by omega) ha hb9 (hpl i (by omega))) (cwV 3 hts (lw_V q257 q259 qs18 q24 q260) rfl rfl rfl (by decide +kernel) ⟨Nat.le_of_ble_eq_true rfl, Nat.le_of_ble_eq_true rfl⟩) (ci_pre hK hP (ci := 1) (q0 := 0) rfl rfl) rfl rfl hl.1 rfl (lv_room (Nat.le_of_ble_eq_true rfl)) dX1_sumBox_35 ⟨Nat.le_of_ble_eq_true rfl, Nat.le_of_ble_eq_true rfl⟩) (fun r hr => ?_)
            subst hr
            refine ci_ifb_eq (tgt := 51) hx hb dX1_sumBox_38 (by decide) (fun c38 => ?_) (fun c38 => ?_)
            · refine lv_iinc (v := (nI (i + 1))) (lv' := [(4, .int (nI (i + 1))), (0, .ref (g 0)), (1, .int (nI a)), (2, .int (nI b)), (3, .int sm)]) hx hb dX1_sumBox_51 hl (k := 4) rfl (ci_inc _) (by decide) rfl (fun ls hl => ?_)
              refine lv_goto (tgt := 23) hx hb dX1_sumBox_54 (by decide) ?_
              exact ih (i + 1) _ (by omega) (by omega) (by rw [sumP_s0 c38, hc]) ls (lv_sub hl [1, 2, 3, 4, 0] rfl)
            · refine lv_iload_n hx hb dX1_sumBox_41 rfl (lv_at hl 3 rfl) ?_
              refine lv_aload_n hx hb dX1_sumBox_42 rfl (lv_at hl 0 rfl) ?_
              refine cm_get 2 hx hb hts hown hK hP (by decide) (hts _ q217) rfl dX1_sumBox_43 ?_
              refine lv_iload hx hb dX1_sumBox_46 (lv_at hl 4 rfl) ?_
              refine ci_rald hx hb hK hP 3 2 rfl rfl (by omega) (by decide) dX1_sumBox_48 ?_
              refine lv_iadd hx hb dX1_sumBox_49 ?_
              refine lv_istore_n (lv' := [(3, .int (sm + (lb i))), (0, .ref (g 0)), (1, .int (nI a)), (2, .int (nI b)), (4, .int (nI i))]) hx hb dX1_sumBox_50 rfl hl (by decide) rfl (fun ls hl => ?_)
              refine lv_iinc (v := (nI (i + 1))) (lv' := [(4, .int (nI (i + 1))), (3, .int (sm + (lb i))), (0, .ref (g 0)), (1, .int (nI a)), (2, .int (nI b))]) hx hb dX1_sumBox_51 hl (k := 4) rfl (ci_inc _) (by decide) rfl (fun ls hl => ?_)
              refine lv_goto (tgt := 23) hx hb dX1_sumBox_54 (by decide) ?_
              exact ih (i + 1) _ (by omega) (by omega) (by rw [sumP_s1 c38, hc]) ls (lv_sub hl [2, 3, 4, 1, 0] rfl)
      exact lp 41 0 (nI 0) (by omega) (by omega) nI_0 ls (lv_sub hl [2, 3, 4, 1, 0] rfl)
    · refine lv_iconst (v := (-1)) hx hb dX1_sumBox_16 (by decide +kernel) ?_
      exact ci_iretR hQ hx hb hrt hlk dX1_sumBox_17 (Or.inl ⟨by first | exact Or.inl (bnf c5) | exact Or.inr (bnf c13), rfl⟩)

/-- clearBox(a, b) -/
abbrev rm_X1_clearBox : Room := { frames := 3, cells := 0, slots := 0, locals := 70 }
set_option maxHeartbeats 8000000 in
set_option maxRecDepth 100000 in
theorem met_X1_clearBox (l : Launch) (D : va_G) (g : Nat → Nat) (d : Nat → ClassId) (hg : xN 4 g) (u : Nat → Bool) (pl : Nat → Nat) (lb : Nat → Int32) (x y : Int32) (hpl : ∀ i, i < 40 → pl i < 4096) : Met l yX1_clearBox (ws_ yX1_clearBox cX1_clearBox 5 (some .int)) rm_X1_clearBox (ci_R D (wM g d u pl lb) (tM d) [.ref (g 0), .int x, .int y]) (va_Qi (fun (r : Int32) (z : Nat → Bool) => (((badP x = true ∨ badP y = true) ∧ r = -1) ∧ z = u) ∨ (∃ a b, a < 4096 ∧ b < 4096 ∧ x = nI a ∧ y = nI b ∧ r = nI (cnt (bxP u (mx pl) (my pl) a b) 40) ∧ ∀ i, i < 40 → z i = (u i && !((bxP u (mx pl) (my pl) a b) i)))) (fun z t => va_P D vwCl (wM g d z pl lb) t.heap) (xA 4 g)) 0 0 (xA 4 g) := by
  refine ci_of (by decide) (Nat.le_of_ble_eq_true rfl) ?_
  intro p e s m args below meth c Q0 hx hb hrt hml hown hts hlk hmn hQ hP hK ls hl
  have hS : va_S (xA 4 g) s.heap s.heap [] := va_S.rf
  have hown : s.vm.findClass RX1 = some m.cls := hown
  have hl : lv_has ls 5 [(0, .ref (g 0)), (1, .int x), (2, .int y)] := hl
  refine lv_aload_n hx hb dX1_clearBox_0 rfl (lv_at hl 0 rfl) ?_
  refine lv_iload_n hx hb dX1_clearBox_1 rfl (lv_at hl 1 rfl) ?_
  refine lv_iload_n hx hb dX1_clearBox_2 rfl (lv_at hl 2 rfl) ?_
  refine vp_callSi (W.runV (As := [.int x, .int y]) (rest := []) ⟨hx, hb, hml, hown, hts⟩ (met_X1_countBox l D g d u pl lb x y hpl) (cwV 2 hts (lw_V q253 q254 q255 q24 q256) rfl rfl rfl (by decide +kernel) ⟨Nat.le_of_ble_eq_true rfl, Nat.le_of_ble_eq_true rfl⟩) (ci_pre hK hP (ci := 1) (q0 := 0) rfl rfl) rfl rfl hl.1 rfl (lv_room (Nat.le_of_ble_eq_true rfl)) dX1_clearBox_3 ⟨Nat.le_of_ble_eq_true rfl, Nat.le_of_ble_eq_true rfl⟩) (fun r hr => ?_)
  rcases hr with ⟨hbad, rfl⟩ | ⟨a, b, ha, hb9, rfl, rfl, rfl⟩
  · refine lv_istore_n (lv' := [(3, .int (-1)), (0, .ref (g 0)), (1, .int x), (2, .int y)]) hx hb dX1_clearBox_6 rfl hl (by decide) rfl (fun ls hl => ?_)
    refine lv_iconst (v := (nI 0)) hx hb dX1_clearBox_7 (by decide +kernel) ?_
    refine lv_istore (lv' := [(4, .int (nI 0)), (3, .int (-1)), (0, .ref (g 0)), (1, .int x), (2, .int y)]) hx hb dX1_clearBox_8 hl (by decide) rfl (fun ls hl => ?_)
    refine lv_iload hx hb dX1_clearBox_10 (lv_at hl 0 rfl) ?_
    refine lv_bipush (v := (nI 40)) hx hb dX1_clearBox_12 (by decide +kernel) ?_
    refine ci_icmp_ge (tgt := 46) hx hb dX1_clearBox_14 (by decide) (by omega) (by omega) (fun c14 => ?_) (fun c14 => ?_)
    · exfalso; omega
    · refine lv_iload_n hx hb dX1_clearBox_17 rfl (lv_at hl 1 rfl) ?_
      refine lv_if_le (tgt := 46) hx hb dX1_clearBox_18 (by decide) (fun c18 => ?_) (fun c18 => ?_)
      · refine lv_iload_n hx hb dX1_clearBox_46 rfl (lv_at hl 1 rfl) ?_
        exact ci_iretW hQ hx hb hrt hlk hS dX1_clearBox_47 u (Or.inl ⟨⟨hbad, rfl⟩, rfl⟩) hP
      · exact absurd (by decide +kernel) c18
  · have hc40 := cnt_le (bxP u (mx pl) (my pl) a b) 40
    refine lv_istore_n (lv' := [(3, .int (nI (cnt (bxP u (mx pl) (my pl) a b) 40))), (0, .ref (g 0)), (1, .int (nI a)), (2, .int (nI b))]) hx hb dX1_clearBox_6 rfl hl (by decide) rfl (fun ls hl => ?_)
    refine lv_iconst (v := (nI 0)) hx hb dX1_clearBox_7 (by decide +kernel) ?_
    refine lv_istore (lv' := [(4, .int (nI 0)), (3, .int (nI (cnt (bxP u (mx pl) (my pl) a b) 40))), (0, .ref (g 0)), (1, .int (nI a)), (2, .int (nI b))]) hx hb dX1_clearBox_8 hl (by decide) rfl (fun ls hl => ?_)
    have lp : ∀ (f : Nat) (i : Nat) (uu : Nat → Bool), (40 - i < f) → (i ≤ 40) → (Clr u uu (bxP u (mx pl) (my pl) a b) i) → ∀ (H : Heap) (locs : List Loc), va_P D vwCl (wM g d uu pl lb) H → va_S (xA 4 g) s.heap H locs → ∀ ls : Array Slot, lv_has ls 5 [(0, .ref (g 0)), (1, .int (nI a)), (2, .int (nI b)), (3, .int (nI (cnt (bxP u (mx pl) (my pl) a b) 40))), (4, .int (nI i))] → W p l e rm_X1_clearBox s m args below meth c H locs 0 0 Q0 (F0 m 10 ls []) := by
      intro f
      induction f with
      | zero => intro i uu hf; exact absurd hf (Nat.not_lt_zero _)
      | succ f ih =>
        intro i uu hf hi hc H locs hP hS ls hl
        refine lv_iload hx hb dX1_clearBox_10 (lv_at hl 4 rfl) ?_
        refine lv_bipush (v := (nI 40)) hx hb dX1_clearBox_12 (by decide +kernel) ?_
        refine ci_icmp_ge (tgt := 46) hx hb dX1_clearBox_14 (by decide) (by omega) (by omega) (fun c14 => ?_) (fun c14 => ?_)
        · refine lv_iload_n hx hb dX1_clearBox_46 rfl (lv_at hl 3 rfl) ?_
          exact ci_iretW hQ hx hb hrt hlk hS dX1_clearBox_47 uu (Or.inr ⟨a, b, ha, hb9, rfl, rfl, rfl, Clr_end hc (by first | exact Or.inr c18 | (left; omega))⟩) hP
        · refine lv_iload_n hx hb dX1_clearBox_17 rfl (lv_at hl 3 rfl) ?_
          refine ci_ifn_le (tgt := 46) hx hb dX1_clearBox_18 (by decide) (by omega) (fun c18 => ?_) (fun c18 => ?_)
          · refine lv_iload_n hx hb dX1_clearBox_46 rfl (lv_at hl 3 rfl) ?_
            exact ci_iretW hQ hx hb hrt hlk hS dX1_clearBox_47 uu (Or.inr ⟨a, b, ha, hb9, rfl, rfl, rfl, Clr_end hc (by first | exact Or.inr c18 | (left; omega))⟩) hP
          · refine lv_aload_n hx hb dX1_clearBox_21 rfl (lv_at hl 0 rfl) ?_
            refine lv_iload hx hb dX1_clearBox_22 (lv_at hl 4 rfl) ?_
            refine lv_iload_n hx hb dX1_clearBox_24 rfl (lv_at hl 1 rfl) ?_
            refine lv_iload_n hx hb dX1_clearBox_25 rfl (lv_at hl 2 rfl) ?_
            refine vp_callSi (W.runV (As := [.int (nI i), .int (nI a), .int (nI b)]) (rest := []) ⟨hx, hb, hml, hown, hts⟩ (met_X1_inBox l D g d uu pl lb i a b (by omega) ha hb9 (hpl i (by omega))) (cwV 3 hts (lw_V q257 q259 qs18 q24 q260) rfl rfl rfl (by decide +kernel) ⟨Nat.le_of_ble_eq_true rfl, Nat.le_of_ble_eq_true rfl⟩) (ci_pre hK hP (ci := 1) (q0 := 0) rfl rfl) rfl rfl hl.1 rfl (lv_room (Nat.le_of_ble_eq_true rfl)) dX1_clearBox_26 ⟨Nat.le_of_ble_eq_true rfl, Nat.le_of_ble_eq_true rfl⟩) (fun r hr => ?_)
            subst hr
            have heq : bxP uu (mx pl) (my pl) a b i = bxP u (mx pl) (my pl) a b i := bxP_u (hc.2 i (Nat.le_refl i))
            refine ci_ifb_eq (tgt := 40) hx hb dX1_clearBox_29 (by decide) (fun c29 => ?_) (fun c29 => ?_)
            · refine lv_iinc (v := (nI (i + 1))) (lv' := [(4, .int (nI (i + 1))), (0, .ref (g 0)), (1, .int (nI a)), (2, .int (nI b)), (3, .int (nI (cnt (bxP u (mx pl) (my pl) a b) 40)))]) hx hb dX1_clearBox_40 hl (k := 4) rfl (ci_inc _) (by decide) rfl (fun ls hl => ?_)
              refine lv_goto (tgt := 10) hx hb dX1_clearBox_43 (by decide) ?_
              exact ih (i + 1) _ (by omega) (by omega) (Clr_no hc (by rw [← heq]; exact c29)) H locs hP hS ls (lv_sub hl [1, 2, 3, 4, 0] rfl)
            · refine lv_aload_n hx hb dX1_clearBox_32 rfl (lv_at hl 0 rfl) ?_
              refine cm_get 0 hx hb hts hown hK hP (by decide) (hts _ q215) rfl dX1_clearBox_33 ?_
              refine lv_iload hx hb dX1_clearBox_36 (lv_at hl 4 rfl) ?_
              refine lv_iconst (v := (nI 0)) hx hb dX1_clearBox_38 (by decide +kernel) ?_
              refine ci_zast hx hb hK hP (wM_D hg) hS 1 0 false rfl rfl rfl (by omega) (by decide) dX1_clearBox_39 (fun H locs hP hS => ?_)
              have hP : va_P D vwCl (wM g d (va_up uu i false) pl lb) H := hP
              refine lv_iinc (v := (nI (i + 1))) (lv' := [(4, .int (nI (i + 1))), (0, .ref (g 0)), (1, .int (nI a)), (2, .int (nI b)), (3, .int (nI (cnt (bxP u (mx pl) (my pl) a b) 40)))]) hx hb dX1_clearBox_40 hl (k := 4) rfl (ci_inc _) (by decide) rfl (fun ls hl => ?_)
              refine lv_goto (tgt := 10) hx hb dX1_clearBox_43 (by decide) ?_
              exact ih (i + 1) _ (by omega) (by omega) (Clr_yes hc (by rw [← heq]; exact c29)) H locs hP hS ls (lv_sub hl [1, 2, 3, 4, 0] rfl)
    exact lp 41 0 u (by omega) (by omega) Clr_0 _ _ hP hS ls (lv_sub hl [2, 3, 4, 1, 0] rfl)
end
section
/-- distance(p, q) -/
abbrev rm_X1_distance : Room := { frames := 0, cells := 0, slots := 0, locals := 0 }
set_option maxHeartbeats 8000000 in
set_option maxRecDepth 100000 in
theorem met_X1_distance (l : Launch) (D : va_G) (g : Nat → Nat) (d : Nat → ClassId) (u : Nat → Bool) (pl : Nat → Nat) (lb : Nat → Int32) (p1 q1 : Nat) (hp1 : p1 < 4096) (hq1 : q1 < 4096) : Met l yX1_distance (ws_ yX1_distance cX1_distance 5 (some .int)) rm_X1_distance (ci_R D (wM g d u pl lb) (tM d) [.ref (g 0), .int (nI p1), .int (nI q1)]) (vp_Si (fun r => r = nI (ds (q1 % 64) (q1 / 64) (p1 % 64) (p1 / 64)))) 0 0 (fun _ => False) := by
  refine ci_of (by decide) (Nat.le_of_ble_eq_true rfl) ?_
  intro p e s m args below meth c Q0 hx hb hrt hml hown hts hlk hmn hQ hP hK ls hl
  have hown : s.vm.findClass RX1 = some m.cls := hown
  have hl : lv_has ls 5 [(0, .ref (g 0)), (1, .int (nI p1)), (2, .int (nI q1))] := hl
  refine lv_iload_n hx hb dX1_distance_0 rfl (lv_at hl 1 rfl) ?_
  refine lv_bipush (v := (nI 64)) hx hb dX1_distance_1 (by decide +kernel) ?_
  refine ci_irem hx hb dX1_distance_3 (by omega) (by omega) (by omega) ?_
  refine lv_iload_n hx hb dX1_distance_4 rfl (lv_at hl 2 rfl) ?_
  refine lv_bipush (v := (nI 64)) hx hb dX1_distance_5 (by decide +kernel) ?_
  refine ci_irem hx hb dX1_distance_7 (by omega) (by omega) (by omega) ?_
  refine lv_isub hx hb dX1_distance_8 ?_
  refine lv_istore_n (lv' := [(3, .int ((nI (p1 % 64)) - (nI (q1 % 64)))), (0, .ref (g 0)), (1, .int (nI p1)), (2, .int (nI q1))]) hx hb dX1_distance_9 rfl hl (by decide) rfl (fun ls hl => ?_)
  refine lv_iload_n hx hb dX1_distance_10 rfl (lv_at hl 2 rfl) ?_
  refine lv_bipush (v := (nI 64)) hx hb dX1_distance_11 (by decide +kernel) ?_
  refine ci_idiv hx hb dX1_distance_13 (by omega) (by omega) (by omega) ?_
  refine lv_iload_n hx hb dX1_distance_14 rfl (lv_at hl 3 rfl) ?_
  refine lv_bipush (v := (nI 64)) hx hb dX1_distance_15 (by decide +kernel) ?_
  refine ci_idiv hx hb dX1_distance_17 (by omega) (by omega) (by omega) ?_
  refine lv_isub hx hb dX1_distance_18 ?_
  refine lv_istore (lv' := [(4, .int ((nI (p1 / 64)) - (nI (q1 / 64)))), (3, .int ((nI (p1 % 64)) - (nI (q1 % 64)))), (0, .ref (g 0)), (1, .int (nI p1)), (2, .int (nI q1))]) hx hb dX1_distance_19 hl (by decide) rfl (fun ls hl => ?_)
  refine lv_iload_n hx hb dX1_distance_21 rfl (lv_at hl 1 rfl) ?_
  refine lv_iload_n hx hb dX1_distance_22 rfl (lv_at hl 1 rfl) ?_
  refine lv_imul hx hb dX1_distance_23 ?_
  refine lv_iload hx hb dX1_distance_24 (lv_at hl 0 rfl) ?_
  refine lv_iload hx hb dX1_distance_26 (lv_at hl 0 rfl) ?_
  refine lv_imul hx hb dX1_distance_28 ?_
  refine lv_iadd hx hb dX1_distance_29 ?_
  exact ci_iretR hQ hx hb hrt hlk dX1_distance_30 (by rw [sq_I, sq_I, nI_add]; rfl)

/-- countNear(place, distance) -/
abbrev rm_X1_countNear : Room := { frames := 1, cells := 0, slots := 0, locals := 24 }
set_option maxHeartbeats 8000000 in
set_option maxRecDepth 100000 in
theorem met_X1_countNear (l : Launch) (D : va_G) (g : Nat → Nat) (d : Nat → ClassId) (u : Nat → Bool) (pl : Nat → Nat) (lb : Nat → Int32) (x y : Int32) (hpl : ∀ i, i < 40 → pl i < 4096) : Met l yX1_countNear (ws_ yX1_countNear cX1_countNear 5 (some .int)) rm_X1_countNear (ci_R D (wM g d u pl lb) (tM d) [.ref (g 0), .int x, .int y]) (vp_Si (fun r => (badP x = true ∧ r = -1) ∨ (∃ a, a < 4096 ∧ x = nI a ∧ r = nI (cnt (fun i => u i && decide (nI (ds (a % 64) (a / 64) (mx pl i) (my pl i)) ≤ y)) 40)))) 0 0 (fun _ => False) := by
  refine ci_of (by decide) (Nat.le_of_ble_eq_true rfl) ?_
  intro p e s m args below meth c Q0 hx hb hrt hml hown hts hlk hmn hQ hP hK ls hl
  have hown : s.vm.findClass RX1 = some m.cls := hown
  have hl : lv_has ls 5 [(0, .ref (g 0)), (1, .int x), (2, .int y)] := hl
  refine lv_aload_n hx hb dX1_countNear_0 rfl (lv_at hl 0 rfl) ?_
  refine lv_iload_n hx hb dX1_countNear_1 rfl (lv_at hl 1 rfl) ?_
  refine vp_callSi (W.runV (As := [.int x]) (rest := []) ⟨hx, hb, hml, hown, hts⟩ (met_X1_isPlace l D g d u pl lb _) (cwV 1 hts (lw_V q229 q231 qs16 q24 q232) rfl rfl rfl (by decide +kernel) ⟨Nat.le_of_ble_eq_true rfl, Nat.le_of_ble_eq_true rfl⟩) (ci_pre hK hP (ci := 1) (q0 := 0) rfl rfl) rfl rfl hl.1 rfl (lv_room (Nat.le_of_ble_eq_true rfl)) dX1_countNear_2 ⟨Nat.le_of_ble_eq_true rfl, Nat.le_of_ble_eq_true rfl⟩) (fun r hr => ?_)
  subst hr
  refine ci_ifb_ne (tgt := 10) hx hb dX1_countNear_5 (by decide) (fun c5 => ?_) (fun c5 => ?_)
  · have c5b := bnt c5
    obtain ⟨a, ha, rfl⟩ := badP_f c5b
    refine lv_iconst (v := (nI 0)) hx hb dX1_countNear_10 (by decide +kernel) ?_
    refine lv_istore_n (lv' := [(3, .int (nI 0)), (0, .ref (g 0)), (1, .int (nI a)), (2, .int y)]) hx hb dX1_countNear_11 rfl hl (by decide) rfl (fun ls hl => ?_)
    refine lv_iconst (v := (nI 0)) hx hb dX1_countNear_12 (by decide +kernel) ?_
    refine lv_istore (lv' := [(4, .int (nI 0)), (3, .int (nI 0)), (0, .ref (g 0)), (1, .int (nI a)), (2, .int y)]) hx hb dX1_countNear_13 hl (by decide) rfl (fun ls hl => ?_)
    have lp : ∀ (f : Nat) (i cn : Nat), (40 - i < f) → (i ≤ 40) → (cn = cnt (fun i => u i && decide (nI (ds (a % 64) (a / 64) (mx pl i) (my pl i)) ≤ y)) i) → ∀ ls : Array Slot, lv_has ls 5 [(0, .ref (g 0)), (1, .int (nI a)), (2, .int y), (3, .int (nI cn)), (4, .int (nI i))] → W p l e rm_X1_countNear s m args below meth c s.heap [] 0 0 Q0 (F0 m 15 ls []) := by
      intro f
      induction f with
      | zero => intro i cn hf; exact absurd hf (Nat.not_lt_zero _)
      | succ f ih =>
        intro i cn hf hi hc  ls hl
        refine lv_iload hx hb dX1_countNear_15 (lv_at hl 4 rfl) ?_
        refine lv_bipush (v := (nI 40)) hx hb dX1_countNear_17 (by decide +kernel) ?_
        refine ci_icmp_ge (tgt := 57) hx hb dX1_countNear_19 (by decide) (by omega) (by omega) (fun c19 => ?_) (fun c19 => ?_)
        · refine lv_iload_n hx hb dX1_countNear_57 rfl (lv_at hl 3 rfl) ?_
          exact ci_iretR hQ hx hb hrt hlk dX1_countNear_58 (Or.inr ⟨a, ha, rfl, by rw [hc, show i = 40 by omega]⟩)
        · refine lv_aload_n hx hb dX1_countNear_22 rfl (lv_at hl 0 rfl) ?_
          refine cm_get 0 hx hb hts hown hK hP (by decide) (hts _ q215) rfl dX1_countNear_23 ?_
          refine lv_iload hx hb dX1_countNear_26 (lv_at hl 4 rfl) ?_
          refine ci_zald hx hb hK hP 1 0 rfl rfl (by omega) (by decide) dX1_countNear_28 ?_
          refine ci_ifb_eq (tgt := 51) hx hb dX1_countNear_29 (by decide) (fun c29 => ?_) (fun c29 => ?_)
          · refine lv_iinc (v := (nI (i + 1))) (lv' := [(4, .int (nI (i + 1))), (0, .ref (g 0)), (1, .int (nI a)), (2, .int y), (3, .int (nI cn))]) hx hb dX1_countNear_51 hl (k := 4) rfl (ci_inc _) (by decide) rfl (fun ls hl => ?_)
            refine lv_goto (tgt := 15) hx hb dX1_countNear_54 (by decide) ?_
            exact ih (i + 1) _ (by omega) (by omega) (by rw [cnt_s0 (show (u i && decide (nI (ds (a % 64) (a / 64) (mx pl i) (my pl i)) ≤ y)) = false by first | (rw [c29]; rfl) | (rw [decide_eq_false (show ¬ nI (ds (a % 64) (a / 64) (mx pl i) (my pl i)) ≤ y from fun q => Int32.not_le.mpr c45 q), Bool.and_false])), hc]) ls (lv_sub hl [1, 2, 3, 4, 0] rfl)
          · refine lv_aload_n hx hb dX1_countNear_32 rfl (lv_at hl 0 rfl) ?_
            refine lv_aload_n hx hb dX1_countNear_33 rfl (lv_at hl 0 rfl) ?_
            refine cm_get 1 hx hb hts hown hK hP (by decide) (hts _ q216) rfl dX1_countNear_34 ?_
            refine lv_iload hx hb dX1_countNear_37 (lv_at hl 4 rfl) ?_
            refine ci_iald hx hb hK hP 2 1 rfl rfl (by omega) (by decide) dX1_countNear_39 ?_
            refine lv_iload_n hx hb dX1_countNear_40 rfl (lv_at hl 1 rfl) ?_
            refine vp_callSi (W.runV (As := [.int (nI (pl i)), .int (nI a)]) (rest := []) ⟨hx, hb, hml, hown, hts⟩ (met_X1_distance l D g d u pl lb (pl i) a (hpl i (by omega)) ha) (cwV 2 hts (lw_V q274 q276 qs20 q24 q277) rfl rfl rfl (by decide +kernel) ⟨Nat.le_of_ble_eq_true rfl, Nat.le_of_ble_eq_true rfl⟩) (ci_pre hK hP (ci := 1) (q0 := 0) rfl rfl) rfl rfl hl.1 rfl (lv_room (Nat.le_of_ble_eq_true rfl)) dX1_countNear_41 ⟨Nat.le_of_ble_eq_true rfl, Nat.le_of_ble_eq_true rfl⟩) (fun r hr => ?_)
            subst hr
            refine lv_iload_n hx hb dX1_countNear_44 rfl (lv_at hl 2 rfl) ?_
            refine lv_icmp_gt (tgt := 51) hx hb dX1_countNear_45 (by decide) (fun c45 => ?_) (fun c45 => ?_)
            · refine lv_iinc (v := (nI (i + 1))) (lv' := [(4, .int (nI (i + 1))), (0, .ref (g 0)), (1, .int (nI a)), (2, .int y), (3, .int (nI cn))]) hx hb dX1_countNear_51 hl (k := 4) rfl (ci_inc _) (by decide) rfl (fun ls hl => ?_)
              refine lv_goto (tgt := 15) hx hb dX1_countNear_54 (by decide) ?_
              exact ih (i + 1) _ (by omega) (by omega) (by rw [cnt_s0 (show (u i && decide (nI (ds (a % 64) (a / 64) (mx pl i) (my pl i)) ≤ y)) = false by first | (rw [c29]; rfl) | (rw [decide_eq_false (show ¬ nI (ds (a % 64) (a / 64) (mx pl i) (my pl i)) ≤ y from fun q => Int32.not_le.mpr c45 q), Bool.and_false])), hc]) ls (lv_sub hl [1, 2, 3, 4, 0] rfl)
            · refine lv_iinc (v := (nI (cn + 1))) (lv' := [(3, .int (nI (cn + 1))), (0, .ref (g 0)), (1, .int (nI a)), (2, .int y), (4, .int (nI i))]) hx hb dX1_countNear_48 hl (k := 3) rfl (ci_inc _) (by decide) rfl (fun ls hl => ?_)
              refine lv_iinc (v := (nI (i + 1))) (lv' := [(4, .int (nI (i + 1))), (3, .int (nI (cn + 1))), (0, .ref (g 0)), (1, .int (nI a)), (2, .int y)]) hx hb dX1_countNear_51 hl (k := 4) rfl (ci_inc _) (by decide) rfl (fun ls hl => ?_)
              refine lv_goto (tgt := 15) hx hb dX1_countNear_54 (by decide) ?_
              exact ih (i + 1) _ (by omega) (by omega) (by rw [cnt_s1 (show (u i && decide _) = true by rw [c29, decide_eq_true (show nI (ds (a % 64) (a / 64) (mx pl i) (my pl i)) ≤ y from Int32.not_lt.mp c45)]; rfl), hc]) ls (lv_sub hl [2, 3, 4, 1, 0] rfl)
    exact lp 41 0 0 (by omega) (by omega) rfl ls (lv_sub hl [2, 3, 4, 1, 0] rfl)
  · refine lv_iconst (v := (-1)) hx hb dX1_countNear_8 (by decide +kernel) ?_
    exact ci_iretR hQ hx hb hrt hlk dX1_countNear_9 (Or.inl ⟨bnf c5, rfl⟩)

/-- before(i, place) -/
abbrev rm_X1_before : Room := { frames := 1, cells := 0, slots := 0, locals := 24 }
set_option maxHeartbeats 8000000 in
set_option maxRecDepth 100000 in
theorem met_X1_before (l : Launch) (D : va_G) (g : Nat → Nat) (d : Nat → ClassId) (u : Nat → Bool) (pl : Nat → Nat) (lb : Nat → Int32) (i a : Nat) (hi : i < 40) (ha : a < 4096) (hpl : ∀ i, i < 40 → pl i < 4096) : Met l yX1_before (ws_ yX1_before cX1_before 7 (some .int)) rm_X1_before (ci_R D (wM g d u pl lb) (tM d) [.ref (g 0), .int (nI i), .int (nI a)]) (vp_Si (fun r => r = nI (cnt (fun j => u j && lxb (mx pl) (my pl) (a % 64) (a / 64) j i) 40))) 0 0 (fun _ => False) := by
  refine ci_of (by decide) (Nat.le_of_ble_eq_true rfl) ?_
  intro p e s m args below meth c Q0 hx hb hrt hml hown hts hlk hmn hQ hP hK ls hl
  have hown : s.vm.findClass RX1 = some m.cls := hown
  have hl : lv_has ls 7 [(0, .ref (g 0)), (1, .int (nI i)), (2, .int (nI a))] := hl
  refine lv_aload_n hx hb dX1_before_0 rfl (lv_at hl 0 rfl) ?_
  refine lv_aload_n hx hb dX1_before_1 rfl (lv_at hl 0 rfl) ?_
  refine cm_get 1 hx hb hts hown hK hP (by decide) (hts _ q216) rfl dX1_before_2 ?_
  refine lv_iload_n hx hb dX1_before_5 rfl (lv_at hl 1 rfl) ?_
  refine ci_iald hx hb hK hP 2 1 rfl rfl (by omega) (by decide) dX1_before_6 ?_
  refine lv_iload_n hx hb dX1_before_7 rfl (lv_at hl 2 rfl) ?_
  refine vp_callSi (W.runV (As := [.int (nI (pl i)), .int (nI a)]) (rest := []) ⟨hx, hb, hml, hown, hts⟩ (met_X1_distance l D g d u pl lb (pl i) a (hpl i hi) ha) (cwV 2 hts (lw_V q274 q276 qs20 q24 q277) rfl rfl rfl (by decide +kernel) ⟨Nat.le_of_ble_eq_true rfl, Nat.le_of_ble_eq_true rfl⟩) (ci_pre hK hP (ci := 1) (q0 := 0) rfl rfl) rfl rfl hl.1 rfl (lv_room (Nat.le_of_ble_eq_true rfl)) dX1_before_8 ⟨Nat.le_of_ble_eq_true rfl, Nat.le_of_ble_eq_true rfl⟩) (fun r hr => ?_)
  subst hr
  refine lv_istore_n (lv' := [(3, .int (nI (ds (a % 64) (a / 64) ((pl i) % 64) ((pl i) / 64)))), (0, .ref (g 0)), (1, .int (nI i)), (2, .int (nI a))]) hx hb dX1_before_11 rfl hl (by decide) rfl (fun ls hl => ?_)
  refine lv_iconst (v := (nI 0)) hx hb dX1_before_12 (by decide +kernel) ?_
  refine lv_istore (lv' := [(4, .int (nI 0)), (3, .int (nI (ds (a % 64) (a / 64) ((pl i) % 64) ((pl i) / 64)))), (0, .ref (g 0)), (1, .int (nI i)), (2, .int (nI a))]) hx hb dX1_before_13 hl (by decide) rfl (fun ls hl => ?_)
  refine lv_iconst (v := (nI 0)) hx hb dX1_before_15 (by decide +kernel) ?_
  refine lv_istore (lv' := [(5, .int (nI 0)), (4, .int (nI 0)), (3, .int (nI (ds (a % 64) (a / 64) ((pl i) % 64) ((pl i) / 64)))), (0, .ref (g 0)), (1, .int (nI i)), (2, .int (nI a))]) hx hb dX1_before_16 hl (by decide) rfl (fun ls hl => ?_)
  have hdi := ds_le (show a % 64 < 64 by omega) (show a / 64 < 64 by omega) (show pl i % 64 < 64 by omega) (show pl i / 64 < 64 by have := hpl i hi; omega)
  have lp : ∀ (f : Nat) (j cn : Nat), (40 - j < f) → (j ≤ 40) → (cn = cnt (fun j => u j && lxb (mx pl) (my pl) (a % 64) (a / 64) j i) j) → ∀ ls : Array Slot, lv_has ls 7 [(0, .ref (g 0)), (1, .int (nI i)), (2, .int (nI a)), (3, .int (nI (ds (a % 64) (a / 64) (pl i % 64) (pl i / 64)))), (4, .int (nI cn)), (5, .int (nI j))] → W p l e rm_X1_before s m args below meth c s.heap [] 0 0 Q0 (F0 m 18 ls []) := by
    intro f
    induction f with
    | zero => intro j cn hf; exact absurd hf (Nat.not_lt_zero _)
    | succ f ih =>
      intro j cn hf hj hc  ls hl
      refine lv_iload hx hb dX1_before_18 (lv_at hl 5 rfl) ?_
      refine lv_bipush (v := (nI 40)) hx hb dX1_before_20 (by decide +kernel) ?_
      refine ci_icmp_ge (tgt := 76) hx hb dX1_before_22 (by decide) (by omega) (by omega) (fun c22 => ?_) (fun c22 => ?_)
      · refine lv_iload hx hb dX1_before_76 (lv_at hl 4 rfl) ?_
        exact ci_iretR hQ hx hb hrt hlk dX1_before_78 (by rw [hc, show j = 40 by omega])
      · have hpj := hpl j c22
        have hdj := ds_le (show a % 64 < 64 by omega) (show a / 64 < 64 by omega) (show pl j % 64 < 64 by omega) (show pl j / 64 < 64 by omega)
        refine lv_aload_n hx hb dX1_before_25 rfl (lv_at hl 0 rfl) ?_
        refine lv_aload_n hx hb dX1_before_26 rfl (lv_at hl 0 rfl) ?_
        refine cm_get 1 hx hb hts hown hK hP (by decide) (hts _ q216) rfl dX1_before_27 ?_
        refine lv_iload hx hb dX1_before_30 (lv_at hl 5 rfl) ?_
        refine ci_iald hx hb hK hP 2 1 rfl rfl (by omega) (by decide) dX1_before_32 ?_
        refine lv_iload_n hx hb dX1_before_33 rfl (lv_at hl 2 rfl) ?_
        refine vp_callSi (W.runV (As := [.int (nI (pl j)), .int (nI a)]) (rest := []) ⟨hx, hb, hml, hown, hts⟩ (met_X1_distance l D g d u pl lb (pl j) a hpj ha) (cwV 2 hts (lw_V q274 q276 qs20 q24 q277) rfl rfl rfl (by decide +kernel) ⟨Nat.le_of_ble_eq_true rfl, Nat.le_of_ble_eq_true rfl⟩) (ci_pre hK hP (ci := 1) (q0 := 0) rfl rfl) rfl rfl hl.1 rfl (lv_room (Nat.le_of_ble_eq_true rfl)) dX1_before_34 ⟨Nat.le_of_ble_eq_true rfl, Nat.le_of_ble_eq_true rfl⟩) (fun r hr => ?_)
        subst hr
        refine lv_istore (lv' := [(6, .int (nI (ds (a % 64) (a / 64) ((pl j) % 64) ((pl j) / 64)))), (0, .ref (g 0)), (1, .int (nI i)), (2, .int (nI a)), (3, .int (nI (ds (a % 64) (a / 64) (pl i % 64) (pl i / 64)))), (4, .int (nI cn)), (5, .int (nI j))]) hx hb dX1_before_37 hl (by decide) rfl (fun ls hl => ?_)
        refine lv_aload_n hx hb dX1_before_39 rfl (lv_at hl 1 rfl) ?_
        refine cm_get 0 hx hb hts hown hK hP (by decide) (hts _ q215) rfl dX1_before_40 ?_
        refine lv_iload hx hb dX1_before_43 (lv_at hl 6 rfl) ?_
        refine ci_zald hx hb hK hP 1 0 rfl rfl (by omega) (by decide) dX1_before_45 ?_
        refine ci_ifb_eq (tgt := 70) hx hb dX1_before_46 (by decide) (fun c46 => ?_) (fun c46 => ?_)
        · refine lv_iinc (v := (nI (j + 1))) (lv' := [(5, .int (nI (j + 1))), (6, .int (nI (ds (a % 64) (a / 64) ((pl j) % 64) ((pl j) / 64)))), (0, .ref (g 0)), (1, .int (nI i)), (2, .int (nI a)), (3, .int (nI (ds (a % 64) (a / 64) (pl i % 64) (pl i / 64)))), (4, .int (nI cn))]) hx hb dX1_before_70 hl (k := 6) rfl (ci_inc _) (by decide) rfl (fun ls hl => ?_)
          refine lv_goto (tgt := 18) hx hb dX1_before_73 (by decide) ?_
          exact ih (j + 1) _ (by omega) (by omega) (by rw [cnt_s0 (show (u j && lxb (mx pl) (my pl) (a % 64) (a / 64) j i) = false by first | (rw [c46]; rfl) | (rw [show lxb (mx pl) (my pl) (a % 64) (a / 64) j i = false from Bool.eq_false_iff.mpr (fun q => by have := lxb_iff.mp q; unfold mx my at this; omega), Bool.and_false])), hc]) ls (lv_sub hl [2, 3, 4, 5, 6, 0] rfl)
        · refine lv_iload hx hb dX1_before_49 (lv_at hl 0 rfl) ?_
          refine lv_iload_n hx hb dX1_before_51 rfl (lv_at hl 4 rfl) ?_
          refine ci_icmp_lt (tgt := 67) hx hb dX1_before_52 (by decide) (by omega) (by omega) (fun c52 => ?_) (fun c52 => ?_)
          · refine lv_iinc (v := (nI (cn + 1))) (lv' := [(4, .int (nI (cn + 1))), (6, .int (nI (ds (a % 64) (a / 64) ((pl j) % 64) ((pl j) / 64)))), (0, .ref (g 0)), (1, .int (nI i)), (2, .int (nI a)), (3, .int (nI (ds (a % 64) (a / 64) (pl i % 64) (pl i / 64)))), (5, .int (nI j))]) hx hb dX1_before_67 hl (k := 5) rfl (ci_inc _) (by decide) rfl (fun ls hl => ?_)
            refine lv_iinc (v := (nI (j + 1))) (lv' := [(5, .int (nI (j + 1))), (4, .int (nI (cn + 1))), (6, .int (nI (ds (a % 64) (a / 64) ((pl j) % 64) ((pl j) / 64)))), (0, .ref (g 0)), (1, .int (nI i)), (2, .int (nI a)), (3, .int (nI (ds (a % 64) (a / 64) (pl i % 64) (pl i / 64))))]) hx hb dX1_before_70 hl (k := 6) rfl (ci_inc _) (by decide) rfl (fun ls hl => ?_)
            refine lv_goto (tgt := 18) hx hb dX1_before_73 (by decide) ?_
            exact ih (j + 1) _ (by omega) (by omega) (by rw [cnt_s1 (show (u j && lxb (mx pl) (my pl) (a % 64) (a / 64) j i) = true by rw [c46, lxb_iff.mpr (by unfold mx my; omega)]; rfl), hc]) ls (lv_sub hl [3, 4, 5, 6, 1, 0] rfl)
          · refine lv_iload hx hb dX1_before_55 (lv_at hl 0 rfl) ?_
            refine lv_iload_n hx hb dX1_before_57 rfl (lv_at hl 4 rfl) ?_
            refine ci_icmp_ne (tgt := 70) hx hb dX1_before_58 (by decide) (by omega) (by omega) (fun c58 => ?_) (fun c58 => ?_)
            · refine lv_iinc (v := (nI (j + 1))) (lv' := [(5, .int (nI (j + 1))), (6, .int (nI (ds (a % 64) (a / 64) ((pl j) % 64) ((pl j) / 64)))), (0, .ref (g 0)), (1, .int (nI i)), (2, .int (nI a)), (3, .int (nI (ds (a % 64) (a / 64) (pl i % 64) (pl i / 64)))), (4, .int (nI cn))]) hx hb dX1_before_70 hl (k := 6) rfl (ci_inc _) (by decide) rfl (fun ls hl => ?_)
              refine lv_goto (tgt := 18) hx hb dX1_before_73 (by decide) ?_
              exact ih (j + 1) _ (by omega) (by omega) (by rw [cnt_s0 (show (u j && lxb (mx pl) (my pl) (a % 64) (a / 64) j i) = false by first | (rw [c46]; rfl) | (rw [show lxb (mx pl) (my pl) (a % 64) (a / 64) j i = false from Bool.eq_false_iff.mpr (fun q => by have := lxb_iff.mp q; unfold mx my at this; omega), Bool.and_false])), hc]) ls (lv_sub hl [2, 3, 4, 5, 6, 0] rfl)
            · refine lv_iload hx hb dX1_before_61 (lv_at hl 6 rfl) ?_
              refine lv_iload_n hx hb dX1_before_63 rfl (lv_at hl 2 rfl) ?_
              refine ci_icmp_ge (tgt := 70) hx hb dX1_before_64 (by decide) (by omega) (by omega) (fun c64 => ?_) (fun c64 => ?_)
              · refine lv_iinc (v := (nI (j + 1))) (lv' := [(5, .int (nI (j + 1))), (6, .int (nI (ds (a % 64) (a / 64) ((pl j) % 64) ((pl j) / 64)))), (0, .ref (g 0)), (1, .int (nI i)), (2, .int (nI a)), (3, .int (nI (ds (a % 64) (a / 64) (pl i % 64) (pl i / 64)))), (4, .int (nI cn))]) hx hb dX1_before_70 hl (k := 6) rfl (ci_inc _) (by decide) rfl (fun ls hl => ?_)
                refine lv_goto (tgt := 18) hx hb dX1_before_73 (by decide) ?_
                exact ih (j + 1) _ (by omega) (by omega) (by rw [cnt_s0 (show (u j && lxb (mx pl) (my pl) (a % 64) (a / 64) j i) = false by first | (rw [c46]; rfl) | (rw [show lxb (mx pl) (my pl) (a % 64) (a / 64) j i = false from Bool.eq_false_iff.mpr (fun q => by have := lxb_iff.mp q; unfold mx my at this; omega), Bool.and_false])), hc]) ls (lv_sub hl [2, 3, 4, 5, 6, 0] rfl)
              · refine lv_iinc (v := (nI (cn + 1))) (lv' := [(4, .int (nI (cn + 1))), (6, .int (nI (ds (a % 64) (a / 64) ((pl j) % 64) ((pl j) / 64)))), (0, .ref (g 0)), (1, .int (nI i)), (2, .int (nI a)), (3, .int (nI (ds (a % 64) (a / 64) (pl i % 64) (pl i / 64)))), (5, .int (nI j))]) hx hb dX1_before_67 hl (k := 5) rfl (ci_inc _) (by decide) rfl (fun ls hl => ?_)
                refine lv_iinc (v := (nI (j + 1))) (lv' := [(5, .int (nI (j + 1))), (4, .int (nI (cn + 1))), (6, .int (nI (ds (a % 64) (a / 64) ((pl j) % 64) ((pl j) / 64)))), (0, .ref (g 0)), (1, .int (nI i)), (2, .int (nI a)), (3, .int (nI (ds (a % 64) (a / 64) (pl i % 64) (pl i / 64))))]) hx hb dX1_before_70 hl (k := 6) rfl (ci_inc _) (by decide) rfl (fun ls hl => ?_)
                refine lv_goto (tgt := 18) hx hb dX1_before_73 (by decide) ?_
                exact ih (j + 1) _ (by omega) (by omega) (by rw [cnt_s1 (show (u j && lxb (mx pl) (my pl) (a % 64) (a / 64) j i) = true by rw [c46, lxb_iff.mpr (by unfold mx my; omega)]; rfl), hc]) ls (lv_sub hl [3, 4, 5, 6, 1, 0] rfl)
  exact lp 41 0 0 (by omega) (by omega) rfl ls (lv_sub hl [3, 4, 5, 2, 1, 0] rfl)

/-- nearest(place, rank) -/
abbrev rm_X1_nearest : Room := { frames := 2, cells := 0, slots := 0, locals := 50 }
set_option maxHeartbeats 8000000 in
set_option maxRecDepth 100000 in
theorem met_X1_nearest (l : Launch) (D : va_G) (g : Nat → Nat) (d : Nat → ClassId) (u : Nat → Bool) (pl : Nat → Nat) (lb : Nat → Int32) (x y : Int32) (hpl : ∀ i, i < 40 → pl i < 4096) : Met l yX1_nearest (ws_ yX1_nearest cX1_nearest 4 (some .int)) rm_X1_nearest (ci_R D (wM g d u pl lb) (tM d) [.ref (g 0), .int x, .int y]) (vp_Si (fun r => (badP x = true ∧ r = -1) ∨ (∃ a, a < 4096 ∧ x = nI a ∧ ((y < 0 ∧ r = -4) ∨ (∃ rk, rk < 2147483648 ∧ y = nI rk ∧ (((∀ w, w < 40 → u w = true → cnt (fun j => u j && lxb (mx pl) (my pl) (a % 64) (a / 64) j w) 40 ≠ rk) ∧ r = -3) ∨ (∃ w, w < 40 ∧ r = nI w ∧ u w = true ∧ cnt (fun j => u j && lxb (mx pl) (my pl) (a % 64) (a / 64) j w) 40 = rk))))))) 0 0 (fun _ => False) := by
  refine ci_of (by decide) (Nat.le_of_ble_eq_true rfl) ?_
  intro p e s m args below meth c Q0 hx hb hrt hml hown hts hlk hmn hQ hP hK ls hl
  have hown : s.vm.findClass RX1 = some m.cls := hown
  have hl : lv_has ls 4 [(0, .ref (g 0)), (1, .int x), (2, .int y)] := hl
  refine lv_aload_n hx hb dX1_nearest_0 rfl (lv_at hl 0 rfl) ?_
  refine lv_iload_n hx hb dX1_nearest_1 rfl (lv_at hl 1 rfl) ?_
  refine vp_callSi (W.runV (As := [.int x]) (rest := []) ⟨hx, hb, hml, hown, hts⟩ (met_X1_isPlace l D g d u pl lb _) (cwV 1 hts (lw_V q229 q231 qs16 q24 q232) rfl rfl rfl (by decide +kernel) ⟨Nat.le_of_ble_eq_true rfl, Nat.le_of_ble_eq_true rfl⟩) (ci_pre hK hP (ci := 1) (q0 := 0) rfl rfl) rfl rfl hl.1 rfl (lv_room (Nat.le_of_ble_eq_true rfl)) dX1_nearest_2 ⟨Nat.le_of_ble_eq_true rfl, Nat.le_of_ble_eq_true rfl⟩) (fun r hr => ?_)
  subst hr
  refine ci_ifb_ne (tgt := 10) hx hb dX1_nearest_5 (by decide) (fun c5 => ?_) (fun c5 => ?_)
  · have c5b := bnt c5
    obtain ⟨a, ha, rfl⟩ := badP_f c5b
    refine lv_iload_n hx hb dX1_nearest_10 rfl (lv_at hl 2 rfl) ?_
    refine lv_if_ge (tgt := 17) hx hb dX1_nearest_11 (by decide) (fun c11 => ?_) (fun c11 => ?_)
    · obtain ⟨rk, hrk, rfl⟩ := nI_of (Int32.not_lt.mpr c11)
      refine lv_iconst (v := (nI 0)) hx hb dX1_nearest_17 (by decide +kernel) ?_
      refine lv_istore_n (lv' := [(3, .int (nI 0)), (0, .ref (g 0)), (1, .int (nI a)), (2, .int (nI rk))]) hx hb dX1_nearest_18 rfl hl (by decide) rfl (fun ls hl => ?_)
      have lp : ∀ (f : Nat) (w : Nat), (40 - w < f) → (w ≤ 40) → (∀ w1, w1 < w → u w1 = true → cnt (fun j => u j && lxb (mx pl) (my pl) (a % 64) (a / 64) j w1) 40 ≠ rk) → ∀ ls : Array Slot, lv_has ls 4 [(0, .ref (g 0)), (1, .int (nI a)), (2, .int (nI rk)), (3, .int (nI w))] → W p l e rm_X1_nearest s m args below meth c s.heap [] 0 0 Q0 (F0 m 19 ls []) := by
        intro f
        induction f with
        | zero => intro w hf; exact absurd hf (Nat.not_lt_zero _)
        | succ f ih =>
          intro w hf hw hno  ls hl
          refine lv_iload_n hx hb dX1_nearest_19 rfl (lv_at hl 3 rfl) ?_
          refine lv_bipush (v := (nI 40)) hx hb dX1_nearest_20 (by decide +kernel) ?_
          refine ci_icmp_ge (tgt := 52) hx hb dX1_nearest_22 (by decide) (by omega) (by omega) (fun c22 => ?_) (fun c22 => ?_)
          · refine lv_bipush (v := (-3)) hx hb dX1_nearest_52 (by decide +kernel) ?_
            exact ci_iretR hQ hx hb hrt hlk dX1_nearest_54 (Or.inr ⟨a, ha, rfl, Or.inr ⟨rk, hrk, rfl, Or.inl ⟨fun v hv => hno v (by omega), rfl⟩⟩⟩)
          · refine lv_aload_n hx hb dX1_nearest_25 rfl (lv_at hl 0 rfl) ?_
            refine cm_get 0 hx hb hts hown hK hP (by decide) (hts _ q215) rfl dX1_nearest_26 ?_
            refine lv_iload_n hx hb dX1_nearest_29 rfl (lv_at hl 3 rfl) ?_
            refine ci_zald hx hb hK hP 1 0 rfl rfl (by omega) (by decide) dX1_nearest_30 ?_
            refine ci_ifb_eq (tgt := 46) hx hb dX1_nearest_31 (by decide) (fun c31 => ?_) (fun c31 => ?_)
            · refine lv_iinc (v := (nI (w + 1))) (lv' := [(3, .int (nI (w + 1))), (0, .ref (g 0)), (1, .int (nI a)), (2, .int (nI rk))]) hx hb dX1_nearest_46 hl (k := 3) rfl (ci_inc _) (by decide) rfl (fun ls hl => ?_)
              refine lv_goto (tgt := 19) hx hb dX1_nearest_49 (by decide) ?_
              exact ih (w + 1) (by omega) (by omega) (fun v hv uv => by rcases Nat.lt_or_ge v w with q | q; exact hno v q uv; (obtain rfl : v = w := by omega); first | exact c41 | (rw [c31] at uv; cases uv)) ls (lv_sub hl [1, 2, 3, 0] rfl)
            · refine lv_aload_n hx hb dX1_nearest_34 rfl (lv_at hl 0 rfl) ?_
              refine lv_iload_n hx hb dX1_nearest_35 rfl (lv_at hl 3 rfl) ?_
              refine lv_iload_n hx hb dX1_nearest_36 rfl (lv_at hl 1 rfl) ?_
              refine vp_callSi (W.runV (As := [.int (nI w), .int (nI a)]) (rest := []) ⟨hx, hb, hml, hown, hts⟩ (met_X1_before l D g d u pl lb w a (by omega) ha hpl) (cwV 2 hts (lw_V q282 q284 qs21 q24 q285) rfl rfl rfl (by decide +kernel) ⟨Nat.le_of_ble_eq_true rfl, Nat.le_of_ble_eq_true rfl⟩) (ci_pre hK hP (ci := 1) (q0 := 0) rfl rfl) rfl rfl hl.1 rfl (lv_room (Nat.le_of_ble_eq_true rfl)) dX1_nearest_37 ⟨Nat.le_of_ble_eq_true rfl, Nat.le_of_ble_eq_true rfl⟩) (fun r hr => ?_)
              subst hr
              have hcl := cnt_le (fun j => u j && lxb (mx pl) (my pl) (a % 64) (a / 64) j w) 40
              refine lv_iload_n hx hb dX1_nearest_40 rfl (lv_at hl 2 rfl) ?_
              refine ci_icmp_ne (tgt := 46) hx hb dX1_nearest_41 (by decide) (by omega) hrk (fun c41 => ?_) (fun c41 => ?_)
              · refine lv_iinc (v := (nI (w + 1))) (lv' := [(3, .int (nI (w + 1))), (0, .ref (g 0)), (1, .int (nI a)), (2, .int (nI rk))]) hx hb dX1_nearest_46 hl (k := 3) rfl (ci_inc _) (by decide) rfl (fun ls hl => ?_)
                refine lv_goto (tgt := 19) hx hb dX1_nearest_49 (by decide) ?_
                exact ih (w + 1) (by omega) (by omega) (fun v hv uv => by rcases Nat.lt_or_ge v w with q | q; exact hno v q uv; (obtain rfl : v = w := by omega); first | exact c41 | (rw [c31] at uv; cases uv)) ls (lv_sub hl [1, 2, 3, 0] rfl)
              · refine lv_iload_n hx hb dX1_nearest_44 rfl (lv_at hl 3 rfl) ?_
                exact ci_iretR hQ hx hb hrt hlk dX1_nearest_45 (Or.inr ⟨a, ha, rfl, Or.inr ⟨rk, hrk, rfl, Or.inr ⟨w, by omega, rfl, c31, c41⟩⟩⟩)
      exact lp 41 0 (by omega) (by omega) (fun v hv => absurd hv (Nat.not_lt_zero v)) ls (lv_sub hl [1, 2, 3, 0] rfl)
    · refine lv_bipush (v := (-4)) hx hb dX1_nearest_14 (by decide +kernel) ?_
      exact ci_iretR hQ hx hb hrt hlk dX1_nearest_16 (Or.inr ⟨a, ha, rfl, Or.inl ⟨Int32.not_le.mp c11, rfl⟩⟩)
  · refine lv_iconst (v := (-1)) hx hb dX1_nearest_8 (by decide +kernel) ?_
    exact ci_iretR hQ hx hb hrt hlk dX1_nearest_9 (Or.inl ⟨bnf c5, rfl⟩)

/-- firstIn(a, b) -/
abbrev rm_X1_firstIn : Room := { frames := 2, cells := 0, slots := 0, locals := 46 }
set_option maxHeartbeats 8000000 in
set_option maxRecDepth 100000 in
theorem met_X1_firstIn (l : Launch) (D : va_G) (g : Nat → Nat) (d : Nat → ClassId) (u : Nat → Bool) (pl : Nat → Nat) (lb : Nat → Int32) (x y : Int32) (hpl : ∀ i, i < 40 → pl i < 4096) : Met l yX1_firstIn (ws_ yX1_firstIn cX1_firstIn 4 (some .int)) rm_X1_firstIn (ci_R D (wM g d u pl lb) (tM d) [.ref (g 0), .int x, .int y]) (vp_Si (fun r => ((badP x = true ∨ badP y = true) ∧ r = -1) ∨ (∃ a b, a < 4096 ∧ b < 4096 ∧ x = nI a ∧ y = nI b ∧ Fst (bxP u (mx pl) (my pl) a b) r))) 0 0 (fun _ => False) := by
  refine ci_of (by decide) (Nat.le_of_ble_eq_true rfl) ?_
  intro p e s m args below meth c Q0 hx hb hrt hml hown hts hlk hmn hQ hP hK ls hl
  have hown : s.vm.findClass RX1 = some m.cls := hown
  have hl : lv_has ls 4 [(0, .ref (g 0)), (1, .int x), (2, .int y)] := hl
  refine lv_aload_n hx hb dX1_firstIn_0 rfl (lv_at hl 0 rfl) ?_
  refine lv_iload_n hx hb dX1_firstIn_1 rfl (lv_at hl 1 rfl) ?_
  refine vp_callSi (W.runV (As := [.int x]) (rest := []) ⟨hx, hb, hml, hown, hts⟩ (met_X1_isPlace l D g d u pl lb _) (cwV 1 hts (lw_V q229 q231 qs16 q24 q232) rfl rfl rfl (by decide +kernel) ⟨Nat.le_of_ble_eq_true rfl, Nat.le_of_ble_eq_true rfl⟩) (ci_pre hK hP (ci := 1) (q0 := 0) rfl rfl) rfl rfl hl.1 rfl (lv_room (Nat.le_of_ble_eq_true rfl)) dX1_firstIn_2 ⟨Nat.le_of_ble_eq_true rfl, Nat.le_of_ble_eq_true rfl⟩) (fun r hr => ?_)
  subst hr
  refine ci_ifb_eq (tgt := 16) hx hb dX1_firstIn_5 (by decide) (fun c5 => ?_) (fun c5 => ?_)
  · refine lv_iconst (v := (-1)) hx hb dX1_firstIn_16 (by decide +kernel) ?_
    exact ci_iretR hQ hx hb hrt hlk dX1_firstIn_17 (Or.inl ⟨by first | exact Or.inl (bnf c5) | exact Or.inr (bnf c13), rfl⟩)
  · have c5b := bnt c5
    obtain ⟨a, ha, rfl⟩ := badP_f c5b
    refine lv_aload_n hx hb dX1_firstIn_8 rfl (lv_at hl 0 rfl) ?_
    refine lv_iload_n hx hb dX1_firstIn_9 rfl (lv_at hl 2 rfl) ?_
    refine vp_callSi (W.runV (As := [.int y]) (rest := []) ⟨hx, hb, hml, hown, hts⟩ (met_X1_isPlace l D g d u pl lb _) (cwV 1 hts (lw_V q229 q231 qs16 q24 q232) rfl rfl rfl (by decide +kernel) ⟨Nat.le_of_ble_eq_true rfl, Nat.le_of_ble_eq_true rfl⟩) (ci_pre hK hP (ci := 1) (q0 := 0) rfl rfl) rfl rfl hl.1 rfl (lv_room (Nat.le_of_ble_eq_true rfl)) dX1_firstIn_10 ⟨Nat.le_of_ble_eq_true rfl, Nat.le_of_ble_eq_true rfl⟩) (fun r hr => ?_)
    subst hr
    refine ci_ifb_ne (tgt := 18) hx hb dX1_firstIn_13 (by decide) (fun c13 => ?_) (fun c13 => ?_)
    · have c13b := bnt c13
      obtain ⟨b, hb9, rfl⟩ := badP_f c13b
      refine lv_iconst (v := (nI 0)) hx hb dX1_firstIn_18 (by decide +kernel) ?_
      refine lv_istore_n (lv' := [(3, .int (nI 0)), (0, .ref (g 0)), (1, .int (nI a)), (2, .int (nI b))]) hx hb dX1_firstIn_19 rfl hl (by decide) rfl (fun ls hl => ?_)
      have lp : ∀ (f : Nat) (i : Nat), (40 - i < f) → (i ≤ 40) → (∀ y, y < i → (bxP u (mx pl) (my pl) a b) y = false) → ∀ ls : Array Slot, lv_has ls 4 [(0, .ref (g 0)), (1, .int (nI a)), (2, .int (nI b)), (3, .int (nI i))] → W p l e rm_X1_firstIn s m args below meth c s.heap [] 0 0 Q0 (F0 m 20 ls []) := by
        intro f
        induction f with
        | zero => intro i hf; exact absurd hf (Nat.not_lt_zero _)
        | succ f ih =>
          intro i hf hi hno  ls hl
          refine lv_iload_n hx hb dX1_firstIn_20 rfl (lv_at hl 3 rfl) ?_
          refine lv_bipush (v := (nI 40)) hx hb dX1_firstIn_21 (by decide +kernel) ?_
          refine ci_icmp_ge (tgt := 44) hx hb dX1_firstIn_23 (by decide) (by omega) (by omega) (fun c23 => ?_) (fun c23 => ?_)
          · refine lv_bipush (v := (-3)) hx hb dX1_firstIn_44 (by decide +kernel) ?_
            exact ci_iretR hQ hx hb hrt hlk dX1_firstIn_46 (Or.inr ⟨a, b, ha, hb9, rfl, rfl, Or.inl ⟨rfl, fun v hv => hno v (by omega)⟩⟩)
          · refine lv_aload_n hx hb dX1_firstIn_26 rfl (lv_at hl 0 rfl) ?_
            refine lv_iload_n hx hb dX1_firstIn_27 rfl (lv_at hl 3 rfl) ?_
            refine lv_iload_n hx hb dX1_firstIn_28 rfl (lv_at hl 1 rfl) ?_
            refine lv_iload_n hx hb dX1_firstIn_29 rfl (lv_at hl 2 rfl) ?_
            refine vp_callSi (W.runV (As := [.int (nI i), .int (nI a), .int (nI b)]) (rest := []) ⟨hx, hb, hml, hown, hts⟩ (met_X1_inBox l D g d u pl lb i a b (by omega) ha hb9 (hpl i (by omega))) (cwV 3 hts (lw_V q257 q259 qs18 q24 q260) rfl rfl rfl (by decide +kernel) ⟨Nat.le_of_ble_eq_true rfl, Nat.le_of_ble_eq_true rfl⟩) (ci_pre hK hP (ci := 1) (q0 := 0) rfl rfl) rfl rfl hl.1 rfl (lv_room (Nat.le_of_ble_eq_true rfl)) dX1_firstIn_30 ⟨Nat.le_of_ble_eq_true rfl, Nat.le_of_ble_eq_true rfl⟩) (fun r hr => ?_)
            subst hr
            refine ci_ifb_eq (tgt := 38) hx hb dX1_firstIn_33 (by decide) (fun c33 => ?_) (fun c33 => ?_)
            · refine lv_iinc (v := (nI (i + 1))) (lv' := [(3, .int (nI (i + 1))), (0, .ref (g 0)), (1, .int (nI a)), (2, .int (nI b))]) hx hb dX1_firstIn_38 hl (k := 3) rfl (ci_inc _) (by decide) rfl (fun ls hl => ?_)
              refine lv_goto (tgt := 20) hx hb dX1_firstIn_41 (by decide) ?_
              exact ih (i + 1) (by omega) (by omega) (fun v hv => by rcases Nat.lt_or_ge v i with q | q; exact hno v q; rw [show v = i by omega]; exact c33) ls (lv_sub hl [1, 2, 3, 0] rfl)
            · refine lv_iload_n hx hb dX1_firstIn_36 rfl (lv_at hl 3 rfl) ?_
              exact ci_iretR hQ hx hb hrt hlk dX1_firstIn_37 (Or.inr ⟨a, b, ha, hb9, rfl, rfl, Or.inr ⟨i, by omega, rfl, c33, hno⟩⟩)
      exact lp 41 0 (by omega) (by omega) (fun v hv => absurd hv (Nat.not_lt_zero v)) ls (lv_sub hl [1, 2, 3, 0] rfl)
    · refine lv_iconst (v := (-1)) hx hb dX1_firstIn_16 (by decide +kernel) ?_
      exact ci_iretR hQ hx hb hrt hlk dX1_firstIn_17 (Or.inl ⟨by first | exact Or.inl (bnf c5) | exact Or.inr (bnf c13), rfl⟩)

/-- placeOf -/
abbrev rm_X1_placeOf : Room := { frames := 1, cells := 0, slots := 0, locals := 21 }
set_option maxHeartbeats 8000000 in
set_option maxRecDepth 100000 in
theorem met_X1_placeOf (l : Launch) (D : va_G) (g : Nat → Nat) (d : Nat → ClassId) (u : Nat → Bool) (pl : Nat → Nat) (lb : Nat → Int32) (x : Int32)  : Met l yX1_placeOf (ws_ yX1_placeOf cX1_placeOf 2 (some .int)) rm_X1_placeOf (ci_R D (wM g d u pl lb) (tM d) [.ref (g 0), .int x]) (vp_Si (fun r => (noP u x = true ∧ r = -3) ∨ (∃ pt, pt < 40 ∧ x = nI pt ∧ u pt = true ∧ r = nI (pl pt)))) 0 0 (fun _ => False) := by
  refine ci_of (by decide) (Nat.le_of_ble_eq_true rfl) ?_
  intro p e s m args below meth c Q0 hx hb hrt hml hown hts hlk hmn hQ hP hK ls hl
  have hown : s.vm.findClass RX1 = some m.cls := hown
  have hl : lv_has ls 2 [(0, .ref (g 0)), (1, .int x)] := hl
  refine lv_aload_n hx hb dX1_placeOf_0 rfl (lv_at hl 0 rfl) ?_
  refine lv_iload_n hx hb dX1_placeOf_1 rfl (lv_at hl 1 rfl) ?_
  refine vp_callSi (W.runV (As := [.int x]) (rest := []) ⟨hx, hb, hml, hown, hts⟩ (met_X1_isPoint l D g d u pl lb _) (cwV 1 hts (lw_V q237 q239 qs17 q24 q240) rfl rfl rfl (by decide +kernel) ⟨Nat.le_of_ble_eq_true rfl, Nat.le_of_ble_eq_true rfl⟩) (ci_pre hK hP (ci := 1) (q0 := 0) rfl rfl) rfl rfl hl.1 rfl (lv_room (Nat.le_of_ble_eq_true rfl)) dX1_placeOf_2 ⟨Nat.le_of_ble_eq_true rfl, Nat.le_of_ble_eq_true rfl⟩) (fun r hr => ?_)
  subst hr
  refine ci_ifb_eq (tgt := 17) hx hb dX1_placeOf_5 (by decide) (fun c5 => ?_) (fun c5 => ?_)
  · refine lv_bipush (v := (-3)) hx hb dX1_placeOf_17 (by decide +kernel) ?_
    exact ci_iretR hQ hx hb hrt hlk dX1_placeOf_19 (Or.inl ⟨bnf c5, rfl⟩)
  · have c5b := bnt c5
    obtain ⟨pt, hpt, rfl, hu⟩ := noP_f c5b
    refine lv_aload_n hx hb dX1_placeOf_8 rfl (lv_at hl 0 rfl) ?_
    refine cm_get 1 hx hb hts hown hK hP (by decide) (hts _ q216) rfl dX1_placeOf_9 ?_
    refine lv_iload_n hx hb dX1_placeOf_12 rfl (lv_at hl 1 rfl) ?_
    refine ci_iald hx hb hK hP 2 1 rfl rfl (by omega) (by decide) dX1_placeOf_13 ?_
    refine lv_goto (tgt := 19) hx hb dX1_placeOf_14 (by decide) ?_
    exact ci_iretR hQ hx hb hrt hlk dX1_placeOf_19 (Or.inr ⟨pt, hpt, rfl, hu, rfl⟩)

/-- labelOf -/
abbrev rm_X1_labelOf : Room := { frames := 1, cells := 0, slots := 0, locals := 21 }
set_option maxHeartbeats 8000000 in
set_option maxRecDepth 100000 in
theorem met_X1_labelOf (l : Launch) (D : va_G) (g : Nat → Nat) (d : Nat → ClassId) (u : Nat → Bool) (pl : Nat → Nat) (lb : Nat → Int32) (x : Int32)  : Met l yX1_labelOf (ws_ yX1_labelOf cX1_labelOf 2 (some .int)) rm_X1_labelOf (ci_R D (wM g d u pl lb) (tM d) [.ref (g 0), .int x]) (vp_Si (fun r => (noP u x = true ∧ r = nI 0) ∨ (∃ pt, pt < 40 ∧ x = nI pt ∧ u pt = true ∧ r = lb pt))) 0 0 (fun _ => False) := by
  refine ci_of (by decide) (Nat.le_of_ble_eq_true rfl) ?_
  intro p e s m args below meth c Q0 hx hb hrt hml hown hts hlk hmn hQ hP hK ls hl
  have hown : s.vm.findClass RX1 = some m.cls := hown
  have hl : lv_has ls 2 [(0, .ref (g 0)), (1, .int x)] := hl
  refine lv_aload_n hx hb dX1_labelOf_0 rfl (lv_at hl 0 rfl) ?_
  refine lv_iload_n hx hb dX1_labelOf_1 rfl (lv_at hl 1 rfl) ?_
  refine vp_callSi (W.runV (As := [.int x]) (rest := []) ⟨hx, hb, hml, hown, hts⟩ (met_X1_isPoint l D g d u pl lb _) (cwV 1 hts (lw_V q237 q239 qs17 q24 q240) rfl rfl rfl (by decide +kernel) ⟨Nat.le_of_ble_eq_true rfl, Nat.le_of_ble_eq_true rfl⟩) (ci_pre hK hP (ci := 1) (q0 := 0) rfl rfl) rfl rfl hl.1 rfl (lv_room (Nat.le_of_ble_eq_true rfl)) dX1_labelOf_2 ⟨Nat.le_of_ble_eq_true rfl, Nat.le_of_ble_eq_true rfl⟩) (fun r hr => ?_)
  subst hr
  refine ci_ifb_eq (tgt := 17) hx hb dX1_labelOf_5 (by decide) (fun c5 => ?_) (fun c5 => ?_)
  · refine lv_iconst (v := (nI 0)) hx hb dX1_labelOf_17 (by decide +kernel) ?_
    exact ci_iretR hQ hx hb hrt hlk dX1_labelOf_18 (Or.inl ⟨bnf c5, rfl⟩)
  · have c5b := bnt c5
    obtain ⟨pt, hpt, rfl, hu⟩ := noP_f c5b
    refine lv_aload_n hx hb dX1_labelOf_8 rfl (lv_at hl 0 rfl) ?_
    refine cm_get 2 hx hb hts hown hK hP (by decide) (hts _ q217) rfl dX1_labelOf_9 ?_
    refine lv_iload_n hx hb dX1_labelOf_12 rfl (lv_at hl 1 rfl) ?_
    refine ci_rald hx hb hK hP 3 2 rfl rfl (by omega) (by decide) dX1_labelOf_13 ?_
    refine lv_goto (tgt := 18) hx hb dX1_labelOf_14 (by decide) ?_
    exact ci_iretR hQ hx hb hrt hlk dX1_labelOf_18 (Or.inr ⟨pt, hpt, rfl, hu, rfl⟩)

/-- closest() -/
abbrev rm_X1_closest : Room := { frames := 1, cells := 0, slots := 0, locals := 24 }
set_option maxHeartbeats 8000000 in
set_option maxRecDepth 100000 in
theorem met_X1_closest (l : Launch) (D : va_G) (g : Nat → Nat) (d : Nat → ClassId) (u : Nat → Bool) (pl : Nat → Nat) (lb : Nat → Int32)  (hpl : ∀ i, i < 40 → pl i < 4096) : Met l yX1_closest (ws_ yX1_closest cX1_closest 6 (some .int)) rm_X1_closest (ci_R D (wM g d u pl lb) (tM d) [.ref (g 0)]) (vp_Si (fun r => Cls u (mx pl) (my pl) r)) 0 0 (fun _ => False) := by
  refine ci_of (by decide) (Nat.le_of_ble_eq_true rfl) ?_
  intro p e s m args below meth c Q0 hx hb hrt hml hown hts hlk hmn hQ hP hK ls hl
  have hown : s.vm.findClass RX1 = some m.cls := hown
  have hl : lv_has ls 6 [(0, .ref (g 0))] := hl
  refine lv_bipush (v := (-3)) hx hb dX1_closest_0 (by decide +kernel) ?_
  refine lv_istore_n (lv' := [(1, .int (-3)), (0, .ref (g 0))]) hx hb dX1_closest_2 rfl hl (by decide) rfl (fun ls hl => ?_)
  refine lv_iconst (v := (nI 0)) hx hb dX1_closest_3 (by decide +kernel) ?_
  refine lv_istore_n (lv' := [(2, .int (nI 0)), (1, .int (-3)), (0, .ref (g 0))]) hx hb dX1_closest_4 rfl hl (by decide) rfl (fun ls hl => ?_)
  have lp : ∀ (f : Nat) (t : Nat) (fi : Int32), (1600 - t < f) → (t ≤ 1600) → (Lst u pl t fi) → ∀ ls : Array Slot, lv_has ls 6 [(0, .ref (g 0)), (1, .int fi), (2, .int (nI t))] → W p l e rm_X1_closest s m args below meth c s.heap [] 0 0 Q0 (F0 m 5 ls []) := by
    intro f
    induction f with
    | zero => intro t fi hf; exact absurd hf (Nat.not_lt_zero _)
    | succ f ih =>
      intro t fi hf ht hL  ls hl
      have hcase : fi = -3 ∨ ∃ b, b ≤ 7938 ∧ fi = nI b := by
        rcases hL with ⟨e, -⟩ | ⟨b, hb, e, -⟩
        · exact Or.inl e
        · exact Or.inr ⟨b, hb, e⟩
      rcases hcase with rfl | ⟨b, hb7, rfl⟩
      · refine lv_iload_n hx hb dX1_closest_5 rfl (lv_at hl 2 rfl) ?_
        refine lv_sipush (v := (nI 1600)) hx hb dX1_closest_6 (by decide +kernel) ?_
        refine ci_icmp_ge (tgt := 109) hx hb dX1_closest_9 (by decide) (by omega) (by omega) (fun c9 => ?_) (fun c9 => ?_)
        · refine lv_iload_n hx hb dX1_closest_109 rfl (lv_at hl 1 rfl) ?_
          exact ci_iretR hQ hx hb hrt hlk dX1_closest_110 (Lst_end (by rw [show t = 1600 by omega] at hL; exact hL))
        · have hp1 := hpl (t / 40) (by omega)
          have hp2 := hpl (t % 40) (by omega)
          have hdl := ds_le (show mx pl (t / 40) < 64 by unfold mx; omega) (show my pl (t / 40) < 64 by unfold my; omega) (show mx pl (t % 40) < 64 by unfold mx; omega) (show my pl (t % 40) < 64 by unfold my; omega)
          refine lv_iload_n hx hb dX1_closest_12 rfl (lv_at hl 2 rfl) ?_
          refine lv_bipush (v := (nI 40)) hx hb dX1_closest_13 (by decide +kernel) ?_
          refine ci_idiv hx hb dX1_closest_15 (by omega) (by omega) (by omega) ?_
          refine lv_istore_n (lv' := [(3, .int (nI (t / 40))), (0, .ref (g 0)), (1, .int (-3)), (2, .int (nI t))]) hx hb dX1_closest_16 rfl hl (by decide) rfl (fun ls hl => ?_)
          refine lv_iload_n hx hb dX1_closest_17 rfl (lv_at hl 3 rfl) ?_
          refine lv_bipush (v := (nI 40)) hx hb dX1_closest_18 (by decide +kernel) ?_
          refine ci_irem hx hb dX1_closest_20 (by omega) (by omega) (by omega) ?_
          refine lv_istore (lv' := [(4, .int (nI (t % 40))), (3, .int (nI (t / 40))), (0, .ref (g 0)), (1, .int (-3)), (2, .int (nI t))]) hx hb dX1_closest_21 hl (by decide) rfl (fun ls hl => ?_)
          refine lv_iload_n hx hb dX1_closest_23 rfl (lv_at hl 1 rfl) ?_
          refine lv_iload hx hb dX1_closest_24 (lv_at hl 0 rfl) ?_
          refine ci_icmp_ge (tgt := 52) hx hb dX1_closest_26 (by decide) (by omega) (by omega) (fun c26 => ?_) (fun c26 => ?_)
          · refine lv_iconst (v := (nI 0)) hx hb dX1_closest_52 (by decide +kernel) ?_
            refine lv_istore (lv' := [(5, .int (nI 0)), (4, .int (nI (t % 40))), (3, .int (nI (t / 40))), (0, .ref (g 0)), (1, .int (-3)), (2, .int (nI t))]) hx hb dX1_closest_53 hl (by decide) rfl (fun ls hl => ?_)
            refine lv_iload hx hb dX1_closest_55 (lv_at hl 0 rfl) ?_
            refine ci_ifn_eq (tgt := 103) hx hb dX1_closest_57 (by decide) (by decide) (fun c57 => ?_) (fun c57 => ?_)
            · refine lv_iinc (v := (nI (t + 1))) (lv' := [(2, .int (nI (t + 1))), (5, .int (nI 0)), (4, .int (nI (t % 40))), (3, .int (nI (t / 40))), (0, .ref (g 0)), (1, .int (-3))]) hx hb dX1_closest_103 hl (k := 5) rfl (ci_inc _) (by decide) rfl (fun ls hl => ?_)
              refine lv_goto (tgt := 5) hx hb dX1_closest_106 (by decide) ?_
              exact ih (t + 1) _ (by omega) (by omega) (Lst_no hL (fun q => by first | (have := q.1; omega) | exact absurd q.2.1 (by rw [c35]; decide) | exact absurd q.2.2 (by rw [c45]; decide))) ls (lv_sub hl [4, 5, 0] rfl)
            · exact absurd rfl c57
          · refine lv_aload_n hx hb dX1_closest_29 rfl (lv_at hl 2 rfl) ?_
            refine cm_get 0 hx hb hts hown hK hP (by decide) (hts _ q215) rfl dX1_closest_30 ?_
            refine lv_iload_n hx hb dX1_closest_33 rfl (lv_at hl 1 rfl) ?_
            refine ci_zald hx hb hK hP 1 0 rfl rfl (by omega) (by decide) dX1_closest_34 ?_
            refine ci_ifb_eq (tgt := 52) hx hb dX1_closest_35 (by decide) (fun c35 => ?_) (fun c35 => ?_)
            · refine lv_iconst (v := (nI 0)) hx hb dX1_closest_52 (by decide +kernel) ?_
              refine lv_istore (lv' := [(5, .int (nI 0)), (4, .int (nI (t % 40))), (3, .int (nI (t / 40))), (0, .ref (g 0)), (1, .int (-3)), (2, .int (nI t))]) hx hb dX1_closest_53 hl (by decide) rfl (fun ls hl => ?_)
              refine lv_iload hx hb dX1_closest_55 (lv_at hl 0 rfl) ?_
              refine ci_ifn_eq (tgt := 103) hx hb dX1_closest_57 (by decide) (by decide) (fun c57 => ?_) (fun c57 => ?_)
              · refine lv_iinc (v := (nI (t + 1))) (lv' := [(2, .int (nI (t + 1))), (5, .int (nI 0)), (4, .int (nI (t % 40))), (3, .int (nI (t / 40))), (0, .ref (g 0)), (1, .int (-3))]) hx hb dX1_closest_103 hl (k := 5) rfl (ci_inc _) (by decide) rfl (fun ls hl => ?_)
                refine lv_goto (tgt := 5) hx hb dX1_closest_106 (by decide) ?_
                exact ih (t + 1) _ (by omega) (by omega) (Lst_no hL (fun q => by first | (have := q.1; omega) | exact absurd q.2.1 (by rw [c35]; decide) | exact absurd q.2.2 (by rw [c45]; decide))) ls (lv_sub hl [4, 5, 0] rfl)
              · exact absurd rfl c57
            · refine lv_aload_n hx hb dX1_closest_38 rfl (lv_at hl 2 rfl) ?_
              refine cm_get 0 hx hb hts hown hK hP (by decide) (hts _ q215) rfl dX1_closest_39 ?_
              refine lv_iload hx hb dX1_closest_42 (lv_at hl 0 rfl) ?_
              refine ci_zald hx hb hK hP 1 0 rfl rfl (by omega) (by decide) dX1_closest_44 ?_
              refine ci_ifb_eq (tgt := 52) hx hb dX1_closest_45 (by decide) (fun c45 => ?_) (fun c45 => ?_)
              · refine lv_iconst (v := (nI 0)) hx hb dX1_closest_52 (by decide +kernel) ?_
                refine lv_istore (lv' := [(5, .int (nI 0)), (4, .int (nI (t % 40))), (3, .int (nI (t / 40))), (0, .ref (g 0)), (1, .int (-3)), (2, .int (nI t))]) hx hb dX1_closest_53 hl (by decide) rfl (fun ls hl => ?_)
                refine lv_iload hx hb dX1_closest_55 (lv_at hl 0 rfl) ?_
                refine ci_ifn_eq (tgt := 103) hx hb dX1_closest_57 (by decide) (by decide) (fun c57 => ?_) (fun c57 => ?_)
                · refine lv_iinc (v := (nI (t + 1))) (lv' := [(2, .int (nI (t + 1))), (5, .int (nI 0)), (4, .int (nI (t % 40))), (3, .int (nI (t / 40))), (0, .ref (g 0)), (1, .int (-3))]) hx hb dX1_closest_103 hl (k := 5) rfl (ci_inc _) (by decide) rfl (fun ls hl => ?_)
                  refine lv_goto (tgt := 5) hx hb dX1_closest_106 (by decide) ?_
                  exact ih (t + 1) _ (by omega) (by omega) (Lst_no hL (fun q => by first | (have := q.1; omega) | exact absurd q.2.1 (by rw [c35]; decide) | exact absurd q.2.2 (by rw [c45]; decide))) ls (lv_sub hl [4, 5, 0] rfl)
                · exact absurd rfl c57
              · refine lv_iconst (v := (nI 1)) hx hb dX1_closest_48 (by decide +kernel) ?_
                refine lv_goto (tgt := 53) hx hb dX1_closest_49 (by decide) ?_
                refine lv_istore (lv' := [(5, .int (nI 1)), (4, .int (nI (t % 40))), (3, .int (nI (t / 40))), (0, .ref (g 0)), (1, .int (-3)), (2, .int (nI t))]) hx hb dX1_closest_53 hl (by decide) rfl (fun ls hl => ?_)
                refine lv_iload hx hb dX1_closest_55 (lv_at hl 0 rfl) ?_
                refine ci_ifn_eq (tgt := 103) hx hb dX1_closest_57 (by decide) (by decide) (fun c57 => ?_) (fun c57 => ?_)
                · exact absurd c57 (by decide)
                · refine lv_iload_n hx hb dX1_closest_60 rfl (lv_at hl 4 rfl) ?_
                  refine lv_if_lt (tgt := 85) hx hb dX1_closest_61 (by decide) (fun c61 => ?_) (fun c61 => ?_)
                  · refine lv_aload_n hx hb dX1_closest_85 rfl (lv_at hl 3 rfl) ?_
                    refine lv_aload_n hx hb dX1_closest_86 rfl (lv_at hl 3 rfl) ?_
                    refine cm_get 1 hx hb hts hown hK hP (by decide) (hts _ q216) rfl dX1_closest_87 ?_
                    refine lv_iload_n hx hb dX1_closest_90 rfl (lv_at hl 2 rfl) ?_
                    refine ci_iald hx hb hK hP 2 1 rfl rfl (by omega) (by decide) dX1_closest_91 ?_
                    refine lv_aload_n hx hb dX1_closest_92 rfl (lv_at hl 3 rfl) ?_
                    refine cm_get 1 hx hb hts hown hK hP (by decide) (hts _ q216) rfl dX1_closest_93 ?_
                    refine lv_iload hx hb dX1_closest_96 (lv_at hl 1 rfl) ?_
                    refine ci_iald hx hb hK hP 2 1 rfl rfl (by omega) (by decide) dX1_closest_98 ?_
                    refine vp_callSi (W.runV (As := [.int (nI (pl (t / 40))), .int (nI (pl (t % 40)))]) (rest := []) ⟨hx, hb, hml, hown, hts⟩ (met_X1_distance l D g d u pl lb (pl (t / 40)) (pl (t % 40)) hp1 hp2) (cwV 2 hts (lw_V q274 q276 qs20 q24 q277) rfl rfl rfl (by decide +kernel) ⟨Nat.le_of_ble_eq_true rfl, Nat.le_of_ble_eq_true rfl⟩) (ci_pre hK hP (ci := 1) (q0 := 0) rfl rfl) rfl rfl hl.1 rfl (lv_room (Nat.le_of_ble_eq_true rfl)) dX1_closest_99 ⟨Nat.le_of_ble_eq_true rfl, Nat.le_of_ble_eq_true rfl⟩) (fun r hr => ?_)
                    subst hr
                    refine ci_top (b := ds (mx pl (t / 40)) (my pl (t / 40)) (mx pl (t % 40)) (my pl (t % 40))) (ds_comm _ _ _ _) ?_
                    refine lv_istore_n (lv' := [(1, .int (nI (ds (mx pl (t / 40)) (my pl (t / 40)) (mx pl (t % 40)) (my pl (t % 40))))), (5, .int (nI 1)), (4, .int (nI (t % 40))), (3, .int (nI (t / 40))), (0, .ref (g 0)), (2, .int (nI t))]) hx hb dX1_closest_102 rfl hl (by decide) rfl (fun ls hl => ?_)
                    refine lv_iinc (v := (nI (t + 1))) (lv' := [(2, .int (nI (t + 1))), (1, .int (nI (ds (mx pl (t / 40)) (my pl (t / 40)) (mx pl (t % 40)) (my pl (t % 40))))), (5, .int (nI 1)), (4, .int (nI (t % 40))), (3, .int (nI (t / 40))), (0, .ref (g 0))]) hx hb dX1_closest_103 hl (k := 5) rfl (ci_inc _) (by decide) rfl (fun ls hl => ?_)
                    refine lv_goto (tgt := 5) hx hb dX1_closest_106 (by decide) ?_
                    exact ih (t + 1) _ (by omega) (by omega) (Lst_new hpl (by omega) hL ⟨c26, c35, c45⟩ (fun c hc e => absurd (show nI c < 0 by rw [← e]; decide +kernel) (nI_pos (by omega))) rfl) ls (lv_sub hl [5, 1, 0] rfl)
                  · exact absurd (by decide +kernel) c61
      · refine lv_iload_n hx hb dX1_closest_5 rfl (lv_at hl 2 rfl) ?_
        refine lv_sipush (v := (nI 1600)) hx hb dX1_closest_6 (by decide +kernel) ?_
        refine ci_icmp_ge (tgt := 109) hx hb dX1_closest_9 (by decide) (by omega) (by omega) (fun c9 => ?_) (fun c9 => ?_)
        · refine lv_iload_n hx hb dX1_closest_109 rfl (lv_at hl 1 rfl) ?_
          exact ci_iretR hQ hx hb hrt hlk dX1_closest_110 (Lst_end (by rw [show t = 1600 by omega] at hL; exact hL))
        · have hp1 := hpl (t / 40) (by omega)
          have hp2 := hpl (t % 40) (by omega)
          have hdl := ds_le (show mx pl (t / 40) < 64 by unfold mx; omega) (show my pl (t / 40) < 64 by unfold my; omega) (show mx pl (t % 40) < 64 by unfold mx; omega) (show my pl (t % 40) < 64 by unfold my; omega)
          refine lv_iload_n hx hb dX1_closest_12 rfl (lv_at hl 2 rfl) ?_
          refine lv_bipush (v := (nI 40)) hx hb dX1_closest_13 (by decide +kernel) ?_
          refine ci_idiv hx hb dX1_closest_15 (by omega) (by omega) (by omega) ?_
          refine lv_istore_n (lv' := [(3, .int (nI (t / 40))), (0, .ref (g 0)), (1, .int (nI b)), (2, .int (nI t))]) hx hb dX1_closest_16 rfl hl (by decide) rfl (fun ls hl => ?_)
          refine lv_iload_n hx hb dX1_closest_17 rfl (lv_at hl 3 rfl) ?_
          refine lv_bipush (v := (nI 40)) hx hb dX1_closest_18 (by decide +kernel) ?_
          refine ci_irem hx hb dX1_closest_20 (by omega) (by omega) (by omega) ?_
          refine lv_istore (lv' := [(4, .int (nI (t % 40))), (3, .int (nI (t / 40))), (0, .ref (g 0)), (1, .int (nI b)), (2, .int (nI t))]) hx hb dX1_closest_21 hl (by decide) rfl (fun ls hl => ?_)
          refine lv_iload_n hx hb dX1_closest_23 rfl (lv_at hl 1 rfl) ?_
          refine lv_iload hx hb dX1_closest_24 (lv_at hl 0 rfl) ?_
          refine ci_icmp_ge (tgt := 52) hx hb dX1_closest_26 (by decide) (by omega) (by omega) (fun c26 => ?_) (fun c26 => ?_)
          · refine lv_iconst (v := (nI 0)) hx hb dX1_closest_52 (by decide +kernel) ?_
            refine lv_istore (lv' := [(5, .int (nI 0)), (4, .int (nI (t % 40))), (3, .int (nI (t / 40))), (0, .ref (g 0)), (1, .int (nI b)), (2, .int (nI t))]) hx hb dX1_closest_53 hl (by decide) rfl (fun ls hl => ?_)
            refine lv_iload hx hb dX1_closest_55 (lv_at hl 0 rfl) ?_
            refine ci_ifn_eq (tgt := 103) hx hb dX1_closest_57 (by decide) (by decide) (fun c57 => ?_) (fun c57 => ?_)
            · refine lv_iinc (v := (nI (t + 1))) (lv' := [(2, .int (nI (t + 1))), (5, .int (nI 0)), (4, .int (nI (t % 40))), (3, .int (nI (t / 40))), (0, .ref (g 0)), (1, .int (nI b))]) hx hb dX1_closest_103 hl (k := 5) rfl (ci_inc _) (by decide) rfl (fun ls hl => ?_)
              refine lv_goto (tgt := 5) hx hb dX1_closest_106 (by decide) ?_
              exact ih (t + 1) _ (by omega) (by omega) (Lst_no hL (fun q => by first | (have := q.1; omega) | exact absurd q.2.1 (by rw [c35]; decide) | exact absurd q.2.2 (by rw [c45]; decide))) ls (lv_sub hl [4, 5, 0] rfl)
            · exact absurd rfl c57
          · refine lv_aload_n hx hb dX1_closest_29 rfl (lv_at hl 2 rfl) ?_
            refine cm_get 0 hx hb hts hown hK hP (by decide) (hts _ q215) rfl dX1_closest_30 ?_
            refine lv_iload_n hx hb dX1_closest_33 rfl (lv_at hl 1 rfl) ?_
            refine ci_zald hx hb hK hP 1 0 rfl rfl (by omega) (by decide) dX1_closest_34 ?_
            refine ci_ifb_eq (tgt := 52) hx hb dX1_closest_35 (by decide) (fun c35 => ?_) (fun c35 => ?_)
            · refine lv_iconst (v := (nI 0)) hx hb dX1_closest_52 (by decide +kernel) ?_
              refine lv_istore (lv' := [(5, .int (nI 0)), (4, .int (nI (t % 40))), (3, .int (nI (t / 40))), (0, .ref (g 0)), (1, .int (nI b)), (2, .int (nI t))]) hx hb dX1_closest_53 hl (by decide) rfl (fun ls hl => ?_)
              refine lv_iload hx hb dX1_closest_55 (lv_at hl 0 rfl) ?_
              refine ci_ifn_eq (tgt := 103) hx hb dX1_closest_57 (by decide) (by decide) (fun c57 => ?_) (fun c57 => ?_)
              · refine lv_iinc (v := (nI (t + 1))) (lv' := [(2, .int (nI (t + 1))), (5, .int (nI 0)), (4, .int (nI (t % 40))), (3, .int (nI (t / 40))), (0, .ref (g 0)), (1, .int (nI b))]) hx hb dX1_closest_103 hl (k := 5) rfl (ci_inc _) (by decide) rfl (fun ls hl => ?_)
                refine lv_goto (tgt := 5) hx hb dX1_closest_106 (by decide) ?_
                exact ih (t + 1) _ (by omega) (by omega) (Lst_no hL (fun q => by first | (have := q.1; omega) | exact absurd q.2.1 (by rw [c35]; decide) | exact absurd q.2.2 (by rw [c45]; decide))) ls (lv_sub hl [4, 5, 0] rfl)
              · exact absurd rfl c57
            · refine lv_aload_n hx hb dX1_closest_38 rfl (lv_at hl 2 rfl) ?_
              refine cm_get 0 hx hb hts hown hK hP (by decide) (hts _ q215) rfl dX1_closest_39 ?_
              refine lv_iload hx hb dX1_closest_42 (lv_at hl 0 rfl) ?_
              refine ci_zald hx hb hK hP 1 0 rfl rfl (by omega) (by decide) dX1_closest_44 ?_
              refine ci_ifb_eq (tgt := 52) hx hb dX1_closest_45 (by decide) (fun c45 => ?_) (fun c45 => ?_)
              · refine lv_iconst (v := (nI 0)) hx hb dX1_closest_52 (by decide +kernel) ?_
                refine lv_istore (lv' := [(5, .int (nI 0)), (4, .int (nI (t % 40))), (3, .int (nI (t / 40))), (0, .ref (g 0)), (1, .int (nI b)), (2, .int (nI t))]) hx hb dX1_closest_53 hl (by decide) rfl (fun ls hl => ?_)
                refine lv_iload hx hb dX1_closest_55 (lv_at hl 0 rfl) ?_
                refine ci_ifn_eq (tgt := 103) hx hb dX1_closest_57 (by decide) (by decide) (fun c57 => ?_) (fun c57 => ?_)
                · refine lv_iinc (v := (nI (t + 1))) (lv' := [(2, .int (nI (t + 1))), (5, .int (nI 0)), (4, .int (nI (t % 40))), (3, .int (nI (t / 40))), (0, .ref (g 0)), (1, .int (nI b))]) hx hb dX1_closest_103 hl (k := 5) rfl (ci_inc _) (by decide) rfl (fun ls hl => ?_)
                  refine lv_goto (tgt := 5) hx hb dX1_closest_106 (by decide) ?_
                  exact ih (t + 1) _ (by omega) (by omega) (Lst_no hL (fun q => by first | (have := q.1; omega) | exact absurd q.2.1 (by rw [c35]; decide) | exact absurd q.2.2 (by rw [c45]; decide))) ls (lv_sub hl [4, 5, 0] rfl)
                · exact absurd rfl c57
              · refine lv_iconst (v := (nI 1)) hx hb dX1_closest_48 (by decide +kernel) ?_
                refine lv_goto (tgt := 53) hx hb dX1_closest_49 (by decide) ?_
                refine lv_istore (lv' := [(5, .int (nI 1)), (4, .int (nI (t % 40))), (3, .int (nI (t / 40))), (0, .ref (g 0)), (1, .int (nI b)), (2, .int (nI t))]) hx hb dX1_closest_53 hl (by decide) rfl (fun ls hl => ?_)
                refine lv_iload hx hb dX1_closest_55 (lv_at hl 0 rfl) ?_
                refine ci_ifn_eq (tgt := 103) hx hb dX1_closest_57 (by decide) (by decide) (fun c57 => ?_) (fun c57 => ?_)
                · exact absurd c57 (by decide)
                · refine lv_iload_n hx hb dX1_closest_60 rfl (lv_at hl 4 rfl) ?_
                  refine ci_ifn_lt (tgt := 85) hx hb dX1_closest_61 (by decide) (by omega) ?_
                  refine lv_aload_n hx hb dX1_closest_64 rfl (lv_at hl 3 rfl) ?_
                  refine lv_aload_n hx hb dX1_closest_65 rfl (lv_at hl 3 rfl) ?_
                  refine cm_get 1 hx hb hts hown hK hP (by decide) (hts _ q216) rfl dX1_closest_66 ?_
                  refine lv_iload_n hx hb dX1_closest_69 rfl (lv_at hl 2 rfl) ?_
                  refine ci_iald hx hb hK hP 2 1 rfl rfl (by omega) (by decide) dX1_closest_70 ?_
                  refine lv_aload_n hx hb dX1_closest_71 rfl (lv_at hl 3 rfl) ?_
                  refine cm_get 1 hx hb hts hown hK hP (by decide) (hts _ q216) rfl dX1_closest_72 ?_
                  refine lv_iload hx hb dX1_closest_75 (lv_at hl 1 rfl) ?_
                  refine ci_iald hx hb hK hP 2 1 rfl rfl (by omega) (by decide) dX1_closest_77 ?_
                  refine vp_callSi (W.runV (As := [.int (nI (pl (t / 40))), .int (nI (pl (t % 40)))]) (rest := []) ⟨hx, hb, hml, hown, hts⟩ (met_X1_distance l D g d u pl lb (pl (t / 40)) (pl (t % 40)) hp1 hp2) (cwV 2 hts (lw_V q274 q276 qs20 q24 q277) rfl rfl rfl (by decide +kernel) ⟨Nat.le_of_ble_eq_true rfl, Nat.le_of_ble_eq_true rfl⟩) (ci_pre hK hP (ci := 1) (q0 := 0) rfl rfl) rfl rfl hl.1 rfl (lv_room (Nat.le_of_ble_eq_true rfl)) dX1_closest_78 ⟨Nat.le_of_ble_eq_true rfl, Nat.le_of_ble_eq_true rfl⟩) (fun r hr => ?_)
                  subst hr
                  refine ci_top (b := ds (mx pl (t / 40)) (my pl (t / 40)) (mx pl (t % 40)) (my pl (t % 40))) (ds_comm _ _ _ _) ?_
                  refine lv_iload_n hx hb dX1_closest_81 rfl (lv_at hl 4 rfl) ?_
                  refine ci_icmp_ge (tgt := 103) hx hb dX1_closest_82 (by decide) (by omega) (by omega) (fun c82 => ?_) (fun c82 => ?_)
                  · refine lv_iinc (v := (nI (t + 1))) (lv' := [(2, .int (nI (t + 1))), (5, .int (nI 1)), (4, .int (nI (t % 40))), (3, .int (nI (t / 40))), (0, .ref (g 0)), (1, .int (nI b))]) hx hb dX1_closest_103 hl (k := 5) rfl (ci_inc _) (by decide) rfl (fun ls hl => ?_)
                    refine lv_goto (tgt := 5) hx hb dX1_closest_106 (by decide) ?_
                    exact ih (t + 1) _ (by omega) (by omega) (Lst_old hL (by omega) c82) ls (lv_sub hl [4, 5, 0] rfl)
                  · refine lv_aload_n hx hb dX1_closest_85 rfl (lv_at hl 3 rfl) ?_
                    refine lv_aload_n hx hb dX1_closest_86 rfl (lv_at hl 3 rfl) ?_
                    refine cm_get 1 hx hb hts hown hK hP (by decide) (hts _ q216) rfl dX1_closest_87 ?_
                    refine lv_iload_n hx hb dX1_closest_90 rfl (lv_at hl 2 rfl) ?_
                    refine ci_iald hx hb hK hP 2 1 rfl rfl (by omega) (by decide) dX1_closest_91 ?_
                    refine lv_aload_n hx hb dX1_closest_92 rfl (lv_at hl 3 rfl) ?_
                    refine cm_get 1 hx hb hts hown hK hP (by decide) (hts _ q216) rfl dX1_closest_93 ?_
                    refine lv_iload hx hb dX1_closest_96 (lv_at hl 1 rfl) ?_
                    refine ci_iald hx hb hK hP 2 1 rfl rfl (by omega) (by decide) dX1_closest_98 ?_
                    refine vp_callSi (W.runV (As := [.int (nI (pl (t / 40))), .int (nI (pl (t % 40)))]) (rest := []) ⟨hx, hb, hml, hown, hts⟩ (met_X1_distance l D g d u pl lb (pl (t / 40)) (pl (t % 40)) hp1 hp2) (cwV 2 hts (lw_V q274 q276 qs20 q24 q277) rfl rfl rfl (by decide +kernel) ⟨Nat.le_of_ble_eq_true rfl, Nat.le_of_ble_eq_true rfl⟩) (ci_pre hK hP (ci := 1) (q0 := 0) rfl rfl) rfl rfl hl.1 rfl (lv_room (Nat.le_of_ble_eq_true rfl)) dX1_closest_99 ⟨Nat.le_of_ble_eq_true rfl, Nat.le_of_ble_eq_true rfl⟩) (fun r hr => ?_)
                    subst hr
                    refine ci_top (b := ds (mx pl (t / 40)) (my pl (t / 40)) (mx pl (t % 40)) (my pl (t % 40))) (ds_comm _ _ _ _) ?_
                    refine lv_istore_n (lv' := [(1, .int (nI (ds (mx pl (t / 40)) (my pl (t / 40)) (mx pl (t % 40)) (my pl (t % 40))))), (5, .int (nI 1)), (4, .int (nI (t % 40))), (3, .int (nI (t / 40))), (0, .ref (g 0)), (2, .int (nI t))]) hx hb dX1_closest_102 rfl hl (by decide) rfl (fun ls hl => ?_)
                    refine lv_iinc (v := (nI (t + 1))) (lv' := [(2, .int (nI (t + 1))), (1, .int (nI (ds (mx pl (t / 40)) (my pl (t / 40)) (mx pl (t % 40)) (my pl (t % 40))))), (5, .int (nI 1)), (4, .int (nI (t % 40))), (3, .int (nI (t / 40))), (0, .ref (g 0))]) hx hb dX1_closest_103 hl (k := 5) rfl (ci_inc _) (by decide) rfl (fun ls hl => ?_)
                    refine lv_goto (tgt := 5) hx hb dX1_closest_106 (by decide) ?_
                    exact ih (t + 1) _ (by omega) (by omega) (Lst_new hpl (by omega) hL ⟨c26, c35, c45⟩ (fun c hc e => by have := (nI_eq (show b < 2 ^ 31 by omega) (show c < 2 ^ 31 by omega)).mp e; omega) rfl) ls (lv_sub hl [5, 1, 0] rfl)
  exact lp 1601 0 _ (by omega) (by omega) (Or.inl ⟨rfl, fun q hq => absurd hq (Nat.not_lt_zero q)⟩) ls (lv_sub hl [2, 1, 0] rfl)
end
section
/-! constructors -/
theorem xN_of {N : Nat} {g : Nat → Nat} {ws : va_W} {A : Nat → Prop} (h : ws.map (fun q => q.1) = (List.range N).map g) (hD : va_D A ws) : xN N g ∧ ∀ k, k < N → A (g k) := by
  have key : ∀ i, i < N → ∃ e, ws[i]? = some (g i, e) := by
    intro i hi
    have h1 : ((List.range N).map g)[i]? = some (g i) := by rw [List.getElem?_map, List.getElem?_range hi]; rfl
    rw [← h, List.getElem?_map] at h1
    cases e : ws[i]? with
    | none => rw [e] at h1; cases h1
    | some q =>
      rw [e] at h1
      exact ⟨q.2, by rw [← Option.some.inj h1]⟩
  refine ⟨fun i j hi hj e => ?_, fun k hk => ?_⟩
  · obtain ⟨a, ha⟩ := key i hi
    obtain ⟨b, hb⟩ := key j hj
    exact hD.1 i j _ _ ha hb e
  · obtain ⟨a, ha⟩ := key k hk
    exact hD.2 k _ ha
def ci_C (D : va_G) (w : va_W) (sz : Nat) (av : List Value) : Array Value → State → Prop := va_Pc av (fun U => U.heap.size = sz ∧ va_P D vwCl w U.heap ∧ va_K D vwCl [] U)
theorem ci_preC {s : State} {H : Heap} {D : va_G} {w : va_W} {As : List Value} (hK : va_K D vwCl [] s) (hP : va_P D vwCl w H) : PreS s H (ci_C D w H.size As) As :=
  ⟨fun a U g mk z => ⟨z.1, z.2.1, z.2.2.1, va_K.moved (u := U) (U := U.calling g mk a) (Vm.Alike.refl U.vm) z.2.2.2⟩, fun U hU hW => ⟨rfl, by rw [hU], by rw [hU]; exact hP, va_K.moved hW.alike hK⟩⟩
theorem ci_ofC {l : Launch} {y : MethodName} {cc : ByteArray} {maxL : Nat} {ret : Option FieldType} {rm : Room} {D : va_G} {w : va_W} {sz : Nat} {av : List Value} {Qc : Array Value → State → Outcome → State → Prop} {mc ms : Nat} {free : Addr → Prop} (hy : plainName y.cls = true) (hlen : (lg_sl av).length ≤ maxL)
    (body : ∀ (p : Program) (e : Env) (s : State) (m : MethodId) (args : Array Value) (below : List Frame) (meth : Method) (c : Code) (Q0 : State → Prop), p.tables.exec = Jvm.exec → c.code = cc → meth.sig.returnType = ret → c.maxLocals = maxL → s.vm.findClass y.cls = some m.cls → (∀ w ∈ lw_all, w.before args s = true) → meth.locks = false → meth.name = y.name → Q0 = MQ below Qc args s mc ms free → s.heap.size = sz → va_P D vwCl w s.heap → va_K D vwCl [] s → ∀ ls : Array Slot, lv_has ls maxL (lv_args 0 av) →
      W p l e rm s m args below meth c s.heap [] 0 0 Q0 (F0 m 0 ls [])) : Met l y (ws_ y cc maxL ret) rm (ci_C D w sz av) Qc mc ms free := by
  refine Met.ofW (cc := cc) (maxL := maxL) (ret := ret) hy rfl ?_
  intro p e s m args below meth c s₁ B hml hv
  obtain ⟨hav, hsz, hP, hK⟩ := hv
  have hts := atoms_spec (ws := ws_ y cc maxL ret) B.pre
  have hts : ∀ w ∈ lw_all, w.before args s = true := fun w h => hts w (List.mem_cons_of_mem _ h)
  have hl := lv_entry av (n := maxL) hlen
  have h0 := body p e s m args below meth c _ B.exec B.bytes B.returns hml (findClass_of_methodNamed B.named) hts B.notSynchronized (name_of_methodNamed B.named B.method).1 rfl hsz hP hK _ hl
  rw [show entryFrame m args maxL = entryFrame m av.toArray maxL by rw [hav], lg_entry_eq]
  exact h0
def cA0 (h0 sz : Nat) : Nat → Prop := fun q => q = h0 ∨ sz ≤ q
abbrev rm_X0_init : Room := { frames := 1, cells := 6, slots := 240, locals := 12 }
abbrev f0_X0 : List Value := [.null, .null, .null, .null, .int (nI 0), .null, .int (nI 0), .int (nI 0), .int (nI 0), .int (nI 0), .int (nI 0), .int (nI 0), .int (nI 0), .null]
set_option maxHeartbeats 8000000 in
set_option maxRecDepth 100000 in
theorem met_X0_init (l : Launch) (D : va_G) (h0 sz : Nat) : Met l yX0_init (ws_ yX0_init cX0_init 1 none) rm_X0_init (ci_C D [(h0, .inr (0, f0_X0))] sz [.ref h0]) (va_Qv (fun (z : (Nat → Nat) × (Nat → ClassId)) => z.1 0 = h0 ∧ xN 7 z.1 ∧ ∀ k, k < 7 → cA0 h0 sz (z.1 k)) (fun z t => va_P D vwCl (wX z.1 z.2 (fun _ => false) (fun _ => 0) (fun _ => 0) (fun _ => nI 0) 0 (fun _ => 0) 0 0 0 0 0 0 0 (fun _ => 0)) t.heap ∧ va_K D vwCl (tX z.2) t) (cA0 h0 sz)) 6 240 (cA0 h0 sz) := by
  refine ci_ofC (by decide) (Nat.le_of_ble_eq_true rfl) ?_
  intro p e s m args below meth c Q0 hx hb hrt hml hown hts hlk hmn hQ hsz hP hK ls hl
  have hown : s.vm.findClass RX0 = some m.cls := hown
  have hmn : meth.name = "<init>" := hmn
  have hl : lv_has ls 1 [(0, .ref h0)] := hl
  have hA : ∀ q : Nat, s.heap.size ≤ q → cA0 h0 sz q := fun q h => Or.inr (by omega)
  have hS : va_S (cA0 h0 sz) s.heap s.heap [] := va_S.rf
  have hD : va_D (cA0 h0 sz) [(h0, .inr (0, [.null, .null, .null, .null, .int (nI 0), .null, .int (nI 0), .int (nI 0), .int (nI 0), .int (nI 0), .int (nI 0), .int (nI 0), .int (nI 0), .null]))] := ⟨fun i j p q hi hj _ => by have := (List.getElem?_eq_some_iff.mp hi).1; have := (List.getElem?_eq_some_iff.mp hj).1; simp at *; omega, fun k q hk => by have h9 := (List.getElem?_eq_some_iff.mp hk).1; simp at h9; subst h9; cases hk; exact Or.inl rfl⟩
  refine lv_aload_n hx hb dX0_init_0 rfl (lv_at hl 0 rfl) ?_
  refine W.objInit hx hb hown (hts _ q30) (hts _ q31) (hts _ q32) rfl (by rw [hml]; exact hl.1) rfl dX0_init_1 (Nat.le_of_ble_eq_true rfl) (Nat.le_of_ble_eq_true rfl) ?_
  refine W.eq (g2 := F0 m 4 ls []) rfl ?_
  refine lv_aload_n hx hb dX0_init_4 rfl (lv_at hl 0 rfl) ?_
  refine lv_bipush (v := nI 40) hx hb dX0_init_5 (by decide +kernel) ?_
  refine va_newa (atype := .boolean) (ty := .boolean) (a0 := (40, .inl (aB (fun _ => false)))) hx hb (hts _ q76) rfl hK hP hD hS hA (fun cA => rfl) (nI_pos (by decide)) (nI_clamp (by decide)) (by decide) (Nat.le_of_ble_eq_true rfl) (Nat.le_of_ble_eq_true rfl) dX0_init_7 (fun q1_ c1_ H hK hP hD hS => ?_)
  have hP : va_P D vwCl [(h0, .inr (0, [.null, .null, .null, .null, .int (nI 0), .null, .int (nI 0), .int (nI 0), .int (nI 0), .int (nI 0), .int (nI 0), .int (nI 0), .int (nI 0), .null])), (q1_, .inl (c1_, 40, .inl (aB (fun _ => false))))] H := hP
  have hD : va_D (cA0 h0 sz) [(h0, .inr (0, [.null, .null, .null, .null, .int (nI 0), .null, .int (nI 0), .int (nI 0), .int (nI 0), .int (nI 0), .int (nI 0), .int (nI 0), .int (nI 0), .null])), (q1_, .inl (c1_, 40, .inl (aB (fun _ => false))))] := hD
  have hK : va_K D vwCl [(c1_, .boolean)] s := hK
  refine W.widen (k := 1) (n := 40) (Nat.le_refl _) (Nat.le_refl _) ?_
  refine va_putF (C := RX0) (T := TX0) (N := 14) (ci := 0) (ty := .array .boolean) (v := .ref q1_) hx hb hts in_X0 tyX0 tyX0_ok nmX0 hown hK hP hD hS 0 rfl rfl 0 (by decide) (hts _ q33) (fun _ h => h) rfl hmn rfl (by decide +kernel) rfl rfl (Nat.le_of_ble_eq_true rfl) dX0_init_9 (fun H locs hP hD hS => ?_)
  have hP : va_P D vwCl [(h0, .inr (0, [.ref q1_, .null, .null, .null, .int (nI 0), .null, .int (nI 0), .int (nI 0), .int (nI 0), .int (nI 0), .int (nI 0), .int (nI 0), .int (nI 0), .null])), (q1_, .inl (c1_, 40, .inl (aB (fun _ => false))))] H := hP
  have hD : va_D (cA0 h0 sz) [(h0, .inr (0, [.ref q1_, .null, .null, .null, .int (nI 0), .null, .int (nI 0), .int (nI 0), .int (nI 0), .int (nI 0), .int (nI 0), .int (nI 0), .int (nI 0), .null])), (q1_, .inl (c1_, 40, .inl (aB (fun _ => false))))] := hD
  refine lv_aload_n hx hb dX0_init_12 rfl (lv_at hl 0 rfl) ?_
  refine lv_bipush (v := nI 40) hx hb dX0_init_13 (by decide +kernel) ?_
  refine va_newa (atype := .int) (ty := .int) (a0 := (40, .inl (aN (fun _ => 0)))) hx hb (hts _ q77) rfl hK hP hD hS hA (fun cA => rfl) (nI_pos (by decide)) (nI_clamp (by decide)) (by decide) (Nat.le_of_ble_eq_true rfl) (Nat.le_of_ble_eq_true rfl) dX0_init_15 (fun q2_ c2_ H hK hP hD hS => ?_)
  have hP : va_P D vwCl [(h0, .inr (0, [.ref q1_, .null, .null, .null, .int (nI 0), .null, .int (nI 0), .int (nI 0), .int (nI 0), .int (nI 0), .int (nI 0), .int (nI 0), .int (nI 0), .null])), (q1_, .inl (c1_, 40, .inl (aB (fun _ => false)))), (q2_, .inl (c2_, 40, .inl (aN (fun _ => 0))))] H := hP
  have hD : va_D (cA0 h0 sz) [(h0, .inr (0, [.ref q1_, .null, .null, .null, .int (nI 0), .null, .int (nI 0), .int (nI 0), .int (nI 0), .int (nI 0), .int (nI 0), .int (nI 0), .int (nI 0), .null])), (q1_, .inl (c1_, 40, .inl (aB (fun _ => false)))), (q2_, .inl (c2_, 40, .inl (aN (fun _ => 0))))] := hD
  have hK : va_K D vwCl [(c1_, .boolean), (c2_, .int)] s := hK
  refine W.widen (k := 2) (n := 80) (Nat.le_refl _) (Nat.le_refl _) ?_
  refine va_putF (C := RX0) (T := TX0) (N := 14) (ci := 0) (ty := .array .int) (v := .ref q2_) hx hb hts in_X0 tyX0 tyX0_ok nmX0 hown hK hP hD hS 0 rfl rfl 1 (by decide) (hts _ q34) (fun _ h => h) rfl hmn rfl (by decide +kernel) rfl rfl (Nat.le_of_ble_eq_true rfl) dX0_init_17 (fun H locs hP hD hS => ?_)
  have hP : va_P D vwCl [(h0, .inr (0, [.ref q1_, .ref q2_, .null, .null, .int (nI 0), .null, .int (nI 0), .int (nI 0), .int (nI 0), .int (nI 0), .int (nI 0), .int (nI 0), .int (nI 0), .null])), (q1_, .inl (c1_, 40, .inl (aB (fun _ => false)))), (q2_, .inl (c2_, 40, .inl (aN (fun _ => 0))))] H := hP
  have hD : va_D (cA0 h0 sz) [(h0, .inr (0, [.ref q1_, .ref q2_, .null, .null, .int (nI 0), .null, .int (nI 0), .int (nI 0), .int (nI 0), .int (nI 0), .int (nI 0), .int (nI 0), .int (nI 0), .null])), (q1_, .inl (c1_, 40, .inl (aB (fun _ => false)))), (q2_, .inl (c2_, 40, .inl (aN (fun _ => 0))))] := hD
  refine lv_aload_n hx hb dX0_init_20 rfl (lv_at hl 0 rfl) ?_
  refine lv_bipush (v := nI 40) hx hb dX0_init_21 (by decide +kernel) ?_
  refine va_newa (atype := .int) (ty := .int) (a0 := (40, .inl (aN (fun _ => 0)))) hx hb (hts _ q77) rfl hK hP hD hS hA (fun cA => rfl) (nI_pos (by decide)) (nI_clamp (by decide)) (by decide) (Nat.le_of_ble_eq_true rfl) (Nat.le_of_ble_eq_true rfl) dX0_init_23 (fun q3_ c3_ H hK hP hD hS => ?_)
  have hP : va_P D vwCl [(h0, .inr (0, [.ref q1_, .ref q2_, .null, .null, .int (nI 0), .null, .int (nI 0), .int (nI 0), .int (nI 0), .int (nI 0), .int (nI 0), .int (nI 0), .int (nI 0), .null])), (q1_, .inl (c1_, 40, .inl (aB (fun _ => false)))), (q2_, .inl (c2_, 40, .inl (aN (fun _ => 0)))), (q3_, .inl (c3_, 40, .inl (aN (fun _ => 0))))] H := hP
  have hD : va_D (cA0 h0 sz) [(h0, .inr (0, [.ref q1_, .ref q2_, .null, .null, .int (nI 0), .null, .int (nI 0), .int (nI 0), .int (nI 0), .int (nI 0), .int (nI 0), .int (nI 0), .int (nI 0), .null])), (q1_, .inl (c1_, 40, .inl (aB (fun _ => false)))), (q2_, .inl (c2_, 40, .inl (aN (fun _ => 0)))), (q3_, .inl (c3_, 40, .inl (aN (fun _ => 0))))] := hD
  have hK : va_K D vwCl [(c1_, .boolean), (c2_, .int), (c3_, .int)] s := hK
  refine W.widen (k := 3) (n := 120) (Nat.le_refl _) (Nat.le_refl _) ?_
  refine va_putF (C := RX0) (T := TX0) (N := 14) (ci := 0) (ty := .array .int) (v := .ref q3_) hx hb hts in_X0 tyX0 tyX0_ok nmX0 hown hK hP hD hS 0 rfl rfl 2 (by decide) (hts _ q35) (fun _ h => h) rfl hmn rfl (by decide +kernel) rfl rfl (Nat.le_of_ble_eq_true rfl) dX0_init_25 (fun H locs hP hD hS => ?_)
  have hP : va_P D vwCl [(h0, .inr (0, [.ref q1_, .ref q2_, .ref q3_, .null, .int (nI 0), .null, .int (nI 0), .int (nI 0), .int (nI 0), .int (nI 0), .int (nI 0), .int (nI 0), .int (nI 0), .null])), (q1_, .inl (c1_, 40, .inl (aB (fun _ => false)))), (q2_, .inl (c2_, 40, .inl (aN (fun _ => 0)))), (q3_, .inl (c3_, 40, .inl (aN (fun _ => 0))))] H := hP
  have hD : va_D (cA0 h0 sz) [(h0, .inr (0, [.ref q1_, .ref q2_, .ref q3_, .null, .int (nI 0), .null, .int (nI 0), .int (nI 0), .int (nI 0), .int (nI 0), .int (nI 0), .int (nI 0), .int (nI 0), .null])), (q1_, .inl (c1_, 40, .inl (aB (fun _ => false)))), (q2_, .inl (c2_, 40, .inl (aN (fun _ => 0)))), (q3_, .inl (c3_, 40, .inl (aN (fun _ => 0))))] := hD
  refine lv_aload_n hx hb dX0_init_28 rfl (lv_at hl 0 rfl) ?_
  refine lv_bipush (v := nI 40) hx hb dX0_init_29 (by decide +kernel) ?_
  refine va_newa (atype := .int) (ty := .int) (a0 := (40, .inl (fun _ => nI 0))) hx hb (hts _ q77) rfl hK hP hD hS hA (fun cA => rfl) (nI_pos (by decide)) (nI_clamp (by decide)) (by decide) (Nat.le_of_ble_eq_true rfl) (Nat.le_of_ble_eq_true rfl) dX0_init_31 (fun q4_ c4_ H hK hP hD hS => ?_)
  have hP : va_P D vwCl [(h0, .inr (0, [.ref q1_, .ref q2_, .ref q3_, .null, .int (nI 0), .null, .int (nI 0), .int (nI 0), .int (nI 0), .int (nI 0), .int (nI 0), .int (nI 0), .int (nI 0), .null])), (q1_, .inl (c1_, 40, .inl (aB (fun _ => false)))), (q2_, .inl (c2_, 40, .inl (aN (fun _ => 0)))), (q3_, .inl (c3_, 40, .inl (aN (fun _ => 0)))), (q4_, .inl (c4_, 40, .inl (fun _ => nI 0)))] H := hP
  have hD : va_D (cA0 h0 sz) [(h0, .inr (0, [.ref q1_, .ref q2_, .ref q3_, .null, .int (nI 0), .null, .int (nI 0), .int (nI 0), .int (nI 0), .int (nI 0), .int (nI 0), .int (nI 0), .int (nI 0), .null])), (q1_, .inl (c1_, 40, .inl (aB (fun _ => false)))), (q2_, .inl (c2_, 40, .inl (aN (fun _ => 0)))), (q3_, .inl (c3_, 40, .inl (aN (fun _ => 0)))), (q4_, .inl (c4_, 40, .inl (fun _ => nI 0)))] := hD
  have hK : va_K D vwCl [(c1_, .boolean), (c2_, .int), (c3_, .int), (c4_, .int)] s := hK
  refine W.widen (k := 4) (n := 160) (Nat.le_refl _) (Nat.le_refl _) ?_
  refine va_putF (C := RX0) (T := TX0) (N := 14) (ci := 0) (ty := .array .int) (v := .ref q4_) hx hb hts in_X0 tyX0 tyX0_ok nmX0 hown hK hP hD hS 0 rfl rfl 3 (by decide) (hts _ q36) (fun _ h => h) rfl hmn rfl (by decide +kernel) rfl rfl (Nat.le_of_ble_eq_true rfl) dX0_init_33 (fun H locs hP hD hS => ?_)
  have hP : va_P D vwCl [(h0, .inr (0, [.ref q1_, .ref q2_, .ref q3_, .ref q4_, .int (nI 0), .null, .int (nI 0), .int (nI 0), .int (nI 0), .int (nI 0), .int (nI 0), .int (nI 0), .int (nI 0), .null])), (q1_, .inl (c1_, 40, .inl (aB (fun _ => false)))), (q2_, .inl (c2_, 40, .inl (aN (fun _ => 0)))), (q3_, .inl (c3_, 40, .inl (aN (fun _ => 0)))), (q4_, .inl (c4_, 40, .inl (fun _ => nI 0)))] H := hP
  have hD : va_D (cA0 h0 sz) [(h0, .inr (0, [.ref q1_, .ref q2_, .ref q3_, .ref q4_, .int (nI 0), .null, .int (nI 0), .int (nI 0), .int (nI 0), .int (nI 0), .int (nI 0), .int (nI 0), .int (nI 0), .null])), (q1_, .inl (c1_, 40, .inl (aB (fun _ => false)))), (q2_, .inl (c2_, 40, .inl (aN (fun _ => 0)))), (q3_, .inl (c3_, 40, .inl (aN (fun _ => 0)))), (q4_, .inl (c4_, 40, .inl (fun _ => nI 0)))] := hD
  refine lv_aload_n hx hb dX0_init_36 rfl (lv_at hl 0 rfl) ?_
  refine lv_bipush (v := nI 40) hx hb dX0_init_37 (by decide +kernel) ?_
  refine va_newa (atype := .int) (ty := .int) (a0 := (40, .inl (aN (fun _ => 0)))) hx hb (hts _ q77) rfl hK hP hD hS hA (fun cA => rfl) (nI_pos (by decide)) (nI_clamp (by decide)) (by decide) (Nat.le_of_ble_eq_true rfl) (Nat.le_of_ble_eq_true rfl) dX0_init_39 (fun q5_ c5_ H hK hP hD hS => ?_)
  have hP : va_P D vwCl [(h0, .inr (0, [.ref q1_, .ref q2_, .ref q3_, .ref q4_, .int (nI 0), .null, .int (nI 0), .int (nI 0), .int (nI 0), .int (nI 0), .int (nI 0), .int (nI 0), .int (nI 0), .null])), (q1_, .inl (c1_, 40, .inl (aB (fun _ => false)))), (q2_, .inl (c2_, 40, .inl (aN (fun _ => 0)))), (q3_, .inl (c3_, 40, .inl (aN (fun _ => 0)))), (q4_, .inl (c4_, 40, .inl (fun _ => nI 0))), (q5_, .inl (c5_, 40, .inl (aN (fun _ => 0))))] H := hP
  have hD : va_D (cA0 h0 sz) [(h0, .inr (0, [.ref q1_, .ref q2_, .ref q3_, .ref q4_, .int (nI 0), .null, .int (nI 0), .int (nI 0), .int (nI 0), .int (nI 0), .int (nI 0), .int (nI 0), .int (nI 0), .null])), (q1_, .inl (c1_, 40, .inl (aB (fun _ => false)))), (q2_, .inl (c2_, 40, .inl (aN (fun _ => 0)))), (q3_, .inl (c3_, 40, .inl (aN (fun _ => 0)))), (q4_, .inl (c4_, 40, .inl (fun _ => nI 0))), (q5_, .inl (c5_, 40, .inl (aN (fun _ => 0))))] := hD
  have hK : va_K D vwCl [(c1_, .boolean), (c2_, .int), (c3_, .int), (c4_, .int), (c5_, .int)] s := hK
  refine W.widen (k := 5) (n := 200) (Nat.le_refl _) (Nat.le_refl _) ?_
  refine va_putF (C := RX0) (T := TX0) (N := 14) (ci := 0) (ty := .array .int) (v := .ref q5_) hx hb hts in_X0 tyX0 tyX0_ok nmX0 hown hK hP hD hS 0 rfl rfl 5 (by decide) (hts _ q38) (fun _ h => h) rfl hmn rfl (by decide +kernel) rfl rfl (Nat.le_of_ble_eq_true rfl) dX0_init_41 (fun H locs hP hD hS => ?_)
  have hP : va_P D vwCl [(h0, .inr (0, [.ref q1_, .ref q2_, .ref q3_, .ref q4_, .int (nI 0), .ref q5_, .int (nI 0), .int (nI 0), .int (nI 0), .int (nI 0), .int (nI 0), .int (nI 0), .int (nI 0), .null])), (q1_, .inl (c1_, 40, .inl (aB (fun _ => false)))), (q2_, .inl (c2_, 40, .inl (aN (fun _ => 0)))), (q3_, .inl (c3_, 40, .inl (aN (fun _ => 0)))), (q4_, .inl (c4_, 40, .inl (fun _ => nI 0))), (q5_, .inl (c5_, 40, .inl (aN (fun _ => 0))))] H := hP
  have hD : va_D (cA0 h0 sz) [(h0, .inr (0, [.ref q1_, .ref q2_, .ref q3_, .ref q4_, .int (nI 0), .ref q5_, .int (nI 0), .int (nI 0), .int (nI 0), .int (nI 0), .int (nI 0), .int (nI 0), .int (nI 0), .null])), (q1_, .inl (c1_, 40, .inl (aB (fun _ => false)))), (q2_, .inl (c2_, 40, .inl (aN (fun _ => 0)))), (q3_, .inl (c3_, 40, .inl (aN (fun _ => 0)))), (q4_, .inl (c4_, 40, .inl (fun _ => nI 0))), (q5_, .inl (c5_, 40, .inl (aN (fun _ => 0))))] := hD
  refine lv_aload_n hx hb dX0_init_44 rfl (lv_at hl 0 rfl) ?_
  refine lv_bipush (v := nI 40) hx hb dX0_init_45 (by decide +kernel) ?_
  refine va_newa (atype := .int) (ty := .int) (a0 := (40, .inl (aN (fun _ => 0)))) hx hb (hts _ q77) rfl hK hP hD hS hA (fun cA => rfl) (nI_pos (by decide)) (nI_clamp (by decide)) (by decide) (Nat.le_of_ble_eq_true rfl) (Nat.le_of_ble_eq_true rfl) dX0_init_47 (fun q6_ c6_ H hK hP hD hS => ?_)
  have hP : va_P D vwCl [(h0, .inr (0, [.ref q1_, .ref q2_, .ref q3_, .ref q4_, .int (nI 0), .ref q5_, .int (nI 0), .int (nI 0), .int (nI 0), .int (nI 0), .int (nI 0), .int (nI 0), .int (nI 0), .null])), (q1_, .inl (c1_, 40, .inl (aB (fun _ => false)))), (q2_, .inl (c2_, 40, .inl (aN (fun _ => 0)))), (q3_, .inl (c3_, 40, .inl (aN (fun _ => 0)))), (q4_, .inl (c4_, 40, .inl (fun _ => nI 0))), (q5_, .inl (c5_, 40, .inl (aN (fun _ => 0)))), (q6_, .inl (c6_, 40, .inl (aN (fun _ => 0))))] H := hP
  have hD : va_D (cA0 h0 sz) [(h0, .inr (0, [.ref q1_, .ref q2_, .ref q3_, .ref q4_, .int (nI 0), .ref q5_, .int (nI 0), .int (nI 0), .int (nI 0), .int (nI 0), .int (nI 0), .int (nI 0), .int (nI 0), .null])), (q1_, .inl (c1_, 40, .inl (aB (fun _ => false)))), (q2_, .inl (c2_, 40, .inl (aN (fun _ => 0)))), (q3_, .inl (c3_, 40, .inl (aN (fun _ => 0)))), (q4_, .inl (c4_, 40, .inl (fun _ => nI 0))), (q5_, .inl (c5_, 40, .inl (aN (fun _ => 0)))), (q6_, .inl (c6_, 40, .inl (aN (fun _ => 0))))] := hD
  have hK : va_K D vwCl [(c1_, .boolean), (c2_, .int), (c3_, .int), (c4_, .int), (c5_, .int), (c6_, .int)] s := hK
  refine W.widen (k := 6) (n := 240) (Nat.le_refl _) (Nat.le_refl _) ?_
  refine va_putF (C := RX0) (T := TX0) (N := 14) (ci := 0) (ty := .array .int) (v := .ref q6_) hx hb hts in_X0 tyX0 tyX0_ok nmX0 hown hK hP hD hS 0 rfl rfl 13 (by decide) (hts _ q46) (fun _ h => h) rfl hmn rfl (by decide +kernel) rfl rfl (Nat.le_of_ble_eq_true rfl) dX0_init_49 (fun H locs hP hD hS => ?_)
  have hP : va_P D vwCl [(h0, .inr (0, [.ref q1_, .ref q2_, .ref q3_, .ref q4_, .int (nI 0), .ref q5_, .int (nI 0), .int (nI 0), .int (nI 0), .int (nI 0), .int (nI 0), .int (nI 0), .int (nI 0), .ref q6_])), (q1_, .inl (c1_, 40, .inl (aB (fun _ => false)))), (q2_, .inl (c2_, 40, .inl (aN (fun _ => 0)))), (q3_, .inl (c3_, 40, .inl (aN (fun _ => 0)))), (q4_, .inl (c4_, 40, .inl (fun _ => nI 0))), (q5_, .inl (c5_, 40, .inl (aN (fun _ => 0)))), (q6_, .inl (c6_, 40, .inl (aN (fun _ => 0))))] H := hP
  have hD : va_D (cA0 h0 sz) [(h0, .inr (0, [.ref q1_, .ref q2_, .ref q3_, .ref q4_, .int (nI 0), .ref q5_, .int (nI 0), .int (nI 0), .int (nI 0), .int (nI 0), .int (nI 0), .int (nI 0), .int (nI 0), .ref q6_])), (q1_, .inl (c1_, 40, .inl (aB (fun _ => false)))), (q2_, .inl (c2_, 40, .inl (aN (fun _ => 0)))), (q3_, .inl (c3_, 40, .inl (aN (fun _ => 0)))), (q4_, .inl (c4_, 40, .inl (fun _ => nI 0))), (q5_, .inl (c5_, 40, .inl (aN (fun _ => 0)))), (q6_, .inl (c6_, 40, .inl (aN (fun _ => 0))))] := hD
  refine lv_aload_n hx hb dX0_init_52 rfl (lv_at hl 0 rfl) ?_
  refine lv_iconst (v := nI 0) hx hb dX0_init_53 (by decide +kernel) ?_
  refine va_put (C := RX0) (T := TX0) (N := 14) (ci := 0) (ty := .int) (v := .int (nI 0)) hx hb hts in_X0 tyX0 tyX0_ok nmX0 hown hK hP hD hS 0 rfl rfl 4 (by decide) (hts _ q37) (fun _ h => h) rfl (by decide +kernel) rfl rfl (Nat.le_of_ble_eq_true rfl) dX0_init_54 (fun H locs hP hD hS => ?_)
  have hP : va_P D vwCl [(h0, .inr (0, [.ref q1_, .ref q2_, .ref q3_, .ref q4_, .int (nI 0), .ref q5_, .int (nI 0), .int (nI 0), .int (nI 0), .int (nI 0), .int (nI 0), .int (nI 0), .int (nI 0), .ref q6_])), (q1_, .inl (c1_, 40, .inl (aB (fun _ => false)))), (q2_, .inl (c2_, 40, .inl (aN (fun _ => 0)))), (q3_, .inl (c3_, 40, .inl (aN (fun _ => 0)))), (q4_, .inl (c4_, 40, .inl (fun _ => nI 0))), (q5_, .inl (c5_, 40, .inl (aN (fun _ => 0)))), (q6_, .inl (c6_, 40, .inl (aN (fun _ => 0))))] H := hP
  have hD : va_D (cA0 h0 sz) [(h0, .inr (0, [.ref q1_, .ref q2_, .ref q3_, .ref q4_, .int (nI 0), .ref q5_, .int (nI 0), .int (nI 0), .int (nI 0), .int (nI 0), .int (nI 0), .int (nI 0), .int (nI 0), .ref q6_])), (q1_, .inl (c1_, 40, .inl (aB (fun _ => false)))), (q2_, .inl (c2_, 40, .inl (aN (fun _ => 0)))), (q3_, .inl (c3_, 40, .inl (aN (fun _ => 0)))), (q4_, .inl (c4_, 40, .inl (fun _ => nI 0))), (q5_, .inl (c5_, 40, .inl (aN (fun _ => 0)))), (q6_, .inl (c6_, 40, .inl (aN (fun _ => 0))))] := hD
  have hx9 := xN_of (N := 7) (g := (fun k => match k with | 0 => h0 | 1 => q1_ | 2 => q2_ | 3 => q3_ | 4 => q4_ | 5 => q5_ | _ => q6_)) rfl hD
  rw [hQ]
  exact W.vret hx hb hrt (fun t ht hW => ⟨⟨((fun k => match k with | 0 => h0 | 1 => q1_ | 2 => q2_ | 3 => q3_ | 4 => q4_ | 5 => q5_ | _ => q6_), (fun k => match k with | 1 => c1_ | 2 => c2_ | 3 => c3_ | 4 => c4_ | 5 => c5_ | _ => c6_)), rfl, ⟨rfl, hx9⟩, by rw [show t.heap = H from ht]; exact hP, va_K.moved hW.alike hK⟩, hS.F ht⟩) hS.2.2 dX0_init_57
abbrev rm_X1_init : Room := { frames := 1, cells := 3, slots := 120, locals := 12 }
abbrev f0_X1 : List Value := [.null, .null, .null]
set_option maxHeartbeats 8000000 in
set_option maxRecDepth 100000 in
theorem met_X1_init (l : Launch) (D : va_G) (h0 sz : Nat) : Met l yX1_init (ws_ yX1_init cX1_init 1 none) rm_X1_init (ci_C D [(h0, .inr (1, f0_X1))] sz [.ref h0]) (va_Qv (fun (z : (Nat → Nat) × (Nat → ClassId)) => z.1 0 = h0 ∧ xN 4 z.1 ∧ ∀ k, k < 4 → cA0 h0 sz (z.1 k)) (fun z t => va_P D vwCl (wM z.1 z.2 (fun _ => false) (fun _ => 0) (fun _ => nI 0)) t.heap ∧ va_K D vwCl (tM z.2) t) (cA0 h0 sz)) 3 120 (cA0 h0 sz) := by
  refine ci_ofC (by decide) (Nat.le_of_ble_eq_true rfl) ?_
  intro p e s m args below meth c Q0 hx hb hrt hml hown hts hlk hmn hQ hsz hP hK ls hl
  have hown : s.vm.findClass RX1 = some m.cls := hown
  have hmn : meth.name = "<init>" := hmn
  have hl : lv_has ls 1 [(0, .ref h0)] := hl
  have hA : ∀ q : Nat, s.heap.size ≤ q → cA0 h0 sz q := fun q h => Or.inr (by omega)
  have hS : va_S (cA0 h0 sz) s.heap s.heap [] := va_S.rf
  have hD : va_D (cA0 h0 sz) [(h0, .inr (1, [.null, .null, .null]))] := ⟨fun i j p q hi hj _ => by have := (List.getElem?_eq_some_iff.mp hi).1; have := (List.getElem?_eq_some_iff.mp hj).1; simp at *; omega, fun k q hk => by have h9 := (List.getElem?_eq_some_iff.mp hk).1; simp at h9; subst h9; cases hk; exact Or.inl rfl⟩
  refine lv_aload_n hx hb dX1_init_0 rfl (lv_at hl 0 rfl) ?_
  refine W.objInit hx hb hown (hts _ q214) (hts _ q31) (hts _ q32) rfl (by rw [hml]; exact hl.1) rfl dX1_init_1 (Nat.le_of_ble_eq_true rfl) (Nat.le_of_ble_eq_true rfl) ?_
  refine W.eq (g2 := F0 m 4 ls []) rfl ?_
  refine lv_aload_n hx hb dX1_init_4 rfl (lv_at hl 0 rfl) ?_
  refine lv_bipush (v := nI 40) hx hb dX1_init_5 (by decide +kernel) ?_
  refine va_newa (atype := .boolean) (ty := .boolean) (a0 := (40, .inl (aB (fun _ => false)))) hx hb (hts _ q76) rfl hK hP hD hS hA (fun cA => rfl) (nI_pos (by decide)) (nI_clamp (by decide)) (by decide) (Nat.le_of_ble_eq_true rfl) (Nat.le_of_ble_eq_true rfl) dX1_init_7 (fun q1_ c1_ H hK hP hD hS => ?_)
  have hP : va_P D vwCl [(h0, .inr (1, [.null, .null, .null])), (q1_, .inl (c1_, 40, .inl (aB (fun _ => false))))] H := hP
  have hD : va_D (cA0 h0 sz) [(h0, .inr (1, [.null, .null, .null])), (q1_, .inl (c1_, 40, .inl (aB (fun _ => false))))] := hD
  have hK : va_K D vwCl [(c1_, .boolean)] s := hK
  refine W.widen (k := 1) (n := 40) (Nat.le_refl _) (Nat.le_refl _) ?_
  refine va_putF (C := RX1) (T := TX1) (N := 3) (ci := 1) (ty := .array .boolean) (v := .ref q1_) hx hb hts in_X1 tyX1 tyX1_ok nmX1 hown hK hP hD hS 0 rfl rfl 0 (by decide) (hts _ q215) (fun _ h => h) rfl hmn rfl (by decide +kernel) rfl rfl (Nat.le_of_ble_eq_true rfl) dX1_init_9 (fun H locs hP hD hS => ?_)
  have hP : va_P D vwCl [(h0, .inr (1, [.ref q1_, .null, .null])), (q1_, .inl (c1_, 40, .inl (aB (fun _ => false))))] H := hP
  have hD : va_D (cA0 h0 sz) [(h0, .inr (1, [.ref q1_, .null, .null])), (q1_, .inl (c1_, 40, .inl (aB (fun _ => false))))] := hD
  refine lv_aload_n hx hb dX1_init_12 rfl (lv_at hl 0 rfl) ?_
  refine lv_bipush (v := nI 40) hx hb dX1_init_13 (by decide +kernel) ?_
  refine va_newa (atype := .int) (ty := .int) (a0 := (40, .inl (aN (fun _ => 0)))) hx hb (hts _ q77) rfl hK hP hD hS hA (fun cA => rfl) (nI_pos (by decide)) (nI_clamp (by decide)) (by decide) (Nat.le_of_ble_eq_true rfl) (Nat.le_of_ble_eq_true rfl) dX1_init_15 (fun q2_ c2_ H hK hP hD hS => ?_)
  have hP : va_P D vwCl [(h0, .inr (1, [.ref q1_, .null, .null])), (q1_, .inl (c1_, 40, .inl (aB (fun _ => false)))), (q2_, .inl (c2_, 40, .inl (aN (fun _ => 0))))] H := hP
  have hD : va_D (cA0 h0 sz) [(h0, .inr (1, [.ref q1_, .null, .null])), (q1_, .inl (c1_, 40, .inl (aB (fun _ => false)))), (q2_, .inl (c2_, 40, .inl (aN (fun _ => 0))))] := hD
  have hK : va_K D vwCl [(c1_, .boolean), (c2_, .int)] s := hK
  refine W.widen (k := 2) (n := 80) (Nat.le_refl _) (Nat.le_refl _) ?_
  refine va_putF (C := RX1) (T := TX1) (N := 3) (ci := 1) (ty := .array .int) (v := .ref q2_) hx hb hts in_X1 tyX1 tyX1_ok nmX1 hown hK hP hD hS 0 rfl rfl 1 (by decide) (hts _ q216) (fun _ h => h) rfl hmn rfl (by decide +kernel) rfl rfl (Nat.le_of_ble_eq_true rfl) dX1_init_17 (fun H locs hP hD hS => ?_)
  have hP : va_P D vwCl [(h0, .inr (1, [.ref q1_, .ref q2_, .null])), (q1_, .inl (c1_, 40, .inl (aB (fun _ => false)))), (q2_, .inl (c2_, 40, .inl (aN (fun _ => 0))))] H := hP
  have hD : va_D (cA0 h0 sz) [(h0, .inr (1, [.ref q1_, .ref q2_, .null])), (q1_, .inl (c1_, 40, .inl (aB (fun _ => false)))), (q2_, .inl (c2_, 40, .inl (aN (fun _ => 0))))] := hD
  refine lv_aload_n hx hb dX1_init_20 rfl (lv_at hl 0 rfl) ?_
  refine lv_bipush (v := nI 40) hx hb dX1_init_21 (by decide +kernel) ?_
  refine va_newa (atype := .int) (ty := .int) (a0 := (40, .inl (fun _ => nI 0))) hx hb (hts _ q77) rfl hK hP hD hS hA (fun cA => rfl) (nI_pos (by decide)) (nI_clamp (by decide)) (by decide) (Nat.le_of_ble_eq_true rfl) (Nat.le_of_ble_eq_true rfl) dX1_init_23 (fun q3_ c3_ H hK hP hD hS => ?_)
  have hP : va_P D vwCl [(h0, .inr (1, [.ref q1_, .ref q2_, .null])), (q1_, .inl (c1_, 40, .inl (aB (fun _ => false)))), (q2_, .inl (c2_, 40, .inl (aN (fun _ => 0)))), (q3_, .inl (c3_, 40, .inl (fun _ => nI 0)))] H := hP
  have hD : va_D (cA0 h0 sz) [(h0, .inr (1, [.ref q1_, .ref q2_, .null])), (q1_, .inl (c1_, 40, .inl (aB (fun _ => false)))), (q2_, .inl (c2_, 40, .inl (aN (fun _ => 0)))), (q3_, .inl (c3_, 40, .inl (fun _ => nI 0)))] := hD
  have hK : va_K D vwCl [(c1_, .boolean), (c2_, .int), (c3_, .int)] s := hK
  refine W.widen (k := 3) (n := 120) (Nat.le_refl _) (Nat.le_refl _) ?_
  refine va_putF (C := RX1) (T := TX1) (N := 3) (ci := 1) (ty := .array .int) (v := .ref q3_) hx hb hts in_X1 tyX1 tyX1_ok nmX1 hown hK hP hD hS 0 rfl rfl 2 (by decide) (hts _ q217) (fun _ h => h) rfl hmn rfl (by decide +kernel) rfl rfl (Nat.le_of_ble_eq_true rfl) dX1_init_25 (fun H locs hP hD hS => ?_)
  have hP : va_P D vwCl [(h0, .inr (1, [.ref q1_, .ref q2_, .ref q3_])), (q1_, .inl (c1_, 40, .inl (aB (fun _ => false)))), (q2_, .inl (c2_, 40, .inl (aN (fun _ => 0)))), (q3_, .inl (c3_, 40, .inl (fun _ => nI 0)))] H := hP
  have hD : va_D (cA0 h0 sz) [(h0, .inr (1, [.ref q1_, .ref q2_, .ref q3_])), (q1_, .inl (c1_, 40, .inl (aB (fun _ => false)))), (q2_, .inl (c2_, 40, .inl (aN (fun _ => 0)))), (q3_, .inl (c3_, 40, .inl (fun _ => nI 0)))] := hD
  have hx9 := xN_of (N := 4) (g := (fun k => match k with | 0 => h0 | 1 => q1_ | 2 => q2_ | _ => q3_)) rfl hD
  rw [hQ]
  exact W.vret hx hb hrt (fun t ht hW => ⟨⟨((fun k => match k with | 0 => h0 | 1 => q1_ | 2 => q2_ | _ => q3_), (fun k => match k with | 1 => c1_ | 2 => c2_ | _ => c3_)), rfl, ⟨rfl, hx9⟩, by rw [show t.heap = H from ht]; exact hP, va_K.moved hW.alike hK⟩, hS.F ht⟩) hS.2.2 dX1_init_28
end
section
/-! the two sides answer alike: plain law, a row a call of the law -/
def JJ (u : Nat → Bool) (px py : Nat → Nat) (lb : Nat → Int32) (n : Nat) (k : Nat → Nat) (v : Nat → Bool) (pl : Nat → Nat) (lc : Nat → Int32) : Prop :=
  Inv u px py n k ∧ ∀ i, i < 40 → u i = v i ∧ pl i = px i + 64 * py i ∧ lb i = lc i
section JJS
variable {u v : Nat → Bool} {px py pl : Nat → Nat} {lb lc : Nat → Int32} {n : Nat} {k : Nat → Nat} {x y r t : Int32}
theorem JJ_pl (h : JJ u px py lb n k v pl lc) : ∀ i, i < 40 → pl i < 4096 := by
  intro i hi
  have h1 := (h.2 i hi).2.1
  have h2 := h.1.1 i hi
  omega
theorem JJ_m (h : JJ u px py lb n k v pl lc) {i : Nat} (hi : i < 40) : mx pl i = px i ∧ my pl i = py i := by
  have h1 := (h.2 i hi).2.1
  have h2 := h.1.1 i hi
  unfold mx my
  omega
theorem JJ_bx (h : JJ u px py lb n k v pl lc) (a b : Nat) : ∀ i, i < 40 → bxP u px py a b i = bxP v (mx pl) (my pl) a b i := by
  intro i hi
  obtain ⟨e1, e2⟩ := JJ_m h hi
  unfold bxP
  rw [e1, e2, (h.2 i hi).1]
theorem JJ_no (h : JJ u px py lb n k v pl lc) (x : Int32) : noP u x = noP v x := by
  rcases pk_ix x (n := 40) (by decide) with q | q | ⟨j, hj, rfl⟩
  · rw [noP_1 q, noP_1 q]
  · rw [noP_2 q, noP_2 q]
  · rw [noP_n hj, noP_n hj, (h.2 j hj).1]
theorem nI_inj {a b : Nat} (ha : a < 4096) (hb : b < 4096) (h : nI a = nI b) : a = b := (nI_eq (by omega) (by omega)).mp h
theorem ff {b : Bool} (h1 : b = true) (h2 : b = false) : False := by rw [h1] at h2; cases h2
theorem law_add {lab : Int32} {z : (Nat → Bool) × (Nat → Nat) × (Nat → Nat) × (Nat → Int32) × Nat × (Nat → Nat)} {w : (Nat → Bool) × (Nat → Nat) × (Nat → Int32)} (h : JJ u px py lb n k v pl lc)
    (h1 : (badP x = true ∧ r = -1 ∧ z = (u, px, py, lb, n, k)) ∨ (badP x = false ∧ n = 40 ∧ r = -2 ∧ z = (u, px, py, lb, n, k)) ∨ (∃ a q, a < 4096 ∧ x = nI a ∧ q < 40 ∧ u q = false ∧ (∀ j, j < q → u j = true) ∧ r = nI q ∧ z.1 = va_up u q true ∧ z.2.1 = va_up px q (a % 64) ∧ z.2.2.1 = va_up py q (a / 64) ∧ z.2.2.2.1 = va_up lb q lab ∧ Inv z.1 z.2.1 z.2.2.1 z.2.2.2.2.1 z.2.2.2.2.2))
    (h2 : (badP x = true ∧ t = -1 ∧ w = (v, pl, lc)) ∨ (badP x = false ∧ (∀ j, j < 40 → v j = true) ∧ t = -2 ∧ w = (v, pl, lc)) ∨ (∃ a q, a < 4096 ∧ x = nI a ∧ q < 40 ∧ v q = false ∧ (∀ j, j < q → v j = true) ∧ t = nI q ∧ w = (va_up v q true, va_up pl q a, va_up lc q lab))) :
    r = t ∧ JJ z.1 z.2.1 z.2.2.1 z.2.2.2.1 z.2.2.2.2.1 z.2.2.2.2.2 w.1 w.2.1 w.2.2 := by
  rcases h1 with ⟨a1, rfl, rfl⟩ | ⟨a1, a2, rfl, rfl⟩ | ⟨a, q, ha, rfl, hq, uq, uj, rfl, e1, e2, e3, e4, hI⟩
  · rcases h2 with ⟨b1, rfl, rfl⟩ | ⟨b1, b2, rfl, rfl⟩ | ⟨a', q', ha', rfl, hq', vq, vj, rfl, rfl⟩
    · exact ⟨rfl, h⟩
    · exact (ff a1 b1).elim
    · exact (ff a1 (badP_n ha')).elim
  · rcases h2 with ⟨b1, rfl, rfl⟩ | ⟨b1, b2, rfl, rfl⟩ | ⟨a', q', ha', rfl, hq', vq, vj, rfl, rfl⟩
    · exact (ff b1 a1).elim
    · exact ⟨rfl, h⟩
    · have := cnt_full 40 (by rw [← h.1.2.1, a2]) q' hq'
      rw [(h.2 q' hq').1] at this
      exact (ff this vq).elim
  · rcases h2 with ⟨b1, rfl, rfl⟩ | ⟨b1, b2, rfl, rfl⟩ | ⟨a', q', ha', ea, hq', vq, vj, rfl, rfl⟩
    · exact (ff b1 (badP_n ha)).elim
    · have := b2 q hq
      rw [← (h.2 q hq).1] at this
      exact (ff this uq).elim
    · have eaa := nI_inj ha ha' ea
      subst eaa
      have eq : q = q' := by
        rcases Nat.lt_trichotomy q q' with z1 | z1 | z1
        · have := vj q z1
          rw [← (h.2 q hq).1] at this
          exact (ff this uq).elim
        · exact z1
        · have := uj q' z1
          rw [(h.2 q' hq').1] at this
          exact (ff this vq).elim
      subst eq
      refine ⟨rfl, hI, fun i hi => ?_⟩
      rw [e1, e2, e3, e4]
      by_cases ei : i = q
      · subst ei
        simp only [va_up_self]
        exact ⟨trivial, by omega, trivial⟩
      · simp only [va_up_ne _ _ ei]
        exact h.2 i hi
theorem law_remove {z : (Nat → Bool) × Nat × (Nat → Nat)} {w : Nat → Bool} (h : JJ u px py lb n k v pl lc)
    (h1 : (noP u x = true ∧ r = -3 ∧ z = (u, n, k)) ∨ (∃ pt, pt < 40 ∧ x = nI pt ∧ u pt = true ∧ z.1 = va_up u pt false ∧ r = nI z.2.1 ∧ Inv z.1 px py z.2.1 z.2.2))
    (h2 : (noP v x = true ∧ t = -3 ∧ w = v) ∨ (∃ pt, pt < 40 ∧ x = nI pt ∧ v pt = true ∧ w = va_up v pt false ∧ t = nI (cnt w 40))) :
    r = t ∧ JJ z.1 px py lb z.2.1 z.2.2 w pl lc := by
  rw [← JJ_no h x] at h2
  rcases h1 with ⟨a1, rfl, rfl⟩ | ⟨p, hp, rfl, up, e1, rfl, hI⟩
  · rcases h2 with ⟨b1, rfl, rfl⟩ | ⟨p, hp, rfl, vp, rfl, rfl⟩
    · exact ⟨rfl, h⟩
    · rw [noP_n hp, (h.2 p hp).1, vp] at a1
      cases a1
  · rcases h2 with ⟨b1, rfl, rfl⟩ | ⟨p', hp', ep, vp, rfl, rfl⟩
    · rw [noP_n hp, up] at b1
      cases b1
    · have epp := nI_inj (by omega) (by omega) ep
      subst epp
      have hag : ∀ i, i < 40 → z.1 i = va_up v p false i := by
        intro i hi
        rw [e1]
        by_cases ei : i = p
        · subst ei; simp only [va_up_self]
        · simp only [va_up_ne _ _ ei]; exact (h.2 i hi).1
      refine ⟨?_, hI, fun i hi => ⟨hag i hi, (h.2 i hi).2⟩⟩
      rw [hI.2.1, cnt_congr 40 hag]
theorem law_move {z : (Nat → Nat) × (Nat → Nat) × Nat × (Nat → Nat)} {w : Nat → Nat} (h : JJ u px py lb n k v pl lc)
    (h1 : (noP u x = true ∧ r = -3 ∧ z = (px, py, n, k)) ∨ (noP u x = false ∧ badP y = true ∧ r = -1 ∧ z = (px, py, n, k)) ∨ (∃ pt a, pt < 40 ∧ x = nI pt ∧ u pt = true ∧ a < 4096 ∧ y = nI a ∧ r = nI (px pt + 64 * py pt) ∧ z.1 = va_up px pt (a % 64) ∧ z.2.1 = va_up py pt (a / 64) ∧ Inv u z.1 z.2.1 z.2.2.1 z.2.2.2))
    (h2 : (noP v x = true ∧ t = -3 ∧ w = pl) ∨ (noP v x = false ∧ badP y = true ∧ t = -1 ∧ w = pl) ∨ (∃ pt a, pt < 40 ∧ x = nI pt ∧ v pt = true ∧ a < 4096 ∧ y = nI a ∧ t = nI (pl pt) ∧ w = va_up pl pt a)) :
    r = t ∧ JJ u z.1 z.2.1 lb z.2.2.1 z.2.2.2 v w lc := by
  rw [← JJ_no h x] at h2
  rcases h1 with ⟨a1, rfl, rfl⟩ | ⟨a1, a2, rfl, rfl⟩ | ⟨p, a, hp, rfl, up, ha, rfl, rfl, e1, e2, hI⟩
  · rcases h2 with ⟨b1, rfl, rfl⟩ | ⟨b1, b2, rfl, rfl⟩ | ⟨p, a, hp, rfl, vp, ha, rfl, rfl, rfl⟩
    · exact ⟨rfl, h⟩
    · exact (ff a1 b1).elim
    · rw [noP_n hp, (h.2 p hp).1, vp] at a1
      cases a1
  · rcases h2 with ⟨b1, rfl, rfl⟩ | ⟨b1, b2, rfl, rfl⟩ | ⟨p, a, hp, rfl, vp, ha, rfl, rfl, rfl⟩
    · exact (ff b1 a1).elim
    · exact ⟨rfl, h⟩
    · exact (ff a2 (badP_n ha)).elim
  · rcases h2 with ⟨b1, rfl, rfl⟩ | ⟨b1, b2, rfl, rfl⟩ | ⟨p', a', hp', ep, vp, ha', ea, rfl, rfl⟩
    · rw [noP_n hp, up] at b1
      cases b1
    · exact (ff b2 (badP_n ha)).elim
    · have epp := nI_inj (by omega) (by omega) ep
      have eaa := nI_inj ha ha' ea
      subst epp
      subst eaa
      refine ⟨by rw [(h.2 p hp).2.1], hI, fun i hi => ?_⟩
      rw [e1, e2]
      by_cases ei : i = p
      · subst ei
        simp only [va_up_self]
        exact ⟨(h.2 i hi).1, by omega, (h.2 i hi).2.2⟩
      · simp only [va_up_ne _ _ ei]
        exact h.2 i hi
theorem bad_no {a b : Nat} (ha : a < 4096) (hb : b < 4096) (h : badP (nI a) = true ∨ badP (nI b) = true) : False := by
  rcases h with q | q
  · exact ff q (badP_n ha)
  · exact ff q (badP_n hb)
theorem law_clearBox {z : (Nat → Bool) × Nat × (Nat → Nat) × BX} {w : Nat → Bool} (h : JJ u px py lb n k v pl lc)
    (h1 : Inv z.1 px py z.2.1 z.2.2.1 ∧ ((((badP x = true ∨ badP y = true) ∧ r = -1) ∧ z.1 = u) ∨ (∃ a b, a < 4096 ∧ b < 4096 ∧ x = nI a ∧ y = nI b ∧ r = nI (cnt (bxP u px py a b) 40) ∧ ∀ i, i < 40 → z.1 i = (u i && !(bxP u px py a b i)))))
    (h2 : (((badP x = true ∨ badP y = true) ∧ t = -1) ∧ w = v) ∨ (∃ a b, a < 4096 ∧ b < 4096 ∧ x = nI a ∧ y = nI b ∧ t = nI (cnt (bxP v (mx pl) (my pl) a b) 40) ∧ ∀ i, i < 40 → w i = (v i && !(bxP v (mx pl) (my pl) a b i)))) :
    r = t ∧ JJ z.1 px py lb z.2.1 z.2.2.1 w pl lc := by
  obtain ⟨hI, h1⟩ := h1
  rcases h1 with ⟨⟨a1, rfl⟩, e1⟩ | ⟨a, b, ha, hb, rfl, rfl, rfl, e1⟩
  · rcases h2 with ⟨⟨b1, rfl⟩, rfl⟩ | ⟨a, b, ha, hb, rfl, rfl, rfl, e2⟩
    · exact ⟨rfl, hI, fun i hi => by rw [e1]; exact h.2 i hi⟩
    · exact (bad_no ha hb a1).elim
  · rcases h2 with ⟨⟨b1, rfl⟩, rfl⟩ | ⟨a', b', ha', hb', ea, eb, rfl, e2⟩
    · exact (bad_no ha hb b1).elim
    · have eaa := nI_inj ha ha' ea
      have ebb := nI_inj hb hb' eb
      subst eaa
      subst ebb
      refine ⟨by rw [cnt_congr 40 (JJ_bx h a b)], hI, fun i hi => ⟨?_, (h.2 i hi).2⟩⟩
      rw [e1 i hi, e2 i hi, JJ_bx h a b i hi, (h.2 i hi).1]
theorem law_countBox (h : JJ u px py lb n k v pl lc)
    (h1 : ((badP x = true ∨ badP y = true) ∧ r = -1) ∨ (∃ a b, a < 4096 ∧ b < 4096 ∧ x = nI a ∧ y = nI b ∧ r = nI (cnt (bxP u px py a b) 40)))
    (h2 : ((badP x = true ∨ badP y = true) ∧ t = -1) ∨ (∃ a b, a < 4096 ∧ b < 4096 ∧ x = nI a ∧ y = nI b ∧ t = nI (cnt (bxP v (mx pl) (my pl) a b) 40))) : r = t := by
  rcases h1 with ⟨a1, rfl⟩ | ⟨a, b, ha, hb, rfl, rfl, rfl⟩
  · rcases h2 with ⟨b1, rfl⟩ | ⟨a, b, ha, hb, rfl, rfl, rfl⟩
    · rfl
    · exact (bad_no ha hb a1).elim
  · rcases h2 with ⟨b1, rfl⟩ | ⟨a', b', ha', hb', ea, eb, rfl⟩
    · exact (bad_no ha hb b1).elim
    · have eaa := nI_inj ha ha' ea
      have ebb := nI_inj hb hb' eb
      subst eaa
      subst ebb
      rw [cnt_congr 40 (JJ_bx h a b)]
theorem law_sumBox (h : JJ u px py lb n k v pl lc)
    (h1 : ((badP x = true ∨ badP y = true) ∧ r = -1) ∨ (∃ a b, a < 4096 ∧ b < 4096 ∧ x = nI a ∧ y = nI b ∧ r = sumP (bxP u px py a b) lb 40))
    (h2 : ((badP x = true ∨ badP y = true) ∧ t = -1) ∨ (∃ a b, a < 4096 ∧ b < 4096 ∧ x = nI a ∧ y = nI b ∧ t = sumP (bxP v (mx pl) (my pl) a b) lc 40)) : r = t := by
  rcases h1 with ⟨a1, rfl⟩ | ⟨a, b, ha, hb, rfl, rfl, rfl⟩
  · rcases h2 with ⟨b1, rfl⟩ | ⟨a, b, ha, hb, rfl, rfl, rfl⟩
    · rfl
    · exact (bad_no ha hb a1).elim
  · rcases h2 with ⟨b1, rfl⟩ | ⟨a', b', ha', hb', ea, eb, rfl⟩
    · exact (bad_no ha hb b1).elim
    · have eaa := nI_inj ha ha' ea
      have ebb := nI_inj hb hb' eb
      subst eaa
      subst ebb
      exact sumP_congr 40 (fun i hi => ⟨JJ_bx h a b i hi, (h.2 i hi).2.2⟩)
theorem law_firstIn (h : JJ u px py lb n k v pl lc)
    (h1 : ((badP x = true ∨ badP y = true) ∧ r = -1) ∨ (∃ a b, a < 4096 ∧ b < 4096 ∧ x = nI a ∧ y = nI b ∧ Fst (bxP u px py a b) r))
    (h2 : ((badP x = true ∨ badP y = true) ∧ t = -1) ∨ (∃ a b, a < 4096 ∧ b < 4096 ∧ x = nI a ∧ y = nI b ∧ Fst (bxP v (mx pl) (my pl) a b) t)) : r = t := by
  rcases h1 with ⟨a1, rfl⟩ | ⟨a, b, ha, hb, rfl, rfl, e1⟩
  · rcases h2 with ⟨b1, rfl⟩ | ⟨a, b, ha, hb, rfl, rfl, -⟩
    · rfl
    · exact (bad_no ha hb a1).elim
  · rcases h2 with ⟨b1, rfl⟩ | ⟨a', b', ha', hb', ea, eb, e2⟩
    · exact (bad_no ha hb b1).elim
    · have eaa := nI_inj ha ha' ea
      have ebb := nI_inj hb hb' eb
      subst eaa
      subst ebb
      exact Fst_eq (JJ_bx h a b) e1 e2
theorem law_countNear (h : JJ u px py lb n k v pl lc)
    (h1 : (badP x = true ∧ r = -1) ∨ (∃ a, a < 4096 ∧ x = nI a ∧ ((y < 0 ∧ r = nI 0) ∨ (∃ dd, dd < 2147483648 ∧ y = nI dd ∧ r = nI (cnt (nrP u px py (a % 64) (a / 64) dd) 40)))))
    (h2 : (badP x = true ∧ t = -1) ∨ (∃ a, a < 4096 ∧ x = nI a ∧ t = nI (cnt (fun i => v i && decide (nI (ds (a % 64) (a / 64) (mx pl i) (my pl i)) ≤ y)) 40))) : r = t := by
  rcases h1 with ⟨a1, rfl⟩ | ⟨a, ha, rfl, h1⟩
  · rcases h2 with ⟨b1, rfl⟩ | ⟨a, ha, rfl, -⟩
    · rfl
    · exact (ff a1 (badP_n ha)).elim
  · rcases h2 with ⟨b1, rfl⟩ | ⟨a', ha', ea, rfl⟩
    · exact (ff b1 (badP_n ha)).elim
    · have eaa := nI_inj ha ha' ea
      subst eaa
      have hdl : ∀ i, i < 40 → ds (a % 64) (a / 64) (mx pl i) (my pl i) < 2147483648 := by
        intro i hi
        obtain ⟨e1, e2⟩ := JJ_m h hi
        have h9 := h.1.1 i hi
        have := ds_le (show a % 64 < 64 by omega) (show a / 64 < 64 by omega) h9.1 h9.2
        rw [e1, e2]
        omega
      rcases h1 with ⟨y0, rfl⟩ | ⟨dd, hdd, rfl, rfl⟩
      · rw [cnt_zero 40]
        intro i hi
        rw [decide_eq_false, Bool.and_false]
        intro q
        have h3 := nI_pos (hdl i hi)
        simp only [Int32.le_iff_toInt_le, Int32.lt_iff_toInt_lt] at *
        omega
      · congr 1
        refine cnt_congr 40 (fun i hi => ?_)
        obtain ⟨e1, e2⟩ := JJ_m h hi
        unfold nrP
        rw [(h.2 i hi).1, ← e1, ← e2]
        congr 1
        exact decide_eq_decide.mpr (nI_leI (hdl i hi) hdd).symm
theorem law_nearest (h : JJ u px py lb n k v pl lc)
    (h1 : (badP x = true ∧ r = -1) ∨ (∃ a, a < 4096 ∧ x = nI a ∧ ((y < 0 ∧ r = -4) ∨ (∃ rk, rk < 2147483648 ∧ y = nI rk ∧ ((n ≤ rk ∧ r = -3) ∨ (rk < n ∧ ∃ w, w < 40 ∧ r = nI w ∧ u w = true ∧ cnt (fun j => u j && lxb px py (a % 64) (a / 64) j w) 40 = rk))))))
    (h2 : (badP x = true ∧ t = -1) ∨ (∃ a, a < 4096 ∧ x = nI a ∧ ((y < 0 ∧ t = -4) ∨ (∃ rk, rk < 2147483648 ∧ y = nI rk ∧ (((∀ w, w < 40 → v w = true → cnt (fun j => v j && lxb (mx pl) (my pl) (a % 64) (a / 64) j w) 40 ≠ rk) ∧ t = -3) ∨ (∃ w, w < 40 ∧ t = nI w ∧ v w = true ∧ cnt (fun j => v j && lxb (mx pl) (my pl) (a % 64) (a / 64) j w) 40 = rk)))))) : r = t := by
  have hcc : ∀ a w, w < 40 → cnt (fun j => v j && lxb (mx pl) (my pl) (a % 64) (a / 64) j w) 40 = cnt (fun j => u j && lxb px py (a % 64) (a / 64) j w) 40 := by
    intro a w hw
    refine cnt_congr 40 (fun i hi => ?_)
    obtain ⟨e1, e2⟩ := JJ_m h hi
    obtain ⟨e3, e4⟩ := JJ_m h hw
    unfold lxb
    rw [(h.2 i hi).1, e1, e2, e3, e4]
  rcases h1 with ⟨a1, rfl⟩ | ⟨a, ha, rfl, h1⟩
  · rcases h2 with ⟨b1, rfl⟩ | ⟨a, ha, rfl, -⟩
    · rfl
    · exact (ff a1 (badP_n ha)).elim
  · rcases h2 with ⟨b1, rfl⟩ | ⟨a', ha', ea, h2⟩
    · exact (ff b1 (badP_n ha)).elim
    · have eaa := nI_inj ha ha' ea
      subst eaa
      rcases h1 with ⟨y0, rfl⟩ | ⟨rk, hrk, rfl, h1⟩
      · rcases h2 with ⟨y1, rfl⟩ | ⟨rk, hrk, rfl, -⟩
        · rfl
        · exact absurd y0 (nI_pos hrk)
      · rcases h2 with ⟨y1, rfl⟩ | ⟨rk', hrk', ek, h2⟩
        · exact absurd y1 (nI_pos hrk)
        · have ekk := (nI_eq hrk hrk').mp ek
          subst ekk
          rcases h1 with ⟨c1, rfl⟩ | ⟨c1, w, hw, rfl, uw, c2⟩
          · rcases h2 with ⟨d1, rfl⟩ | ⟨w, hw, rfl, vw, d2⟩
            · rfl
            · rw [hcc a w hw] at d2
              have := rank_lt (px := px) (py := py) (x := a % 64) (y := a / 64) hw (show u w = true by rw [(h.2 w hw).1]; exact vw)
              have := h.1.2.1
              omega
          · rcases h2 with ⟨d1, rfl⟩ | ⟨w', hw', rfl, vw, d2⟩
            · exact absurd (by rw [hcc a w hw]; exact c2) (d1 w hw (by rw [← (h.2 w hw).1]; exact uw))
            · rw [hcc a w' hw'] at d2
              rw [rank_inj hw hw' uw (by rw [(h.2 w' hw').1]; exact vw) (c2.trans d2.symm)]
theorem law_placeOf (h : JJ u px py lb n k v pl lc)
    (h1 : (noP u x = true ∧ r = -3) ∨ (∃ pt, pt < 40 ∧ x = nI pt ∧ u pt = true ∧ r = nI (px pt + 64 * py pt)))
    (h2 : (noP v x = true ∧ t = -3) ∨ (∃ pt, pt < 40 ∧ x = nI pt ∧ v pt = true ∧ t = nI (pl pt))) : r = t := by
  rw [← JJ_no h x] at h2
  rcases h1 with ⟨a1, rfl⟩ | ⟨p, hp, rfl, up, rfl⟩
  · rcases h2 with ⟨b1, rfl⟩ | ⟨p, hp, rfl, vp, rfl⟩
    · rfl
    · rw [noP_n hp, (h.2 p hp).1, vp] at a1
      cases a1
  · rcases h2 with ⟨b1, rfl⟩ | ⟨p', hp', ep, vp, rfl⟩
    · rw [noP_n hp, up] at b1
      cases b1
    · rw [← nI_inj (by omega) (by omega) ep, (h.2 p hp).2.1]
theorem law_labelOf (h : JJ u px py lb n k v pl lc)
    (h1 : (noP u x = true ∧ r = nI 0) ∨ (∃ pt, pt < 40 ∧ x = nI pt ∧ u pt = true ∧ r = lb pt))
    (h2 : (noP v x = true ∧ t = nI 0) ∨ (∃ pt, pt < 40 ∧ x = nI pt ∧ v pt = true ∧ t = lc pt)) : r = t := by
  rw [← JJ_no h x] at h2
  rcases h1 with ⟨a1, rfl⟩ | ⟨p, hp, rfl, up, rfl⟩
  · rcases h2 with ⟨b1, rfl⟩ | ⟨p, hp, rfl, vp, rfl⟩
    · rfl
    · rw [noP_n hp, (h.2 p hp).1, vp] at a1
      cases a1
  · rcases h2 with ⟨b1, rfl⟩ | ⟨p', hp', ep, vp, rfl⟩
    · rw [noP_n hp, up] at b1
      cases b1
    · rw [← nI_inj (by omega) (by omega) ep, (h.2 p hp).2.2]
theorem Cls_congr {u v : Nat → Bool} {px py qx qy : Nat → Nat} {r : Int32} (e : ∀ i, i < 40 → u i = v i ∧ px i = qx i ∧ py i = qy i) (h : Cls u px py r) : Cls v qx qy r := by
  rcases h with ⟨e1, h1⟩ | ⟨b, b1, b2, ⟨i, j, i1, i2, i3, i4, i5, i6⟩, b3⟩
  · exact Or.inl ⟨e1, fun i j hi hj vi vj => h1 i j hi hj (by rw [(e i hi).1]; exact vi) (by rw [(e j hj).1]; exact vj)⟩
  · refine Or.inr ⟨b, b1, b2, ⟨i, j, i1, i2, i3, by rw [← (e i i1).1]; exact i4, by rw [← (e j i2).1]; exact i5, by rw [← (e i i1).2.1, ← (e i i1).2.2, ← (e j i2).2.1, ← (e j i2).2.2]; exact i6⟩, fun i j hi hj hne vi vj => ?_⟩
    have := b3 i j hi hj hne (by rw [(e i hi).1]; exact vi) (by rw [(e j hj).1]; exact vj)
    rw [(e i hi).2.1, (e i hi).2.2, (e j hj).2.1, (e j hj).2.2] at this
    exact this
theorem law_closest (h : JJ u px py lb n k v pl lc) (h1 : Cls u px py r) (h2 : Cls v (mx pl) (my pl) t) : r = t :=
  Cls_eq (Cls_congr (fun i hi => ⟨(h.2 i hi).1, (JJ_m h hi).1.symm, (JJ_m h hi).2.symm⟩) h1) h2
theorem law_count (h : JJ u px py lb n k v pl lc) (h1 : r = nI n) (h2 : t = nI (cnt v 40)) : r = t := by
  rw [h1, h2, h.1.2.1, cnt_congr 40 (fun i hi => (h.2 i hi).1)]
end JJS
theorem JJ_0 : JJ (fun _ => false) (fun _ => 0) (fun _ => 0) (fun _ => nI 0) 0 (fun _ => 0) (fun _ => false) (fun _ => 0) (fun _ => nI 0) := by
  refine ⟨⟨fun i _ => ⟨Nat.zero_lt_succ 63, Nat.zero_lt_succ 63⟩, (cnt_zero 40 (fun i _ => rfl)).symm, fun i j _ hj => absurd hj (Nat.not_lt_zero j), fun x => ⟨?_, ?_⟩⟩, fun i _ => ⟨rfl, rfl, rfl⟩⟩
  · rintro ⟨j, hj, -⟩
    omega
  · rintro ⟨i, -, h, -⟩
    cases h
end
section
/-! THE CLAIM OUT OF ONE WALK OF THE LAW'S BODY. Your part is whole_start (and what it stands on); all else here is the same for every law, but numbers. -/
def R_law : String := "CellIndexLaw"
def lw_P (b : Addr) (xs : List Int32) (args : Array Value) (s : State) : Prop := args = #[.ref b] ∧ s.IntsAt b xs ∧ xs.length ≤ 192 ∧ (Jvm.Cond.and given_1 narrow_1).before args s = true
def lw_Q (_ : Array Value) (s : State) (o : Outcome) (t : State) : Prop := o = .returned (some (.int 1)) ∧ Framed s o t [] 600000 7290000
def lw_Z (below : List Frame) (a : Array Value) (s : State) : State → Prop := fun t => ∃ o, t.status = .running ∧ Ended t below o ∧ lw_Q a s o t
/-- the law's own end, with 1 on the stack, nothing written that was there before, its room as the claim has it -/
theorem lw_ret {p : Program} {l : Launch} {e : Env} {s : State} {m : MethodId} {below : List Frame} {meth : Method} {c : Code} {b : Nat} (hx : p.tables.exec = Jvm.exec) (hb : c.code = code) (hr : meth.sig.returnType = ret) (hlocks : meth.locks = false) {pc : Nat} {H : Heap} {ls : Array Slot} (hdg : decode code pc = .ok (.ireturn, 1)) : W p l e room_1 s m #[Value.ref b] below meth c H [] 600000 7290000 (lw_Z below #[Value.ref b] s) (F0 m pc ls [.int 1]) := by
  intro T hT X
  obtain ⟨fs, hret, hrun, hended, hW, hframe⟩ := X.leave (v := some (.int 1)) (hlocks := hlocks) (fun h => by rw [hr] at h; cases h)
  have hmeth' : T.vm.method? m = some meth := X.method'
  refine ⟨T.setFrames fs, ?_, .returned (some (.int 1)), hrun, hended, rfl, ⟨_, rfl⟩, hW, hframe⟩
  jvm_step X.here [X.here.top, hx, hb, hdg, hmeth', hr, ret, narrow_b1]
  (try refine ⟨rfl, ?_⟩); (try refine ⟨rfl, ?_⟩)
  first | (intro acts; rw [hret _ acts rfl rfl rfl]) | rw [hret _ _ rfl rfl rfl]
  exact Steps.refl _
/-- what holds at the law's entry: the machine, the code, the tables' words (any of lw_tbl by 'hts w (by decide +kernel)'), the script of L ints xs at the cell b, what the Statement gives of the start (any of its parts by flat_of_before) -/
def lw_At (p : Program) (s : State) (m : MethodId) (meth : Method) (c : Code) (b L : Nat) (xs : Nat → Int32) : Prop :=
  p.tables.exec = Jvm.exec ∧ c.code = code ∧ meth.sig.returnType = ret ∧ c.maxLocals = 4 ∧ s.vm.findClass R_law = some m.cls ∧ (∀ w ∈ lw_tbl, w.before #[Value.ref b] s = true) ∧ va_X b L xs s s.heap ∧ b < s.heap.size ∧ meth.locks = false ∧ (Jvm.Cond.and given_1 narrow_1).before #[Value.ref b] s = true
end
section
/-! the law: its world between the calls, rows of its own -/
def lA (s : State) : Nat → Prop := fun q => s.heap.size ≤ q
def GW (s : State) (D : va_G) (g h : Nat → Nat) (d f : Nat → ClassId) : Prop :=
  va_K D vwCl (tX d) s ∧ va_K D vwCl (tM f) s ∧ xN 7 g ∧ xN 4 h ∧ (∀ i j, i < 7 → j < 4 → g i ≠ h j) ∧ (∀ i, i < 7 → s.heap.size ≤ g i) ∧ (∀ j, j < 4 → s.heap.size ≤ h j)
def LE (s : State) (D : va_G) (g h : Nat → Nat) (d f : Nat → ClassId) (H : Heap) (locs : List Loc) : Prop :=
  va_S (lA s) s.heap H locs ∧ ∃ (u : Nat → Bool) (px py : Nat → Nat) (lb : Nat → Int32) (n : Nat) (k : Nat → Nat) (le mo x0 x1 y0 y1 fo : Nat) (ins : Nat → Nat) (v : Nat → Bool) (pl : Nat → Nat) (lc : Nat → Int32), JJ u px py lb n k v pl lc ∧ va_P D vwCl (wX g d u px py lb n k le mo x0 x1 y0 y1 fo ins) H ∧ va_P D vwCl (wM h f v pl lc) H
theorem lw_keep {D : va_G} {w : va_W} {H H1 : Heap} {A : Nat → Prop} (hP : va_P D vwCl w H) (hk : ∀ q : Nat, q < H.size → ¬ A q → H1[q]? = H[q]?) (hd : ∀ q ∈ w.map (fun q => q.1), ¬ A q) : va_P D vwCl w H1 :=
  hP.kept (fun k q hq => hk q.1 (hP k q hq).lt (hd q.1 (List.mem_map.mpr ⟨q, List.mem_of_getElem? hq, rfl⟩)))
theorem lw_keepM {D : va_G} {g h : Nat → Nat} {f : Nat → ClassId} {v : Nat → Bool} {pl : Nat → Nat} {lc : Nat → Int32} {H H1 : Heap} (hap : ∀ i j, i < 7 → j < 4 → g i ≠ h j) (hP : va_P D vwCl (wM h f v pl lc) H) (hk : ∀ q : Nat, q < H.size → ¬ xA 7 g q → H1[q]? = H[q]?) : va_P D vwCl (wM h f v pl lc) H1 := by
  refine lw_keep hP hk (fun q hq => ?_)
  have hq : q ∈ (List.range 4).map h := hq
  obtain ⟨j, hj, rfl⟩ := List.mem_map.mp hq
  rintro ⟨i, hi, e⟩
  exact hap i j hi (List.mem_range.mp hj) e.symm
theorem lw_keepX {D : va_G} {g h : Nat → Nat} {d : Nat → ClassId} {u : Nat → Bool} {px py : Nat → Nat} {lb : Nat → Int32} {n : Nat} {k : Nat → Nat} {le mo x0 x1 y0 y1 fo : Nat} {ins : Nat → Nat} {H H1 : Heap} (hap : ∀ i j, i < 7 → j < 4 → g i ≠ h j) (hP : va_P D vwCl (wX g d u px py lb n k le mo x0 x1 y0 y1 fo ins) H) (hk : ∀ q : Nat, q < H.size → ¬ xA 4 h q → H1[q]? = H[q]?) : va_P D vwCl (wX g d u px py lb n k le mo x0 x1 y0 y1 fo ins) H1 := by
  refine lw_keep hP hk (fun q hq => ?_)
  have hq : q ∈ (List.range 7).map g := hq
  obtain ⟨j, hj, rfl⟩ := List.mem_map.mp hq
  rintro ⟨i, hi, e⟩
  exact hap j i (List.mem_range.mp hj) hi e
theorem lw_fx {s : State} {N : Nat} {g : Nat → Nat} (h : ∀ i, i < N → s.heap.size ≤ g i) : ∀ q, xA N g q → lA s q := by
  rintro q ⟨k, hk, rfl⟩
  exact h k hk
section LWR
variable {p : Program} {l : Launch} {e : Env} {R : Room} {s : State} {m : MethodId} {args : Array Value} {below : List Frame} {meth : Method} {c : Code} {H : Heap} {locs : List Loc} {cells slots : Nat} {Q : State → Prop}
variable {cc : ByteArray} {pc : Nat} {ls : Array Slot} {rest : List Value}
theorem lw_sld {b L : Nat} {xs : Nat → Int32} {i : Nat} (hx : p.tables.exec = Jvm.exec) (hb : c.code = cc) (hX : va_X b L xs s s.heap) (hbl : b < s.heap.size) (hS : va_S (lA s) s.heap H locs) (hL : L ≤ 192) (hi : i < L) (hdg : decode cc pc = .ok (.iaload, 1))
    (kk : W p l e R s m args below meth c H locs cells slots Q (F0 m (pc + 1) ls (.int (xs i) :: rest))) : W p l e R s m args below meth c H locs cells slots Q (F0 m pc ls (.int (nI i) :: .ref b :: rest)) :=
  va_sld hx hb hX hbl (Nat.not_le.mpr hbl) hS (vp_in_nI hi (by omega)) hdg (by rw [nI_clamp (show i < 2 ^ 31 by omega)]; exact kk)
theorem lw_slen {b L : Nat} {xs : Nat → Int32} (hx : p.tables.exec = Jvm.exec) (hb : c.code = cc) (hX : va_X b L xs s s.heap) (hbl : b < s.heap.size) (hS : va_S (lA s) s.heap H locs) (hdg : decode cc pc = .ok (.arraylength, 1))
    (kk : W p l e R s m args below meth c H locs cells slots Q (F0 m (pc + 1) ls (.int (nI L) :: rest))) : W p l e R s m args below meth c H locs cells slots Q (F0 m pc ls (.ref b :: rest)) :=
  va_slen hx hb hX hbl (Nat.not_le.mpr hbl) hS hdg kk
end LWR
theorem lw_and15 (x : Int32) : ∃ j, j < 16 ∧ x &&& nI 15 = nI j := by
  refine ⟨x.toBitVec.toNat % 16, by omega, ?_⟩
  have hx : x = nI x.toBitVec.toNat := by
    apply Int32.toBitVec_inj.mp
    rw [ci_bv]
    exact BitVec.eq_of_toNat_eq (by simp)
  have h2 : nI x.toBitVec.toNat &&& nI 15 = nI (x.toBitVec.toNat % 16) := by
    rw [ci_andE, show x.toBitVec.toNat &&& 15 = x.toBitVec.toNat % 16 from Nat.and_two_pow_sub_one_eq_mod _ 4]
  rw [← hx] at h2
  exact h2
theorem lw_gt {i L : Nat} (hi : i ≤ 192) (hL : L ≤ 192) : nI L - nI 3 < nI i ↔ L < i + 3 := by
  rw [Int32.lt_iff_toInt_lt, Int32.toInt_sub, nI_toInt (show L < 2 ^ 31 by omega), nI_toInt (show 3 < 2 ^ 31 by omega), nI_toInt (show i < 2 ^ 31 by omega), Int.bmod_def]
  split <;> omega
end
section
set_option maxHeartbeats 8000000 in
set_option maxRecDepth 100000 in
theorem lc_add {p : Program} {l : Launch} {e : Env} {s : State} {m : MethodId} {below : List Frame} {meth : Method} {c : Code} {b L : Nat} {xs : Nat → Int32} {D : va_G} {g h : Nat → Nat} {d f : Nat → ClassId} {H : Heap} {locs : List Loc} {Q : State → Prop} {ls : Array Slot} {i : Nat} (hL : L ≤ 192) (C0 : lw_At p s m meth c b L xs) (hG : GW s D g h d f) (hi : i + 3 ≤ L) (hE : LE s D g h d f H locs) (hl : lv_has ls 4 [(0, .ref b), (1, .ref (g 0)), (2, .ref (h 0)), (3, .int (nI i))])
    (K : ∀ (H : Heap) (locs : List Loc), LE s D g h d f H locs → W p l e room_1 s m #[Value.ref b] below meth c H locs 11 377 Q (F0 m 459 ls [])) : W p l e room_1 s m #[Value.ref b] below meth c H locs 11 377 Q (F0 m 100 ls []) := by
  obtain ⟨hx, hb, hr, hml, hown, hts0, hX, hbl, hlocks, hgv⟩ := C0
  have hts : ∀ w ∈ lw_all, w.before #[Value.ref b] s = true := fun w h => hts0 w (lw_all_tbl h)
  obtain ⟨hKx, hKm, hgx, hgm, hap, hgA, hhA⟩ := hG
  obtain ⟨hS, u, px, py, lb, n, k, le, mo, x0, x1, y0, y1, fo, ins, v, pl, lc, hJ, hPx, hPm⟩ := hE
  refine lv_aload_n hx hb dL_law_100 rfl (lv_at hl 1 rfl) ?_
  refine lv_aload_n hx hb dL_law_101 rfl (lv_at hl 0 rfl) ?_
  refine lv_iload_n hx hb dL_law_102 rfl (lv_at hl 3 rfl) ?_
  refine lv_iconst (v := nI 1) hx hb dL_law_103 (by decide +kernel) ?_
  refine ci_iadd hx hb dL_law_104 ?_
  refine lw_sld hx hb hX hbl hS hL (show i + 1 < L by omega) dL_law_105 ?_
  refine lv_aload_n hx hb dL_law_106 rfl (lv_at hl 0 rfl) ?_
  refine lv_iload_n hx hb dL_law_107 rfl (lv_at hl 3 rfl) ?_
  refine lv_iconst (v := nI 2) hx hb dL_law_108 (by decide +kernel) ?_
  refine ci_iadd hx hb dL_law_109 ?_
  refine lw_sld hx hb hX hbl hS hL (show i + 2 < L by omega) dL_law_110 ?_
  refine va_calli (va_runV (As := [.int (xs (i + 1)), .int (xs (i + 2))]) (rest := []) ⟨hx, hb, hml, hown, hts⟩ (met_X0_add l D g d hgx u px py lb n k le mo x0 x1 y0 y1 fo ins (xs (i + 1)) (xs (i + 2)) hJ.1) (cwV 2 hts (lw_V q78 q79 q80 q23 q81) rfl rfl rfl (by decide +kernel) ⟨Nat.le_of_ble_eq_true rfl, Nat.le_of_ble_eq_true rfl⟩) (ci_pre hKx hPx (ci := 0) (q0 := 0) rfl rfl) rfl rfl hl.1 rfl (lv_room (Nat.le_of_ble_eq_true rfl)) dL_law_111 ⟨Nat.le_of_ble_eq_true rfl, Nat.le_of_ble_eq_true rfl⟩) hS (fun q _ h => lw_fx hgA q h) (lw_fx hgA) (fun r z tt H1 locs1 ht hvm hr1 hB hz1 hk1 hS => ?_)
  have hPm := lw_keepM hap hPm hk1
  have hPx : va_P D vwCl (wX g d z.1 z.2.1 z.2.2.1 z.2.2.2.1 z.2.2.2.2.1 z.2.2.2.2.2 le mo x0 x1 y0 y1 fo ins) H1 := by rw [← ht]; exact hB
  clear hB hk1 hz1 ht hvm tt
  generalize H1 = H at hPx hPm hS ⊢
  generalize locs1 = locs at hS ⊢
  refine lv_aload_n hx hb dL_law_114 rfl (lv_at hl 2 rfl) ?_
  refine lv_aload_n hx hb dL_law_115 rfl (lv_at hl 0 rfl) ?_
  refine lv_iload_n hx hb dL_law_116 rfl (lv_at hl 3 rfl) ?_
  refine lv_iconst (v := nI 1) hx hb dL_law_117 (by decide +kernel) ?_
  refine ci_iadd hx hb dL_law_118 ?_
  refine lw_sld hx hb hX hbl hS hL (show i + 1 < L by omega) dL_law_119 ?_
  refine lv_aload_n hx hb dL_law_120 rfl (lv_at hl 0 rfl) ?_
  refine lv_iload_n hx hb dL_law_121 rfl (lv_at hl 3 rfl) ?_
  refine lv_iconst (v := nI 2) hx hb dL_law_122 (by decide +kernel) ?_
  refine ci_iadd hx hb dL_law_123 ?_
  refine lw_sld hx hb hX hbl hS hL (show i + 2 < L by omega) dL_law_124 ?_
  refine va_calli (va_runV (As := [.int (xs (i + 1)), .int (xs (i + 2))]) (rest := [.int r]) ⟨hx, hb, hml, hown, hts⟩ (met_X1_add l D h f hgm v pl lc (xs (i + 1)) (xs (i + 2)) ) (cwV 2 hts (lw_V q225 q226 q227 q24 q228) rfl rfl rfl (by decide +kernel) ⟨Nat.le_of_ble_eq_true rfl, Nat.le_of_ble_eq_true rfl⟩) (ci_pre hKm hPm (ci := 1) (q0 := 0) rfl rfl) rfl rfl hl.1 rfl (lv_room (Nat.le_of_ble_eq_true rfl)) dL_law_125 ⟨Nat.le_of_ble_eq_true rfl, Nat.le_of_ble_eq_true rfl⟩) hS (fun q _ h => lw_fx hhA q h) (lw_fx hhA) (fun t y tt H1 locs1 ht hvm hr2 hB hz1 hk1 hS => ?_)
  have hPx := lw_keepX hap hPx hk1
  have hPm : va_P D vwCl (wM h f y.1 y.2.1 y.2.2) H1 := by rw [← ht]; exact hB
  clear hB hk1 hz1 ht hvm tt
  generalize H1 = H at hPx hPm hS ⊢
  generalize locs1 = locs at hS ⊢
  obtain ⟨e9, hJ⟩ := law_add hJ hr1 hr2
  refine lv_icmp_eq (tgt := 459) hx hb dL_law_128 (by decide) (fun _ => ?_) (fun c9 => absurd e9 c9)
  exact K _ _ ⟨hS, _, _, _, _, _, _, _, _, _, _, _, _, _, _, _, _, _, hJ, hPx, hPm⟩
set_option maxHeartbeats 8000000 in
set_option maxRecDepth 100000 in
theorem lc_remove {p : Program} {l : Launch} {e : Env} {s : State} {m : MethodId} {below : List Frame} {meth : Method} {c : Code} {b L : Nat} {xs : Nat → Int32} {D : va_G} {g h : Nat → Nat} {d f : Nat → ClassId} {H : Heap} {locs : List Loc} {Q : State → Prop} {ls : Array Slot} {i : Nat} (hL : L ≤ 192) (C0 : lw_At p s m meth c b L xs) (hG : GW s D g h d f) (hi : i + 3 ≤ L) (hE : LE s D g h d f H locs) (hl : lv_has ls 4 [(0, .ref b), (1, .ref (g 0)), (2, .ref (h 0)), (3, .int (nI i))])
    (K : ∀ (H : Heap) (locs : List Loc), LE s D g h d f H locs → W p l e room_1 s m #[Value.ref b] below meth c H locs 11 377 Q (F0 m 459 ls [])) : W p l e room_1 s m #[Value.ref b] below meth c H locs 11 377 Q (F0 m 133 ls []) := by
  obtain ⟨hx, hb, hr, hml, hown, hts0, hX, hbl, hlocks, hgv⟩ := C0
  have hts : ∀ w ∈ lw_all, w.before #[Value.ref b] s = true := fun w h => hts0 w (lw_all_tbl h)
  obtain ⟨hKx, hKm, hgx, hgm, hap, hgA, hhA⟩ := hG
  obtain ⟨hS, u, px, py, lb, n, k, le, mo, x0, x1, y0, y1, fo, ins, v, pl, lc, hJ, hPx, hPm⟩ := hE
  refine lv_aload_n hx hb dL_law_133 rfl (lv_at hl 1 rfl) ?_
  refine lv_aload_n hx hb dL_law_134 rfl (lv_at hl 0 rfl) ?_
  refine lv_iload_n hx hb dL_law_135 rfl (lv_at hl 3 rfl) ?_
  refine lv_iconst (v := nI 1) hx hb dL_law_136 (by decide +kernel) ?_
  refine ci_iadd hx hb dL_law_137 ?_
  refine lw_sld hx hb hX hbl hS hL (show i + 1 < L by omega) dL_law_138 ?_
  refine va_calli (va_runV (As := [.int (xs (i + 1))]) (rest := []) ⟨hx, hb, hml, hown, hts⟩ (met_X0_remove l D g d hgx u px py lb n k le mo x0 x1 y0 y1 fo ins (xs (i + 1)) hJ.1) (cwV 1 hts (lw_V q100 q101 q102 q23 q103) rfl rfl rfl (by decide +kernel) ⟨Nat.le_of_ble_eq_true rfl, Nat.le_of_ble_eq_true rfl⟩) (ci_pre hKx hPx (ci := 0) (q0 := 0) rfl rfl) rfl rfl hl.1 rfl (lv_room (Nat.le_of_ble_eq_true rfl)) dL_law_139 ⟨Nat.le_of_ble_eq_true rfl, Nat.le_of_ble_eq_true rfl⟩) hS (fun q _ h => lw_fx hgA q h) (lw_fx hgA) (fun r z tt H1 locs1 ht hvm hr1 hB hz1 hk1 hS => ?_)
  have hPm := lw_keepM hap hPm hk1
  have hPx : va_P D vwCl (wX g d z.1 px py lb z.2.1 z.2.2 le mo x0 x1 y0 y1 fo ins) H1 := by rw [← ht]; exact hB
  clear hB hk1 hz1 ht hvm tt
  generalize H1 = H at hPx hPm hS ⊢
  generalize locs1 = locs at hS ⊢
  refine lv_aload_n hx hb dL_law_142 rfl (lv_at hl 2 rfl) ?_
  refine lv_aload_n hx hb dL_law_143 rfl (lv_at hl 0 rfl) ?_
  refine lv_iload_n hx hb dL_law_144 rfl (lv_at hl 3 rfl) ?_
  refine lv_iconst (v := nI 1) hx hb dL_law_145 (by decide +kernel) ?_
  refine ci_iadd hx hb dL_law_146 ?_
  refine lw_sld hx hb hX hbl hS hL (show i + 1 < L by omega) dL_law_147 ?_
  refine va_calli (va_runV (As := [.int (xs (i + 1))]) (rest := [.int r]) ⟨hx, hb, hml, hown, hts⟩ (met_X1_remove l D h f hgm v pl lc (xs (i + 1)) ) (cwV 1 hts (lw_V q233 q234 q235 q24 q236) rfl rfl rfl (by decide +kernel) ⟨Nat.le_of_ble_eq_true rfl, Nat.le_of_ble_eq_true rfl⟩) (ci_pre hKm hPm (ci := 1) (q0 := 0) rfl rfl) rfl rfl hl.1 rfl (lv_room (Nat.le_of_ble_eq_true rfl)) dL_law_148 ⟨Nat.le_of_ble_eq_true rfl, Nat.le_of_ble_eq_true rfl⟩) hS (fun q _ h => lw_fx hhA q h) (lw_fx hhA) (fun t y tt H1 locs1 ht hvm hr2 hB hz1 hk1 hS => ?_)
  have hPx := lw_keepX hap hPx hk1
  have hPm : va_P D vwCl (wM h f y pl lc) H1 := by rw [← ht]; exact hB
  clear hB hk1 hz1 ht hvm tt
  generalize H1 = H at hPx hPm hS ⊢
  generalize locs1 = locs at hS ⊢
  obtain ⟨e9, hJ⟩ := law_remove hJ hr1 hr2
  refine lv_icmp_eq (tgt := 459) hx hb dL_law_151 (by decide) (fun _ => ?_) (fun c9 => absurd e9 c9)
  exact K _ _ ⟨hS, _, _, _, _, _, _, _, _, _, _, _, _, _, _, _, _, _, hJ, hPx, hPm⟩
set_option maxHeartbeats 8000000 in
set_option maxRecDepth 100000 in
theorem lc_move {p : Program} {l : Launch} {e : Env} {s : State} {m : MethodId} {below : List Frame} {meth : Method} {c : Code} {b L : Nat} {xs : Nat → Int32} {D : va_G} {g h : Nat → Nat} {d f : Nat → ClassId} {H : Heap} {locs : List Loc} {Q : State → Prop} {ls : Array Slot} {i : Nat} (hL : L ≤ 192) (C0 : lw_At p s m meth c b L xs) (hG : GW s D g h d f) (hi : i + 3 ≤ L) (hE : LE s D g h d f H locs) (hl : lv_has ls 4 [(0, .ref b), (1, .ref (g 0)), (2, .ref (h 0)), (3, .int (nI i))])
    (K : ∀ (H : Heap) (locs : List Loc), LE s D g h d f H locs → W p l e room_1 s m #[Value.ref b] below meth c H locs 11 377 Q (F0 m 459 ls [])) : W p l e room_1 s m #[Value.ref b] below meth c H locs 11 377 Q (F0 m 156 ls []) := by
  obtain ⟨hx, hb, hr, hml, hown, hts0, hX, hbl, hlocks, hgv⟩ := C0
  have hts : ∀ w ∈ lw_all, w.before #[Value.ref b] s = true := fun w h => hts0 w (lw_all_tbl h)
  obtain ⟨hKx, hKm, hgx, hgm, hap, hgA, hhA⟩ := hG
  obtain ⟨hS, u, px, py, lb, n, k, le, mo, x0, x1, y0, y1, fo, ins, v, pl, lc, hJ, hPx, hPm⟩ := hE
  refine lv_aload_n hx hb dL_law_156 rfl (lv_at hl 1 rfl) ?_
  refine lv_aload_n hx hb dL_law_157 rfl (lv_at hl 0 rfl) ?_
  refine lv_iload_n hx hb dL_law_158 rfl (lv_at hl 3 rfl) ?_
  refine lv_iconst (v := nI 1) hx hb dL_law_159 (by decide +kernel) ?_
  refine ci_iadd hx hb dL_law_160 ?_
  refine lw_sld hx hb hX hbl hS hL (show i + 1 < L by omega) dL_law_161 ?_
  refine lv_aload_n hx hb dL_law_162 rfl (lv_at hl 0 rfl) ?_
  refine lv_iload_n hx hb dL_law_163 rfl (lv_at hl 3 rfl) ?_
  refine lv_iconst (v := nI 2) hx hb dL_law_164 (by decide +kernel) ?_
  refine ci_iadd hx hb dL_law_165 ?_
  refine lw_sld hx hb hX hbl hS hL (show i + 2 < L by omega) dL_law_166 ?_
  refine va_calli (va_runV (As := [.int (xs (i + 1)), .int (xs (i + 2))]) (rest := []) ⟨hx, hb, hml, hown, hts⟩ (met_X0_move l D g d hgx u px py lb n k le mo x0 x1 y0 y1 fo ins (xs (i + 1)) (xs (i + 2)) hJ.1) (cwV 2 hts (lw_V q116 q117 q118 q23 q119) rfl rfl rfl (by decide +kernel) ⟨Nat.le_of_ble_eq_true rfl, Nat.le_of_ble_eq_true rfl⟩) (ci_pre hKx hPx (ci := 0) (q0 := 0) rfl rfl) rfl rfl hl.1 rfl (lv_room (Nat.le_of_ble_eq_true rfl)) dL_law_167 ⟨Nat.le_of_ble_eq_true rfl, Nat.le_of_ble_eq_true rfl⟩) hS (fun q _ h => lw_fx hgA q h) (lw_fx hgA) (fun r z tt H1 locs1 ht hvm hr1 hB hz1 hk1 hS => ?_)
  have hPm := lw_keepM hap hPm hk1
  have hPx : va_P D vwCl (wX g d u z.1 z.2.1 lb z.2.2.1 z.2.2.2 le mo x0 x1 y0 y1 fo ins) H1 := by rw [← ht]; exact hB
  clear hB hk1 hz1 ht hvm tt
  generalize H1 = H at hPx hPm hS ⊢
  generalize locs1 = locs at hS ⊢
  refine lv_aload_n hx hb dL_law_170 rfl (lv_at hl 2 rfl) ?_
  refine lv_aload_n hx hb dL_law_171 rfl (lv_at hl 0 rfl) ?_
  refine lv_iload_n hx hb dL_law_172 rfl (lv_at hl 3 rfl) ?_
  refine lv_iconst (v := nI 1) hx hb dL_law_173 (by decide +kernel) ?_
  refine ci_iadd hx hb dL_law_174 ?_
  refine lw_sld hx hb hX hbl hS hL (show i + 1 < L by omega) dL_law_175 ?_
  refine lv_aload_n hx hb dL_law_176 rfl (lv_at hl 0 rfl) ?_
  refine lv_iload_n hx hb dL_law_177 rfl (lv_at hl 3 rfl) ?_
  refine lv_iconst (v := nI 2) hx hb dL_law_178 (by decide +kernel) ?_
  refine ci_iadd hx hb dL_law_179 ?_
  refine lw_sld hx hb hX hbl hS hL (show i + 2 < L by omega) dL_law_180 ?_
  refine va_calli (va_runV (As := [.int (xs (i + 1)), .int (xs (i + 2))]) (rest := [.int r]) ⟨hx, hb, hml, hown, hts⟩ (met_X1_move l D h f hgm v pl lc (xs (i + 1)) (xs (i + 2)) ) (cwV 2 hts (lw_V q245 q246 q247 q24 q248) rfl rfl rfl (by decide +kernel) ⟨Nat.le_of_ble_eq_true rfl, Nat.le_of_ble_eq_true rfl⟩) (ci_pre hKm hPm (ci := 1) (q0 := 0) rfl rfl) rfl rfl hl.1 rfl (lv_room (Nat.le_of_ble_eq_true rfl)) dL_law_181 ⟨Nat.le_of_ble_eq_true rfl, Nat.le_of_ble_eq_true rfl⟩) hS (fun q _ h => lw_fx hhA q h) (lw_fx hhA) (fun t y tt H1 locs1 ht hvm hr2 hB hz1 hk1 hS => ?_)
  have hPx := lw_keepX hap hPx hk1
  have hPm : va_P D vwCl (wM h f v y lc) H1 := by rw [← ht]; exact hB
  clear hB hk1 hz1 ht hvm tt
  generalize H1 = H at hPx hPm hS ⊢
  generalize locs1 = locs at hS ⊢
  obtain ⟨e9, hJ⟩ := law_move hJ hr1 hr2
  refine lv_icmp_eq (tgt := 459) hx hb dL_law_184 (by decide) (fun _ => ?_) (fun c9 => absurd e9 c9)
  exact K _ _ ⟨hS, _, _, _, _, _, _, _, _, _, _, _, _, _, _, _, _, _, hJ, hPx, hPm⟩
set_option maxHeartbeats 8000000 in
set_option maxRecDepth 100000 in
theorem lc_clearBox {p : Program} {l : Launch} {e : Env} {s : State} {m : MethodId} {below : List Frame} {meth : Method} {c : Code} {b L : Nat} {xs : Nat → Int32} {D : va_G} {g h : Nat → Nat} {d f : Nat → ClassId} {H : Heap} {locs : List Loc} {Q : State → Prop} {ls : Array Slot} {i : Nat} (hL : L ≤ 192) (C0 : lw_At p s m meth c b L xs) (hG : GW s D g h d f) (hi : i + 3 ≤ L) (hE : LE s D g h d f H locs) (hl : lv_has ls 4 [(0, .ref b), (1, .ref (g 0)), (2, .ref (h 0)), (3, .int (nI i))])
    (K : ∀ (H : Heap) (locs : List Loc), LE s D g h d f H locs → W p l e room_1 s m #[Value.ref b] below meth c H locs 11 377 Q (F0 m 459 ls [])) : W p l e room_1 s m #[Value.ref b] below meth c H locs 11 377 Q (F0 m 189 ls []) := by
  obtain ⟨hx, hb, hr, hml, hown, hts0, hX, hbl, hlocks, hgv⟩ := C0
  have hts : ∀ w ∈ lw_all, w.before #[Value.ref b] s = true := fun w h => hts0 w (lw_all_tbl h)
  obtain ⟨hKx, hKm, hgx, hgm, hap, hgA, hhA⟩ := hG
  obtain ⟨hS, u, px, py, lb, n, k, le, mo, x0, x1, y0, y1, fo, ins, v, pl, lc, hJ, hPx, hPm⟩ := hE
  have hpl := JJ_pl hJ
  refine lv_aload_n hx hb dL_law_189 rfl (lv_at hl 1 rfl) ?_
  refine lv_aload_n hx hb dL_law_190 rfl (lv_at hl 0 rfl) ?_
  refine lv_iload_n hx hb dL_law_191 rfl (lv_at hl 3 rfl) ?_
  refine lv_iconst (v := nI 1) hx hb dL_law_192 (by decide +kernel) ?_
  refine ci_iadd hx hb dL_law_193 ?_
  refine lw_sld hx hb hX hbl hS hL (show i + 1 < L by omega) dL_law_194 ?_
  refine lv_aload_n hx hb dL_law_195 rfl (lv_at hl 0 rfl) ?_
  refine lv_iload_n hx hb dL_law_196 rfl (lv_at hl 3 rfl) ?_
  refine lv_iconst (v := nI 2) hx hb dL_law_197 (by decide +kernel) ?_
  refine ci_iadd hx hb dL_law_198 ?_
  refine lw_sld hx hb hX hbl hS hL (show i + 2 < L by omega) dL_law_199 ?_
  refine va_calli (va_runV (As := [.int (xs (i + 1)), .int (xs (i + 2))]) (rest := []) ⟨hx, hb, hml, hown, hts⟩ (met_X0_clearBox l D g d hgx u px py lb n k le mo x0 x1 y0 y1 fo ins (xs (i + 1)) (xs (i + 2)) hJ.1) (cwV 2 hts (lw_V q120 q121 q122 q23 q123) rfl rfl rfl (by decide +kernel) ⟨Nat.le_of_ble_eq_true rfl, Nat.le_of_ble_eq_true rfl⟩) (ci_pre hKx hPx (ci := 0) (q0 := 0) rfl rfl) rfl rfl hl.1 rfl (lv_room (Nat.le_of_ble_eq_true rfl)) dL_law_200 ⟨Nat.le_of_ble_eq_true rfl, Nat.le_of_ble_eq_true rfl⟩) hS (fun q _ h => lw_fx hgA q h) (lw_fx hgA) (fun r z tt H1 locs1 ht hvm hr1 hB hz1 hk1 hS => ?_)
  have hPm := lw_keepM hap hPm hk1
  have hPx : va_P D vwCl (wX g d z.1 px py lb z.2.1 z.2.2.1 z.2.2.2.1 z.2.2.2.2.1 z.2.2.2.2.2.1 z.2.2.2.2.2.2.1 z.2.2.2.2.2.2.2.1 z.2.2.2.2.2.2.2.2.1 z.2.2.2.2.2.2.2.2.2.1 z.2.2.2.2.2.2.2.2.2.2) H1 := by rw [← ht]; exact hB
  clear hB hk1 hz1 ht hvm tt
  generalize H1 = H at hPx hPm hS ⊢
  generalize locs1 = locs at hS ⊢
  refine lv_aload_n hx hb dL_law_203 rfl (lv_at hl 2 rfl) ?_
  refine lv_aload_n hx hb dL_law_204 rfl (lv_at hl 0 rfl) ?_
  refine lv_iload_n hx hb dL_law_205 rfl (lv_at hl 3 rfl) ?_
  refine lv_iconst (v := nI 1) hx hb dL_law_206 (by decide +kernel) ?_
  refine ci_iadd hx hb dL_law_207 ?_
  refine lw_sld hx hb hX hbl hS hL (show i + 1 < L by omega) dL_law_208 ?_
  refine lv_aload_n hx hb dL_law_209 rfl (lv_at hl 0 rfl) ?_
  refine lv_iload_n hx hb dL_law_210 rfl (lv_at hl 3 rfl) ?_
  refine lv_iconst (v := nI 2) hx hb dL_law_211 (by decide +kernel) ?_
  refine ci_iadd hx hb dL_law_212 ?_
  refine lw_sld hx hb hX hbl hS hL (show i + 2 < L by omega) dL_law_213 ?_
  refine va_calli (va_runV (As := [.int (xs (i + 1)), .int (xs (i + 2))]) (rest := [.int r]) ⟨hx, hb, hml, hown, hts⟩ (met_X1_clearBox l D h f hgm v pl lc (xs (i + 1)) (xs (i + 2)) hpl) (cwV 2 hts (lw_V q249 q250 q251 q24 q252) rfl rfl rfl (by decide +kernel) ⟨Nat.le_of_ble_eq_true rfl, Nat.le_of_ble_eq_true rfl⟩) (ci_pre hKm hPm (ci := 1) (q0 := 0) rfl rfl) rfl rfl hl.1 rfl (lv_room (Nat.le_of_ble_eq_true rfl)) dL_law_214 ⟨Nat.le_of_ble_eq_true rfl, Nat.le_of_ble_eq_true rfl⟩) hS (fun q _ h => lw_fx hhA q h) (lw_fx hhA) (fun t y tt H1 locs1 ht hvm hr2 hB hz1 hk1 hS => ?_)
  have hPx := lw_keepX hap hPx hk1
  have hPm : va_P D vwCl (wM h f y pl lc) H1 := by rw [← ht]; exact hB
  clear hB hk1 hz1 ht hvm tt
  generalize H1 = H at hPx hPm hS ⊢
  generalize locs1 = locs at hS ⊢
  obtain ⟨e9, hJ⟩ := law_clearBox hJ hr1 hr2
  refine lv_icmp_eq (tgt := 459) hx hb dL_law_217 (by decide) (fun _ => ?_) (fun c9 => absurd e9 c9)
  exact K _ _ ⟨hS, _, _, _, _, _, _, _, _, _, _, _, _, _, _, _, _, _, hJ, hPx, hPm⟩
end
section
set_option maxHeartbeats 8000000 in
set_option maxRecDepth 100000 in
theorem lc_countBox {p : Program} {l : Launch} {e : Env} {s : State} {m : MethodId} {below : List Frame} {meth : Method} {c : Code} {b L : Nat} {xs : Nat → Int32} {D : va_G} {g h : Nat → Nat} {d f : Nat → ClassId} {H : Heap} {locs : List Loc} {Q : State → Prop} {ls : Array Slot} {i : Nat} (hL : L ≤ 192) (C0 : lw_At p s m meth c b L xs) (hG : GW s D g h d f) (hi : i + 3 ≤ L) (hE : LE s D g h d f H locs) (hl : lv_has ls 4 [(0, .ref b), (1, .ref (g 0)), (2, .ref (h 0)), (3, .int (nI i))])
    (K : ∀ (H : Heap) (locs : List Loc), LE s D g h d f H locs → W p l e room_1 s m #[Value.ref b] below meth c H locs 11 377 Q (F0 m 459 ls [])) : W p l e room_1 s m #[Value.ref b] below meth c H locs 11 377 Q (F0 m 222 ls []) := by
  obtain ⟨hx, hb, hr, hml, hown, hts0, hX, hbl, hlocks, hgv⟩ := C0
  have hts : ∀ w ∈ lw_all, w.before #[Value.ref b] s = true := fun w h => hts0 w (lw_all_tbl h)
  obtain ⟨hKx, hKm, hgx, hgm, hap, hgA, hhA⟩ := hG
  obtain ⟨hS, u, px, py, lb, n, k, le, mo, x0, x1, y0, y1, fo, ins, v, pl, lc, hJ, hPx, hPm⟩ := hE
  have hpl := JJ_pl hJ
  refine lv_aload_n hx hb dL_law_222 rfl (lv_at hl 1 rfl) ?_
  refine lv_aload_n hx hb dL_law_223 rfl (lv_at hl 0 rfl) ?_
  refine lv_iload_n hx hb dL_law_224 rfl (lv_at hl 3 rfl) ?_
  refine lv_iconst (v := nI 1) hx hb dL_law_225 (by decide +kernel) ?_
  refine ci_iadd hx hb dL_law_226 ?_
  refine lw_sld hx hb hX hbl hS hL (show i + 1 < L by omega) dL_law_227 ?_
  refine lv_aload_n hx hb dL_law_228 rfl (lv_at hl 0 rfl) ?_
  refine lv_iload_n hx hb dL_law_229 rfl (lv_at hl 3 rfl) ?_
  refine lv_iconst (v := nI 2) hx hb dL_law_230 (by decide +kernel) ?_
  refine ci_iadd hx hb dL_law_231 ?_
  refine lw_sld hx hb hX hbl hS hL (show i + 2 < L by omega) dL_law_232 ?_
  refine va_calli (va_runV (As := [.int (xs (i + 1)), .int (xs (i + 2))]) (rest := []) ⟨hx, hb, hml, hown, hts⟩ (met_X0_countBox l D g d hgx u px py lb n k le mo x0 x1 y0 y1 fo ins (xs (i + 1)) (xs (i + 2)) hJ.1) (cwV 2 hts (lw_V q147 q148 q149 q23 q150) rfl rfl rfl (by decide +kernel) ⟨Nat.le_of_ble_eq_true rfl, Nat.le_of_ble_eq_true rfl⟩) (ci_pre hKx hPx (ci := 0) (q0 := 0) rfl rfl) rfl rfl hl.1 rfl (lv_room (Nat.le_of_ble_eq_true rfl)) dL_law_233 ⟨Nat.le_of_ble_eq_true rfl, Nat.le_of_ble_eq_true rfl⟩) hS (fun q _ h => lw_fx hgA q h) (lw_fx hgA) (fun r z tt H1 locs1 ht hvm hr1 hB hz1 hk1 hS => ?_)
  have hPm := lw_keepM hap hPm hk1
  have hPx : va_P D vwCl (wX g d u px py lb n k z.1 z.2.1 z.2.2.1 z.2.2.2.1 z.2.2.2.2.1 z.2.2.2.2.2.1 z.2.2.2.2.2.2.1 z.2.2.2.2.2.2.2) H1 := by rw [← ht]; exact hB
  clear hB hk1 hz1 ht hvm tt
  generalize H1 = H at hPx hPm hS ⊢
  generalize locs1 = locs at hS ⊢
  refine lv_aload_n hx hb dL_law_236 rfl (lv_at hl 2 rfl) ?_
  refine lv_aload_n hx hb dL_law_237 rfl (lv_at hl 0 rfl) ?_
  refine lv_iload_n hx hb dL_law_238 rfl (lv_at hl 3 rfl) ?_
  refine lv_iconst (v := nI 1) hx hb dL_law_239 (by decide +kernel) ?_
  refine ci_iadd hx hb dL_law_240 ?_
  refine lw_sld hx hb hX hbl hS hL (show i + 1 < L by omega) dL_law_241 ?_
  refine lv_aload_n hx hb dL_law_242 rfl (lv_at hl 0 rfl) ?_
  refine lv_iload_n hx hb dL_law_243 rfl (lv_at hl 3 rfl) ?_
  refine lv_iconst (v := nI 2) hx hb dL_law_244 (by decide +kernel) ?_
  refine ci_iadd hx hb dL_law_245 ?_
  refine lw_sld hx hb hX hbl hS hL (show i + 2 < L by omega) dL_law_246 ?_
  refine vp_callSi (W.runV (As := [.int (xs (i + 1)), .int (xs (i + 2))]) (rest := [.int r]) ⟨hx, hb, hml, hown, hts⟩ (met_X1_countBox l D h f  v pl lc (xs (i + 1)) (xs (i + 2)) hpl) (cwV 2 hts (lw_V q265 q254 q255 q24 q256) rfl rfl rfl (by decide +kernel) ⟨Nat.le_of_ble_eq_true rfl, Nat.le_of_ble_eq_true rfl⟩) (ci_pre hKm hPm (ci := 1) (q0 := 0) rfl rfl) rfl rfl hl.1 rfl (lv_room (Nat.le_of_ble_eq_true rfl)) dL_law_247 ⟨Nat.le_of_ble_eq_true rfl, Nat.le_of_ble_eq_true rfl⟩) (fun t hr2 => ?_)
  have e9 := law_countBox hJ hr1 hr2
  refine lv_icmp_eq (tgt := 459) hx hb dL_law_250 (by decide) (fun _ => ?_) (fun c9 => absurd e9 c9)
  exact K _ _ ⟨hS, _, _, _, _, _, _, _, _, _, _, _, _, _, _, _, _, _, hJ, hPx, hPm⟩
set_option maxHeartbeats 8000000 in
set_option maxRecDepth 100000 in
theorem lc_sumBox {p : Program} {l : Launch} {e : Env} {s : State} {m : MethodId} {below : List Frame} {meth : Method} {c : Code} {b L : Nat} {xs : Nat → Int32} {D : va_G} {g h : Nat → Nat} {d f : Nat → ClassId} {H : Heap} {locs : List Loc} {Q : State → Prop} {ls : Array Slot} {i : Nat} (hL : L ≤ 192) (C0 : lw_At p s m meth c b L xs) (hG : GW s D g h d f) (hi : i + 3 ≤ L) (hE : LE s D g h d f H locs) (hl : lv_has ls 4 [(0, .ref b), (1, .ref (g 0)), (2, .ref (h 0)), (3, .int (nI i))])
    (K : ∀ (H : Heap) (locs : List Loc), LE s D g h d f H locs → W p l e room_1 s m #[Value.ref b] below meth c H locs 11 377 Q (F0 m 459 ls [])) : W p l e room_1 s m #[Value.ref b] below meth c H locs 11 377 Q (F0 m 255 ls []) := by
  obtain ⟨hx, hb, hr, hml, hown, hts0, hX, hbl, hlocks, hgv⟩ := C0
  have hts : ∀ w ∈ lw_all, w.before #[Value.ref b] s = true := fun w h => hts0 w (lw_all_tbl h)
  obtain ⟨hKx, hKm, hgx, hgm, hap, hgA, hhA⟩ := hG
  obtain ⟨hS, u, px, py, lb, n, k, le, mo, x0, x1, y0, y1, fo, ins, v, pl, lc, hJ, hPx, hPm⟩ := hE
  have hpl := JJ_pl hJ
  refine lv_aload_n hx hb dL_law_255 rfl (lv_at hl 1 rfl) ?_
  refine lv_aload_n hx hb dL_law_256 rfl (lv_at hl 0 rfl) ?_
  refine lv_iload_n hx hb dL_law_257 rfl (lv_at hl 3 rfl) ?_
  refine lv_iconst (v := nI 1) hx hb dL_law_258 (by decide +kernel) ?_
  refine ci_iadd hx hb dL_law_259 ?_
  refine lw_sld hx hb hX hbl hS hL (show i + 1 < L by omega) dL_law_260 ?_
  refine lv_aload_n hx hb dL_law_261 rfl (lv_at hl 0 rfl) ?_
  refine lv_iload_n hx hb dL_law_262 rfl (lv_at hl 3 rfl) ?_
  refine lv_iconst (v := nI 2) hx hb dL_law_263 (by decide +kernel) ?_
  refine ci_iadd hx hb dL_law_264 ?_
  refine lw_sld hx hb hX hbl hS hL (show i + 2 < L by omega) dL_law_265 ?_
  refine va_calli (va_runV (As := [.int (xs (i + 1)), .int (xs (i + 2))]) (rest := []) ⟨hx, hb, hml, hown, hts⟩ (met_X0_sumBox l D g d hgx u px py lb n k le mo x0 x1 y0 y1 fo ins (xs (i + 1)) (xs (i + 2)) hJ.1) (cwV 2 hts (lw_V q151 q152 q153 q23 q154) rfl rfl rfl (by decide +kernel) ⟨Nat.le_of_ble_eq_true rfl, Nat.le_of_ble_eq_true rfl⟩) (ci_pre hKx hPx (ci := 0) (q0 := 0) rfl rfl) rfl rfl hl.1 rfl (lv_room (Nat.le_of_ble_eq_true rfl)) dL_law_266 ⟨Nat.le_of_ble_eq_true rfl, Nat.le_of_ble_eq_true rfl⟩) hS (fun q _ h => lw_fx hgA q h) (lw_fx hgA) (fun r z tt H1 locs1 ht hvm hr1 hB hz1 hk1 hS => ?_)
  have hPm := lw_keepM hap hPm hk1
  have hPx : va_P D vwCl (wX g d u px py lb n k z.1 z.2.1 z.2.2.1 z.2.2.2.1 z.2.2.2.2.1 z.2.2.2.2.2.1 z.2.2.2.2.2.2.1 z.2.2.2.2.2.2.2) H1 := by rw [← ht]; exact hB
  clear hB hk1 hz1 ht hvm tt
  generalize H1 = H at hPx hPm hS ⊢
  generalize locs1 = locs at hS ⊢
  refine lv_aload_n hx hb dL_law_269 rfl (lv_at hl 2 rfl) ?_
  refine lv_aload_n hx hb dL_law_270 rfl (lv_at hl 0 rfl) ?_
  refine lv_iload_n hx hb dL_law_271 rfl (lv_at hl 3 rfl) ?_
  refine lv_iconst (v := nI 1) hx hb dL_law_272 (by decide +kernel) ?_
  refine ci_iadd hx hb dL_law_273 ?_
  refine lw_sld hx hb hX hbl hS hL (show i + 1 < L by omega) dL_law_274 ?_
  refine lv_aload_n hx hb dL_law_275 rfl (lv_at hl 0 rfl) ?_
  refine lv_iload_n hx hb dL_law_276 rfl (lv_at hl 3 rfl) ?_
  refine lv_iconst (v := nI 2) hx hb dL_law_277 (by decide +kernel) ?_
  refine ci_iadd hx hb dL_law_278 ?_
  refine lw_sld hx hb hX hbl hS hL (show i + 2 < L by omega) dL_law_279 ?_
  refine vp_callSi (W.runV (As := [.int (xs (i + 1)), .int (xs (i + 2))]) (rest := [.int r]) ⟨hx, hb, hml, hown, hts⟩ (met_X1_sumBox l D h f  v pl lc (xs (i + 1)) (xs (i + 2)) hpl) (cwV 2 hts (lw_V q266 q267 q268 q24 q269) rfl rfl rfl (by decide +kernel) ⟨Nat.le_of_ble_eq_true rfl, Nat.le_of_ble_eq_true rfl⟩) (ci_pre hKm hPm (ci := 1) (q0 := 0) rfl rfl) rfl rfl hl.1 rfl (lv_room (Nat.le_of_ble_eq_true rfl)) dL_law_280 ⟨Nat.le_of_ble_eq_true rfl, Nat.le_of_ble_eq_true rfl⟩) (fun t hr2 => ?_)
  have e9 := law_sumBox hJ hr1 hr2
  refine lv_icmp_eq (tgt := 459) hx hb dL_law_283 (by decide) (fun _ => ?_) (fun c9 => absurd e9 c9)
  exact K _ _ ⟨hS, _, _, _, _, _, _, _, _, _, _, _, _, _, _, _, _, _, hJ, hPx, hPm⟩
set_option maxHeartbeats 8000000 in
set_option maxRecDepth 100000 in
theorem lc_countNear {p : Program} {l : Launch} {e : Env} {s : State} {m : MethodId} {below : List Frame} {meth : Method} {c : Code} {b L : Nat} {xs : Nat → Int32} {D : va_G} {g h : Nat → Nat} {d f : Nat → ClassId} {H : Heap} {locs : List Loc} {Q : State → Prop} {ls : Array Slot} {i : Nat} (hL : L ≤ 192) (C0 : lw_At p s m meth c b L xs) (hG : GW s D g h d f) (hi : i + 3 ≤ L) (hE : LE s D g h d f H locs) (hl : lv_has ls 4 [(0, .ref b), (1, .ref (g 0)), (2, .ref (h 0)), (3, .int (nI i))])
    (K : ∀ (H : Heap) (locs : List Loc), LE s D g h d f H locs → W p l e room_1 s m #[Value.ref b] below meth c H locs 11 377 Q (F0 m 459 ls [])) : W p l e room_1 s m #[Value.ref b] below meth c H locs 11 377 Q (F0 m 288 ls []) := by
  obtain ⟨hx, hb, hr, hml, hown, hts0, hX, hbl, hlocks, hgv⟩ := C0
  have hts : ∀ w ∈ lw_all, w.before #[Value.ref b] s = true := fun w h => hts0 w (lw_all_tbl h)
  obtain ⟨hKx, hKm, hgx, hgm, hap, hgA, hhA⟩ := hG
  obtain ⟨hS, u, px, py, lb, n, k, le, mo, x0, x1, y0, y1, fo, ins, v, pl, lc, hJ, hPx, hPm⟩ := hE
  have hpl := JJ_pl hJ
  refine lv_aload_n hx hb dL_law_288 rfl (lv_at hl 1 rfl) ?_
  refine lv_aload_n hx hb dL_law_289 rfl (lv_at hl 0 rfl) ?_
  refine lv_iload_n hx hb dL_law_290 rfl (lv_at hl 3 rfl) ?_
  refine lv_iconst (v := nI 1) hx hb dL_law_291 (by decide +kernel) ?_
  refine ci_iadd hx hb dL_law_292 ?_
  refine lw_sld hx hb hX hbl hS hL (show i + 1 < L by omega) dL_law_293 ?_
  refine lv_aload_n hx hb dL_law_294 rfl (lv_at hl 0 rfl) ?_
  refine lv_iload_n hx hb dL_law_295 rfl (lv_at hl 3 rfl) ?_
  refine lv_iconst (v := nI 2) hx hb dL_law_296 (by decide +kernel) ?_
  refine ci_iadd hx hb dL_law_297 ?_
  refine lw_sld hx hb hX hbl hS hL (show i + 2 < L by omega) dL_law_298 ?_
  refine va_calli (va_runV (As := [.int (xs (i + 1)), .int (xs (i + 2))]) (rest := []) ⟨hx, hb, hml, hown, hts⟩ (met_X0_countNear l D g d hgx u px py lb n k le mo x0 x1 y0 y1 fo ins (xs (i + 1)) (xs (i + 2)) hJ.1) (cwV 2 hts (lw_V q155 q156 q157 q23 q158) rfl rfl rfl (by decide +kernel) ⟨Nat.le_of_ble_eq_true rfl, Nat.le_of_ble_eq_true rfl⟩) (ci_pre hKx hPx (ci := 0) (q0 := 0) rfl rfl) rfl rfl hl.1 rfl (lv_room (Nat.le_of_ble_eq_true rfl)) dL_law_299 ⟨Nat.le_of_ble_eq_true rfl, Nat.le_of_ble_eq_true rfl⟩) hS (fun q _ h => lw_fx hgA q h) (lw_fx hgA) (fun r z tt H1 locs1 ht hvm hr1 hB hz1 hk1 hS => ?_)
  have hPm := lw_keepM hap hPm hk1
  have hPx : va_P D vwCl (wX g d u px py lb n k z.1 z.2.1 z.2.2.1 z.2.2.2.1 z.2.2.2.2.1 z.2.2.2.2.2.1 z.2.2.2.2.2.2.1 z.2.2.2.2.2.2.2) H1 := by rw [← ht]; exact hB
  clear hB hk1 hz1 ht hvm tt
  generalize H1 = H at hPx hPm hS ⊢
  generalize locs1 = locs at hS ⊢
  refine lv_aload_n hx hb dL_law_302 rfl (lv_at hl 2 rfl) ?_
  refine lv_aload_n hx hb dL_law_303 rfl (lv_at hl 0 rfl) ?_
  refine lv_iload_n hx hb dL_law_304 rfl (lv_at hl 3 rfl) ?_
  refine lv_iconst (v := nI 1) hx hb dL_law_305 (by decide +kernel) ?_
  refine ci_iadd hx hb dL_law_306 ?_
  refine lw_sld hx hb hX hbl hS hL (show i + 1 < L by omega) dL_law_307 ?_
  refine lv_aload_n hx hb dL_law_308 rfl (lv_at hl 0 rfl) ?_
  refine lv_iload_n hx hb dL_law_309 rfl (lv_at hl 3 rfl) ?_
  refine lv_iconst (v := nI 2) hx hb dL_law_310 (by decide +kernel) ?_
  refine ci_iadd hx hb dL_law_311 ?_
  refine lw_sld hx hb hX hbl hS hL (show i + 2 < L by omega) dL_law_312 ?_
  refine vp_callSi (W.runV (As := [.int (xs (i + 1)), .int (xs (i + 2))]) (rest := [.int r]) ⟨hx, hb, hml, hown, hts⟩ (met_X1_countNear l D h f  v pl lc (xs (i + 1)) (xs (i + 2)) hpl) (cwV 2 hts (lw_V q270 q271 q272 q24 q273) rfl rfl rfl (by decide +kernel) ⟨Nat.le_of_ble_eq_true rfl, Nat.le_of_ble_eq_true rfl⟩) (ci_pre hKm hPm (ci := 1) (q0 := 0) rfl rfl) rfl rfl hl.1 rfl (lv_room (Nat.le_of_ble_eq_true rfl)) dL_law_313 ⟨Nat.le_of_ble_eq_true rfl, Nat.le_of_ble_eq_true rfl⟩) (fun t hr2 => ?_)
  have e9 := law_countNear hJ hr1 hr2
  refine lv_icmp_eq (tgt := 459) hx hb dL_law_316 (by decide) (fun _ => ?_) (fun c9 => absurd e9 c9)
  exact K _ _ ⟨hS, _, _, _, _, _, _, _, _, _, _, _, _, _, _, _, _, _, hJ, hPx, hPm⟩
set_option maxHeartbeats 8000000 in
set_option maxRecDepth 100000 in
theorem lc_nearest {p : Program} {l : Launch} {e : Env} {s : State} {m : MethodId} {below : List Frame} {meth : Method} {c : Code} {b L : Nat} {xs : Nat → Int32} {D : va_G} {g h : Nat → Nat} {d f : Nat → ClassId} {H : Heap} {locs : List Loc} {Q : State → Prop} {ls : Array Slot} {i : Nat} (hL : L ≤ 192) (C0 : lw_At p s m meth c b L xs) (hG : GW s D g h d f) (hi : i + 3 ≤ L) (hE : LE s D g h d f H locs) (hl : lv_has ls 4 [(0, .ref b), (1, .ref (g 0)), (2, .ref (h 0)), (3, .int (nI i))])
    (K : ∀ (H : Heap) (locs : List Loc), LE s D g h d f H locs → W p l e room_1 s m #[Value.ref b] below meth c H locs 11 377 Q (F0 m 459 ls [])) : W p l e room_1 s m #[Value.ref b] below meth c H locs 11 377 Q (F0 m 321 ls []) := by
  obtain ⟨hx, hb, hr, hml, hown, hts0, hX, hbl, hlocks, hgv⟩ := C0
  have hts : ∀ w ∈ lw_all, w.before #[Value.ref b] s = true := fun w h => hts0 w (lw_all_tbl h)
  obtain ⟨hKx, hKm, hgx, hgm, hap, hgA, hhA⟩ := hG
  obtain ⟨hS, u, px, py, lb, n, k, le, mo, x0, x1, y0, y1, fo, ins, v, pl, lc, hJ, hPx, hPm⟩ := hE
  have hpl := JJ_pl hJ
  refine lv_aload_n hx hb dL_law_321 rfl (lv_at hl 1 rfl) ?_
  refine lv_aload_n hx hb dL_law_322 rfl (lv_at hl 0 rfl) ?_
  refine lv_iload_n hx hb dL_law_323 rfl (lv_at hl 3 rfl) ?_
  refine lv_iconst (v := nI 1) hx hb dL_law_324 (by decide +kernel) ?_
  refine ci_iadd hx hb dL_law_325 ?_
  refine lw_sld hx hb hX hbl hS hL (show i + 1 < L by omega) dL_law_326 ?_
  refine lv_aload_n hx hb dL_law_327 rfl (lv_at hl 0 rfl) ?_
  refine lv_iload_n hx hb dL_law_328 rfl (lv_at hl 3 rfl) ?_
  refine lv_iconst (v := nI 2) hx hb dL_law_329 (by decide +kernel) ?_
  refine ci_iadd hx hb dL_law_330 ?_
  refine lw_sld hx hb hX hbl hS hL (show i + 2 < L by omega) dL_law_331 ?_
  refine va_calli (va_runV (As := [.int (xs (i + 1)), .int (xs (i + 2))]) (rest := []) ⟨hx, hb, hml, hown, hts⟩ (met_X0_nearest l D g d hgx u px py lb n k le mo x0 x1 y0 y1 fo ins (xs (i + 1)) (xs (i + 2)) hJ.1) (cwV 2 hts (lw_V q173 q174 q175 q23 q176) rfl rfl rfl (by decide +kernel) ⟨Nat.le_of_ble_eq_true rfl, Nat.le_of_ble_eq_true rfl⟩) (ci_pre hKx hPx (ci := 0) (q0 := 0) rfl rfl) rfl rfl hl.1 rfl (lv_room (Nat.le_of_ble_eq_true rfl)) dL_law_332 ⟨Nat.le_of_ble_eq_true rfl, Nat.le_of_ble_eq_true rfl⟩) hS (fun q _ h => lw_fx hgA q h) (lw_fx hgA) (fun r z tt H1 locs1 ht hvm hr1 hB hz1 hk1 hS => ?_)
  have hPm := lw_keepM hap hPm hk1
  have hPx : va_P D vwCl (wX g d u px py lb n k z.1 z.2.1 z.2.2.1 z.2.2.2.1 z.2.2.2.2.1 z.2.2.2.2.2.1 z.2.2.2.2.2.2.1 z.2.2.2.2.2.2.2) H1 := by rw [← ht]; exact hB
  clear hB hk1 hz1 ht hvm tt
  generalize H1 = H at hPx hPm hS ⊢
  generalize locs1 = locs at hS ⊢
  refine lv_aload_n hx hb dL_law_335 rfl (lv_at hl 2 rfl) ?_
  refine lv_aload_n hx hb dL_law_336 rfl (lv_at hl 0 rfl) ?_
  refine lv_iload_n hx hb dL_law_337 rfl (lv_at hl 3 rfl) ?_
  refine lv_iconst (v := nI 1) hx hb dL_law_338 (by decide +kernel) ?_
  refine ci_iadd hx hb dL_law_339 ?_
  refine lw_sld hx hb hX hbl hS hL (show i + 1 < L by omega) dL_law_340 ?_
  refine lv_aload_n hx hb dL_law_341 rfl (lv_at hl 0 rfl) ?_
  refine lv_iload_n hx hb dL_law_342 rfl (lv_at hl 3 rfl) ?_
  refine lv_iconst (v := nI 2) hx hb dL_law_343 (by decide +kernel) ?_
  refine ci_iadd hx hb dL_law_344 ?_
  refine lw_sld hx hb hX hbl hS hL (show i + 2 < L by omega) dL_law_345 ?_
  refine vp_callSi (W.runV (As := [.int (xs (i + 1)), .int (xs (i + 2))]) (rest := [.int r]) ⟨hx, hb, hml, hown, hts⟩ (met_X1_nearest l D h f  v pl lc (xs (i + 1)) (xs (i + 2)) hpl) (cwV 2 hts (lw_V q278 q279 q280 q24 q281) rfl rfl rfl (by decide +kernel) ⟨Nat.le_of_ble_eq_true rfl, Nat.le_of_ble_eq_true rfl⟩) (ci_pre hKm hPm (ci := 1) (q0 := 0) rfl rfl) rfl rfl hl.1 rfl (lv_room (Nat.le_of_ble_eq_true rfl)) dL_law_346 ⟨Nat.le_of_ble_eq_true rfl, Nat.le_of_ble_eq_true rfl⟩) (fun t hr2 => ?_)
  have e9 := law_nearest hJ hr1 hr2
  refine lv_icmp_eq (tgt := 459) hx hb dL_law_349 (by decide) (fun _ => ?_) (fun c9 => absurd e9 c9)
  exact K _ _ ⟨hS, _, _, _, _, _, _, _, _, _, _, _, _, _, _, _, _, _, hJ, hPx, hPm⟩
set_option maxHeartbeats 8000000 in
set_option maxRecDepth 100000 in
theorem lc_firstIn {p : Program} {l : Launch} {e : Env} {s : State} {m : MethodId} {below : List Frame} {meth : Method} {c : Code} {b L : Nat} {xs : Nat → Int32} {D : va_G} {g h : Nat → Nat} {d f : Nat → ClassId} {H : Heap} {locs : List Loc} {Q : State → Prop} {ls : Array Slot} {i : Nat} (hL : L ≤ 192) (C0 : lw_At p s m meth c b L xs) (hG : GW s D g h d f) (hi : i + 3 ≤ L) (hE : LE s D g h d f H locs) (hl : lv_has ls 4 [(0, .ref b), (1, .ref (g 0)), (2, .ref (h 0)), (3, .int (nI i))])
    (K : ∀ (H : Heap) (locs : List Loc), LE s D g h d f H locs → W p l e room_1 s m #[Value.ref b] below meth c H locs 11 377 Q (F0 m 459 ls [])) : W p l e room_1 s m #[Value.ref b] below meth c H locs 11 377 Q (F0 m 354 ls []) := by
  obtain ⟨hx, hb, hr, hml, hown, hts0, hX, hbl, hlocks, hgv⟩ := C0
  have hts : ∀ w ∈ lw_all, w.before #[Value.ref b] s = true := fun w h => hts0 w (lw_all_tbl h)
  obtain ⟨hKx, hKm, hgx, hgm, hap, hgA, hhA⟩ := hG
  obtain ⟨hS, u, px, py, lb, n, k, le, mo, x0, x1, y0, y1, fo, ins, v, pl, lc, hJ, hPx, hPm⟩ := hE
  have hpl := JJ_pl hJ
  refine lv_aload_n hx hb dL_law_354 rfl (lv_at hl 1 rfl) ?_
  refine lv_aload_n hx hb dL_law_355 rfl (lv_at hl 0 rfl) ?_
  refine lv_iload_n hx hb dL_law_356 rfl (lv_at hl 3 rfl) ?_
  refine lv_iconst (v := nI 1) hx hb dL_law_357 (by decide +kernel) ?_
  refine ci_iadd hx hb dL_law_358 ?_
  refine lw_sld hx hb hX hbl hS hL (show i + 1 < L by omega) dL_law_359 ?_
  refine lv_aload_n hx hb dL_law_360 rfl (lv_at hl 0 rfl) ?_
  refine lv_iload_n hx hb dL_law_361 rfl (lv_at hl 3 rfl) ?_
  refine lv_iconst (v := nI 2) hx hb dL_law_362 (by decide +kernel) ?_
  refine ci_iadd hx hb dL_law_363 ?_
  refine lw_sld hx hb hX hbl hS hL (show i + 2 < L by omega) dL_law_364 ?_
  refine va_calli (va_runV (As := [.int (xs (i + 1)), .int (xs (i + 2))]) (rest := []) ⟨hx, hb, hml, hown, hts⟩ (met_X0_firstIn l D g d hgx u px py lb n k le mo x0 x1 y0 y1 fo ins (xs (i + 1)) (xs (i + 2)) hJ.1) (cwV 2 hts (lw_V q185 q186 q187 q23 q188) rfl rfl rfl (by decide +kernel) ⟨Nat.le_of_ble_eq_true rfl, Nat.le_of_ble_eq_true rfl⟩) (ci_pre hKx hPx (ci := 0) (q0 := 0) rfl rfl) rfl rfl hl.1 rfl (lv_room (Nat.le_of_ble_eq_true rfl)) dL_law_365 ⟨Nat.le_of_ble_eq_true rfl, Nat.le_of_ble_eq_true rfl⟩) hS (fun q _ h => lw_fx hgA q h) (lw_fx hgA) (fun r z tt H1 locs1 ht hvm hr1 hB hz1 hk1 hS => ?_)
  have hPm := lw_keepM hap hPm hk1
  have hPx : va_P D vwCl (wX g d u px py lb n k z.1 z.2.1 z.2.2.1 z.2.2.2.1 z.2.2.2.2.1 z.2.2.2.2.2.1 z.2.2.2.2.2.2.1 z.2.2.2.2.2.2.2) H1 := by rw [← ht]; exact hB
  clear hB hk1 hz1 ht hvm tt
  generalize H1 = H at hPx hPm hS ⊢
  generalize locs1 = locs at hS ⊢
  refine lv_aload_n hx hb dL_law_368 rfl (lv_at hl 2 rfl) ?_
  refine lv_aload_n hx hb dL_law_369 rfl (lv_at hl 0 rfl) ?_
  refine lv_iload_n hx hb dL_law_370 rfl (lv_at hl 3 rfl) ?_
  refine lv_iconst (v := nI 1) hx hb dL_law_371 (by decide +kernel) ?_
  refine ci_iadd hx hb dL_law_372 ?_
  refine lw_sld hx hb hX hbl hS hL (show i + 1 < L by omega) dL_law_373 ?_
  refine lv_aload_n hx hb dL_law_374 rfl (lv_at hl 0 rfl) ?_
  refine lv_iload_n hx hb dL_law_375 rfl (lv_at hl 3 rfl) ?_
  refine lv_iconst (v := nI 2) hx hb dL_law_376 (by decide +kernel) ?_
  refine ci_iadd hx hb dL_law_377 ?_
  refine lw_sld hx hb hX hbl hS hL (show i + 2 < L by omega) dL_law_378 ?_
  refine vp_callSi (W.runV (As := [.int (xs (i + 1)), .int (xs (i + 2))]) (rest := [.int r]) ⟨hx, hb, hml, hown, hts⟩ (met_X1_firstIn l D h f  v pl lc (xs (i + 1)) (xs (i + 2)) hpl) (cwV 2 hts (lw_V q286 q287 q288 q24 q289) rfl rfl rfl (by decide +kernel) ⟨Nat.le_of_ble_eq_true rfl, Nat.le_of_ble_eq_true rfl⟩) (ci_pre hKm hPm (ci := 1) (q0 := 0) rfl rfl) rfl rfl hl.1 rfl (lv_room (Nat.le_of_ble_eq_true rfl)) dL_law_379 ⟨Nat.le_of_ble_eq_true rfl, Nat.le_of_ble_eq_true rfl⟩) (fun t hr2 => ?_)
  have e9 := law_firstIn hJ hr1 hr2
  refine lv_icmp_eq (tgt := 459) hx hb dL_law_382 (by decide) (fun _ => ?_) (fun c9 => absurd e9 c9)
  exact K _ _ ⟨hS, _, _, _, _, _, _, _, _, _, _, _, _, _, _, _, _, _, hJ, hPx, hPm⟩
end
section
set_option maxHeartbeats 8000000 in
set_option maxRecDepth 100000 in
theorem lc_placeOf {p : Program} {l : Launch} {e : Env} {s : State} {m : MethodId} {below : List Frame} {meth : Method} {c : Code} {b L : Nat} {xs : Nat → Int32} {D : va_G} {g h : Nat → Nat} {d f : Nat → ClassId} {H : Heap} {locs : List Loc} {Q : State → Prop} {ls : Array Slot} {i : Nat} (hL : L ≤ 192) (C0 : lw_At p s m meth c b L xs) (hG : GW s D g h d f) (hi : i + 3 ≤ L) (hE : LE s D g h d f H locs) (hl : lv_has ls 4 [(0, .ref b), (1, .ref (g 0)), (2, .ref (h 0)), (3, .int (nI i))])
    (K : ∀ (H : Heap) (locs : List Loc), LE s D g h d f H locs → W p l e room_1 s m #[Value.ref b] below meth c H locs 11 377 Q (F0 m 459 ls [])) : W p l e room_1 s m #[Value.ref b] below meth c H locs 11 377 Q (F0 m 387 ls []) := by
  obtain ⟨hx, hb, hr, hml, hown, hts0, hX, hbl, hlocks, hgv⟩ := C0
  have hts : ∀ w ∈ lw_all, w.before #[Value.ref b] s = true := fun w h => hts0 w (lw_all_tbl h)
  obtain ⟨hKx, hKm, hgx, hgm, hap, hgA, hhA⟩ := hG
  obtain ⟨hS, u, px, py, lb, n, k, le, mo, x0, x1, y0, y1, fo, ins, v, pl, lc, hJ, hPx, hPm⟩ := hE
  refine lv_aload_n hx hb dL_law_387 rfl (lv_at hl 1 rfl) ?_
  refine lv_aload_n hx hb dL_law_388 rfl (lv_at hl 0 rfl) ?_
  refine lv_iload_n hx hb dL_law_389 rfl (lv_at hl 3 rfl) ?_
  refine lv_iconst (v := nI 1) hx hb dL_law_390 (by decide +kernel) ?_
  refine ci_iadd hx hb dL_law_391 ?_
  refine lw_sld hx hb hX hbl hS hL (show i + 1 < L by omega) dL_law_392 ?_
  refine vp_callSi (W.runV (As := [.int (xs (i + 1))]) (rest := []) ⟨hx, hb, hml, hown, hts⟩ (met_X0_placeOf l D g d  u px py lb n k le mo x0 x1 y0 y1 fo ins (xs (i + 1)) ) (cwV 1 hts (lw_V q189 q190 q191 q23 q192) rfl rfl rfl (by decide +kernel) ⟨Nat.le_of_ble_eq_true rfl, Nat.le_of_ble_eq_true rfl⟩) (ci_pre hKx hPx (ci := 0) (q0 := 0) rfl rfl) rfl rfl hl.1 rfl (lv_room (Nat.le_of_ble_eq_true rfl)) dL_law_393 ⟨Nat.le_of_ble_eq_true rfl, Nat.le_of_ble_eq_true rfl⟩) (fun r hr1 => ?_)
  refine lv_aload_n hx hb dL_law_396 rfl (lv_at hl 2 rfl) ?_
  refine lv_aload_n hx hb dL_law_397 rfl (lv_at hl 0 rfl) ?_
  refine lv_iload_n hx hb dL_law_398 rfl (lv_at hl 3 rfl) ?_
  refine lv_iconst (v := nI 1) hx hb dL_law_399 (by decide +kernel) ?_
  refine ci_iadd hx hb dL_law_400 ?_
  refine lw_sld hx hb hX hbl hS hL (show i + 1 < L by omega) dL_law_401 ?_
  refine vp_callSi (W.runV (As := [.int (xs (i + 1))]) (rest := [.int r]) ⟨hx, hb, hml, hown, hts⟩ (met_X1_placeOf l D h f  v pl lc (xs (i + 1)) ) (cwV 1 hts (lw_V q290 q291 q292 q24 q293) rfl rfl rfl (by decide +kernel) ⟨Nat.le_of_ble_eq_true rfl, Nat.le_of_ble_eq_true rfl⟩) (ci_pre hKm hPm (ci := 1) (q0 := 0) rfl rfl) rfl rfl hl.1 rfl (lv_room (Nat.le_of_ble_eq_true rfl)) dL_law_402 ⟨Nat.le_of_ble_eq_true rfl, Nat.le_of_ble_eq_true rfl⟩) (fun t hr2 => ?_)
  have e9 := law_placeOf hJ hr1 hr2
  refine lv_icmp_eq (tgt := 459) hx hb dL_law_405 (by decide) (fun _ => ?_) (fun c9 => absurd e9 c9)
  exact K _ _ ⟨hS, _, _, _, _, _, _, _, _, _, _, _, _, _, _, _, _, _, hJ, hPx, hPm⟩
set_option maxHeartbeats 8000000 in
set_option maxRecDepth 100000 in
theorem lc_labelOf {p : Program} {l : Launch} {e : Env} {s : State} {m : MethodId} {below : List Frame} {meth : Method} {c : Code} {b L : Nat} {xs : Nat → Int32} {D : va_G} {g h : Nat → Nat} {d f : Nat → ClassId} {H : Heap} {locs : List Loc} {Q : State → Prop} {ls : Array Slot} {i : Nat} (hL : L ≤ 192) (C0 : lw_At p s m meth c b L xs) (hG : GW s D g h d f) (hi : i + 3 ≤ L) (hE : LE s D g h d f H locs) (hl : lv_has ls 4 [(0, .ref b), (1, .ref (g 0)), (2, .ref (h 0)), (3, .int (nI i))])
    (K : ∀ (H : Heap) (locs : List Loc), LE s D g h d f H locs → W p l e room_1 s m #[Value.ref b] below meth c H locs 11 377 Q (F0 m 459 ls [])) : W p l e room_1 s m #[Value.ref b] below meth c H locs 11 377 Q (F0 m 410 ls []) := by
  obtain ⟨hx, hb, hr, hml, hown, hts0, hX, hbl, hlocks, hgv⟩ := C0
  have hts : ∀ w ∈ lw_all, w.before #[Value.ref b] s = true := fun w h => hts0 w (lw_all_tbl h)
  obtain ⟨hKx, hKm, hgx, hgm, hap, hgA, hhA⟩ := hG
  obtain ⟨hS, u, px, py, lb, n, k, le, mo, x0, x1, y0, y1, fo, ins, v, pl, lc, hJ, hPx, hPm⟩ := hE
  refine lv_aload_n hx hb dL_law_410 rfl (lv_at hl 1 rfl) ?_
  refine lv_aload_n hx hb dL_law_411 rfl (lv_at hl 0 rfl) ?_
  refine lv_iload_n hx hb dL_law_412 rfl (lv_at hl 3 rfl) ?_
  refine lv_iconst (v := nI 1) hx hb dL_law_413 (by decide +kernel) ?_
  refine ci_iadd hx hb dL_law_414 ?_
  refine lw_sld hx hb hX hbl hS hL (show i + 1 < L by omega) dL_law_415 ?_
  refine vp_callSi (W.runV (As := [.int (xs (i + 1))]) (rest := []) ⟨hx, hb, hml, hown, hts⟩ (met_X0_labelOf l D g d  u px py lb n k le mo x0 x1 y0 y1 fo ins (xs (i + 1)) ) (cwV 1 hts (lw_V q193 q194 q195 q23 q196) rfl rfl rfl (by decide +kernel) ⟨Nat.le_of_ble_eq_true rfl, Nat.le_of_ble_eq_true rfl⟩) (ci_pre hKx hPx (ci := 0) (q0 := 0) rfl rfl) rfl rfl hl.1 rfl (lv_room (Nat.le_of_ble_eq_true rfl)) dL_law_416 ⟨Nat.le_of_ble_eq_true rfl, Nat.le_of_ble_eq_true rfl⟩) (fun r hr1 => ?_)
  refine lv_aload_n hx hb dL_law_419 rfl (lv_at hl 2 rfl) ?_
  refine lv_aload_n hx hb dL_law_420 rfl (lv_at hl 0 rfl) ?_
  refine lv_iload_n hx hb dL_law_421 rfl (lv_at hl 3 rfl) ?_
  refine lv_iconst (v := nI 1) hx hb dL_law_422 (by decide +kernel) ?_
  refine ci_iadd hx hb dL_law_423 ?_
  refine lw_sld hx hb hX hbl hS hL (show i + 1 < L by omega) dL_law_424 ?_
  refine vp_callSi (W.runV (As := [.int (xs (i + 1))]) (rest := [.int r]) ⟨hx, hb, hml, hown, hts⟩ (met_X1_labelOf l D h f  v pl lc (xs (i + 1)) ) (cwV 1 hts (lw_V q294 q295 q296 q24 q297) rfl rfl rfl (by decide +kernel) ⟨Nat.le_of_ble_eq_true rfl, Nat.le_of_ble_eq_true rfl⟩) (ci_pre hKm hPm (ci := 1) (q0 := 0) rfl rfl) rfl rfl hl.1 rfl (lv_room (Nat.le_of_ble_eq_true rfl)) dL_law_425 ⟨Nat.le_of_ble_eq_true rfl, Nat.le_of_ble_eq_true rfl⟩) (fun t hr2 => ?_)
  have e9 := law_labelOf hJ hr1 hr2
  refine lv_icmp_eq (tgt := 459) hx hb dL_law_428 (by decide) (fun _ => ?_) (fun c9 => absurd e9 c9)
  exact K _ _ ⟨hS, _, _, _, _, _, _, _, _, _, _, _, _, _, _, _, _, _, hJ, hPx, hPm⟩
set_option maxHeartbeats 8000000 in
set_option maxRecDepth 100000 in
theorem lc_closest {p : Program} {l : Launch} {e : Env} {s : State} {m : MethodId} {below : List Frame} {meth : Method} {c : Code} {b L : Nat} {xs : Nat → Int32} {D : va_G} {g h : Nat → Nat} {d f : Nat → ClassId} {H : Heap} {locs : List Loc} {Q : State → Prop} {ls : Array Slot} {i : Nat} (hL : L ≤ 192) (C0 : lw_At p s m meth c b L xs) (hG : GW s D g h d f) (hi : i + 3 ≤ L) (hE : LE s D g h d f H locs) (hl : lv_has ls 4 [(0, .ref b), (1, .ref (g 0)), (2, .ref (h 0)), (3, .int (nI i))])
    (K : ∀ (H : Heap) (locs : List Loc), LE s D g h d f H locs → W p l e room_1 s m #[Value.ref b] below meth c H locs 11 377 Q (F0 m 459 ls [])) : W p l e room_1 s m #[Value.ref b] below meth c H locs 11 377 Q (F0 m 433 ls []) := by
  obtain ⟨hx, hb, hr, hml, hown, hts0, hX, hbl, hlocks, hgv⟩ := C0
  have hts : ∀ w ∈ lw_all, w.before #[Value.ref b] s = true := fun w h => hts0 w (lw_all_tbl h)
  obtain ⟨hKx, hKm, hgx, hgm, hap, hgA, hhA⟩ := hG
  obtain ⟨hS, u, px, py, lb, n, k, le, mo, x0, x1, y0, y1, fo, ins, v, pl, lc, hJ, hPx, hPm⟩ := hE
  have hpl := JJ_pl hJ
  refine lv_aload_n hx hb dL_law_433 rfl (lv_at hl 1 rfl) ?_
  refine va_calli (va_runV (As := []) (rest := []) ⟨hx, hb, hml, hown, hts⟩ (met_X0_closest l D g d hgx u px py lb n k le mo x0 x1 y0 y1 fo ins  hJ.1) (cwV 0 hts (lw_V q197 q198 q199 q23 q200) rfl rfl rfl (by decide +kernel) ⟨Nat.le_of_ble_eq_true rfl, Nat.le_of_ble_eq_true rfl⟩) (ci_pre hKx hPx (ci := 0) (q0 := 0) rfl rfl) rfl rfl hl.1 rfl (lv_room (Nat.le_of_ble_eq_true rfl)) dL_law_434 ⟨Nat.le_of_ble_eq_true rfl, Nat.le_of_ble_eq_true rfl⟩) hS (fun q _ h => lw_fx hgA q h) (lw_fx hgA) (fun r z tt H1 locs1 ht hvm hr1 hB hz1 hk1 hS => ?_)
  have hPm := lw_keepM hap hPm hk1
  have hPx : va_P D vwCl (wX g d u px py lb n k z.1 z.2.1 z.2.2.1 z.2.2.2.1 z.2.2.2.2.1 z.2.2.2.2.2.1 z.2.2.2.2.2.2.1 z.2.2.2.2.2.2.2) H1 := by rw [← ht]; exact hB
  clear hB hk1 hz1 ht hvm tt
  generalize H1 = H at hPx hPm hS ⊢
  generalize locs1 = locs at hS ⊢
  refine lv_aload_n hx hb dL_law_437 rfl (lv_at hl 2 rfl) ?_
  refine vp_callSi (W.runV (As := []) (rest := [.int r]) ⟨hx, hb, hml, hown, hts⟩ (met_X1_closest l D h f  v pl lc  hpl) (cwV 0 hts (lw_V q298 q299 q300 q24 q301) rfl rfl rfl (by decide +kernel) ⟨Nat.le_of_ble_eq_true rfl, Nat.le_of_ble_eq_true rfl⟩) (ci_pre hKm hPm (ci := 1) (q0 := 0) rfl rfl) rfl rfl hl.1 rfl (lv_room (Nat.le_of_ble_eq_true rfl)) dL_law_438 ⟨Nat.le_of_ble_eq_true rfl, Nat.le_of_ble_eq_true rfl⟩) (fun t hr2 => ?_)
  have e9 := law_closest hJ hr1 hr2
  refine lv_icmp_eq (tgt := 459) hx hb dL_law_441 (by decide) (fun _ => ?_) (fun c9 => absurd e9 c9)
  exact K _ _ ⟨hS, _, _, _, _, _, _, _, _, _, _, _, _, _, _, _, _, _, hJ, hPx, hPm⟩
set_option maxHeartbeats 8000000 in
set_option maxRecDepth 100000 in
theorem lc_count {p : Program} {l : Launch} {e : Env} {s : State} {m : MethodId} {below : List Frame} {meth : Method} {c : Code} {b L : Nat} {xs : Nat → Int32} {D : va_G} {g h : Nat → Nat} {d f : Nat → ClassId} {H : Heap} {locs : List Loc} {Q : State → Prop} {ls : Array Slot} {i : Nat} (hL : L ≤ 192) (C0 : lw_At p s m meth c b L xs) (hG : GW s D g h d f) (hi : i + 3 ≤ L) (hE : LE s D g h d f H locs) (hl : lv_has ls 4 [(0, .ref b), (1, .ref (g 0)), (2, .ref (h 0)), (3, .int (nI i))])
    (K : ∀ (H : Heap) (locs : List Loc), LE s D g h d f H locs → W p l e room_1 s m #[Value.ref b] below meth c H locs 11 377 Q (F0 m 459 ls [])) : W p l e room_1 s m #[Value.ref b] below meth c H locs 11 377 Q (F0 m 446 ls []) := by
  obtain ⟨hx, hb, hr, hml, hown, hts0, hX, hbl, hlocks, hgv⟩ := C0
  have hts : ∀ w ∈ lw_all, w.before #[Value.ref b] s = true := fun w h => hts0 w (lw_all_tbl h)
  obtain ⟨hKx, hKm, hgx, hgm, hap, hgA, hhA⟩ := hG
  obtain ⟨hS, u, px, py, lb, n, k, le, mo, x0, x1, y0, y1, fo, ins, v, pl, lc, hJ, hPx, hPm⟩ := hE
  refine lv_aload_n hx hb dL_law_446 rfl (lv_at hl 1 rfl) ?_
  refine vp_callSi (W.runV (As := []) (rest := []) ⟨hx, hb, hml, hown, hts⟩ (met_X0_count l D g d  u px py lb n k le mo x0 x1 y0 y1 fo ins  ) (cwV 0 hts (lw_V q205 q206 q207 q23 q208) rfl rfl rfl (by decide +kernel) ⟨Nat.le_of_ble_eq_true rfl, Nat.le_of_ble_eq_true rfl⟩) (ci_pre hKx hPx (ci := 0) (q0 := 0) rfl rfl) rfl rfl hl.1 rfl (lv_room (Nat.le_of_ble_eq_true rfl)) dL_law_447 ⟨Nat.le_of_ble_eq_true rfl, Nat.le_of_ble_eq_true rfl⟩) (fun r hr1 => ?_)
  refine lv_aload_n hx hb dL_law_450 rfl (lv_at hl 2 rfl) ?_
  refine vp_callSi (W.runV (As := []) (rest := [.int r]) ⟨hx, hb, hml, hown, hts⟩ (met_X1_count l D h f  v pl lc  ) (cwV 0 hts (lw_V q302 q242 q243 q24 q244) rfl rfl rfl (by decide +kernel) ⟨Nat.le_of_ble_eq_true rfl, Nat.le_of_ble_eq_true rfl⟩) (ci_pre hKm hPm (ci := 1) (q0 := 0) rfl rfl) rfl rfl hl.1 rfl (lv_room (Nat.le_of_ble_eq_true rfl)) dL_law_451 ⟨Nat.le_of_ble_eq_true rfl, Nat.le_of_ble_eq_true rfl⟩) (fun t hr2 => ?_)
  have e9 := law_count hJ hr1 hr2
  refine lv_icmp_eq (tgt := 459) hx hb dL_law_454 (by decide) (fun _ => ?_) (fun c9 => absurd e9 c9)
  exact K _ _ ⟨hS, _, _, _, _, _, _, _, _, _, _, _, _, _, _, _, _, _, hJ, hPx, hPm⟩
end
section
set_option maxHeartbeats 8000000 in
set_option maxRecDepth 100000 in
theorem law_loop {p : Program} {l : Launch} {e : Env} {s : State} {m : MethodId} {below : List Frame} {meth : Method} {c : Code} {b L : Nat} {xs : Nat → Int32} {D : va_G} {g h : Nat → Nat} {d f : Nat → ClassId} (hL : L ≤ 192) (C0 : lw_At p s m meth c b L xs) (hG : GW s D g h d f) : ∀ (N i : Nat), L < i + N → i ≤ L → ∀ (H : Heap) (locs : List Loc), LE s D g h d f H locs → ∀ ls : Array Slot, lv_has ls 4 [(0, .ref b), (1, .ref (g 0)), (2, .ref (h 0)), (3, .int (nI i))] → W p l e room_1 s m #[Value.ref b] below meth c H locs 11 377 (lw_Z below #[Value.ref b] s) (F0 m 18 ls []) := by
  intro N
  induction N with
  | zero => intro i h1 h2; omega
  | succ N ih =>
    intro i h1 h2 H locs hE ls hl
    obtain ⟨hx, hb, hr, hml, hown, hts0, hX, hbl, hlocks, hgv⟩ := id C0
    have hS := hE.1
    refine lv_iload_n hx hb dL_law_18 rfl (lv_at hl 3 rfl) ?_
    refine lv_aload_n hx hb dL_law_19 rfl (lv_at hl 0 rfl) ?_
    refine lw_slen hx hb hX hbl hS dL_law_20 ?_
    refine lv_iconst (v := nI 3) hx hb dL_law_21 (by decide +kernel) ?_
    refine lv_isub hx hb dL_law_22 ?_
    refine lv_icmp_gt (tgt := 465) hx hb dL_law_23 (by decide) (fun c1 => ?_) (fun c1 => ?_)
    · refine va_forget hS.2.2 ?_
      refine W.widen (k := 600000) (n := 7290000) (Nat.le_of_ble_eq_true rfl) (Nat.le_of_ble_eq_true rfl) ?_
      refine lv_iconst (v := 1) hx hb dL_law_465 (by decide +kernel) ?_
      exact lw_ret hx hb hr hlocks dL_law_466
    · have hi : i + 3 ≤ L := Nat.le_of_not_lt fun q => c1 ((lw_gt (by omega) hL).mpr q)
      have K : ∀ (H : Heap) (locs : List Loc), LE s D g h d f H locs → W p l e room_1 s m #[Value.ref b] below meth c H locs 11 377 (lw_Z below #[Value.ref b] s) (F0 m 459 ls []) := by
        intro H locs hE
        refine lv_iinc (v := nI (i + 3)) (lv' := [(3, .int (nI (i + 3))), (0, .ref b), (1, .ref (g 0)), (2, .ref (h 0))]) hx hb dL_law_459 hl (k := 3) rfl (ci_inc3 _) (by decide) rfl (fun ls hl => ?_)
        refine lv_goto (tgt := 18) hx hb dL_law_462 (by decide) ?_
        exact ih (i + 3) (by omega) hi H locs hE ls (lv_sub hl [1, 2, 3, 0] rfl)
      refine lv_aload_n hx hb dL_law_26 rfl (lv_at hl 0 rfl) ?_
      refine lv_iload_n hx hb dL_law_27 rfl (lv_at hl 3 rfl) ?_
      refine lw_sld hx hb hX hbl hS hL (show i < L by omega) dL_law_28 ?_
      refine lv_bipush (v := nI 15) hx hb dL_law_29 (by decide +kernel) ?_
      refine lv_iand hx hb dL_law_31 ?_
      obtain ⟨j, hj, ej⟩ := lw_and15 (xs i)
      refine ci_topr ej ?_
      rcases (show j = 0 ∨ j = 1 ∨ j = 2 ∨ j = 3 ∨ j = 4 ∨ j = 5 ∨ j = 6 ∨ j = 7 ∨ j = 8 ∨ j = 9 ∨ j = 10 ∨ j = 11 ∨ j = 12 ∨ j = 13 ∨ j = 14 ∨ j = 15 by omega) with rfl | rfl | rfl | rfl | rfl | rfl | rfl | rfl | rfl | rfl | rfl | rfl | rfl | rfl | rfl | rfl
      · refine lv_tableIn (off := 68) (tgt := 100) hx hb dL_law_32 (by decide +kernel) (by decide +kernel) (by decide +kernel) (by decide) ?_
        exact lc_add hL C0 hG hi hE hl K
      · refine lv_tableIn (off := 101) (tgt := 133) hx hb dL_law_32 (by decide +kernel) (by decide +kernel) (by decide +kernel) (by decide) ?_
        exact lc_remove hL C0 hG hi hE hl K
      · refine lv_tableIn (off := 124) (tgt := 156) hx hb dL_law_32 (by decide +kernel) (by decide +kernel) (by decide +kernel) (by decide) ?_
        exact lc_move hL C0 hG hi hE hl K
      · refine lv_tableIn (off := 157) (tgt := 189) hx hb dL_law_32 (by decide +kernel) (by decide +kernel) (by decide +kernel) (by decide) ?_
        exact lc_clearBox hL C0 hG hi hE hl K
      · refine lv_tableIn (off := 190) (tgt := 222) hx hb dL_law_32 (by decide +kernel) (by decide +kernel) (by decide +kernel) (by decide) ?_
        exact lc_countBox hL C0 hG hi hE hl K
      · refine lv_tableIn (off := 223) (tgt := 255) hx hb dL_law_32 (by decide +kernel) (by decide +kernel) (by decide +kernel) (by decide) ?_
        exact lc_sumBox hL C0 hG hi hE hl K
      · refine lv_tableIn (off := 256) (tgt := 288) hx hb dL_law_32 (by decide +kernel) (by decide +kernel) (by decide +kernel) (by decide) ?_
        exact lc_countNear hL C0 hG hi hE hl K
      · refine lv_tableIn (off := 289) (tgt := 321) hx hb dL_law_32 (by decide +kernel) (by decide +kernel) (by decide +kernel) (by decide) ?_
        exact lc_nearest hL C0 hG hi hE hl K
      · refine lv_tableIn (off := 322) (tgt := 354) hx hb dL_law_32 (by decide +kernel) (by decide +kernel) (by decide +kernel) (by decide) ?_
        exact lc_firstIn hL C0 hG hi hE hl K
      · refine lv_tableIn (off := 355) (tgt := 387) hx hb dL_law_32 (by decide +kernel) (by decide +kernel) (by decide +kernel) (by decide) ?_
        exact lc_placeOf hL C0 hG hi hE hl K
      · refine lv_tableIn (off := 378) (tgt := 410) hx hb dL_law_32 (by decide +kernel) (by decide +kernel) (by decide +kernel) (by decide) ?_
        exact lc_labelOf hL C0 hG hi hE hl K
      · refine lv_tableIn (off := 401) (tgt := 433) hx hb dL_law_32 (by decide +kernel) (by decide +kernel) (by decide +kernel) (by decide) ?_
        exact lc_closest hL C0 hG hi hE hl K
      · refine lv_tableIn (off := 414) (tgt := 446) hx hb dL_law_32 (by decide +kernel) (by decide +kernel) (by decide +kernel) (by decide) ?_
        exact lc_count hL C0 hG hi hE hl K
      · exact lv_tableOut (tgt := 459) hx hb dL_law_32 (by decide +kernel) (by decide) (K H locs hE)
      · exact lv_tableOut (tgt := 459) hx hb dL_law_32 (by decide +kernel) (by decide) (K H locs hE)
      · exact lv_tableOut (tgt := 459) hx hb dL_law_32 (by decide +kernel) (by decide) (K H locs hE)
set_option maxHeartbeats 8000000 in
set_option maxRecDepth 100000 in
/-- THE LAW, from its entry -/
theorem whole_start {p : Program} {e : Env} {s : State} {m : MethodId} {below : List Frame} {meth : Method} {c : Code} (l : Launch) {b L : Nat} {xs : Nat → Int32} (hL : L ≤ 192) (C0 : lw_At p s m meth c b L xs) : W p l e room_1 s m #[Value.ref b] below meth c s.heap [] 0 0 (lw_Z below #[Value.ref b] s) (entryFrame m ([Value.ref b] : List Value).toArray 4) := by
  obtain ⟨hx, hb, hr, hml, hown, hts0, hX, hbl, hlocks, hgv⟩ := id C0
  have hts : ∀ w ∈ lw_all, w.before #[Value.ref b] s = true := fun w h => hts0 w (lw_all_tbl h)
  have hA : ∀ q : Nat, s.heap.size ≤ q → lA s q := fun _ h => h
  obtain ⟨c0, iS0, hKn0⟩ := u_known (C := RX0) (T := TX0) (N := 14) (n := 14) hts in_X0 (hts _ q26)
  obtain ⟨c1, iS1, hKn1⟩ := u_known (C := RX1) (T := TX1) (N := 3) (n := 3) hts in_X1 (hts _ q210)
  obtain ⟨D, hKc⟩ : ∃ (D : va_G), ∀ (k : Nat) (q : vw_C), vwCl[k]? = some q → u_Kn s q.1 q.2.1 q.2.2 (D.1 k) (D.2 k) := by
    refine ⟨(fun k => if k = 0 then c0 else c1, fun k => if k = 0 then iS0 else iS1), ?_⟩
    intro k q hq
    match k, hq with
    | 0, hq => cases hq; exact hKn0
    | 1, hq => cases hq; exact hKn1
    | k + 2, hq => simp [vwCl] at hq
  have hS : va_S (lA s) s.heap s.heap [] := va_S.rf
  have hK : va_K D vwCl [] s := ⟨hKc, fun k q h => by simp at h⟩
  have hP : va_P D vwCl [] s.heap := fun k q h => by simp at h
  have hD : va_D (lA s) [] := ⟨fun i j p q h => by simp at h, fun k q h => by simp at h⟩
  have hl := lv_entry ([.ref b]) (n := 4) (Nat.le_of_ble_eq_true rfl)
  rw [lg_entry_eq]
  generalize (lg_sl ([.ref b]) ++ List.replicate (4 - (lg_sl ([.ref b])).length) Slot.unset).toArray = ls at hl ⊢
  have hl : lv_has ls 4 [(0, .ref b)] := hl
  refine va_new (ci := 0) (fs := f0_X0) (C := RX0) (T := TX0) (N := 14) hx hb hts in_X0 tyX0 tyX0_ok hown (hts _ q25) (hts _ q26) (hts _ q23) hK hP hD hS hA rfl (fun j hj => by rcases (show j = 0 ∨ j = 1 ∨ j = 2 ∨ j = 3 ∨ j = 4 ∨ j = 5 ∨ j = 6 ∨ j = 7 ∨ j = 8 ∨ j = 9 ∨ j = 10 ∨ j = 11 ∨ j = 12 ∨ j = 13 by omega) with rfl | rfl | rfl | rfl | rfl | rfl | rfl | rfl | rfl | rfl | rfl | rfl | rfl | rfl <;> rfl) (Nat.le_of_ble_eq_true rfl) (Nat.le_of_ble_eq_true rfl) dL_law_0 (fun a0 H hP hD hS => ?_)
  have hP : va_P D vwCl [(a0, .inr (0, f0_X0))] H := hP
  have ha0 : lA s a0 := hD.2 0 _ rfl
  refine W.widen (k := 1) (n := 14) (Nat.le_of_ble_eq_true rfl) (Nat.le_of_ble_eq_true rfl) ?_
  refine lv_dup hx hb dL_law_3 rfl ?_
  have hsH := hS.1
  have hF0 : ∀ q, cA0 a0 H.size q → lA s q := by
    rintro q (h | h)
    · rw [h]; exact ha0
    · exact Nat.le_trans hsH h
  refine va_callv (va_runI (As := []) (rest := [.ref a0]) ⟨hx, hb, hml, hown, hts⟩ (met_X0_init l D a0 H.size) (cwI 0 hts (lw_meth q29) rfl rfl rfl (hts _ q23) (hts _ q27) (hts _ q28) rfl (by decide +kernel) ⟨Nat.le_of_ble_eq_true rfl, Nat.le_of_ble_eq_true rfl⟩) (ci_preC hK hP) rfl rfl hl.1 rfl (lv_room (Nat.le_of_ble_eq_true rfl)) dL_law_4 ⟨Nat.le_of_ble_eq_true rfl, Nat.le_of_ble_eq_true rfl⟩) hS (fun q _ h => hF0 q h) hF0 (fun z t H1 locs ht hvm hw hB hz1 hk1 hS => ?_)
  obtain ⟨hPx, hKx⟩ := hB
  obtain ⟨g, d⟩ := z
  have hPx : va_P D vwCl (wX g d (fun _ => false) (fun _ => 0) (fun _ => 0) (fun _ => nI 0) 0 (fun _ => 0) 0 0 0 0 0 0 0 (fun _ => 0)) H1 := by rw [← ht]; exact hPx
  have hKx : va_K D vwCl (tX d) s := va_K.moved hvm.symm hKx
  have hw : g 0 = a0 ∧ xN 7 g ∧ ∀ k, k < 7 → cA0 a0 H.size (g k) := hw
  obtain ⟨hg0, hgx, hgc⟩ := hw
  have hgA : ∀ i, i < 7 → s.heap.size ≤ g i := fun i hi => hF0 _ (hgc i hi)
  clear hgc hF0 hsH ha0 hk1 hz1 hvm
  generalize H1 = H at hPx hS ⊢
  refine W.widen (k := 7) (n := 254) (Nat.le_of_ble_eq_true rfl) (Nat.le_of_ble_eq_true rfl) ?_
  refine lv_astore_n (lv' := [(1, .ref a0), (0, .ref b)]) hx hb dL_law_7 rfl hl (by decide) rfl (fun ls hl => ?_)
  have hD : va_D (lA s) (wX g d (fun _ => false) (fun _ => 0) (fun _ => 0) (fun _ => nI 0) 0 (fun _ => 0) 0 0 0 0 0 0 0 (fun _ => 0)) := (wX_D hgx).weaken (fun k q hk h => lw_fx hgA _ h)
  refine va_new (ci := 1) (fs := f0_X1) (C := RX1) (T := TX1) (N := 3) hx hb hts in_X1 tyX1 tyX1_ok hown (hts _ q209) (hts _ q210) (hts _ q24) hKx hPx hD hS hA rfl (fun j hj => by rcases (show j = 0 ∨ j = 1 ∨ j = 2 by omega) with rfl | rfl | rfl <;> rfl) (Nat.le_of_ble_eq_true rfl) (Nat.le_of_ble_eq_true rfl) dL_law_8 (fun b0 H hP hD hS => ?_)
  have hPx := hP.sub (ws' := wX g d (fun _ => false) (fun _ => 0) (fun _ => 0) (fun _ => nI 0) 0 (fun _ => 0) 0 0 0 0 0 0 0 (fun _ => 0)) [0, 1, 2, 3, 4, 5, 6] rfl
  have hPm := hP.sub (ws' := [(b0, .inr (1, f0_X1))]) [7] rfl
  have hb0 : lA s b0 := hD.2 7 _ rfl
  have hgn : ∀ i, i < 7 → g i ≠ b0 := by
    intro i hi e
    rcases (show i = 0 ∨ i = 1 ∨ i = 2 ∨ i = 3 ∨ i = 4 ∨ i = 5 ∨ i = 6 by omega) with rfl | rfl | rfl | rfl | rfl | rfl | rfl
    · exact absurd (hD.1 0 7 _ _ rfl rfl e) (by decide)
    · exact absurd (hD.1 1 7 _ _ rfl rfl e) (by decide)
    · exact absurd (hD.1 2 7 _ _ rfl rfl e) (by decide)
    · exact absurd (hD.1 3 7 _ _ rfl rfl e) (by decide)
    · exact absurd (hD.1 4 7 _ _ rfl rfl e) (by decide)
    · exact absurd (hD.1 5 7 _ _ rfl rfl e) (by decide)
    · exact absurd (hD.1 6 7 _ _ rfl rfl e) (by decide)
  have hgl : ∀ i, i < 7 → g i < H.size := by
    intro i hi
    rcases (show i = 0 ∨ i = 1 ∨ i = 2 ∨ i = 3 ∨ i = 4 ∨ i = 5 ∨ i = 6 by omega) with rfl | rfl | rfl | rfl | rfl | rfl | rfl
    · exact (hPx 0 _ rfl).lt
    · exact (hPx 1 _ rfl).lt
    · exact (hPx 2 _ rfl).lt
    · exact (hPx 3 _ rfl).lt
    · exact (hPx 4 _ rfl).lt
    · exact (hPx 5 _ rfl).lt
    · exact (hPx 6 _ rfl).lt
  refine W.widen (k := 8) (n := 257) (Nat.le_of_ble_eq_true rfl) (Nat.le_of_ble_eq_true rfl) ?_
  refine lv_dup hx hb dL_law_11 rfl ?_
  have hsH := hS.1
  have hF1 : ∀ q, cA0 b0 H.size q → lA s q := by
    rintro q (h | h)
    · rw [h]; exact hb0
    · exact Nat.le_trans hsH h
  have hcn : ∀ i, i < 7 → ¬ cA0 b0 H.size (g i) := by
    rintro i hi (h | h)
    · exact hgn i hi h
    · have := hgl i hi
      omega
  refine va_callv (va_runI (As := []) (rest := [.ref b0]) ⟨hx, hb, hml, hown, hts⟩ (met_X1_init l D b0 H.size) (cwI 0 hts (lw_meth q213) rfl rfl rfl (hts _ q24) (hts _ q211) (hts _ q212) rfl (by decide +kernel) ⟨Nat.le_of_ble_eq_true rfl, Nat.le_of_ble_eq_true rfl⟩) (ci_preC hK hPm) rfl rfl hl.1 rfl (lv_room (Nat.le_of_ble_eq_true rfl)) dL_law_12 ⟨Nat.le_of_ble_eq_true rfl, Nat.le_of_ble_eq_true rfl⟩) hS (fun q _ h => hF1 q h) hF1 (fun z t H1 locs ht hvm hw hB hz1 hk1 hS => ?_)
  obtain ⟨hPm, hKm⟩ := hB
  obtain ⟨h, f⟩ := z
  have hPm : va_P D vwCl (wM h f (fun _ => false) (fun _ => 0) (fun _ => nI 0)) H1 := by rw [← ht]; exact hPm
  have hKm : va_K D vwCl (tM f) s := va_K.moved hvm.symm hKm
  have hw : h 0 = b0 ∧ xN 4 h ∧ ∀ k, k < 4 → cA0 b0 H.size (h k) := hw
  obtain ⟨hh0, hgm, hhc⟩ := hw
  have hPx : va_P D vwCl (wX g d (fun _ => false) (fun _ => 0) (fun _ => 0) (fun _ => nI 0) 0 (fun _ => 0) 0 0 0 0 0 0 0 (fun _ => 0)) H1 := by
    refine lw_keep hPx hk1 (fun q hq => ?_)
    have hq : q ∈ (List.range 7).map g := hq
    obtain ⟨j, hj, rfl⟩ := List.mem_map.mp hq
    exact hcn j (List.mem_range.mp hj)
  have hG : GW s D g h d f := ⟨hKx, hKm, hgx, hgm, fun i j hi hj e => hcn i hi (by rw [e]; exact hhc j hj), hgA, fun j hj => hF1 _ (hhc j hj)⟩
  refine W.widen (k := 11) (n := 377) (Nat.le_of_ble_eq_true rfl) (Nat.le_of_ble_eq_true rfl) ?_
  refine lv_astore_n (lv' := [(2, .ref b0), (1, .ref a0), (0, .ref b)]) hx hb dL_law_15 rfl hl (by decide) rfl (fun ls hl => ?_)
  refine lv_iconst (v := nI 0) hx hb dL_law_16 (by decide +kernel) ?_
  refine lv_istore_n (lv' := [(3, .int (nI 0)), (2, .ref b0), (1, .ref a0), (0, .ref b)]) hx hb dL_law_17 rfl hl (by decide) rfl (fun ls hl => ?_)
  have hl := lv_sub (l' := [(0, .ref b), (1, .ref a0), (2, .ref b0), (3, .int (nI 0))]) hl [3, 2, 1, 0] rfl
  rw [← hg0, ← hh0] at hl
  exact law_loop hL C0 hG (L + 1) 0 (by omega) (Nat.zero_le L) _ _ ⟨hS, _, _, _, _, _, _, _, _, _, _, _, _, _, _, _, _, _, JJ_0, hPx, hPm⟩ ls hl
end
section
set_option maxHeartbeats 4000000 in
theorem lw_walk (l : Launch) (b : Addr) (xs : List Int32) : MetFree l x (headSpec (Jvm.Cond.code x code maxLocals ret :: tables_1) room_1) (lw_P b xs) (fun _ _ _ _ _ => True) lw_Q := by
  refine MetFree.of_bodyS (code := code) (maxLocals := maxLocals) (ret := ret) (by decide) ?_ ?_
  · intro args s m h hn
    obtain ⟨meth, c, h1, h2, h3, h4, h5, h6, -, -⟩ := Cond.code_spec hn (atoms_spec (ws := Jvm.Cond.code x code maxLocals ret :: tables_1) h _ List.mem_cons_self)
    exact ⟨meth, c, h1, h2, h3, h4, h5, h6⟩
  · intro p e s m args below meth c s₁ B hml0 hP _
    obtain ⟨rfl, hx, hbd, hgv⟩ := hP
    obtain ⟨scr, harrAt, hlist, hof, hsmall⟩ := hx
    obtain ⟨hcb, hkn, -, -⟩ := State.arrayAt?_spec harrAt
    have hown : s.vm.findClass R_law = some m.cls := findClass_of_methodNamed B.named
    have hts0 : ∀ c ∈ (Jvm.Cond.code x code maxLocals ret :: tables_1), c.before #[Value.ref b] s = true := atoms_spec (ws := Jvm.Cond.code x code maxLocals ret :: tables_1) B.pre
    have hts : ∀ w ∈ lw_tbl, w.before #[Value.ref b] s = true := k2_hts_sels lw_privs (fun w hw => hts0 w (List.mem_cons_of_mem _ hw)) lw_privs_ok
    have hml : c.maxLocals = 4 := B.maxLocals_eq (hts0 _ List.mem_cons_self)
    have X₀ : Stand p l e room_1 s m #[Value.ref b] below meth c s₁ [] 0 0 := Stand.of_body B
    have hh0 : s₁.heap = s.heap := by rw [B.state]; rfl
    have hsz : scr.slots.size = xs.length := by rw [← Array.length_toList, hlist, List.length_map]
    have hval : ∀ j : Nat, j < xs.length → scr.slots[j]? = some (.int (xs.getD j 0)) := fun j hj => by
      rw [← Array.getElem?_toList, hlist]
      simp [hj]
    have hbl : b < s.heap.size := (Array.getElem?_eq_some_iff.mp hcb).1
    have hX : va_X b xs.length (fun j => xs.getD j 0) s s.heap := ⟨scr, hcb, hof, hkn, hsz, hval⟩
    have K : W p l e room_1 s m #[Value.ref b] below meth c s₁.heap [] 0 0 (lw_Z below #[Value.ref b] s) (entryFrame m ([Value.ref b] : List Value).toArray 4) := by
      rw [hh0]
      exact whole_start l hbd ⟨B.exec, B.bytes, B.returns, hml, hown, hts, hX, hbl, B.notSynchronized, hgv⟩
    obtain ⟨t, a1, o, b1, b2, b3⟩ := K s₁ rfl X₀
    exact ⟨t, o, a1, b1, b2, b3⟩
theorem lw_pre_spec {args : Array Value} {s : State} (h : (Jvm.Cond.and given_1 narrow_1).before args s = true) (hr : rest_1_c.before args s = true) : ∃ (b : Addr) (xs : List Int32), lw_P b xs args s := by
  have hs := flat_of_before _ h
  have hq := flat_of_before _ hr
  have hc : (Cond.count 1).before args s = true := hs _ (by decide +kernel)
  have harr : (Cond.arrayOf (.arg 0) .int).before args s = true := hs _ (by decide +kernel)
  have hle : (Cond.le (.length (.arg 0)) (.int 192)).before args s = true := hs _ (by decide +kernel)
  have hlen : (Cond.isInt (.length (.arg 0))).before args s = true := hq _ (by decide +kernel)
  have hall : (Cond.all (.arg 0) (.isInt (.elem (.arg 0) (.index 0)))).before args s = true := hq _ (by decide +kernel)
  obtain ⟨b, xs, hb, hx⟩ := State.ints_of_pre rfl harr hlen hall
  have hsm : xs.length < 2 ^ 31 := hx.choose_spec.2.2.2
  have hev : (Term.length (.arg 0)).eval args s none [] s = some (.int xs.length.toInt32) := hx.length_eval hb
  have hv := Cond.le_ints hev (show (Term.int 192).eval args s none [] s = some (.int 192) from rfl)
  have hd : xs.length.toInt32 ≤ 192 := by
    simpa [Cond.before, Cond.holds, hv] using hle
  have hN : xs.length ≤ 192 := (Int32.ofNat_le_ofNat hsm (by decide)).mp (show Int32.ofNat xs.length ≤ Int32.ofNat 192 from hd)
  exact ⟨b, xs, Cond.one_arg hc (show args[0]? = some (.ref b) from hb), hx, hN, h⟩
theorem lw_comes (l : Launch) : Comes l x (Jvm.Cond.code x code maxLocals ret :: tables_1) room_1 (fun tb e args s => Calls_1 tb e args s ∧ rest_1 tb e args s ∧ Pre_1 tb e args s)
    (fun _ _ args s o t => lw_Q args s o t) := by
  intro p e ha hc hk s m args below hf hfit hheap happ hpre
  obtain ⟨b, xs, hP⟩ := lw_pre_spec hpre.2.2 hpre.2.1
  obtain ⟨k, o, h1, h2, h3, hQ⟩ := lw_walk l b xs p e ha hc hk s m args below hf ((Spec.applies_iff_loose hf).mp happ).1 hP trivial
  exact ⟨k, o, h1, h2, h3, hQ⟩
theorem lw_frame {s t : State} {o : Outcome} {args : Array Value} (h : Framed s o t [] 600000 7290000) :
    Framed s o t (fieldLocs frame_1_writes args s ++ arrayLocs frame_1_arrays args s ++ staticLocs frame_1_statics s) 600000 7290000 := h
theorem lw_limb (L : Cond) (hL : ∀ (args : Array Value) (s t : State), L.after args s (.returned (some (.int 1))) t = true) :
    ArmFor flags0 classFile x code maxLocals ret World_1 tables_1 room_1 Calls_1 rest_1 Pre_1
      (fun tb e a s o t => postC L tb e a s o t ∧ Framed s o t (fieldLocs frame_1_writes a s ++ arrayLocs frame_1_arrays a s ++ staticLocs frame_1_statics s) 600000 7290000) := by
  intro l _ _ _ p e ha hc hk s m args below hf hfit hheap happ hpre
  obtain ⟨k, o, h1, h2, h3, rfl, hF⟩ := lw_comes l p e ha hc hk s m args below hf hfit hheap happ hpre
  exact ⟨k, _, h1, h2, h3, hL args s _, lw_frame hF⟩
theorem i_vc : Claimed_1_1 ∧ Claimed_1_2 := ⟨lw_limb limb_1_1 (fun args s t => by simp [limb_1_1, Cond.after, Cond.holds, Cond.value]), lw_limb limb_1_2 (fun args s t => Cond.after_iff.mpr (by
  first | (rw [show limb_1_2 = Cond.eq .result (.int 1) from rfl, Cond.eq_ints (x := 1) (y := 1) rfl rfl]; simp; done) | (simp [limb_1_2, Cond.value, Term.eval]; done)))⟩
end
