section
-- ===== PART A: goes FIRST, ahead of the names: the tables' words, and 'selects' of the private methods out of them =====
/-- a private method of a class that the tables say can be made, by its rows of tables_1 -/
def lw_okq (q : MethodName × Nat) : Prop := (q.1.cls ≠ "java/lang/invoke/MethodHandle" ∧ q.1.cls ≠ "java/lang/invoke/VarHandle") ∧ Cond.instantiable q.1.cls q.2 ∈ tables_1 ∧ Cond.privateMethod q.1 ∈ tables_1 ∧ Cond.instanceMethod q.1 ∈ tables_1
set_option maxRecDepth 100000
theorem lw_t1 {w : Cond} (h : w ∈ tables_1_1) : w ∈ tables_1 := List.mem_append_left _ h
theorem lw_t2 {w : Cond} (h : w ∈ tables_1_2) : w ∈ tables_1 := List.mem_append_right _ h
theorem lw_p0 : lw_okq (⟨"PathOram", "next", "()I"⟩, 21) := ⟨⟨by decide +kernel, by decide +kernel⟩, lw_t1 (List.mem_of_getElem? (i := 4) rfl), lw_t1 (List.mem_of_getElem? (i := 17) rfl), lw_t1 (List.mem_of_getElem? (i := 18) rfl)⟩
theorem lw_p1 : lw_okq (⟨"PathOram", "readPath", "(I)V"⟩, 21) := ⟨⟨by decide +kernel, by decide +kernel⟩, lw_t1 (List.mem_of_getElem? (i := 4) rfl), lw_t1 (List.mem_of_getElem? (i := 22) rfl), lw_t1 (List.mem_of_getElem? (i := 23) rfl)⟩
theorem lw_p2 : lw_okq (⟨"PathOram", "pad", "(I)I"⟩, 21) := ⟨⟨by decide +kernel, by decide +kernel⟩, lw_t1 (List.mem_of_getElem? (i := 4) rfl), lw_t1 (List.mem_of_getElem? (i := 29) rfl), lw_t1 (List.mem_of_getElem? (i := 30) rfl)⟩
theorem lw_p3 : lw_okq (⟨"PathOram", "writePath", "(I)V"⟩, 21) := ⟨⟨by decide +kernel, by decide +kernel⟩, lw_t1 (List.mem_of_getElem? (i := 4) rfl), lw_t1 (List.mem_of_getElem? (i := 37) rfl), lw_t1 (List.mem_of_getElem? (i := 38) rfl)⟩
theorem lw_p4 : lw_okq (⟨"PathOram", "fitting", "(II)I"⟩, 21) := ⟨⟨by decide +kernel, by decide +kernel⟩, lw_t1 (List.mem_of_getElem? (i := 4) rfl), lw_t1 (List.mem_of_getElem? (i := 41) rfl), lw_t1 (List.mem_of_getElem? (i := 42) rfl)⟩
theorem lw_p5 : lw_okq (⟨"PathOram", "settle", "(II)V"⟩, 21) := ⟨⟨by decide +kernel, by decide +kernel⟩, lw_t1 (List.mem_of_getElem? (i := 4) rfl), lw_t1 (List.mem_of_getElem? (i := 45) rfl), lw_t1 (List.mem_of_getElem? (i := 46) rfl)⟩
theorem lw_p6 : lw_okq (⟨"PathOram", "readMapPath", "(I)V"⟩, 21) := ⟨⟨by decide +kernel, by decide +kernel⟩, lw_t1 (List.mem_of_getElem? (i := 4) rfl), lw_t1 (List.mem_of_getElem? (i := 49) rfl), lw_t1 (List.mem_of_getElem? (i := 50) rfl)⟩
theorem lw_p7 : lw_okq (⟨"PathOram", "writeMapPath", "(I)V"⟩, 21) := ⟨⟨by decide +kernel, by decide +kernel⟩, lw_t1 (List.mem_of_getElem? (i := 4) rfl), lw_t1 (List.mem_of_getElem? (i := 56) rfl), lw_t1 (List.mem_of_getElem? (i := 57) rfl)⟩
theorem lw_p8 : lw_okq (⟨"PathOram", "mapFitting", "(II)I"⟩, 21) := ⟨⟨by decide +kernel, by decide +kernel⟩, lw_t1 (List.mem_of_getElem? (i := 4) rfl), lw_t1 (List.mem_of_getElem? (i := 60) rfl), lw_t1 (List.mem_of_getElem? (i := 61) rfl)⟩
theorem lw_p9 : lw_okq (⟨"PathOram", "access", "(IZI)I"⟩, 21) := ⟨⟨by decide +kernel, by decide +kernel⟩, lw_t1 (List.mem_of_getElem? (i := 4) rfl), lw_t1 (List.mem_of_getElem? (i := 137) rfl), lw_t1 (List.mem_of_getElem? (i := 138) rfl)⟩
theorem lw_p10 : lw_okq (⟨"PathOram", "leafOf", "(II)I"⟩, 21) := ⟨⟨by decide +kernel, by decide +kernel⟩, lw_t1 (List.mem_of_getElem? (i := 4) rfl), lw_t1 (List.mem_of_getElem? (i := 141) rfl), lw_t1 (List.mem_of_getElem? (i := 142) rfl)⟩
theorem lw_p11 : lw_okq (⟨"PathOram", "gather", "()V"⟩, 21) := ⟨⟨by decide +kernel, by decide +kernel⟩, lw_t1 (List.mem_of_getElem? (i := 4) rfl), lw_t1 (List.mem_of_getElem? (i := 169) rfl), lw_t1 (List.mem_of_getElem? (i := 170) rfl)⟩
theorem lw_p12 : lw_okq (⟨"PathOram", "placesOf", "(II)I"⟩, 21) := ⟨⟨by decide +kernel, by decide +kernel⟩, lw_t1 (List.mem_of_getElem? (i := 4) rfl), lw_t1 (List.mem_of_getElem? (i := 205) rfl), lw_t1 (List.mem_of_getElem? (i := 206) rfl)⟩
theorem lw_p13 : lw_okq (⟨"PathOramModel", "bad", "(I)Z"⟩, 4) := ⟨⟨by decide +kernel, by decide +kernel⟩, lw_t1 (List.mem_of_getElem? (i := 216) rfl), lw_t2 (List.mem_of_getElem? (i := 3) rfl), lw_t2 (List.mem_of_getElem? (i := 4) rfl)⟩
theorem lw_p14 : lw_okq (⟨"PathOramModel", "less", "(I)I"⟩, 4) := ⟨⟨by decide +kernel, by decide +kernel⟩, lw_t1 (List.mem_of_getElem? (i := 216) rfl), lw_t2 (List.mem_of_getElem? (i := 43) rfl), lw_t2 (List.mem_of_getElem? (i := 44) rfl)⟩
theorem lw_p15 : lw_okq (⟨"PathOramModel", "same", "(I)I"⟩, 4) := ⟨⟨by decide +kernel, by decide +kernel⟩, lw_t1 (List.mem_of_getElem? (i := 216) rfl), lw_t2 (List.mem_of_getElem? (i := 51) rfl), lw_t2 (List.mem_of_getElem? (i := 52) rfl)⟩
def lw_privs_1 : List (MethodName × Nat) := [(⟨"PathOram", "next", "()I"⟩, 21), (⟨"PathOram", "readPath", "(I)V"⟩, 21), (⟨"PathOram", "pad", "(I)I"⟩, 21), (⟨"PathOram", "writePath", "(I)V"⟩, 21), (⟨"PathOram", "fitting", "(II)I"⟩, 21), (⟨"PathOram", "settle", "(II)V"⟩, 21), (⟨"PathOram", "readMapPath", "(I)V"⟩, 21), (⟨"PathOram", "writeMapPath", "(I)V"⟩, 21), (⟨"PathOram", "mapFitting", "(II)I"⟩, 21), (⟨"PathOram", "access", "(IZI)I"⟩, 21), (⟨"PathOram", "leafOf", "(II)I"⟩, 21), (⟨"PathOram", "gather", "()V"⟩, 21), (⟨"PathOram", "placesOf", "(II)I"⟩, 21), (⟨"PathOramModel", "bad", "(I)Z"⟩, 4), (⟨"PathOramModel", "less", "(I)I"⟩, 4), (⟨"PathOramModel", "same", "(I)I"⟩, 4)]
theorem lw_r1 : ∀ q ∈ lw_privs_1, lw_okq q := List.forall_mem_cons.mpr ⟨lw_p0, List.forall_mem_cons.mpr ⟨lw_p1, List.forall_mem_cons.mpr ⟨lw_p2, List.forall_mem_cons.mpr ⟨lw_p3, List.forall_mem_cons.mpr ⟨lw_p4, List.forall_mem_cons.mpr ⟨lw_p5, List.forall_mem_cons.mpr ⟨lw_p6, List.forall_mem_cons.mpr ⟨lw_p7, List.forall_mem_cons.mpr ⟨lw_p8, List.forall_mem_cons.mpr ⟨lw_p9, List.forall_mem_cons.mpr ⟨lw_p10, List.forall_mem_cons.mpr ⟨lw_p11, List.forall_mem_cons.mpr ⟨lw_p12, List.forall_mem_cons.mpr ⟨lw_p13, List.forall_mem_cons.mpr ⟨lw_p14, List.forall_mem_cons.mpr ⟨lw_p15, fun _ h => absurd h List.not_mem_nil⟩⟩⟩⟩⟩⟩⟩⟩⟩⟩⟩⟩⟩⟩⟩⟩
theorem lw_p16 : lw_okq (⟨"PathOramModel", "badShot", "(I)Z"⟩, 4) := ⟨⟨by decide +kernel, by decide +kernel⟩, lw_t1 (List.mem_of_getElem? (i := 216) rfl), lw_t2 (List.mem_of_getElem? (i := 59) rfl), lw_t2 (List.mem_of_getElem? (i := 60) rfl)⟩
def lw_privs_2 : List (MethodName × Nat) := [(⟨"PathOramModel", "badShot", "(I)Z"⟩, 4)]
theorem lw_r2 : ∀ q ∈ lw_privs_2, lw_okq q := List.forall_mem_cons.mpr ⟨lw_p16, fun _ h => absurd h List.not_mem_nil⟩
def lw_privs : List (MethodName × Nat) := lw_privs_1 ++ (lw_privs_2)
def lw_tbl : List Cond := k2_sels lw_privs ++ tables_1
theorem lw_privs_ok : ∀ q ∈ lw_privs, lw_okq q := by
  show ∀ q ∈ lw_privs_1 ++ (lw_privs_2), lw_okq q
  exact List.forall_mem_append.mpr ⟨lw_r1, lw_r2⟩
-- ===== ONE list of words for every method: the tables' words that hold all through a run =====
def lw_all : List Cond := lw_tbl.filter goodWord
/-- a word of the tables by its place: claim/WORDS.tsv -/
theorem lw_w {w : Cond} (i : Nat) (h : lw_tbl[i]? = some w) (g : goodWord w = true) : w ∈ lw_all := List.mem_filter.mpr ⟨List.mem_of_getElem? h, g⟩
theorem lw_all_tbl {w : Cond} (h : w ∈ lw_all) : w ∈ lw_tbl := (List.mem_filter.mp h).1
theorem lw_self : GoodIn lw_all lw_all := fun w h => ⟨h, good_of_word (List.mem_filter.mp h).2⟩
/-- a class's field words, by their places -/
theorem lw_in (ws : List Cond) (ps : List Nat) (hp : ws = ps.filterMap (fun i => lw_tbl[i]?)) (hg : ws.all goodWord = true) : ∀ w ∈ ws, w ∈ lw_all := by
  intro w h
  have h1 := List.all_eq_true.mp hg w h
  rw [hp] at h
  obtain ⟨i, -, hi⟩ := List.mem_filterMap.mp h
  exact lw_w i hi h1
/-- the words of a contract for the method y with code b, L locals, answer r -/
abbrev ws_ (y : MethodName) (b : ByteArray) (L : Nat) (r : Option FieldType) : List Cond := Cond.code y b L r :: lw_all
theorem lw_meth {y : MethodName} {b : ByteArray} {L : Nat} {r : Option FieldType} (h : Cond.code y b L r ∈ lw_all) : GoodIn lw_all (ws_ y b L r) := by
  intro w hw
  rcases List.mem_cons.mp hw with e | e
  · rw [e]
    exact lw_self _ h
  · exact lw_self _ e
theorem lw_app {a c : List Cond} (ha : ∀ w ∈ a, w ∈ lw_all) (hc : GoodIn lw_all c) : GoodIn lw_all (a ++ c) := by
  intro w hw
  rcases List.mem_append.mp hw with e | e
  · exact lw_self w (ha w e)
  · exact hc w e
/-- what a call through an object asks: cwV n hts (lw_V ..) -/
theorem lw_V {own : String} {idx : Nat} {C : String} {y : MethodName} {b : ByteArray} {L : Nat} {r : Option FieldType} (h1 : Cond.methodLink own idx y ∈ lw_all) (h2 : Cond.instanceMethod y ∈ lw_all) (h3 : Cond.selects C y y ∈ lw_all) (h4 : Cond.initialized C ∈ lw_all) (h5 : Cond.code y b L r ∈ lw_all) : GoodIn lw_all (wsV own idx C y (ws_ y b L r)) := by
  refine lw_app ?_ (lw_meth h5)
  intro w hw
  simp only [List.mem_cons, List.not_mem_nil, or_false] at hw
  rcases hw with e | e | e | e
  · rw [e]; exact h1
  · rw [e]; exact h2
  · rw [e]; exact h3
  · rw [e]; exact h4
/-- what a static call asks: va_cwS n hts (lw_S ..) -/
theorem lw_S {own : String} {idx : Nat} {y : MethodName} {b : ByteArray} {L : Nat} {r : Option FieldType} (h1 : Cond.methodLink own idx y ∈ lw_all) (h2 : Cond.static y ∈ lw_all) (h3 : Cond.initialized y.cls ∈ lw_all) (h4 : Cond.code y b L r ∈ lw_all) : GoodIn lw_all (va_wsS own idx y (ws_ y b L r)) := by
  refine lw_app ?_ (lw_meth h4)
  intro w hw
  simp only [List.mem_cons, List.not_mem_nil, or_false] at hw
  rcases hw with e | e | e
  · rw [e]; exact h1
  · rw [e]; exact h2
  · rw [e]; exact h3
/-- the words of a contract for a method WITH HANDLERS (hh: its table) -/
abbrev wsW_ (y : MethodName) (b : ByteArray) (L : Nat) (r : Option FieldType) (hh : List (Nat × Nat × Nat × Nat)) : List Cond := Cond.codeWith y b L r hh :: lw_all
theorem lw_methW {y : MethodName} {b : ByteArray} {L : Nat} {r : Option FieldType} {hh : List (Nat × Nat × Nat × Nat)} (h : Cond.codeWith y b L r hh ∈ lw_all) : GoodIn lw_all (wsW_ y b L r hh) := by
  intro w hw
  rcases List.mem_cons.mp hw with e | e
  · rw [e]
    exact lw_self _ h
  · exact lw_self _ e
/-- any list of words by their places (lw_in), good -/
theorem lw_good {ws : List Cond} (h : ∀ w ∈ ws, w ∈ lw_all) : GoodIn lw_all ws := fun w hw => lw_self w (h w hw)
/-- what a call of a method with handlers asks: vx_cwVW n hts (lw_VW ..), vx_cwSW n hts (lw_SW ..) -/
theorem lw_VW {own : String} {idx : Nat} {C : String} {y : MethodName} {b : ByteArray} {L : Nat} {r : Option FieldType} {hh : List (Nat × Nat × Nat × Nat)} (h1 : Cond.methodLink own idx y ∈ lw_all) (h2 : Cond.instanceMethod y ∈ lw_all) (h3 : Cond.selects C y y ∈ lw_all) (h4 : Cond.initialized C ∈ lw_all) (h5 : Cond.codeWith y b L r hh ∈ lw_all) : GoodIn lw_all (wsV own idx C y (wsW_ y b L r hh)) := by
  refine lw_app ?_ (lw_methW h5)
  intro w hw
  simp only [List.mem_cons, List.not_mem_nil, or_false] at hw
  rcases hw with e | e | e | e
  · rw [e]; exact h1
  · rw [e]; exact h2
  · rw [e]; exact h3
  · rw [e]; exact h4
theorem lw_SW {own : String} {idx : Nat} {y : MethodName} {b : ByteArray} {L : Nat} {r : Option FieldType} {hh : List (Nat × Nat × Nat × Nat)} (h1 : Cond.methodLink own idx y ∈ lw_all) (h2 : Cond.static y ∈ lw_all) (h3 : Cond.initialized y.cls ∈ lw_all) (h4 : Cond.codeWith y b L r hh ∈ lw_all) : GoodIn lw_all (va_wsS own idx y (wsW_ y b L r hh)) := by
  refine lw_app ?_ (lw_methW h4)
  intro w hw
  simp only [List.mem_cons, List.not_mem_nil, or_false] at hw
  rcases hw with e | e | e
  · rw [e]; exact h1
  · rw [e]; exact h2
  · rw [e]; exact h3
/-- a word by its place in its run of the tables -/
theorem lw_at {r : List Cond} (hr : ∀ w ∈ r, w ∈ lw_tbl) {w : Cond} (i : Nat) (h : r[i]? = some w) : w ∈ lw_tbl := hr w (List.mem_of_getElem? h)
theorem lw_g {w : Cond} (h : w ∈ lw_tbl) (g : goodWord w = true) : w ∈ lw_all := List.mem_filter.mpr ⟨h, g⟩
theorem lw_ms : ∀ w ∈ k2_sels lw_privs, w ∈ lw_tbl := fun w h => show w ∈ k2_sels lw_privs ++ tables_1 from List.mem_append_left _ h
theorem lw_m1 : ∀ w ∈ tables_1_1, w ∈ lw_tbl := fun w h => show w ∈ k2_sels lw_privs ++ tables_1 from List.mem_append_right (k2_sels lw_privs) (show w ∈ tables_1 from List.mem_append_left _ h)
theorem lw_m2 : ∀ w ∈ tables_1_2, w ∈ lw_tbl := fun w h => show w ∈ k2_sels lw_privs ++ tables_1 from List.mem_append_right (k2_sels lw_privs) (show w ∈ tables_1 from List.mem_append_right _ h)
theorem qs0 : (Cond.selects "PathOram" ⟨"PathOram", "next", "()I"⟩ ⟨"PathOram", "next", "()I"⟩) ∈ lw_all := lw_g (lw_at lw_ms 0 rfl) rfl
theorem qs1 : (Cond.selects "PathOram" ⟨"PathOram", "readPath", "(I)V"⟩ ⟨"PathOram", "readPath", "(I)V"⟩) ∈ lw_all := lw_g (lw_at lw_ms 1 rfl) rfl
theorem qs2 : (Cond.selects "PathOram" ⟨"PathOram", "pad", "(I)I"⟩ ⟨"PathOram", "pad", "(I)I"⟩) ∈ lw_all := lw_g (lw_at lw_ms 2 rfl) rfl
theorem qs3 : (Cond.selects "PathOram" ⟨"PathOram", "writePath", "(I)V"⟩ ⟨"PathOram", "writePath", "(I)V"⟩) ∈ lw_all := lw_g (lw_at lw_ms 3 rfl) rfl
theorem qs4 : (Cond.selects "PathOram" ⟨"PathOram", "fitting", "(II)I"⟩ ⟨"PathOram", "fitting", "(II)I"⟩) ∈ lw_all := lw_g (lw_at lw_ms 4 rfl) rfl
theorem qs5 : (Cond.selects "PathOram" ⟨"PathOram", "settle", "(II)V"⟩ ⟨"PathOram", "settle", "(II)V"⟩) ∈ lw_all := lw_g (lw_at lw_ms 5 rfl) rfl
theorem qs6 : (Cond.selects "PathOram" ⟨"PathOram", "readMapPath", "(I)V"⟩ ⟨"PathOram", "readMapPath", "(I)V"⟩) ∈ lw_all := lw_g (lw_at lw_ms 6 rfl) rfl
theorem qs7 : (Cond.selects "PathOram" ⟨"PathOram", "writeMapPath", "(I)V"⟩ ⟨"PathOram", "writeMapPath", "(I)V"⟩) ∈ lw_all := lw_g (lw_at lw_ms 7 rfl) rfl
theorem qs8 : (Cond.selects "PathOram" ⟨"PathOram", "mapFitting", "(II)I"⟩ ⟨"PathOram", "mapFitting", "(II)I"⟩) ∈ lw_all := lw_g (lw_at lw_ms 8 rfl) rfl
theorem qs9 : (Cond.selects "PathOram" ⟨"PathOram", "access", "(IZI)I"⟩ ⟨"PathOram", "access", "(IZI)I"⟩) ∈ lw_all := lw_g (lw_at lw_ms 9 rfl) rfl
theorem qs10 : (Cond.selects "PathOram" ⟨"PathOram", "leafOf", "(II)I"⟩ ⟨"PathOram", "leafOf", "(II)I"⟩) ∈ lw_all := lw_g (lw_at lw_ms 10 rfl) rfl
theorem qs11 : (Cond.selects "PathOram" ⟨"PathOram", "gather", "()V"⟩ ⟨"PathOram", "gather", "()V"⟩) ∈ lw_all := lw_g (lw_at lw_ms 11 rfl) rfl
theorem qs12 : (Cond.selects "PathOram" ⟨"PathOram", "placesOf", "(II)I"⟩ ⟨"PathOram", "placesOf", "(II)I"⟩) ∈ lw_all := lw_g (lw_at lw_ms 12 rfl) rfl
theorem qs13 : (Cond.selects "PathOramModel" ⟨"PathOramModel", "bad", "(I)Z"⟩ ⟨"PathOramModel", "bad", "(I)Z"⟩) ∈ lw_all := lw_g (lw_at lw_ms 13 rfl) rfl
theorem qs14 : (Cond.selects "PathOramModel" ⟨"PathOramModel", "less", "(I)I"⟩ ⟨"PathOramModel", "less", "(I)I"⟩) ∈ lw_all := lw_g (lw_at lw_ms 14 rfl) rfl
theorem qs15 : (Cond.selects "PathOramModel" ⟨"PathOramModel", "same", "(I)I"⟩ ⟨"PathOramModel", "same", "(I)I"⟩) ∈ lw_all := lw_g (lw_at lw_ms 15 rfl) rfl
theorem qs16 : (Cond.selects "PathOramModel" ⟨"PathOramModel", "badShot", "(I)Z"⟩ ⟨"PathOramModel", "badShot", "(I)Z"⟩) ∈ lw_all := lw_g (lw_at lw_ms 16 rfl) rfl
end
section
set_option maxRecDepth 100000
/-! java/lang/Object -/
def RJ0 : String := "java/lang/Object"
abbrev cJ0_init : ByteArray := object_method_1_code
def yJ0_init : MethodName := ⟨RJ0, "<init>", "()V"⟩
theorem q26 : (Jvm.Cond.instanceMethod ({ cls := "java/lang/Object", name := "<init>", desc := "()V" } : Jvm.MethodName)) ∈ lw_all := lw_g (lw_at lw_m1 9 rfl) rfl
theorem q27 : (Jvm.Cond.code ({ cls := "java/lang/Object", name := "<init>", desc := "()V" } : Jvm.MethodName) object_method_1_code (1 : Nat) (Option.none : Option Jvm.ClassFile.FieldType)) ∈ lw_all := lw_g (lw_at lw_m1 10 rfl) rfl
theorem q144 : (Jvm.Cond.arrayClass Jvm.ClassFile.FieldType.int) ∈ lw_all := lw_g (lw_at lw_m1 127 rfl) rfl
/-! PathOramLaw -/
def RX0 : String := "PathOramLaw"
abbrev cX0_cell : ByteArray := method_2_code
def yX0_cell : MethodName := ⟨RX0, "cell", "([II)I"⟩
theorem q17 : (Jvm.Cond.initialized "PathOramLaw") ∈ lw_all := lw_g (lw_at lw_m1 0 rfl) rfl
theorem q20 : (Jvm.Cond.classLink "PathOramLaw" (7 : Nat) "PathOram") ∈ lw_all := lw_g (lw_at lw_m1 3 rfl) rfl
theorem q22 : (Jvm.Cond.methodLink "PathOramLaw" (15 : Nat) ({ cls := "PathOram", name := "<init>", desc := "(I)V" } : Jvm.MethodName)) ∈ lw_all := lw_g (lw_at lw_m1 5 rfl) rfl
theorem q145 : (Jvm.Cond.methodLink "PathOramLaw" (21 : Nat) ({ cls := "PathOram", name := "stir", desc := "(I)V" } : Jvm.MethodName)) ∈ lw_all := lw_g (lw_at lw_m1 128 rfl) rfl
theorem q146 : (Jvm.Cond.methodLink "PathOramLaw" (25 : Nat) ({ cls := "PathOram", name := "read", desc := "(I)I" } : Jvm.MethodName)) ∈ lw_all := lw_g (lw_at lw_m1 129 rfl) rfl
theorem q161 : (Jvm.Cond.methodLink "PathOramLaw" (30 : Nat) ({ cls := "PathOram", name := "write", desc := "(II)I" } : Jvm.MethodName)) ∈ lw_all := lw_g (lw_at lw_m1 144 rfl) rfl
theorem q165 : (Jvm.Cond.methodLink "PathOramLaw" (35 : Nat) ({ cls := "PathOram", name := "add", desc := "(II)I" } : Jvm.MethodName)) ∈ lw_all := lw_g (lw_at lw_m1 148 rfl) rfl
theorem q169 : (Jvm.Cond.methodLink "PathOramLaw" (39 : Nat) ({ cls := "PathOram", name := "exchange", desc := "(II)I" } : Jvm.MethodName)) ∈ lw_all := lw_g (lw_at lw_m1 152 rfl) rfl
theorem q173 : (Jvm.Cond.methodLink "PathOramLaw" (43 : Nat) ({ cls := "PathOram", name := "copy", desc := "(II)I" } : Jvm.MethodName)) ∈ lw_all := lw_g (lw_at lw_m1 156 rfl) rfl
theorem q177 : (Jvm.Cond.methodLink "PathOramLaw" (47 : Nat) ({ cls := "PathOram", name := "fill", desc := "(IIII)I" } : Jvm.MethodName)) ∈ lw_all := lw_g (lw_at lw_m1 160 rfl) rfl
theorem q181 : (Jvm.Cond.methodLink "PathOramLaw" (52 : Nat) ({ cls := "PathOram", name := "rotate", desc := "(I)I" } : Jvm.MethodName)) ∈ lw_all := lw_g (lw_at lw_m1 164 rfl) rfl
theorem q189 : (Jvm.Cond.methodLink "PathOramLaw" (56 : Nat) ({ cls := "PathOram", name := "sum", desc := "()I" } : Jvm.MethodName)) ∈ lw_all := lw_g (lw_at lw_m1 172 rfl) rfl
theorem q193 : (Jvm.Cond.methodLink "PathOramLaw" (61 : Nat) ({ cls := "PathOram", name := "find", desc := "(II)I" } : Jvm.MethodName)) ∈ lw_all := lw_g (lw_at lw_m1 176 rfl) rfl
theorem q197 : (Jvm.Cond.methodLink "PathOramLaw" (65 : Nat) ({ cls := "PathOram", name := "below", desc := "(I)I" } : Jvm.MethodName)) ∈ lw_all := lw_g (lw_at lw_m1 180 rfl) rfl
theorem q201 : (Jvm.Cond.methodLink "PathOramLaw" (69 : Nat) ({ cls := "PathOram", name := "ranked", desc := "(I)I" } : Jvm.MethodName)) ∈ lw_all := lw_g (lw_at lw_m1 184 rfl) rfl
theorem q205 : (Jvm.Cond.methodLink "PathOramLaw" (73 : Nat) ({ cls := "PathOram", name := "save", desc := "(I)I" } : Jvm.MethodName)) ∈ lw_all := lw_g (lw_at lw_m1 188 rfl) rfl
theorem q209 : (Jvm.Cond.methodLink "PathOramLaw" (77 : Nat) ({ cls := "PathOram", name := "load", desc := "(I)I" } : Jvm.MethodName)) ∈ lw_all := lw_g (lw_at lw_m1 192 rfl) rfl
theorem q213 : (Jvm.Cond.methodLink "PathOramLaw" (81 : Nat) ({ cls := "PathOram", name := "differing", desc := "(I)I" } : Jvm.MethodName)) ∈ lw_all := lw_g (lw_at lw_m1 196 rfl) rfl
theorem q217 : (Jvm.Cond.methodLink "PathOramLaw" (85 : Nat) ({ cls := "PathOram", name := "audit", desc := "()I" } : Jvm.MethodName)) ∈ lw_all := lw_g (lw_at lw_m1 200 rfl) rfl
theorem q225 : (Jvm.Cond.methodLink "PathOramLaw" (89 : Nat) ({ cls := "PathOram", name := "touched", desc := "()I" } : Jvm.MethodName)) ∈ lw_all := lw_g (lw_at lw_m1 208 rfl) rfl
theorem q229 : (Jvm.Cond.methodLink "PathOramLaw" (9 : Nat) ({ cls := "PathOramLaw", name := "cell", desc := "([II)I" } : Jvm.MethodName)) ∈ lw_all := lw_g (lw_at lw_m1 212 rfl) rfl
theorem q230 : (Jvm.Cond.static ({ cls := "PathOramLaw", name := "cell", desc := "([II)I" } : Jvm.MethodName)) ∈ lw_all := lw_g (lw_at lw_m1 213 rfl) rfl
theorem q231 : (Jvm.Cond.code ({ cls := "PathOramLaw", name := "cell", desc := "([II)I" } : Jvm.MethodName) method_2_code (2 : Nat) (Option.some Jvm.ClassFile.FieldType.int)) ∈ lw_all := lw_g (lw_at lw_m1 214 rfl) rfl
theorem q232 : (Jvm.Cond.classLink "PathOramLaw" (18 : Nat) "PathOramModel") ∈ lw_all := lw_g (lw_at lw_m1 215 rfl) rfl
theorem q234 : (Jvm.Cond.methodLink "PathOramLaw" (20 : Nat) ({ cls := "PathOramModel", name := "<init>", desc := "(I)V" } : Jvm.MethodName)) ∈ lw_all := lw_g (lw_at lw_m1 217 rfl) rfl
theorem q251 : (Jvm.Cond.methodLink "PathOramLaw" (24 : Nat) ({ cls := "PathOramModel", name := "stir", desc := "(I)V" } : Jvm.MethodName)) ∈ lw_all := lw_g (lw_at lw_m1 234 rfl) rfl
theorem q255 : (Jvm.Cond.methodLink "PathOramLaw" (29 : Nat) ({ cls := "PathOramModel", name := "read", desc := "(I)I" } : Jvm.MethodName)) ∈ lw_all := lw_g (lw_at lw_m1 238 rfl) rfl
theorem q263 : (Jvm.Cond.methodLink "PathOramLaw" (34 : Nat) ({ cls := "PathOramModel", name := "write", desc := "(II)I" } : Jvm.MethodName)) ∈ lw_all := lw_g (lw_at lw_m2 6 rfl) rfl
theorem q267 : (Jvm.Cond.methodLink "PathOramLaw" (38 : Nat) ({ cls := "PathOramModel", name := "add", desc := "(II)I" } : Jvm.MethodName)) ∈ lw_all := lw_g (lw_at lw_m2 10 rfl) rfl
theorem q271 : (Jvm.Cond.methodLink "PathOramLaw" (42 : Nat) ({ cls := "PathOramModel", name := "exchange", desc := "(II)I" } : Jvm.MethodName)) ∈ lw_all := lw_g (lw_at lw_m2 14 rfl) rfl
theorem q275 : (Jvm.Cond.methodLink "PathOramLaw" (46 : Nat) ({ cls := "PathOramModel", name := "copy", desc := "(II)I" } : Jvm.MethodName)) ∈ lw_all := lw_g (lw_at lw_m2 18 rfl) rfl
theorem q279 : (Jvm.Cond.methodLink "PathOramLaw" (51 : Nat) ({ cls := "PathOramModel", name := "fill", desc := "(IIII)I" } : Jvm.MethodName)) ∈ lw_all := lw_g (lw_at lw_m2 22 rfl) rfl
theorem q283 : (Jvm.Cond.methodLink "PathOramLaw" (55 : Nat) ({ cls := "PathOramModel", name := "rotate", desc := "(I)I" } : Jvm.MethodName)) ∈ lw_all := lw_g (lw_at lw_m2 26 rfl) rfl
theorem q287 : (Jvm.Cond.methodLink "PathOramLaw" (60 : Nat) ({ cls := "PathOramModel", name := "sum", desc := "()I" } : Jvm.MethodName)) ∈ lw_all := lw_g (lw_at lw_m2 30 rfl) rfl
theorem q291 : (Jvm.Cond.methodLink "PathOramLaw" (64 : Nat) ({ cls := "PathOramModel", name := "find", desc := "(II)I" } : Jvm.MethodName)) ∈ lw_all := lw_g (lw_at lw_m2 34 rfl) rfl
theorem q295 : (Jvm.Cond.methodLink "PathOramLaw" (68 : Nat) ({ cls := "PathOramModel", name := "below", desc := "(I)I" } : Jvm.MethodName)) ∈ lw_all := lw_g (lw_at lw_m2 38 rfl) rfl
theorem q303 : (Jvm.Cond.methodLink "PathOramLaw" (72 : Nat) ({ cls := "PathOramModel", name := "ranked", desc := "(I)I" } : Jvm.MethodName)) ∈ lw_all := lw_g (lw_at lw_m2 46 rfl) rfl
theorem q311 : (Jvm.Cond.methodLink "PathOramLaw" (76 : Nat) ({ cls := "PathOramModel", name := "save", desc := "(I)I" } : Jvm.MethodName)) ∈ lw_all := lw_g (lw_at lw_m2 54 rfl) rfl
theorem q319 : (Jvm.Cond.methodLink "PathOramLaw" (80 : Nat) ({ cls := "PathOramModel", name := "load", desc := "(I)I" } : Jvm.MethodName)) ∈ lw_all := lw_g (lw_at lw_m2 62 rfl) rfl
theorem q327 : (Jvm.Cond.methodLink "PathOramLaw" (84 : Nat) ({ cls := "PathOramModel", name := "differing", desc := "(I)I" } : Jvm.MethodName)) ∈ lw_all := lw_g (lw_at lw_m2 70 rfl) rfl
theorem q328 : (Jvm.Cond.methodLink "PathOramLaw" (88 : Nat) ({ cls := "PathOramModel", name := "audit", desc := "()I" } : Jvm.MethodName)) ∈ lw_all := lw_g (lw_at lw_m2 71 rfl) rfl
theorem q332 : (Jvm.Cond.methodLink "PathOramLaw" (92 : Nat) ({ cls := "PathOramModel", name := "touched", desc := "()I" } : Jvm.MethodName)) ∈ lw_all := lw_g (lw_at lw_m2 75 rfl) rfl
/-! PathOram -/
def RX1 : String := "PathOram"
def TX1 : u_T := fun k => match k with
  | 0 => ("PathOram", "owner", "[I", true)
  | 1 => ("PathOram", "cell", "[I", true)
  | 2 => ("PathOram", "tag", "[I", true)
  | 3 => ("PathOram", "version", "[I", true)
  | 4 => ("PathOram", "stashOwner", "[I", true)
  | 5 => ("PathOram", "stashCell", "[I", true)
  | 6 => ("PathOram", "stashTag", "[I", true)
  | 7 => ("PathOram", "mapOwner", "[I", true)
  | 8 => ("PathOram", "mapCell", "[I", true)
  | 9 => ("PathOram", "mapTag", "[I", true)
  | 10 => ("PathOram", "mapStashOwner", "[I", true)
  | 11 => ("PathOram", "mapStashCell", "[I", true)
  | 12 => ("PathOram", "mapStashTag", "[I", true)
  | 13 => ("PathOram", "wordLeaf", "[I", true)
  | 14 => ("PathOram", "snapshots", "[I", true)
  | 15 => ("PathOram", "scratch", "[I", true)
  | 16 => ("PathOram", "stashed", "I", false)
  | 17 => ("PathOram", "mapStashed", "I", false)
  | 18 => ("PathOram", "random", "I", false)
  | 19 => ("PathOram", "key", "I", false)
  | _ => ("PathOram", "touchedNow", "I", false)
def tyX1 : Nat → FieldType := fun k => match k with
  | 0 => .array .int
  | 1 => .array .int
  | 2 => .array .int
  | 3 => .array .int
  | 4 => .array .int
  | 5 => .array .int
  | 6 => .array .int
  | 7 => .array .int
  | 8 => .array .int
  | 9 => .array .int
  | 10 => .array .int
  | 11 => .array .int
  | 12 => .array .int
  | 13 => .array .int
  | 14 => .array .int
  | 15 => .array .int
  | 16 => .int
  | 17 => .int
  | 18 => .int
  | 19 => .int
  | _ => .int
abbrev wsX10 : List Cond := u_ws RX1 TX1 21
set_option maxRecDepth 100000 in
theorem nmX1 : ∀ a, a < 21 → ∀ b, b < 21 → a ≠ b → (TX1 a).2.1 ≠ (TX1 b).2.1 := by decide +kernel
set_option maxRecDepth 100000 in
theorem tyX1_ok : ∀ k, k < 21 → parseFieldDescriptor (TX1 k).2.2.1 = some (tyX1 k) := by decide +kernel
abbrev cX1_init : ByteArray := prog_1_method_1_code
def yX1_init : MethodName := ⟨RX1, "<init>", "(I)V"⟩
abbrev cX1_stir : ByteArray := prog_1_method_2_code
def yX1_stir : MethodName := ⟨RX1, "stir", "(I)V"⟩
abbrev cX1_next : ByteArray := prog_1_method_20_code
def yX1_next : MethodName := ⟨RX1, "next", "()I"⟩
abbrev cX1_readPath : ByteArray := prog_1_method_25_code
def yX1_readPath : MethodName := ⟨RX1, "readPath", "(I)V"⟩
abbrev cX1_bucketAt : ByteArray := prog_1_method_24_code
def yX1_bucketAt : MethodName := ⟨RX1, "bucketAt", "(II)I"⟩
abbrev cX1_pad : ByteArray := prog_1_method_21_code
def yX1_pad : MethodName := ⟨RX1, "pad", "(I)I"⟩
abbrev cX1_writePath : ByteArray := prog_1_method_26_code
def yX1_writePath : MethodName := ⟨RX1, "writePath", "(I)V"⟩
abbrev cX1_fitting : ByteArray := prog_1_method_27_code
def yX1_fitting : MethodName := ⟨RX1, "fitting", "(II)I"⟩
abbrev cX1_settle : ByteArray := prog_1_method_28_code
def yX1_settle : MethodName := ⟨RX1, "settle", "(II)V"⟩
abbrev cX1_readMapPath : ByteArray := prog_1_method_31_code
def yX1_readMapPath : MethodName := ⟨RX1, "readMapPath", "(I)V"⟩
abbrev cX1_mapBucketAt : ByteArray := prog_1_method_30_code
def yX1_mapBucketAt : MethodName := ⟨RX1, "mapBucketAt", "(II)I"⟩
abbrev cX1_writeMapPath : ByteArray := prog_1_method_32_code
def yX1_writeMapPath : MethodName := ⟨RX1, "writeMapPath", "(I)V"⟩
abbrev cX1_mapFitting : ByteArray := prog_1_method_33_code
def yX1_mapFitting : MethodName := ⟨RX1, "mapFitting", "(II)I"⟩
abbrev cX1_read : ByteArray := prog_1_method_3_code
def yX1_read : MethodName := ⟨RX1, "read", "(I)I"⟩
abbrev cX1_isBlock : ByteArray := prog_1_method_19_code
def yX1_isBlock : MethodName := ⟨RX1, "isBlock", "(I)Z"⟩
abbrev cX1_access : ByteArray := prog_1_method_23_code
def yX1_access : MethodName := ⟨RX1, "access", "(IZI)I"⟩
abbrev cX1_leafOf : ByteArray := prog_1_method_29_code
def yX1_leafOf : MethodName := ⟨RX1, "leafOf", "(II)I"⟩
abbrev cX1_write : ByteArray := prog_1_method_4_code
def yX1_write : MethodName := ⟨RX1, "write", "(II)I"⟩
abbrev cX1_add : ByteArray := prog_1_method_5_code
def yX1_add : MethodName := ⟨RX1, "add", "(II)I"⟩
abbrev cX1_exchange : ByteArray := prog_1_method_6_code
def yX1_exchange : MethodName := ⟨RX1, "exchange", "(II)I"⟩
abbrev cX1_copy : ByteArray := prog_1_method_7_code
def yX1_copy : MethodName := ⟨RX1, "copy", "(II)I"⟩
abbrev cX1_fill : ByteArray := prog_1_method_8_code
def yX1_fill : MethodName := ⟨RX1, "fill", "(IIII)I"⟩
abbrev cX1_rotate : ByteArray := prog_1_method_9_code
def yX1_rotate : MethodName := ⟨RX1, "rotate", "(I)I"⟩
abbrev cX1_gather : ByteArray := prog_1_method_22_code
def yX1_gather : MethodName := ⟨RX1, "gather", "()V"⟩
abbrev cX1_sum : ByteArray := prog_1_method_10_code
def yX1_sum : MethodName := ⟨RX1, "sum", "()I"⟩
abbrev cX1_find : ByteArray := prog_1_method_11_code
def yX1_find : MethodName := ⟨RX1, "find", "(II)I"⟩
abbrev cX1_below : ByteArray := prog_1_method_12_code
def yX1_below : MethodName := ⟨RX1, "below", "(I)I"⟩
abbrev cX1_ranked : ByteArray := prog_1_method_13_code
def yX1_ranked : MethodName := ⟨RX1, "ranked", "(I)I"⟩
abbrev cX1_save : ByteArray := prog_1_method_14_code
def yX1_save : MethodName := ⟨RX1, "save", "(I)I"⟩
abbrev cX1_load : ByteArray := prog_1_method_15_code
def yX1_load : MethodName := ⟨RX1, "load", "(I)I"⟩
abbrev cX1_differing : ByteArray := prog_1_method_16_code
def yX1_differing : MethodName := ⟨RX1, "differing", "(I)I"⟩
abbrev cX1_audit : ByteArray := prog_1_method_17_code
def yX1_audit : MethodName := ⟨RX1, "audit", "()I"⟩
abbrev cX1_placesOf : ByteArray := prog_1_method_34_code
def yX1_placesOf : MethodName := ⟨RX1, "placesOf", "(II)I"⟩
abbrev cX1_touched : ByteArray := prog_1_method_18_code
def yX1_touched : MethodName := ⟨RX1, "touched", "()I"⟩
theorem q18 : (Jvm.Cond.initialized "PathOram") ∈ lw_all := lw_g (lw_at lw_m1 1 rfl) rfl
theorem q21 : (Jvm.Cond.instantiable "PathOram" (21 : Nat)) ∈ lw_all := lw_g (lw_at lw_m1 4 rfl) rfl
theorem q23 : (Jvm.Cond.instanceMethod ({ cls := "PathOram", name := "<init>", desc := "(I)V" } : Jvm.MethodName)) ∈ lw_all := lw_g (lw_at lw_m1 6 rfl) rfl
theorem q24 : (Jvm.Cond.code ({ cls := "PathOram", name := "<init>", desc := "(I)V" } : Jvm.MethodName) prog_1_method_1_code (4 : Nat) (Option.none : Option Jvm.ClassFile.FieldType)) ∈ lw_all := lw_g (lw_at lw_m1 7 rfl) rfl
theorem q25 : (Jvm.Cond.methodLink "PathOram" (1 : Nat) ({ cls := "java/lang/Object", name := "<init>", desc := "()V" } : Jvm.MethodName)) ∈ lw_all := lw_g (lw_at lw_m1 8 rfl) rfl
theorem q28 : (Jvm.Cond.methodLink "PathOram" (58 : Nat) ({ cls := "PathOram", name := "stir", desc := "(I)V" } : Jvm.MethodName)) ∈ lw_all := lw_g (lw_at lw_m1 11 rfl) rfl
theorem q29 : (Jvm.Cond.instanceMethod ({ cls := "PathOram", name := "stir", desc := "(I)V" } : Jvm.MethodName)) ∈ lw_all := lw_g (lw_at lw_m1 12 rfl) rfl
theorem q30 : (Jvm.Cond.selects "PathOram" ({ cls := "PathOram", name := "stir", desc := "(I)V" } : Jvm.MethodName) ({ cls := "PathOram", name := "stir", desc := "(I)V" } : Jvm.MethodName)) ∈ lw_all := lw_g (lw_at lw_m1 13 rfl) rfl
theorem q31 : (Jvm.Cond.code ({ cls := "PathOram", name := "stir", desc := "(I)V" } : Jvm.MethodName) prog_1_method_2_code (2 : Nat) (Option.none : Option Jvm.ClassFile.FieldType)) ∈ lw_all := lw_g (lw_at lw_m1 14 rfl) rfl
theorem q32 : (Jvm.Cond.constant "PathOram" (91 : Nat) (88675123 : Int32)) ∈ lw_all := lw_g (lw_at lw_m1 15 rfl) rfl
theorem q33 : (Jvm.Cond.methodLink "PathOram" (62 : Nat) ({ cls := "PathOram", name := "next", desc := "()I" } : Jvm.MethodName)) ∈ lw_all := lw_g (lw_at lw_m1 16 rfl) rfl
theorem q34 : (Jvm.Cond.privateMethod ({ cls := "PathOram", name := "next", desc := "()I" } : Jvm.MethodName)) ∈ lw_tbl := lw_at lw_m1 17 rfl
theorem q35 : (Jvm.Cond.instanceMethod ({ cls := "PathOram", name := "next", desc := "()I" } : Jvm.MethodName)) ∈ lw_all := lw_g (lw_at lw_m1 18 rfl) rfl
theorem q36 : (Jvm.Cond.code ({ cls := "PathOram", name := "next", desc := "()I" } : Jvm.MethodName) prog_1_method_20_code (2 : Nat) (Option.some Jvm.ClassFile.FieldType.int)) ∈ lw_all := lw_g (lw_at lw_m1 19 rfl) rfl
theorem q37 : (Jvm.Cond.constant "PathOram" (113 : Nat) (1048575 : Int32)) ∈ lw_all := lw_g (lw_at lw_m1 20 rfl) rfl
theorem q38 : (Jvm.Cond.methodLink "PathOram" (76 : Nat) ({ cls := "PathOram", name := "readPath", desc := "(I)V" } : Jvm.MethodName)) ∈ lw_all := lw_g (lw_at lw_m1 21 rfl) rfl
theorem q39 : (Jvm.Cond.privateMethod ({ cls := "PathOram", name := "readPath", desc := "(I)V" } : Jvm.MethodName)) ∈ lw_tbl := lw_at lw_m1 22 rfl
theorem q40 : (Jvm.Cond.instanceMethod ({ cls := "PathOram", name := "readPath", desc := "(I)V" } : Jvm.MethodName)) ∈ lw_all := lw_g (lw_at lw_m1 23 rfl) rfl
theorem q41 : (Jvm.Cond.code ({ cls := "PathOram", name := "readPath", desc := "(I)V" } : Jvm.MethodName) prog_1_method_25_code (5 : Nat) (Option.none : Option Jvm.ClassFile.FieldType)) ∈ lw_all := lw_g (lw_at lw_m1 24 rfl) rfl
theorem q42 : (Jvm.Cond.methodLink "PathOram" (118 : Nat) ({ cls := "PathOram", name := "bucketAt", desc := "(II)I" } : Jvm.MethodName)) ∈ lw_all := lw_g (lw_at lw_m1 25 rfl) rfl
theorem q43 : (Jvm.Cond.static ({ cls := "PathOram", name := "bucketAt", desc := "(II)I" } : Jvm.MethodName)) ∈ lw_all := lw_g (lw_at lw_m1 26 rfl) rfl
theorem q44 : (Jvm.Cond.code ({ cls := "PathOram", name := "bucketAt", desc := "(II)I" } : Jvm.MethodName) prog_1_method_24_code (2 : Nat) (Option.some Jvm.ClassFile.FieldType.int)) ∈ lw_all := lw_g (lw_at lw_m1 27 rfl) rfl
theorem q45 : (Jvm.Cond.methodLink "PathOram" (121 : Nat) ({ cls := "PathOram", name := "pad", desc := "(I)I" } : Jvm.MethodName)) ∈ lw_all := lw_g (lw_at lw_m1 28 rfl) rfl
theorem q46 : (Jvm.Cond.privateMethod ({ cls := "PathOram", name := "pad", desc := "(I)I" } : Jvm.MethodName)) ∈ lw_tbl := lw_at lw_m1 29 rfl
theorem q47 : (Jvm.Cond.instanceMethod ({ cls := "PathOram", name := "pad", desc := "(I)I" } : Jvm.MethodName)) ∈ lw_all := lw_g (lw_at lw_m1 30 rfl) rfl
theorem q48 : (Jvm.Cond.code ({ cls := "PathOram", name := "pad", desc := "(I)I" } : Jvm.MethodName) prog_1_method_21_code (3 : Nat) (Option.some Jvm.ClassFile.FieldType.int)) ∈ lw_all := lw_g (lw_at lw_m1 31 rfl) rfl
theorem q49 : (Jvm.Cond.constant "PathOram" (114 : Nat) (1640531527 : Int32)) ∈ lw_all := lw_g (lw_at lw_m1 32 rfl) rfl
theorem q50 : (Jvm.Cond.constant "PathOram" (115 : Nat) (374761393 : Int32)) ∈ lw_all := lw_g (lw_at lw_m1 33 rfl) rfl
theorem q51 : (Jvm.Cond.constant "PathOram" (116 : Nat) (668265263 : Int32)) ∈ lw_all := lw_g (lw_at lw_m1 34 rfl) rfl
theorem q52 : (Jvm.Cond.constant "PathOram" (117 : Nat) (1103515245 : Int32)) ∈ lw_all := lw_g (lw_at lw_m1 35 rfl) rfl
theorem q53 : (Jvm.Cond.methodLink "PathOram" (79 : Nat) ({ cls := "PathOram", name := "writePath", desc := "(I)V" } : Jvm.MethodName)) ∈ lw_all := lw_g (lw_at lw_m1 36 rfl) rfl
theorem q54 : (Jvm.Cond.privateMethod ({ cls := "PathOram", name := "writePath", desc := "(I)V" } : Jvm.MethodName)) ∈ lw_tbl := lw_at lw_m1 37 rfl
theorem q55 : (Jvm.Cond.instanceMethod ({ cls := "PathOram", name := "writePath", desc := "(I)V" } : Jvm.MethodName)) ∈ lw_all := lw_g (lw_at lw_m1 38 rfl) rfl
theorem q56 : (Jvm.Cond.code ({ cls := "PathOram", name := "writePath", desc := "(I)V" } : Jvm.MethodName) prog_1_method_26_code (6 : Nat) (Option.none : Option Jvm.ClassFile.FieldType)) ∈ lw_all := lw_g (lw_at lw_m1 39 rfl) rfl
theorem q57 : (Jvm.Cond.methodLink "PathOram" (125 : Nat) ({ cls := "PathOram", name := "fitting", desc := "(II)I" } : Jvm.MethodName)) ∈ lw_all := lw_g (lw_at lw_m1 40 rfl) rfl
theorem q58 : (Jvm.Cond.privateMethod ({ cls := "PathOram", name := "fitting", desc := "(II)I" } : Jvm.MethodName)) ∈ lw_tbl := lw_at lw_m1 41 rfl
theorem q59 : (Jvm.Cond.instanceMethod ({ cls := "PathOram", name := "fitting", desc := "(II)I" } : Jvm.MethodName)) ∈ lw_all := lw_g (lw_at lw_m1 42 rfl) rfl
theorem q60 : (Jvm.Cond.code ({ cls := "PathOram", name := "fitting", desc := "(II)I" } : Jvm.MethodName) prog_1_method_27_code (4 : Nat) (Option.some Jvm.ClassFile.FieldType.int)) ∈ lw_all := lw_g (lw_at lw_m1 43 rfl) rfl
theorem q61 : (Jvm.Cond.methodLink "PathOram" (128 : Nat) ({ cls := "PathOram", name := "settle", desc := "(II)V" } : Jvm.MethodName)) ∈ lw_all := lw_g (lw_at lw_m1 44 rfl) rfl
theorem q62 : (Jvm.Cond.privateMethod ({ cls := "PathOram", name := "settle", desc := "(II)V" } : Jvm.MethodName)) ∈ lw_tbl := lw_at lw_m1 45 rfl
theorem q63 : (Jvm.Cond.instanceMethod ({ cls := "PathOram", name := "settle", desc := "(II)V" } : Jvm.MethodName)) ∈ lw_all := lw_g (lw_at lw_m1 46 rfl) rfl
theorem q64 : (Jvm.Cond.code ({ cls := "PathOram", name := "settle", desc := "(II)V" } : Jvm.MethodName) prog_1_method_28_code (3 : Nat) (Option.none : Option Jvm.ClassFile.FieldType)) ∈ lw_all := lw_g (lw_at lw_m1 47 rfl) rfl
theorem q65 : (Jvm.Cond.methodLink "PathOram" (82 : Nat) ({ cls := "PathOram", name := "readMapPath", desc := "(I)V" } : Jvm.MethodName)) ∈ lw_all := lw_g (lw_at lw_m1 48 rfl) rfl
theorem q66 : (Jvm.Cond.privateMethod ({ cls := "PathOram", name := "readMapPath", desc := "(I)V" } : Jvm.MethodName)) ∈ lw_tbl := lw_at lw_m1 49 rfl
theorem q67 : (Jvm.Cond.instanceMethod ({ cls := "PathOram", name := "readMapPath", desc := "(I)V" } : Jvm.MethodName)) ∈ lw_all := lw_g (lw_at lw_m1 50 rfl) rfl
theorem q68 : (Jvm.Cond.code ({ cls := "PathOram", name := "readMapPath", desc := "(I)V" } : Jvm.MethodName) prog_1_method_31_code (5 : Nat) (Option.none : Option Jvm.ClassFile.FieldType)) ∈ lw_all := lw_g (lw_at lw_m1 51 rfl) rfl
theorem q69 : (Jvm.Cond.methodLink "PathOram" (132 : Nat) ({ cls := "PathOram", name := "mapBucketAt", desc := "(II)I" } : Jvm.MethodName)) ∈ lw_all := lw_g (lw_at lw_m1 52 rfl) rfl
theorem q70 : (Jvm.Cond.static ({ cls := "PathOram", name := "mapBucketAt", desc := "(II)I" } : Jvm.MethodName)) ∈ lw_all := lw_g (lw_at lw_m1 53 rfl) rfl
theorem q71 : (Jvm.Cond.code ({ cls := "PathOram", name := "mapBucketAt", desc := "(II)I" } : Jvm.MethodName) prog_1_method_30_code (2 : Nat) (Option.some Jvm.ClassFile.FieldType.int)) ∈ lw_all := lw_g (lw_at lw_m1 54 rfl) rfl
theorem q72 : (Jvm.Cond.methodLink "PathOram" (85 : Nat) ({ cls := "PathOram", name := "writeMapPath", desc := "(I)V" } : Jvm.MethodName)) ∈ lw_all := lw_g (lw_at lw_m1 55 rfl) rfl
theorem q73 : (Jvm.Cond.privateMethod ({ cls := "PathOram", name := "writeMapPath", desc := "(I)V" } : Jvm.MethodName)) ∈ lw_tbl := lw_at lw_m1 56 rfl
theorem q74 : (Jvm.Cond.instanceMethod ({ cls := "PathOram", name := "writeMapPath", desc := "(I)V" } : Jvm.MethodName)) ∈ lw_all := lw_g (lw_at lw_m1 57 rfl) rfl
theorem q75 : (Jvm.Cond.code ({ cls := "PathOram", name := "writeMapPath", desc := "(I)V" } : Jvm.MethodName) prog_1_method_32_code (6 : Nat) (Option.none : Option Jvm.ClassFile.FieldType)) ∈ lw_all := lw_g (lw_at lw_m1 58 rfl) rfl
theorem q76 : (Jvm.Cond.methodLink "PathOram" (135 : Nat) ({ cls := "PathOram", name := "mapFitting", desc := "(II)I" } : Jvm.MethodName)) ∈ lw_all := lw_g (lw_at lw_m1 59 rfl) rfl
theorem q77 : (Jvm.Cond.privateMethod ({ cls := "PathOram", name := "mapFitting", desc := "(II)I" } : Jvm.MethodName)) ∈ lw_tbl := lw_at lw_m1 60 rfl
theorem q78 : (Jvm.Cond.instanceMethod ({ cls := "PathOram", name := "mapFitting", desc := "(II)I" } : Jvm.MethodName)) ∈ lw_all := lw_g (lw_at lw_m1 61 rfl) rfl
theorem q79 : (Jvm.Cond.code ({ cls := "PathOram", name := "mapFitting", desc := "(II)I" } : Jvm.MethodName) prog_1_method_33_code (4 : Nat) (Option.some Jvm.ClassFile.FieldType.int)) ∈ lw_all := lw_g (lw_at lw_m1 62 rfl) rfl
theorem q80 : (Jvm.Cond.fieldLink "PathOram" (7 : Nat) "PathOram" "owner" "[I") ∈ lw_all := lw_g (lw_at lw_m1 63 rfl) rfl
theorem q81 : (Jvm.Cond.fieldLink "PathOram" (13 : Nat) "PathOram" "cell" "[I") ∈ lw_all := lw_g (lw_at lw_m1 64 rfl) rfl
theorem q82 : (Jvm.Cond.fieldLink "PathOram" (16 : Nat) "PathOram" "tag" "[I") ∈ lw_all := lw_g (lw_at lw_m1 65 rfl) rfl
theorem q83 : (Jvm.Cond.fieldLink "PathOram" (19 : Nat) "PathOram" "version" "[I") ∈ lw_all := lw_g (lw_at lw_m1 66 rfl) rfl
theorem q84 : (Jvm.Cond.fieldLink "PathOram" (22 : Nat) "PathOram" "stashOwner" "[I") ∈ lw_all := lw_g (lw_at lw_m1 67 rfl) rfl
theorem q85 : (Jvm.Cond.fieldLink "PathOram" (25 : Nat) "PathOram" "stashCell" "[I") ∈ lw_all := lw_g (lw_at lw_m1 68 rfl) rfl
theorem q86 : (Jvm.Cond.fieldLink "PathOram" (28 : Nat) "PathOram" "stashTag" "[I") ∈ lw_all := lw_g (lw_at lw_m1 69 rfl) rfl
theorem q87 : (Jvm.Cond.fieldLink "PathOram" (31 : Nat) "PathOram" "mapOwner" "[I") ∈ lw_all := lw_g (lw_at lw_m1 70 rfl) rfl
theorem q88 : (Jvm.Cond.fieldLink "PathOram" (34 : Nat) "PathOram" "mapCell" "[I") ∈ lw_all := lw_g (lw_at lw_m1 71 rfl) rfl
theorem q89 : (Jvm.Cond.fieldLink "PathOram" (37 : Nat) "PathOram" "mapTag" "[I") ∈ lw_all := lw_g (lw_at lw_m1 72 rfl) rfl
theorem q90 : (Jvm.Cond.fieldLink "PathOram" (40 : Nat) "PathOram" "mapStashOwner" "[I") ∈ lw_all := lw_g (lw_at lw_m1 73 rfl) rfl
theorem q91 : (Jvm.Cond.fieldLink "PathOram" (43 : Nat) "PathOram" "mapStashCell" "[I") ∈ lw_all := lw_g (lw_at lw_m1 74 rfl) rfl
theorem q92 : (Jvm.Cond.fieldLink "PathOram" (46 : Nat) "PathOram" "mapStashTag" "[I") ∈ lw_all := lw_g (lw_at lw_m1 75 rfl) rfl
theorem q93 : (Jvm.Cond.fieldLink "PathOram" (49 : Nat) "PathOram" "wordLeaf" "[I") ∈ lw_all := lw_g (lw_at lw_m1 76 rfl) rfl
theorem q94 : (Jvm.Cond.fieldLink "PathOram" (52 : Nat) "PathOram" "snapshots" "[I") ∈ lw_all := lw_g (lw_at lw_m1 77 rfl) rfl
theorem q95 : (Jvm.Cond.fieldLink "PathOram" (55 : Nat) "PathOram" "scratch" "[I") ∈ lw_all := lw_g (lw_at lw_m1 78 rfl) rfl
theorem q96 : (Jvm.Cond.fieldLink "PathOram" (70 : Nat) "PathOram" "stashed" "I") ∈ lw_all := lw_g (lw_at lw_m1 79 rfl) rfl
theorem q97 : (Jvm.Cond.fieldLink "PathOram" (73 : Nat) "PathOram" "mapStashed" "I") ∈ lw_all := lw_g (lw_at lw_m1 80 rfl) rfl
theorem q98 : (Jvm.Cond.fieldLink "PathOram" (92 : Nat) "PathOram" "random" "I") ∈ lw_all := lw_g (lw_at lw_m1 81 rfl) rfl
theorem q99 : (Jvm.Cond.fieldLink "PathOram" (66 : Nat) "PathOram" "key" "I") ∈ lw_all := lw_g (lw_at lw_m1 82 rfl) rfl
theorem q100 : (Jvm.Cond.fieldLink "PathOram" (88 : Nat) "PathOram" "touchedNow" "I") ∈ lw_all := lw_g (lw_at lw_m1 83 rfl) rfl
theorem q101 : (Jvm.Cond.laysFinal "PathOram" "PathOram" "owner" "[I") ∈ lw_all := lw_g (lw_at lw_m1 84 rfl) rfl
theorem q102 : (Jvm.Cond.soleField "PathOram" "owner") ∈ lw_all := lw_g (lw_at lw_m1 85 rfl) rfl
theorem q103 : (Jvm.Cond.laysFinal "PathOram" "PathOram" "cell" "[I") ∈ lw_all := lw_g (lw_at lw_m1 86 rfl) rfl
theorem q104 : (Jvm.Cond.soleField "PathOram" "cell") ∈ lw_all := lw_g (lw_at lw_m1 87 rfl) rfl
theorem q105 : (Jvm.Cond.laysFinal "PathOram" "PathOram" "tag" "[I") ∈ lw_all := lw_g (lw_at lw_m1 88 rfl) rfl
theorem q106 : (Jvm.Cond.soleField "PathOram" "tag") ∈ lw_all := lw_g (lw_at lw_m1 89 rfl) rfl
theorem q107 : (Jvm.Cond.laysFinal "PathOram" "PathOram" "version" "[I") ∈ lw_all := lw_g (lw_at lw_m1 90 rfl) rfl
theorem q108 : (Jvm.Cond.soleField "PathOram" "version") ∈ lw_all := lw_g (lw_at lw_m1 91 rfl) rfl
theorem q109 : (Jvm.Cond.laysFinal "PathOram" "PathOram" "stashOwner" "[I") ∈ lw_all := lw_g (lw_at lw_m1 92 rfl) rfl
theorem q110 : (Jvm.Cond.soleField "PathOram" "stashOwner") ∈ lw_all := lw_g (lw_at lw_m1 93 rfl) rfl
theorem q111 : (Jvm.Cond.laysFinal "PathOram" "PathOram" "stashCell" "[I") ∈ lw_all := lw_g (lw_at lw_m1 94 rfl) rfl
theorem q112 : (Jvm.Cond.soleField "PathOram" "stashCell") ∈ lw_all := lw_g (lw_at lw_m1 95 rfl) rfl
theorem q113 : (Jvm.Cond.laysFinal "PathOram" "PathOram" "stashTag" "[I") ∈ lw_all := lw_g (lw_at lw_m1 96 rfl) rfl
theorem q114 : (Jvm.Cond.soleField "PathOram" "stashTag") ∈ lw_all := lw_g (lw_at lw_m1 97 rfl) rfl
theorem q115 : (Jvm.Cond.laysFinal "PathOram" "PathOram" "mapOwner" "[I") ∈ lw_all := lw_g (lw_at lw_m1 98 rfl) rfl
theorem q116 : (Jvm.Cond.soleField "PathOram" "mapOwner") ∈ lw_all := lw_g (lw_at lw_m1 99 rfl) rfl
theorem q117 : (Jvm.Cond.laysFinal "PathOram" "PathOram" "mapCell" "[I") ∈ lw_all := lw_g (lw_at lw_m1 100 rfl) rfl
theorem q118 : (Jvm.Cond.soleField "PathOram" "mapCell") ∈ lw_all := lw_g (lw_at lw_m1 101 rfl) rfl
theorem q119 : (Jvm.Cond.laysFinal "PathOram" "PathOram" "mapTag" "[I") ∈ lw_all := lw_g (lw_at lw_m1 102 rfl) rfl
theorem q120 : (Jvm.Cond.soleField "PathOram" "mapTag") ∈ lw_all := lw_g (lw_at lw_m1 103 rfl) rfl
theorem q121 : (Jvm.Cond.laysFinal "PathOram" "PathOram" "mapStashOwner" "[I") ∈ lw_all := lw_g (lw_at lw_m1 104 rfl) rfl
theorem q122 : (Jvm.Cond.soleField "PathOram" "mapStashOwner") ∈ lw_all := lw_g (lw_at lw_m1 105 rfl) rfl
theorem q123 : (Jvm.Cond.laysFinal "PathOram" "PathOram" "mapStashCell" "[I") ∈ lw_all := lw_g (lw_at lw_m1 106 rfl) rfl
theorem q124 : (Jvm.Cond.soleField "PathOram" "mapStashCell") ∈ lw_all := lw_g (lw_at lw_m1 107 rfl) rfl
theorem q125 : (Jvm.Cond.laysFinal "PathOram" "PathOram" "mapStashTag" "[I") ∈ lw_all := lw_g (lw_at lw_m1 108 rfl) rfl
theorem q126 : (Jvm.Cond.soleField "PathOram" "mapStashTag") ∈ lw_all := lw_g (lw_at lw_m1 109 rfl) rfl
theorem q127 : (Jvm.Cond.laysFinal "PathOram" "PathOram" "wordLeaf" "[I") ∈ lw_all := lw_g (lw_at lw_m1 110 rfl) rfl
theorem q128 : (Jvm.Cond.soleField "PathOram" "wordLeaf") ∈ lw_all := lw_g (lw_at lw_m1 111 rfl) rfl
theorem q129 : (Jvm.Cond.laysFinal "PathOram" "PathOram" "snapshots" "[I") ∈ lw_all := lw_g (lw_at lw_m1 112 rfl) rfl
theorem q130 : (Jvm.Cond.soleField "PathOram" "snapshots") ∈ lw_all := lw_g (lw_at lw_m1 113 rfl) rfl
theorem q131 : (Jvm.Cond.laysFinal "PathOram" "PathOram" "scratch" "[I") ∈ lw_all := lw_g (lw_at lw_m1 114 rfl) rfl
theorem q132 : (Jvm.Cond.soleField "PathOram" "scratch") ∈ lw_all := lw_g (lw_at lw_m1 115 rfl) rfl
theorem q133 : (Jvm.Cond.lays "PathOram" "PathOram" "stashed" "I") ∈ lw_all := lw_g (lw_at lw_m1 116 rfl) rfl
theorem q134 : (Jvm.Cond.soleField "PathOram" "stashed") ∈ lw_all := lw_g (lw_at lw_m1 117 rfl) rfl
theorem q135 : (Jvm.Cond.lays "PathOram" "PathOram" "mapStashed" "I") ∈ lw_all := lw_g (lw_at lw_m1 118 rfl) rfl
theorem q136 : (Jvm.Cond.soleField "PathOram" "mapStashed") ∈ lw_all := lw_g (lw_at lw_m1 119 rfl) rfl
theorem q137 : (Jvm.Cond.lays "PathOram" "PathOram" "random" "I") ∈ lw_all := lw_g (lw_at lw_m1 120 rfl) rfl
theorem q138 : (Jvm.Cond.soleField "PathOram" "random") ∈ lw_all := lw_g (lw_at lw_m1 121 rfl) rfl
theorem q139 : (Jvm.Cond.lays "PathOram" "PathOram" "key" "I") ∈ lw_all := lw_g (lw_at lw_m1 122 rfl) rfl
theorem q140 : (Jvm.Cond.soleField "PathOram" "key") ∈ lw_all := lw_g (lw_at lw_m1 123 rfl) rfl
theorem q141 : (Jvm.Cond.lays "PathOram" "PathOram" "touchedNow" "I") ∈ lw_all := lw_g (lw_at lw_m1 124 rfl) rfl
theorem q142 : (Jvm.Cond.soleField "PathOram" "touchedNow") ∈ lw_all := lw_g (lw_at lw_m1 125 rfl) rfl
theorem q143 : (Jvm.Cond.superclass "PathOram" "java/lang/Object") ∈ lw_all := lw_g (lw_at lw_m1 126 rfl) rfl
theorem q147 : (Jvm.Cond.instanceMethod ({ cls := "PathOram", name := "read", desc := "(I)I" } : Jvm.MethodName)) ∈ lw_all := lw_g (lw_at lw_m1 130 rfl) rfl
theorem q148 : (Jvm.Cond.selects "PathOram" ({ cls := "PathOram", name := "read", desc := "(I)I" } : Jvm.MethodName) ({ cls := "PathOram", name := "read", desc := "(I)I" } : Jvm.MethodName)) ∈ lw_all := lw_g (lw_at lw_m1 131 rfl) rfl
theorem q149 : (Jvm.Cond.code ({ cls := "PathOram", name := "read", desc := "(I)I" } : Jvm.MethodName) prog_1_method_3_code (2 : Nat) (Option.some Jvm.ClassFile.FieldType.int)) ∈ lw_all := lw_g (lw_at lw_m1 132 rfl) rfl
theorem q150 : (Jvm.Cond.methodLink "PathOram" (95 : Nat) ({ cls := "PathOram", name := "isBlock", desc := "(I)Z" } : Jvm.MethodName)) ∈ lw_all := lw_g (lw_at lw_m1 133 rfl) rfl
theorem q151 : (Jvm.Cond.static ({ cls := "PathOram", name := "isBlock", desc := "(I)Z" } : Jvm.MethodName)) ∈ lw_all := lw_g (lw_at lw_m1 134 rfl) rfl
theorem q152 : (Jvm.Cond.code ({ cls := "PathOram", name := "isBlock", desc := "(I)Z" } : Jvm.MethodName) prog_1_method_19_code (1 : Nat) (Option.some Jvm.ClassFile.FieldType.boolean)) ∈ lw_all := lw_g (lw_at lw_m1 135 rfl) rfl
theorem q153 : (Jvm.Cond.methodLink "PathOram" (99 : Nat) ({ cls := "PathOram", name := "access", desc := "(IZI)I" } : Jvm.MethodName)) ∈ lw_all := lw_g (lw_at lw_m1 136 rfl) rfl
theorem q154 : (Jvm.Cond.privateMethod ({ cls := "PathOram", name := "access", desc := "(IZI)I" } : Jvm.MethodName)) ∈ lw_tbl := lw_at lw_m1 137 rfl
theorem q155 : (Jvm.Cond.instanceMethod ({ cls := "PathOram", name := "access", desc := "(IZI)I" } : Jvm.MethodName)) ∈ lw_all := lw_g (lw_at lw_m1 138 rfl) rfl
theorem q156 : (Jvm.Cond.code ({ cls := "PathOram", name := "access", desc := "(IZI)I" } : Jvm.MethodName) prog_1_method_23_code (8 : Nat) (Option.some Jvm.ClassFile.FieldType.int)) ∈ lw_all := lw_g (lw_at lw_m1 139 rfl) rfl
theorem q157 : (Jvm.Cond.methodLink "PathOram" (106 : Nat) ({ cls := "PathOram", name := "leafOf", desc := "(II)I" } : Jvm.MethodName)) ∈ lw_all := lw_g (lw_at lw_m1 140 rfl) rfl
theorem q158 : (Jvm.Cond.privateMethod ({ cls := "PathOram", name := "leafOf", desc := "(II)I" } : Jvm.MethodName)) ∈ lw_tbl := lw_at lw_m1 141 rfl
theorem q159 : (Jvm.Cond.instanceMethod ({ cls := "PathOram", name := "leafOf", desc := "(II)I" } : Jvm.MethodName)) ∈ lw_all := lw_g (lw_at lw_m1 142 rfl) rfl
theorem q160 : (Jvm.Cond.code ({ cls := "PathOram", name := "leafOf", desc := "(II)I" } : Jvm.MethodName) prog_1_method_29_code (9 : Nat) (Option.some Jvm.ClassFile.FieldType.int)) ∈ lw_all := lw_g (lw_at lw_m1 143 rfl) rfl
theorem q162 : (Jvm.Cond.instanceMethod ({ cls := "PathOram", name := "write", desc := "(II)I" } : Jvm.MethodName)) ∈ lw_all := lw_g (lw_at lw_m1 145 rfl) rfl
theorem q163 : (Jvm.Cond.selects "PathOram" ({ cls := "PathOram", name := "write", desc := "(II)I" } : Jvm.MethodName) ({ cls := "PathOram", name := "write", desc := "(II)I" } : Jvm.MethodName)) ∈ lw_all := lw_g (lw_at lw_m1 146 rfl) rfl
theorem q164 : (Jvm.Cond.code ({ cls := "PathOram", name := "write", desc := "(II)I" } : Jvm.MethodName) prog_1_method_4_code (3 : Nat) (Option.some Jvm.ClassFile.FieldType.int)) ∈ lw_all := lw_g (lw_at lw_m1 147 rfl) rfl
theorem q166 : (Jvm.Cond.instanceMethod ({ cls := "PathOram", name := "add", desc := "(II)I" } : Jvm.MethodName)) ∈ lw_all := lw_g (lw_at lw_m1 149 rfl) rfl
theorem q167 : (Jvm.Cond.selects "PathOram" ({ cls := "PathOram", name := "add", desc := "(II)I" } : Jvm.MethodName) ({ cls := "PathOram", name := "add", desc := "(II)I" } : Jvm.MethodName)) ∈ lw_all := lw_g (lw_at lw_m1 150 rfl) rfl
theorem q168 : (Jvm.Cond.code ({ cls := "PathOram", name := "add", desc := "(II)I" } : Jvm.MethodName) prog_1_method_5_code (4 : Nat) (Option.some Jvm.ClassFile.FieldType.int)) ∈ lw_all := lw_g (lw_at lw_m1 151 rfl) rfl
theorem q170 : (Jvm.Cond.instanceMethod ({ cls := "PathOram", name := "exchange", desc := "(II)I" } : Jvm.MethodName)) ∈ lw_all := lw_g (lw_at lw_m1 153 rfl) rfl
theorem q171 : (Jvm.Cond.selects "PathOram" ({ cls := "PathOram", name := "exchange", desc := "(II)I" } : Jvm.MethodName) ({ cls := "PathOram", name := "exchange", desc := "(II)I" } : Jvm.MethodName)) ∈ lw_all := lw_g (lw_at lw_m1 154 rfl) rfl
theorem q172 : (Jvm.Cond.code ({ cls := "PathOram", name := "exchange", desc := "(II)I" } : Jvm.MethodName) prog_1_method_6_code (5 : Nat) (Option.some Jvm.ClassFile.FieldType.int)) ∈ lw_all := lw_g (lw_at lw_m1 155 rfl) rfl
theorem q174 : (Jvm.Cond.instanceMethod ({ cls := "PathOram", name := "copy", desc := "(II)I" } : Jvm.MethodName)) ∈ lw_all := lw_g (lw_at lw_m1 157 rfl) rfl
theorem q175 : (Jvm.Cond.selects "PathOram" ({ cls := "PathOram", name := "copy", desc := "(II)I" } : Jvm.MethodName) ({ cls := "PathOram", name := "copy", desc := "(II)I" } : Jvm.MethodName)) ∈ lw_all := lw_g (lw_at lw_m1 158 rfl) rfl
theorem q176 : (Jvm.Cond.code ({ cls := "PathOram", name := "copy", desc := "(II)I" } : Jvm.MethodName) prog_1_method_7_code (4 : Nat) (Option.some Jvm.ClassFile.FieldType.int)) ∈ lw_all := lw_g (lw_at lw_m1 159 rfl) rfl
theorem q178 : (Jvm.Cond.instanceMethod ({ cls := "PathOram", name := "fill", desc := "(IIII)I" } : Jvm.MethodName)) ∈ lw_all := lw_g (lw_at lw_m1 161 rfl) rfl
theorem q179 : (Jvm.Cond.selects "PathOram" ({ cls := "PathOram", name := "fill", desc := "(IIII)I" } : Jvm.MethodName) ({ cls := "PathOram", name := "fill", desc := "(IIII)I" } : Jvm.MethodName)) ∈ lw_all := lw_g (lw_at lw_m1 162 rfl) rfl
theorem q180 : (Jvm.Cond.code ({ cls := "PathOram", name := "fill", desc := "(IIII)I" } : Jvm.MethodName) prog_1_method_8_code (6 : Nat) (Option.some Jvm.ClassFile.FieldType.int)) ∈ lw_all := lw_g (lw_at lw_m1 163 rfl) rfl
theorem q182 : (Jvm.Cond.instanceMethod ({ cls := "PathOram", name := "rotate", desc := "(I)I" } : Jvm.MethodName)) ∈ lw_all := lw_g (lw_at lw_m1 165 rfl) rfl
theorem q183 : (Jvm.Cond.selects "PathOram" ({ cls := "PathOram", name := "rotate", desc := "(I)I" } : Jvm.MethodName) ({ cls := "PathOram", name := "rotate", desc := "(I)I" } : Jvm.MethodName)) ∈ lw_all := lw_g (lw_at lw_m1 166 rfl) rfl
theorem q184 : (Jvm.Cond.code ({ cls := "PathOram", name := "rotate", desc := "(I)I" } : Jvm.MethodName) prog_1_method_9_code (3 : Nat) (Option.some Jvm.ClassFile.FieldType.int)) ∈ lw_all := lw_g (lw_at lw_m1 167 rfl) rfl
theorem q185 : (Jvm.Cond.methodLink "PathOram" (103 : Nat) ({ cls := "PathOram", name := "gather", desc := "()V" } : Jvm.MethodName)) ∈ lw_all := lw_g (lw_at lw_m1 168 rfl) rfl
theorem q186 : (Jvm.Cond.privateMethod ({ cls := "PathOram", name := "gather", desc := "()V" } : Jvm.MethodName)) ∈ lw_tbl := lw_at lw_m1 169 rfl
theorem q187 : (Jvm.Cond.instanceMethod ({ cls := "PathOram", name := "gather", desc := "()V" } : Jvm.MethodName)) ∈ lw_all := lw_g (lw_at lw_m1 170 rfl) rfl
theorem q188 : (Jvm.Cond.code ({ cls := "PathOram", name := "gather", desc := "()V" } : Jvm.MethodName) prog_1_method_22_code (2 : Nat) (Option.none : Option Jvm.ClassFile.FieldType)) ∈ lw_all := lw_g (lw_at lw_m1 171 rfl) rfl
theorem q190 : (Jvm.Cond.instanceMethod ({ cls := "PathOram", name := "sum", desc := "()I" } : Jvm.MethodName)) ∈ lw_all := lw_g (lw_at lw_m1 173 rfl) rfl
theorem q191 : (Jvm.Cond.selects "PathOram" ({ cls := "PathOram", name := "sum", desc := "()I" } : Jvm.MethodName) ({ cls := "PathOram", name := "sum", desc := "()I" } : Jvm.MethodName)) ∈ lw_all := lw_g (lw_at lw_m1 174 rfl) rfl
theorem q192 : (Jvm.Cond.code ({ cls := "PathOram", name := "sum", desc := "()I" } : Jvm.MethodName) prog_1_method_10_code (3 : Nat) (Option.some Jvm.ClassFile.FieldType.int)) ∈ lw_all := lw_g (lw_at lw_m1 175 rfl) rfl
theorem q194 : (Jvm.Cond.instanceMethod ({ cls := "PathOram", name := "find", desc := "(II)I" } : Jvm.MethodName)) ∈ lw_all := lw_g (lw_at lw_m1 177 rfl) rfl
theorem q195 : (Jvm.Cond.selects "PathOram" ({ cls := "PathOram", name := "find", desc := "(II)I" } : Jvm.MethodName) ({ cls := "PathOram", name := "find", desc := "(II)I" } : Jvm.MethodName)) ∈ lw_all := lw_g (lw_at lw_m1 178 rfl) rfl
theorem q196 : (Jvm.Cond.code ({ cls := "PathOram", name := "find", desc := "(II)I" } : Jvm.MethodName) prog_1_method_11_code (5 : Nat) (Option.some Jvm.ClassFile.FieldType.int)) ∈ lw_all := lw_g (lw_at lw_m1 179 rfl) rfl
theorem q198 : (Jvm.Cond.instanceMethod ({ cls := "PathOram", name := "below", desc := "(I)I" } : Jvm.MethodName)) ∈ lw_all := lw_g (lw_at lw_m1 181 rfl) rfl
theorem q199 : (Jvm.Cond.selects "PathOram" ({ cls := "PathOram", name := "below", desc := "(I)I" } : Jvm.MethodName) ({ cls := "PathOram", name := "below", desc := "(I)I" } : Jvm.MethodName)) ∈ lw_all := lw_g (lw_at lw_m1 182 rfl) rfl
theorem q200 : (Jvm.Cond.code ({ cls := "PathOram", name := "below", desc := "(I)I" } : Jvm.MethodName) prog_1_method_12_code (4 : Nat) (Option.some Jvm.ClassFile.FieldType.int)) ∈ lw_all := lw_g (lw_at lw_m1 183 rfl) rfl
theorem q202 : (Jvm.Cond.instanceMethod ({ cls := "PathOram", name := "ranked", desc := "(I)I" } : Jvm.MethodName)) ∈ lw_all := lw_g (lw_at lw_m1 185 rfl) rfl
theorem q203 : (Jvm.Cond.selects "PathOram" ({ cls := "PathOram", name := "ranked", desc := "(I)I" } : Jvm.MethodName) ({ cls := "PathOram", name := "ranked", desc := "(I)I" } : Jvm.MethodName)) ∈ lw_all := lw_g (lw_at lw_m1 186 rfl) rfl
theorem q204 : (Jvm.Cond.code ({ cls := "PathOram", name := "ranked", desc := "(I)I" } : Jvm.MethodName) prog_1_method_13_code (5 : Nat) (Option.some Jvm.ClassFile.FieldType.int)) ∈ lw_all := lw_g (lw_at lw_m1 187 rfl) rfl
theorem q206 : (Jvm.Cond.instanceMethod ({ cls := "PathOram", name := "save", desc := "(I)I" } : Jvm.MethodName)) ∈ lw_all := lw_g (lw_at lw_m1 189 rfl) rfl
theorem q207 : (Jvm.Cond.selects "PathOram" ({ cls := "PathOram", name := "save", desc := "(I)I" } : Jvm.MethodName) ({ cls := "PathOram", name := "save", desc := "(I)I" } : Jvm.MethodName)) ∈ lw_all := lw_g (lw_at lw_m1 190 rfl) rfl
theorem q208 : (Jvm.Cond.code ({ cls := "PathOram", name := "save", desc := "(I)I" } : Jvm.MethodName) prog_1_method_14_code (3 : Nat) (Option.some Jvm.ClassFile.FieldType.int)) ∈ lw_all := lw_g (lw_at lw_m1 191 rfl) rfl
theorem q210 : (Jvm.Cond.instanceMethod ({ cls := "PathOram", name := "load", desc := "(I)I" } : Jvm.MethodName)) ∈ lw_all := lw_g (lw_at lw_m1 193 rfl) rfl
theorem q211 : (Jvm.Cond.selects "PathOram" ({ cls := "PathOram", name := "load", desc := "(I)I" } : Jvm.MethodName) ({ cls := "PathOram", name := "load", desc := "(I)I" } : Jvm.MethodName)) ∈ lw_all := lw_g (lw_at lw_m1 194 rfl) rfl
theorem q212 : (Jvm.Cond.code ({ cls := "PathOram", name := "load", desc := "(I)I" } : Jvm.MethodName) prog_1_method_15_code (6 : Nat) (Option.some Jvm.ClassFile.FieldType.int)) ∈ lw_all := lw_g (lw_at lw_m1 195 rfl) rfl
theorem q214 : (Jvm.Cond.instanceMethod ({ cls := "PathOram", name := "differing", desc := "(I)I" } : Jvm.MethodName)) ∈ lw_all := lw_g (lw_at lw_m1 197 rfl) rfl
theorem q215 : (Jvm.Cond.selects "PathOram" ({ cls := "PathOram", name := "differing", desc := "(I)I" } : Jvm.MethodName) ({ cls := "PathOram", name := "differing", desc := "(I)I" } : Jvm.MethodName)) ∈ lw_all := lw_g (lw_at lw_m1 198 rfl) rfl
theorem q216 : (Jvm.Cond.code ({ cls := "PathOram", name := "differing", desc := "(I)I" } : Jvm.MethodName) prog_1_method_16_code (4 : Nat) (Option.some Jvm.ClassFile.FieldType.int)) ∈ lw_all := lw_g (lw_at lw_m1 199 rfl) rfl
theorem q218 : (Jvm.Cond.instanceMethod ({ cls := "PathOram", name := "audit", desc := "()I" } : Jvm.MethodName)) ∈ lw_all := lw_g (lw_at lw_m1 201 rfl) rfl
theorem q219 : (Jvm.Cond.selects "PathOram" ({ cls := "PathOram", name := "audit", desc := "()I" } : Jvm.MethodName) ({ cls := "PathOram", name := "audit", desc := "()I" } : Jvm.MethodName)) ∈ lw_all := lw_g (lw_at lw_m1 202 rfl) rfl
theorem q220 : (Jvm.Cond.code ({ cls := "PathOram", name := "audit", desc := "()I" } : Jvm.MethodName) prog_1_method_17_code (5 : Nat) (Option.some Jvm.ClassFile.FieldType.int)) ∈ lw_all := lw_g (lw_at lw_m1 203 rfl) rfl
theorem q221 : (Jvm.Cond.methodLink "PathOram" (110 : Nat) ({ cls := "PathOram", name := "placesOf", desc := "(II)I" } : Jvm.MethodName)) ∈ lw_all := lw_g (lw_at lw_m1 204 rfl) rfl
theorem q222 : (Jvm.Cond.privateMethod ({ cls := "PathOram", name := "placesOf", desc := "(II)I" } : Jvm.MethodName)) ∈ lw_tbl := lw_at lw_m1 205 rfl
theorem q223 : (Jvm.Cond.instanceMethod ({ cls := "PathOram", name := "placesOf", desc := "(II)I" } : Jvm.MethodName)) ∈ lw_all := lw_g (lw_at lw_m1 206 rfl) rfl
theorem q224 : (Jvm.Cond.code ({ cls := "PathOram", name := "placesOf", desc := "(II)I" } : Jvm.MethodName) prog_1_method_34_code (7 : Nat) (Option.some Jvm.ClassFile.FieldType.int)) ∈ lw_all := lw_g (lw_at lw_m1 207 rfl) rfl
theorem q226 : (Jvm.Cond.instanceMethod ({ cls := "PathOram", name := "touched", desc := "()I" } : Jvm.MethodName)) ∈ lw_all := lw_g (lw_at lw_m1 209 rfl) rfl
theorem q227 : (Jvm.Cond.selects "PathOram" ({ cls := "PathOram", name := "touched", desc := "()I" } : Jvm.MethodName) ({ cls := "PathOram", name := "touched", desc := "()I" } : Jvm.MethodName)) ∈ lw_all := lw_g (lw_at lw_m1 210 rfl) rfl
theorem q228 : (Jvm.Cond.code ({ cls := "PathOram", name := "touched", desc := "()I" } : Jvm.MethodName) prog_1_method_18_code (1 : Nat) (Option.some Jvm.ClassFile.FieldType.int)) ∈ lw_all := lw_g (lw_at lw_m1 211 rfl) rfl
theorem in_X1 : ∀ w ∈ wsX10, w ∈ lw_all := lw_in wsX10 [101, 103, 105, 107, 109, 111, 113, 115, 117, 119, 121, 123, 125, 127, 129, 131, 133, 135, 137, 139, 141] (by decide +kernel) (by decide +kernel)
/-! PathOramModel -/
def RX2 : String := "PathOramModel"
def TX2 : u_T := fun k => match k with
  | 0 => ("PathOramModel", "block", "[I", false)
  | 1 => ("PathOramModel", "old", "[I", false)
  | 2 => ("PathOramModel", "saved", "[I", false)
  | _ => ("PathOramModel", "used", "Z", false)
def tyX2 : Nat → FieldType := fun k => match k with
  | 0 => .array .int
  | 1 => .array .int
  | 2 => .array .int
  | _ => .boolean
abbrev wsX20 : List Cond := u_ws RX2 TX2 4
theorem nmX2 : ∀ a, a < 4 → ∀ b, b < 4 → a ≠ b → (TX2 a).2.1 ≠ (TX2 b).2.1 := by decide +kernel
theorem tyX2_ok : ∀ k, k < 4 → parseFieldDescriptor (TX2 k).2.2.1 = some (tyX2 k) := by decide +kernel
abbrev cX2_init : ByteArray := prog_3_method_1_code
def yX2_init : MethodName := ⟨RX2, "<init>", "(I)V"⟩
abbrev cX2_stir : ByteArray := prog_3_method_2_code
def yX2_stir : MethodName := ⟨RX2, "stir", "(I)V"⟩
abbrev cX2_read : ByteArray := prog_3_method_5_code
def yX2_read : MethodName := ⟨RX2, "read", "(I)I"⟩
abbrev cX2_bad : ByteArray := prog_3_method_3_code
def yX2_bad : MethodName := ⟨RX2, "bad", "(I)Z"⟩
abbrev cX2_write : ByteArray := prog_3_method_6_code
def yX2_write : MethodName := ⟨RX2, "write", "(II)I"⟩
abbrev cX2_add : ByteArray := prog_3_method_7_code
def yX2_add : MethodName := ⟨RX2, "add", "(II)I"⟩
abbrev cX2_exchange : ByteArray := prog_3_method_8_code
def yX2_exchange : MethodName := ⟨RX2, "exchange", "(II)I"⟩
abbrev cX2_copy : ByteArray := prog_3_method_9_code
def yX2_copy : MethodName := ⟨RX2, "copy", "(II)I"⟩
abbrev cX2_fill : ByteArray := prog_3_method_10_code
def yX2_fill : MethodName := ⟨RX2, "fill", "(IIII)I"⟩
abbrev cX2_rotate : ByteArray := prog_3_method_11_code
def yX2_rotate : MethodName := ⟨RX2, "rotate", "(I)I"⟩
abbrev cX2_sum : ByteArray := prog_3_method_12_code
def yX2_sum : MethodName := ⟨RX2, "sum", "()I"⟩
abbrev cX2_find : ByteArray := prog_3_method_13_code
def yX2_find : MethodName := ⟨RX2, "find", "(II)I"⟩
abbrev cX2_below : ByteArray := prog_3_method_16_code
def yX2_below : MethodName := ⟨RX2, "below", "(I)I"⟩
abbrev cX2_less : ByteArray := prog_3_method_14_code
def yX2_less : MethodName := ⟨RX2, "less", "(I)I"⟩
abbrev cX2_ranked : ByteArray := prog_3_method_17_code
def yX2_ranked : MethodName := ⟨RX2, "ranked", "(I)I"⟩
abbrev cX2_same : ByteArray := prog_3_method_15_code
def yX2_same : MethodName := ⟨RX2, "same", "(I)I"⟩
abbrev cX2_save : ByteArray := prog_3_method_18_code
def yX2_save : MethodName := ⟨RX2, "save", "(I)I"⟩
abbrev cX2_badShot : ByteArray := prog_3_method_4_code
def yX2_badShot : MethodName := ⟨RX2, "badShot", "(I)Z"⟩
abbrev cX2_load : ByteArray := prog_3_method_19_code
def yX2_load : MethodName := ⟨RX2, "load", "(I)I"⟩
abbrev cX2_differing : ByteArray := prog_3_method_20_code
def yX2_differing : MethodName := ⟨RX2, "differing", "(I)I"⟩
abbrev cX2_audit : ByteArray := prog_3_method_21_code
def yX2_audit : MethodName := ⟨RX2, "audit", "()I"⟩
abbrev cX2_touched : ByteArray := prog_3_method_22_code
def yX2_touched : MethodName := ⟨RX2, "touched", "()I"⟩
theorem q19 : (Jvm.Cond.initialized "PathOramModel") ∈ lw_all := lw_g (lw_at lw_m1 2 rfl) rfl
theorem q233 : (Jvm.Cond.instantiable "PathOramModel" (4 : Nat)) ∈ lw_all := lw_g (lw_at lw_m1 216 rfl) rfl
theorem q235 : (Jvm.Cond.instanceMethod ({ cls := "PathOramModel", name := "<init>", desc := "(I)V" } : Jvm.MethodName)) ∈ lw_all := lw_g (lw_at lw_m1 218 rfl) rfl
theorem q236 : (Jvm.Cond.code ({ cls := "PathOramModel", name := "<init>", desc := "(I)V" } : Jvm.MethodName) prog_3_method_1_code (2 : Nat) (Option.none : Option Jvm.ClassFile.FieldType)) ∈ lw_all := lw_g (lw_at lw_m1 219 rfl) rfl
theorem q237 : (Jvm.Cond.methodLink "PathOramModel" (1 : Nat) ({ cls := "java/lang/Object", name := "<init>", desc := "()V" } : Jvm.MethodName)) ∈ lw_all := lw_g (lw_at lw_m1 220 rfl) rfl
theorem q238 : (Jvm.Cond.fieldLink "PathOramModel" (7 : Nat) "PathOramModel" "block" "[I") ∈ lw_all := lw_g (lw_at lw_m1 221 rfl) rfl
theorem q239 : (Jvm.Cond.fieldLink "PathOramModel" (13 : Nat) "PathOramModel" "old" "[I") ∈ lw_all := lw_g (lw_at lw_m1 222 rfl) rfl
theorem q240 : (Jvm.Cond.fieldLink "PathOramModel" (16 : Nat) "PathOramModel" "saved" "[I") ∈ lw_all := lw_g (lw_at lw_m1 223 rfl) rfl
theorem q241 : (Jvm.Cond.fieldLink "PathOramModel" (23 : Nat) "PathOramModel" "used" "Z") ∈ lw_all := lw_g (lw_at lw_m1 224 rfl) rfl
theorem q242 : (Jvm.Cond.lays "PathOramModel" "PathOramModel" "block" "[I") ∈ lw_all := lw_g (lw_at lw_m1 225 rfl) rfl
theorem q243 : (Jvm.Cond.soleField "PathOramModel" "block") ∈ lw_all := lw_g (lw_at lw_m1 226 rfl) rfl
theorem q244 : (Jvm.Cond.lays "PathOramModel" "PathOramModel" "old" "[I") ∈ lw_all := lw_g (lw_at lw_m1 227 rfl) rfl
theorem q245 : (Jvm.Cond.soleField "PathOramModel" "old") ∈ lw_all := lw_g (lw_at lw_m1 228 rfl) rfl
theorem q246 : (Jvm.Cond.lays "PathOramModel" "PathOramModel" "saved" "[I") ∈ lw_all := lw_g (lw_at lw_m1 229 rfl) rfl
theorem q247 : (Jvm.Cond.soleField "PathOramModel" "saved") ∈ lw_all := lw_g (lw_at lw_m1 230 rfl) rfl
theorem q248 : (Jvm.Cond.lays "PathOramModel" "PathOramModel" "used" "Z") ∈ lw_all := lw_g (lw_at lw_m1 231 rfl) rfl
theorem q249 : (Jvm.Cond.soleField "PathOramModel" "used") ∈ lw_all := lw_g (lw_at lw_m1 232 rfl) rfl
theorem q250 : (Jvm.Cond.superclass "PathOramModel" "java/lang/Object") ∈ lw_all := lw_g (lw_at lw_m1 233 rfl) rfl
theorem q252 : (Jvm.Cond.instanceMethod ({ cls := "PathOramModel", name := "stir", desc := "(I)V" } : Jvm.MethodName)) ∈ lw_all := lw_g (lw_at lw_m1 235 rfl) rfl
theorem q253 : (Jvm.Cond.selects "PathOramModel" ({ cls := "PathOramModel", name := "stir", desc := "(I)V" } : Jvm.MethodName) ({ cls := "PathOramModel", name := "stir", desc := "(I)V" } : Jvm.MethodName)) ∈ lw_all := lw_g (lw_at lw_m1 236 rfl) rfl
theorem q254 : (Jvm.Cond.code ({ cls := "PathOramModel", name := "stir", desc := "(I)V" } : Jvm.MethodName) prog_3_method_2_code (2 : Nat) (Option.none : Option Jvm.ClassFile.FieldType)) ∈ lw_all := lw_g (lw_at lw_m1 237 rfl) rfl
theorem q256 : (Jvm.Cond.instanceMethod ({ cls := "PathOramModel", name := "read", desc := "(I)I" } : Jvm.MethodName)) ∈ lw_all := lw_g (lw_at lw_m1 239 rfl) rfl
theorem q257 : (Jvm.Cond.selects "PathOramModel" ({ cls := "PathOramModel", name := "read", desc := "(I)I" } : Jvm.MethodName) ({ cls := "PathOramModel", name := "read", desc := "(I)I" } : Jvm.MethodName)) ∈ lw_all := lw_g (lw_at lw_m2 0 rfl) rfl
theorem q258 : (Jvm.Cond.code ({ cls := "PathOramModel", name := "read", desc := "(I)I" } : Jvm.MethodName) prog_3_method_5_code (2 : Nat) (Option.some Jvm.ClassFile.FieldType.int)) ∈ lw_all := lw_g (lw_at lw_m2 1 rfl) rfl
theorem q259 : (Jvm.Cond.methodLink "PathOramModel" (19 : Nat) ({ cls := "PathOramModel", name := "bad", desc := "(I)Z" } : Jvm.MethodName)) ∈ lw_all := lw_g (lw_at lw_m2 2 rfl) rfl
theorem q260 : (Jvm.Cond.privateMethod ({ cls := "PathOramModel", name := "bad", desc := "(I)Z" } : Jvm.MethodName)) ∈ lw_tbl := lw_at lw_m2 3 rfl
theorem q261 : (Jvm.Cond.instanceMethod ({ cls := "PathOramModel", name := "bad", desc := "(I)Z" } : Jvm.MethodName)) ∈ lw_all := lw_g (lw_at lw_m2 4 rfl) rfl
theorem q262 : (Jvm.Cond.code ({ cls := "PathOramModel", name := "bad", desc := "(I)Z" } : Jvm.MethodName) prog_3_method_3_code (2 : Nat) (Option.some Jvm.ClassFile.FieldType.boolean)) ∈ lw_all := lw_g (lw_at lw_m2 5 rfl) rfl
theorem q264 : (Jvm.Cond.instanceMethod ({ cls := "PathOramModel", name := "write", desc := "(II)I" } : Jvm.MethodName)) ∈ lw_all := lw_g (lw_at lw_m2 7 rfl) rfl
theorem q265 : (Jvm.Cond.selects "PathOramModel" ({ cls := "PathOramModel", name := "write", desc := "(II)I" } : Jvm.MethodName) ({ cls := "PathOramModel", name := "write", desc := "(II)I" } : Jvm.MethodName)) ∈ lw_all := lw_g (lw_at lw_m2 8 rfl) rfl
theorem q266 : (Jvm.Cond.code ({ cls := "PathOramModel", name := "write", desc := "(II)I" } : Jvm.MethodName) prog_3_method_6_code (3 : Nat) (Option.some Jvm.ClassFile.FieldType.int)) ∈ lw_all := lw_g (lw_at lw_m2 9 rfl) rfl
theorem q268 : (Jvm.Cond.instanceMethod ({ cls := "PathOramModel", name := "add", desc := "(II)I" } : Jvm.MethodName)) ∈ lw_all := lw_g (lw_at lw_m2 11 rfl) rfl
theorem q269 : (Jvm.Cond.selects "PathOramModel" ({ cls := "PathOramModel", name := "add", desc := "(II)I" } : Jvm.MethodName) ({ cls := "PathOramModel", name := "add", desc := "(II)I" } : Jvm.MethodName)) ∈ lw_all := lw_g (lw_at lw_m2 12 rfl) rfl
theorem q270 : (Jvm.Cond.code ({ cls := "PathOramModel", name := "add", desc := "(II)I" } : Jvm.MethodName) prog_3_method_7_code (3 : Nat) (Option.some Jvm.ClassFile.FieldType.int)) ∈ lw_all := lw_g (lw_at lw_m2 13 rfl) rfl
theorem q272 : (Jvm.Cond.instanceMethod ({ cls := "PathOramModel", name := "exchange", desc := "(II)I" } : Jvm.MethodName)) ∈ lw_all := lw_g (lw_at lw_m2 15 rfl) rfl
theorem q273 : (Jvm.Cond.selects "PathOramModel" ({ cls := "PathOramModel", name := "exchange", desc := "(II)I" } : Jvm.MethodName) ({ cls := "PathOramModel", name := "exchange", desc := "(II)I" } : Jvm.MethodName)) ∈ lw_all := lw_g (lw_at lw_m2 16 rfl) rfl
theorem q274 : (Jvm.Cond.code ({ cls := "PathOramModel", name := "exchange", desc := "(II)I" } : Jvm.MethodName) prog_3_method_8_code (4 : Nat) (Option.some Jvm.ClassFile.FieldType.int)) ∈ lw_all := lw_g (lw_at lw_m2 17 rfl) rfl
theorem q276 : (Jvm.Cond.instanceMethod ({ cls := "PathOramModel", name := "copy", desc := "(II)I" } : Jvm.MethodName)) ∈ lw_all := lw_g (lw_at lw_m2 19 rfl) rfl
theorem q277 : (Jvm.Cond.selects "PathOramModel" ({ cls := "PathOramModel", name := "copy", desc := "(II)I" } : Jvm.MethodName) ({ cls := "PathOramModel", name := "copy", desc := "(II)I" } : Jvm.MethodName)) ∈ lw_all := lw_g (lw_at lw_m2 20 rfl) rfl
theorem q278 : (Jvm.Cond.code ({ cls := "PathOramModel", name := "copy", desc := "(II)I" } : Jvm.MethodName) prog_3_method_9_code (3 : Nat) (Option.some Jvm.ClassFile.FieldType.int)) ∈ lw_all := lw_g (lw_at lw_m2 21 rfl) rfl
theorem q280 : (Jvm.Cond.instanceMethod ({ cls := "PathOramModel", name := "fill", desc := "(IIII)I" } : Jvm.MethodName)) ∈ lw_all := lw_g (lw_at lw_m2 23 rfl) rfl
theorem q281 : (Jvm.Cond.selects "PathOramModel" ({ cls := "PathOramModel", name := "fill", desc := "(IIII)I" } : Jvm.MethodName) ({ cls := "PathOramModel", name := "fill", desc := "(IIII)I" } : Jvm.MethodName)) ∈ lw_all := lw_g (lw_at lw_m2 24 rfl) rfl
theorem q282 : (Jvm.Cond.code ({ cls := "PathOramModel", name := "fill", desc := "(IIII)I" } : Jvm.MethodName) prog_3_method_10_code (6 : Nat) (Option.some Jvm.ClassFile.FieldType.int)) ∈ lw_all := lw_g (lw_at lw_m2 25 rfl) rfl
theorem q284 : (Jvm.Cond.instanceMethod ({ cls := "PathOramModel", name := "rotate", desc := "(I)I" } : Jvm.MethodName)) ∈ lw_all := lw_g (lw_at lw_m2 27 rfl) rfl
theorem q285 : (Jvm.Cond.selects "PathOramModel" ({ cls := "PathOramModel", name := "rotate", desc := "(I)I" } : Jvm.MethodName) ({ cls := "PathOramModel", name := "rotate", desc := "(I)I" } : Jvm.MethodName)) ∈ lw_all := lw_g (lw_at lw_m2 28 rfl) rfl
theorem q286 : (Jvm.Cond.code ({ cls := "PathOramModel", name := "rotate", desc := "(I)I" } : Jvm.MethodName) prog_3_method_11_code (3 : Nat) (Option.some Jvm.ClassFile.FieldType.int)) ∈ lw_all := lw_g (lw_at lw_m2 29 rfl) rfl
theorem q288 : (Jvm.Cond.instanceMethod ({ cls := "PathOramModel", name := "sum", desc := "()I" } : Jvm.MethodName)) ∈ lw_all := lw_g (lw_at lw_m2 31 rfl) rfl
theorem q289 : (Jvm.Cond.selects "PathOramModel" ({ cls := "PathOramModel", name := "sum", desc := "()I" } : Jvm.MethodName) ({ cls := "PathOramModel", name := "sum", desc := "()I" } : Jvm.MethodName)) ∈ lw_all := lw_g (lw_at lw_m2 32 rfl) rfl
theorem q290 : (Jvm.Cond.code ({ cls := "PathOramModel", name := "sum", desc := "()I" } : Jvm.MethodName) prog_3_method_12_code (3 : Nat) (Option.some Jvm.ClassFile.FieldType.int)) ∈ lw_all := lw_g (lw_at lw_m2 33 rfl) rfl
theorem q292 : (Jvm.Cond.instanceMethod ({ cls := "PathOramModel", name := "find", desc := "(II)I" } : Jvm.MethodName)) ∈ lw_all := lw_g (lw_at lw_m2 35 rfl) rfl
theorem q293 : (Jvm.Cond.selects "PathOramModel" ({ cls := "PathOramModel", name := "find", desc := "(II)I" } : Jvm.MethodName) ({ cls := "PathOramModel", name := "find", desc := "(II)I" } : Jvm.MethodName)) ∈ lw_all := lw_g (lw_at lw_m2 36 rfl) rfl
theorem q294 : (Jvm.Cond.code ({ cls := "PathOramModel", name := "find", desc := "(II)I" } : Jvm.MethodName) prog_3_method_13_code (4 : Nat) (Option.some Jvm.ClassFile.FieldType.int)) ∈ lw_all := lw_g (lw_at lw_m2 37 rfl) rfl
theorem q296 : (Jvm.Cond.instanceMethod ({ cls := "PathOramModel", name := "below", desc := "(I)I" } : Jvm.MethodName)) ∈ lw_all := lw_g (lw_at lw_m2 39 rfl) rfl
theorem q297 : (Jvm.Cond.selects "PathOramModel" ({ cls := "PathOramModel", name := "below", desc := "(I)I" } : Jvm.MethodName) ({ cls := "PathOramModel", name := "below", desc := "(I)I" } : Jvm.MethodName)) ∈ lw_all := lw_g (lw_at lw_m2 40 rfl) rfl
theorem q298 : (Jvm.Cond.code ({ cls := "PathOramModel", name := "below", desc := "(I)I" } : Jvm.MethodName) prog_3_method_16_code (2 : Nat) (Option.some Jvm.ClassFile.FieldType.int)) ∈ lw_all := lw_g (lw_at lw_m2 41 rfl) rfl
theorem q299 : (Jvm.Cond.methodLink "PathOramModel" (27 : Nat) ({ cls := "PathOramModel", name := "less", desc := "(I)I" } : Jvm.MethodName)) ∈ lw_all := lw_g (lw_at lw_m2 42 rfl) rfl
theorem q300 : (Jvm.Cond.privateMethod ({ cls := "PathOramModel", name := "less", desc := "(I)I" } : Jvm.MethodName)) ∈ lw_tbl := lw_at lw_m2 43 rfl
theorem q301 : (Jvm.Cond.instanceMethod ({ cls := "PathOramModel", name := "less", desc := "(I)I" } : Jvm.MethodName)) ∈ lw_all := lw_g (lw_at lw_m2 44 rfl) rfl
theorem q302 : (Jvm.Cond.code ({ cls := "PathOramModel", name := "less", desc := "(I)I" } : Jvm.MethodName) prog_3_method_14_code (4 : Nat) (Option.some Jvm.ClassFile.FieldType.int)) ∈ lw_all := lw_g (lw_at lw_m2 45 rfl) rfl
theorem q304 : (Jvm.Cond.instanceMethod ({ cls := "PathOramModel", name := "ranked", desc := "(I)I" } : Jvm.MethodName)) ∈ lw_all := lw_g (lw_at lw_m2 47 rfl) rfl
theorem q305 : (Jvm.Cond.selects "PathOramModel" ({ cls := "PathOramModel", name := "ranked", desc := "(I)I" } : Jvm.MethodName) ({ cls := "PathOramModel", name := "ranked", desc := "(I)I" } : Jvm.MethodName)) ∈ lw_all := lw_g (lw_at lw_m2 48 rfl) rfl
theorem q306 : (Jvm.Cond.code ({ cls := "PathOramModel", name := "ranked", desc := "(I)I" } : Jvm.MethodName) prog_3_method_17_code (5 : Nat) (Option.some Jvm.ClassFile.FieldType.int)) ∈ lw_all := lw_g (lw_at lw_m2 49 rfl) rfl
theorem q307 : (Jvm.Cond.methodLink "PathOramModel" (31 : Nat) ({ cls := "PathOramModel", name := "same", desc := "(I)I" } : Jvm.MethodName)) ∈ lw_all := lw_g (lw_at lw_m2 50 rfl) rfl
theorem q308 : (Jvm.Cond.privateMethod ({ cls := "PathOramModel", name := "same", desc := "(I)I" } : Jvm.MethodName)) ∈ lw_tbl := lw_at lw_m2 51 rfl
theorem q309 : (Jvm.Cond.instanceMethod ({ cls := "PathOramModel", name := "same", desc := "(I)I" } : Jvm.MethodName)) ∈ lw_all := lw_g (lw_at lw_m2 52 rfl) rfl
theorem q310 : (Jvm.Cond.code ({ cls := "PathOramModel", name := "same", desc := "(I)I" } : Jvm.MethodName) prog_3_method_15_code (4 : Nat) (Option.some Jvm.ClassFile.FieldType.int)) ∈ lw_all := lw_g (lw_at lw_m2 53 rfl) rfl
theorem q312 : (Jvm.Cond.instanceMethod ({ cls := "PathOramModel", name := "save", desc := "(I)I" } : Jvm.MethodName)) ∈ lw_all := lw_g (lw_at lw_m2 55 rfl) rfl
theorem q313 : (Jvm.Cond.selects "PathOramModel" ({ cls := "PathOramModel", name := "save", desc := "(I)I" } : Jvm.MethodName) ({ cls := "PathOramModel", name := "save", desc := "(I)I" } : Jvm.MethodName)) ∈ lw_all := lw_g (lw_at lw_m2 56 rfl) rfl
theorem q314 : (Jvm.Cond.code ({ cls := "PathOramModel", name := "save", desc := "(I)I" } : Jvm.MethodName) prog_3_method_18_code (3 : Nat) (Option.some Jvm.ClassFile.FieldType.int)) ∈ lw_all := lw_g (lw_at lw_m2 57 rfl) rfl
theorem q315 : (Jvm.Cond.methodLink "PathOramModel" (34 : Nat) ({ cls := "PathOramModel", name := "badShot", desc := "(I)Z" } : Jvm.MethodName)) ∈ lw_all := lw_g (lw_at lw_m2 58 rfl) rfl
theorem q316 : (Jvm.Cond.privateMethod ({ cls := "PathOramModel", name := "badShot", desc := "(I)Z" } : Jvm.MethodName)) ∈ lw_tbl := lw_at lw_m2 59 rfl
theorem q317 : (Jvm.Cond.instanceMethod ({ cls := "PathOramModel", name := "badShot", desc := "(I)Z" } : Jvm.MethodName)) ∈ lw_all := lw_g (lw_at lw_m2 60 rfl) rfl
theorem q318 : (Jvm.Cond.code ({ cls := "PathOramModel", name := "badShot", desc := "(I)Z" } : Jvm.MethodName) prog_3_method_4_code (2 : Nat) (Option.some Jvm.ClassFile.FieldType.boolean)) ∈ lw_all := lw_g (lw_at lw_m2 61 rfl) rfl
theorem q320 : (Jvm.Cond.instanceMethod ({ cls := "PathOramModel", name := "load", desc := "(I)I" } : Jvm.MethodName)) ∈ lw_all := lw_g (lw_at lw_m2 63 rfl) rfl
theorem q321 : (Jvm.Cond.selects "PathOramModel" ({ cls := "PathOramModel", name := "load", desc := "(I)I" } : Jvm.MethodName) ({ cls := "PathOramModel", name := "load", desc := "(I)I" } : Jvm.MethodName)) ∈ lw_all := lw_g (lw_at lw_m2 64 rfl) rfl
theorem q322 : (Jvm.Cond.code ({ cls := "PathOramModel", name := "load", desc := "(I)I" } : Jvm.MethodName) prog_3_method_19_code (4 : Nat) (Option.some Jvm.ClassFile.FieldType.int)) ∈ lw_all := lw_g (lw_at lw_m2 65 rfl) rfl
theorem q323 : (Jvm.Cond.methodLink "PathOramModel" (37 : Nat) ({ cls := "PathOramModel", name := "differing", desc := "(I)I" } : Jvm.MethodName)) ∈ lw_all := lw_g (lw_at lw_m2 66 rfl) rfl
theorem q324 : (Jvm.Cond.instanceMethod ({ cls := "PathOramModel", name := "differing", desc := "(I)I" } : Jvm.MethodName)) ∈ lw_all := lw_g (lw_at lw_m2 67 rfl) rfl
theorem q325 : (Jvm.Cond.selects "PathOramModel" ({ cls := "PathOramModel", name := "differing", desc := "(I)I" } : Jvm.MethodName) ({ cls := "PathOramModel", name := "differing", desc := "(I)I" } : Jvm.MethodName)) ∈ lw_all := lw_g (lw_at lw_m2 68 rfl) rfl
theorem q326 : (Jvm.Cond.code ({ cls := "PathOramModel", name := "differing", desc := "(I)I" } : Jvm.MethodName) prog_3_method_20_code (4 : Nat) (Option.some Jvm.ClassFile.FieldType.int)) ∈ lw_all := lw_g (lw_at lw_m2 69 rfl) rfl
theorem q329 : (Jvm.Cond.instanceMethod ({ cls := "PathOramModel", name := "audit", desc := "()I" } : Jvm.MethodName)) ∈ lw_all := lw_g (lw_at lw_m2 72 rfl) rfl
theorem q330 : (Jvm.Cond.selects "PathOramModel" ({ cls := "PathOramModel", name := "audit", desc := "()I" } : Jvm.MethodName) ({ cls := "PathOramModel", name := "audit", desc := "()I" } : Jvm.MethodName)) ∈ lw_all := lw_g (lw_at lw_m2 73 rfl) rfl
theorem q331 : (Jvm.Cond.code ({ cls := "PathOramModel", name := "audit", desc := "()I" } : Jvm.MethodName) prog_3_method_21_code (1 : Nat) (Option.some Jvm.ClassFile.FieldType.int)) ∈ lw_all := lw_g (lw_at lw_m2 74 rfl) rfl
theorem q333 : (Jvm.Cond.instanceMethod ({ cls := "PathOramModel", name := "touched", desc := "()I" } : Jvm.MethodName)) ∈ lw_all := lw_g (lw_at lw_m2 76 rfl) rfl
theorem q334 : (Jvm.Cond.selects "PathOramModel" ({ cls := "PathOramModel", name := "touched", desc := "()I" } : Jvm.MethodName) ({ cls := "PathOramModel", name := "touched", desc := "()I" } : Jvm.MethodName)) ∈ lw_all := lw_g (lw_at lw_m2 77 rfl) rfl
theorem q335 : (Jvm.Cond.code ({ cls := "PathOramModel", name := "touched", desc := "()I" } : Jvm.MethodName) prog_3_method_22_code (1 : Nat) (Option.some Jvm.ClassFile.FieldType.int)) ∈ lw_all := lw_g (lw_at lw_m2 78 rfl) rfl
theorem in_X2 : ∀ w ∈ wsX20, w ∈ lw_all := lw_in wsX20 [242, 244, 246, 248] (by decide +kernel) (by decide +kernel)
/-! the law's own entry -/
abbrev cL_law : ByteArray := code
end
section
set_option maxRecDepth 100000
theorem dJ0_init_0 : decode cJ0_init 0 = .ok (.return_, 1) := by decide +kernel
theorem dX0_cell_0 : decode cX0_cell 0 = .ok (.iload_n 1, 1) := by decide +kernel
theorem dX0_cell_1 : decode cX0_cell 1 = .ok (.aload_n 0, 1) := by decide +kernel
theorem dX0_cell_2 : decode cX0_cell 2 = .ok (.arraylength, 1) := by decide +kernel
theorem dX0_cell_3 : decode cX0_cell 3 = .ok (.if_icmp .ge 9, 3) := by decide +kernel
theorem dX0_cell_6 : decode cX0_cell 6 = .ok (.aload_n 0, 1) := by decide +kernel
theorem dX0_cell_7 : decode cX0_cell 7 = .ok (.iload_n 1, 1) := by decide +kernel
theorem dX0_cell_8 : decode cX0_cell 8 = .ok (.iaload, 1) := by decide +kernel
theorem dX0_cell_9 : decode cX0_cell 9 = .ok (.goto 4, 3) := by decide +kernel
theorem dX0_cell_12 : decode cX0_cell 12 = .ok (.iconst 0, 1) := by decide +kernel
theorem dX0_cell_13 : decode cX0_cell 13 = .ok (.ireturn, 1) := by decide +kernel
theorem dX1_init_0 : decode cX1_init 0 = .ok (.aload_n 0, 1) := by decide +kernel
theorem dX1_init_1 : decode cX1_init 1 = .ok (.invokespecial 1, 3) := by decide +kernel
theorem dX1_init_4 : decode cX1_init 4 = .ok (.aload_n 0, 1) := by decide +kernel
theorem dX1_init_5 : decode cX1_init 5 = .ok (.bipush 64, 2) := by decide +kernel
theorem dX1_init_7 : decode cX1_init 7 = .ok (.newarray .int, 2) := by decide +kernel
theorem dX1_init_9 : decode cX1_init 9 = .ok (.putfield 7, 3) := by decide +kernel
theorem dX1_init_12 : decode cX1_init 12 = .ok (.aload_n 0, 1) := by decide +kernel
theorem dX1_init_13 : decode cX1_init 13 = .ok (.bipush 64, 2) := by decide +kernel
theorem dX1_init_15 : decode cX1_init 15 = .ok (.newarray .int, 2) := by decide +kernel
theorem dX1_init_17 : decode cX1_init 17 = .ok (.putfield 13, 3) := by decide +kernel
theorem dX1_init_20 : decode cX1_init 20 = .ok (.aload_n 0, 1) := by decide +kernel
theorem dX1_init_21 : decode cX1_init 21 = .ok (.bipush 64, 2) := by decide +kernel
theorem dX1_init_23 : decode cX1_init 23 = .ok (.newarray .int, 2) := by decide +kernel
theorem dX1_init_25 : decode cX1_init 25 = .ok (.putfield 16, 3) := by decide +kernel
theorem dX1_init_28 : decode cX1_init 28 = .ok (.aload_n 0, 1) := by decide +kernel
theorem dX1_init_29 : decode cX1_init 29 = .ok (.bipush 16, 2) := by decide +kernel
theorem dX1_init_31 : decode cX1_init 31 = .ok (.newarray .int, 2) := by decide +kernel
theorem dX1_init_33 : decode cX1_init 33 = .ok (.putfield 19, 3) := by decide +kernel
theorem dX1_init_36 : decode cX1_init 36 = .ok (.aload_n 0, 1) := by decide +kernel
theorem dX1_init_37 : decode cX1_init 37 = .ok (.bipush 16, 2) := by decide +kernel
theorem dX1_init_39 : decode cX1_init 39 = .ok (.newarray .int, 2) := by decide +kernel
theorem dX1_init_41 : decode cX1_init 41 = .ok (.putfield 22, 3) := by decide +kernel
theorem dX1_init_44 : decode cX1_init 44 = .ok (.aload_n 0, 1) := by decide +kernel
theorem dX1_init_45 : decode cX1_init 45 = .ok (.bipush 16, 2) := by decide +kernel
theorem dX1_init_47 : decode cX1_init 47 = .ok (.newarray .int, 2) := by decide +kernel
theorem dX1_init_49 : decode cX1_init 49 = .ok (.putfield 25, 3) := by decide +kernel
theorem dX1_init_52 : decode cX1_init 52 = .ok (.aload_n 0, 1) := by decide +kernel
theorem dX1_init_53 : decode cX1_init 53 = .ok (.bipush 16, 2) := by decide +kernel
theorem dX1_init_55 : decode cX1_init 55 = .ok (.newarray .int, 2) := by decide +kernel
theorem dX1_init_57 : decode cX1_init 57 = .ok (.putfield 28, 3) := by decide +kernel
theorem dX1_init_60 : decode cX1_init 60 = .ok (.aload_n 0, 1) := by decide +kernel
theorem dX1_init_61 : decode cX1_init 61 = .ok (.bipush 16, 2) := by decide +kernel
theorem dX1_init_63 : decode cX1_init 63 = .ok (.newarray .int, 2) := by decide +kernel
theorem dX1_init_65 : decode cX1_init 65 = .ok (.putfield 31, 3) := by decide +kernel
theorem dX1_init_68 : decode cX1_init 68 = .ok (.aload_n 0, 1) := by decide +kernel
theorem dX1_init_69 : decode cX1_init 69 = .ok (.bipush 16, 2) := by decide +kernel
theorem dX1_init_71 : decode cX1_init 71 = .ok (.newarray .int, 2) := by decide +kernel
theorem dX1_init_73 : decode cX1_init 73 = .ok (.putfield 34, 3) := by decide +kernel
theorem dX1_init_76 : decode cX1_init 76 = .ok (.aload_n 0, 1) := by decide +kernel
theorem dX1_init_77 : decode cX1_init 77 = .ok (.bipush 16, 2) := by decide +kernel
theorem dX1_init_79 : decode cX1_init 79 = .ok (.newarray .int, 2) := by decide +kernel
theorem dX1_init_81 : decode cX1_init 81 = .ok (.putfield 37, 3) := by decide +kernel
theorem dX1_init_84 : decode cX1_init 84 = .ok (.aload_n 0, 1) := by decide +kernel
theorem dX1_init_85 : decode cX1_init 85 = .ok (.iconst 4, 1) := by decide +kernel
theorem dX1_init_86 : decode cX1_init 86 = .ok (.newarray .int, 2) := by decide +kernel
theorem dX1_init_88 : decode cX1_init 88 = .ok (.putfield 40, 3) := by decide +kernel
theorem dX1_init_91 : decode cX1_init 91 = .ok (.aload_n 0, 1) := by decide +kernel
theorem dX1_init_92 : decode cX1_init 92 = .ok (.iconst 4, 1) := by decide +kernel
theorem dX1_init_93 : decode cX1_init 93 = .ok (.newarray .int, 2) := by decide +kernel
theorem dX1_init_95 : decode cX1_init 95 = .ok (.putfield 43, 3) := by decide +kernel
theorem dX1_init_98 : decode cX1_init 98 = .ok (.aload_n 0, 1) := by decide +kernel
theorem dX1_init_99 : decode cX1_init 99 = .ok (.iconst 4, 1) := by decide +kernel
theorem dX1_init_100 : decode cX1_init 100 = .ok (.newarray .int, 2) := by decide +kernel
theorem dX1_init_102 : decode cX1_init 102 = .ok (.putfield 46, 3) := by decide +kernel
theorem dX1_init_105 : decode cX1_init 105 = .ok (.aload_n 0, 1) := by decide +kernel
theorem dX1_init_106 : decode cX1_init 106 = .ok (.iconst 4, 1) := by decide +kernel
theorem dX1_init_107 : decode cX1_init 107 = .ok (.newarray .int, 2) := by decide +kernel
theorem dX1_init_109 : decode cX1_init 109 = .ok (.putfield 49, 3) := by decide +kernel
theorem dX1_init_112 : decode cX1_init 112 = .ok (.aload_n 0, 1) := by decide +kernel
theorem dX1_init_113 : decode cX1_init 113 = .ok (.bipush 32, 2) := by decide +kernel
theorem dX1_init_115 : decode cX1_init 115 = .ok (.newarray .int, 2) := by decide +kernel
theorem dX1_init_117 : decode cX1_init 117 = .ok (.putfield 52, 3) := by decide +kernel
theorem dX1_init_120 : decode cX1_init 120 = .ok (.aload_n 0, 1) := by decide +kernel
theorem dX1_init_121 : decode cX1_init 121 = .ok (.bipush 16, 2) := by decide +kernel
theorem dX1_init_123 : decode cX1_init 123 = .ok (.newarray .int, 2) := by decide +kernel
theorem dX1_init_125 : decode cX1_init 125 = .ok (.putfield 55, 3) := by decide +kernel
theorem dX1_init_128 : decode cX1_init 128 = .ok (.aload_n 0, 1) := by decide +kernel
theorem dX1_init_129 : decode cX1_init 129 = .ok (.iload_n 1, 1) := by decide +kernel
theorem dX1_init_130 : decode cX1_init 130 = .ok (.invokevirtual 58, 3) := by decide +kernel
theorem dX1_init_133 : decode cX1_init 133 = .ok (.aload_n 0, 1) := by decide +kernel
theorem dX1_init_134 : decode cX1_init 134 = .ok (.aload_n 0, 1) := by decide +kernel
theorem dX1_init_135 : decode cX1_init 135 = .ok (.invokevirtual 62, 3) := by decide +kernel
theorem dX1_init_138 : decode cX1_init 138 = .ok (.putfield 66, 3) := by decide +kernel
theorem dX1_init_141 : decode cX1_init 141 = .ok (.iconst 0, 1) := by decide +kernel
theorem dX1_init_142 : decode cX1_init 142 = .ok (.istore_n 2, 1) := by decide +kernel
theorem dX1_init_143 : decode cX1_init 143 = .ok (.iload_n 2, 1) := by decide +kernel
theorem dX1_init_144 : decode cX1_init 144 = .ok (.bipush 64, 2) := by decide +kernel
theorem dX1_init_146 : decode cX1_init 146 = .ok (.if_icmp .ge 16, 3) := by decide +kernel
theorem dX1_init_149 : decode cX1_init 149 = .ok (.aload_n 0, 1) := by decide +kernel
theorem dX1_init_150 : decode cX1_init 150 = .ok (.getfield 7, 3) := by decide +kernel
theorem dX1_init_153 : decode cX1_init 153 = .ok (.iload_n 2, 1) := by decide +kernel
theorem dX1_init_154 : decode cX1_init 154 = .ok (.iconst (-1), 1) := by decide +kernel
theorem dX1_init_155 : decode cX1_init 155 = .ok (.iastore, 1) := by decide +kernel
theorem dX1_init_156 : decode cX1_init 156 = .ok (.iinc 2 1, 3) := by decide +kernel
theorem dX1_init_159 : decode cX1_init 159 = .ok (.goto (-16), 3) := by decide +kernel
theorem dX1_init_162 : decode cX1_init 162 = .ok (.iconst 0, 1) := by decide +kernel
theorem dX1_init_163 : decode cX1_init 163 = .ok (.istore_n 2, 1) := by decide +kernel
theorem dX1_init_164 : decode cX1_init 164 = .ok (.iload_n 2, 1) := by decide +kernel
theorem dX1_init_165 : decode cX1_init 165 = .ok (.bipush 16, 2) := by decide +kernel
theorem dX1_init_167 : decode cX1_init 167 = .ok (.if_icmp .ge 16, 3) := by decide +kernel
theorem dX1_init_170 : decode cX1_init 170 = .ok (.aload_n 0, 1) := by decide +kernel
theorem dX1_init_171 : decode cX1_init 171 = .ok (.getfield 31, 3) := by decide +kernel
theorem dX1_init_174 : decode cX1_init 174 = .ok (.iload_n 2, 1) := by decide +kernel
theorem dX1_init_175 : decode cX1_init 175 = .ok (.iconst (-1), 1) := by decide +kernel
theorem dX1_init_176 : decode cX1_init 176 = .ok (.iastore, 1) := by decide +kernel
theorem dX1_init_177 : decode cX1_init 177 = .ok (.iinc 2 1, 3) := by decide +kernel
theorem dX1_init_180 : decode cX1_init 180 = .ok (.goto (-16), 3) := by decide +kernel
theorem dX1_init_183 : decode cX1_init 183 = .ok (.iconst 0, 1) := by decide +kernel
theorem dX1_init_184 : decode cX1_init 184 = .ok (.istore_n 2, 1) := by decide +kernel
theorem dX1_init_185 : decode cX1_init 185 = .ok (.iload_n 2, 1) := by decide +kernel
theorem dX1_init_186 : decode cX1_init 186 = .ok (.bipush 16, 2) := by decide +kernel
theorem dX1_init_188 : decode cX1_init 188 = .ok (.if_icmp .ge 55, 3) := by decide +kernel
theorem dX1_init_191 : decode cX1_init 191 = .ok (.aload_n 0, 1) := by decide +kernel
theorem dX1_init_192 : decode cX1_init 192 = .ok (.invokevirtual 62, 3) := by decide +kernel
theorem dX1_init_195 : decode cX1_init 195 = .ok (.bipush 7, 2) := by decide +kernel
theorem dX1_init_197 : decode cX1_init 197 = .ok (.iand, 1) := by decide +kernel
theorem dX1_init_198 : decode cX1_init 198 = .ok (.istore_n 3, 1) := by decide +kernel
theorem dX1_init_199 : decode cX1_init 199 = .ok (.aload_n 0, 1) := by decide +kernel
theorem dX1_init_200 : decode cX1_init 200 = .ok (.getfield 22, 3) := by decide +kernel
theorem dX1_init_203 : decode cX1_init 203 = .ok (.iload_n 2, 1) := by decide +kernel
theorem dX1_init_204 : decode cX1_init 204 = .ok (.iload_n 2, 1) := by decide +kernel
theorem dX1_init_205 : decode cX1_init 205 = .ok (.iastore, 1) := by decide +kernel
theorem dX1_init_206 : decode cX1_init 206 = .ok (.aload_n 0, 1) := by decide +kernel
theorem dX1_init_207 : decode cX1_init 207 = .ok (.getfield 28, 3) := by decide +kernel
theorem dX1_init_210 : decode cX1_init 210 = .ok (.iload_n 2, 1) := by decide +kernel
theorem dX1_init_211 : decode cX1_init 211 = .ok (.iload_n 3, 1) := by decide +kernel
theorem dX1_init_212 : decode cX1_init 212 = .ok (.iastore, 1) := by decide +kernel
theorem dX1_init_213 : decode cX1_init 213 = .ok (.aload_n 0, 1) := by decide +kernel
theorem dX1_init_214 : decode cX1_init 214 = .ok (.getfield 55, 3) := by decide +kernel
theorem dX1_init_217 : decode cX1_init 217 = .ok (.iload_n 2, 1) := by decide +kernel
theorem dX1_init_218 : decode cX1_init 218 = .ok (.iconst 2, 1) := by decide +kernel
theorem dX1_init_219 : decode cX1_init 219 = .ok (.ishr, 1) := by decide +kernel
theorem dX1_init_220 : decode cX1_init 220 = .ok (.aload_n 0, 1) := by decide +kernel
theorem dX1_init_221 : decode cX1_init 221 = .ok (.getfield 55, 3) := by decide +kernel
theorem dX1_init_224 : decode cX1_init 224 = .ok (.iload_n 2, 1) := by decide +kernel
theorem dX1_init_225 : decode cX1_init 225 = .ok (.iconst 2, 1) := by decide +kernel
theorem dX1_init_226 : decode cX1_init 226 = .ok (.ishr, 1) := by decide +kernel
theorem dX1_init_227 : decode cX1_init 227 = .ok (.iaload, 1) := by decide +kernel
theorem dX1_init_228 : decode cX1_init 228 = .ok (.iload_n 3, 1) := by decide +kernel
theorem dX1_init_229 : decode cX1_init 229 = .ok (.iconst 3, 1) := by decide +kernel
theorem dX1_init_230 : decode cX1_init 230 = .ok (.iload_n 2, 1) := by decide +kernel
theorem dX1_init_231 : decode cX1_init 231 = .ok (.iconst 3, 1) := by decide +kernel
theorem dX1_init_232 : decode cX1_init 232 = .ok (.iand, 1) := by decide +kernel
theorem dX1_init_233 : decode cX1_init 233 = .ok (.imul, 1) := by decide +kernel
theorem dX1_init_234 : decode cX1_init 234 = .ok (.ishl, 1) := by decide +kernel
theorem dX1_init_235 : decode cX1_init 235 = .ok (.ior, 1) := by decide +kernel
theorem dX1_init_236 : decode cX1_init 236 = .ok (.iastore, 1) := by decide +kernel
theorem dX1_init_237 : decode cX1_init 237 = .ok (.iinc 2 1, 3) := by decide +kernel
theorem dX1_init_240 : decode cX1_init 240 = .ok (.goto (-55), 3) := by decide +kernel
theorem dX1_init_243 : decode cX1_init 243 = .ok (.aload_n 0, 1) := by decide +kernel
theorem dX1_init_244 : decode cX1_init 244 = .ok (.bipush 16, 2) := by decide +kernel
theorem dX1_init_246 : decode cX1_init 246 = .ok (.putfield 70, 3) := by decide +kernel
theorem dX1_init_249 : decode cX1_init 249 = .ok (.iconst 0, 1) := by decide +kernel
theorem dX1_init_250 : decode cX1_init 250 = .ok (.istore_n 2, 1) := by decide +kernel
theorem dX1_init_251 : decode cX1_init 251 = .ok (.iload_n 2, 1) := by decide +kernel
theorem dX1_init_252 : decode cX1_init 252 = .ok (.iconst 4, 1) := by decide +kernel
theorem dX1_init_253 : decode cX1_init 253 = .ok (.if_icmp .ge 52, 3) := by decide +kernel
theorem dX1_init_256 : decode cX1_init 256 = .ok (.aload_n 0, 1) := by decide +kernel
theorem dX1_init_257 : decode cX1_init 257 = .ok (.getfield 49, 3) := by decide +kernel
theorem dX1_init_260 : decode cX1_init 260 = .ok (.iload_n 2, 1) := by decide +kernel
theorem dX1_init_261 : decode cX1_init 261 = .ok (.aload_n 0, 1) := by decide +kernel
theorem dX1_init_262 : decode cX1_init 262 = .ok (.invokevirtual 62, 3) := by decide +kernel
theorem dX1_init_265 : decode cX1_init 265 = .ok (.iconst 3, 1) := by decide +kernel
theorem dX1_init_266 : decode cX1_init 266 = .ok (.iand, 1) := by decide +kernel
theorem dX1_init_267 : decode cX1_init 267 = .ok (.iastore, 1) := by decide +kernel
theorem dX1_init_268 : decode cX1_init 268 = .ok (.aload_n 0, 1) := by decide +kernel
theorem dX1_init_269 : decode cX1_init 269 = .ok (.getfield 40, 3) := by decide +kernel
theorem dX1_init_272 : decode cX1_init 272 = .ok (.iload_n 2, 1) := by decide +kernel
theorem dX1_init_273 : decode cX1_init 273 = .ok (.iload_n 2, 1) := by decide +kernel
theorem dX1_init_274 : decode cX1_init 274 = .ok (.iastore, 1) := by decide +kernel
theorem dX1_init_275 : decode cX1_init 275 = .ok (.aload_n 0, 1) := by decide +kernel
theorem dX1_init_276 : decode cX1_init 276 = .ok (.getfield 43, 3) := by decide +kernel
theorem dX1_init_279 : decode cX1_init 279 = .ok (.iload_n 2, 1) := by decide +kernel
theorem dX1_init_280 : decode cX1_init 280 = .ok (.aload_n 0, 1) := by decide +kernel
theorem dX1_init_281 : decode cX1_init 281 = .ok (.getfield 55, 3) := by decide +kernel
theorem dX1_init_284 : decode cX1_init 284 = .ok (.iload_n 2, 1) := by decide +kernel
theorem dX1_init_285 : decode cX1_init 285 = .ok (.iaload, 1) := by decide +kernel
theorem dX1_init_286 : decode cX1_init 286 = .ok (.iastore, 1) := by decide +kernel
theorem dX1_init_287 : decode cX1_init 287 = .ok (.aload_n 0, 1) := by decide +kernel
theorem dX1_init_288 : decode cX1_init 288 = .ok (.getfield 46, 3) := by decide +kernel
theorem dX1_init_291 : decode cX1_init 291 = .ok (.iload_n 2, 1) := by decide +kernel
theorem dX1_init_292 : decode cX1_init 292 = .ok (.aload_n 0, 1) := by decide +kernel
theorem dX1_init_293 : decode cX1_init 293 = .ok (.getfield 49, 3) := by decide +kernel
theorem dX1_init_296 : decode cX1_init 296 = .ok (.iload_n 2, 1) := by decide +kernel
theorem dX1_init_297 : decode cX1_init 297 = .ok (.iaload, 1) := by decide +kernel
theorem dX1_init_298 : decode cX1_init 298 = .ok (.iastore, 1) := by decide +kernel
theorem dX1_init_299 : decode cX1_init 299 = .ok (.iinc 2 1, 3) := by decide +kernel
theorem dX1_init_302 : decode cX1_init 302 = .ok (.goto (-51), 3) := by decide +kernel
theorem dX1_init_305 : decode cX1_init 305 = .ok (.aload_n 0, 1) := by decide +kernel
theorem dX1_init_306 : decode cX1_init 306 = .ok (.iconst 4, 1) := by decide +kernel
theorem dX1_init_307 : decode cX1_init 307 = .ok (.putfield 73, 3) := by decide +kernel
theorem dX1_init_310 : decode cX1_init 310 = .ok (.iconst 0, 1) := by decide +kernel
theorem dX1_init_311 : decode cX1_init 311 = .ok (.istore_n 2, 1) := by decide +kernel
theorem dX1_init_312 : decode cX1_init 312 = .ok (.iload_n 2, 1) := by decide +kernel
theorem dX1_init_313 : decode cX1_init 313 = .ok (.bipush 8, 2) := by decide +kernel
theorem dX1_init_315 : decode cX1_init 315 = .ok (.if_icmp .ge 19, 3) := by decide +kernel
theorem dX1_init_318 : decode cX1_init 318 = .ok (.aload_n 0, 1) := by decide +kernel
theorem dX1_init_319 : decode cX1_init 319 = .ok (.iload_n 2, 1) := by decide +kernel
theorem dX1_init_320 : decode cX1_init 320 = .ok (.invokevirtual 76, 3) := by decide +kernel
theorem dX1_init_323 : decode cX1_init 323 = .ok (.aload_n 0, 1) := by decide +kernel
theorem dX1_init_324 : decode cX1_init 324 = .ok (.iload_n 2, 1) := by decide +kernel
theorem dX1_init_325 : decode cX1_init 325 = .ok (.invokevirtual 79, 3) := by decide +kernel
theorem dX1_init_328 : decode cX1_init 328 = .ok (.iinc 2 1, 3) := by decide +kernel
theorem dX1_init_331 : decode cX1_init 331 = .ok (.goto (-19), 3) := by decide +kernel
theorem dX1_init_334 : decode cX1_init 334 = .ok (.iconst 0, 1) := by decide +kernel
theorem dX1_init_335 : decode cX1_init 335 = .ok (.istore_n 2, 1) := by decide +kernel
theorem dX1_init_336 : decode cX1_init 336 = .ok (.iload_n 2, 1) := by decide +kernel
theorem dX1_init_337 : decode cX1_init 337 = .ok (.iconst 4, 1) := by decide +kernel
theorem dX1_init_338 : decode cX1_init 338 = .ok (.if_icmp .ge 19, 3) := by decide +kernel
theorem dX1_init_341 : decode cX1_init 341 = .ok (.aload_n 0, 1) := by decide +kernel
theorem dX1_init_342 : decode cX1_init 342 = .ok (.iload_n 2, 1) := by decide +kernel
theorem dX1_init_343 : decode cX1_init 343 = .ok (.invokevirtual 82, 3) := by decide +kernel
theorem dX1_init_346 : decode cX1_init 346 = .ok (.aload_n 0, 1) := by decide +kernel
theorem dX1_init_347 : decode cX1_init 347 = .ok (.iload_n 2, 1) := by decide +kernel
theorem dX1_init_348 : decode cX1_init 348 = .ok (.invokevirtual 85, 3) := by decide +kernel
theorem dX1_init_351 : decode cX1_init 351 = .ok (.iinc 2 1, 3) := by decide +kernel
theorem dX1_init_354 : decode cX1_init 354 = .ok (.goto (-18), 3) := by decide +kernel
theorem dX1_init_357 : decode cX1_init 357 = .ok (.aload_n 0, 1) := by decide +kernel
theorem dX1_init_358 : decode cX1_init 358 = .ok (.iconst 0, 1) := by decide +kernel
theorem dX1_init_359 : decode cX1_init 359 = .ok (.putfield 88, 3) := by decide +kernel
theorem dX1_init_362 : decode cX1_init 362 = .ok (.return_, 1) := by decide +kernel
theorem dX1_stir_0 : decode cX1_stir 0 = .ok (.aload_n 0, 1) := by decide +kernel
theorem dX1_stir_1 : decode cX1_stir 1 = .ok (.iload_n 1, 1) := by decide +kernel
theorem dX1_stir_2 : decode cX1_stir 2 = .ok (.ifCond .ne 8, 3) := by decide +kernel
theorem dX1_stir_5 : decode cX1_stir 5 = .ok (.ldc 91, 2) := by decide +kernel
theorem dX1_stir_7 : decode cX1_stir 7 = .ok (.goto 4, 3) := by decide +kernel
theorem dX1_stir_10 : decode cX1_stir 10 = .ok (.iload_n 1, 1) := by decide +kernel
theorem dX1_stir_11 : decode cX1_stir 11 = .ok (.putfield 92, 3) := by decide +kernel
theorem dX1_stir_14 : decode cX1_stir 14 = .ok (.return_, 1) := by decide +kernel
theorem dX1_next_0 : decode cX1_next 0 = .ok (.aload_n 0, 1) := by decide +kernel
theorem dX1_next_1 : decode cX1_next 1 = .ok (.getfield 92, 3) := by decide +kernel
theorem dX1_next_4 : decode cX1_next 4 = .ok (.istore_n 1, 1) := by decide +kernel
theorem dX1_next_5 : decode cX1_next 5 = .ok (.iload_n 1, 1) := by decide +kernel
theorem dX1_next_6 : decode cX1_next 6 = .ok (.iload_n 1, 1) := by decide +kernel
theorem dX1_next_7 : decode cX1_next 7 = .ok (.bipush 13, 2) := by decide +kernel
theorem dX1_next_9 : decode cX1_next 9 = .ok (.ishl, 1) := by decide +kernel
theorem dX1_next_10 : decode cX1_next 10 = .ok (.ixor, 1) := by decide +kernel
theorem dX1_next_11 : decode cX1_next 11 = .ok (.istore_n 1, 1) := by decide +kernel
theorem dX1_next_12 : decode cX1_next 12 = .ok (.iload_n 1, 1) := by decide +kernel
theorem dX1_next_13 : decode cX1_next 13 = .ok (.iload_n 1, 1) := by decide +kernel
theorem dX1_next_14 : decode cX1_next 14 = .ok (.bipush 17, 2) := by decide +kernel
theorem dX1_next_16 : decode cX1_next 16 = .ok (.iushr, 1) := by decide +kernel
theorem dX1_next_17 : decode cX1_next 17 = .ok (.ixor, 1) := by decide +kernel
theorem dX1_next_18 : decode cX1_next 18 = .ok (.istore_n 1, 1) := by decide +kernel
theorem dX1_next_19 : decode cX1_next 19 = .ok (.iload_n 1, 1) := by decide +kernel
theorem dX1_next_20 : decode cX1_next 20 = .ok (.iload_n 1, 1) := by decide +kernel
theorem dX1_next_21 : decode cX1_next 21 = .ok (.iconst 5, 1) := by decide +kernel
theorem dX1_next_22 : decode cX1_next 22 = .ok (.ishl, 1) := by decide +kernel
theorem dX1_next_23 : decode cX1_next 23 = .ok (.ixor, 1) := by decide +kernel
theorem dX1_next_24 : decode cX1_next 24 = .ok (.istore_n 1, 1) := by decide +kernel
theorem dX1_next_25 : decode cX1_next 25 = .ok (.aload_n 0, 1) := by decide +kernel
theorem dX1_next_26 : decode cX1_next 26 = .ok (.iload_n 1, 1) := by decide +kernel
theorem dX1_next_27 : decode cX1_next 27 = .ok (.putfield 92, 3) := by decide +kernel
theorem dX1_next_30 : decode cX1_next 30 = .ok (.iload_n 1, 1) := by decide +kernel
theorem dX1_next_31 : decode cX1_next 31 = .ok (.iconst 3, 1) := by decide +kernel
theorem dX1_next_32 : decode cX1_next 32 = .ok (.iushr, 1) := by decide +kernel
theorem dX1_next_33 : decode cX1_next 33 = .ok (.ldc 113, 2) := by decide +kernel
theorem dX1_next_35 : decode cX1_next 35 = .ok (.iand, 1) := by decide +kernel
theorem dX1_next_36 : decode cX1_next 36 = .ok (.ireturn, 1) := by decide +kernel
theorem dX1_readPath_0 : decode cX1_readPath 0 = .ok (.iconst 0, 1) := by decide +kernel
theorem dX1_readPath_1 : decode cX1_readPath 1 = .ok (.istore_n 2, 1) := by decide +kernel
theorem dX1_readPath_2 : decode cX1_readPath 2 = .ok (.iload_n 2, 1) := by decide +kernel
theorem dX1_readPath_3 : decode cX1_readPath 3 = .ok (.iconst 4, 1) := by decide +kernel
theorem dX1_readPath_4 : decode cX1_readPath 4 = .ok (.if_icmp .ge 139, 3) := by decide +kernel
theorem dX1_readPath_7 : decode cX1_readPath 7 = .ok (.iload_n 1, 1) := by decide +kernel
theorem dX1_readPath_8 : decode cX1_readPath 8 = .ok (.iload_n 2, 1) := by decide +kernel
theorem dX1_readPath_9 : decode cX1_readPath 9 = .ok (.invokestatic 118, 3) := by decide +kernel
theorem dX1_readPath_12 : decode cX1_readPath 12 = .ok (.istore_n 3, 1) := by decide +kernel
theorem dX1_readPath_13 : decode cX1_readPath 13 = .ok (.aload_n 0, 1) := by decide +kernel
theorem dX1_readPath_14 : decode cX1_readPath 14 = .ok (.dup, 1) := by decide +kernel
theorem dX1_readPath_15 : decode cX1_readPath 15 = .ok (.getfield 88, 3) := by decide +kernel
theorem dX1_readPath_18 : decode cX1_readPath 18 = .ok (.iconst 1, 1) := by decide +kernel
theorem dX1_readPath_19 : decode cX1_readPath 19 = .ok (.iadd, 1) := by decide +kernel
theorem dX1_readPath_20 : decode cX1_readPath 20 = .ok (.putfield 88, 3) := by decide +kernel
theorem dX1_readPath_23 : decode cX1_readPath 23 = .ok (.iconst 4, 1) := by decide +kernel
theorem dX1_readPath_24 : decode cX1_readPath 24 = .ok (.iload_n 3, 1) := by decide +kernel
theorem dX1_readPath_25 : decode cX1_readPath 25 = .ok (.imul, 1) := by decide +kernel
theorem dX1_readPath_26 : decode cX1_readPath 26 = .ok (.istore 4, 2) := by decide +kernel
theorem dX1_readPath_28 : decode cX1_readPath 28 = .ok (.iload 4, 2) := by decide +kernel
theorem dX1_readPath_30 : decode cX1_readPath 30 = .ok (.iconst 4, 1) := by decide +kernel
theorem dX1_readPath_31 : decode cX1_readPath 31 = .ok (.iload_n 3, 1) := by decide +kernel
theorem dX1_readPath_32 : decode cX1_readPath 32 = .ok (.imul, 1) := by decide +kernel
theorem dX1_readPath_33 : decode cX1_readPath 33 = .ok (.iconst 4, 1) := by decide +kernel
theorem dX1_readPath_34 : decode cX1_readPath 34 = .ok (.iadd, 1) := by decide +kernel
theorem dX1_readPath_35 : decode cX1_readPath 35 = .ok (.if_icmp .ge 102, 3) := by decide +kernel
theorem dX1_readPath_38 : decode cX1_readPath 38 = .ok (.aload_n 0, 1) := by decide +kernel
theorem dX1_readPath_39 : decode cX1_readPath 39 = .ok (.getfield 7, 3) := by decide +kernel
theorem dX1_readPath_42 : decode cX1_readPath 42 = .ok (.iload 4, 2) := by decide +kernel
theorem dX1_readPath_44 : decode cX1_readPath 44 = .ok (.iaload, 1) := by decide +kernel
theorem dX1_readPath_45 : decode cX1_readPath 45 = .ok (.iconst (-1), 1) := by decide +kernel
theorem dX1_readPath_46 : decode cX1_readPath 46 = .ok (.if_icmp .eq 85, 3) := by decide +kernel
theorem dX1_readPath_49 : decode cX1_readPath 49 = .ok (.aload_n 0, 1) := by decide +kernel
theorem dX1_readPath_50 : decode cX1_readPath 50 = .ok (.getfield 70, 3) := by decide +kernel
theorem dX1_readPath_53 : decode cX1_readPath 53 = .ok (.bipush 16, 2) := by decide +kernel
theorem dX1_readPath_55 : decode cX1_readPath 55 = .ok (.if_icmp .ge 76, 3) := by decide +kernel
theorem dX1_readPath_58 : decode cX1_readPath 58 = .ok (.aload_n 0, 1) := by decide +kernel
theorem dX1_readPath_59 : decode cX1_readPath 59 = .ok (.getfield 22, 3) := by decide +kernel
theorem dX1_readPath_62 : decode cX1_readPath 62 = .ok (.aload_n 0, 1) := by decide +kernel
theorem dX1_readPath_63 : decode cX1_readPath 63 = .ok (.getfield 70, 3) := by decide +kernel
theorem dX1_readPath_66 : decode cX1_readPath 66 = .ok (.aload_n 0, 1) := by decide +kernel
theorem dX1_readPath_67 : decode cX1_readPath 67 = .ok (.getfield 7, 3) := by decide +kernel
theorem dX1_readPath_70 : decode cX1_readPath 70 = .ok (.iload 4, 2) := by decide +kernel
theorem dX1_readPath_72 : decode cX1_readPath 72 = .ok (.iaload, 1) := by decide +kernel
theorem dX1_readPath_73 : decode cX1_readPath 73 = .ok (.iastore, 1) := by decide +kernel
theorem dX1_readPath_74 : decode cX1_readPath 74 = .ok (.aload_n 0, 1) := by decide +kernel
theorem dX1_readPath_75 : decode cX1_readPath 75 = .ok (.getfield 25, 3) := by decide +kernel
theorem dX1_readPath_78 : decode cX1_readPath 78 = .ok (.aload_n 0, 1) := by decide +kernel
theorem dX1_readPath_79 : decode cX1_readPath 79 = .ok (.getfield 70, 3) := by decide +kernel
theorem dX1_readPath_82 : decode cX1_readPath 82 = .ok (.aload_n 0, 1) := by decide +kernel
theorem dX1_readPath_83 : decode cX1_readPath 83 = .ok (.getfield 13, 3) := by decide +kernel
theorem dX1_readPath_86 : decode cX1_readPath 86 = .ok (.iload 4, 2) := by decide +kernel
theorem dX1_readPath_88 : decode cX1_readPath 88 = .ok (.iaload, 1) := by decide +kernel
theorem dX1_readPath_89 : decode cX1_readPath 89 = .ok (.aload_n 0, 1) := by decide +kernel
theorem dX1_readPath_90 : decode cX1_readPath 90 = .ok (.iload 4, 2) := by decide +kernel
theorem dX1_readPath_92 : decode cX1_readPath 92 = .ok (.invokevirtual 121, 3) := by decide +kernel
theorem dX1_readPath_95 : decode cX1_readPath 95 = .ok (.ixor, 1) := by decide +kernel
theorem dX1_readPath_96 : decode cX1_readPath 96 = .ok (.iastore, 1) := by decide +kernel
theorem dX1_readPath_97 : decode cX1_readPath 97 = .ok (.aload_n 0, 1) := by decide +kernel
theorem dX1_readPath_98 : decode cX1_readPath 98 = .ok (.getfield 28, 3) := by decide +kernel
theorem dX1_readPath_101 : decode cX1_readPath 101 = .ok (.aload_n 0, 1) := by decide +kernel
theorem dX1_readPath_102 : decode cX1_readPath 102 = .ok (.getfield 70, 3) := by decide +kernel
theorem dX1_readPath_105 : decode cX1_readPath 105 = .ok (.aload_n 0, 1) := by decide +kernel
theorem dX1_readPath_106 : decode cX1_readPath 106 = .ok (.getfield 16, 3) := by decide +kernel
theorem dX1_readPath_109 : decode cX1_readPath 109 = .ok (.iload 4, 2) := by decide +kernel
theorem dX1_readPath_111 : decode cX1_readPath 111 = .ok (.iaload, 1) := by decide +kernel
theorem dX1_readPath_112 : decode cX1_readPath 112 = .ok (.iastore, 1) := by decide +kernel
theorem dX1_readPath_113 : decode cX1_readPath 113 = .ok (.aload_n 0, 1) := by decide +kernel
theorem dX1_readPath_114 : decode cX1_readPath 114 = .ok (.getfield 7, 3) := by decide +kernel
theorem dX1_readPath_117 : decode cX1_readPath 117 = .ok (.iload 4, 2) := by decide +kernel
theorem dX1_readPath_119 : decode cX1_readPath 119 = .ok (.iconst (-1), 1) := by decide +kernel
theorem dX1_readPath_120 : decode cX1_readPath 120 = .ok (.iastore, 1) := by decide +kernel
theorem dX1_readPath_121 : decode cX1_readPath 121 = .ok (.aload_n 0, 1) := by decide +kernel
theorem dX1_readPath_122 : decode cX1_readPath 122 = .ok (.dup, 1) := by decide +kernel
theorem dX1_readPath_123 : decode cX1_readPath 123 = .ok (.getfield 70, 3) := by decide +kernel
theorem dX1_readPath_126 : decode cX1_readPath 126 = .ok (.iconst 1, 1) := by decide +kernel
theorem dX1_readPath_127 : decode cX1_readPath 127 = .ok (.iadd, 1) := by decide +kernel
theorem dX1_readPath_128 : decode cX1_readPath 128 = .ok (.putfield 70, 3) := by decide +kernel
theorem dX1_readPath_131 : decode cX1_readPath 131 = .ok (.iinc 4 1, 3) := by decide +kernel
theorem dX1_readPath_134 : decode cX1_readPath 134 = .ok (.goto (-106), 3) := by decide +kernel
theorem dX1_readPath_137 : decode cX1_readPath 137 = .ok (.iinc 2 1, 3) := by decide +kernel
theorem dX1_readPath_140 : decode cX1_readPath 140 = .ok (.goto (-138), 3) := by decide +kernel
theorem dX1_readPath_143 : decode cX1_readPath 143 = .ok (.return_, 1) := by decide +kernel
theorem dX1_bucketAt_0 : decode cX1_bucketAt 0 = .ok (.bipush 8, 2) := by decide +kernel
theorem dX1_bucketAt_2 : decode cX1_bucketAt 2 = .ok (.iload_n 0, 1) := by decide +kernel
theorem dX1_bucketAt_3 : decode cX1_bucketAt 3 = .ok (.iadd, 1) := by decide +kernel
theorem dX1_bucketAt_4 : decode cX1_bucketAt 4 = .ok (.iconst 3, 1) := by decide +kernel
theorem dX1_bucketAt_5 : decode cX1_bucketAt 5 = .ok (.iload_n 1, 1) := by decide +kernel
theorem dX1_bucketAt_6 : decode cX1_bucketAt 6 = .ok (.isub, 1) := by decide +kernel
theorem dX1_bucketAt_7 : decode cX1_bucketAt 7 = .ok (.ishr, 1) := by decide +kernel
theorem dX1_bucketAt_8 : decode cX1_bucketAt 8 = .ok (.ireturn, 1) := by decide +kernel
theorem dX1_pad_0 : decode cX1_pad 0 = .ok (.aload_n 0, 1) := by decide +kernel
theorem dX1_pad_1 : decode cX1_pad 1 = .ok (.getfield 66, 3) := by decide +kernel
theorem dX1_pad_4 : decode cX1_pad 4 = .ok (.iload_n 1, 1) := by decide +kernel
theorem dX1_pad_5 : decode cX1_pad 5 = .ok (.ldc 114, 2) := by decide +kernel
theorem dX1_pad_7 : decode cX1_pad 7 = .ok (.imul, 1) := by decide +kernel
theorem dX1_pad_8 : decode cX1_pad 8 = .ok (.iadd, 1) := by decide +kernel
theorem dX1_pad_9 : decode cX1_pad 9 = .ok (.aload_n 0, 1) := by decide +kernel
theorem dX1_pad_10 : decode cX1_pad 10 = .ok (.getfield 19, 3) := by decide +kernel
theorem dX1_pad_13 : decode cX1_pad 13 = .ok (.iload_n 1, 1) := by decide +kernel
theorem dX1_pad_14 : decode cX1_pad 14 = .ok (.iconst 2, 1) := by decide +kernel
theorem dX1_pad_15 : decode cX1_pad 15 = .ok (.ishr, 1) := by decide +kernel
theorem dX1_pad_16 : decode cX1_pad 16 = .ok (.iaload, 1) := by decide +kernel
theorem dX1_pad_17 : decode cX1_pad 17 = .ok (.ldc 115, 2) := by decide +kernel
theorem dX1_pad_19 : decode cX1_pad 19 = .ok (.imul, 1) := by decide +kernel
theorem dX1_pad_20 : decode cX1_pad 20 = .ok (.iadd, 1) := by decide +kernel
theorem dX1_pad_21 : decode cX1_pad 21 = .ok (.istore_n 2, 1) := by decide +kernel
theorem dX1_pad_22 : decode cX1_pad 22 = .ok (.iload_n 2, 1) := by decide +kernel
theorem dX1_pad_23 : decode cX1_pad 23 = .ok (.iload_n 2, 1) := by decide +kernel
theorem dX1_pad_24 : decode cX1_pad 24 = .ok (.bipush 15, 2) := by decide +kernel
theorem dX1_pad_26 : decode cX1_pad 26 = .ok (.iushr, 1) := by decide +kernel
theorem dX1_pad_27 : decode cX1_pad 27 = .ok (.ixor, 1) := by decide +kernel
theorem dX1_pad_28 : decode cX1_pad 28 = .ok (.ldc 116, 2) := by decide +kernel
theorem dX1_pad_30 : decode cX1_pad 30 = .ok (.imul, 1) := by decide +kernel
theorem dX1_pad_31 : decode cX1_pad 31 = .ok (.istore_n 2, 1) := by decide +kernel
theorem dX1_pad_32 : decode cX1_pad 32 = .ok (.iload_n 2, 1) := by decide +kernel
theorem dX1_pad_33 : decode cX1_pad 33 = .ok (.iload_n 2, 1) := by decide +kernel
theorem dX1_pad_34 : decode cX1_pad 34 = .ok (.bipush 13, 2) := by decide +kernel
theorem dX1_pad_36 : decode cX1_pad 36 = .ok (.iushr, 1) := by decide +kernel
theorem dX1_pad_37 : decode cX1_pad 37 = .ok (.ixor, 1) := by decide +kernel
theorem dX1_pad_38 : decode cX1_pad 38 = .ok (.ldc 117, 2) := by decide +kernel
theorem dX1_pad_40 : decode cX1_pad 40 = .ok (.imul, 1) := by decide +kernel
theorem dX1_pad_41 : decode cX1_pad 41 = .ok (.istore_n 2, 1) := by decide +kernel
theorem dX1_pad_42 : decode cX1_pad 42 = .ok (.iload_n 2, 1) := by decide +kernel
theorem dX1_pad_43 : decode cX1_pad 43 = .ok (.iload_n 2, 1) := by decide +kernel
theorem dX1_pad_44 : decode cX1_pad 44 = .ok (.bipush 16, 2) := by decide +kernel
theorem dX1_pad_46 : decode cX1_pad 46 = .ok (.iushr, 1) := by decide +kernel
theorem dX1_pad_47 : decode cX1_pad 47 = .ok (.ixor, 1) := by decide +kernel
theorem dX1_pad_48 : decode cX1_pad 48 = .ok (.ireturn, 1) := by decide +kernel
theorem dX1_writePath_0 : decode cX1_writePath 0 = .ok (.iconst 3, 1) := by decide +kernel
theorem dX1_writePath_1 : decode cX1_writePath 1 = .ok (.istore_n 2, 1) := by decide +kernel
theorem dX1_writePath_2 : decode cX1_writePath 2 = .ok (.iload_n 2, 1) := by decide +kernel
theorem dX1_writePath_3 : decode cX1_writePath 3 = .ok (.ifCond .lt 82, 3) := by decide +kernel
theorem dX1_writePath_6 : decode cX1_writePath 6 = .ok (.iload_n 1, 1) := by decide +kernel
theorem dX1_writePath_7 : decode cX1_writePath 7 = .ok (.iload_n 2, 1) := by decide +kernel
theorem dX1_writePath_8 : decode cX1_writePath 8 = .ok (.invokestatic 118, 3) := by decide +kernel
theorem dX1_writePath_11 : decode cX1_writePath 11 = .ok (.istore_n 3, 1) := by decide +kernel
theorem dX1_writePath_12 : decode cX1_writePath 12 = .ok (.aload_n 0, 1) := by decide +kernel
theorem dX1_writePath_13 : decode cX1_writePath 13 = .ok (.getfield 19, 3) := by decide +kernel
theorem dX1_writePath_16 : decode cX1_writePath 16 = .ok (.iload_n 3, 1) := by decide +kernel
theorem dX1_writePath_17 : decode cX1_writePath 17 = .ok (.dup2, 1) := by decide +kernel
theorem dX1_writePath_18 : decode cX1_writePath 18 = .ok (.iaload, 1) := by decide +kernel
theorem dX1_writePath_19 : decode cX1_writePath 19 = .ok (.iconst 1, 1) := by decide +kernel
theorem dX1_writePath_20 : decode cX1_writePath 20 = .ok (.iadd, 1) := by decide +kernel
theorem dX1_writePath_21 : decode cX1_writePath 21 = .ok (.iastore, 1) := by decide +kernel
theorem dX1_writePath_22 : decode cX1_writePath 22 = .ok (.iconst 4, 1) := by decide +kernel
theorem dX1_writePath_23 : decode cX1_writePath 23 = .ok (.iload_n 3, 1) := by decide +kernel
theorem dX1_writePath_24 : decode cX1_writePath 24 = .ok (.imul, 1) := by decide +kernel
theorem dX1_writePath_25 : decode cX1_writePath 25 = .ok (.istore 4, 2) := by decide +kernel
theorem dX1_writePath_27 : decode cX1_writePath 27 = .ok (.iload 4, 2) := by decide +kernel
theorem dX1_writePath_29 : decode cX1_writePath 29 = .ok (.iconst 4, 1) := by decide +kernel
theorem dX1_writePath_30 : decode cX1_writePath 30 = .ok (.iload_n 3, 1) := by decide +kernel
theorem dX1_writePath_31 : decode cX1_writePath 31 = .ok (.imul, 1) := by decide +kernel
theorem dX1_writePath_32 : decode cX1_writePath 32 = .ok (.iconst 4, 1) := by decide +kernel
theorem dX1_writePath_33 : decode cX1_writePath 33 = .ok (.iadd, 1) := by decide +kernel
theorem dX1_writePath_34 : decode cX1_writePath 34 = .ok (.if_icmp .ge 45, 3) := by decide +kernel
theorem dX1_writePath_37 : decode cX1_writePath 37 = .ok (.aload_n 0, 1) := by decide +kernel
theorem dX1_writePath_38 : decode cX1_writePath 38 = .ok (.iload_n 1, 1) := by decide +kernel
theorem dX1_writePath_39 : decode cX1_writePath 39 = .ok (.iload_n 2, 1) := by decide +kernel
theorem dX1_writePath_40 : decode cX1_writePath 40 = .ok (.invokevirtual 125, 3) := by decide +kernel
theorem dX1_writePath_43 : decode cX1_writePath 43 = .ok (.istore 5, 2) := by decide +kernel
theorem dX1_writePath_45 : decode cX1_writePath 45 = .ok (.iload 5, 2) := by decide +kernel
theorem dX1_writePath_47 : decode cX1_writePath 47 = .ok (.iconst (-1), 1) := by decide +kernel
theorem dX1_writePath_48 : decode cX1_writePath 48 = .ok (.if_icmp .eq 14, 3) := by decide +kernel
theorem dX1_writePath_51 : decode cX1_writePath 51 = .ok (.aload_n 0, 1) := by decide +kernel
theorem dX1_writePath_52 : decode cX1_writePath 52 = .ok (.iload 5, 2) := by decide +kernel
theorem dX1_writePath_54 : decode cX1_writePath 54 = .ok (.iload 4, 2) := by decide +kernel
theorem dX1_writePath_56 : decode cX1_writePath 56 = .ok (.invokevirtual 128, 3) := by decide +kernel
theorem dX1_writePath_59 : decode cX1_writePath 59 = .ok (.goto 14, 3) := by decide +kernel
theorem dX1_writePath_62 : decode cX1_writePath 62 = .ok (.aload_n 0, 1) := by decide +kernel
theorem dX1_writePath_63 : decode cX1_writePath 63 = .ok (.getfield 13, 3) := by decide +kernel
theorem dX1_writePath_66 : decode cX1_writePath 66 = .ok (.iload 4, 2) := by decide +kernel
theorem dX1_writePath_68 : decode cX1_writePath 68 = .ok (.aload_n 0, 1) := by decide +kernel
theorem dX1_writePath_69 : decode cX1_writePath 69 = .ok (.invokevirtual 62, 3) := by decide +kernel
theorem dX1_writePath_72 : decode cX1_writePath 72 = .ok (.iastore, 1) := by decide +kernel
theorem dX1_writePath_73 : decode cX1_writePath 73 = .ok (.iinc 4 1, 3) := by decide +kernel
theorem dX1_writePath_76 : decode cX1_writePath 76 = .ok (.goto (-49), 3) := by decide +kernel
theorem dX1_writePath_79 : decode cX1_writePath 79 = .ok (.iinc 2 (-1), 3) := by decide +kernel
theorem dX1_writePath_82 : decode cX1_writePath 82 = .ok (.goto (-80), 3) := by decide +kernel
theorem dX1_writePath_85 : decode cX1_writePath 85 = .ok (.return_, 1) := by decide +kernel
theorem dX1_fitting_0 : decode cX1_fitting 0 = .ok (.iconst 0, 1) := by decide +kernel
theorem dX1_fitting_1 : decode cX1_fitting 1 = .ok (.istore_n 3, 1) := by decide +kernel
theorem dX1_fitting_2 : decode cX1_fitting 2 = .ok (.iload_n 3, 1) := by decide +kernel
theorem dX1_fitting_3 : decode cX1_fitting 3 = .ok (.aload_n 0, 1) := by decide +kernel
theorem dX1_fitting_4 : decode cX1_fitting 4 = .ok (.getfield 70, 3) := by decide +kernel
theorem dX1_fitting_7 : decode cX1_fitting 7 = .ok (.if_icmp .ge 29, 3) := by decide +kernel
theorem dX1_fitting_10 : decode cX1_fitting 10 = .ok (.aload_n 0, 1) := by decide +kernel
theorem dX1_fitting_11 : decode cX1_fitting 11 = .ok (.getfield 28, 3) := by decide +kernel
theorem dX1_fitting_14 : decode cX1_fitting 14 = .ok (.iload_n 3, 1) := by decide +kernel
theorem dX1_fitting_15 : decode cX1_fitting 15 = .ok (.iaload, 1) := by decide +kernel
end
section
set_option maxRecDepth 100000
theorem dX1_fitting_16 : decode cX1_fitting 16 = .ok (.iload_n 2, 1) := by decide +kernel
theorem dX1_fitting_17 : decode cX1_fitting 17 = .ok (.invokestatic 118, 3) := by decide +kernel
theorem dX1_fitting_20 : decode cX1_fitting 20 = .ok (.iload_n 1, 1) := by decide +kernel
theorem dX1_fitting_21 : decode cX1_fitting 21 = .ok (.iload_n 2, 1) := by decide +kernel
theorem dX1_fitting_22 : decode cX1_fitting 22 = .ok (.invokestatic 118, 3) := by decide +kernel
theorem dX1_fitting_25 : decode cX1_fitting 25 = .ok (.if_icmp .ne 5, 3) := by decide +kernel
theorem dX1_fitting_28 : decode cX1_fitting 28 = .ok (.iload_n 3, 1) := by decide +kernel
theorem dX1_fitting_29 : decode cX1_fitting 29 = .ok (.ireturn, 1) := by decide +kernel
theorem dX1_fitting_30 : decode cX1_fitting 30 = .ok (.iinc 3 1, 3) := by decide +kernel
theorem dX1_fitting_33 : decode cX1_fitting 33 = .ok (.goto (-31), 3) := by decide +kernel
theorem dX1_fitting_36 : decode cX1_fitting 36 = .ok (.iconst (-1), 1) := by decide +kernel
theorem dX1_fitting_37 : decode cX1_fitting 37 = .ok (.ireturn, 1) := by decide +kernel
theorem dX1_settle_0 : decode cX1_settle 0 = .ok (.aload_n 0, 1) := by decide +kernel
theorem dX1_settle_1 : decode cX1_settle 1 = .ok (.getfield 7, 3) := by decide +kernel
theorem dX1_settle_4 : decode cX1_settle 4 = .ok (.iload_n 2, 1) := by decide +kernel
theorem dX1_settle_5 : decode cX1_settle 5 = .ok (.aload_n 0, 1) := by decide +kernel
theorem dX1_settle_6 : decode cX1_settle 6 = .ok (.getfield 22, 3) := by decide +kernel
theorem dX1_settle_9 : decode cX1_settle 9 = .ok (.iload_n 1, 1) := by decide +kernel
theorem dX1_settle_10 : decode cX1_settle 10 = .ok (.iaload, 1) := by decide +kernel
theorem dX1_settle_11 : decode cX1_settle 11 = .ok (.iastore, 1) := by decide +kernel
theorem dX1_settle_12 : decode cX1_settle 12 = .ok (.aload_n 0, 1) := by decide +kernel
theorem dX1_settle_13 : decode cX1_settle 13 = .ok (.getfield 13, 3) := by decide +kernel
theorem dX1_settle_16 : decode cX1_settle 16 = .ok (.iload_n 2, 1) := by decide +kernel
theorem dX1_settle_17 : decode cX1_settle 17 = .ok (.aload_n 0, 1) := by decide +kernel
theorem dX1_settle_18 : decode cX1_settle 18 = .ok (.getfield 25, 3) := by decide +kernel
theorem dX1_settle_21 : decode cX1_settle 21 = .ok (.iload_n 1, 1) := by decide +kernel
theorem dX1_settle_22 : decode cX1_settle 22 = .ok (.iaload, 1) := by decide +kernel
theorem dX1_settle_23 : decode cX1_settle 23 = .ok (.aload_n 0, 1) := by decide +kernel
theorem dX1_settle_24 : decode cX1_settle 24 = .ok (.iload_n 2, 1) := by decide +kernel
theorem dX1_settle_25 : decode cX1_settle 25 = .ok (.invokevirtual 121, 3) := by decide +kernel
theorem dX1_settle_28 : decode cX1_settle 28 = .ok (.ixor, 1) := by decide +kernel
theorem dX1_settle_29 : decode cX1_settle 29 = .ok (.iastore, 1) := by decide +kernel
theorem dX1_settle_30 : decode cX1_settle 30 = .ok (.aload_n 0, 1) := by decide +kernel
theorem dX1_settle_31 : decode cX1_settle 31 = .ok (.getfield 16, 3) := by decide +kernel
theorem dX1_settle_34 : decode cX1_settle 34 = .ok (.iload_n 2, 1) := by decide +kernel
theorem dX1_settle_35 : decode cX1_settle 35 = .ok (.aload_n 0, 1) := by decide +kernel
theorem dX1_settle_36 : decode cX1_settle 36 = .ok (.getfield 28, 3) := by decide +kernel
theorem dX1_settle_39 : decode cX1_settle 39 = .ok (.iload_n 1, 1) := by decide +kernel
theorem dX1_settle_40 : decode cX1_settle 40 = .ok (.iaload, 1) := by decide +kernel
theorem dX1_settle_41 : decode cX1_settle 41 = .ok (.iastore, 1) := by decide +kernel
theorem dX1_settle_42 : decode cX1_settle 42 = .ok (.aload_n 0, 1) := by decide +kernel
theorem dX1_settle_43 : decode cX1_settle 43 = .ok (.dup, 1) := by decide +kernel
theorem dX1_settle_44 : decode cX1_settle 44 = .ok (.getfield 70, 3) := by decide +kernel
theorem dX1_settle_47 : decode cX1_settle 47 = .ok (.iconst 1, 1) := by decide +kernel
theorem dX1_settle_48 : decode cX1_settle 48 = .ok (.isub, 1) := by decide +kernel
theorem dX1_settle_49 : decode cX1_settle 49 = .ok (.putfield 70, 3) := by decide +kernel
theorem dX1_settle_52 : decode cX1_settle 52 = .ok (.aload_n 0, 1) := by decide +kernel
theorem dX1_settle_53 : decode cX1_settle 53 = .ok (.getfield 22, 3) := by decide +kernel
theorem dX1_settle_56 : decode cX1_settle 56 = .ok (.iload_n 1, 1) := by decide +kernel
theorem dX1_settle_57 : decode cX1_settle 57 = .ok (.aload_n 0, 1) := by decide +kernel
theorem dX1_settle_58 : decode cX1_settle 58 = .ok (.getfield 22, 3) := by decide +kernel
theorem dX1_settle_61 : decode cX1_settle 61 = .ok (.aload_n 0, 1) := by decide +kernel
theorem dX1_settle_62 : decode cX1_settle 62 = .ok (.getfield 70, 3) := by decide +kernel
theorem dX1_settle_65 : decode cX1_settle 65 = .ok (.iaload, 1) := by decide +kernel
theorem dX1_settle_66 : decode cX1_settle 66 = .ok (.iastore, 1) := by decide +kernel
theorem dX1_settle_67 : decode cX1_settle 67 = .ok (.aload_n 0, 1) := by decide +kernel
theorem dX1_settle_68 : decode cX1_settle 68 = .ok (.getfield 25, 3) := by decide +kernel
theorem dX1_settle_71 : decode cX1_settle 71 = .ok (.iload_n 1, 1) := by decide +kernel
theorem dX1_settle_72 : decode cX1_settle 72 = .ok (.aload_n 0, 1) := by decide +kernel
theorem dX1_settle_73 : decode cX1_settle 73 = .ok (.getfield 25, 3) := by decide +kernel
theorem dX1_settle_76 : decode cX1_settle 76 = .ok (.aload_n 0, 1) := by decide +kernel
theorem dX1_settle_77 : decode cX1_settle 77 = .ok (.getfield 70, 3) := by decide +kernel
theorem dX1_settle_80 : decode cX1_settle 80 = .ok (.iaload, 1) := by decide +kernel
theorem dX1_settle_81 : decode cX1_settle 81 = .ok (.iastore, 1) := by decide +kernel
theorem dX1_settle_82 : decode cX1_settle 82 = .ok (.aload_n 0, 1) := by decide +kernel
theorem dX1_settle_83 : decode cX1_settle 83 = .ok (.getfield 28, 3) := by decide +kernel
theorem dX1_settle_86 : decode cX1_settle 86 = .ok (.iload_n 1, 1) := by decide +kernel
theorem dX1_settle_87 : decode cX1_settle 87 = .ok (.aload_n 0, 1) := by decide +kernel
theorem dX1_settle_88 : decode cX1_settle 88 = .ok (.getfield 28, 3) := by decide +kernel
theorem dX1_settle_91 : decode cX1_settle 91 = .ok (.aload_n 0, 1) := by decide +kernel
theorem dX1_settle_92 : decode cX1_settle 92 = .ok (.getfield 70, 3) := by decide +kernel
theorem dX1_settle_95 : decode cX1_settle 95 = .ok (.iaload, 1) := by decide +kernel
theorem dX1_settle_96 : decode cX1_settle 96 = .ok (.iastore, 1) := by decide +kernel
theorem dX1_settle_97 : decode cX1_settle 97 = .ok (.return_, 1) := by decide +kernel
theorem dX1_readMapPath_0 : decode cX1_readMapPath 0 = .ok (.iconst 0, 1) := by decide +kernel
theorem dX1_readMapPath_1 : decode cX1_readMapPath 1 = .ok (.istore_n 2, 1) := by decide +kernel
theorem dX1_readMapPath_2 : decode cX1_readMapPath 2 = .ok (.iload_n 2, 1) := by decide +kernel
theorem dX1_readMapPath_3 : decode cX1_readMapPath 3 = .ok (.iconst 3, 1) := by decide +kernel
theorem dX1_readMapPath_4 : decode cX1_readMapPath 4 = .ok (.if_icmp .ge 121, 3) := by decide +kernel
theorem dX1_readMapPath_7 : decode cX1_readMapPath 7 = .ok (.iload_n 1, 1) := by decide +kernel
theorem dX1_readMapPath_8 : decode cX1_readMapPath 8 = .ok (.iload_n 2, 1) := by decide +kernel
theorem dX1_readMapPath_9 : decode cX1_readMapPath 9 = .ok (.invokestatic 132, 3) := by decide +kernel
theorem dX1_readMapPath_12 : decode cX1_readMapPath 12 = .ok (.istore_n 3, 1) := by decide +kernel
theorem dX1_readMapPath_13 : decode cX1_readMapPath 13 = .ok (.iconst 2, 1) := by decide +kernel
theorem dX1_readMapPath_14 : decode cX1_readMapPath 14 = .ok (.iload_n 3, 1) := by decide +kernel
theorem dX1_readMapPath_15 : decode cX1_readMapPath 15 = .ok (.imul, 1) := by decide +kernel
theorem dX1_readMapPath_16 : decode cX1_readMapPath 16 = .ok (.istore 4, 2) := by decide +kernel
theorem dX1_readMapPath_18 : decode cX1_readMapPath 18 = .ok (.iload 4, 2) := by decide +kernel
theorem dX1_readMapPath_20 : decode cX1_readMapPath 20 = .ok (.iconst 2, 1) := by decide +kernel
theorem dX1_readMapPath_21 : decode cX1_readMapPath 21 = .ok (.iload_n 3, 1) := by decide +kernel
theorem dX1_readMapPath_22 : decode cX1_readMapPath 22 = .ok (.imul, 1) := by decide +kernel
theorem dX1_readMapPath_23 : decode cX1_readMapPath 23 = .ok (.iconst 2, 1) := by decide +kernel
theorem dX1_readMapPath_24 : decode cX1_readMapPath 24 = .ok (.iadd, 1) := by decide +kernel
theorem dX1_readMapPath_25 : decode cX1_readMapPath 25 = .ok (.if_icmp .ge 94, 3) := by decide +kernel
theorem dX1_readMapPath_28 : decode cX1_readMapPath 28 = .ok (.aload_n 0, 1) := by decide +kernel
theorem dX1_readMapPath_29 : decode cX1_readMapPath 29 = .ok (.getfield 31, 3) := by decide +kernel
theorem dX1_readMapPath_32 : decode cX1_readMapPath 32 = .ok (.iload 4, 2) := by decide +kernel
theorem dX1_readMapPath_34 : decode cX1_readMapPath 34 = .ok (.iaload, 1) := by decide +kernel
theorem dX1_readMapPath_35 : decode cX1_readMapPath 35 = .ok (.iconst (-1), 1) := by decide +kernel
theorem dX1_readMapPath_36 : decode cX1_readMapPath 36 = .ok (.if_icmp .eq 77, 3) := by decide +kernel
theorem dX1_readMapPath_39 : decode cX1_readMapPath 39 = .ok (.aload_n 0, 1) := by decide +kernel
theorem dX1_readMapPath_40 : decode cX1_readMapPath 40 = .ok (.getfield 73, 3) := by decide +kernel
theorem dX1_readMapPath_43 : decode cX1_readMapPath 43 = .ok (.iconst 4, 1) := by decide +kernel
theorem dX1_readMapPath_44 : decode cX1_readMapPath 44 = .ok (.if_icmp .ge 69, 3) := by decide +kernel
theorem dX1_readMapPath_47 : decode cX1_readMapPath 47 = .ok (.aload_n 0, 1) := by decide +kernel
theorem dX1_readMapPath_48 : decode cX1_readMapPath 48 = .ok (.getfield 40, 3) := by decide +kernel
theorem dX1_readMapPath_51 : decode cX1_readMapPath 51 = .ok (.aload_n 0, 1) := by decide +kernel
theorem dX1_readMapPath_52 : decode cX1_readMapPath 52 = .ok (.getfield 73, 3) := by decide +kernel
theorem dX1_readMapPath_55 : decode cX1_readMapPath 55 = .ok (.aload_n 0, 1) := by decide +kernel
theorem dX1_readMapPath_56 : decode cX1_readMapPath 56 = .ok (.getfield 31, 3) := by decide +kernel
theorem dX1_readMapPath_59 : decode cX1_readMapPath 59 = .ok (.iload 4, 2) := by decide +kernel
theorem dX1_readMapPath_61 : decode cX1_readMapPath 61 = .ok (.iaload, 1) := by decide +kernel
theorem dX1_readMapPath_62 : decode cX1_readMapPath 62 = .ok (.iastore, 1) := by decide +kernel
theorem dX1_readMapPath_63 : decode cX1_readMapPath 63 = .ok (.aload_n 0, 1) := by decide +kernel
theorem dX1_readMapPath_64 : decode cX1_readMapPath 64 = .ok (.getfield 43, 3) := by decide +kernel
theorem dX1_readMapPath_67 : decode cX1_readMapPath 67 = .ok (.aload_n 0, 1) := by decide +kernel
theorem dX1_readMapPath_68 : decode cX1_readMapPath 68 = .ok (.getfield 73, 3) := by decide +kernel
theorem dX1_readMapPath_71 : decode cX1_readMapPath 71 = .ok (.aload_n 0, 1) := by decide +kernel
theorem dX1_readMapPath_72 : decode cX1_readMapPath 72 = .ok (.getfield 34, 3) := by decide +kernel
theorem dX1_readMapPath_75 : decode cX1_readMapPath 75 = .ok (.iload 4, 2) := by decide +kernel
theorem dX1_readMapPath_77 : decode cX1_readMapPath 77 = .ok (.iaload, 1) := by decide +kernel
theorem dX1_readMapPath_78 : decode cX1_readMapPath 78 = .ok (.iastore, 1) := by decide +kernel
theorem dX1_readMapPath_79 : decode cX1_readMapPath 79 = .ok (.aload_n 0, 1) := by decide +kernel
theorem dX1_readMapPath_80 : decode cX1_readMapPath 80 = .ok (.getfield 46, 3) := by decide +kernel
theorem dX1_readMapPath_83 : decode cX1_readMapPath 83 = .ok (.aload_n 0, 1) := by decide +kernel
theorem dX1_readMapPath_84 : decode cX1_readMapPath 84 = .ok (.getfield 73, 3) := by decide +kernel
theorem dX1_readMapPath_87 : decode cX1_readMapPath 87 = .ok (.aload_n 0, 1) := by decide +kernel
theorem dX1_readMapPath_88 : decode cX1_readMapPath 88 = .ok (.getfield 37, 3) := by decide +kernel
theorem dX1_readMapPath_91 : decode cX1_readMapPath 91 = .ok (.iload 4, 2) := by decide +kernel
theorem dX1_readMapPath_93 : decode cX1_readMapPath 93 = .ok (.iaload, 1) := by decide +kernel
theorem dX1_readMapPath_94 : decode cX1_readMapPath 94 = .ok (.iastore, 1) := by decide +kernel
theorem dX1_readMapPath_95 : decode cX1_readMapPath 95 = .ok (.aload_n 0, 1) := by decide +kernel
theorem dX1_readMapPath_96 : decode cX1_readMapPath 96 = .ok (.getfield 31, 3) := by decide +kernel
theorem dX1_readMapPath_99 : decode cX1_readMapPath 99 = .ok (.iload 4, 2) := by decide +kernel
theorem dX1_readMapPath_101 : decode cX1_readMapPath 101 = .ok (.iconst (-1), 1) := by decide +kernel
theorem dX1_readMapPath_102 : decode cX1_readMapPath 102 = .ok (.iastore, 1) := by decide +kernel
theorem dX1_readMapPath_103 : decode cX1_readMapPath 103 = .ok (.aload_n 0, 1) := by decide +kernel
theorem dX1_readMapPath_104 : decode cX1_readMapPath 104 = .ok (.dup, 1) := by decide +kernel
theorem dX1_readMapPath_105 : decode cX1_readMapPath 105 = .ok (.getfield 73, 3) := by decide +kernel
theorem dX1_readMapPath_108 : decode cX1_readMapPath 108 = .ok (.iconst 1, 1) := by decide +kernel
theorem dX1_readMapPath_109 : decode cX1_readMapPath 109 = .ok (.iadd, 1) := by decide +kernel
theorem dX1_readMapPath_110 : decode cX1_readMapPath 110 = .ok (.putfield 73, 3) := by decide +kernel
theorem dX1_readMapPath_113 : decode cX1_readMapPath 113 = .ok (.iinc 4 1, 3) := by decide +kernel
theorem dX1_readMapPath_116 : decode cX1_readMapPath 116 = .ok (.goto (-98), 3) := by decide +kernel
theorem dX1_readMapPath_119 : decode cX1_readMapPath 119 = .ok (.iinc 2 1, 3) := by decide +kernel
theorem dX1_readMapPath_122 : decode cX1_readMapPath 122 = .ok (.goto (-120), 3) := by decide +kernel
theorem dX1_readMapPath_125 : decode cX1_readMapPath 125 = .ok (.return_, 1) := by decide +kernel
theorem dX1_mapBucketAt_0 : decode cX1_mapBucketAt 0 = .ok (.iconst 4, 1) := by decide +kernel
theorem dX1_mapBucketAt_1 : decode cX1_mapBucketAt 1 = .ok (.iload_n 0, 1) := by decide +kernel
theorem dX1_mapBucketAt_2 : decode cX1_mapBucketAt 2 = .ok (.iadd, 1) := by decide +kernel
theorem dX1_mapBucketAt_3 : decode cX1_mapBucketAt 3 = .ok (.iconst 2, 1) := by decide +kernel
theorem dX1_mapBucketAt_4 : decode cX1_mapBucketAt 4 = .ok (.iload_n 1, 1) := by decide +kernel
theorem dX1_mapBucketAt_5 : decode cX1_mapBucketAt 5 = .ok (.isub, 1) := by decide +kernel
theorem dX1_mapBucketAt_6 : decode cX1_mapBucketAt 6 = .ok (.ishr, 1) := by decide +kernel
theorem dX1_mapBucketAt_7 : decode cX1_mapBucketAt 7 = .ok (.ireturn, 1) := by decide +kernel
theorem dX1_writeMapPath_0 : decode cX1_writeMapPath 0 = .ok (.iconst 2, 1) := by decide +kernel
theorem dX1_writeMapPath_1 : decode cX1_writeMapPath 1 = .ok (.istore_n 2, 1) := by decide +kernel
theorem dX1_writeMapPath_2 : decode cX1_writeMapPath 2 = .ok (.iload_n 2, 1) := by decide +kernel
theorem dX1_writeMapPath_3 : decode cX1_writeMapPath 3 = .ok (.ifCond .lt 161, 3) := by decide +kernel
theorem dX1_writeMapPath_6 : decode cX1_writeMapPath 6 = .ok (.iload_n 1, 1) := by decide +kernel
theorem dX1_writeMapPath_7 : decode cX1_writeMapPath 7 = .ok (.iload_n 2, 1) := by decide +kernel
theorem dX1_writeMapPath_8 : decode cX1_writeMapPath 8 = .ok (.invokestatic 132, 3) := by decide +kernel
theorem dX1_writeMapPath_11 : decode cX1_writeMapPath 11 = .ok (.istore_n 3, 1) := by decide +kernel
theorem dX1_writeMapPath_12 : decode cX1_writeMapPath 12 = .ok (.iconst 2, 1) := by decide +kernel
theorem dX1_writeMapPath_13 : decode cX1_writeMapPath 13 = .ok (.iload_n 3, 1) := by decide +kernel
theorem dX1_writeMapPath_14 : decode cX1_writeMapPath 14 = .ok (.imul, 1) := by decide +kernel
theorem dX1_writeMapPath_15 : decode cX1_writeMapPath 15 = .ok (.istore 4, 2) := by decide +kernel
theorem dX1_writeMapPath_17 : decode cX1_writeMapPath 17 = .ok (.iload 4, 2) := by decide +kernel
theorem dX1_writeMapPath_19 : decode cX1_writeMapPath 19 = .ok (.iconst 2, 1) := by decide +kernel
theorem dX1_writeMapPath_20 : decode cX1_writeMapPath 20 = .ok (.iload_n 3, 1) := by decide +kernel
theorem dX1_writeMapPath_21 : decode cX1_writeMapPath 21 = .ok (.imul, 1) := by decide +kernel
theorem dX1_writeMapPath_22 : decode cX1_writeMapPath 22 = .ok (.iconst 2, 1) := by decide +kernel
theorem dX1_writeMapPath_23 : decode cX1_writeMapPath 23 = .ok (.iadd, 1) := by decide +kernel
theorem dX1_writeMapPath_24 : decode cX1_writeMapPath 24 = .ok (.if_icmp .ge 134, 3) := by decide +kernel
theorem dX1_writeMapPath_27 : decode cX1_writeMapPath 27 = .ok (.aload_n 0, 1) := by decide +kernel
theorem dX1_writeMapPath_28 : decode cX1_writeMapPath 28 = .ok (.iload_n 1, 1) := by decide +kernel
theorem dX1_writeMapPath_29 : decode cX1_writeMapPath 29 = .ok (.iload_n 2, 1) := by decide +kernel
theorem dX1_writeMapPath_30 : decode cX1_writeMapPath 30 = .ok (.invokevirtual 135, 3) := by decide +kernel
theorem dX1_writeMapPath_33 : decode cX1_writeMapPath 33 = .ok (.istore 5, 2) := by decide +kernel
theorem dX1_writeMapPath_35 : decode cX1_writeMapPath 35 = .ok (.aload_n 0, 1) := by decide +kernel
theorem dX1_writeMapPath_36 : decode cX1_writeMapPath 36 = .ok (.getfield 31, 3) := by decide +kernel
theorem dX1_writeMapPath_39 : decode cX1_writeMapPath 39 = .ok (.iload 4, 2) := by decide +kernel
theorem dX1_writeMapPath_41 : decode cX1_writeMapPath 41 = .ok (.iaload, 1) := by decide +kernel
theorem dX1_writeMapPath_42 : decode cX1_writeMapPath 42 = .ok (.iconst (-1), 1) := by decide +kernel
theorem dX1_writeMapPath_43 : decode cX1_writeMapPath 43 = .ok (.if_icmp .ne 109, 3) := by decide +kernel
theorem dX1_writeMapPath_46 : decode cX1_writeMapPath 46 = .ok (.iload 5, 2) := by decide +kernel
theorem dX1_writeMapPath_48 : decode cX1_writeMapPath 48 = .ok (.iconst (-1), 1) := by decide +kernel
theorem dX1_writeMapPath_49 : decode cX1_writeMapPath 49 = .ok (.if_icmp .eq 103, 3) := by decide +kernel
theorem dX1_writeMapPath_52 : decode cX1_writeMapPath 52 = .ok (.aload_n 0, 1) := by decide +kernel
theorem dX1_writeMapPath_53 : decode cX1_writeMapPath 53 = .ok (.dup, 1) := by decide +kernel
theorem dX1_writeMapPath_54 : decode cX1_writeMapPath 54 = .ok (.getfield 73, 3) := by decide +kernel
theorem dX1_writeMapPath_57 : decode cX1_writeMapPath 57 = .ok (.iconst 1, 1) := by decide +kernel
theorem dX1_writeMapPath_58 : decode cX1_writeMapPath 58 = .ok (.isub, 1) := by decide +kernel
theorem dX1_writeMapPath_59 : decode cX1_writeMapPath 59 = .ok (.putfield 73, 3) := by decide +kernel
theorem dX1_writeMapPath_62 : decode cX1_writeMapPath 62 = .ok (.aload_n 0, 1) := by decide +kernel
theorem dX1_writeMapPath_63 : decode cX1_writeMapPath 63 = .ok (.getfield 31, 3) := by decide +kernel
theorem dX1_writeMapPath_66 : decode cX1_writeMapPath 66 = .ok (.iload 4, 2) := by decide +kernel
theorem dX1_writeMapPath_68 : decode cX1_writeMapPath 68 = .ok (.aload_n 0, 1) := by decide +kernel
theorem dX1_writeMapPath_69 : decode cX1_writeMapPath 69 = .ok (.getfield 40, 3) := by decide +kernel
theorem dX1_writeMapPath_72 : decode cX1_writeMapPath 72 = .ok (.iload 5, 2) := by decide +kernel
theorem dX1_writeMapPath_74 : decode cX1_writeMapPath 74 = .ok (.iaload, 1) := by decide +kernel
theorem dX1_writeMapPath_75 : decode cX1_writeMapPath 75 = .ok (.iastore, 1) := by decide +kernel
theorem dX1_writeMapPath_76 : decode cX1_writeMapPath 76 = .ok (.aload_n 0, 1) := by decide +kernel
theorem dX1_writeMapPath_77 : decode cX1_writeMapPath 77 = .ok (.getfield 34, 3) := by decide +kernel
theorem dX1_writeMapPath_80 : decode cX1_writeMapPath 80 = .ok (.iload 4, 2) := by decide +kernel
theorem dX1_writeMapPath_82 : decode cX1_writeMapPath 82 = .ok (.aload_n 0, 1) := by decide +kernel
theorem dX1_writeMapPath_83 : decode cX1_writeMapPath 83 = .ok (.getfield 43, 3) := by decide +kernel
theorem dX1_writeMapPath_86 : decode cX1_writeMapPath 86 = .ok (.iload 5, 2) := by decide +kernel
theorem dX1_writeMapPath_88 : decode cX1_writeMapPath 88 = .ok (.iaload, 1) := by decide +kernel
theorem dX1_writeMapPath_89 : decode cX1_writeMapPath 89 = .ok (.iastore, 1) := by decide +kernel
theorem dX1_writeMapPath_90 : decode cX1_writeMapPath 90 = .ok (.aload_n 0, 1) := by decide +kernel
theorem dX1_writeMapPath_91 : decode cX1_writeMapPath 91 = .ok (.getfield 37, 3) := by decide +kernel
theorem dX1_writeMapPath_94 : decode cX1_writeMapPath 94 = .ok (.iload 4, 2) := by decide +kernel
theorem dX1_writeMapPath_96 : decode cX1_writeMapPath 96 = .ok (.aload_n 0, 1) := by decide +kernel
theorem dX1_writeMapPath_97 : decode cX1_writeMapPath 97 = .ok (.getfield 46, 3) := by decide +kernel
theorem dX1_writeMapPath_100 : decode cX1_writeMapPath 100 = .ok (.iload 5, 2) := by decide +kernel
theorem dX1_writeMapPath_102 : decode cX1_writeMapPath 102 = .ok (.iaload, 1) := by decide +kernel
theorem dX1_writeMapPath_103 : decode cX1_writeMapPath 103 = .ok (.iastore, 1) := by decide +kernel
theorem dX1_writeMapPath_104 : decode cX1_writeMapPath 104 = .ok (.aload_n 0, 1) := by decide +kernel
theorem dX1_writeMapPath_105 : decode cX1_writeMapPath 105 = .ok (.getfield 40, 3) := by decide +kernel
theorem dX1_writeMapPath_108 : decode cX1_writeMapPath 108 = .ok (.iload 5, 2) := by decide +kernel
theorem dX1_writeMapPath_110 : decode cX1_writeMapPath 110 = .ok (.aload_n 0, 1) := by decide +kernel
theorem dX1_writeMapPath_111 : decode cX1_writeMapPath 111 = .ok (.getfield 40, 3) := by decide +kernel
theorem dX1_writeMapPath_114 : decode cX1_writeMapPath 114 = .ok (.aload_n 0, 1) := by decide +kernel
theorem dX1_writeMapPath_115 : decode cX1_writeMapPath 115 = .ok (.getfield 73, 3) := by decide +kernel
theorem dX1_writeMapPath_118 : decode cX1_writeMapPath 118 = .ok (.iaload, 1) := by decide +kernel
theorem dX1_writeMapPath_119 : decode cX1_writeMapPath 119 = .ok (.iastore, 1) := by decide +kernel
theorem dX1_writeMapPath_120 : decode cX1_writeMapPath 120 = .ok (.aload_n 0, 1) := by decide +kernel
theorem dX1_writeMapPath_121 : decode cX1_writeMapPath 121 = .ok (.getfield 43, 3) := by decide +kernel
theorem dX1_writeMapPath_124 : decode cX1_writeMapPath 124 = .ok (.iload 5, 2) := by decide +kernel
theorem dX1_writeMapPath_126 : decode cX1_writeMapPath 126 = .ok (.aload_n 0, 1) := by decide +kernel
theorem dX1_writeMapPath_127 : decode cX1_writeMapPath 127 = .ok (.getfield 43, 3) := by decide +kernel
theorem dX1_writeMapPath_130 : decode cX1_writeMapPath 130 = .ok (.aload_n 0, 1) := by decide +kernel
theorem dX1_writeMapPath_131 : decode cX1_writeMapPath 131 = .ok (.getfield 73, 3) := by decide +kernel
theorem dX1_writeMapPath_134 : decode cX1_writeMapPath 134 = .ok (.iaload, 1) := by decide +kernel
theorem dX1_writeMapPath_135 : decode cX1_writeMapPath 135 = .ok (.iastore, 1) := by decide +kernel
theorem dX1_writeMapPath_136 : decode cX1_writeMapPath 136 = .ok (.aload_n 0, 1) := by decide +kernel
theorem dX1_writeMapPath_137 : decode cX1_writeMapPath 137 = .ok (.getfield 46, 3) := by decide +kernel
theorem dX1_writeMapPath_140 : decode cX1_writeMapPath 140 = .ok (.iload 5, 2) := by decide +kernel
theorem dX1_writeMapPath_142 : decode cX1_writeMapPath 142 = .ok (.aload_n 0, 1) := by decide +kernel
theorem dX1_writeMapPath_143 : decode cX1_writeMapPath 143 = .ok (.getfield 46, 3) := by decide +kernel
theorem dX1_writeMapPath_146 : decode cX1_writeMapPath 146 = .ok (.aload_n 0, 1) := by decide +kernel
theorem dX1_writeMapPath_147 : decode cX1_writeMapPath 147 = .ok (.getfield 73, 3) := by decide +kernel
theorem dX1_writeMapPath_150 : decode cX1_writeMapPath 150 = .ok (.iaload, 1) := by decide +kernel
theorem dX1_writeMapPath_151 : decode cX1_writeMapPath 151 = .ok (.iastore, 1) := by decide +kernel
theorem dX1_writeMapPath_152 : decode cX1_writeMapPath 152 = .ok (.iinc 4 1, 3) := by decide +kernel
theorem dX1_writeMapPath_155 : decode cX1_writeMapPath 155 = .ok (.goto (-138), 3) := by decide +kernel
theorem dX1_writeMapPath_158 : decode cX1_writeMapPath 158 = .ok (.iinc 2 (-1), 3) := by decide +kernel
theorem dX1_writeMapPath_161 : decode cX1_writeMapPath 161 = .ok (.goto (-159), 3) := by decide +kernel
theorem dX1_writeMapPath_164 : decode cX1_writeMapPath 164 = .ok (.return_, 1) := by decide +kernel
theorem dX1_mapFitting_0 : decode cX1_mapFitting 0 = .ok (.iconst 0, 1) := by decide +kernel
theorem dX1_mapFitting_1 : decode cX1_mapFitting 1 = .ok (.istore_n 3, 1) := by decide +kernel
theorem dX1_mapFitting_2 : decode cX1_mapFitting 2 = .ok (.iload_n 3, 1) := by decide +kernel
theorem dX1_mapFitting_3 : decode cX1_mapFitting 3 = .ok (.aload_n 0, 1) := by decide +kernel
theorem dX1_mapFitting_4 : decode cX1_mapFitting 4 = .ok (.getfield 73, 3) := by decide +kernel
theorem dX1_mapFitting_7 : decode cX1_mapFitting 7 = .ok (.if_icmp .ge 29, 3) := by decide +kernel
theorem dX1_mapFitting_10 : decode cX1_mapFitting 10 = .ok (.aload_n 0, 1) := by decide +kernel
theorem dX1_mapFitting_11 : decode cX1_mapFitting 11 = .ok (.getfield 46, 3) := by decide +kernel
theorem dX1_mapFitting_14 : decode cX1_mapFitting 14 = .ok (.iload_n 3, 1) := by decide +kernel
theorem dX1_mapFitting_15 : decode cX1_mapFitting 15 = .ok (.iaload, 1) := by decide +kernel
theorem dX1_mapFitting_16 : decode cX1_mapFitting 16 = .ok (.iload_n 2, 1) := by decide +kernel
theorem dX1_mapFitting_17 : decode cX1_mapFitting 17 = .ok (.invokestatic 132, 3) := by decide +kernel
theorem dX1_mapFitting_20 : decode cX1_mapFitting 20 = .ok (.iload_n 1, 1) := by decide +kernel
theorem dX1_mapFitting_21 : decode cX1_mapFitting 21 = .ok (.iload_n 2, 1) := by decide +kernel
theorem dX1_mapFitting_22 : decode cX1_mapFitting 22 = .ok (.invokestatic 132, 3) := by decide +kernel
theorem dX1_mapFitting_25 : decode cX1_mapFitting 25 = .ok (.if_icmp .ne 5, 3) := by decide +kernel
theorem dX1_mapFitting_28 : decode cX1_mapFitting 28 = .ok (.iload_n 3, 1) := by decide +kernel
theorem dX1_mapFitting_29 : decode cX1_mapFitting 29 = .ok (.ireturn, 1) := by decide +kernel
theorem dX1_mapFitting_30 : decode cX1_mapFitting 30 = .ok (.iinc 3 1, 3) := by decide +kernel
theorem dX1_mapFitting_33 : decode cX1_mapFitting 33 = .ok (.goto (-31), 3) := by decide +kernel
theorem dX1_mapFitting_36 : decode cX1_mapFitting 36 = .ok (.iconst (-1), 1) := by decide +kernel
theorem dX1_mapFitting_37 : decode cX1_mapFitting 37 = .ok (.ireturn, 1) := by decide +kernel
theorem dX1_read_0 : decode cX1_read 0 = .ok (.iload_n 1, 1) := by decide +kernel
theorem dX1_read_1 : decode cX1_read 1 = .ok (.invokestatic 95, 3) := by decide +kernel
theorem dX1_read_4 : decode cX1_read 4 = .ok (.ifCond .eq 13, 3) := by decide +kernel
theorem dX1_read_7 : decode cX1_read 7 = .ok (.aload_n 0, 1) := by decide +kernel
theorem dX1_read_8 : decode cX1_read 8 = .ok (.iload_n 1, 1) := by decide +kernel
theorem dX1_read_9 : decode cX1_read 9 = .ok (.iconst 0, 1) := by decide +kernel
theorem dX1_read_10 : decode cX1_read 10 = .ok (.iconst 0, 1) := by decide +kernel
theorem dX1_read_11 : decode cX1_read 11 = .ok (.invokevirtual 99, 3) := by decide +kernel
theorem dX1_read_14 : decode cX1_read 14 = .ok (.goto 4, 3) := by decide +kernel
theorem dX1_read_17 : decode cX1_read 17 = .ok (.iconst 0, 1) := by decide +kernel
theorem dX1_read_18 : decode cX1_read 18 = .ok (.ireturn, 1) := by decide +kernel
theorem dX1_isBlock_0 : decode cX1_isBlock 0 = .ok (.iload_n 0, 1) := by decide +kernel
theorem dX1_isBlock_1 : decode cX1_isBlock 1 = .ok (.ifCond .lt 13, 3) := by decide +kernel
theorem dX1_isBlock_4 : decode cX1_isBlock 4 = .ok (.iload_n 0, 1) := by decide +kernel
theorem dX1_isBlock_5 : decode cX1_isBlock 5 = .ok (.bipush 16, 2) := by decide +kernel
theorem dX1_isBlock_7 : decode cX1_isBlock 7 = .ok (.if_icmp .ge 7, 3) := by decide +kernel
theorem dX1_isBlock_10 : decode cX1_isBlock 10 = .ok (.iconst 1, 1) := by decide +kernel
theorem dX1_isBlock_11 : decode cX1_isBlock 11 = .ok (.goto 4, 3) := by decide +kernel
theorem dX1_isBlock_14 : decode cX1_isBlock 14 = .ok (.iconst 0, 1) := by decide +kernel
theorem dX1_isBlock_15 : decode cX1_isBlock 15 = .ok (.ireturn, 1) := by decide +kernel
theorem dX1_access_0 : decode cX1_access 0 = .ok (.aload_n 0, 1) := by decide +kernel
theorem dX1_access_1 : decode cX1_access 1 = .ok (.invokevirtual 62, 3) := by decide +kernel
theorem dX1_access_4 : decode cX1_access 4 = .ok (.bipush 7, 2) := by decide +kernel
theorem dX1_access_6 : decode cX1_access 6 = .ok (.iand, 1) := by decide +kernel
theorem dX1_access_7 : decode cX1_access 7 = .ok (.istore 4, 2) := by decide +kernel
theorem dX1_access_9 : decode cX1_access 9 = .ok (.aload_n 0, 1) := by decide +kernel
theorem dX1_access_10 : decode cX1_access 10 = .ok (.iload_n 1, 1) := by decide +kernel
theorem dX1_access_11 : decode cX1_access 11 = .ok (.iload 4, 2) := by decide +kernel
theorem dX1_access_13 : decode cX1_access 13 = .ok (.invokevirtual 106, 3) := by decide +kernel
theorem dX1_access_16 : decode cX1_access 16 = .ok (.istore 5, 2) := by decide +kernel
theorem dX1_access_18 : decode cX1_access 18 = .ok (.aload_n 0, 1) := by decide +kernel
theorem dX1_access_19 : decode cX1_access 19 = .ok (.iconst 0, 1) := by decide +kernel
theorem dX1_access_20 : decode cX1_access 20 = .ok (.putfield 88, 3) := by decide +kernel
theorem dX1_access_23 : decode cX1_access 23 = .ok (.aload_n 0, 1) := by decide +kernel
theorem dX1_access_24 : decode cX1_access 24 = .ok (.iload 5, 2) := by decide +kernel
theorem dX1_access_26 : decode cX1_access 26 = .ok (.invokevirtual 76, 3) := by decide +kernel
theorem dX1_access_29 : decode cX1_access 29 = .ok (.iconst 0, 1) := by decide +kernel
theorem dX1_access_30 : decode cX1_access 30 = .ok (.istore 6, 2) := by decide +kernel
theorem dX1_access_32 : decode cX1_access 32 = .ok (.iconst 0, 1) := by decide +kernel
theorem dX1_access_33 : decode cX1_access 33 = .ok (.istore 7, 2) := by decide +kernel
theorem dX1_access_35 : decode cX1_access 35 = .ok (.iload 7, 2) := by decide +kernel
theorem dX1_access_37 : decode cX1_access 37 = .ok (.aload_n 0, 1) := by decide +kernel
theorem dX1_access_38 : decode cX1_access 38 = .ok (.getfield 70, 3) := by decide +kernel
theorem dX1_access_41 : decode cX1_access 41 = .ok (.if_icmp .ge 55, 3) := by decide +kernel
theorem dX1_access_44 : decode cX1_access 44 = .ok (.aload_n 0, 1) := by decide +kernel
theorem dX1_access_45 : decode cX1_access 45 = .ok (.getfield 22, 3) := by decide +kernel
theorem dX1_access_48 : decode cX1_access 48 = .ok (.iload 7, 2) := by decide +kernel
theorem dX1_access_50 : decode cX1_access 50 = .ok (.iaload, 1) := by decide +kernel
theorem dX1_access_51 : decode cX1_access 51 = .ok (.iload_n 1, 1) := by decide +kernel
theorem dX1_access_52 : decode cX1_access 52 = .ok (.if_icmp .ne 38, 3) := by decide +kernel
theorem dX1_access_55 : decode cX1_access 55 = .ok (.aload_n 0, 1) := by decide +kernel
theorem dX1_access_56 : decode cX1_access 56 = .ok (.getfield 25, 3) := by decide +kernel
theorem dX1_access_59 : decode cX1_access 59 = .ok (.iload 7, 2) := by decide +kernel
theorem dX1_access_61 : decode cX1_access 61 = .ok (.iaload, 1) := by decide +kernel
theorem dX1_access_62 : decode cX1_access 62 = .ok (.istore 6, 2) := by decide +kernel
theorem dX1_access_64 : decode cX1_access 64 = .ok (.aload_n 0, 1) := by decide +kernel
theorem dX1_access_65 : decode cX1_access 65 = .ok (.getfield 25, 3) := by decide +kernel
theorem dX1_access_68 : decode cX1_access 68 = .ok (.iload 7, 2) := by decide +kernel
theorem dX1_access_70 : decode cX1_access 70 = .ok (.iload_n 2, 1) := by decide +kernel
theorem dX1_access_71 : decode cX1_access 71 = .ok (.ifCond .eq 7, 3) := by decide +kernel
theorem dX1_access_74 : decode cX1_access 74 = .ok (.iload_n 3, 1) := by decide +kernel
theorem dX1_access_75 : decode cX1_access 75 = .ok (.goto 5, 3) := by decide +kernel
theorem dX1_access_78 : decode cX1_access 78 = .ok (.iload 6, 2) := by decide +kernel
theorem dX1_access_80 : decode cX1_access 80 = .ok (.iastore, 1) := by decide +kernel
theorem dX1_access_81 : decode cX1_access 81 = .ok (.aload_n 0, 1) := by decide +kernel
theorem dX1_access_82 : decode cX1_access 82 = .ok (.getfield 28, 3) := by decide +kernel
theorem dX1_access_85 : decode cX1_access 85 = .ok (.iload 7, 2) := by decide +kernel
theorem dX1_access_87 : decode cX1_access 87 = .ok (.iload 4, 2) := by decide +kernel
theorem dX1_access_89 : decode cX1_access 89 = .ok (.iastore, 1) := by decide +kernel
theorem dX1_access_90 : decode cX1_access 90 = .ok (.iinc 7 1, 3) := by decide +kernel
theorem dX1_access_93 : decode cX1_access 93 = .ok (.goto (-58), 3) := by decide +kernel
theorem dX1_access_96 : decode cX1_access 96 = .ok (.aload_n 0, 1) := by decide +kernel
theorem dX1_access_97 : decode cX1_access 97 = .ok (.iload 5, 2) := by decide +kernel
theorem dX1_access_99 : decode cX1_access 99 = .ok (.invokevirtual 79, 3) := by decide +kernel
theorem dX1_access_102 : decode cX1_access 102 = .ok (.iload 6, 2) := by decide +kernel
theorem dX1_access_104 : decode cX1_access 104 = .ok (.ireturn, 1) := by decide +kernel
theorem dX1_leafOf_0 : decode cX1_leafOf 0 = .ok (.iload_n 1, 1) := by decide +kernel
theorem dX1_leafOf_1 : decode cX1_leafOf 1 = .ok (.iconst 2, 1) := by decide +kernel
theorem dX1_leafOf_2 : decode cX1_leafOf 2 = .ok (.ishr, 1) := by decide +kernel
theorem dX1_leafOf_3 : decode cX1_leafOf 3 = .ok (.istore_n 3, 1) := by decide +kernel
theorem dX1_leafOf_4 : decode cX1_leafOf 4 = .ok (.iconst 3, 1) := by decide +kernel
theorem dX1_leafOf_5 : decode cX1_leafOf 5 = .ok (.iload_n 1, 1) := by decide +kernel
theorem dX1_leafOf_6 : decode cX1_leafOf 6 = .ok (.iconst 3, 1) := by decide +kernel
theorem dX1_leafOf_7 : decode cX1_leafOf 7 = .ok (.iand, 1) := by decide +kernel
theorem dX1_leafOf_8 : decode cX1_leafOf 8 = .ok (.imul, 1) := by decide +kernel
theorem dX1_leafOf_9 : decode cX1_leafOf 9 = .ok (.istore 4, 2) := by decide +kernel
theorem dX1_leafOf_11 : decode cX1_leafOf 11 = .ok (.aload_n 0, 1) := by decide +kernel
theorem dX1_leafOf_12 : decode cX1_leafOf 12 = .ok (.getfield 49, 3) := by decide +kernel
theorem dX1_leafOf_15 : decode cX1_leafOf 15 = .ok (.iload_n 3, 1) := by decide +kernel
theorem dX1_leafOf_16 : decode cX1_leafOf 16 = .ok (.iaload, 1) := by decide +kernel
theorem dX1_leafOf_17 : decode cX1_leafOf 17 = .ok (.istore 5, 2) := by decide +kernel
theorem dX1_leafOf_19 : decode cX1_leafOf 19 = .ok (.aload_n 0, 1) := by decide +kernel
theorem dX1_leafOf_20 : decode cX1_leafOf 20 = .ok (.getfield 49, 3) := by decide +kernel
theorem dX1_leafOf_23 : decode cX1_leafOf 23 = .ok (.iload_n 3, 1) := by decide +kernel
theorem dX1_leafOf_24 : decode cX1_leafOf 24 = .ok (.aload_n 0, 1) := by decide +kernel
theorem dX1_leafOf_25 : decode cX1_leafOf 25 = .ok (.invokevirtual 62, 3) := by decide +kernel
theorem dX1_leafOf_28 : decode cX1_leafOf 28 = .ok (.iconst 3, 1) := by decide +kernel
theorem dX1_leafOf_29 : decode cX1_leafOf 29 = .ok (.iand, 1) := by decide +kernel
theorem dX1_leafOf_30 : decode cX1_leafOf 30 = .ok (.iastore, 1) := by decide +kernel
theorem dX1_leafOf_31 : decode cX1_leafOf 31 = .ok (.aload_n 0, 1) := by decide +kernel
theorem dX1_leafOf_32 : decode cX1_leafOf 32 = .ok (.iload 5, 2) := by decide +kernel
theorem dX1_leafOf_34 : decode cX1_leafOf 34 = .ok (.invokevirtual 82, 3) := by decide +kernel
theorem dX1_leafOf_37 : decode cX1_leafOf 37 = .ok (.iconst 0, 1) := by decide +kernel
theorem dX1_leafOf_38 : decode cX1_leafOf 38 = .ok (.istore 6, 2) := by decide +kernel
theorem dX1_leafOf_40 : decode cX1_leafOf 40 = .ok (.iconst 0, 1) := by decide +kernel
theorem dX1_leafOf_41 : decode cX1_leafOf 41 = .ok (.istore 7, 2) := by decide +kernel
theorem dX1_leafOf_43 : decode cX1_leafOf 43 = .ok (.iload 7, 2) := by decide +kernel
theorem dX1_leafOf_45 : decode cX1_leafOf 45 = .ok (.aload_n 0, 1) := by decide +kernel
theorem dX1_leafOf_46 : decode cX1_leafOf 46 = .ok (.getfield 73, 3) := by decide +kernel
theorem dX1_leafOf_49 : decode cX1_leafOf 49 = .ok (.if_icmp .ge 79, 3) := by decide +kernel
theorem dX1_leafOf_52 : decode cX1_leafOf 52 = .ok (.aload_n 0, 1) := by decide +kernel
theorem dX1_leafOf_53 : decode cX1_leafOf 53 = .ok (.getfield 40, 3) := by decide +kernel
theorem dX1_leafOf_56 : decode cX1_leafOf 56 = .ok (.iload 7, 2) := by decide +kernel
theorem dX1_leafOf_58 : decode cX1_leafOf 58 = .ok (.iaload, 1) := by decide +kernel
theorem dX1_leafOf_59 : decode cX1_leafOf 59 = .ok (.iload_n 3, 1) := by decide +kernel
theorem dX1_leafOf_60 : decode cX1_leafOf 60 = .ok (.if_icmp .ne 62, 3) := by decide +kernel
theorem dX1_leafOf_63 : decode cX1_leafOf 63 = .ok (.aload_n 0, 1) := by decide +kernel
theorem dX1_leafOf_64 : decode cX1_leafOf 64 = .ok (.getfield 43, 3) := by decide +kernel
theorem dX1_leafOf_67 : decode cX1_leafOf 67 = .ok (.iload 7, 2) := by decide +kernel
theorem dX1_leafOf_69 : decode cX1_leafOf 69 = .ok (.iaload, 1) := by decide +kernel
theorem dX1_leafOf_70 : decode cX1_leafOf 70 = .ok (.istore 8, 2) := by decide +kernel
theorem dX1_leafOf_72 : decode cX1_leafOf 72 = .ok (.iload 8, 2) := by decide +kernel
theorem dX1_leafOf_74 : decode cX1_leafOf 74 = .ok (.iload 4, 2) := by decide +kernel
theorem dX1_leafOf_76 : decode cX1_leafOf 76 = .ok (.ishr, 1) := by decide +kernel
theorem dX1_leafOf_77 : decode cX1_leafOf 77 = .ok (.bipush 7, 2) := by decide +kernel
theorem dX1_leafOf_79 : decode cX1_leafOf 79 = .ok (.iand, 1) := by decide +kernel
theorem dX1_leafOf_80 : decode cX1_leafOf 80 = .ok (.istore 6, 2) := by decide +kernel
theorem dX1_leafOf_82 : decode cX1_leafOf 82 = .ok (.iload_n 2, 1) := by decide +kernel
theorem dX1_leafOf_83 : decode cX1_leafOf 83 = .ok (.iconst (-1), 1) := by decide +kernel
theorem dX1_leafOf_84 : decode cX1_leafOf 84 = .ok (.if_icmp .eq 25, 3) := by decide +kernel
theorem dX1_leafOf_87 : decode cX1_leafOf 87 = .ok (.aload_n 0, 1) := by decide +kernel
theorem dX1_leafOf_88 : decode cX1_leafOf 88 = .ok (.getfield 43, 3) := by decide +kernel
theorem dX1_leafOf_91 : decode cX1_leafOf 91 = .ok (.iload 7, 2) := by decide +kernel
theorem dX1_leafOf_93 : decode cX1_leafOf 93 = .ok (.iload 8, 2) := by decide +kernel
theorem dX1_leafOf_95 : decode cX1_leafOf 95 = .ok (.bipush 7, 2) := by decide +kernel
theorem dX1_leafOf_97 : decode cX1_leafOf 97 = .ok (.iload 4, 2) := by decide +kernel
theorem dX1_leafOf_99 : decode cX1_leafOf 99 = .ok (.ishl, 1) := by decide +kernel
theorem dX1_leafOf_100 : decode cX1_leafOf 100 = .ok (.iconst (-1), 1) := by decide +kernel
theorem dX1_leafOf_101 : decode cX1_leafOf 101 = .ok (.ixor, 1) := by decide +kernel
theorem dX1_leafOf_102 : decode cX1_leafOf 102 = .ok (.iand, 1) := by decide +kernel
theorem dX1_leafOf_103 : decode cX1_leafOf 103 = .ok (.iload_n 2, 1) := by decide +kernel
theorem dX1_leafOf_104 : decode cX1_leafOf 104 = .ok (.iload 4, 2) := by decide +kernel
theorem dX1_leafOf_106 : decode cX1_leafOf 106 = .ok (.ishl, 1) := by decide +kernel
theorem dX1_leafOf_107 : decode cX1_leafOf 107 = .ok (.ior, 1) := by decide +kernel
theorem dX1_leafOf_108 : decode cX1_leafOf 108 = .ok (.iastore, 1) := by decide +kernel
theorem dX1_leafOf_109 : decode cX1_leafOf 109 = .ok (.aload_n 0, 1) := by decide +kernel
theorem dX1_leafOf_110 : decode cX1_leafOf 110 = .ok (.getfield 46, 3) := by decide +kernel
theorem dX1_leafOf_113 : decode cX1_leafOf 113 = .ok (.iload 7, 2) := by decide +kernel
theorem dX1_leafOf_115 : decode cX1_leafOf 115 = .ok (.aload_n 0, 1) := by decide +kernel
theorem dX1_leafOf_116 : decode cX1_leafOf 116 = .ok (.getfield 49, 3) := by decide +kernel
theorem dX1_leafOf_119 : decode cX1_leafOf 119 = .ok (.iload_n 3, 1) := by decide +kernel
theorem dX1_leafOf_120 : decode cX1_leafOf 120 = .ok (.iaload, 1) := by decide +kernel
theorem dX1_leafOf_121 : decode cX1_leafOf 121 = .ok (.iastore, 1) := by decide +kernel
theorem dX1_leafOf_122 : decode cX1_leafOf 122 = .ok (.iinc 7 1, 3) := by decide +kernel
theorem dX1_leafOf_125 : decode cX1_leafOf 125 = .ok (.goto (-82), 3) := by decide +kernel
theorem dX1_leafOf_128 : decode cX1_leafOf 128 = .ok (.aload_n 0, 1) := by decide +kernel
theorem dX1_leafOf_129 : decode cX1_leafOf 129 = .ok (.iload 5, 2) := by decide +kernel
theorem dX1_leafOf_131 : decode cX1_leafOf 131 = .ok (.invokevirtual 85, 3) := by decide +kernel
theorem dX1_leafOf_134 : decode cX1_leafOf 134 = .ok (.iload 6, 2) := by decide +kernel
theorem dX1_leafOf_136 : decode cX1_leafOf 136 = .ok (.ireturn, 1) := by decide +kernel
theorem dX1_write_0 : decode cX1_write 0 = .ok (.iload_n 1, 1) := by decide +kernel
theorem dX1_write_1 : decode cX1_write 1 = .ok (.invokestatic 95, 3) := by decide +kernel
theorem dX1_write_4 : decode cX1_write 4 = .ok (.ifCond .ne 5, 3) := by decide +kernel
theorem dX1_write_7 : decode cX1_write 7 = .ok (.iconst (-1), 1) := by decide +kernel
theorem dX1_write_8 : decode cX1_write 8 = .ok (.ireturn, 1) := by decide +kernel
theorem dX1_write_9 : decode cX1_write 9 = .ok (.aload_n 0, 1) := by decide +kernel
theorem dX1_write_10 : decode cX1_write 10 = .ok (.iload_n 1, 1) := by decide +kernel
theorem dX1_write_11 : decode cX1_write 11 = .ok (.iconst 1, 1) := by decide +kernel
theorem dX1_write_12 : decode cX1_write 12 = .ok (.iload_n 2, 1) := by decide +kernel
theorem dX1_write_13 : decode cX1_write 13 = .ok (.invokevirtual 99, 3) := by decide +kernel
theorem dX1_write_16 : decode cX1_write 16 = .ok (.pop, 1) := by decide +kernel
theorem dX1_write_17 : decode cX1_write 17 = .ok (.iconst 0, 1) := by decide +kernel
theorem dX1_write_18 : decode cX1_write 18 = .ok (.ireturn, 1) := by decide +kernel
theorem dX1_add_0 : decode cX1_add 0 = .ok (.iload_n 1, 1) := by decide +kernel
theorem dX1_add_1 : decode cX1_add 1 = .ok (.invokestatic 95, 3) := by decide +kernel
theorem dX1_add_4 : decode cX1_add 4 = .ok (.ifCond .ne 5, 3) := by decide +kernel
theorem dX1_add_7 : decode cX1_add 7 = .ok (.iconst 0, 1) := by decide +kernel
theorem dX1_add_8 : decode cX1_add 8 = .ok (.ireturn, 1) := by decide +kernel
end
section
set_option maxRecDepth 100000
theorem dX1_add_9 : decode cX1_add 9 = .ok (.aload_n 0, 1) := by decide +kernel
theorem dX1_add_10 : decode cX1_add 10 = .ok (.iload_n 1, 1) := by decide +kernel
theorem dX1_add_11 : decode cX1_add 11 = .ok (.iconst 0, 1) := by decide +kernel
theorem dX1_add_12 : decode cX1_add 12 = .ok (.iconst 0, 1) := by decide +kernel
theorem dX1_add_13 : decode cX1_add 13 = .ok (.invokevirtual 99, 3) := by decide +kernel
theorem dX1_add_16 : decode cX1_add 16 = .ok (.iload_n 2, 1) := by decide +kernel
theorem dX1_add_17 : decode cX1_add 17 = .ok (.iadd, 1) := by decide +kernel
theorem dX1_add_18 : decode cX1_add 18 = .ok (.istore_n 3, 1) := by decide +kernel
theorem dX1_add_19 : decode cX1_add 19 = .ok (.aload_n 0, 1) := by decide +kernel
theorem dX1_add_20 : decode cX1_add 20 = .ok (.iload_n 1, 1) := by decide +kernel
theorem dX1_add_21 : decode cX1_add 21 = .ok (.iconst 1, 1) := by decide +kernel
theorem dX1_add_22 : decode cX1_add 22 = .ok (.iload_n 3, 1) := by decide +kernel
theorem dX1_add_23 : decode cX1_add 23 = .ok (.invokevirtual 99, 3) := by decide +kernel
theorem dX1_add_26 : decode cX1_add 26 = .ok (.pop, 1) := by decide +kernel
theorem dX1_add_27 : decode cX1_add 27 = .ok (.iload_n 3, 1) := by decide +kernel
theorem dX1_add_28 : decode cX1_add 28 = .ok (.ireturn, 1) := by decide +kernel
theorem dX1_exchange_0 : decode cX1_exchange 0 = .ok (.iload_n 1, 1) := by decide +kernel
theorem dX1_exchange_1 : decode cX1_exchange 1 = .ok (.invokestatic 95, 3) := by decide +kernel
theorem dX1_exchange_4 : decode cX1_exchange 4 = .ok (.ifCond .eq 10, 3) := by decide +kernel
theorem dX1_exchange_7 : decode cX1_exchange 7 = .ok (.iload_n 2, 1) := by decide +kernel
theorem dX1_exchange_8 : decode cX1_exchange 8 = .ok (.invokestatic 95, 3) := by decide +kernel
theorem dX1_exchange_11 : decode cX1_exchange 11 = .ok (.ifCond .ne 5, 3) := by decide +kernel
theorem dX1_exchange_14 : decode cX1_exchange 14 = .ok (.iconst (-1), 1) := by decide +kernel
theorem dX1_exchange_15 : decode cX1_exchange 15 = .ok (.ireturn, 1) := by decide +kernel
theorem dX1_exchange_16 : decode cX1_exchange 16 = .ok (.aload_n 0, 1) := by decide +kernel
theorem dX1_exchange_17 : decode cX1_exchange 17 = .ok (.iload_n 1, 1) := by decide +kernel
theorem dX1_exchange_18 : decode cX1_exchange 18 = .ok (.iconst 0, 1) := by decide +kernel
theorem dX1_exchange_19 : decode cX1_exchange 19 = .ok (.iconst 0, 1) := by decide +kernel
theorem dX1_exchange_20 : decode cX1_exchange 20 = .ok (.invokevirtual 99, 3) := by decide +kernel
theorem dX1_exchange_23 : decode cX1_exchange 23 = .ok (.istore_n 3, 1) := by decide +kernel
theorem dX1_exchange_24 : decode cX1_exchange 24 = .ok (.aload_n 0, 1) := by decide +kernel
theorem dX1_exchange_25 : decode cX1_exchange 25 = .ok (.iload_n 2, 1) := by decide +kernel
theorem dX1_exchange_26 : decode cX1_exchange 26 = .ok (.iconst 1, 1) := by decide +kernel
theorem dX1_exchange_27 : decode cX1_exchange 27 = .ok (.iload_n 3, 1) := by decide +kernel
theorem dX1_exchange_28 : decode cX1_exchange 28 = .ok (.invokevirtual 99, 3) := by decide +kernel
theorem dX1_exchange_31 : decode cX1_exchange 31 = .ok (.istore 4, 2) := by decide +kernel
theorem dX1_exchange_33 : decode cX1_exchange 33 = .ok (.aload_n 0, 1) := by decide +kernel
theorem dX1_exchange_34 : decode cX1_exchange 34 = .ok (.iload_n 1, 1) := by decide +kernel
theorem dX1_exchange_35 : decode cX1_exchange 35 = .ok (.iconst 1, 1) := by decide +kernel
theorem dX1_exchange_36 : decode cX1_exchange 36 = .ok (.iload 4, 2) := by decide +kernel
theorem dX1_exchange_38 : decode cX1_exchange 38 = .ok (.invokevirtual 99, 3) := by decide +kernel
theorem dX1_exchange_41 : decode cX1_exchange 41 = .ok (.pop, 1) := by decide +kernel
theorem dX1_exchange_42 : decode cX1_exchange 42 = .ok (.iconst 0, 1) := by decide +kernel
theorem dX1_exchange_43 : decode cX1_exchange 43 = .ok (.ireturn, 1) := by decide +kernel
theorem dX1_copy_0 : decode cX1_copy 0 = .ok (.iload_n 1, 1) := by decide +kernel
theorem dX1_copy_1 : decode cX1_copy 1 = .ok (.invokestatic 95, 3) := by decide +kernel
theorem dX1_copy_4 : decode cX1_copy 4 = .ok (.ifCond .eq 10, 3) := by decide +kernel
theorem dX1_copy_7 : decode cX1_copy 7 = .ok (.iload_n 2, 1) := by decide +kernel
theorem dX1_copy_8 : decode cX1_copy 8 = .ok (.invokestatic 95, 3) := by decide +kernel
theorem dX1_copy_11 : decode cX1_copy 11 = .ok (.ifCond .ne 5, 3) := by decide +kernel
theorem dX1_copy_14 : decode cX1_copy 14 = .ok (.iconst (-1), 1) := by decide +kernel
theorem dX1_copy_15 : decode cX1_copy 15 = .ok (.ireturn, 1) := by decide +kernel
theorem dX1_copy_16 : decode cX1_copy 16 = .ok (.aload_n 0, 1) := by decide +kernel
theorem dX1_copy_17 : decode cX1_copy 17 = .ok (.iload_n 1, 1) := by decide +kernel
theorem dX1_copy_18 : decode cX1_copy 18 = .ok (.iconst 0, 1) := by decide +kernel
theorem dX1_copy_19 : decode cX1_copy 19 = .ok (.iconst 0, 1) := by decide +kernel
theorem dX1_copy_20 : decode cX1_copy 20 = .ok (.invokevirtual 99, 3) := by decide +kernel
theorem dX1_copy_23 : decode cX1_copy 23 = .ok (.istore_n 3, 1) := by decide +kernel
theorem dX1_copy_24 : decode cX1_copy 24 = .ok (.aload_n 0, 1) := by decide +kernel
theorem dX1_copy_25 : decode cX1_copy 25 = .ok (.iload_n 2, 1) := by decide +kernel
theorem dX1_copy_26 : decode cX1_copy 26 = .ok (.iconst 1, 1) := by decide +kernel
theorem dX1_copy_27 : decode cX1_copy 27 = .ok (.iload_n 3, 1) := by decide +kernel
theorem dX1_copy_28 : decode cX1_copy 28 = .ok (.invokevirtual 99, 3) := by decide +kernel
theorem dX1_copy_31 : decode cX1_copy 31 = .ok (.pop, 1) := by decide +kernel
theorem dX1_copy_32 : decode cX1_copy 32 = .ok (.iconst 0, 1) := by decide +kernel
theorem dX1_copy_33 : decode cX1_copy 33 = .ok (.ireturn, 1) := by decide +kernel
theorem dX1_fill_0 : decode cX1_fill 0 = .ok (.iload_n 2, 1) := by decide +kernel
theorem dX1_fill_1 : decode cX1_fill 1 = .ok (.iconst 1, 1) := by decide +kernel
theorem dX1_fill_2 : decode cX1_fill 2 = .ok (.if_icmp .lt 9, 3) := by decide +kernel
theorem dX1_fill_5 : decode cX1_fill 5 = .ok (.iload_n 2, 1) := by decide +kernel
theorem dX1_fill_6 : decode cX1_fill 6 = .ok (.bipush 16, 2) := by decide +kernel
theorem dX1_fill_8 : decode cX1_fill 8 = .ok (.if_icmp .le 5, 3) := by decide +kernel
theorem dX1_fill_11 : decode cX1_fill 11 = .ok (.iconst (-1), 1) := by decide +kernel
theorem dX1_fill_12 : decode cX1_fill 12 = .ok (.ireturn, 1) := by decide +kernel
theorem dX1_fill_13 : decode cX1_fill 13 = .ok (.iload_n 1, 1) := by decide +kernel
theorem dX1_fill_14 : decode cX1_fill 14 = .ok (.ifCond .lt 11, 3) := by decide +kernel
theorem dX1_fill_17 : decode cX1_fill 17 = .ok (.iload_n 1, 1) := by decide +kernel
theorem dX1_fill_18 : decode cX1_fill 18 = .ok (.bipush 16, 2) := by decide +kernel
theorem dX1_fill_20 : decode cX1_fill 20 = .ok (.iload_n 2, 1) := by decide +kernel
theorem dX1_fill_21 : decode cX1_fill 21 = .ok (.isub, 1) := by decide +kernel
theorem dX1_fill_22 : decode cX1_fill 22 = .ok (.if_icmp .le 6, 3) := by decide +kernel
theorem dX1_fill_25 : decode cX1_fill 25 = .ok (.bipush (-2), 2) := by decide +kernel
theorem dX1_fill_27 : decode cX1_fill 27 = .ok (.ireturn, 1) := by decide +kernel
theorem dX1_fill_28 : decode cX1_fill 28 = .ok (.iconst 0, 1) := by decide +kernel
theorem dX1_fill_29 : decode cX1_fill 29 = .ok (.istore 5, 2) := by decide +kernel
theorem dX1_fill_31 : decode cX1_fill 31 = .ok (.iload 5, 2) := by decide +kernel
theorem dX1_fill_33 : decode cX1_fill 33 = .ok (.iload_n 2, 1) := by decide +kernel
theorem dX1_fill_34 : decode cX1_fill 34 = .ok (.if_icmp .ge 26, 3) := by decide +kernel
theorem dX1_fill_37 : decode cX1_fill 37 = .ok (.aload_n 0, 1) := by decide +kernel
theorem dX1_fill_38 : decode cX1_fill 38 = .ok (.iload_n 1, 1) := by decide +kernel
theorem dX1_fill_39 : decode cX1_fill 39 = .ok (.iload 5, 2) := by decide +kernel
theorem dX1_fill_41 : decode cX1_fill 41 = .ok (.iadd, 1) := by decide +kernel
theorem dX1_fill_42 : decode cX1_fill 42 = .ok (.iconst 1, 1) := by decide +kernel
theorem dX1_fill_43 : decode cX1_fill 43 = .ok (.iload_n 3, 1) := by decide +kernel
theorem dX1_fill_44 : decode cX1_fill 44 = .ok (.iload 5, 2) := by decide +kernel
theorem dX1_fill_46 : decode cX1_fill 46 = .ok (.iload 4, 2) := by decide +kernel
theorem dX1_fill_48 : decode cX1_fill 48 = .ok (.imul, 1) := by decide +kernel
theorem dX1_fill_49 : decode cX1_fill 49 = .ok (.iadd, 1) := by decide +kernel
theorem dX1_fill_50 : decode cX1_fill 50 = .ok (.invokevirtual 99, 3) := by decide +kernel
theorem dX1_fill_53 : decode cX1_fill 53 = .ok (.pop, 1) := by decide +kernel
theorem dX1_fill_54 : decode cX1_fill 54 = .ok (.iinc 5 1, 3) := by decide +kernel
theorem dX1_fill_57 : decode cX1_fill 57 = .ok (.goto (-26), 3) := by decide +kernel
theorem dX1_fill_60 : decode cX1_fill 60 = .ok (.iconst 0, 1) := by decide +kernel
theorem dX1_fill_61 : decode cX1_fill 61 = .ok (.ireturn, 1) := by decide +kernel
theorem dX1_rotate_0 : decode cX1_rotate 0 = .ok (.aload_n 0, 1) := by decide +kernel
theorem dX1_rotate_1 : decode cX1_rotate 1 = .ok (.invokevirtual 103, 3) := by decide +kernel
theorem dX1_rotate_4 : decode cX1_rotate 4 = .ok (.iconst 0, 1) := by decide +kernel
theorem dX1_rotate_5 : decode cX1_rotate 5 = .ok (.istore_n 2, 1) := by decide +kernel
theorem dX1_rotate_6 : decode cX1_rotate 6 = .ok (.iload_n 2, 1) := by decide +kernel
theorem dX1_rotate_7 : decode cX1_rotate 7 = .ok (.bipush 16, 2) := by decide +kernel
theorem dX1_rotate_9 : decode cX1_rotate 9 = .ok (.if_icmp .ge 27, 3) := by decide +kernel
theorem dX1_rotate_12 : decode cX1_rotate 12 = .ok (.aload_n 0, 1) := by decide +kernel
theorem dX1_rotate_13 : decode cX1_rotate 13 = .ok (.iload_n 2, 1) := by decide +kernel
theorem dX1_rotate_14 : decode cX1_rotate 14 = .ok (.iconst 1, 1) := by decide +kernel
theorem dX1_rotate_15 : decode cX1_rotate 15 = .ok (.aload_n 0, 1) := by decide +kernel
theorem dX1_rotate_16 : decode cX1_rotate 16 = .ok (.getfield 55, 3) := by decide +kernel
theorem dX1_rotate_19 : decode cX1_rotate 19 = .ok (.iload_n 2, 1) := by decide +kernel
theorem dX1_rotate_20 : decode cX1_rotate 20 = .ok (.iload_n 1, 1) := by decide +kernel
theorem dX1_rotate_21 : decode cX1_rotate 21 = .ok (.iadd, 1) := by decide +kernel
theorem dX1_rotate_22 : decode cX1_rotate 22 = .ok (.bipush 15, 2) := by decide +kernel
theorem dX1_rotate_24 : decode cX1_rotate 24 = .ok (.iand, 1) := by decide +kernel
theorem dX1_rotate_25 : decode cX1_rotate 25 = .ok (.iaload, 1) := by decide +kernel
theorem dX1_rotate_26 : decode cX1_rotate 26 = .ok (.invokevirtual 99, 3) := by decide +kernel
theorem dX1_rotate_29 : decode cX1_rotate 29 = .ok (.pop, 1) := by decide +kernel
theorem dX1_rotate_30 : decode cX1_rotate 30 = .ok (.iinc 2 1, 3) := by decide +kernel
theorem dX1_rotate_33 : decode cX1_rotate 33 = .ok (.goto (-27), 3) := by decide +kernel
theorem dX1_rotate_36 : decode cX1_rotate 36 = .ok (.iconst 0, 1) := by decide +kernel
theorem dX1_rotate_37 : decode cX1_rotate 37 = .ok (.ireturn, 1) := by decide +kernel
theorem dX1_gather_0 : decode cX1_gather 0 = .ok (.iconst 0, 1) := by decide +kernel
theorem dX1_gather_1 : decode cX1_gather 1 = .ok (.istore_n 1, 1) := by decide +kernel
theorem dX1_gather_2 : decode cX1_gather 2 = .ok (.iload_n 1, 1) := by decide +kernel
theorem dX1_gather_3 : decode cX1_gather 3 = .ok (.bipush 16, 2) := by decide +kernel
theorem dX1_gather_5 : decode cX1_gather 5 = .ok (.if_icmp .ge 22, 3) := by decide +kernel
theorem dX1_gather_8 : decode cX1_gather 8 = .ok (.aload_n 0, 1) := by decide +kernel
theorem dX1_gather_9 : decode cX1_gather 9 = .ok (.getfield 55, 3) := by decide +kernel
theorem dX1_gather_12 : decode cX1_gather 12 = .ok (.iload_n 1, 1) := by decide +kernel
theorem dX1_gather_13 : decode cX1_gather 13 = .ok (.aload_n 0, 1) := by decide +kernel
theorem dX1_gather_14 : decode cX1_gather 14 = .ok (.iload_n 1, 1) := by decide +kernel
theorem dX1_gather_15 : decode cX1_gather 15 = .ok (.iconst 0, 1) := by decide +kernel
theorem dX1_gather_16 : decode cX1_gather 16 = .ok (.iconst 0, 1) := by decide +kernel
theorem dX1_gather_17 : decode cX1_gather 17 = .ok (.invokevirtual 99, 3) := by decide +kernel
theorem dX1_gather_20 : decode cX1_gather 20 = .ok (.iastore, 1) := by decide +kernel
theorem dX1_gather_21 : decode cX1_gather 21 = .ok (.iinc 1 1, 3) := by decide +kernel
theorem dX1_gather_24 : decode cX1_gather 24 = .ok (.goto (-22), 3) := by decide +kernel
theorem dX1_gather_27 : decode cX1_gather 27 = .ok (.return_, 1) := by decide +kernel
theorem dX1_sum_0 : decode cX1_sum 0 = .ok (.aload_n 0, 1) := by decide +kernel
theorem dX1_sum_1 : decode cX1_sum 1 = .ok (.invokevirtual 103, 3) := by decide +kernel
theorem dX1_sum_4 : decode cX1_sum 4 = .ok (.iconst 0, 1) := by decide +kernel
theorem dX1_sum_5 : decode cX1_sum 5 = .ok (.istore_n 1, 1) := by decide +kernel
theorem dX1_sum_6 : decode cX1_sum 6 = .ok (.iconst 0, 1) := by decide +kernel
theorem dX1_sum_7 : decode cX1_sum 7 = .ok (.istore_n 2, 1) := by decide +kernel
theorem dX1_sum_8 : decode cX1_sum 8 = .ok (.iload_n 2, 1) := by decide +kernel
theorem dX1_sum_9 : decode cX1_sum 9 = .ok (.bipush 16, 2) := by decide +kernel
theorem dX1_sum_11 : decode cX1_sum 11 = .ok (.if_icmp .ge 18, 3) := by decide +kernel
theorem dX1_sum_14 : decode cX1_sum 14 = .ok (.iload_n 1, 1) := by decide +kernel
theorem dX1_sum_15 : decode cX1_sum 15 = .ok (.aload_n 0, 1) := by decide +kernel
theorem dX1_sum_16 : decode cX1_sum 16 = .ok (.getfield 55, 3) := by decide +kernel
theorem dX1_sum_19 : decode cX1_sum 19 = .ok (.iload_n 2, 1) := by decide +kernel
theorem dX1_sum_20 : decode cX1_sum 20 = .ok (.iaload, 1) := by decide +kernel
theorem dX1_sum_21 : decode cX1_sum 21 = .ok (.iadd, 1) := by decide +kernel
theorem dX1_sum_22 : decode cX1_sum 22 = .ok (.istore_n 1, 1) := by decide +kernel
theorem dX1_sum_23 : decode cX1_sum 23 = .ok (.iinc 2 1, 3) := by decide +kernel
theorem dX1_sum_26 : decode cX1_sum 26 = .ok (.goto (-18), 3) := by decide +kernel
theorem dX1_sum_29 : decode cX1_sum 29 = .ok (.iload_n 1, 1) := by decide +kernel
theorem dX1_sum_30 : decode cX1_sum 30 = .ok (.ireturn, 1) := by decide +kernel
theorem dX1_find_0 : decode cX1_find 0 = .ok (.iload_n 2, 1) := by decide +kernel
theorem dX1_find_1 : decode cX1_find 1 = .ok (.invokestatic 95, 3) := by decide +kernel
theorem dX1_find_4 : decode cX1_find 4 = .ok (.ifCond .ne 5, 3) := by decide +kernel
theorem dX1_find_7 : decode cX1_find 7 = .ok (.iconst (-1), 1) := by decide +kernel
theorem dX1_find_8 : decode cX1_find 8 = .ok (.ireturn, 1) := by decide +kernel
theorem dX1_find_9 : decode cX1_find 9 = .ok (.iload_n 2, 1) := by decide +kernel
theorem dX1_find_10 : decode cX1_find 10 = .ok (.istore_n 3, 1) := by decide +kernel
theorem dX1_find_11 : decode cX1_find 11 = .ok (.iload_n 3, 1) := by decide +kernel
theorem dX1_find_12 : decode cX1_find 12 = .ok (.bipush 16, 2) := by decide +kernel
theorem dX1_find_14 : decode cX1_find 14 = .ok (.if_icmp .ge 26, 3) := by decide +kernel
theorem dX1_find_17 : decode cX1_find 17 = .ok (.aload_n 0, 1) := by decide +kernel
theorem dX1_find_18 : decode cX1_find 18 = .ok (.iload_n 3, 1) := by decide +kernel
theorem dX1_find_19 : decode cX1_find 19 = .ok (.iconst 0, 1) := by decide +kernel
theorem dX1_find_20 : decode cX1_find 20 = .ok (.iconst 0, 1) := by decide +kernel
theorem dX1_find_21 : decode cX1_find 21 = .ok (.invokevirtual 99, 3) := by decide +kernel
theorem dX1_find_24 : decode cX1_find 24 = .ok (.istore 4, 2) := by decide +kernel
theorem dX1_find_26 : decode cX1_find 26 = .ok (.iload 4, 2) := by decide +kernel
theorem dX1_find_28 : decode cX1_find 28 = .ok (.iload_n 1, 1) := by decide +kernel
theorem dX1_find_29 : decode cX1_find 29 = .ok (.if_icmp .ne 5, 3) := by decide +kernel
theorem dX1_find_32 : decode cX1_find 32 = .ok (.iload_n 3, 1) := by decide +kernel
theorem dX1_find_33 : decode cX1_find 33 = .ok (.ireturn, 1) := by decide +kernel
theorem dX1_find_34 : decode cX1_find 34 = .ok (.iinc 3 1, 3) := by decide +kernel
theorem dX1_find_37 : decode cX1_find 37 = .ok (.goto (-26), 3) := by decide +kernel
theorem dX1_find_40 : decode cX1_find 40 = .ok (.bipush (-2), 2) := by decide +kernel
theorem dX1_find_42 : decode cX1_find 42 = .ok (.ireturn, 1) := by decide +kernel
theorem dX1_below_0 : decode cX1_below 0 = .ok (.aload_n 0, 1) := by decide +kernel
theorem dX1_below_1 : decode cX1_below 1 = .ok (.invokevirtual 103, 3) := by decide +kernel
theorem dX1_below_4 : decode cX1_below 4 = .ok (.iconst 0, 1) := by decide +kernel
theorem dX1_below_5 : decode cX1_below 5 = .ok (.istore_n 2, 1) := by decide +kernel
theorem dX1_below_6 : decode cX1_below 6 = .ok (.iconst 0, 1) := by decide +kernel
theorem dX1_below_7 : decode cX1_below 7 = .ok (.istore_n 3, 1) := by decide +kernel
theorem dX1_below_8 : decode cX1_below 8 = .ok (.iload_n 3, 1) := by decide +kernel
theorem dX1_below_9 : decode cX1_below 9 = .ok (.bipush 16, 2) := by decide +kernel
theorem dX1_below_11 : decode cX1_below 11 = .ok (.if_icmp .ge 22, 3) := by decide +kernel
theorem dX1_below_14 : decode cX1_below 14 = .ok (.aload_n 0, 1) := by decide +kernel
theorem dX1_below_15 : decode cX1_below 15 = .ok (.getfield 55, 3) := by decide +kernel
theorem dX1_below_18 : decode cX1_below 18 = .ok (.iload_n 3, 1) := by decide +kernel
theorem dX1_below_19 : decode cX1_below 19 = .ok (.iaload, 1) := by decide +kernel
theorem dX1_below_20 : decode cX1_below 20 = .ok (.iload_n 1, 1) := by decide +kernel
theorem dX1_below_21 : decode cX1_below 21 = .ok (.if_icmp .ge 6, 3) := by decide +kernel
theorem dX1_below_24 : decode cX1_below 24 = .ok (.iinc 2 1, 3) := by decide +kernel
theorem dX1_below_27 : decode cX1_below 27 = .ok (.iinc 3 1, 3) := by decide +kernel
theorem dX1_below_30 : decode cX1_below 30 = .ok (.goto (-22), 3) := by decide +kernel
theorem dX1_below_33 : decode cX1_below 33 = .ok (.iload_n 2, 1) := by decide +kernel
theorem dX1_below_34 : decode cX1_below 34 = .ok (.ireturn, 1) := by decide +kernel
theorem dX1_ranked_0 : decode cX1_ranked 0 = .ok (.iload_n 1, 1) := by decide +kernel
theorem dX1_ranked_1 : decode cX1_ranked 1 = .ok (.invokestatic 95, 3) := by decide +kernel
theorem dX1_ranked_4 : decode cX1_ranked 4 = .ok (.ifCond .ne 5, 3) := by decide +kernel
theorem dX1_ranked_7 : decode cX1_ranked 7 = .ok (.iconst 0, 1) := by decide +kernel
theorem dX1_ranked_8 : decode cX1_ranked 8 = .ok (.ireturn, 1) := by decide +kernel
theorem dX1_ranked_9 : decode cX1_ranked 9 = .ok (.aload_n 0, 1) := by decide +kernel
theorem dX1_ranked_10 : decode cX1_ranked 10 = .ok (.invokevirtual 103, 3) := by decide +kernel
theorem dX1_ranked_13 : decode cX1_ranked 13 = .ok (.iconst 1, 1) := by decide +kernel
theorem dX1_ranked_14 : decode cX1_ranked 14 = .ok (.istore_n 2, 1) := by decide +kernel
theorem dX1_ranked_15 : decode cX1_ranked 15 = .ok (.iload_n 2, 1) := by decide +kernel
theorem dX1_ranked_16 : decode cX1_ranked 16 = .ok (.bipush 16, 2) := by decide +kernel
theorem dX1_ranked_18 : decode cX1_ranked 18 = .ok (.if_icmp .ge 67, 3) := by decide +kernel
theorem dX1_ranked_21 : decode cX1_ranked 21 = .ok (.aload_n 0, 1) := by decide +kernel
theorem dX1_ranked_22 : decode cX1_ranked 22 = .ok (.getfield 55, 3) := by decide +kernel
theorem dX1_ranked_25 : decode cX1_ranked 25 = .ok (.iload_n 2, 1) := by decide +kernel
theorem dX1_ranked_26 : decode cX1_ranked 26 = .ok (.iaload, 1) := by decide +kernel
theorem dX1_ranked_27 : decode cX1_ranked 27 = .ok (.istore_n 3, 1) := by decide +kernel
theorem dX1_ranked_28 : decode cX1_ranked 28 = .ok (.iload_n 2, 1) := by decide +kernel
theorem dX1_ranked_29 : decode cX1_ranked 29 = .ok (.istore 4, 2) := by decide +kernel
theorem dX1_ranked_31 : decode cX1_ranked 31 = .ok (.iload 4, 2) := by decide +kernel
theorem dX1_ranked_33 : decode cX1_ranked 33 = .ok (.ifCond .le 38, 3) := by decide +kernel
theorem dX1_ranked_36 : decode cX1_ranked 36 = .ok (.aload_n 0, 1) := by decide +kernel
theorem dX1_ranked_37 : decode cX1_ranked 37 = .ok (.getfield 55, 3) := by decide +kernel
theorem dX1_ranked_40 : decode cX1_ranked 40 = .ok (.iload 4, 2) := by decide +kernel
theorem dX1_ranked_42 : decode cX1_ranked 42 = .ok (.iconst 1, 1) := by decide +kernel
theorem dX1_ranked_43 : decode cX1_ranked 43 = .ok (.isub, 1) := by decide +kernel
theorem dX1_ranked_44 : decode cX1_ranked 44 = .ok (.iaload, 1) := by decide +kernel
theorem dX1_ranked_45 : decode cX1_ranked 45 = .ok (.iload_n 3, 1) := by decide +kernel
theorem dX1_ranked_46 : decode cX1_ranked 46 = .ok (.if_icmp .le 25, 3) := by decide +kernel
theorem dX1_ranked_49 : decode cX1_ranked 49 = .ok (.aload_n 0, 1) := by decide +kernel
theorem dX1_ranked_50 : decode cX1_ranked 50 = .ok (.getfield 55, 3) := by decide +kernel
theorem dX1_ranked_53 : decode cX1_ranked 53 = .ok (.iload 4, 2) := by decide +kernel
theorem dX1_ranked_55 : decode cX1_ranked 55 = .ok (.aload_n 0, 1) := by decide +kernel
theorem dX1_ranked_56 : decode cX1_ranked 56 = .ok (.getfield 55, 3) := by decide +kernel
theorem dX1_ranked_59 : decode cX1_ranked 59 = .ok (.iload 4, 2) := by decide +kernel
theorem dX1_ranked_61 : decode cX1_ranked 61 = .ok (.iconst 1, 1) := by decide +kernel
theorem dX1_ranked_62 : decode cX1_ranked 62 = .ok (.isub, 1) := by decide +kernel
theorem dX1_ranked_63 : decode cX1_ranked 63 = .ok (.iaload, 1) := by decide +kernel
theorem dX1_ranked_64 : decode cX1_ranked 64 = .ok (.iastore, 1) := by decide +kernel
theorem dX1_ranked_65 : decode cX1_ranked 65 = .ok (.iinc 4 (-1), 3) := by decide +kernel
theorem dX1_ranked_68 : decode cX1_ranked 68 = .ok (.goto (-37), 3) := by decide +kernel
theorem dX1_ranked_71 : decode cX1_ranked 71 = .ok (.aload_n 0, 1) := by decide +kernel
theorem dX1_ranked_72 : decode cX1_ranked 72 = .ok (.getfield 55, 3) := by decide +kernel
theorem dX1_ranked_75 : decode cX1_ranked 75 = .ok (.iload 4, 2) := by decide +kernel
theorem dX1_ranked_77 : decode cX1_ranked 77 = .ok (.iload_n 3, 1) := by decide +kernel
theorem dX1_ranked_78 : decode cX1_ranked 78 = .ok (.iastore, 1) := by decide +kernel
theorem dX1_ranked_79 : decode cX1_ranked 79 = .ok (.iinc 2 1, 3) := by decide +kernel
theorem dX1_ranked_82 : decode cX1_ranked 82 = .ok (.goto (-67), 3) := by decide +kernel
theorem dX1_ranked_85 : decode cX1_ranked 85 = .ok (.aload_n 0, 1) := by decide +kernel
theorem dX1_ranked_86 : decode cX1_ranked 86 = .ok (.getfield 55, 3) := by decide +kernel
theorem dX1_ranked_89 : decode cX1_ranked 89 = .ok (.iload_n 1, 1) := by decide +kernel
theorem dX1_ranked_90 : decode cX1_ranked 90 = .ok (.iaload, 1) := by decide +kernel
theorem dX1_ranked_91 : decode cX1_ranked 91 = .ok (.ireturn, 1) := by decide +kernel
theorem dX1_save_0 : decode cX1_save 0 = .ok (.iload_n 1, 1) := by decide +kernel
theorem dX1_save_1 : decode cX1_save 1 = .ok (.ifCond .eq 10, 3) := by decide +kernel
theorem dX1_save_4 : decode cX1_save 4 = .ok (.iload_n 1, 1) := by decide +kernel
theorem dX1_save_5 : decode cX1_save 5 = .ok (.iconst 1, 1) := by decide +kernel
theorem dX1_save_6 : decode cX1_save 6 = .ok (.if_icmp .eq 5, 3) := by decide +kernel
theorem dX1_save_9 : decode cX1_save 9 = .ok (.iconst (-1), 1) := by decide +kernel
theorem dX1_save_10 : decode cX1_save 10 = .ok (.ireturn, 1) := by decide +kernel
theorem dX1_save_11 : decode cX1_save 11 = .ok (.aload_n 0, 1) := by decide +kernel
theorem dX1_save_12 : decode cX1_save 12 = .ok (.invokevirtual 103, 3) := by decide +kernel
theorem dX1_save_15 : decode cX1_save 15 = .ok (.iconst 0, 1) := by decide +kernel
theorem dX1_save_16 : decode cX1_save 16 = .ok (.istore_n 2, 1) := by decide +kernel
theorem dX1_save_17 : decode cX1_save 17 = .ok (.iload_n 2, 1) := by decide +kernel
theorem dX1_save_18 : decode cX1_save 18 = .ok (.bipush 16, 2) := by decide +kernel
theorem dX1_save_20 : decode cX1_save 20 = .ok (.if_icmp .ge 26, 3) := by decide +kernel
theorem dX1_save_23 : decode cX1_save 23 = .ok (.aload_n 0, 1) := by decide +kernel
theorem dX1_save_24 : decode cX1_save 24 = .ok (.getfield 52, 3) := by decide +kernel
theorem dX1_save_27 : decode cX1_save 27 = .ok (.bipush 16, 2) := by decide +kernel
theorem dX1_save_29 : decode cX1_save 29 = .ok (.iload_n 1, 1) := by decide +kernel
theorem dX1_save_30 : decode cX1_save 30 = .ok (.imul, 1) := by decide +kernel
theorem dX1_save_31 : decode cX1_save 31 = .ok (.iload_n 2, 1) := by decide +kernel
theorem dX1_save_32 : decode cX1_save 32 = .ok (.iadd, 1) := by decide +kernel
theorem dX1_save_33 : decode cX1_save 33 = .ok (.aload_n 0, 1) := by decide +kernel
theorem dX1_save_34 : decode cX1_save 34 = .ok (.getfield 55, 3) := by decide +kernel
theorem dX1_save_37 : decode cX1_save 37 = .ok (.iload_n 2, 1) := by decide +kernel
theorem dX1_save_38 : decode cX1_save 38 = .ok (.iaload, 1) := by decide +kernel
theorem dX1_save_39 : decode cX1_save 39 = .ok (.iastore, 1) := by decide +kernel
theorem dX1_save_40 : decode cX1_save 40 = .ok (.iinc 2 1, 3) := by decide +kernel
theorem dX1_save_43 : decode cX1_save 43 = .ok (.goto (-26), 3) := by decide +kernel
theorem dX1_save_46 : decode cX1_save 46 = .ok (.iconst 0, 1) := by decide +kernel
theorem dX1_save_47 : decode cX1_save 47 = .ok (.ireturn, 1) := by decide +kernel
theorem dX1_load_0 : decode cX1_load 0 = .ok (.iload_n 1, 1) := by decide +kernel
theorem dX1_load_1 : decode cX1_load 1 = .ok (.ifCond .eq 10, 3) := by decide +kernel
theorem dX1_load_4 : decode cX1_load 4 = .ok (.iload_n 1, 1) := by decide +kernel
theorem dX1_load_5 : decode cX1_load 5 = .ok (.iconst 1, 1) := by decide +kernel
theorem dX1_load_6 : decode cX1_load 6 = .ok (.if_icmp .eq 5, 3) := by decide +kernel
theorem dX1_load_9 : decode cX1_load 9 = .ok (.iconst (-1), 1) := by decide +kernel
theorem dX1_load_10 : decode cX1_load 10 = .ok (.ireturn, 1) := by decide +kernel
theorem dX1_load_11 : decode cX1_load 11 = .ok (.iconst 0, 1) := by decide +kernel
theorem dX1_load_12 : decode cX1_load 12 = .ok (.istore_n 2, 1) := by decide +kernel
theorem dX1_load_13 : decode cX1_load 13 = .ok (.iconst 0, 1) := by decide +kernel
theorem dX1_load_14 : decode cX1_load 14 = .ok (.istore_n 3, 1) := by decide +kernel
theorem dX1_load_15 : decode cX1_load 15 = .ok (.iload_n 3, 1) := by decide +kernel
theorem dX1_load_16 : decode cX1_load 16 = .ok (.bipush 16, 2) := by decide +kernel
theorem dX1_load_18 : decode cX1_load 18 = .ok (.if_icmp .ge 42, 3) := by decide +kernel
theorem dX1_load_21 : decode cX1_load 21 = .ok (.aload_n 0, 1) := by decide +kernel
theorem dX1_load_22 : decode cX1_load 22 = .ok (.getfield 52, 3) := by decide +kernel
theorem dX1_load_25 : decode cX1_load 25 = .ok (.bipush 16, 2) := by decide +kernel
theorem dX1_load_27 : decode cX1_load 27 = .ok (.iload_n 1, 1) := by decide +kernel
theorem dX1_load_28 : decode cX1_load 28 = .ok (.imul, 1) := by decide +kernel
theorem dX1_load_29 : decode cX1_load 29 = .ok (.iload_n 3, 1) := by decide +kernel
theorem dX1_load_30 : decode cX1_load 30 = .ok (.iadd, 1) := by decide +kernel
theorem dX1_load_31 : decode cX1_load 31 = .ok (.iaload, 1) := by decide +kernel
theorem dX1_load_32 : decode cX1_load 32 = .ok (.istore 4, 2) := by decide +kernel
theorem dX1_load_34 : decode cX1_load 34 = .ok (.aload_n 0, 1) := by decide +kernel
theorem dX1_load_35 : decode cX1_load 35 = .ok (.iload_n 3, 1) := by decide +kernel
theorem dX1_load_36 : decode cX1_load 36 = .ok (.iconst 1, 1) := by decide +kernel
theorem dX1_load_37 : decode cX1_load 37 = .ok (.iload 4, 2) := by decide +kernel
theorem dX1_load_39 : decode cX1_load 39 = .ok (.invokevirtual 99, 3) := by decide +kernel
theorem dX1_load_42 : decode cX1_load 42 = .ok (.istore 5, 2) := by decide +kernel
theorem dX1_load_44 : decode cX1_load 44 = .ok (.iload 5, 2) := by decide +kernel
theorem dX1_load_46 : decode cX1_load 46 = .ok (.iload 4, 2) := by decide +kernel
theorem dX1_load_48 : decode cX1_load 48 = .ok (.if_icmp .eq 6, 3) := by decide +kernel
theorem dX1_load_51 : decode cX1_load 51 = .ok (.iinc 2 1, 3) := by decide +kernel
theorem dX1_load_54 : decode cX1_load 54 = .ok (.iinc 3 1, 3) := by decide +kernel
theorem dX1_load_57 : decode cX1_load 57 = .ok (.goto (-42), 3) := by decide +kernel
theorem dX1_load_60 : decode cX1_load 60 = .ok (.iload_n 2, 1) := by decide +kernel
theorem dX1_load_61 : decode cX1_load 61 = .ok (.ireturn, 1) := by decide +kernel
theorem dX1_differing_0 : decode cX1_differing 0 = .ok (.iload_n 1, 1) := by decide +kernel
theorem dX1_differing_1 : decode cX1_differing 1 = .ok (.ifCond .eq 10, 3) := by decide +kernel
theorem dX1_differing_4 : decode cX1_differing 4 = .ok (.iload_n 1, 1) := by decide +kernel
theorem dX1_differing_5 : decode cX1_differing 5 = .ok (.iconst 1, 1) := by decide +kernel
theorem dX1_differing_6 : decode cX1_differing 6 = .ok (.if_icmp .eq 5, 3) := by decide +kernel
theorem dX1_differing_9 : decode cX1_differing 9 = .ok (.iconst (-1), 1) := by decide +kernel
theorem dX1_differing_10 : decode cX1_differing 10 = .ok (.ireturn, 1) := by decide +kernel
theorem dX1_differing_11 : decode cX1_differing 11 = .ok (.aload_n 0, 1) := by decide +kernel
theorem dX1_differing_12 : decode cX1_differing 12 = .ok (.invokevirtual 103, 3) := by decide +kernel
theorem dX1_differing_15 : decode cX1_differing 15 = .ok (.iconst 0, 1) := by decide +kernel
theorem dX1_differing_16 : decode cX1_differing 16 = .ok (.istore_n 2, 1) := by decide +kernel
theorem dX1_differing_17 : decode cX1_differing 17 = .ok (.iconst 0, 1) := by decide +kernel
theorem dX1_differing_18 : decode cX1_differing 18 = .ok (.istore_n 3, 1) := by decide +kernel
theorem dX1_differing_19 : decode cX1_differing 19 = .ok (.iload_n 3, 1) := by decide +kernel
theorem dX1_differing_20 : decode cX1_differing 20 = .ok (.bipush 16, 2) := by decide +kernel
theorem dX1_differing_22 : decode cX1_differing 22 = .ok (.if_icmp .ge 32, 3) := by decide +kernel
theorem dX1_differing_25 : decode cX1_differing 25 = .ok (.aload_n 0, 1) := by decide +kernel
theorem dX1_differing_26 : decode cX1_differing 26 = .ok (.getfield 55, 3) := by decide +kernel
theorem dX1_differing_29 : decode cX1_differing 29 = .ok (.iload_n 3, 1) := by decide +kernel
theorem dX1_differing_30 : decode cX1_differing 30 = .ok (.iaload, 1) := by decide +kernel
theorem dX1_differing_31 : decode cX1_differing 31 = .ok (.aload_n 0, 1) := by decide +kernel
theorem dX1_differing_32 : decode cX1_differing 32 = .ok (.getfield 52, 3) := by decide +kernel
theorem dX1_differing_35 : decode cX1_differing 35 = .ok (.bipush 16, 2) := by decide +kernel
theorem dX1_differing_37 : decode cX1_differing 37 = .ok (.iload_n 1, 1) := by decide +kernel
theorem dX1_differing_38 : decode cX1_differing 38 = .ok (.imul, 1) := by decide +kernel
theorem dX1_differing_39 : decode cX1_differing 39 = .ok (.iload_n 3, 1) := by decide +kernel
theorem dX1_differing_40 : decode cX1_differing 40 = .ok (.iadd, 1) := by decide +kernel
theorem dX1_differing_41 : decode cX1_differing 41 = .ok (.iaload, 1) := by decide +kernel
theorem dX1_differing_42 : decode cX1_differing 42 = .ok (.if_icmp .eq 6, 3) := by decide +kernel
theorem dX1_differing_45 : decode cX1_differing 45 = .ok (.iinc 2 1, 3) := by decide +kernel
theorem dX1_differing_48 : decode cX1_differing 48 = .ok (.iinc 3 1, 3) := by decide +kernel
theorem dX1_differing_51 : decode cX1_differing 51 = .ok (.goto (-32), 3) := by decide +kernel
theorem dX1_differing_54 : decode cX1_differing 54 = .ok (.iload_n 2, 1) := by decide +kernel
theorem dX1_differing_55 : decode cX1_differing 55 = .ok (.ireturn, 1) := by decide +kernel
theorem dX1_audit_0 : decode cX1_audit 0 = .ok (.iconst 0, 1) := by decide +kernel
theorem dX1_audit_1 : decode cX1_audit 1 = .ok (.istore_n 1, 1) := by decide +kernel
theorem dX1_audit_2 : decode cX1_audit 2 = .ok (.iconst 0, 1) := by decide +kernel
theorem dX1_audit_3 : decode cX1_audit 3 = .ok (.istore_n 2, 1) := by decide +kernel
theorem dX1_audit_4 : decode cX1_audit 4 = .ok (.iload_n 2, 1) := by decide +kernel
theorem dX1_audit_5 : decode cX1_audit 5 = .ok (.bipush 16, 2) := by decide +kernel
theorem dX1_audit_7 : decode cX1_audit 7 = .ok (.if_icmp .ge 33, 3) := by decide +kernel
theorem dX1_audit_10 : decode cX1_audit 10 = .ok (.aload_n 0, 1) := by decide +kernel
theorem dX1_audit_11 : decode cX1_audit 11 = .ok (.iload_n 2, 1) := by decide +kernel
theorem dX1_audit_12 : decode cX1_audit 12 = .ok (.iconst (-1), 1) := by decide +kernel
theorem dX1_audit_13 : decode cX1_audit 13 = .ok (.invokevirtual 106, 3) := by decide +kernel
theorem dX1_audit_16 : decode cX1_audit 16 = .ok (.istore_n 3, 1) := by decide +kernel
theorem dX1_audit_17 : decode cX1_audit 17 = .ok (.aload_n 0, 1) := by decide +kernel
theorem dX1_audit_18 : decode cX1_audit 18 = .ok (.iload_n 2, 1) := by decide +kernel
theorem dX1_audit_19 : decode cX1_audit 19 = .ok (.iload_n 3, 1) := by decide +kernel
theorem dX1_audit_20 : decode cX1_audit 20 = .ok (.invokevirtual 110, 3) := by decide +kernel
theorem dX1_audit_23 : decode cX1_audit 23 = .ok (.istore 4, 2) := by decide +kernel
theorem dX1_audit_25 : decode cX1_audit 25 = .ok (.iload 4, 2) := by decide +kernel
theorem dX1_audit_27 : decode cX1_audit 27 = .ok (.iconst 1, 1) := by decide +kernel
theorem dX1_audit_28 : decode cX1_audit 28 = .ok (.if_icmp .eq 6, 3) := by decide +kernel
theorem dX1_audit_31 : decode cX1_audit 31 = .ok (.iinc 1 1, 3) := by decide +kernel
theorem dX1_audit_34 : decode cX1_audit 34 = .ok (.iinc 2 1, 3) := by decide +kernel
theorem dX1_audit_37 : decode cX1_audit 37 = .ok (.goto (-33), 3) := by decide +kernel
theorem dX1_audit_40 : decode cX1_audit 40 = .ok (.iload_n 1, 1) := by decide +kernel
theorem dX1_audit_41 : decode cX1_audit 41 = .ok (.ireturn, 1) := by decide +kernel
theorem dX1_placesOf_0 : decode cX1_placesOf 0 = .ok (.iconst 0, 1) := by decide +kernel
theorem dX1_placesOf_1 : decode cX1_placesOf 1 = .ok (.istore_n 3, 1) := by decide +kernel
theorem dX1_placesOf_2 : decode cX1_placesOf 2 = .ok (.iconst 4, 1) := by decide +kernel
theorem dX1_placesOf_3 : decode cX1_placesOf 3 = .ok (.istore 4, 2) := by decide +kernel
theorem dX1_placesOf_5 : decode cX1_placesOf 5 = .ok (.iload 4, 2) := by decide +kernel
theorem dX1_placesOf_7 : decode cX1_placesOf 7 = .ok (.bipush 64, 2) := by decide +kernel
theorem dX1_placesOf_9 : decode cX1_placesOf 9 = .ok (.if_icmp .ge 87, 3) := by decide +kernel
theorem dX1_placesOf_12 : decode cX1_placesOf 12 = .ok (.aload_n 0, 1) := by decide +kernel
theorem dX1_placesOf_13 : decode cX1_placesOf 13 = .ok (.getfield 7, 3) := by decide +kernel
theorem dX1_placesOf_16 : decode cX1_placesOf 16 = .ok (.iload 4, 2) := by decide +kernel
theorem dX1_placesOf_18 : decode cX1_placesOf 18 = .ok (.iaload, 1) := by decide +kernel
theorem dX1_placesOf_19 : decode cX1_placesOf 19 = .ok (.iload_n 1, 1) := by decide +kernel
theorem dX1_placesOf_20 : decode cX1_placesOf 20 = .ok (.if_icmp .ne 70, 3) := by decide +kernel
theorem dX1_placesOf_23 : decode cX1_placesOf 23 = .ok (.iconst 0, 1) := by decide +kernel
theorem dX1_placesOf_24 : decode cX1_placesOf 24 = .ok (.istore 5, 2) := by decide +kernel
theorem dX1_placesOf_26 : decode cX1_placesOf 26 = .ok (.iconst 0, 1) := by decide +kernel
theorem dX1_placesOf_27 : decode cX1_placesOf 27 = .ok (.istore 6, 2) := by decide +kernel
theorem dX1_placesOf_29 : decode cX1_placesOf 29 = .ok (.iload 6, 2) := by decide +kernel
theorem dX1_placesOf_31 : decode cX1_placesOf 31 = .ok (.iconst 4, 1) := by decide +kernel
theorem dX1_placesOf_32 : decode cX1_placesOf 32 = .ok (.if_icmp .ge 34, 3) := by decide +kernel
theorem dX1_placesOf_35 : decode cX1_placesOf 35 = .ok (.iload 5, 2) := by decide +kernel
theorem dX1_placesOf_37 : decode cX1_placesOf 37 = .ok (.ifCond .ne 16, 3) := by decide +kernel
theorem dX1_placesOf_40 : decode cX1_placesOf 40 = .ok (.iload_n 2, 1) := by decide +kernel
theorem dX1_placesOf_41 : decode cX1_placesOf 41 = .ok (.iload 6, 2) := by decide +kernel
theorem dX1_placesOf_43 : decode cX1_placesOf 43 = .ok (.invokestatic 118, 3) := by decide +kernel
theorem dX1_placesOf_46 : decode cX1_placesOf 46 = .ok (.iload 4, 2) := by decide +kernel
theorem dX1_placesOf_48 : decode cX1_placesOf 48 = .ok (.iconst 2, 1) := by decide +kernel
theorem dX1_placesOf_49 : decode cX1_placesOf 49 = .ok (.ishr, 1) := by decide +kernel
theorem dX1_placesOf_50 : decode cX1_placesOf 50 = .ok (.if_icmp .ne 7, 3) := by decide +kernel
theorem dX1_placesOf_53 : decode cX1_placesOf 53 = .ok (.iconst 1, 1) := by decide +kernel
theorem dX1_placesOf_54 : decode cX1_placesOf 54 = .ok (.goto 4, 3) := by decide +kernel
theorem dX1_placesOf_57 : decode cX1_placesOf 57 = .ok (.iconst 0, 1) := by decide +kernel
theorem dX1_placesOf_58 : decode cX1_placesOf 58 = .ok (.istore 5, 2) := by decide +kernel
theorem dX1_placesOf_60 : decode cX1_placesOf 60 = .ok (.iinc 6 1, 3) := by decide +kernel
theorem dX1_placesOf_63 : decode cX1_placesOf 63 = .ok (.goto (-34), 3) := by decide +kernel
theorem dX1_placesOf_66 : decode cX1_placesOf 66 = .ok (.iload_n 3, 1) := by decide +kernel
theorem dX1_placesOf_67 : decode cX1_placesOf 67 = .ok (.iload 5, 2) := by decide +kernel
theorem dX1_placesOf_69 : decode cX1_placesOf 69 = .ok (.ifCond .eq 18, 3) := by decide +kernel
theorem dX1_placesOf_72 : decode cX1_placesOf 72 = .ok (.aload_n 0, 1) := by decide +kernel
theorem dX1_placesOf_73 : decode cX1_placesOf 73 = .ok (.getfield 16, 3) := by decide +kernel
theorem dX1_placesOf_76 : decode cX1_placesOf 76 = .ok (.iload 4, 2) := by decide +kernel
theorem dX1_placesOf_78 : decode cX1_placesOf 78 = .ok (.iaload, 1) := by decide +kernel
theorem dX1_placesOf_79 : decode cX1_placesOf 79 = .ok (.iload_n 2, 1) := by decide +kernel
theorem dX1_placesOf_80 : decode cX1_placesOf 80 = .ok (.if_icmp .ne 7, 3) := by decide +kernel
theorem dX1_placesOf_83 : decode cX1_placesOf 83 = .ok (.iconst 1, 1) := by decide +kernel
theorem dX1_placesOf_84 : decode cX1_placesOf 84 = .ok (.goto 4, 3) := by decide +kernel
theorem dX1_placesOf_87 : decode cX1_placesOf 87 = .ok (.iconst 2, 1) := by decide +kernel
theorem dX1_placesOf_88 : decode cX1_placesOf 88 = .ok (.iadd, 1) := by decide +kernel
theorem dX1_placesOf_89 : decode cX1_placesOf 89 = .ok (.istore_n 3, 1) := by decide +kernel
theorem dX1_placesOf_90 : decode cX1_placesOf 90 = .ok (.iinc 4 1, 3) := by decide +kernel
theorem dX1_placesOf_93 : decode cX1_placesOf 93 = .ok (.goto (-88), 3) := by decide +kernel
theorem dX1_placesOf_96 : decode cX1_placesOf 96 = .ok (.iconst 0, 1) := by decide +kernel
theorem dX1_placesOf_97 : decode cX1_placesOf 97 = .ok (.istore 4, 2) := by decide +kernel
theorem dX1_placesOf_99 : decode cX1_placesOf 99 = .ok (.iload 4, 2) := by decide +kernel
theorem dX1_placesOf_101 : decode cX1_placesOf 101 = .ok (.aload_n 0, 1) := by decide +kernel
theorem dX1_placesOf_102 : decode cX1_placesOf 102 = .ok (.getfield 70, 3) := by decide +kernel
theorem dX1_placesOf_105 : decode cX1_placesOf 105 = .ok (.if_icmp .ge 39, 3) := by decide +kernel
theorem dX1_placesOf_108 : decode cX1_placesOf 108 = .ok (.aload_n 0, 1) := by decide +kernel
theorem dX1_placesOf_109 : decode cX1_placesOf 109 = .ok (.getfield 22, 3) := by decide +kernel
theorem dX1_placesOf_112 : decode cX1_placesOf 112 = .ok (.iload 4, 2) := by decide +kernel
theorem dX1_placesOf_114 : decode cX1_placesOf 114 = .ok (.iaload, 1) := by decide +kernel
end
section
set_option maxRecDepth 100000
theorem dX1_placesOf_115 : decode cX1_placesOf 115 = .ok (.iload_n 1, 1) := by decide +kernel
theorem dX1_placesOf_116 : decode cX1_placesOf 116 = .ok (.if_icmp .ne 22, 3) := by decide +kernel
theorem dX1_placesOf_119 : decode cX1_placesOf 119 = .ok (.iload_n 3, 1) := by decide +kernel
theorem dX1_placesOf_120 : decode cX1_placesOf 120 = .ok (.aload_n 0, 1) := by decide +kernel
theorem dX1_placesOf_121 : decode cX1_placesOf 121 = .ok (.getfield 28, 3) := by decide +kernel
theorem dX1_placesOf_124 : decode cX1_placesOf 124 = .ok (.iload 4, 2) := by decide +kernel
theorem dX1_placesOf_126 : decode cX1_placesOf 126 = .ok (.iaload, 1) := by decide +kernel
theorem dX1_placesOf_127 : decode cX1_placesOf 127 = .ok (.iload_n 2, 1) := by decide +kernel
theorem dX1_placesOf_128 : decode cX1_placesOf 128 = .ok (.if_icmp .ne 7, 3) := by decide +kernel
theorem dX1_placesOf_131 : decode cX1_placesOf 131 = .ok (.iconst 1, 1) := by decide +kernel
theorem dX1_placesOf_132 : decode cX1_placesOf 132 = .ok (.goto 4, 3) := by decide +kernel
theorem dX1_placesOf_135 : decode cX1_placesOf 135 = .ok (.iconst 2, 1) := by decide +kernel
theorem dX1_placesOf_136 : decode cX1_placesOf 136 = .ok (.iadd, 1) := by decide +kernel
theorem dX1_placesOf_137 : decode cX1_placesOf 137 = .ok (.istore_n 3, 1) := by decide +kernel
theorem dX1_placesOf_138 : decode cX1_placesOf 138 = .ok (.iinc 4 1, 3) := by decide +kernel
theorem dX1_placesOf_141 : decode cX1_placesOf 141 = .ok (.goto (-42), 3) := by decide +kernel
theorem dX1_placesOf_144 : decode cX1_placesOf 144 = .ok (.iload_n 3, 1) := by decide +kernel
theorem dX1_placesOf_145 : decode cX1_placesOf 145 = .ok (.ireturn, 1) := by decide +kernel
theorem dX1_touched_0 : decode cX1_touched 0 = .ok (.aload_n 0, 1) := by decide +kernel
theorem dX1_touched_1 : decode cX1_touched 1 = .ok (.getfield 88, 3) := by decide +kernel
theorem dX1_touched_4 : decode cX1_touched 4 = .ok (.ireturn, 1) := by decide +kernel
theorem dX2_init_0 : decode cX2_init 0 = .ok (.aload_n 0, 1) := by decide +kernel
theorem dX2_init_1 : decode cX2_init 1 = .ok (.invokespecial 1, 3) := by decide +kernel
theorem dX2_init_4 : decode cX2_init 4 = .ok (.aload_n 0, 1) := by decide +kernel
theorem dX2_init_5 : decode cX2_init 5 = .ok (.bipush 16, 2) := by decide +kernel
theorem dX2_init_7 : decode cX2_init 7 = .ok (.newarray .int, 2) := by decide +kernel
theorem dX2_init_9 : decode cX2_init 9 = .ok (.putfield 7, 3) := by decide +kernel
theorem dX2_init_12 : decode cX2_init 12 = .ok (.aload_n 0, 1) := by decide +kernel
theorem dX2_init_13 : decode cX2_init 13 = .ok (.bipush 16, 2) := by decide +kernel
theorem dX2_init_15 : decode cX2_init 15 = .ok (.newarray .int, 2) := by decide +kernel
theorem dX2_init_17 : decode cX2_init 17 = .ok (.putfield 13, 3) := by decide +kernel
theorem dX2_init_20 : decode cX2_init 20 = .ok (.aload_n 0, 1) := by decide +kernel
theorem dX2_init_21 : decode cX2_init 21 = .ok (.bipush 32, 2) := by decide +kernel
theorem dX2_init_23 : decode cX2_init 23 = .ok (.newarray .int, 2) := by decide +kernel
theorem dX2_init_25 : decode cX2_init 25 = .ok (.putfield 16, 3) := by decide +kernel
theorem dX2_init_28 : decode cX2_init 28 = .ok (.return_, 1) := by decide +kernel
theorem dX2_stir_0 : decode cX2_stir 0 = .ok (.return_, 1) := by decide +kernel
theorem dX2_read_0 : decode cX2_read 0 = .ok (.aload_n 0, 1) := by decide +kernel
theorem dX2_read_1 : decode cX2_read 1 = .ok (.iload_n 1, 1) := by decide +kernel
theorem dX2_read_2 : decode cX2_read 2 = .ok (.invokevirtual 19, 3) := by decide +kernel
theorem dX2_read_5 : decode cX2_read 5 = .ok (.ifCond .eq 5, 3) := by decide +kernel
theorem dX2_read_8 : decode cX2_read 8 = .ok (.iconst 0, 1) := by decide +kernel
theorem dX2_read_9 : decode cX2_read 9 = .ok (.ireturn, 1) := by decide +kernel
theorem dX2_read_10 : decode cX2_read 10 = .ok (.aload_n 0, 1) := by decide +kernel
theorem dX2_read_11 : decode cX2_read 11 = .ok (.iconst 1, 1) := by decide +kernel
theorem dX2_read_12 : decode cX2_read 12 = .ok (.putfield 23, 3) := by decide +kernel
theorem dX2_read_15 : decode cX2_read 15 = .ok (.aload_n 0, 1) := by decide +kernel
theorem dX2_read_16 : decode cX2_read 16 = .ok (.getfield 7, 3) := by decide +kernel
theorem dX2_read_19 : decode cX2_read 19 = .ok (.iload_n 1, 1) := by decide +kernel
theorem dX2_read_20 : decode cX2_read 20 = .ok (.iaload, 1) := by decide +kernel
theorem dX2_read_21 : decode cX2_read 21 = .ok (.ireturn, 1) := by decide +kernel
theorem dX2_bad_0 : decode cX2_bad 0 = .ok (.iload_n 1, 1) := by decide +kernel
theorem dX2_bad_1 : decode cX2_bad 1 = .ok (.ifCond .lt 9, 3) := by decide +kernel
theorem dX2_bad_4 : decode cX2_bad 4 = .ok (.iload_n 1, 1) := by decide +kernel
theorem dX2_bad_5 : decode cX2_bad 5 = .ok (.bipush 15, 2) := by decide +kernel
theorem dX2_bad_7 : decode cX2_bad 7 = .ok (.if_icmp .le 7, 3) := by decide +kernel
theorem dX2_bad_10 : decode cX2_bad 10 = .ok (.iconst 1, 1) := by decide +kernel
theorem dX2_bad_11 : decode cX2_bad 11 = .ok (.goto 4, 3) := by decide +kernel
theorem dX2_bad_14 : decode cX2_bad 14 = .ok (.iconst 0, 1) := by decide +kernel
theorem dX2_bad_15 : decode cX2_bad 15 = .ok (.ireturn, 1) := by decide +kernel
theorem dX2_write_0 : decode cX2_write 0 = .ok (.aload_n 0, 1) := by decide +kernel
theorem dX2_write_1 : decode cX2_write 1 = .ok (.iload_n 1, 1) := by decide +kernel
theorem dX2_write_2 : decode cX2_write 2 = .ok (.invokevirtual 19, 3) := by decide +kernel
theorem dX2_write_5 : decode cX2_write 5 = .ok (.ifCond .eq 5, 3) := by decide +kernel
theorem dX2_write_8 : decode cX2_write 8 = .ok (.iconst (-1), 1) := by decide +kernel
theorem dX2_write_9 : decode cX2_write 9 = .ok (.ireturn, 1) := by decide +kernel
theorem dX2_write_10 : decode cX2_write 10 = .ok (.aload_n 0, 1) := by decide +kernel
theorem dX2_write_11 : decode cX2_write 11 = .ok (.iconst 1, 1) := by decide +kernel
theorem dX2_write_12 : decode cX2_write 12 = .ok (.putfield 23, 3) := by decide +kernel
theorem dX2_write_15 : decode cX2_write 15 = .ok (.aload_n 0, 1) := by decide +kernel
theorem dX2_write_16 : decode cX2_write 16 = .ok (.getfield 7, 3) := by decide +kernel
theorem dX2_write_19 : decode cX2_write 19 = .ok (.iload_n 1, 1) := by decide +kernel
theorem dX2_write_20 : decode cX2_write 20 = .ok (.iload_n 2, 1) := by decide +kernel
theorem dX2_write_21 : decode cX2_write 21 = .ok (.iastore, 1) := by decide +kernel
theorem dX2_write_22 : decode cX2_write 22 = .ok (.iconst 0, 1) := by decide +kernel
theorem dX2_write_23 : decode cX2_write 23 = .ok (.ireturn, 1) := by decide +kernel
theorem dX2_add_0 : decode cX2_add 0 = .ok (.aload_n 0, 1) := by decide +kernel
theorem dX2_add_1 : decode cX2_add 1 = .ok (.iload_n 1, 1) := by decide +kernel
theorem dX2_add_2 : decode cX2_add 2 = .ok (.invokevirtual 19, 3) := by decide +kernel
theorem dX2_add_5 : decode cX2_add 5 = .ok (.ifCond .eq 5, 3) := by decide +kernel
theorem dX2_add_8 : decode cX2_add 8 = .ok (.iconst 0, 1) := by decide +kernel
theorem dX2_add_9 : decode cX2_add 9 = .ok (.ireturn, 1) := by decide +kernel
theorem dX2_add_10 : decode cX2_add 10 = .ok (.aload_n 0, 1) := by decide +kernel
theorem dX2_add_11 : decode cX2_add 11 = .ok (.iconst 1, 1) := by decide +kernel
theorem dX2_add_12 : decode cX2_add 12 = .ok (.putfield 23, 3) := by decide +kernel
theorem dX2_add_15 : decode cX2_add 15 = .ok (.aload_n 0, 1) := by decide +kernel
theorem dX2_add_16 : decode cX2_add 16 = .ok (.getfield 7, 3) := by decide +kernel
theorem dX2_add_19 : decode cX2_add 19 = .ok (.iload_n 1, 1) := by decide +kernel
theorem dX2_add_20 : decode cX2_add 20 = .ok (.dup2, 1) := by decide +kernel
theorem dX2_add_21 : decode cX2_add 21 = .ok (.iaload, 1) := by decide +kernel
theorem dX2_add_22 : decode cX2_add 22 = .ok (.iload_n 2, 1) := by decide +kernel
theorem dX2_add_23 : decode cX2_add 23 = .ok (.iadd, 1) := by decide +kernel
theorem dX2_add_24 : decode cX2_add 24 = .ok (.iastore, 1) := by decide +kernel
theorem dX2_add_25 : decode cX2_add 25 = .ok (.aload_n 0, 1) := by decide +kernel
theorem dX2_add_26 : decode cX2_add 26 = .ok (.getfield 7, 3) := by decide +kernel
theorem dX2_add_29 : decode cX2_add 29 = .ok (.iload_n 1, 1) := by decide +kernel
theorem dX2_add_30 : decode cX2_add 30 = .ok (.iaload, 1) := by decide +kernel
theorem dX2_add_31 : decode cX2_add 31 = .ok (.ireturn, 1) := by decide +kernel
theorem dX2_exchange_0 : decode cX2_exchange 0 = .ok (.aload_n 0, 1) := by decide +kernel
theorem dX2_exchange_1 : decode cX2_exchange 1 = .ok (.iload_n 1, 1) := by decide +kernel
theorem dX2_exchange_2 : decode cX2_exchange 2 = .ok (.invokevirtual 19, 3) := by decide +kernel
theorem dX2_exchange_5 : decode cX2_exchange 5 = .ok (.ifCond .ne 11, 3) := by decide +kernel
theorem dX2_exchange_8 : decode cX2_exchange 8 = .ok (.aload_n 0, 1) := by decide +kernel
theorem dX2_exchange_9 : decode cX2_exchange 9 = .ok (.iload_n 2, 1) := by decide +kernel
theorem dX2_exchange_10 : decode cX2_exchange 10 = .ok (.invokevirtual 19, 3) := by decide +kernel
theorem dX2_exchange_13 : decode cX2_exchange 13 = .ok (.ifCond .eq 5, 3) := by decide +kernel
theorem dX2_exchange_16 : decode cX2_exchange 16 = .ok (.iconst (-1), 1) := by decide +kernel
theorem dX2_exchange_17 : decode cX2_exchange 17 = .ok (.ireturn, 1) := by decide +kernel
theorem dX2_exchange_18 : decode cX2_exchange 18 = .ok (.aload_n 0, 1) := by decide +kernel
theorem dX2_exchange_19 : decode cX2_exchange 19 = .ok (.iconst 1, 1) := by decide +kernel
theorem dX2_exchange_20 : decode cX2_exchange 20 = .ok (.putfield 23, 3) := by decide +kernel
theorem dX2_exchange_23 : decode cX2_exchange 23 = .ok (.aload_n 0, 1) := by decide +kernel
theorem dX2_exchange_24 : decode cX2_exchange 24 = .ok (.getfield 7, 3) := by decide +kernel
theorem dX2_exchange_27 : decode cX2_exchange 27 = .ok (.iload_n 1, 1) := by decide +kernel
theorem dX2_exchange_28 : decode cX2_exchange 28 = .ok (.iaload, 1) := by decide +kernel
theorem dX2_exchange_29 : decode cX2_exchange 29 = .ok (.istore_n 3, 1) := by decide +kernel
theorem dX2_exchange_30 : decode cX2_exchange 30 = .ok (.aload_n 0, 1) := by decide +kernel
theorem dX2_exchange_31 : decode cX2_exchange 31 = .ok (.getfield 7, 3) := by decide +kernel
theorem dX2_exchange_34 : decode cX2_exchange 34 = .ok (.iload_n 1, 1) := by decide +kernel
theorem dX2_exchange_35 : decode cX2_exchange 35 = .ok (.aload_n 0, 1) := by decide +kernel
theorem dX2_exchange_36 : decode cX2_exchange 36 = .ok (.getfield 7, 3) := by decide +kernel
theorem dX2_exchange_39 : decode cX2_exchange 39 = .ok (.iload_n 2, 1) := by decide +kernel
theorem dX2_exchange_40 : decode cX2_exchange 40 = .ok (.iaload, 1) := by decide +kernel
theorem dX2_exchange_41 : decode cX2_exchange 41 = .ok (.iastore, 1) := by decide +kernel
theorem dX2_exchange_42 : decode cX2_exchange 42 = .ok (.aload_n 0, 1) := by decide +kernel
theorem dX2_exchange_43 : decode cX2_exchange 43 = .ok (.getfield 7, 3) := by decide +kernel
theorem dX2_exchange_46 : decode cX2_exchange 46 = .ok (.iload_n 2, 1) := by decide +kernel
theorem dX2_exchange_47 : decode cX2_exchange 47 = .ok (.iload_n 3, 1) := by decide +kernel
theorem dX2_exchange_48 : decode cX2_exchange 48 = .ok (.iastore, 1) := by decide +kernel
theorem dX2_exchange_49 : decode cX2_exchange 49 = .ok (.iconst 0, 1) := by decide +kernel
theorem dX2_exchange_50 : decode cX2_exchange 50 = .ok (.ireturn, 1) := by decide +kernel
theorem dX2_copy_0 : decode cX2_copy 0 = .ok (.aload_n 0, 1) := by decide +kernel
theorem dX2_copy_1 : decode cX2_copy 1 = .ok (.iload_n 1, 1) := by decide +kernel
theorem dX2_copy_2 : decode cX2_copy 2 = .ok (.invokevirtual 19, 3) := by decide +kernel
theorem dX2_copy_5 : decode cX2_copy 5 = .ok (.ifCond .ne 11, 3) := by decide +kernel
theorem dX2_copy_8 : decode cX2_copy 8 = .ok (.aload_n 0, 1) := by decide +kernel
theorem dX2_copy_9 : decode cX2_copy 9 = .ok (.iload_n 2, 1) := by decide +kernel
theorem dX2_copy_10 : decode cX2_copy 10 = .ok (.invokevirtual 19, 3) := by decide +kernel
theorem dX2_copy_13 : decode cX2_copy 13 = .ok (.ifCond .eq 5, 3) := by decide +kernel
theorem dX2_copy_16 : decode cX2_copy 16 = .ok (.iconst (-1), 1) := by decide +kernel
theorem dX2_copy_17 : decode cX2_copy 17 = .ok (.ireturn, 1) := by decide +kernel
theorem dX2_copy_18 : decode cX2_copy 18 = .ok (.aload_n 0, 1) := by decide +kernel
theorem dX2_copy_19 : decode cX2_copy 19 = .ok (.iconst 1, 1) := by decide +kernel
theorem dX2_copy_20 : decode cX2_copy 20 = .ok (.putfield 23, 3) := by decide +kernel
theorem dX2_copy_23 : decode cX2_copy 23 = .ok (.aload_n 0, 1) := by decide +kernel
theorem dX2_copy_24 : decode cX2_copy 24 = .ok (.getfield 7, 3) := by decide +kernel
theorem dX2_copy_27 : decode cX2_copy 27 = .ok (.iload_n 2, 1) := by decide +kernel
theorem dX2_copy_28 : decode cX2_copy 28 = .ok (.aload_n 0, 1) := by decide +kernel
theorem dX2_copy_29 : decode cX2_copy 29 = .ok (.getfield 7, 3) := by decide +kernel
theorem dX2_copy_32 : decode cX2_copy 32 = .ok (.iload_n 1, 1) := by decide +kernel
theorem dX2_copy_33 : decode cX2_copy 33 = .ok (.iaload, 1) := by decide +kernel
theorem dX2_copy_34 : decode cX2_copy 34 = .ok (.iastore, 1) := by decide +kernel
theorem dX2_copy_35 : decode cX2_copy 35 = .ok (.iconst 0, 1) := by decide +kernel
theorem dX2_copy_36 : decode cX2_copy 36 = .ok (.ireturn, 1) := by decide +kernel
theorem dX2_fill_0 : decode cX2_fill 0 = .ok (.iload_n 2, 1) := by decide +kernel
theorem dX2_fill_1 : decode cX2_fill 1 = .ok (.iconst 1, 1) := by decide +kernel
theorem dX2_fill_2 : decode cX2_fill 2 = .ok (.if_icmp .lt 9, 3) := by decide +kernel
theorem dX2_fill_5 : decode cX2_fill 5 = .ok (.iload_n 2, 1) := by decide +kernel
theorem dX2_fill_6 : decode cX2_fill 6 = .ok (.bipush 16, 2) := by decide +kernel
theorem dX2_fill_8 : decode cX2_fill 8 = .ok (.if_icmp .le 5, 3) := by decide +kernel
theorem dX2_fill_11 : decode cX2_fill 11 = .ok (.iconst (-1), 1) := by decide +kernel
theorem dX2_fill_12 : decode cX2_fill 12 = .ok (.ireturn, 1) := by decide +kernel
theorem dX2_fill_13 : decode cX2_fill 13 = .ok (.iload_n 1, 1) := by decide +kernel
theorem dX2_fill_14 : decode cX2_fill 14 = .ok (.ifCond .lt 11, 3) := by decide +kernel
theorem dX2_fill_17 : decode cX2_fill 17 = .ok (.iload_n 1, 1) := by decide +kernel
theorem dX2_fill_18 : decode cX2_fill 18 = .ok (.bipush 16, 2) := by decide +kernel
theorem dX2_fill_20 : decode cX2_fill 20 = .ok (.iload_n 2, 1) := by decide +kernel
theorem dX2_fill_21 : decode cX2_fill 21 = .ok (.isub, 1) := by decide +kernel
theorem dX2_fill_22 : decode cX2_fill 22 = .ok (.if_icmp .le 6, 3) := by decide +kernel
theorem dX2_fill_25 : decode cX2_fill 25 = .ok (.bipush (-2), 2) := by decide +kernel
theorem dX2_fill_27 : decode cX2_fill 27 = .ok (.ireturn, 1) := by decide +kernel
theorem dX2_fill_28 : decode cX2_fill 28 = .ok (.aload_n 0, 1) := by decide +kernel
theorem dX2_fill_29 : decode cX2_fill 29 = .ok (.iconst 1, 1) := by decide +kernel
theorem dX2_fill_30 : decode cX2_fill 30 = .ok (.putfield 23, 3) := by decide +kernel
theorem dX2_fill_33 : decode cX2_fill 33 = .ok (.iconst 0, 1) := by decide +kernel
theorem dX2_fill_34 : decode cX2_fill 34 = .ok (.istore 5, 2) := by decide +kernel
theorem dX2_fill_36 : decode cX2_fill 36 = .ok (.iload 5, 2) := by decide +kernel
theorem dX2_fill_38 : decode cX2_fill 38 = .ok (.iload_n 2, 1) := by decide +kernel
theorem dX2_fill_39 : decode cX2_fill 39 = .ok (.if_icmp .ge 25, 3) := by decide +kernel
theorem dX2_fill_42 : decode cX2_fill 42 = .ok (.aload_n 0, 1) := by decide +kernel
theorem dX2_fill_43 : decode cX2_fill 43 = .ok (.getfield 7, 3) := by decide +kernel
theorem dX2_fill_46 : decode cX2_fill 46 = .ok (.iload_n 1, 1) := by decide +kernel
theorem dX2_fill_47 : decode cX2_fill 47 = .ok (.iload 5, 2) := by decide +kernel
theorem dX2_fill_49 : decode cX2_fill 49 = .ok (.iadd, 1) := by decide +kernel
theorem dX2_fill_50 : decode cX2_fill 50 = .ok (.iload_n 3, 1) := by decide +kernel
theorem dX2_fill_51 : decode cX2_fill 51 = .ok (.iload 5, 2) := by decide +kernel
theorem dX2_fill_53 : decode cX2_fill 53 = .ok (.iload 4, 2) := by decide +kernel
theorem dX2_fill_55 : decode cX2_fill 55 = .ok (.imul, 1) := by decide +kernel
theorem dX2_fill_56 : decode cX2_fill 56 = .ok (.iadd, 1) := by decide +kernel
theorem dX2_fill_57 : decode cX2_fill 57 = .ok (.iastore, 1) := by decide +kernel
theorem dX2_fill_58 : decode cX2_fill 58 = .ok (.iinc 5 1, 3) := by decide +kernel
theorem dX2_fill_61 : decode cX2_fill 61 = .ok (.goto (-25), 3) := by decide +kernel
theorem dX2_fill_64 : decode cX2_fill 64 = .ok (.iconst 0, 1) := by decide +kernel
theorem dX2_fill_65 : decode cX2_fill 65 = .ok (.ireturn, 1) := by decide +kernel
theorem dX2_rotate_0 : decode cX2_rotate 0 = .ok (.aload_n 0, 1) := by decide +kernel
theorem dX2_rotate_1 : decode cX2_rotate 1 = .ok (.iconst 1, 1) := by decide +kernel
theorem dX2_rotate_2 : decode cX2_rotate 2 = .ok (.putfield 23, 3) := by decide +kernel
theorem dX2_rotate_5 : decode cX2_rotate 5 = .ok (.iconst 0, 1) := by decide +kernel
theorem dX2_rotate_6 : decode cX2_rotate 6 = .ok (.istore_n 2, 1) := by decide +kernel
theorem dX2_rotate_7 : decode cX2_rotate 7 = .ok (.iload_n 2, 1) := by decide +kernel
theorem dX2_rotate_8 : decode cX2_rotate 8 = .ok (.bipush 16, 2) := by decide +kernel
theorem dX2_rotate_10 : decode cX2_rotate 10 = .ok (.if_icmp .ge 21, 3) := by decide +kernel
theorem dX2_rotate_13 : decode cX2_rotate 13 = .ok (.aload_n 0, 1) := by decide +kernel
theorem dX2_rotate_14 : decode cX2_rotate 14 = .ok (.getfield 13, 3) := by decide +kernel
theorem dX2_rotate_17 : decode cX2_rotate 17 = .ok (.iload_n 2, 1) := by decide +kernel
theorem dX2_rotate_18 : decode cX2_rotate 18 = .ok (.aload_n 0, 1) := by decide +kernel
theorem dX2_rotate_19 : decode cX2_rotate 19 = .ok (.getfield 7, 3) := by decide +kernel
theorem dX2_rotate_22 : decode cX2_rotate 22 = .ok (.iload_n 2, 1) := by decide +kernel
theorem dX2_rotate_23 : decode cX2_rotate 23 = .ok (.iaload, 1) := by decide +kernel
theorem dX2_rotate_24 : decode cX2_rotate 24 = .ok (.iastore, 1) := by decide +kernel
theorem dX2_rotate_25 : decode cX2_rotate 25 = .ok (.iinc 2 1, 3) := by decide +kernel
theorem dX2_rotate_28 : decode cX2_rotate 28 = .ok (.goto (-21), 3) := by decide +kernel
theorem dX2_rotate_31 : decode cX2_rotate 31 = .ok (.iconst 0, 1) := by decide +kernel
theorem dX2_rotate_32 : decode cX2_rotate 32 = .ok (.istore_n 2, 1) := by decide +kernel
theorem dX2_rotate_33 : decode cX2_rotate 33 = .ok (.iload_n 2, 1) := by decide +kernel
theorem dX2_rotate_34 : decode cX2_rotate 34 = .ok (.bipush 16, 2) := by decide +kernel
theorem dX2_rotate_36 : decode cX2_rotate 36 = .ok (.if_icmp .ge 26, 3) := by decide +kernel
theorem dX2_rotate_39 : decode cX2_rotate 39 = .ok (.aload_n 0, 1) := by decide +kernel
theorem dX2_rotate_40 : decode cX2_rotate 40 = .ok (.getfield 7, 3) := by decide +kernel
theorem dX2_rotate_43 : decode cX2_rotate 43 = .ok (.iload_n 2, 1) := by decide +kernel
theorem dX2_rotate_44 : decode cX2_rotate 44 = .ok (.aload_n 0, 1) := by decide +kernel
theorem dX2_rotate_45 : decode cX2_rotate 45 = .ok (.getfield 13, 3) := by decide +kernel
theorem dX2_rotate_48 : decode cX2_rotate 48 = .ok (.iload_n 2, 1) := by decide +kernel
theorem dX2_rotate_49 : decode cX2_rotate 49 = .ok (.iload_n 1, 1) := by decide +kernel
theorem dX2_rotate_50 : decode cX2_rotate 50 = .ok (.iadd, 1) := by decide +kernel
theorem dX2_rotate_51 : decode cX2_rotate 51 = .ok (.bipush 15, 2) := by decide +kernel
theorem dX2_rotate_53 : decode cX2_rotate 53 = .ok (.iand, 1) := by decide +kernel
theorem dX2_rotate_54 : decode cX2_rotate 54 = .ok (.iaload, 1) := by decide +kernel
theorem dX2_rotate_55 : decode cX2_rotate 55 = .ok (.iastore, 1) := by decide +kernel
theorem dX2_rotate_56 : decode cX2_rotate 56 = .ok (.iinc 2 1, 3) := by decide +kernel
theorem dX2_rotate_59 : decode cX2_rotate 59 = .ok (.goto (-26), 3) := by decide +kernel
theorem dX2_rotate_62 : decode cX2_rotate 62 = .ok (.iconst 0, 1) := by decide +kernel
theorem dX2_rotate_63 : decode cX2_rotate 63 = .ok (.ireturn, 1) := by decide +kernel
theorem dX2_sum_0 : decode cX2_sum 0 = .ok (.aload_n 0, 1) := by decide +kernel
theorem dX2_sum_1 : decode cX2_sum 1 = .ok (.iconst 1, 1) := by decide +kernel
theorem dX2_sum_2 : decode cX2_sum 2 = .ok (.putfield 23, 3) := by decide +kernel
theorem dX2_sum_5 : decode cX2_sum 5 = .ok (.iconst 0, 1) := by decide +kernel
theorem dX2_sum_6 : decode cX2_sum 6 = .ok (.istore_n 1, 1) := by decide +kernel
theorem dX2_sum_7 : decode cX2_sum 7 = .ok (.iconst 0, 1) := by decide +kernel
theorem dX2_sum_8 : decode cX2_sum 8 = .ok (.istore_n 2, 1) := by decide +kernel
theorem dX2_sum_9 : decode cX2_sum 9 = .ok (.iload_n 2, 1) := by decide +kernel
theorem dX2_sum_10 : decode cX2_sum 10 = .ok (.bipush 16, 2) := by decide +kernel
theorem dX2_sum_12 : decode cX2_sum 12 = .ok (.if_icmp .ge 18, 3) := by decide +kernel
theorem dX2_sum_15 : decode cX2_sum 15 = .ok (.iload_n 1, 1) := by decide +kernel
theorem dX2_sum_16 : decode cX2_sum 16 = .ok (.aload_n 0, 1) := by decide +kernel
theorem dX2_sum_17 : decode cX2_sum 17 = .ok (.getfield 7, 3) := by decide +kernel
theorem dX2_sum_20 : decode cX2_sum 20 = .ok (.iload_n 2, 1) := by decide +kernel
theorem dX2_sum_21 : decode cX2_sum 21 = .ok (.iaload, 1) := by decide +kernel
theorem dX2_sum_22 : decode cX2_sum 22 = .ok (.iadd, 1) := by decide +kernel
theorem dX2_sum_23 : decode cX2_sum 23 = .ok (.istore_n 1, 1) := by decide +kernel
theorem dX2_sum_24 : decode cX2_sum 24 = .ok (.iinc 2 1, 3) := by decide +kernel
theorem dX2_sum_27 : decode cX2_sum 27 = .ok (.goto (-18), 3) := by decide +kernel
theorem dX2_sum_30 : decode cX2_sum 30 = .ok (.iload_n 1, 1) := by decide +kernel
theorem dX2_sum_31 : decode cX2_sum 31 = .ok (.ireturn, 1) := by decide +kernel
theorem dX2_find_0 : decode cX2_find 0 = .ok (.aload_n 0, 1) := by decide +kernel
theorem dX2_find_1 : decode cX2_find 1 = .ok (.iload_n 2, 1) := by decide +kernel
theorem dX2_find_2 : decode cX2_find 2 = .ok (.invokevirtual 19, 3) := by decide +kernel
theorem dX2_find_5 : decode cX2_find 5 = .ok (.ifCond .eq 5, 3) := by decide +kernel
theorem dX2_find_8 : decode cX2_find 8 = .ok (.iconst (-1), 1) := by decide +kernel
theorem dX2_find_9 : decode cX2_find 9 = .ok (.ireturn, 1) := by decide +kernel
theorem dX2_find_10 : decode cX2_find 10 = .ok (.aload_n 0, 1) := by decide +kernel
theorem dX2_find_11 : decode cX2_find 11 = .ok (.iconst 1, 1) := by decide +kernel
theorem dX2_find_12 : decode cX2_find 12 = .ok (.putfield 23, 3) := by decide +kernel
theorem dX2_find_15 : decode cX2_find 15 = .ok (.iload_n 2, 1) := by decide +kernel
theorem dX2_find_16 : decode cX2_find 16 = .ok (.istore_n 3, 1) := by decide +kernel
theorem dX2_find_17 : decode cX2_find 17 = .ok (.iload_n 3, 1) := by decide +kernel
theorem dX2_find_18 : decode cX2_find 18 = .ok (.bipush 16, 2) := by decide +kernel
theorem dX2_find_20 : decode cX2_find 20 = .ok (.if_icmp .ge 21, 3) := by decide +kernel
theorem dX2_find_23 : decode cX2_find 23 = .ok (.aload_n 0, 1) := by decide +kernel
theorem dX2_find_24 : decode cX2_find 24 = .ok (.getfield 7, 3) := by decide +kernel
theorem dX2_find_27 : decode cX2_find 27 = .ok (.iload_n 3, 1) := by decide +kernel
theorem dX2_find_28 : decode cX2_find 28 = .ok (.iaload, 1) := by decide +kernel
theorem dX2_find_29 : decode cX2_find 29 = .ok (.iload_n 1, 1) := by decide +kernel
theorem dX2_find_30 : decode cX2_find 30 = .ok (.if_icmp .ne 5, 3) := by decide +kernel
theorem dX2_find_33 : decode cX2_find 33 = .ok (.iload_n 3, 1) := by decide +kernel
theorem dX2_find_34 : decode cX2_find 34 = .ok (.ireturn, 1) := by decide +kernel
theorem dX2_find_35 : decode cX2_find 35 = .ok (.iinc 3 1, 3) := by decide +kernel
theorem dX2_find_38 : decode cX2_find 38 = .ok (.goto (-21), 3) := by decide +kernel
theorem dX2_find_41 : decode cX2_find 41 = .ok (.bipush (-2), 2) := by decide +kernel
theorem dX2_find_43 : decode cX2_find 43 = .ok (.ireturn, 1) := by decide +kernel
theorem dX2_below_0 : decode cX2_below 0 = .ok (.aload_n 0, 1) := by decide +kernel
theorem dX2_below_1 : decode cX2_below 1 = .ok (.iconst 1, 1) := by decide +kernel
theorem dX2_below_2 : decode cX2_below 2 = .ok (.putfield 23, 3) := by decide +kernel
theorem dX2_below_5 : decode cX2_below 5 = .ok (.aload_n 0, 1) := by decide +kernel
theorem dX2_below_6 : decode cX2_below 6 = .ok (.iload_n 1, 1) := by decide +kernel
theorem dX2_below_7 : decode cX2_below 7 = .ok (.invokevirtual 27, 3) := by decide +kernel
theorem dX2_below_10 : decode cX2_below 10 = .ok (.ireturn, 1) := by decide +kernel
theorem dX2_less_0 : decode cX2_less 0 = .ok (.iconst 0, 1) := by decide +kernel
theorem dX2_less_1 : decode cX2_less 1 = .ok (.istore_n 2, 1) := by decide +kernel
theorem dX2_less_2 : decode cX2_less 2 = .ok (.iconst 0, 1) := by decide +kernel
theorem dX2_less_3 : decode cX2_less 3 = .ok (.istore_n 3, 1) := by decide +kernel
theorem dX2_less_4 : decode cX2_less 4 = .ok (.iload_n 3, 1) := by decide +kernel
theorem dX2_less_5 : decode cX2_less 5 = .ok (.bipush 16, 2) := by decide +kernel
theorem dX2_less_7 : decode cX2_less 7 = .ok (.if_icmp .ge 22, 3) := by decide +kernel
theorem dX2_less_10 : decode cX2_less 10 = .ok (.aload_n 0, 1) := by decide +kernel
theorem dX2_less_11 : decode cX2_less 11 = .ok (.getfield 7, 3) := by decide +kernel
theorem dX2_less_14 : decode cX2_less 14 = .ok (.iload_n 3, 1) := by decide +kernel
theorem dX2_less_15 : decode cX2_less 15 = .ok (.iaload, 1) := by decide +kernel
theorem dX2_less_16 : decode cX2_less 16 = .ok (.iload_n 1, 1) := by decide +kernel
theorem dX2_less_17 : decode cX2_less 17 = .ok (.if_icmp .ge 6, 3) := by decide +kernel
theorem dX2_less_20 : decode cX2_less 20 = .ok (.iinc 2 1, 3) := by decide +kernel
theorem dX2_less_23 : decode cX2_less 23 = .ok (.iinc 3 1, 3) := by decide +kernel
theorem dX2_less_26 : decode cX2_less 26 = .ok (.goto (-22), 3) := by decide +kernel
theorem dX2_less_29 : decode cX2_less 29 = .ok (.iload_n 2, 1) := by decide +kernel
theorem dX2_less_30 : decode cX2_less 30 = .ok (.ireturn, 1) := by decide +kernel
theorem dX2_ranked_0 : decode cX2_ranked 0 = .ok (.aload_n 0, 1) := by decide +kernel
theorem dX2_ranked_1 : decode cX2_ranked 1 = .ok (.iload_n 1, 1) := by decide +kernel
theorem dX2_ranked_2 : decode cX2_ranked 2 = .ok (.invokevirtual 19, 3) := by decide +kernel
theorem dX2_ranked_5 : decode cX2_ranked 5 = .ok (.ifCond .eq 5, 3) := by decide +kernel
theorem dX2_ranked_8 : decode cX2_ranked 8 = .ok (.iconst 0, 1) := by decide +kernel
theorem dX2_ranked_9 : decode cX2_ranked 9 = .ok (.ireturn, 1) := by decide +kernel
theorem dX2_ranked_10 : decode cX2_ranked 10 = .ok (.aload_n 0, 1) := by decide +kernel
theorem dX2_ranked_11 : decode cX2_ranked 11 = .ok (.iconst 1, 1) := by decide +kernel
theorem dX2_ranked_12 : decode cX2_ranked 12 = .ok (.putfield 23, 3) := by decide +kernel
theorem dX2_ranked_15 : decode cX2_ranked 15 = .ok (.iconst 0, 1) := by decide +kernel
theorem dX2_ranked_16 : decode cX2_ranked 16 = .ok (.istore_n 2, 1) := by decide +kernel
theorem dX2_ranked_17 : decode cX2_ranked 17 = .ok (.iload_n 2, 1) := by decide +kernel
theorem dX2_ranked_18 : decode cX2_ranked 18 = .ok (.bipush 16, 2) := by decide +kernel
theorem dX2_ranked_20 : decode cX2_ranked 20 = .ok (.if_icmp .ge 52, 3) := by decide +kernel
theorem dX2_ranked_23 : decode cX2_ranked 23 = .ok (.aload_n 0, 1) := by decide +kernel
theorem dX2_ranked_24 : decode cX2_ranked 24 = .ok (.aload_n 0, 1) := by decide +kernel
theorem dX2_ranked_25 : decode cX2_ranked 25 = .ok (.getfield 7, 3) := by decide +kernel
theorem dX2_ranked_28 : decode cX2_ranked 28 = .ok (.iload_n 2, 1) := by decide +kernel
theorem dX2_ranked_29 : decode cX2_ranked 29 = .ok (.iaload, 1) := by decide +kernel
theorem dX2_ranked_30 : decode cX2_ranked 30 = .ok (.invokevirtual 27, 3) := by decide +kernel
theorem dX2_ranked_33 : decode cX2_ranked 33 = .ok (.istore_n 3, 1) := by decide +kernel
theorem dX2_ranked_34 : decode cX2_ranked 34 = .ok (.aload_n 0, 1) := by decide +kernel
theorem dX2_ranked_35 : decode cX2_ranked 35 = .ok (.aload_n 0, 1) := by decide +kernel
theorem dX2_ranked_36 : decode cX2_ranked 36 = .ok (.getfield 7, 3) := by decide +kernel
theorem dX2_ranked_39 : decode cX2_ranked 39 = .ok (.iload_n 2, 1) := by decide +kernel
theorem dX2_ranked_40 : decode cX2_ranked 40 = .ok (.iaload, 1) := by decide +kernel
theorem dX2_ranked_41 : decode cX2_ranked 41 = .ok (.invokevirtual 31, 3) := by decide +kernel
theorem dX2_ranked_44 : decode cX2_ranked 44 = .ok (.istore 4, 2) := by decide +kernel
theorem dX2_ranked_46 : decode cX2_ranked 46 = .ok (.iload_n 3, 1) := by decide +kernel
theorem dX2_ranked_47 : decode cX2_ranked 47 = .ok (.iload_n 1, 1) := by decide +kernel
theorem dX2_ranked_48 : decode cX2_ranked 48 = .ok (.if_icmp .gt 18, 3) := by decide +kernel
theorem dX2_ranked_51 : decode cX2_ranked 51 = .ok (.iload_n 1, 1) := by decide +kernel
theorem dX2_ranked_52 : decode cX2_ranked 52 = .ok (.iload_n 3, 1) := by decide +kernel
theorem dX2_ranked_53 : decode cX2_ranked 53 = .ok (.iload 4, 2) := by decide +kernel
theorem dX2_ranked_55 : decode cX2_ranked 55 = .ok (.iadd, 1) := by decide +kernel
theorem dX2_ranked_56 : decode cX2_ranked 56 = .ok (.if_icmp .ge 10, 3) := by decide +kernel
theorem dX2_ranked_59 : decode cX2_ranked 59 = .ok (.aload_n 0, 1) := by decide +kernel
theorem dX2_ranked_60 : decode cX2_ranked 60 = .ok (.getfield 7, 3) := by decide +kernel
theorem dX2_ranked_63 : decode cX2_ranked 63 = .ok (.iload_n 2, 1) := by decide +kernel
theorem dX2_ranked_64 : decode cX2_ranked 64 = .ok (.iaload, 1) := by decide +kernel
theorem dX2_ranked_65 : decode cX2_ranked 65 = .ok (.ireturn, 1) := by decide +kernel
theorem dX2_ranked_66 : decode cX2_ranked 66 = .ok (.iinc 2 1, 3) := by decide +kernel
theorem dX2_ranked_69 : decode cX2_ranked 69 = .ok (.goto (-52), 3) := by decide +kernel
theorem dX2_ranked_72 : decode cX2_ranked 72 = .ok (.iconst 0, 1) := by decide +kernel
theorem dX2_ranked_73 : decode cX2_ranked 73 = .ok (.ireturn, 1) := by decide +kernel
theorem dX2_same_0 : decode cX2_same 0 = .ok (.iconst 0, 1) := by decide +kernel
theorem dX2_same_1 : decode cX2_same 1 = .ok (.istore_n 2, 1) := by decide +kernel
theorem dX2_same_2 : decode cX2_same 2 = .ok (.iconst 0, 1) := by decide +kernel
theorem dX2_same_3 : decode cX2_same 3 = .ok (.istore_n 3, 1) := by decide +kernel
theorem dX2_same_4 : decode cX2_same 4 = .ok (.iload_n 3, 1) := by decide +kernel
theorem dX2_same_5 : decode cX2_same 5 = .ok (.bipush 16, 2) := by decide +kernel
theorem dX2_same_7 : decode cX2_same 7 = .ok (.if_icmp .ge 22, 3) := by decide +kernel
theorem dX2_same_10 : decode cX2_same 10 = .ok (.aload_n 0, 1) := by decide +kernel
theorem dX2_same_11 : decode cX2_same 11 = .ok (.getfield 7, 3) := by decide +kernel
theorem dX2_same_14 : decode cX2_same 14 = .ok (.iload_n 3, 1) := by decide +kernel
theorem dX2_same_15 : decode cX2_same 15 = .ok (.iaload, 1) := by decide +kernel
theorem dX2_same_16 : decode cX2_same 16 = .ok (.iload_n 1, 1) := by decide +kernel
theorem dX2_same_17 : decode cX2_same 17 = .ok (.if_icmp .ne 6, 3) := by decide +kernel
theorem dX2_same_20 : decode cX2_same 20 = .ok (.iinc 2 1, 3) := by decide +kernel
theorem dX2_same_23 : decode cX2_same 23 = .ok (.iinc 3 1, 3) := by decide +kernel
theorem dX2_same_26 : decode cX2_same 26 = .ok (.goto (-22), 3) := by decide +kernel
theorem dX2_same_29 : decode cX2_same 29 = .ok (.iload_n 2, 1) := by decide +kernel
theorem dX2_same_30 : decode cX2_same 30 = .ok (.ireturn, 1) := by decide +kernel
theorem dX2_save_0 : decode cX2_save 0 = .ok (.aload_n 0, 1) := by decide +kernel
theorem dX2_save_1 : decode cX2_save 1 = .ok (.iload_n 1, 1) := by decide +kernel
theorem dX2_save_2 : decode cX2_save 2 = .ok (.invokevirtual 34, 3) := by decide +kernel
theorem dX2_save_5 : decode cX2_save 5 = .ok (.ifCond .eq 5, 3) := by decide +kernel
theorem dX2_save_8 : decode cX2_save 8 = .ok (.iconst (-1), 1) := by decide +kernel
theorem dX2_save_9 : decode cX2_save 9 = .ok (.ireturn, 1) := by decide +kernel
theorem dX2_save_10 : decode cX2_save 10 = .ok (.aload_n 0, 1) := by decide +kernel
theorem dX2_save_11 : decode cX2_save 11 = .ok (.iconst 1, 1) := by decide +kernel
theorem dX2_save_12 : decode cX2_save 12 = .ok (.putfield 23, 3) := by decide +kernel
theorem dX2_save_15 : decode cX2_save 15 = .ok (.iconst 0, 1) := by decide +kernel
theorem dX2_save_16 : decode cX2_save 16 = .ok (.istore_n 2, 1) := by decide +kernel
theorem dX2_save_17 : decode cX2_save 17 = .ok (.iload_n 2, 1) := by decide +kernel
theorem dX2_save_18 : decode cX2_save 18 = .ok (.bipush 16, 2) := by decide +kernel
theorem dX2_save_20 : decode cX2_save 20 = .ok (.if_icmp .ge 26, 3) := by decide +kernel
theorem dX2_save_23 : decode cX2_save 23 = .ok (.aload_n 0, 1) := by decide +kernel
theorem dX2_save_24 : decode cX2_save 24 = .ok (.getfield 16, 3) := by decide +kernel
theorem dX2_save_27 : decode cX2_save 27 = .ok (.bipush 16, 2) := by decide +kernel
theorem dX2_save_29 : decode cX2_save 29 = .ok (.iload_n 1, 1) := by decide +kernel
theorem dX2_save_30 : decode cX2_save 30 = .ok (.imul, 1) := by decide +kernel
theorem dX2_save_31 : decode cX2_save 31 = .ok (.iload_n 2, 1) := by decide +kernel
theorem dX2_save_32 : decode cX2_save 32 = .ok (.iadd, 1) := by decide +kernel
theorem dX2_save_33 : decode cX2_save 33 = .ok (.aload_n 0, 1) := by decide +kernel
theorem dX2_save_34 : decode cX2_save 34 = .ok (.getfield 7, 3) := by decide +kernel
theorem dX2_save_37 : decode cX2_save 37 = .ok (.iload_n 2, 1) := by decide +kernel
theorem dX2_save_38 : decode cX2_save 38 = .ok (.iaload, 1) := by decide +kernel
theorem dX2_save_39 : decode cX2_save 39 = .ok (.iastore, 1) := by decide +kernel
theorem dX2_save_40 : decode cX2_save 40 = .ok (.iinc 2 1, 3) := by decide +kernel
theorem dX2_save_43 : decode cX2_save 43 = .ok (.goto (-26), 3) := by decide +kernel
theorem dX2_save_46 : decode cX2_save 46 = .ok (.iconst 0, 1) := by decide +kernel
theorem dX2_save_47 : decode cX2_save 47 = .ok (.ireturn, 1) := by decide +kernel
theorem dX2_badShot_0 : decode cX2_badShot 0 = .ok (.iload_n 1, 1) := by decide +kernel
theorem dX2_badShot_1 : decode cX2_badShot 1 = .ok (.ifCond .lt 8, 3) := by decide +kernel
theorem dX2_badShot_4 : decode cX2_badShot 4 = .ok (.iload_n 1, 1) := by decide +kernel
theorem dX2_badShot_5 : decode cX2_badShot 5 = .ok (.iconst 1, 1) := by decide +kernel
theorem dX2_badShot_6 : decode cX2_badShot 6 = .ok (.if_icmp .le 7, 3) := by decide +kernel
theorem dX2_badShot_9 : decode cX2_badShot 9 = .ok (.iconst 1, 1) := by decide +kernel
theorem dX2_badShot_10 : decode cX2_badShot 10 = .ok (.goto 4, 3) := by decide +kernel
theorem dX2_badShot_13 : decode cX2_badShot 13 = .ok (.iconst 0, 1) := by decide +kernel
theorem dX2_badShot_14 : decode cX2_badShot 14 = .ok (.ireturn, 1) := by decide +kernel
theorem dX2_load_0 : decode cX2_load 0 = .ok (.aload_n 0, 1) := by decide +kernel
theorem dX2_load_1 : decode cX2_load 1 = .ok (.iload_n 1, 1) := by decide +kernel
theorem dX2_load_2 : decode cX2_load 2 = .ok (.invokevirtual 34, 3) := by decide +kernel
theorem dX2_load_5 : decode cX2_load 5 = .ok (.ifCond .eq 5, 3) := by decide +kernel
theorem dX2_load_8 : decode cX2_load 8 = .ok (.iconst (-1), 1) := by decide +kernel
theorem dX2_load_9 : decode cX2_load 9 = .ok (.ireturn, 1) := by decide +kernel
theorem dX2_load_10 : decode cX2_load 10 = .ok (.aload_n 0, 1) := by decide +kernel
theorem dX2_load_11 : decode cX2_load 11 = .ok (.iload_n 1, 1) := by decide +kernel
theorem dX2_load_12 : decode cX2_load 12 = .ok (.invokevirtual 37, 3) := by decide +kernel
theorem dX2_load_15 : decode cX2_load 15 = .ok (.istore_n 2, 1) := by decide +kernel
theorem dX2_load_16 : decode cX2_load 16 = .ok (.iconst 0, 1) := by decide +kernel
theorem dX2_load_17 : decode cX2_load 17 = .ok (.istore_n 3, 1) := by decide +kernel
theorem dX2_load_18 : decode cX2_load 18 = .ok (.iload_n 3, 1) := by decide +kernel
theorem dX2_load_19 : decode cX2_load 19 = .ok (.bipush 16, 2) := by decide +kernel
theorem dX2_load_21 : decode cX2_load 21 = .ok (.if_icmp .ge 26, 3) := by decide +kernel
theorem dX2_load_24 : decode cX2_load 24 = .ok (.aload_n 0, 1) := by decide +kernel
theorem dX2_load_25 : decode cX2_load 25 = .ok (.getfield 7, 3) := by decide +kernel
theorem dX2_load_28 : decode cX2_load 28 = .ok (.iload_n 3, 1) := by decide +kernel
theorem dX2_load_29 : decode cX2_load 29 = .ok (.aload_n 0, 1) := by decide +kernel
theorem dX2_load_30 : decode cX2_load 30 = .ok (.getfield 16, 3) := by decide +kernel
theorem dX2_load_33 : decode cX2_load 33 = .ok (.bipush 16, 2) := by decide +kernel
theorem dX2_load_35 : decode cX2_load 35 = .ok (.iload_n 1, 1) := by decide +kernel
theorem dX2_load_36 : decode cX2_load 36 = .ok (.imul, 1) := by decide +kernel
theorem dX2_load_37 : decode cX2_load 37 = .ok (.iload_n 3, 1) := by decide +kernel
theorem dX2_load_38 : decode cX2_load 38 = .ok (.iadd, 1) := by decide +kernel
theorem dX2_load_39 : decode cX2_load 39 = .ok (.iaload, 1) := by decide +kernel
theorem dX2_load_40 : decode cX2_load 40 = .ok (.iastore, 1) := by decide +kernel
theorem dX2_load_41 : decode cX2_load 41 = .ok (.iinc 3 1, 3) := by decide +kernel
theorem dX2_load_44 : decode cX2_load 44 = .ok (.goto (-26), 3) := by decide +kernel
theorem dX2_load_47 : decode cX2_load 47 = .ok (.iload_n 2, 1) := by decide +kernel
theorem dX2_load_48 : decode cX2_load 48 = .ok (.ireturn, 1) := by decide +kernel
theorem dX2_differing_0 : decode cX2_differing 0 = .ok (.aload_n 0, 1) := by decide +kernel
theorem dX2_differing_1 : decode cX2_differing 1 = .ok (.iload_n 1, 1) := by decide +kernel
theorem dX2_differing_2 : decode cX2_differing 2 = .ok (.invokevirtual 34, 3) := by decide +kernel
theorem dX2_differing_5 : decode cX2_differing 5 = .ok (.ifCond .eq 5, 3) := by decide +kernel
theorem dX2_differing_8 : decode cX2_differing 8 = .ok (.iconst (-1), 1) := by decide +kernel
theorem dX2_differing_9 : decode cX2_differing 9 = .ok (.ireturn, 1) := by decide +kernel
theorem dX2_differing_10 : decode cX2_differing 10 = .ok (.aload_n 0, 1) := by decide +kernel
theorem dX2_differing_11 : decode cX2_differing 11 = .ok (.iconst 1, 1) := by decide +kernel
theorem dX2_differing_12 : decode cX2_differing 12 = .ok (.putfield 23, 3) := by decide +kernel
theorem dX2_differing_15 : decode cX2_differing 15 = .ok (.iconst 0, 1) := by decide +kernel
theorem dX2_differing_16 : decode cX2_differing 16 = .ok (.istore_n 2, 1) := by decide +kernel
theorem dX2_differing_17 : decode cX2_differing 17 = .ok (.iconst 0, 1) := by decide +kernel
end
section
set_option maxRecDepth 100000
theorem dX2_differing_18 : decode cX2_differing 18 = .ok (.istore_n 3, 1) := by decide +kernel
theorem dX2_differing_19 : decode cX2_differing 19 = .ok (.iload_n 3, 1) := by decide +kernel
theorem dX2_differing_20 : decode cX2_differing 20 = .ok (.bipush 16, 2) := by decide +kernel
theorem dX2_differing_22 : decode cX2_differing 22 = .ok (.if_icmp .ge 32, 3) := by decide +kernel
theorem dX2_differing_25 : decode cX2_differing 25 = .ok (.aload_n 0, 1) := by decide +kernel
theorem dX2_differing_26 : decode cX2_differing 26 = .ok (.getfield 7, 3) := by decide +kernel
theorem dX2_differing_29 : decode cX2_differing 29 = .ok (.iload_n 3, 1) := by decide +kernel
theorem dX2_differing_30 : decode cX2_differing 30 = .ok (.iaload, 1) := by decide +kernel
theorem dX2_differing_31 : decode cX2_differing 31 = .ok (.aload_n 0, 1) := by decide +kernel
theorem dX2_differing_32 : decode cX2_differing 32 = .ok (.getfield 16, 3) := by decide +kernel
theorem dX2_differing_35 : decode cX2_differing 35 = .ok (.bipush 16, 2) := by decide +kernel
theorem dX2_differing_37 : decode cX2_differing 37 = .ok (.iload_n 1, 1) := by decide +kernel
theorem dX2_differing_38 : decode cX2_differing 38 = .ok (.imul, 1) := by decide +kernel
theorem dX2_differing_39 : decode cX2_differing 39 = .ok (.iload_n 3, 1) := by decide +kernel
theorem dX2_differing_40 : decode cX2_differing 40 = .ok (.iadd, 1) := by decide +kernel
theorem dX2_differing_41 : decode cX2_differing 41 = .ok (.iaload, 1) := by decide +kernel
theorem dX2_differing_42 : decode cX2_differing 42 = .ok (.if_icmp .eq 6, 3) := by decide +kernel
theorem dX2_differing_45 : decode cX2_differing 45 = .ok (.iinc 2 1, 3) := by decide +kernel
theorem dX2_differing_48 : decode cX2_differing 48 = .ok (.iinc 3 1, 3) := by decide +kernel
theorem dX2_differing_51 : decode cX2_differing 51 = .ok (.goto (-32), 3) := by decide +kernel
theorem dX2_differing_54 : decode cX2_differing 54 = .ok (.iload_n 2, 1) := by decide +kernel
theorem dX2_differing_55 : decode cX2_differing 55 = .ok (.ireturn, 1) := by decide +kernel
theorem dX2_audit_0 : decode cX2_audit 0 = .ok (.iconst 0, 1) := by decide +kernel
theorem dX2_audit_1 : decode cX2_audit 1 = .ok (.ireturn, 1) := by decide +kernel
theorem dX2_touched_0 : decode cX2_touched 0 = .ok (.aload_n 0, 1) := by decide +kernel
theorem dX2_touched_1 : decode cX2_touched 1 = .ok (.getfield 23, 3) := by decide +kernel
theorem dX2_touched_4 : decode cX2_touched 4 = .ok (.ifCond .eq 7, 3) := by decide +kernel
theorem dX2_touched_7 : decode cX2_touched 7 = .ok (.iconst 4, 1) := by decide +kernel
theorem dX2_touched_8 : decode cX2_touched 8 = .ok (.goto 4, 3) := by decide +kernel
theorem dX2_touched_11 : decode cX2_touched 11 = .ok (.iconst 0, 1) := by decide +kernel
theorem dX2_touched_12 : decode cX2_touched 12 = .ok (.ireturn, 1) := by decide +kernel
theorem dL_law_0 : decode cL_law 0 = .ok (.new 7, 3) := by decide +kernel
theorem dL_law_3 : decode cL_law 3 = .ok (.dup, 1) := by decide +kernel
theorem dL_law_4 : decode cL_law 4 = .ok (.aload_n 0, 1) := by decide +kernel
theorem dL_law_5 : decode cL_law 5 = .ok (.iconst 0, 1) := by decide +kernel
theorem dL_law_6 : decode cL_law 6 = .ok (.invokestatic 9, 3) := by decide +kernel
theorem dL_law_9 : decode cL_law 9 = .ok (.invokespecial 15, 3) := by decide +kernel
theorem dL_law_12 : decode cL_law 12 = .ok (.astore_n 1, 1) := by decide +kernel
theorem dL_law_13 : decode cL_law 13 = .ok (.new 18, 3) := by decide +kernel
theorem dL_law_16 : decode cL_law 16 = .ok (.dup, 1) := by decide +kernel
theorem dL_law_17 : decode cL_law 17 = .ok (.aload_n 0, 1) := by decide +kernel
theorem dL_law_18 : decode cL_law 18 = .ok (.iconst 0, 1) := by decide +kernel
theorem dL_law_19 : decode cL_law 19 = .ok (.invokestatic 9, 3) := by decide +kernel
theorem dL_law_22 : decode cL_law 22 = .ok (.invokespecial 20, 3) := by decide +kernel
theorem dL_law_25 : decode cL_law 25 = .ok (.astore_n 2, 1) := by decide +kernel
theorem dL_law_26 : decode cL_law 26 = .ok (.iconst 1, 1) := by decide +kernel
theorem dL_law_27 : decode cL_law 27 = .ok (.istore_n 3, 1) := by decide +kernel
theorem dL_law_28 : decode cL_law 28 = .ok (.iload_n 3, 1) := by decide +kernel
theorem dL_law_29 : decode cL_law 29 = .ok (.aload_n 0, 1) := by decide +kernel
theorem dL_law_30 : decode cL_law 30 = .ok (.arraylength, 1) := by decide +kernel
theorem dL_law_31 : decode cL_law 31 = .ok (.iconst 5, 1) := by decide +kernel
theorem dL_law_32 : decode cL_law 32 = .ok (.isub, 1) := by decide +kernel
theorem dL_law_33 : decode cL_law 33 = .ok (.if_icmp .gt 536, 3) := by decide +kernel
theorem dL_law_36 : decode cL_law 36 = .ok (.aload_n 0, 1) := by decide +kernel
theorem dL_law_37 : decode cL_law 37 = .ok (.iload_n 3, 1) := by decide +kernel
theorem dL_law_38 : decode cL_law 38 = .ok (.iaload, 1) := by decide +kernel
theorem dL_law_39 : decode cL_law 39 = .ok (.bipush 31, 2) := by decide +kernel
theorem dL_law_41 : decode cL_law 41 = .ok (.iand, 1) := by decide +kernel
theorem dL_law_42 : decode cL_law 42 = .ok (.tableswitch 521 0 16 #[82, 103, 126, 159, 192, 225, 258, 311, 334, 347, 380, 403, 426, 449, 472, 495, 508], 82) := by decide +kernel
theorem dL_law_124 : decode cL_law 124 = .ok (.aload_n 1, 1) := by decide +kernel
theorem dL_law_125 : decode cL_law 125 = .ok (.aload_n 0, 1) := by decide +kernel
theorem dL_law_126 : decode cL_law 126 = .ok (.iload_n 3, 1) := by decide +kernel
theorem dL_law_127 : decode cL_law 127 = .ok (.iconst 1, 1) := by decide +kernel
theorem dL_law_128 : decode cL_law 128 = .ok (.iadd, 1) := by decide +kernel
theorem dL_law_129 : decode cL_law 129 = .ok (.iaload, 1) := by decide +kernel
theorem dL_law_130 : decode cL_law 130 = .ok (.invokevirtual 21, 3) := by decide +kernel
theorem dL_law_133 : decode cL_law 133 = .ok (.aload_n 2, 1) := by decide +kernel
theorem dL_law_134 : decode cL_law 134 = .ok (.aload_n 0, 1) := by decide +kernel
theorem dL_law_135 : decode cL_law 135 = .ok (.iload_n 3, 1) := by decide +kernel
theorem dL_law_136 : decode cL_law 136 = .ok (.iconst 1, 1) := by decide +kernel
theorem dL_law_137 : decode cL_law 137 = .ok (.iadd, 1) := by decide +kernel
theorem dL_law_138 : decode cL_law 138 = .ok (.iaload, 1) := by decide +kernel
theorem dL_law_139 : decode cL_law 139 = .ok (.invokevirtual 24, 3) := by decide +kernel
theorem dL_law_142 : decode cL_law 142 = .ok (.goto 421, 3) := by decide +kernel
theorem dL_law_145 : decode cL_law 145 = .ok (.aload_n 1, 1) := by decide +kernel
theorem dL_law_146 : decode cL_law 146 = .ok (.aload_n 0, 1) := by decide +kernel
theorem dL_law_147 : decode cL_law 147 = .ok (.iload_n 3, 1) := by decide +kernel
theorem dL_law_148 : decode cL_law 148 = .ok (.iconst 1, 1) := by decide +kernel
theorem dL_law_149 : decode cL_law 149 = .ok (.iadd, 1) := by decide +kernel
theorem dL_law_150 : decode cL_law 150 = .ok (.iaload, 1) := by decide +kernel
theorem dL_law_151 : decode cL_law 151 = .ok (.invokevirtual 25, 3) := by decide +kernel
theorem dL_law_154 : decode cL_law 154 = .ok (.aload_n 2, 1) := by decide +kernel
theorem dL_law_155 : decode cL_law 155 = .ok (.aload_n 0, 1) := by decide +kernel
theorem dL_law_156 : decode cL_law 156 = .ok (.iload_n 3, 1) := by decide +kernel
theorem dL_law_157 : decode cL_law 157 = .ok (.iconst 1, 1) := by decide +kernel
theorem dL_law_158 : decode cL_law 158 = .ok (.iadd, 1) := by decide +kernel
theorem dL_law_159 : decode cL_law 159 = .ok (.iaload, 1) := by decide +kernel
theorem dL_law_160 : decode cL_law 160 = .ok (.invokevirtual 29, 3) := by decide +kernel
theorem dL_law_163 : decode cL_law 163 = .ok (.if_icmp .eq 400, 3) := by decide +kernel
theorem dL_law_166 : decode cL_law 166 = .ok (.iconst 0, 1) := by decide +kernel
theorem dL_law_167 : decode cL_law 167 = .ok (.ireturn, 1) := by decide +kernel
theorem dL_law_168 : decode cL_law 168 = .ok (.aload_n 1, 1) := by decide +kernel
theorem dL_law_169 : decode cL_law 169 = .ok (.aload_n 0, 1) := by decide +kernel
theorem dL_law_170 : decode cL_law 170 = .ok (.iload_n 3, 1) := by decide +kernel
theorem dL_law_171 : decode cL_law 171 = .ok (.iconst 1, 1) := by decide +kernel
theorem dL_law_172 : decode cL_law 172 = .ok (.iadd, 1) := by decide +kernel
theorem dL_law_173 : decode cL_law 173 = .ok (.iaload, 1) := by decide +kernel
theorem dL_law_174 : decode cL_law 174 = .ok (.aload_n 0, 1) := by decide +kernel
theorem dL_law_175 : decode cL_law 175 = .ok (.iload_n 3, 1) := by decide +kernel
theorem dL_law_176 : decode cL_law 176 = .ok (.iconst 2, 1) := by decide +kernel
theorem dL_law_177 : decode cL_law 177 = .ok (.iadd, 1) := by decide +kernel
theorem dL_law_178 : decode cL_law 178 = .ok (.iaload, 1) := by decide +kernel
theorem dL_law_179 : decode cL_law 179 = .ok (.invokevirtual 30, 3) := by decide +kernel
theorem dL_law_182 : decode cL_law 182 = .ok (.aload_n 2, 1) := by decide +kernel
theorem dL_law_183 : decode cL_law 183 = .ok (.aload_n 0, 1) := by decide +kernel
theorem dL_law_184 : decode cL_law 184 = .ok (.iload_n 3, 1) := by decide +kernel
theorem dL_law_185 : decode cL_law 185 = .ok (.iconst 1, 1) := by decide +kernel
theorem dL_law_186 : decode cL_law 186 = .ok (.iadd, 1) := by decide +kernel
theorem dL_law_187 : decode cL_law 187 = .ok (.iaload, 1) := by decide +kernel
theorem dL_law_188 : decode cL_law 188 = .ok (.aload_n 0, 1) := by decide +kernel
theorem dL_law_189 : decode cL_law 189 = .ok (.iload_n 3, 1) := by decide +kernel
theorem dL_law_190 : decode cL_law 190 = .ok (.iconst 2, 1) := by decide +kernel
theorem dL_law_191 : decode cL_law 191 = .ok (.iadd, 1) := by decide +kernel
theorem dL_law_192 : decode cL_law 192 = .ok (.iaload, 1) := by decide +kernel
theorem dL_law_193 : decode cL_law 193 = .ok (.invokevirtual 34, 3) := by decide +kernel
theorem dL_law_196 : decode cL_law 196 = .ok (.if_icmp .eq 367, 3) := by decide +kernel
theorem dL_law_199 : decode cL_law 199 = .ok (.iconst 0, 1) := by decide +kernel
theorem dL_law_200 : decode cL_law 200 = .ok (.ireturn, 1) := by decide +kernel
theorem dL_law_201 : decode cL_law 201 = .ok (.aload_n 1, 1) := by decide +kernel
theorem dL_law_202 : decode cL_law 202 = .ok (.aload_n 0, 1) := by decide +kernel
theorem dL_law_203 : decode cL_law 203 = .ok (.iload_n 3, 1) := by decide +kernel
theorem dL_law_204 : decode cL_law 204 = .ok (.iconst 1, 1) := by decide +kernel
theorem dL_law_205 : decode cL_law 205 = .ok (.iadd, 1) := by decide +kernel
theorem dL_law_206 : decode cL_law 206 = .ok (.iaload, 1) := by decide +kernel
theorem dL_law_207 : decode cL_law 207 = .ok (.aload_n 0, 1) := by decide +kernel
theorem dL_law_208 : decode cL_law 208 = .ok (.iload_n 3, 1) := by decide +kernel
theorem dL_law_209 : decode cL_law 209 = .ok (.iconst 2, 1) := by decide +kernel
theorem dL_law_210 : decode cL_law 210 = .ok (.iadd, 1) := by decide +kernel
theorem dL_law_211 : decode cL_law 211 = .ok (.iaload, 1) := by decide +kernel
theorem dL_law_212 : decode cL_law 212 = .ok (.invokevirtual 35, 3) := by decide +kernel
theorem dL_law_215 : decode cL_law 215 = .ok (.aload_n 2, 1) := by decide +kernel
theorem dL_law_216 : decode cL_law 216 = .ok (.aload_n 0, 1) := by decide +kernel
theorem dL_law_217 : decode cL_law 217 = .ok (.iload_n 3, 1) := by decide +kernel
theorem dL_law_218 : decode cL_law 218 = .ok (.iconst 1, 1) := by decide +kernel
theorem dL_law_219 : decode cL_law 219 = .ok (.iadd, 1) := by decide +kernel
theorem dL_law_220 : decode cL_law 220 = .ok (.iaload, 1) := by decide +kernel
theorem dL_law_221 : decode cL_law 221 = .ok (.aload_n 0, 1) := by decide +kernel
theorem dL_law_222 : decode cL_law 222 = .ok (.iload_n 3, 1) := by decide +kernel
theorem dL_law_223 : decode cL_law 223 = .ok (.iconst 2, 1) := by decide +kernel
theorem dL_law_224 : decode cL_law 224 = .ok (.iadd, 1) := by decide +kernel
theorem dL_law_225 : decode cL_law 225 = .ok (.iaload, 1) := by decide +kernel
theorem dL_law_226 : decode cL_law 226 = .ok (.invokevirtual 38, 3) := by decide +kernel
theorem dL_law_229 : decode cL_law 229 = .ok (.if_icmp .eq 334, 3) := by decide +kernel
theorem dL_law_232 : decode cL_law 232 = .ok (.iconst 0, 1) := by decide +kernel
theorem dL_law_233 : decode cL_law 233 = .ok (.ireturn, 1) := by decide +kernel
theorem dL_law_234 : decode cL_law 234 = .ok (.aload_n 1, 1) := by decide +kernel
theorem dL_law_235 : decode cL_law 235 = .ok (.aload_n 0, 1) := by decide +kernel
theorem dL_law_236 : decode cL_law 236 = .ok (.iload_n 3, 1) := by decide +kernel
theorem dL_law_237 : decode cL_law 237 = .ok (.iconst 1, 1) := by decide +kernel
theorem dL_law_238 : decode cL_law 238 = .ok (.iadd, 1) := by decide +kernel
theorem dL_law_239 : decode cL_law 239 = .ok (.iaload, 1) := by decide +kernel
theorem dL_law_240 : decode cL_law 240 = .ok (.aload_n 0, 1) := by decide +kernel
theorem dL_law_241 : decode cL_law 241 = .ok (.iload_n 3, 1) := by decide +kernel
theorem dL_law_242 : decode cL_law 242 = .ok (.iconst 2, 1) := by decide +kernel
theorem dL_law_243 : decode cL_law 243 = .ok (.iadd, 1) := by decide +kernel
theorem dL_law_244 : decode cL_law 244 = .ok (.iaload, 1) := by decide +kernel
theorem dL_law_245 : decode cL_law 245 = .ok (.invokevirtual 39, 3) := by decide +kernel
theorem dL_law_248 : decode cL_law 248 = .ok (.aload_n 2, 1) := by decide +kernel
theorem dL_law_249 : decode cL_law 249 = .ok (.aload_n 0, 1) := by decide +kernel
theorem dL_law_250 : decode cL_law 250 = .ok (.iload_n 3, 1) := by decide +kernel
theorem dL_law_251 : decode cL_law 251 = .ok (.iconst 1, 1) := by decide +kernel
theorem dL_law_252 : decode cL_law 252 = .ok (.iadd, 1) := by decide +kernel
theorem dL_law_253 : decode cL_law 253 = .ok (.iaload, 1) := by decide +kernel
theorem dL_law_254 : decode cL_law 254 = .ok (.aload_n 0, 1) := by decide +kernel
theorem dL_law_255 : decode cL_law 255 = .ok (.iload_n 3, 1) := by decide +kernel
theorem dL_law_256 : decode cL_law 256 = .ok (.iconst 2, 1) := by decide +kernel
theorem dL_law_257 : decode cL_law 257 = .ok (.iadd, 1) := by decide +kernel
theorem dL_law_258 : decode cL_law 258 = .ok (.iaload, 1) := by decide +kernel
theorem dL_law_259 : decode cL_law 259 = .ok (.invokevirtual 42, 3) := by decide +kernel
theorem dL_law_262 : decode cL_law 262 = .ok (.if_icmp .eq 301, 3) := by decide +kernel
theorem dL_law_265 : decode cL_law 265 = .ok (.iconst 0, 1) := by decide +kernel
theorem dL_law_266 : decode cL_law 266 = .ok (.ireturn, 1) := by decide +kernel
theorem dL_law_267 : decode cL_law 267 = .ok (.aload_n 1, 1) := by decide +kernel
theorem dL_law_268 : decode cL_law 268 = .ok (.aload_n 0, 1) := by decide +kernel
theorem dL_law_269 : decode cL_law 269 = .ok (.iload_n 3, 1) := by decide +kernel
theorem dL_law_270 : decode cL_law 270 = .ok (.iconst 1, 1) := by decide +kernel
theorem dL_law_271 : decode cL_law 271 = .ok (.iadd, 1) := by decide +kernel
theorem dL_law_272 : decode cL_law 272 = .ok (.iaload, 1) := by decide +kernel
theorem dL_law_273 : decode cL_law 273 = .ok (.aload_n 0, 1) := by decide +kernel
theorem dL_law_274 : decode cL_law 274 = .ok (.iload_n 3, 1) := by decide +kernel
theorem dL_law_275 : decode cL_law 275 = .ok (.iconst 2, 1) := by decide +kernel
theorem dL_law_276 : decode cL_law 276 = .ok (.iadd, 1) := by decide +kernel
theorem dL_law_277 : decode cL_law 277 = .ok (.iaload, 1) := by decide +kernel
theorem dL_law_278 : decode cL_law 278 = .ok (.invokevirtual 43, 3) := by decide +kernel
theorem dL_law_281 : decode cL_law 281 = .ok (.aload_n 2, 1) := by decide +kernel
theorem dL_law_282 : decode cL_law 282 = .ok (.aload_n 0, 1) := by decide +kernel
theorem dL_law_283 : decode cL_law 283 = .ok (.iload_n 3, 1) := by decide +kernel
theorem dL_law_284 : decode cL_law 284 = .ok (.iconst 1, 1) := by decide +kernel
theorem dL_law_285 : decode cL_law 285 = .ok (.iadd, 1) := by decide +kernel
theorem dL_law_286 : decode cL_law 286 = .ok (.iaload, 1) := by decide +kernel
theorem dL_law_287 : decode cL_law 287 = .ok (.aload_n 0, 1) := by decide +kernel
theorem dL_law_288 : decode cL_law 288 = .ok (.iload_n 3, 1) := by decide +kernel
theorem dL_law_289 : decode cL_law 289 = .ok (.iconst 2, 1) := by decide +kernel
theorem dL_law_290 : decode cL_law 290 = .ok (.iadd, 1) := by decide +kernel
theorem dL_law_291 : decode cL_law 291 = .ok (.iaload, 1) := by decide +kernel
theorem dL_law_292 : decode cL_law 292 = .ok (.invokevirtual 46, 3) := by decide +kernel
theorem dL_law_295 : decode cL_law 295 = .ok (.if_icmp .eq 268, 3) := by decide +kernel
theorem dL_law_298 : decode cL_law 298 = .ok (.iconst 0, 1) := by decide +kernel
theorem dL_law_299 : decode cL_law 299 = .ok (.ireturn, 1) := by decide +kernel
theorem dL_law_300 : decode cL_law 300 = .ok (.aload_n 1, 1) := by decide +kernel
theorem dL_law_301 : decode cL_law 301 = .ok (.aload_n 0, 1) := by decide +kernel
theorem dL_law_302 : decode cL_law 302 = .ok (.iload_n 3, 1) := by decide +kernel
theorem dL_law_303 : decode cL_law 303 = .ok (.iconst 1, 1) := by decide +kernel
theorem dL_law_304 : decode cL_law 304 = .ok (.iadd, 1) := by decide +kernel
theorem dL_law_305 : decode cL_law 305 = .ok (.iaload, 1) := by decide +kernel
theorem dL_law_306 : decode cL_law 306 = .ok (.aload_n 0, 1) := by decide +kernel
theorem dL_law_307 : decode cL_law 307 = .ok (.iload_n 3, 1) := by decide +kernel
theorem dL_law_308 : decode cL_law 308 = .ok (.iconst 2, 1) := by decide +kernel
theorem dL_law_309 : decode cL_law 309 = .ok (.iadd, 1) := by decide +kernel
theorem dL_law_310 : decode cL_law 310 = .ok (.iaload, 1) := by decide +kernel
theorem dL_law_311 : decode cL_law 311 = .ok (.aload_n 0, 1) := by decide +kernel
theorem dL_law_312 : decode cL_law 312 = .ok (.iload_n 3, 1) := by decide +kernel
theorem dL_law_313 : decode cL_law 313 = .ok (.iconst 3, 1) := by decide +kernel
theorem dL_law_314 : decode cL_law 314 = .ok (.iadd, 1) := by decide +kernel
theorem dL_law_315 : decode cL_law 315 = .ok (.iaload, 1) := by decide +kernel
theorem dL_law_316 : decode cL_law 316 = .ok (.aload_n 0, 1) := by decide +kernel
theorem dL_law_317 : decode cL_law 317 = .ok (.iload_n 3, 1) := by decide +kernel
theorem dL_law_318 : decode cL_law 318 = .ok (.iconst 4, 1) := by decide +kernel
theorem dL_law_319 : decode cL_law 319 = .ok (.iadd, 1) := by decide +kernel
theorem dL_law_320 : decode cL_law 320 = .ok (.iaload, 1) := by decide +kernel
theorem dL_law_321 : decode cL_law 321 = .ok (.invokevirtual 47, 3) := by decide +kernel
theorem dL_law_324 : decode cL_law 324 = .ok (.aload_n 2, 1) := by decide +kernel
theorem dL_law_325 : decode cL_law 325 = .ok (.aload_n 0, 1) := by decide +kernel
theorem dL_law_326 : decode cL_law 326 = .ok (.iload_n 3, 1) := by decide +kernel
theorem dL_law_327 : decode cL_law 327 = .ok (.iconst 1, 1) := by decide +kernel
theorem dL_law_328 : decode cL_law 328 = .ok (.iadd, 1) := by decide +kernel
theorem dL_law_329 : decode cL_law 329 = .ok (.iaload, 1) := by decide +kernel
theorem dL_law_330 : decode cL_law 330 = .ok (.aload_n 0, 1) := by decide +kernel
theorem dL_law_331 : decode cL_law 331 = .ok (.iload_n 3, 1) := by decide +kernel
theorem dL_law_332 : decode cL_law 332 = .ok (.iconst 2, 1) := by decide +kernel
theorem dL_law_333 : decode cL_law 333 = .ok (.iadd, 1) := by decide +kernel
theorem dL_law_334 : decode cL_law 334 = .ok (.iaload, 1) := by decide +kernel
theorem dL_law_335 : decode cL_law 335 = .ok (.aload_n 0, 1) := by decide +kernel
theorem dL_law_336 : decode cL_law 336 = .ok (.iload_n 3, 1) := by decide +kernel
theorem dL_law_337 : decode cL_law 337 = .ok (.iconst 3, 1) := by decide +kernel
theorem dL_law_338 : decode cL_law 338 = .ok (.iadd, 1) := by decide +kernel
theorem dL_law_339 : decode cL_law 339 = .ok (.iaload, 1) := by decide +kernel
theorem dL_law_340 : decode cL_law 340 = .ok (.aload_n 0, 1) := by decide +kernel
theorem dL_law_341 : decode cL_law 341 = .ok (.iload_n 3, 1) := by decide +kernel
theorem dL_law_342 : decode cL_law 342 = .ok (.iconst 4, 1) := by decide +kernel
theorem dL_law_343 : decode cL_law 343 = .ok (.iadd, 1) := by decide +kernel
theorem dL_law_344 : decode cL_law 344 = .ok (.iaload, 1) := by decide +kernel
theorem dL_law_345 : decode cL_law 345 = .ok (.invokevirtual 51, 3) := by decide +kernel
theorem dL_law_348 : decode cL_law 348 = .ok (.if_icmp .eq 215, 3) := by decide +kernel
theorem dL_law_351 : decode cL_law 351 = .ok (.iconst 0, 1) := by decide +kernel
theorem dL_law_352 : decode cL_law 352 = .ok (.ireturn, 1) := by decide +kernel
theorem dL_law_353 : decode cL_law 353 = .ok (.aload_n 1, 1) := by decide +kernel
theorem dL_law_354 : decode cL_law 354 = .ok (.aload_n 0, 1) := by decide +kernel
theorem dL_law_355 : decode cL_law 355 = .ok (.iload_n 3, 1) := by decide +kernel
theorem dL_law_356 : decode cL_law 356 = .ok (.iconst 1, 1) := by decide +kernel
theorem dL_law_357 : decode cL_law 357 = .ok (.iadd, 1) := by decide +kernel
theorem dL_law_358 : decode cL_law 358 = .ok (.iaload, 1) := by decide +kernel
theorem dL_law_359 : decode cL_law 359 = .ok (.invokevirtual 52, 3) := by decide +kernel
theorem dL_law_362 : decode cL_law 362 = .ok (.aload_n 2, 1) := by decide +kernel
theorem dL_law_363 : decode cL_law 363 = .ok (.aload_n 0, 1) := by decide +kernel
theorem dL_law_364 : decode cL_law 364 = .ok (.iload_n 3, 1) := by decide +kernel
theorem dL_law_365 : decode cL_law 365 = .ok (.iconst 1, 1) := by decide +kernel
theorem dL_law_366 : decode cL_law 366 = .ok (.iadd, 1) := by decide +kernel
theorem dL_law_367 : decode cL_law 367 = .ok (.iaload, 1) := by decide +kernel
theorem dL_law_368 : decode cL_law 368 = .ok (.invokevirtual 55, 3) := by decide +kernel
theorem dL_law_371 : decode cL_law 371 = .ok (.if_icmp .eq 192, 3) := by decide +kernel
theorem dL_law_374 : decode cL_law 374 = .ok (.iconst 0, 1) := by decide +kernel
theorem dL_law_375 : decode cL_law 375 = .ok (.ireturn, 1) := by decide +kernel
theorem dL_law_376 : decode cL_law 376 = .ok (.aload_n 1, 1) := by decide +kernel
theorem dL_law_377 : decode cL_law 377 = .ok (.invokevirtual 56, 3) := by decide +kernel
theorem dL_law_380 : decode cL_law 380 = .ok (.aload_n 2, 1) := by decide +kernel
theorem dL_law_381 : decode cL_law 381 = .ok (.invokevirtual 60, 3) := by decide +kernel
theorem dL_law_384 : decode cL_law 384 = .ok (.if_icmp .eq 179, 3) := by decide +kernel
theorem dL_law_387 : decode cL_law 387 = .ok (.iconst 0, 1) := by decide +kernel
theorem dL_law_388 : decode cL_law 388 = .ok (.ireturn, 1) := by decide +kernel
theorem dL_law_389 : decode cL_law 389 = .ok (.aload_n 1, 1) := by decide +kernel
theorem dL_law_390 : decode cL_law 390 = .ok (.aload_n 0, 1) := by decide +kernel
theorem dL_law_391 : decode cL_law 391 = .ok (.iload_n 3, 1) := by decide +kernel
theorem dL_law_392 : decode cL_law 392 = .ok (.iconst 1, 1) := by decide +kernel
theorem dL_law_393 : decode cL_law 393 = .ok (.iadd, 1) := by decide +kernel
theorem dL_law_394 : decode cL_law 394 = .ok (.iaload, 1) := by decide +kernel
theorem dL_law_395 : decode cL_law 395 = .ok (.aload_n 0, 1) := by decide +kernel
theorem dL_law_396 : decode cL_law 396 = .ok (.iload_n 3, 1) := by decide +kernel
theorem dL_law_397 : decode cL_law 397 = .ok (.iconst 2, 1) := by decide +kernel
theorem dL_law_398 : decode cL_law 398 = .ok (.iadd, 1) := by decide +kernel
theorem dL_law_399 : decode cL_law 399 = .ok (.iaload, 1) := by decide +kernel
theorem dL_law_400 : decode cL_law 400 = .ok (.invokevirtual 61, 3) := by decide +kernel
theorem dL_law_403 : decode cL_law 403 = .ok (.aload_n 2, 1) := by decide +kernel
theorem dL_law_404 : decode cL_law 404 = .ok (.aload_n 0, 1) := by decide +kernel
theorem dL_law_405 : decode cL_law 405 = .ok (.iload_n 3, 1) := by decide +kernel
theorem dL_law_406 : decode cL_law 406 = .ok (.iconst 1, 1) := by decide +kernel
theorem dL_law_407 : decode cL_law 407 = .ok (.iadd, 1) := by decide +kernel
theorem dL_law_408 : decode cL_law 408 = .ok (.iaload, 1) := by decide +kernel
theorem dL_law_409 : decode cL_law 409 = .ok (.aload_n 0, 1) := by decide +kernel
theorem dL_law_410 : decode cL_law 410 = .ok (.iload_n 3, 1) := by decide +kernel
theorem dL_law_411 : decode cL_law 411 = .ok (.iconst 2, 1) := by decide +kernel
theorem dL_law_412 : decode cL_law 412 = .ok (.iadd, 1) := by decide +kernel
theorem dL_law_413 : decode cL_law 413 = .ok (.iaload, 1) := by decide +kernel
theorem dL_law_414 : decode cL_law 414 = .ok (.invokevirtual 64, 3) := by decide +kernel
theorem dL_law_417 : decode cL_law 417 = .ok (.if_icmp .eq 146, 3) := by decide +kernel
theorem dL_law_420 : decode cL_law 420 = .ok (.iconst 0, 1) := by decide +kernel
theorem dL_law_421 : decode cL_law 421 = .ok (.ireturn, 1) := by decide +kernel
theorem dL_law_422 : decode cL_law 422 = .ok (.aload_n 1, 1) := by decide +kernel
theorem dL_law_423 : decode cL_law 423 = .ok (.aload_n 0, 1) := by decide +kernel
theorem dL_law_424 : decode cL_law 424 = .ok (.iload_n 3, 1) := by decide +kernel
theorem dL_law_425 : decode cL_law 425 = .ok (.iconst 1, 1) := by decide +kernel
theorem dL_law_426 : decode cL_law 426 = .ok (.iadd, 1) := by decide +kernel
theorem dL_law_427 : decode cL_law 427 = .ok (.iaload, 1) := by decide +kernel
theorem dL_law_428 : decode cL_law 428 = .ok (.invokevirtual 65, 3) := by decide +kernel
theorem dL_law_431 : decode cL_law 431 = .ok (.aload_n 2, 1) := by decide +kernel
theorem dL_law_432 : decode cL_law 432 = .ok (.aload_n 0, 1) := by decide +kernel
theorem dL_law_433 : decode cL_law 433 = .ok (.iload_n 3, 1) := by decide +kernel
theorem dL_law_434 : decode cL_law 434 = .ok (.iconst 1, 1) := by decide +kernel
theorem dL_law_435 : decode cL_law 435 = .ok (.iadd, 1) := by decide +kernel
theorem dL_law_436 : decode cL_law 436 = .ok (.iaload, 1) := by decide +kernel
theorem dL_law_437 : decode cL_law 437 = .ok (.invokevirtual 68, 3) := by decide +kernel
theorem dL_law_440 : decode cL_law 440 = .ok (.if_icmp .eq 123, 3) := by decide +kernel
theorem dL_law_443 : decode cL_law 443 = .ok (.iconst 0, 1) := by decide +kernel
theorem dL_law_444 : decode cL_law 444 = .ok (.ireturn, 1) := by decide +kernel
theorem dL_law_445 : decode cL_law 445 = .ok (.aload_n 1, 1) := by decide +kernel
theorem dL_law_446 : decode cL_law 446 = .ok (.aload_n 0, 1) := by decide +kernel
theorem dL_law_447 : decode cL_law 447 = .ok (.iload_n 3, 1) := by decide +kernel
theorem dL_law_448 : decode cL_law 448 = .ok (.iconst 1, 1) := by decide +kernel
theorem dL_law_449 : decode cL_law 449 = .ok (.iadd, 1) := by decide +kernel
theorem dL_law_450 : decode cL_law 450 = .ok (.iaload, 1) := by decide +kernel
theorem dL_law_451 : decode cL_law 451 = .ok (.invokevirtual 69, 3) := by decide +kernel
theorem dL_law_454 : decode cL_law 454 = .ok (.aload_n 2, 1) := by decide +kernel
theorem dL_law_455 : decode cL_law 455 = .ok (.aload_n 0, 1) := by decide +kernel
theorem dL_law_456 : decode cL_law 456 = .ok (.iload_n 3, 1) := by decide +kernel
theorem dL_law_457 : decode cL_law 457 = .ok (.iconst 1, 1) := by decide +kernel
theorem dL_law_458 : decode cL_law 458 = .ok (.iadd, 1) := by decide +kernel
theorem dL_law_459 : decode cL_law 459 = .ok (.iaload, 1) := by decide +kernel
theorem dL_law_460 : decode cL_law 460 = .ok (.invokevirtual 72, 3) := by decide +kernel
theorem dL_law_463 : decode cL_law 463 = .ok (.if_icmp .eq 100, 3) := by decide +kernel
theorem dL_law_466 : decode cL_law 466 = .ok (.iconst 0, 1) := by decide +kernel
theorem dL_law_467 : decode cL_law 467 = .ok (.ireturn, 1) := by decide +kernel
theorem dL_law_468 : decode cL_law 468 = .ok (.aload_n 1, 1) := by decide +kernel
theorem dL_law_469 : decode cL_law 469 = .ok (.aload_n 0, 1) := by decide +kernel
theorem dL_law_470 : decode cL_law 470 = .ok (.iload_n 3, 1) := by decide +kernel
theorem dL_law_471 : decode cL_law 471 = .ok (.iconst 1, 1) := by decide +kernel
theorem dL_law_472 : decode cL_law 472 = .ok (.iadd, 1) := by decide +kernel
theorem dL_law_473 : decode cL_law 473 = .ok (.iaload, 1) := by decide +kernel
theorem dL_law_474 : decode cL_law 474 = .ok (.invokevirtual 73, 3) := by decide +kernel
theorem dL_law_477 : decode cL_law 477 = .ok (.aload_n 2, 1) := by decide +kernel
theorem dL_law_478 : decode cL_law 478 = .ok (.aload_n 0, 1) := by decide +kernel
theorem dL_law_479 : decode cL_law 479 = .ok (.iload_n 3, 1) := by decide +kernel
theorem dL_law_480 : decode cL_law 480 = .ok (.iconst 1, 1) := by decide +kernel
theorem dL_law_481 : decode cL_law 481 = .ok (.iadd, 1) := by decide +kernel
theorem dL_law_482 : decode cL_law 482 = .ok (.iaload, 1) := by decide +kernel
theorem dL_law_483 : decode cL_law 483 = .ok (.invokevirtual 76, 3) := by decide +kernel
theorem dL_law_486 : decode cL_law 486 = .ok (.if_icmp .eq 77, 3) := by decide +kernel
theorem dL_law_489 : decode cL_law 489 = .ok (.iconst 0, 1) := by decide +kernel
theorem dL_law_490 : decode cL_law 490 = .ok (.ireturn, 1) := by decide +kernel
theorem dL_law_491 : decode cL_law 491 = .ok (.aload_n 1, 1) := by decide +kernel
theorem dL_law_492 : decode cL_law 492 = .ok (.aload_n 0, 1) := by decide +kernel
theorem dL_law_493 : decode cL_law 493 = .ok (.iload_n 3, 1) := by decide +kernel
theorem dL_law_494 : decode cL_law 494 = .ok (.iconst 1, 1) := by decide +kernel
theorem dL_law_495 : decode cL_law 495 = .ok (.iadd, 1) := by decide +kernel
theorem dL_law_496 : decode cL_law 496 = .ok (.iaload, 1) := by decide +kernel
theorem dL_law_497 : decode cL_law 497 = .ok (.invokevirtual 77, 3) := by decide +kernel
theorem dL_law_500 : decode cL_law 500 = .ok (.aload_n 2, 1) := by decide +kernel
theorem dL_law_501 : decode cL_law 501 = .ok (.aload_n 0, 1) := by decide +kernel
theorem dL_law_502 : decode cL_law 502 = .ok (.iload_n 3, 1) := by decide +kernel
theorem dL_law_503 : decode cL_law 503 = .ok (.iconst 1, 1) := by decide +kernel
theorem dL_law_504 : decode cL_law 504 = .ok (.iadd, 1) := by decide +kernel
theorem dL_law_505 : decode cL_law 505 = .ok (.iaload, 1) := by decide +kernel
theorem dL_law_506 : decode cL_law 506 = .ok (.invokevirtual 80, 3) := by decide +kernel
theorem dL_law_509 : decode cL_law 509 = .ok (.if_icmp .eq 54, 3) := by decide +kernel
theorem dL_law_512 : decode cL_law 512 = .ok (.iconst 0, 1) := by decide +kernel
theorem dL_law_513 : decode cL_law 513 = .ok (.ireturn, 1) := by decide +kernel
theorem dL_law_514 : decode cL_law 514 = .ok (.aload_n 1, 1) := by decide +kernel
theorem dL_law_515 : decode cL_law 515 = .ok (.aload_n 0, 1) := by decide +kernel
theorem dL_law_516 : decode cL_law 516 = .ok (.iload_n 3, 1) := by decide +kernel
theorem dL_law_517 : decode cL_law 517 = .ok (.iconst 1, 1) := by decide +kernel
theorem dL_law_518 : decode cL_law 518 = .ok (.iadd, 1) := by decide +kernel
theorem dL_law_519 : decode cL_law 519 = .ok (.iaload, 1) := by decide +kernel
theorem dL_law_520 : decode cL_law 520 = .ok (.invokevirtual 81, 3) := by decide +kernel
theorem dL_law_523 : decode cL_law 523 = .ok (.aload_n 2, 1) := by decide +kernel
theorem dL_law_524 : decode cL_law 524 = .ok (.aload_n 0, 1) := by decide +kernel
theorem dL_law_525 : decode cL_law 525 = .ok (.iload_n 3, 1) := by decide +kernel
theorem dL_law_526 : decode cL_law 526 = .ok (.iconst 1, 1) := by decide +kernel
theorem dL_law_527 : decode cL_law 527 = .ok (.iadd, 1) := by decide +kernel
theorem dL_law_528 : decode cL_law 528 = .ok (.iaload, 1) := by decide +kernel
theorem dL_law_529 : decode cL_law 529 = .ok (.invokevirtual 84, 3) := by decide +kernel
theorem dL_law_532 : decode cL_law 532 = .ok (.if_icmp .eq 31, 3) := by decide +kernel
theorem dL_law_535 : decode cL_law 535 = .ok (.iconst 0, 1) := by decide +kernel
theorem dL_law_536 : decode cL_law 536 = .ok (.ireturn, 1) := by decide +kernel
theorem dL_law_537 : decode cL_law 537 = .ok (.aload_n 1, 1) := by decide +kernel
theorem dL_law_538 : decode cL_law 538 = .ok (.invokevirtual 85, 3) := by decide +kernel
theorem dL_law_541 : decode cL_law 541 = .ok (.aload_n 2, 1) := by decide +kernel
theorem dL_law_542 : decode cL_law 542 = .ok (.invokevirtual 88, 3) := by decide +kernel
theorem dL_law_545 : decode cL_law 545 = .ok (.if_icmp .eq 18, 3) := by decide +kernel
theorem dL_law_548 : decode cL_law 548 = .ok (.iconst 0, 1) := by decide +kernel
theorem dL_law_549 : decode cL_law 549 = .ok (.ireturn, 1) := by decide +kernel
theorem dL_law_550 : decode cL_law 550 = .ok (.aload_n 1, 1) := by decide +kernel
theorem dL_law_551 : decode cL_law 551 = .ok (.invokevirtual 89, 3) := by decide +kernel
theorem dL_law_554 : decode cL_law 554 = .ok (.aload_n 2, 1) := by decide +kernel
theorem dL_law_555 : decode cL_law 555 = .ok (.invokevirtual 92, 3) := by decide +kernel
theorem dL_law_558 : decode cL_law 558 = .ok (.if_icmp .eq 5, 3) := by decide +kernel
theorem dL_law_561 : decode cL_law 561 = .ok (.iconst 0, 1) := by decide +kernel
theorem dL_law_562 : decode cL_law 562 = .ok (.ireturn, 1) := by decide +kernel
theorem dL_law_563 : decode cL_law 563 = .ok (.iinc 3 5, 3) := by decide +kernel
theorem dL_law_566 : decode cL_law 566 = .ok (.goto (-538), 3) := by decide +kernel
theorem dL_law_569 : decode cL_law 569 = .ok (.iconst 1, 1) := by decide +kernel
theorem dL_law_570 : decode cL_law 570 = .ok (.ireturn, 1) := by decide +kernel
end
section
/-! worlds of ONE object with int arrays and int fields: nA arrays (contents g k, length len k), nI ints (f k) -/
abbrev vwCl : List vw_C := [(RX1, TX1, 21), (RX2, TX2, 4)]
def ow_fs (nA nF : Nat) (ad : Nat → Nat) (f : Nat → Int32) : List Value := (List.range nA).map (fun k => Value.ref (ad k)) ++ (List.range nF).map (fun k => Value.int (f k))
def ow_w (ci nA nF : Nat) (len : Nat → Nat) (h : Nat) (ad : Nat → Nat) (dA : Nat → ClassId) (f : Nat → Int32) (g : Nat → Nat → Int32) : va_W :=
  (h, .inr (ci, ow_fs nA nF ad f)) :: (List.range nA).map (fun k => (ad k, .inl (dA k, len k, .inl (g k))))
def ow_t (nA : Nat) (dA : Nat → ClassId) : List (ClassId × FieldType) := (List.range nA).map (fun k => (dA k, FieldType.int))
section OWp
variable {ci nA nF : Nat} {len : Nat → Nat} {h : Nat} {ad : Nat → Nat} {dA : Nat → ClassId} {f f' : Nat → Int32} {g g' : Nat → Nat → Int32} {k : Nat}
theorem ow_fa (hk : k < nA) : (ow_fs nA nF ad f)[k]? = some (.ref (ad k)) := by
  unfold ow_fs
  rw [List.getElem?_append_left (by simpa using hk)]
  simp [hk]
theorem ow_fi (hk : k < nF) : (ow_fs nA nF ad f)[nA + k]? = some (.int (f k)) := by
  unfold ow_fs
  rw [List.getElem?_append_right (by simp)]
  simp [hk]
theorem ow_fl : (ow_fs nA nF ad f).length = nA + nF := by simp [ow_fs]
theorem ow_o : (ow_w ci nA nF len h ad dA f g)[0]? = some (h, .inr (ci, ow_fs nA nF ad f)) := rfl
theorem ow_a (hk : k < nA) : (ow_w ci nA nF len h ad dA f g)[k + 1]? = some (ad k, .inl (dA k, len k, .inl (g k))) := by
  unfold ow_w
  rw [List.getElem?_cons_succ]
  simp [hk]
theorem ow_tk (hk : k < nA) : (ow_t nA dA)[k]? = some (dA k, .int) := by simp [ow_t, hk]
theorem ow_seta {a : Nat → Int32} (hk : k < nA) : (ow_w ci nA nF len h ad dA f g).set (k + 1) (ad k, .inl (dA k, len k, .inl a)) = ow_w ci nA nF len h ad dA f (va_up g k a) := by
  unfold ow_w
  rw [List.set_cons_succ]
  congr 1
  apply List.ext_getElem?
  intro j
  by_cases hj : j = k
  · subst hj
    rw [List.getElem?_set_self (by simpa using hk)]
    simp [hk, va_up]
  · rw [List.getElem?_set_ne (Ne.symm hj)]
    by_cases h2 : j < nA
    · simp [h2, va_up, hj]
    · simp [h2]
theorem ow_seti {v : Int32} (hk : k < nF) : (ow_w ci nA nF len h ad dA f g).set 0 (h, .inr (ci, (ow_fs nA nF ad f).set (nA + k) (.int v))) = ow_w ci nA nF len h ad dA (va_up f k v) g := by
  have e : (ow_fs nA nF ad f).set (nA + k) (.int v) = ow_fs nA nF ad (va_up f k v) := by
    apply List.ext_getElem?
    intro j
    by_cases hj : j = nA + k
    · subst hj
      rw [List.getElem?_set_self (by rw [ow_fl]; omega), ow_fi hk]
      simp [va_up]
    · rw [List.getElem?_set_ne (Ne.symm hj)]
      by_cases h2 : j < nA
      · rw [ow_fa h2, ow_fa h2]
      · by_cases h3 : j < nA + nF
        · obtain ⟨i, rfl⟩ : ∃ i, j = nA + i := ⟨j - nA, by omega⟩
          have hi : i ≠ k := fun q => hj (by rw [q])
          rw [ow_fi (by omega), ow_fi (by omega)]
          simp [va_up, hi]
        · rw [List.getElem?_eq_none (by rw [ow_fl]; omega), List.getElem?_eq_none (by rw [ow_fl]; omega)]
  unfold ow_w
  rw [List.set_cons_zero, e]
theorem ow_ad {q : Nat × va_E} (hq : (ow_w ci nA nF len h ad dA f g)[k]? = some q) : (k = 0 ∧ q.1 = h) ∨ ∃ j, j < nA ∧ k = j + 1 ∧ q.1 = ad j := by
  cases k with
  | zero =>
    rw [ow_o] at hq
    cases hq
    exact Or.inl ⟨rfl, rfl⟩
  | succ j =>
    by_cases hj : j < nA
    · rw [ow_a hj] at hq
      cases hq
      exact Or.inr ⟨j, hj, rfl, rfl⟩
    · exfalso
      unfold ow_w at hq
      rw [List.getElem?_cons_succ] at hq
      simp [hj] at hq
theorem ow_at {q : Nat × va_E} (hq : (ow_w ci nA nF len h ad dA f g)[k]? = some q) : ∃ q0, (ow_w ci nA nF len h ad dA f' g')[k]? = some q0 ∧ q0.1 = q.1 := by
  rcases ow_ad hq with ⟨rfl, e⟩ | ⟨j, hj, rfl, e⟩
  · exact ⟨_, ow_o, e.symm⟩
  · exact ⟨_, ow_a hj, e.symm⟩
theorem ow_D {A : Nat → Prop} (hD : va_D A (ow_w ci nA nF len h ad dA f g)) : va_D A (ow_w ci nA nF len h ad dA f' g') := by
  refine ⟨fun i j x y hi hj hxy => ?_, fun k q hk => ?_⟩
  · obtain ⟨x0, a1, a2⟩ := ow_at (f' := f) (g' := g) hi
    obtain ⟨y0, b1, b2⟩ := ow_at (f' := f) (g' := g) hj
    exact hD.1 i j x0 y0 a1 b1 (a2.trans (hxy.trans b2.symm))
  · obtain ⟨q0, a1, a2⟩ := ow_at (f' := f) (g' := g) hk
    rw [← a2]
    exact hD.2 k q0 a1
theorem ow_A {sz : Nat} : ∀ q, va_A (ow_w ci nA nF len h ad dA f g) sz q → va_A (ow_w ci nA nF len h ad dA f' g') sz q := by
  intro q hq
  rcases hq with ⟨k, e, hk⟩ | hk
  · obtain ⟨q0, a1, a2⟩ := ow_at (f' := f') (g' := g') hk
    exact Or.inl ⟨k, q0.2, by rw [a1, ← show q0.1 = q from a2]⟩
  · exact Or.inr hk
end OWp
/-- what the class's tables say -/
def ow_C (ci : Nat) (C : String) (T : u_T) (ty : Nat → FieldType) (nA nF : Nat) (len : Nat → Nat) : Prop :=
  vwCl[ci]? = some (C, T, nA + nF) ∧ (∀ w ∈ u_ws C T (nA + nF), w ∈ lw_all) ∧ (∀ k, k < nA + nF → parseFieldDescriptor (T k).2.2.1 = some (ty k)) ∧ (∀ a, a < nA + nF → ∀ b, b < nA + nF → a ≠ b → (T a).2.1 ≠ (T b).2.1) ∧ ∀ k, len k < 2 ^ 31
/-- a method's fixed things -/
def ow_E (nA : Nat) (p : Program) (m : MethodId) (meth : Method) (c : Code) (cc : ByteArray) (nL : Nat) (rt : Option FieldType) (s : State) (args : Array Value) (own : String) (D : va_G) (A : Nat → Prop) (dA : Nat → ClassId) : Prop :=
  CallFix p m c cc nL s args lw_all own ∧ va_K D vwCl (ow_t nA dA) s ∧ (∀ q, s.heap.size ≤ q → A q) ∧ meth.sig.returnType = rt ∧ meth.locks = false
/-- the world in the heap H -/
def ow_W (ci nA nF : Nat) (len : Nat → Nat) (D : va_G) (A : Nat → Prop) (h : Nat) (ad : Nat → Nat) (dA : Nat → ClassId) (f : Nat → Int32) (g : Nat → Nat → Int32) (s : State) (H : Heap) (locs : List Loc) : Prop :=
  va_P D vwCl (ow_w ci nA nF len h ad dA f g) H ∧ va_D A (ow_w ci nA nF len h ad dA f g) ∧ va_S A s.heap H locs
/-- contract with an int answer -/
def ow_MI (ci nA nF : Nat) (len : Nat → Nat) (l : Launch) (y : MethodName) (b : ByteArray) (L : Nat) (rt : FieldType) (rm : Room) (D : va_G) (h : Nat) (ad : Nat → Nat) (dA : Nat → ClassId) (As : List Value) (f : Nat → Int32) (g : Nat → Nat → Int32) (post : Int32 → (Nat → Int32) → (Nat → Nat → Int32) → Prop) : Prop :=
  ∀ sz : Nat, Met l y (ws_ y b L (some rt)) rm (va_Pc (.ref h :: As) (fun U => U.heap.size = sz ∧ va_P D vwCl (ow_w ci nA nF len h ad dA f g) U.heap ∧ va_K D vwCl (ow_t nA dA) U ∧ va_D (fun _ => True) (ow_w ci nA nF len h ad dA f g)))
    (va_Qi (fun r (u : (Nat → Int32) × (Nat → Nat → Int32)) => post r u.1 u.2) (fun u t => va_P D vwCl (ow_w ci nA nF len h ad dA u.1 u.2) t.heap) (va_A (ow_w ci nA nF len h ad dA f g) sz)) 0 0 (va_A (ow_w ci nA nF len h ad dA f g) sz)
/-- contract without an answer -/
def ow_MV (ci nA nF : Nat) (len : Nat → Nat) (l : Launch) (y : MethodName) (b : ByteArray) (L : Nat) (rm : Room) (D : va_G) (h : Nat) (ad : Nat → Nat) (dA : Nat → ClassId) (As : List Value) (f : Nat → Int32) (g : Nat → Nat → Int32) (post : (Nat → Int32) → (Nat → Nat → Int32) → Prop) : Prop :=
  ∀ sz : Nat, Met l y (ws_ y b L none) rm (va_Pc (.ref h :: As) (fun U => U.heap.size = sz ∧ va_P D vwCl (ow_w ci nA nF len h ad dA f g) U.heap ∧ va_K D vwCl (ow_t nA dA) U ∧ va_D (fun _ => True) (ow_w ci nA nF len h ad dA f g)))
    (va_Qv (fun (u : (Nat → Int32) × (Nat → Nat → Int32)) => post u.1 u.2) (fun u t => va_P D vwCl (ow_w ci nA nF len h ad dA u.1 u.2) t.heap) (va_A (ow_w ci nA nF len h ad dA f g) sz)) 0 0 (va_A (ow_w ci nA nF len h ad dA f g) sz)
/-- contract of a static method that leaves the heap alone -/
def ow_MS (l : Launch) (y : MethodName) (b : ByteArray) (L : Nat) (rt : FieldType) (rm : Room) (As : List Value) (post : Int32 → Prop) : Prop :=
  Met l y (ws_ y b L (some rt)) rm (fun v _ => v = As.toArray) (vp_Si post) 0 0 (fun _ => False)
def rmD (d : Nat) : Room := { frames := d, cells := 0, slots := 0, locals := 30 * d }
section OW
variable {p : Program} {l : Launch} {e : Env} {R : Room} {s : State} {m : MethodId} {args : Array Value} {below : List Frame} {meth : Method} {c : Code} {H : Heap} {locs : List Loc} {cells slots : Nat} {Q : State → Prop}
variable {pc : Nat} {ls : Array Slot} {rest st0 : List Value} {cc : ByteArray} {nL : Nat} {rt : Option FieldType} {own C : String} {T : u_T} {ty : Nat → FieldType} {ci nA nF : Nat} {len : Nat → Nat} {D : va_G} {A : Nat → Prop} {h : Nat} {ad : Nat → Nat} {dA : Nat → ClassId} {f : Nat → Int32} {g : Nat → Nat → Int32}
theorem ow_top {x v : Int32} (hv : x = v) (kk : W p l e R s m args below meth c H locs cells slots Q (F0 m pc ls (.int v :: rest))) : W p l e R s m args below meth c H locs cells slots Q (F0 m pc ls (.int x :: rest)) := by
  rw [hv]; exact kk
theorem ow_geta (KC : ow_C ci C T ty nA nF len) (E : ow_E nA p m meth c cc nL rt s args own D A dA) (w : ow_W ci nA nF len D A h ad dA f g s H locs) (k : Nat) (hk : k < nA) {index : Nat} (hl : Cond.fieldLink own index (T k).1 (T k).2.1 (T k).2.2.1 ∈ lw_all) (hdg : decode cc pc = .ok (.getfield index, 3)) (kk : W p l e R s m args below meth c H locs cells slots Q (F0 m (pc + 3) ls (.ref (ad k) :: rest))) : W p l e R s m args below meth c H locs cells slots Q (F0 m pc ls (.ref h :: rest)) :=
  va_get E.1.1 E.1.2.1 E.1.2.2.2.2 KC.2.1 E.1.2.2.2.1 E.2.1 w.1 0 ow_o KC.1 k (by omega) (E.1.2.2.2.2 _ hl) (fun _ h9 => h9) (ow_fa hk) hdg kk
theorem ow_geti (KC : ow_C ci C T ty nA nF len) (E : ow_E nA p m meth c cc nL rt s args own D A dA) (w : ow_W ci nA nF len D A h ad dA f g s H locs) (k j : Nat) (hj : nA + k = j) (hk : k < nF) {index : Nat} (hl : Cond.fieldLink own index (T j).1 (T j).2.1 (T j).2.2.1 ∈ lw_all) (hdg : decode cc pc = .ok (.getfield index, 3)) (kk : W p l e R s m args below meth c H locs cells slots Q (F0 m (pc + 3) ls (.int (f k) :: rest))) : W p l e R s m args below meth c H locs cells slots Q (F0 m pc ls (.ref h :: rest)) := by
  subst hj
  exact va_get E.1.1 E.1.2.1 E.1.2.2.2.2 KC.2.1 E.1.2.2.2.1 E.2.1 w.1 0 ow_o KC.1 (nA + k) (by omega) (E.1.2.2.2.2 _ hl) (fun _ h9 => h9) (ow_fi hk) hdg kk
theorem ow_puti (KC : ow_C ci C T ty nA nF len) (E : ow_E nA p m meth c cc nL rt s args own D A dA) (w : ow_W ci nA nF len D A h ad dA f g s H locs) (k j : Nat) (hj : nA + k = j) (hk : k < nF) (hfin : (T j).2.2.2 = false) {v : Int32} (hn : narrow (ty j) (.int v) = .int v) (hfit : fits (ty j) (.int v) = true) {index : Nat} (hl : Cond.fieldLink own index (T j).1 (T j).2.1 (T j).2.2.1 ∈ lw_all) (hdg : decode cc pc = .ok (.putfield index, 3)) (kk : ∀ (f1 : Nat → Int32) (H1 : Heap) (locs1 : List Loc), f1 = va_up f k v → ow_W ci nA nF len D A h ad dA f1 g s H1 locs1 → W p l e R s m args below meth c H1 locs1 cells slots Q (F0 m (pc + 3) ls rest)) : W p l e R s m args below meth c H locs cells slots Q (F0 m pc ls (.int v :: .ref h :: rest)) := by
  subst hj
  refine va_put E.1.1 E.1.2.1 E.1.2.2.2.2 KC.2.1 ty KC.2.2.1 KC.2.2.2.1 E.1.2.2.2.1 E.2.1 w.1 w.2.1 w.2.2 0 ow_o KC.1 (nA + k) (by omega) (E.1.2.2.2.2 _ hl) (fun _ h9 => h9) hfin (KC.2.2.1 (nA + k) (by omega)) hn hfit (by rw [ow_fl]; omega) hdg (fun H1 locs1 hP hD hS => ?_)
  rw [ow_seti hk] at hP hD
  exact kk _ H1 locs1 rfl ⟨hP, hD, hS⟩
theorem ow_iald (KC : ow_C ci C T ty nA nF len) (E : ow_E nA p m meth c cc nL rt s args own D A dA) (w : ow_W ci nA nF len D A h ad dA f g s H locs) (k : Nat) (hk : k < nA) {x : Int32} (i : Nat) (hx : x = nI i) (hi : i < len k) (hdg : decode cc pc = .ok (.iaload, 1)) (kk : W p l e R s m args below meth c H locs cells slots Q (F0 m (pc + 1) ls (.int (g k i) :: rest))) : W p l e R s m args below meth c H locs cells slots Q (F0 m pc ls (.int x :: .ref (ad k) :: rest)) := by
  subst hx
  have hb := KC.2.2.2.2 k
  refine va_iald E.1.1 E.1.2.1 E.2.1 w.1 (k + 1) k (ow_a hk) (ow_tk hk) (vp_in_nI hi hb) hdg ?_
  rw [nI_clamp (by omega)]
  exact kk
theorem ow_iast (KC : ow_C ci C T ty nA nF len) (E : ow_E nA p m meth c cc nL rt s args own D A dA) (w : ow_W ci nA nF len D A h ad dA f g s H locs) (k : Nat) (hk : k < nA) {x v : Int32} (i : Nat) (hx : x = nI i) (hi : i < len k) (hdg : decode cc pc = .ok (.iastore, 1)) (kk : ∀ (g1 : Nat → Nat → Int32) (H1 : Heap) (locs1 : List Loc), g1 = va_up g k (upd (g k) i v) → ow_W ci nA nF len D A h ad dA f g1 s H1 locs1 → W p l e R s m args below meth c H1 locs1 cells slots Q (F0 m (pc + 1) ls rest)) : W p l e R s m args below meth c H locs cells slots Q (F0 m pc ls (.int v :: .int x :: .ref (ad k) :: rest)) := by
  subst hx
  have hb := KC.2.2.2.2 k
  refine va_iast E.1.1 E.1.2.1 E.2.1 w.1 w.2.1 w.2.2 (k + 1) k (ow_a hk) (ow_tk hk) (vp_in_nI hi hb) hdg (fun H1 locs1 hP hD hS => ?_)
  rw [nI_clamp (by omega), ow_seta hk] at hP hD
  exact kk _ H1 locs1 rfl ⟨hP, hD, hS⟩
theorem ow_free (E : ow_E nA p m meth c cc nL rt s args own D A dA) (w : ow_W ci nA nF len D A h ad dA f g s H locs) : ∀ q, va_A (ow_w ci nA nF len h ad dA f g) H.size q → A q := by
  intro q hq
  rcases hq with ⟨k, e, hk⟩ | hk
  · exact w.2.1.2 k (q, e) hk
  · exact E.2.2.1 q (Nat.le_trans w.2.2.1 hk)
theorem ow_pre {As : List Value} {sz : Nat} : FrameBlind (va_Pc (.ref h :: As) (fun U => U.heap.size = sz ∧ va_P D vwCl (ow_w ci nA nF len h ad dA f g) U.heap ∧ va_K D vwCl (ow_t nA dA) U ∧ va_D (fun _ => True) (ow_w ci nA nF len h ad dA f g))) :=
  fun a U g mk q => by obtain ⟨q0, q1, qP, qK, qD⟩ := q; exact ⟨q0, q1, qP, va_K.moved (u := U) (U := U.calling g mk a) (Vm.Alike.refl U.vm) qK, qD⟩
theorem ow_calli {y : MethodName} {b : ByteArray} {L n index : Nat} {rt' : FieldType} {rm : Room} {As : List Value} {post : Int32 → (Nat → Int32) → (Nat → Nat → Int32) → Prop} (KC : ow_C ci C T ty nA nF len) (E : ow_E nA p m meth c cc nL rt s args own D A dA) (w : ow_W ci nA nF len D A h ad dA f g s H locs) (hM : ow_MI ci nA nF len l y b L rt' rm D h ad dA As f g post) (cw : CallW R s args own C index y b L (some rt') (ws_ y b L (some rt')) rm 0 0 n) (hn : As.length = n) (hls : ls.size = nL) (hst : st0 = As.reverse ++ .ref h :: rest) (hW : (rest.map fun v => v.category).sum ≤ 8) (hdg : decode cc pc = .ok (.invokevirtual index, 3)) (hcs : cells ≤ R.cells ∧ slots ≤ R.slots)
    (kk : ∀ (r : Int32) (f1 : Nat → Int32) (g1 : Nat → Nat → Int32) (H1 : Heap) (locs1 : List Loc), post r f1 g1 → ow_W ci nA nF len D A h ad dA f1 g1 s H1 locs1 → W p l e R s m args below meth c H1 locs1 cells slots Q (F0 m (pc + 3) ls (.int r :: rest))) : W p l e R s m args below meth c H locs cells slots Q (F0 m pc ls st0) := by
  have hF := ow_free E w
  refine va_calli (va_runV E.1 (hM H.size) cw ⟨ow_pre, va_recv E.2.1 w.1 KC.1 ow_o, fun U hU hW => ⟨rfl, by rw [hU], by rw [hU]; exact w.1, va_K.moved hW.alike E.2.1, w.2.1.weaken (fun _ _ _ _ => trivial)⟩⟩ rfl hn hls hst (lv_room hW) hdg hcs) w.2.2 (fun q _ h => hF q h) hF (fun r u t H1 locs1 ht hvm hp hB hz hk hS => ?_)
  rw [ht] at hB
  exact kk r u.1 u.2 H1 locs1 hp ⟨hB, ow_D w.2.1, hS⟩
theorem ow_callv {y : MethodName} {b : ByteArray} {L n index : Nat} {rm : Room} {As : List Value} {post : (Nat → Int32) → (Nat → Nat → Int32) → Prop} (KC : ow_C ci C T ty nA nF len) (E : ow_E nA p m meth c cc nL rt s args own D A dA) (w : ow_W ci nA nF len D A h ad dA f g s H locs) (hM : ow_MV ci nA nF len l y b L rm D h ad dA As f g post) (cw : CallW R s args own C index y b L none (ws_ y b L none) rm 0 0 n) (hn : As.length = n) (hls : ls.size = nL) (hst : st0 = As.reverse ++ .ref h :: rest) (hW : (rest.map fun v => v.category).sum ≤ 8) (hdg : decode cc pc = .ok (.invokevirtual index, 3)) (hcs : cells ≤ R.cells ∧ slots ≤ R.slots)
    (kk : ∀ (f1 : Nat → Int32) (g1 : Nat → Nat → Int32) (H1 : Heap) (locs1 : List Loc), post f1 g1 → ow_W ci nA nF len D A h ad dA f1 g1 s H1 locs1 → W p l e R s m args below meth c H1 locs1 cells slots Q (F0 m (pc + 3) ls rest)) : W p l e R s m args below meth c H locs cells slots Q (F0 m pc ls st0) := by
  have hF := ow_free E w
  refine va_callv (va_runV E.1 (hM H.size) cw ⟨ow_pre, va_recv E.2.1 w.1 KC.1 ow_o, fun U hU hW => ⟨rfl, by rw [hU], by rw [hU]; exact w.1, va_K.moved hW.alike E.2.1, w.2.1.weaken (fun _ _ _ _ => trivial)⟩⟩ rfl hn hls hst (lv_room hW) hdg hcs) w.2.2 (fun q _ h => hF q h) hF (fun u t H1 locs1 ht hvm hp hB hz hk hS => ?_)
  rw [ht] at hB
  exact kk u.1 u.2 H1 locs1 hp ⟨hB, ow_D w.2.1, hS⟩
theorem ow_calls {y : MethodName} {b : ByteArray} {L n index : Nat} {rt' : FieldType} {rm : Room} {As : List Value} {post : Int32 → Prop} (E : CallFix p m c cc nL s args lw_all own) (hM : ow_MS l y b L rt' rm As post) (cw : CallB R s args own index y b L (some rt') (ws_ y b L (some rt')) rm 0 0 n ∧ (Cond.static y).before args s = true) (hn : As.length = n) (hls : ls.size = nL) (hst : st0 = As.reverse ++ rest) (hW : (rest.map fun v => v.category).sum ≤ 8) (hdg : decode cc pc = .ok (.invokestatic index, 3)) (hcs : cells ≤ R.cells ∧ slots ≤ R.slots)
    (kk : ∀ r : Int32, post r → W p l e R s m args below meth c H locs cells slots Q (F0 m (pc + 3) ls (.int r :: rest))) : W p l e R s m args below meth c H locs cells slots Q (F0 m pc ls st0) :=
  vp_callSi (W.runS E hM cw preEq rfl hn hls hst (lv_room hW) hdg hcs) kk
end OW
section OWm
variable {l : Launch} {y : MethodName} {b : ByteArray} {L : Nat} {rt : FieldType} {rm : Room} {D : va_G} {h : Nat} {ad : Nat → Nat} {dA : Nat → ClassId} {As : List Value} {f : Nat → Int32} {g : Nat → Nat → Int32} {ci nA nF : Nat} {len : Nat → Nat}
theorem ow_ofI {post : Int32 → (Nat → Int32) → (Nat → Nat → Int32) → Prop} (hy : plainName y.cls = true) (hL : (lg_sl (.ref h :: As)).length ≤ L)
    (body : ∀ (p : Program) (e : Env) (s : State) (m : MethodId) (args : Array Value) (below : List Frame) (meth : Method) (c : Code) (A : Nat → Prop) (Q : State → Prop) (ls : Array Slot), ow_E nA p m meth c b L (some rt) s args y.cls D A dA → ow_W ci nA nF len D A h ad dA f g s s.heap [] → lv_has ls L (lv_args 0 (.ref h :: As)) →
      (∀ {pc : Nat} {r : Int32} {f1 : Nat → Int32} {g1 : Nat → Nat → Int32} {H : Heap} {locs : List Loc} {ls : Array Slot}, decode b pc = .ok (.ireturn, 1) → narrow rt (.int r) = .int r → post r f1 g1 → ow_W ci nA nF len D A h ad dA f1 g1 s H locs → W p l e rm s m args below meth c H locs 0 0 Q (F0 m pc ls [.int r])) →
      W p l e rm s m args below meth c s.heap [] 0 0 Q (F0 m 0 ls [])) : ow_MI ci nA nF len l y b L rt rm D h ad dA As f g post := by
  intro sz
  refine Met.ofW (cc := b) (maxL := L) (ret := some rt) hy rfl ?_
  intro p e s m args below meth c s₁ B hml hv
  obtain ⟨rfl, hsz, hP, hK, hD0⟩ := hv
  have hts := atoms_spec (ws := ws_ y b L (some rt)) B.pre
  have hts : ∀ w ∈ lw_all, w.before _ s = true := fun w h => hts w (List.mem_cons_of_mem _ h)
  have hown : s.vm.findClass y.cls = some m.cls := findClass_of_methodNamed B.named
  subst hsz
  have hD := hD0.self (sz := s.heap.size)
  have hl := lv_entry (.ref h :: As) (n := L) hL
  rw [lg_entry_eq]
  refine body p e s m _ below meth c _ _ _ ⟨⟨B.exec, B.bytes, hml, hown, hts⟩, hK, fun q h => Or.inr h, B.returns, B.notSynchronized⟩ ⟨hP, hD, va_S.rf⟩ hl ?_
  intro pc r f1 g1 H locs ls hd hn hp w
  exact W.zret B.exec B.bytes B.returns hn (fun t ht hW => ⟨⟨r, (f1, g1), rfl, hp, by subst ht; exact w.1⟩, w.2.2.F ht⟩) w.2.2.2.2 hd
theorem ow_ofV {post : (Nat → Int32) → (Nat → Nat → Int32) → Prop} (hy : plainName y.cls = true) (hL : (lg_sl (.ref h :: As)).length ≤ L)
    (body : ∀ (p : Program) (e : Env) (s : State) (m : MethodId) (args : Array Value) (below : List Frame) (meth : Method) (c : Code) (A : Nat → Prop) (Q : State → Prop) (ls : Array Slot), ow_E nA p m meth c b L none s args y.cls D A dA → ow_W ci nA nF len D A h ad dA f g s s.heap [] → lv_has ls L (lv_args 0 (.ref h :: As)) →
      (∀ {pc : Nat} {f1 : Nat → Int32} {g1 : Nat → Nat → Int32} {H : Heap} {locs : List Loc} {ls : Array Slot}, decode b pc = .ok (.return_, 1) → post f1 g1 → ow_W ci nA nF len D A h ad dA f1 g1 s H locs → W p l e rm s m args below meth c H locs 0 0 Q (F0 m pc ls [])) →
      W p l e rm s m args below meth c s.heap [] 0 0 Q (F0 m 0 ls [])) : ow_MV ci nA nF len l y b L rm D h ad dA As f g post := by
  intro sz
  refine Met.ofW (cc := b) (maxL := L) (ret := none) hy rfl ?_
  intro p e s m args below meth c s₁ B hml hv
  obtain ⟨rfl, hsz, hP, hK, hD0⟩ := hv
  have hts := atoms_spec (ws := ws_ y b L none) B.pre
  have hts : ∀ w ∈ lw_all, w.before _ s = true := fun w h => hts w (List.mem_cons_of_mem _ h)
  have hown : s.vm.findClass y.cls = some m.cls := findClass_of_methodNamed B.named
  subst hsz
  have hD := hD0.self (sz := s.heap.size)
  have hl := lv_entry (.ref h :: As) (n := L) hL
  rw [lg_entry_eq]
  refine body p e s m _ below meth c _ _ _ ⟨⟨B.exec, B.bytes, hml, hown, hts⟩, hK, fun q h => Or.inr h, B.returns, B.notSynchronized⟩ ⟨hP, hD, va_S.rf⟩ hl ?_
  intro pc f1 g1 H locs ls hd hp w
  exact W.vret B.exec B.bytes B.returns (fun t ht hW => ⟨⟨(f1, g1), rfl, hp, by subst ht; exact w.1⟩, w.2.2.F ht⟩) w.2.2.2.2 hd
theorem ow_ofS {post : Int32 → Prop} (hy : plainName y.cls = true) (hL : (lg_sl As).length ≤ L)
    (body : ∀ (p : Program) (e : Env) (s : State) (m : MethodId) (args : Array Value) (below : List Frame) (meth : Method) (c : Code) (Q : State → Prop) (ls : Array Slot), CallFix p m c b L s args lw_all y.cls → lv_has ls L (lv_args 0 As) →
      (∀ {pc : Nat} {r : Int32} {ls : Array Slot}, decode b pc = .ok (.ireturn, 1) → narrow rt (.int r) = .int r → post r → W p l e rm s m args below meth c s.heap [] 0 0 Q (F0 m pc ls [.int r])) →
      W p l e rm s m args below meth c s.heap [] 0 0 Q (F0 m 0 ls [])) : ow_MS l y b L rt rm As post := by
  refine Met.ofW (cc := b) (maxL := L) (ret := some rt) hy rfl ?_
  intro p e s m args below meth c s₁ B hml hv
  subst hv
  have hts := atoms_spec (ws := ws_ y b L (some rt)) B.pre
  have hts : ∀ w ∈ lw_all, w.before _ s = true := fun w h => hts w (List.mem_cons_of_mem _ h)
  have hown : s.vm.findClass y.cls = some m.cls := findClass_of_methodNamed B.named
  have hl := lv_entry As (n := L) hL
  rw [lg_entry_eq]
  refine body p e s m _ below meth c _ _ ⟨B.exec, B.bytes, hml, hown, hts⟩ hl ?_
  intro pc r ls hd hn hp
  exact W.zret B.exec B.bytes B.returns hn (fun t ht hW => ⟨r, rfl, hp, ht⟩) (fun _ h => by cases h) hd
end OWm
section OWc
variable {p : Program} {l : Launch} {e : Env} {R : Room} {s : State} {m : MethodId} {args : Array Value} {below : List Frame} {meth : Method} {c : Code} {H : Heap} {locs : List Loc} {cells slots : Nat} {Q : State → Prop}
variable {pc : Nat} {ls : Array Slot} {rest : List Value} {cc : ByteArray} {off : Int} {tgt : Nat}
theorem ow_ge (a b : Nat) (ha : a < 2 ^ 31) (hb2 : b < 2 ^ 31) (hexec : p.tables.exec = Jvm.exec) (hb : c.code = cc) (hdg : decode cc pc = .ok (.if_icmp .ge off, 3)) (ht : (pc : Int) + off = (tgt : Int)) (kt : b ≤ a → W p l e R s m args below meth c H locs cells slots Q (F0 m tgt ls rest)) (kf : a < b → W p l e R s m args below meth c H locs cells slots Q (F0 m (pc + 3) ls rest)) : W p l e R s m args below meth c H locs cells slots Q (F0 m pc ls (.int (nI b) :: .int (nI a) :: rest)) :=
  lv_icmp_ge hexec hb hdg ht (fun h => kt ((nI_leI hb2 ha).mp h)) (fun h => kf (Nat.lt_of_not_le (fun q => h ((nI_leI hb2 ha).mpr q))))
theorem ow_gt (a b : Nat) (ha : a < 2 ^ 31) (hb2 : b < 2 ^ 31) (hexec : p.tables.exec = Jvm.exec) (hb : c.code = cc) (hdg : decode cc pc = .ok (.if_icmp .gt off, 3)) (ht : (pc : Int) + off = (tgt : Int)) (kt : b < a → W p l e R s m args below meth c H locs cells slots Q (F0 m tgt ls rest)) (kf : a ≤ b → W p l e R s m args below meth c H locs cells slots Q (F0 m (pc + 3) ls rest)) : W p l e R s m args below meth c H locs cells slots Q (F0 m pc ls (.int (nI b) :: .int (nI a) :: rest)) :=
  lv_icmp_gt hexec hb hdg ht (fun h => kt ((nI_ltI hb2 ha).mp h)) (fun h => kf (Nat.le_of_not_lt (fun q => h ((nI_ltI hb2 ha).mpr q))))
theorem ow_ne (a b : Nat) (ha : a < 2 ^ 31) (hb2 : b < 2 ^ 31) (hexec : p.tables.exec = Jvm.exec) (hb : c.code = cc) (hdg : decode cc pc = .ok (.if_icmp .ne off, 3)) (ht : (pc : Int) + off = (tgt : Int)) (kt : a ≠ b → W p l e R s m args below meth c H locs cells slots Q (F0 m tgt ls rest)) (kf : a = b → W p l e R s m args below meth c H locs cells slots Q (F0 m (pc + 3) ls rest)) : W p l e R s m args below meth c H locs cells slots Q (F0 m pc ls (.int (nI b) :: .int (nI a) :: rest)) :=
  lv_icmp_ne hexec hb hdg ht (fun h => kt (fun q => h (by rw [q]))) (fun h => kf ((nI_eq ha hb2).mp h))
end OWc
/-! PathOram: 16 arrays, 5 ints; PathOramModel: 3 arrays, 1 flag -/
def xlen : Nat → Nat := fun k => match k with
  | 0 => 64
  | 1 => 64
  | 2 => 64
  | 10 => 4
  | 11 => 4
  | 12 => 4
  | 13 => 4
  | 14 => 32
  | _ => 16
def mlen : Nat → Nat := fun k => match k with
  | 2 => 32
  | _ => 16
theorem xC : ow_C 0 RX1 TX1 tyX1 16 5 xlen := ⟨rfl, in_X1, tyX1_ok, nmX1, fun k => by unfold xlen; split <;> decide⟩
theorem mC : ow_C 1 RX2 TX2 tyX2 3 1 mlen := ⟨rfl, in_X2, tyX2_ok, nmX2, fun k => by unfold mlen; split <;> decide⟩
end
section
/-! the plain part: counting, the tree's invariant -/
/-- how many of the first n places of a hold v -/
def cn (a : Nat → Int32) (v : Int32) : Nat → Nat
  | 0 => 0
  | n + 1 => cn a v n + (if a n = v then 1 else 0)
section CN
variable {a b : Nat → Int32} {v x : Int32} {n k j : Nat}
theorem cn_s : cn a v (n + 1) = cn a v n + (if a n = v then 1 else 0) := rfl
theorem cn_out (h : n ≤ k) : cn (upd a k x) v n = cn a v n := by
  induction n with
  | zero => rfl
  | succ n ih => rw [cn_s, cn_s, ih (by omega), pk_un (by omega)]
theorem cn_in (h : k < n) : cn (upd a k x) v n + (if a k = v then 1 else 0) = cn a v n + (if x = v then 1 else 0) := by
  induction n with
  | zero => omega
  | succ n ih =>
    rw [cn_s, cn_s]
    by_cases hk : k = n
    · subst hk
      rw [cn_out (Nat.le_refl _), pk_us]
      omega
    · rw [pk_un (fun q => hk q.symm)]
      have := ih (by omega)
      omega
theorem cn_le : cn a v n ≤ n := by
  induction n with
  | zero => exact Nat.le_refl 0
  | succ n ih =>
    rw [cn_s]
    split <;> omega
theorem cn_pos (h : 0 < cn a v n) : ∃ j, j < n ∧ a j = v := by
  induction n with
  | zero => exact absurd h (by simp [cn])
  | succ n ih =>
    rw [cn_s] at h
    by_cases q : a n = v
    · exact ⟨n, by omega, q⟩
    · rw [if_neg q] at h
      obtain ⟨j, h1, h2⟩ := ih (by omega)
      exact ⟨j, by omega, h2⟩
theorem cn_zero (h : ∀ j, j < n → a j ≠ v) : cn a v n = 0 := by
  induction n with
  | zero => rfl
  | succ n ih => rw [cn_s, ih (fun j hj => h j (by omega)), if_neg (h n (by omega))]
theorem cn_all (h : ∀ j, j < n → a j = v) : cn a v n = n := by
  induction n with
  | zero => rfl
  | succ n ih => rw [cn_s, ih (fun j hj => h j (by omega)), if_pos (h n (by omega))]
theorem cn_congr (h : ∀ j, j < n → a j = b j) : cn a v n = cn b v n := by
  induction n with
  | zero => rfl
  | succ n ih => rw [cn_s, cn_s, ih (fun j hj => h j (by omega)), h n (by omega)]
theorem cn_mono (h : k ≤ n) : cn a v k ≤ cn a v n := by
  induction n with
  | zero =>
    have : k = 0 := by omega
    subst this
    exact Nat.le_refl _
  | succ n ih =>
    by_cases q : k = n + 1
    · subst q
      exact Nat.le_refl _
    · rw [cn_s]
      have := ih (by omega)
      omega
theorem cn_ge (hj : j < n) (h : a j = v) : 1 ≤ cn a v n := by
  have h1 : cn a v (j + 1) ≤ cn a v n := cn_mono (by omega)
  rw [cn_s, if_pos h] at h1
  omega
theorem cn_one {i : Nat} (h : cn a v n = 1) (hi : i < n) (hj : j < n) (h1 : a i = v) (h2 : a j = v) : i = j := by
  rcases Nat.lt_trichotomy i j with q | q | q
  · exfalso
    have e1 : 1 ≤ cn a v j := cn_ge q h1
    have e2 : cn a v (j + 1) ≤ cn a v n := cn_mono (by omega)
    rw [cn_s, if_pos h2] at e2
    omega
  · exact q
  · exfalso
    have e1 : 1 ≤ cn a v i := cn_ge q h2
    have e2 : cn a v (i + 1) ≤ cn a v n := cn_mono (by omega)
    rw [cn_s, if_pos h1] at e2
    omega
theorem cn_swap {i m : Nat} (hi : i < m + 1) : cn (upd a i (a m)) v m + (if a i = v then 1 else 0) = cn a v (m + 1) := by
  rw [cn_s]
  by_cases q : i = m
  · subst q
    rw [cn_out (Nat.le_refl _)]
  · exact cn_in (by omega)
end CN
theorem nI_m1 {b : Nat} (h : b < 2 ^ 31) : nI b ≠ -1 := by
  intro q
  have e := nI_toInt h
  rw [q] at e
  have : (-1 : Int32).toInt = -1 := by decide
  omega
/-- a tree of NS slots and a stash of n entries hold NB blocks, each once: block b holds val b, its leaf is lf b -/
def tI (NS NB : Nat) (onp : Nat → Nat → Prop) (o d t so sc st : Nat → Int32) (n : Nat) (val : Nat → Int32) (lf : Nat → Nat) : Prop :=
  n ≤ NB ∧
  (∀ s, s < NS → o s = -1 ∨ ∃ b, b < NB ∧ o s = nI b ∧ d s = val b ∧ t s = nI (lf b) ∧ onp (lf b) s) ∧
  (∀ i, i < n → ∃ b, b < NB ∧ so i = nI b ∧ sc i = val b ∧ st i = nI (lf b)) ∧
  (∀ b, b < NB → cn o (nI b) NS + cn so (nI b) n = 1) ∧
  cn o (-1) NS + NB = NS + n
section TI
variable {NS NB n s i b : Nat} {onp : Nat → Nat → Prop} {o d t so sc st d' : Nat → Int32} {val : Nat → Int32} {lf : Nat → Nat}
theorem tI.take (hNB : NB < 2 ^ 31) (h : tI NS NB onp o d t so sc st n val lf) (hs : s < NS) (ho : o s ≠ -1) :
    n < NB ∧ tI NS NB onp (upd o s (-1)) d t (upd so n (o s)) (upd sc n (d s)) (upd st n (t s)) (n + 1) val lf := by
  obtain ⟨h1, h2, h3, h4, h5⟩ := h
  have e1 := cn_in (a := o) (x := -1) (v := -1) hs
  rw [if_neg ho, if_pos rfl] at e1
  have hle : cn (upd o s (-1)) (-1) NS ≤ NS := cn_le
  have hn : n < NB := by omega
  obtain ⟨b, hb, e2, e3, e4, e5⟩ := (h2 s hs).resolve_left ho
  refine ⟨hn, by omega, fun s' hs' => ?_, fun i hi => ?_, fun b' hb' => ?_, by omega⟩
  · by_cases q : s' = s
    · left
      rw [q]
      exact pk_us
    · rw [pk_un q]
      exact h2 s' hs'
  · by_cases q : i = n
    · subst q
      rw [pk_us, pk_us, pk_us]
      exact ⟨b, hb, e2, e3, e4⟩
    · rw [pk_un q, pk_un q, pk_un q]
      exact h3 i (by omega)
  · have e6 := cn_in (a := o) (x := -1) (v := nI b') hs
    rw [cn_s, cn_out (Nat.le_refl n), pk_us]
    have e7 := h4 b' hb'
    rw [if_neg (show ¬ (-1 : Int32) = nI b' from fun q => nI_m1 (by omega) q.symm)] at e6
    omega
theorem tI.put (hNB : NB < 2 ^ 31) (h : tI NS NB onp o d t so sc st n val lf) (hs : s < NS) (ho : o s = -1) (hi : i < n) (hp : ∀ b, b < NB → st i = nI (lf b) → onp (lf b) s) :
    tI NS NB onp (upd o s (so i)) (upd d s (sc i)) (upd t s (st i)) (upd so i (so (n - 1))) (upd sc i (sc (n - 1))) (upd st i (st (n - 1))) (n - 1) val lf := by
  obtain ⟨h1, h2, h3, h4, h5⟩ := h
  obtain ⟨m, rfl⟩ : ∃ m, n = m + 1 := ⟨n - 1, by omega⟩
  rw [Nat.add_sub_cancel]
  obtain ⟨b, hb, e2, e3, e4⟩ := h3 i hi
  have hne : so i ≠ -1 := by rw [e2]; exact nI_m1 (by omega)
  refine ⟨by omega, fun s' hs' => ?_, fun j hj => ?_, fun b' hb' => ?_, ?_⟩
  · by_cases q : s' = s
    · right
      rw [q, pk_us, pk_us, pk_us]
      exact ⟨b, hb, e2, e3, e4, hp b hb e4⟩
    · rw [pk_un q, pk_un q, pk_un q]
      exact h2 s' hs'
  · by_cases q : j = i
    · rw [q, pk_us, pk_us, pk_us]
      exact h3 m (by omega)
    · rw [pk_un q, pk_un q, pk_un q]
      exact h3 j (by omega)
  · have e6 := cn_in (a := o) (x := so i) (v := nI b') hs
    have e7 := cn_swap (a := so) (v := nI b') hi
    have e8 := h4 b' hb'
    rw [if_neg (show ¬ o s = nI b' from fun q => nI_m1 (b := b') (by omega) (by rw [← q, ho]))] at e6
    omega
  · have e6 := cn_in (a := o) (x := so i) (v := -1) hs
    rw [if_pos ho, if_neg hne] at e6
    omega
theorem tI.dch (h : tI NS NB onp o d t so sc st n val lf) (hd : ∀ s, s < NS → o s ≠ -1 → d' s = d s) : tI NS NB onp o d' t so sc st n val lf := by
  obtain ⟨h1, h2, h3, h4, h5⟩ := h
  refine ⟨h1, fun s hs => ?_, h3, h4, h5⟩
  rcases h2 s hs with q | ⟨b, a1, a2, a3, a4, a5⟩
  · exact Or.inl q
  · by_cases q : o s = -1
    · exact Or.inl q
    · exact Or.inr ⟨b, a1, a2, by rw [hd s hs q]; exact a3, a4, a5⟩
theorem tI.off (hNB : NB < 2 ^ 31) (h : tI NS NB onp o d t so sc st n val lf) (hb : b < NB) (hp : ∀ s, s < NS → onp (lf b) s → o s = -1) : ∀ s, s < NS → o s ≠ nI b := by
  intro s hs q
  have hne : o s ≠ -1 := by rw [q]; exact nI_m1 (by omega)
  obtain ⟨b', a1, a2, a3, a4, a5⟩ := (h.2.1 s hs).resolve_left hne
  have hbb : b' = b := (nI_eq (by omega) (by omega)).mp (a2.symm.trans q)
  subst hbb
  exact hne (hp s hs a5)
theorem tI.here (h : tI NS NB onp o d t so sc st n val lf) (hb : b < NB) (hall : ∀ s, s < NS → o s ≠ nI b) : cn so (nI b) n = 1 := by
  have := h.2.2.2.1 b hb
  rw [cn_zero hall] at this
  omega
/-- block b, in the stash, gets a new value and a new leaf -/
theorem tI.chg {sc' st' : Nat → Int32} {v : Int32} {nl : Nat} (hNB : NB < 2 ^ 31) (h : tI NS NB onp o d t so sc st n val lf) (hb : b < NB) (hall : ∀ s, s < NS → o s ≠ nI b)
    (hsc : ∀ j, j < n → sc' j = if so j = nI b then v else sc j) (hst : ∀ j, j < n → st' j = if so j = nI b then nI nl else st j) :
    tI NS NB onp o d t so sc' st' n (upd val b v) (va_up lf b nl) := by
  obtain ⟨h1, h2, h3, h4, h5⟩ := h
  refine ⟨h1, fun s hs => ?_, fun i hi => ?_, h4, h5⟩
  · rcases h2 s hs with q | ⟨b', a1, a2, a3, a4, a5⟩
    · exact Or.inl q
    · have hne : b' ≠ b := fun q => hall s hs (by rw [a2, q])
      refine Or.inr ⟨b', a1, a2, ?_, ?_, ?_⟩
      · rw [pk_un hne]; exact a3
      · show t s = nI (if b' = b then nl else lf b')
        rw [if_neg hne]; exact a4
      · show onp (if b' = b then nl else lf b') s
        rw [if_neg hne]; exact a5
  · obtain ⟨b', a1, a2, a3, a4⟩ := h3 i hi
    refine ⟨b', a1, a2, ?_, ?_⟩
    · rw [hsc i hi]
      by_cases q : b' = b
      · rw [q, pk_us, if_pos (by rw [a2, q])]
      · rw [pk_un q, if_neg (fun z => q ((nI_eq (by omega) (by omega)).mp (a2.symm.trans z)))]
        exact a3
    · rw [hst i hi]
      show _ = nI (if b' = b then nl else lf b')
      by_cases q : b' = b
      · rw [if_pos q, if_pos (by rw [a2, q])]
      · rw [if_neg q, if_neg (fun z => q ((nI_eq (by omega) (by omega)).mp (a2.symm.trans z)))]
        exact a4
/-- the leaf alone: no value changes -/
theorem tI.valc (h : tI NS NB onp o d t so sc st n val lf) {val' : Nat → Int32} (hv : ∀ b, b < NB → val' b = val b) : tI NS NB onp o d t so sc st n val' lf := by
  obtain ⟨h1, h2, h3, h4, h5⟩ := h
  refine ⟨h1, fun s hs => ?_, fun i hi => ?_, h4, h5⟩
  · rcases h2 s hs with q | ⟨b', a1, a2, a3, a4, a5⟩
    · exact Or.inl q
    · exact Or.inr ⟨b', a1, a2, by rw [hv b' a1]; exact a3, a4, a5⟩
  · obtain ⟨b', a1, a2, a3, a4⟩ := h3 i hi
    exact ⟨b', a1, a2, by rw [hv b' a1]; exact a3, a4⟩
/-- the stash holds block b's value at the one place that is its own -/
theorem tI.at (hNB : NB < 2 ^ 31) (h : tI NS NB onp o d t so sc st n val lf) (hb : b < NB) (hi : i < n) (ho : so i = nI b) : sc i = val b ∧ st i = nI (lf b) := by
  obtain ⟨b', a1, a2, a3, a4⟩ := h.2.2.1 i hi
  have hbb : b' = b := (nI_eq (by omega) (by omega)).mp (a2.symm.trans ho)
  subst hbb
  exact ⟨a3, a4⟩
end TI
/-! the two trees -/
def onp4 (t s : Nat) : Prop := ∃ lv, lv < 4 ∧ (8 + t) / 2 ^ (3 - lv) = s / 4
def onp2 (t s : Nat) : Prop := ∃ lv, lv < 3 ∧ (4 + t) / 2 ^ (2 - lv) = s / 2
def ush (x k : Int32) : Int32 := (x.toUInt32 >>> (k.toUInt32 &&& Int32.toUInt32 31)).toInt32
def pdf (key ver slot : Int32) : Int32 :=
  let x := key + slot * 1640531527 + ver * 374761393
  let y := (x ^^^ ush x (nI 15)) * 668265263
  let z := (y ^^^ ush y (nI 13)) * 1103515245
  z ^^^ ush z (nI 16)
/-- what the tree's cells hold, unscrambled -/
def dcd (key : Int32) (c ver : Nat → Int32) : Nat → Int32 := fun s => c s ^^^ pdf key (ver (s / 4)) (nI s)
/-- the tree of PathOram holds val, with leaves lf, n entries in the stash -/
def tX (f : Nat → Int32) (g : Nat → Nat → Int32) (n : Nat) (val : Nat → Int32) (lf : Nat → Nat) : Prop :=
  f 0 = nI n ∧ tI 64 16 onp4 (g 0) (dcd (f 3) (g 1) (g 3)) (g 2) (g 4) (g 5) (g 6) n val lf ∧ ∀ b, b < 16 → lf b < 8
/-- the smaller tree -/
def tM (f : Nat → Int32) (g : Nat → Nat → Int32) (n : Nat) (wv : Nat → Int32) (wl : Nat → Nat) : Prop :=
  f 1 = nI n ∧ tI 16 4 onp2 (g 7) (g 8) (g 9) (g 10) (g 11) (g 12) n wv wl ∧ ∀ w, w < 4 → wl w < 4
/-- the leaves as packed in the words -/
def lfW (wv : Nat → Int32) (lf : Nat → Nat) : Prop := ∀ b, b < 16 → (wv (b / 4) >>> (nI (3 * (b % 4)) &&& 31)) &&& nI 7 = nI (lf b)
/-- the position map: holds the leaves lf -/
def mO (f : Nat → Int32) (g : Nat → Nat → Int32) (lf : Nat → Nat) : Prop :=
  ∃ (n : Nat) (wv : Nat → Int32) (wl : Nat → Nat), tM f g n wv wl ∧ (∀ w, w < 4 → g 13 w = nI (wl w)) ∧ lfW wv lf
/-- PathOram holds val -/
def oI (f : Nat → Int32) (g : Nat → Nat → Int32) (val : Nat → Int32) : Prop := ∃ (n : Nat) (lf : Nat → Nat), tX f g n val lf ∧ mO f g lf
theorem xor_back (x y : Int32) : (x ^^^ y) ^^^ y = x := by
  rw [Int32.xor_assoc, Int32.xor_self, Int32.xor_zero]
theorem dcd_put {key x : Int32} {c ver : Nat → Int32} {s : Nat} : dcd key (upd c s (x ^^^ pdf key (ver (s / 4)) (nI s))) ver = upd (dcd key c ver) s x := by
  funext j
  by_cases q : j = s
  · rw [q, pk_us]
    show upd c s _ s ^^^ _ = x
    rw [pk_us]
    exact xor_back _ _
  · rw [pk_un q]
    show upd c s _ j ^^^ _ = c j ^^^ _
    rw [pk_un q]
theorem sh_ok : ∀ k, k < 32 → ((nI k &&& 31).toBitVec.smod 32).toNat = k := by decide +kernel
theorem bk_le : ∀ leaf, leaf < 8 → ∀ lv, lv < 3 → ∀ l, l < 4 → (8 + leaf) / 2 ^ (3 - l) < (8 + leaf) / 2 ^ (3 - (lv + 1)) → (8 + leaf) / 2 ^ (3 - l) ≤ (8 + leaf) / 2 ^ (3 - lv) := by decide +kernel
theorem bk_lt : ∀ leaf, leaf < 8 → ∀ lv, lv < 3 → (8 + leaf) / 2 ^ (3 - lv) < (8 + leaf) / 2 ^ (3 - (lv + 1)) := by decide +kernel
theorem bk_top : ∀ leaf, leaf < 8 → ∀ l, l < 4 → (8 + leaf) / 2 ^ (3 - l) ≤ 8 + leaf := by decide +kernel
theorem bk_in : ∀ leaf, leaf < 8 → ∀ l, l < 4 → 1 ≤ (8 + leaf) / 2 ^ (3 - l) ∧ (8 + leaf) / 2 ^ (3 - l) < 16 := by decide +kernel
theorem bm_in : ∀ leaf, leaf < 4 → ∀ l, l < 3 → 1 ≤ (4 + leaf) / 2 ^ (2 - l) ∧ (4 + leaf) / 2 ^ (2 - l) < 8 := by decide +kernel
theorem bk_0 : ∀ leaf, leaf < 8 → ∀ l, l < 4 → (8 + leaf) / 2 ^ (3 - 0) ≤ (8 + leaf) / 2 ^ (3 - l) := by decide +kernel
theorem bm_le : ∀ leaf, leaf < 4 → ∀ lv, lv < 2 → ∀ l, l < 3 → (4 + leaf) / 2 ^ (2 - l) < (4 + leaf) / 2 ^ (2 - (lv + 1)) → (4 + leaf) / 2 ^ (2 - l) ≤ (4 + leaf) / 2 ^ (2 - lv) := by decide +kernel
theorem bm_top : ∀ leaf, leaf < 4 → ∀ l, l < 3 → (4 + leaf) / 2 ^ (2 - l) ≤ 4 + leaf := by decide +kernel
theorem bm_0 : ∀ leaf, leaf < 4 → ∀ l, l < 3 → (4 + leaf) / 2 ^ (2 - 0) ≤ (4 + leaf) / 2 ^ (2 - l) := by decide +kernel
/-- a block's number -/
def inb (b : Int32) : Bool := decide (0 ≤ b) && decide (b < 16)
theorem inb_neg {b : Int32} (h : b < 0) : inb b = false := by
  have : ¬ 0 ≤ b := by
    rw [Int32.le_iff_toInt_le]
    rw [Int32.lt_iff_toInt_lt] at h
    omega
  simp [inb, this]
theorem inb_big {b : Int32} (h : 16 ≤ b) : inb b = false := by
  have : ¬ b < 16 := by
    rw [Int32.lt_iff_toInt_lt]
    rw [Int32.le_iff_toInt_le] at h
    omega
  simp [inb, this]
theorem inb_of {b : Int32} (h : ¬ b < 0) (h2 : ¬ 16 ≤ b) : inb b = true ∧ ∃ j, j < 16 ∧ b = nI j := by
  have e1 : ¬ b.toInt < (0 : Int32).toInt := fun q => h (Int32.lt_iff_toInt_lt.mpr q)
  have e2 : ¬ (16 : Int32).toInt ≤ b.toInt := fun q => h2 (Int32.le_iff_toInt_le.mpr q)
  have z0 : (0 : Int32).toInt = 0 := by decide
  have z1 : (16 : Int32).toInt = 16 := by decide
  rw [z0] at e1
  rw [z1] at e2
  refine ⟨?_, b.toInt.toNat, by omega, ?_⟩
  · have a1 : 0 ≤ b := by rw [Int32.le_iff_toInt_le, z0]; omega
    have a2 : b < 16 := by rw [Int32.lt_iff_toInt_lt, z1]; omega
    simp [inb, a1, a2]
  · apply Int32.toInt_inj.mp
    rw [nI_toInt (by omega)]
    omega
theorem inb_nI : ∀ j, j < 16 → inb (nI j) = true := by decide +kernel
theorem inb_ex {b : Int32} (h : inb b = true) : ∃ j, j < 16 ∧ b = nI j := by
  simp only [inb, Bool.and_eq_true, decide_eq_true_eq] at h
  refine (inb_of ?_ ?_).2
  · intro q
    have := h.1
    rw [Int32.le_iff_toInt_le] at this
    rw [Int32.lt_iff_toInt_lt] at q
    omega
  · intro q
    have := h.2
    rw [Int32.lt_iff_toInt_lt] at this
    rw [Int32.le_iff_toInt_le] at q
    omega
end
section
/-! the trees under single steps of PathOram's code -/
/-- the number n - 1 as an int, from n = 0 on -/
def dl : Nat → Int32
  | 0 => -1
  | n + 1 => nI n
theorem dl_dec : ∀ lv : Nat, nI lv + (-1) = dl lv
  | 0 => by decide
  | n + 1 => pk_m1 n
theorem bk_inj : ∀ leaf, leaf < 8 → ∀ lv, lv < 4 → ∀ l, l < lv → (8 + leaf) / 2 ^ (3 - l) < (8 + leaf) / 2 ^ (3 - lv) := by decide +kernel
section TX
variable {f f' : Nat → Int32} {g g' : Nat → Nat → Int32} {n sl i bk : Nat} {val wv : Nat → Int32} {lf wl : Nat → Nat} {v : Int32}
theorem tX.cg (h : tX f g n val lf) (h0 : f' 0 = f 0) (h3 : f' 3 = f 3) (hg : ∀ k, k < 7 → g' k = g k) : tX f' g' n val lf := by
  unfold tX at h ⊢
  rw [h0, h3, hg 0 (by omega), hg 1 (by omega), hg 2 (by omega), hg 3 (by omega), hg 4 (by omega), hg 5 (by omega), hg 6 (by omega)]
  exact h
theorem mO.cg (h : mO f g lf) (h1 : f' 1 = f 1) (hg : ∀ k, 7 ≤ k → k < 14 → g' k = g k) : mO f' g' lf := by
  unfold mO tM at h ⊢
  rw [h1, hg 7 (by omega) (by omega), hg 8 (by omega) (by omega), hg 9 (by omega) (by omega), hg 10 (by omega) (by omega), hg 11 (by omega) (by omega), hg 12 (by omega) (by omega), hg 13 (by omega) (by omega)]
  exact h
theorem tX.take (h : tX f g n val lf) (hs : sl < 64) (ho : g 0 sl ≠ -1) :
    n < 16 ∧ tX (va_up f 0 (nI (n + 1))) (va_up (va_up (va_up (va_up g 4 (upd (g 4) n (g 0 sl))) 5 (upd (g 5) n (g 1 sl ^^^ pdf (f 3) (g 3 (sl / 4)) (nI sl)))) 6 (upd (g 6) n (g 2 sl))) 0 (upd (g 0) sl (-1))) (n + 1) val lf := by
  obtain ⟨h1, h2, h3⟩ := h
  have := tI.take (by decide) h2 hs ho
  exact ⟨this.1, rfl, this.2, h3⟩
theorem tX.put (h : tX f g n val lf) (hs : sl < 64) (ho : g 0 sl = -1) (hi : i < n) (hp : ∀ b, b < 16 → g 6 i = nI (lf b) → onp4 (lf b) sl) :
    tX (va_up f 0 (nI (n - 1))) (va_up (va_up (va_up (va_up (va_up (va_up g 0 (upd (g 0) sl (g 4 i))) 1 (upd (g 1) sl (g 5 i ^^^ pdf (f 3) (g 3 (sl / 4)) (nI sl)))) 2 (upd (g 2) sl (g 6 i))) 4 (upd (g 4) i (g 4 (n - 1)))) 5 (upd (g 5) i (g 5 (n - 1)))) 6 (upd (g 6) i (g 6 (n - 1)))) (n - 1) val lf := by
  obtain ⟨h1, h2, h3⟩ := h
  have := tI.put (by decide) h2 hs ho hi hp
  rw [← dcd_put] at this
  exact ⟨rfl, this, h3⟩
theorem tX.noise (h : tX f g n val lf) (ho : g 0 sl = -1) : tX f (va_up g 1 (upd (g 1) sl v)) n val lf := by
  obtain ⟨h1, h2, h3⟩ := h
  refine ⟨h1, tI.dch h2 (fun s hs hne => ?_), h3⟩
  have hn : s ≠ sl := fun q => hne (by rw [q]; exact ho)
  show upd (g 1) sl v s ^^^ _ = g 1 s ^^^ _
  rw [pk_un hn]
  rfl
theorem tX.vers (h : tX f g n val lf) (ho : ∀ s, s < 64 → s / 4 = bk → g 0 s = -1) : tX f (va_up g 3 (upd (g 3) bk v)) n val lf := by
  obtain ⟨h1, h2, h3⟩ := h
  refine ⟨h1, tI.dch h2 (fun s hs hne => ?_), h3⟩
  have hn : s / 4 ≠ bk := fun q => hne (ho s hs q)
  show g 1 s ^^^ pdf (f 3) (upd (g 3) bk v (s / 4)) (nI s) = g 1 s ^^^ pdf (f 3) (g 3 (s / 4)) (nI s)
  rw [pk_un hn]
theorem tM.cg (h : tM f g n wv wl) (h1 : f' 1 = f 1) (hg : ∀ k, 7 ≤ k → k < 13 → g' k = g k) : tM f' g' n wv wl := by
  unfold tM at h ⊢
  rw [h1, hg 7 (by omega) (by omega), hg 8 (by omega) (by omega), hg 9 (by omega) (by omega), hg 10 (by omega) (by omega), hg 11 (by omega) (by omega), hg 12 (by omega) (by omega)]
  exact h
theorem tM.take (h : tM f g n wv wl) (hs : sl < 16) (ho : g 7 sl ≠ -1) :
    n < 4 ∧ tM (va_up f 1 (nI (n + 1))) (va_up (va_up (va_up (va_up g 10 (upd (g 10) n (g 7 sl))) 11 (upd (g 11) n (g 8 sl))) 12 (upd (g 12) n (g 9 sl))) 7 (upd (g 7) sl (-1))) (n + 1) wv wl := by
  obtain ⟨h1, h2, h3⟩ := h
  have := tI.take (by decide) h2 hs ho
  exact ⟨this.1, rfl, this.2, h3⟩
theorem tM.put (h : tM f g n wv wl) (hs : sl < 16) (ho : g 7 sl = -1) (hi : i < n) (hp : ∀ b, b < 4 → g 12 i = nI (wl b) → onp2 (wl b) sl) :
    tM (va_up f 1 (nI (n - 1))) (va_up (va_up (va_up (va_up (va_up (va_up g 7 (upd (g 7) sl (g 10 i))) 8 (upd (g 8) sl (g 11 i))) 9 (upd (g 9) sl (g 12 i))) 10 (upd (g 10) i (g 10 (n - 1)))) 11 (upd (g 11) i (g 11 (n - 1)))) 12 (upd (g 12) i (g 12 (n - 1)))) (n - 1) wv wl := by
  obtain ⟨h1, h2, h3⟩ := h
  have := tI.put (by decide) h2 hs ho hi hp
  exact ⟨rfl, this, h3⟩
end TX
end
section
/-! the packed words: three bits a leaf, four leaves a word; changing one entry of a stash -/
theorem bit7 : ∀ i, i < 32 → 3 ≤ i → (nI 7).toBitVec.getLsbD i = false := by decide +kernel
theorem bit7' : ∀ i, i < 3 → (nI 7).toBitVec.getLsbD i = true := by decide +kernel
theorem low3 {x y : Int32} (h : ∀ i, i < 3 → x.toBitVec.getLsbD i = y.toBitVec.getLsbD i) : x &&& nI 7 = y &&& nI 7 := by
  apply Int32.toBitVec_inj.mp
  rw [Int32.toBitVec_and, Int32.toBitVec_and]
  apply BitVec.eq_of_getLsbD_eq
  intro i hi
  rw [BitVec.getLsbD_and, BitVec.getLsbD_and]
  by_cases q : i < 3
  · rw [h i q]
  · rw [bit7 i hi (by omega), Bool.and_false, Bool.and_false]
theorem low3_bit {x : Int32} {k : Nat} (h : x &&& nI 7 = nI k) : ∀ i, i < 3 → x.toBitVec.getLsbD i = (nI k).toBitVec.getLsbD i := by
  intro i hi
  have e := congrArg (fun z : Int32 => z.toBitVec.getLsbD i) h
  simp only [Int32.toBitVec_and, BitVec.getLsbD_and, bit7' i hi, Bool.and_true] at e
  exact e
theorem nI_and7 : ∀ k, k < 8 → nI k &&& nI 7 = nI k := by decide +kernel
theorem shr_bit (x : Int32) {j i : Nat} (hj : j < 4) (hi : i < 3) : (x >>> (nI (3 * j) &&& 31)).toBitVec.getLsbD i = x.toBitVec.getLsbD (3 * j + i) := by
  rw [Int32.toBitVec_shiftRight, BitVec.sshiftRight_eq', sh_ok (3 * j) (by omega), BitVec.getLsbD_sshiftRight]
  have h1 : ¬ 32 ≤ i := by omega
  have h2 : 3 * j + i < 32 := by omega
  simp [h1, h2]
theorem msk_bit : ∀ j, j < 4 → ∀ jj, jj < 4 → ∀ i, i < 3 → ((nI 7 <<< (nI (3 * j) &&& 31)) ^^^ (-1)).toBitVec.getLsbD (3 * jj + i) = decide (jj ≠ j) := by decide +kernel
theorem put_bit : ∀ j, j < 4 → ∀ jj, jj < 4 → ∀ i, i < 3 → ∀ k, k < 8 → (nI k <<< (nI (3 * j) &&& 31)).toBitVec.getLsbD (3 * jj + i) = (decide (jj = j) && (nI k).toBitVec.getLsbD i) := by decide +kernel
/-- the word with leaf x at the shift sh (-1: unchanged) -/
def nvw (x sh wd : Int32) : Int32 := if x = -1 then wd else (wd &&& ((nI 7 <<< (sh &&& 31)) ^^^ (-1))) ||| (x <<< (sh &&& 31))
theorem nvw_at (wd : Int32) {j jj k : Nat} (hj : j < 4) (hjj : jj < 4) (hk : k < 8) : (nvw (nI k) (nI (3 * j)) wd >>> (nI (3 * jj) &&& 31)) &&& nI 7 = if jj = j then nI k else (wd >>> (nI (3 * jj) &&& 31)) &&& nI 7 := by
  have hne : ¬ nI k = -1 := nI_m1 (by omega)
  unfold nvw
  rw [if_neg hne]
  have bits : ∀ i, i < 3 → (((wd &&& ((nI 7 <<< (nI (3 * j) &&& 31)) ^^^ (-1))) ||| (nI k <<< (nI (3 * j) &&& 31))) >>> (nI (3 * jj) &&& 31)).toBitVec.getLsbD i = if jj = j then (nI k).toBitVec.getLsbD i else wd.toBitVec.getLsbD (3 * jj + i) := by
    intro i hi
    rw [shr_bit _ hjj hi, Int32.toBitVec_or, BitVec.getLsbD_or, Int32.toBitVec_and, BitVec.getLsbD_and, msk_bit j hj jj hjj i hi, put_bit j hj jj hjj i hi k hk]
    by_cases q : jj = j
    · simp [q]
    · simp [q]
  by_cases q : jj = j
  · rw [if_pos q, ← nI_and7 k hk]
    apply low3
    intro i hi
    rw [nI_and7 k hk, bits i hi, if_pos q]
  · rw [if_neg q]
    apply low3
    intro i hi
    rw [bits i hi, if_neg q, shr_bit _ hjj hi]
/-- a leaf laid over three empty bits -/
theorem wor_at (wd : Int32) {j jj k : Nat} (hj : j < 4) (hjj : jj < 4) (hk : k < 8) (h0 : (wd >>> (nI (3 * j) &&& 31)) &&& nI 7 = nI 0) : ((wd ||| (nI k <<< (nI (3 * j) &&& 31))) >>> (nI (3 * jj) &&& 31)) &&& nI 7 = if jj = j then nI k else (wd >>> (nI (3 * jj) &&& 31)) &&& nI 7 := by
  have z : ∀ i, i < 3 → wd.toBitVec.getLsbD (3 * j + i) = false := by
    intro i hi
    have := low3_bit h0 i hi
    rw [shr_bit _ hj hi] at this
    rw [this]
    have e : ∀ i, i < 3 → (nI 0).toBitVec.getLsbD i = false := by decide +kernel
    exact e i hi
  have bits : ∀ i, i < 3 → ((wd ||| (nI k <<< (nI (3 * j) &&& 31))) >>> (nI (3 * jj) &&& 31)).toBitVec.getLsbD i = if jj = j then (nI k).toBitVec.getLsbD i else wd.toBitVec.getLsbD (3 * jj + i) := by
    intro i hi
    rw [shr_bit _ hjj hi, Int32.toBitVec_or, BitVec.getLsbD_or, put_bit j hj jj hjj i hi k hk]
    by_cases q : jj = j
    · subst q
      simp [z i hi]
    · simp [q]
  by_cases q : jj = j
  · rw [if_pos q, ← nI_and7 k hk]
    apply low3
    intro i hi
    rw [nI_and7 k hk, bits i hi, if_pos q]
  · rw [if_neg q]
    apply low3
    intro i hi
    rw [bits i hi, if_neg q, shr_bit _ hjj hi]
theorem lfW_put {wv : Nat → Int32} {lf : Nat → Nat} {b nl : Nat} (h : lfW wv lf) (hb : b < 16) (hn : nl < 8) : lfW (upd wv (b / 4) (nvw (nI nl) (nI (3 * (b % 4))) (wv (b / 4)))) (va_up lf b nl) := by
  intro b' hb'
  show _ = nI (if b' = b then nl else lf b')
  by_cases q : b' / 4 = b / 4
  · rw [q, pk_us, nvw_at _ (by omega) (by omega) hn]
    by_cases q2 : b' % 4 = b % 4
    · rw [if_pos q2, if_pos (by omega)]
    · rw [if_neg q2, if_neg (by omega), ← q]
      exact h b' hb'
  · rw [pk_un q, if_neg (fun z => q (by rw [z]))]
    exact h b' hb'
theorem upd_same (a : Nat → Int32) (i : Nat) : upd a i (a i) = a := by
  funext j
  by_cases q : j = i
  · rw [q, pk_us]
  · rw [pk_un q]
/-- of the entries before i, those of the block b have got nv and tv -/
def chL (so sc st sc' st' : Nat → Int32) (b : Int32) (i : Nat) (nv tv : Int32) : Prop :=
  (∀ j, sc' j = if j < i ∧ so j = b then nv else sc j) ∧ ∀ j, st' j = if j < i ∧ so j = b then tv else st j
section CHL
variable {so sc st sc' st' : Nat → Int32} {b : Int32} {i : Nat} {nv tv : Int32}
theorem chL.zero : chL so sc st sc st b 0 nv tv := ⟨fun j => by rw [if_neg (by omega)], fun j => by rw [if_neg (by omega)]⟩
theorem chL.skip (h : chL so sc st sc' st' b i nv tv) (hi : so i ≠ b) : chL so sc st sc' st' b (i + 1) nv tv := by
  have e : ∀ j, (j < i + 1 ∧ so j = b) ↔ (j < i ∧ so j = b) := by
    intro j
    constructor
    · intro q
      refine ⟨?_, q.2⟩
      by_cases z : j = i
      · exact absurd (by rw [← z]; exact q.2) hi
      · omega
    · intro q
      exact ⟨by omega, q.2⟩
  refine ⟨fun j => ?_, fun j => ?_⟩
  · rw [h.1 j]; simp only [e j]
  · rw [h.2 j]; simp only [e j]
theorem chL.hit (h : chL so sc st sc' st' b i nv tv) (hi : so i = b) : chL so sc st (upd sc' i nv) (upd st' i tv) b (i + 1) nv tv := by
  have e : ∀ j, j ≠ i → ((j < i + 1 ∧ so j = b) ↔ (j < i ∧ so j = b)) := by
    intro j hj
    constructor
    · intro q
      exact ⟨by omega, q.2⟩
    · intro q
      exact ⟨by omega, q.2⟩
  refine ⟨fun j => ?_, fun j => ?_⟩
  · by_cases q : j = i
    · rw [q, pk_us, if_pos ⟨by omega, hi⟩]
    · rw [pk_un q, h.1 j]; simp only [e j q]
  · by_cases q : j = i
    · rw [q, pk_us, if_pos ⟨by omega, hi⟩]
    · rw [pk_un q, h.2 j]; simp only [e j q]
theorem chL.hit2 (h : chL so sc st sc' st' b i nv tv) (hi : so i = b) (hn : sc' i = nv) : chL so sc st sc' (upd st' i tv) b (i + 1) nv tv := by
  have := h.hit hi
  rw [← hn, upd_same] at this
  rw [hn] at this
  exact this
theorem chL.cell (h : chL so sc st sc' st' b i nv tv) : sc' i = sc i := by
  rw [h.1 i, if_neg (by omega)]
end CHL
theorem cn_y {so : Nat → Int32} {b Y y : Int32} {i : Nat} (h : y = if 0 < cn so b i then Y else 0) (hi : so i ≠ b) : y = if 0 < cn so b (i + 1) then Y else 0 := by
  rw [cn_s, if_neg hi]
  exact h
theorem cn_yh {so : Nat → Int32} {b Y : Int32} {i : Nat} (hi : so i = b) : Y = if 0 < cn so b (i + 1) then Y else 0 := by
  rw [cn_s, if_pos hi, if_pos (by omega)]
end
section
/-! what each operation does to the blocks (val) and the snapshots (snap) -/
def ixb (b : Int32) : Nat := b.toNatClampNeg
theorem ixb_nI {j : Nat} (h : j < 2 ^ 31) : ixb (nI j) = j := nI_clamp h
theorem inb01_f {b r : Int32} (h : r = if inb b = true then 1 else 0) (c : r = 0) : inb b = false := by
  cases q : inb b with
  | false => rfl
  | true =>
    rw [q, if_pos rfl, c] at h
    exact absurd h (by decide)
theorem inb01_t {b r : Int32} (h : r = if inb b = true then 1 else 0) (c : ¬ r = 0) : inb b = true ∧ ∃ j, j < 16 ∧ b = nI j := by
  cases q : inb b with
  | false =>
    rw [q] at h
    exact absurd h c
  | true => exact ⟨rfl, inb_ex q⟩
/-- PathOram's state as the law sees it -/
def PX (f : Nat → Int32) (g : Nat → Nat → Int32) (val snap : Nat → Int32) (t : Int32) : Prop := oI f g val ∧ g 14 = snap ∧ f 4 = t
/-- PathOramModel's -/
def PM (f : Nat → Int32) (g : Nat → Nat → Int32) (val snap : Nat → Int32) (u : Int32) : Prop := g 0 = val ∧ g 2 = snap ∧ f 0 = u
theorem upd_swap (a : Nat → Int32) (i k : Nat) : upd (upd a k (a i)) i (a k) = upd (upd a i (a k)) k (a i) := by
  funext j
  by_cases q1 : j = i
  · by_cases q2 : j = k
    · subst q1; subst q2; rfl
    · rw [← q1, pk_us, pk_un q2, pk_us]
  · by_cases q2 : j = k
    · rw [← q2, pk_un q1, pk_us, pk_us]
    · rw [pk_un q1, pk_un q2, pk_un q2, pk_un q1]
/-- k blocks from j on filled -/
def fl (val : Nat → Int32) (j k : Nat) (v st : Int32) : Nat → Int32 := fun i => if j ≤ i ∧ i < j + k then v + nI (i - j) * st else val i
theorem fl_0 {val : Nat → Int32} {j : Nat} {v st : Int32} : fl val j 0 v st = val := by
  funext i
  exact if_neg (by omega)
theorem fl_s {val : Nat → Int32} {j k : Nat} {v st : Int32} : upd (fl val j k v st) (j + k) (v + nI k * st) = fl val j (k + 1) v st := by
  funext i
  by_cases q : i = j + k
  · rw [q, pk_us]
    show _ = if _ then _ else _
    rw [if_pos (by omega), Nat.add_sub_cancel_left]
  · rw [pk_un q]
    show (if _ then _ else _) = if _ then _ else _
    by_cases q2 : j ≤ i ∧ i < j + k
    · rw [if_pos q2, if_pos (by omega)]
    · rw [if_neg q2, if_neg (by omega)]
theorem fill_ok {b n : Int32} (h1 : ¬ n < 1) (h2 : n ≤ 16) (h3 : ¬ b < 0) (h4 : b ≤ 16 - n) : ∃ j k, 1 ≤ k ∧ j + k ≤ 16 ∧ b = nI j ∧ n = nI k := by
  have h0 : ¬ n < 0 := by
    intro q
    apply h1
    rw [Int32.lt_iff_toInt_lt] at q ⊢
    have e0 : (0 : Int32).toInt = 0 := by decide
    have e1 : (1 : Int32).toInt = 1 := by decide
    omega
  obtain ⟨k, hk, ek⟩ := nI_of2 (M := 16) (n := 16) (by decide) h0 h2
  have hk1 : 1 ≤ k := by
    rcases Nat.eq_zero_or_pos k with q | q
    · rw [ek, q] at h1
      exact absurd (by decide) h1
    · exact q
  have e16 : (16 : Int32) - n = nI (16 - k) := by
    rw [ek]
    exact pk_sub (a := 16) (b := k) hk
  rw [e16] at h4
  obtain ⟨j, hj, ej⟩ := nI_of2 (n := 16 - k) (nI_toInt (by omega)) h3 h4
  exact ⟨j, k, hk1, by omega, ej, ek⟩
/-- rotate: the first k blocks done -/
def rix (j : Nat) (sh : Int32) : Nat := ixb ((nI j + sh) &&& nI 15)
def rtt (val : Nat → Int32) (sh : Int32) (k : Nat) : Nat → Int32 := fun j => if j < k then val (rix j sh) else val j
theorem rtt_0 {val : Nat → Int32} {sh : Int32} : rtt val sh 0 = val := by
  funext i
  exact if_neg (by omega)
theorem rtt_s {val : Nat → Int32} {sh : Int32} {k : Nat} : upd (rtt val sh k) k (val (rix k sh)) = rtt val sh (k + 1) := by
  funext i
  by_cases q : i = k
  · rw [q, pk_us]
    show _ = if _ then _ else _
    rw [if_pos (by omega)]
  · rw [pk_un q]
    show (if _ then _ else _) = if _ then _ else _
    by_cases q2 : i < k
    · rw [if_pos q2, if_pos (by omega)]
    · rw [if_neg q2, if_neg (by omega)]
def sm (a : Nat → Int32) : Nat → Int32
  | 0 => 0
  | n + 1 => sm a n + a n
/-- the first place from k on, of n, that holds v -/
def fd (a : Nat → Int32) (v : Int32) : Nat → Nat → Int32
  | _, 0 => -2
  | k, n + 1 => if a k = v then nI k else fd a v (k + 1) n
def cl (a : Nat → Int32) (v : Int32) : Nat → Nat
  | 0 => 0
  | n + 1 => cl a v n + (if a n < v then 1 else 0)
theorem cl_le {a : Nat → Int32} {v : Int32} {n : Nat} : cl a v n ≤ n := by
  induction n with
  | zero => exact Nat.le_refl 0
  | succ n ih =>
    show cl a v n + _ ≤ _
    split <;> omega
def df (a b : Nat → Int32) (o : Nat) : Nat → Nat
  | 0 => 0
  | n + 1 => df a b o n + (if a n = b (o + n) then 0 else 1)
theorem df_le {a b : Nat → Int32} {o n : Nat} : df a b o n ≤ n := by
  induction n with
  | zero => exact Nat.le_refl 0
  | succ n ih =>
    show df a b o n + _ ≤ _
    split <;> omega
/-- a snapshot's number -/
def shot (s : Int32) : Bool := decide (s = 0) || decide (s = 1)
theorem shot_ex {s : Int32} (h : shot s = true) : ∃ n, n < 2 ∧ s = nI n := by
  simp only [shot, Bool.or_eq_true, decide_eq_true_eq] at h
  rcases h with h | h
  · exact ⟨0, by omega, h⟩
  · exact ⟨1, by omega, h⟩
theorem shot_nI : ∀ n, n < 2 → shot (nI n) = true := by decide +kernel
theorem shot_no {s : Int32} (h0 : ¬ s = 0) (h1 : ¬ s = 1) : shot s = false := by simp [shot, h0, h1]
def svv (snap val : Nat → Int32) (o k : Nat) : Nat → Int32 := fun j => if o ≤ j ∧ j < o + k then val (j - o) else snap j
theorem svv_0 {snap val : Nat → Int32} {o : Nat} : svv snap val o 0 = snap := by
  funext i
  exact if_neg (by omega)
theorem svv_s {snap val : Nat → Int32} {o k : Nat} : upd (svv snap val o k) (o + k) (val k) = svv snap val o (k + 1) := by
  funext i
  by_cases q : i = o + k
  · rw [q, pk_us]
    show _ = if _ then _ else _
    rw [if_pos (by omega), Nat.add_sub_cancel_left]
  · rw [pk_un q]
    show (if _ then _ else _) = if _ then _ else _
    by_cases q2 : o ≤ i ∧ i < o + k
    · rw [if_pos q2, if_pos (by omega)]
    · rw [if_neg q2, if_neg (by omega)]
def ldd (val snap : Nat → Int32) (o k : Nat) : Nat → Int32 := fun j => if j < k then snap (o + j) else val j
theorem ldd_0 {snap val : Nat → Int32} {o : Nat} : ldd val snap o 0 = val := by
  funext i
  exact if_neg (by omega)
theorem ldd_s {snap val : Nat → Int32} {o k : Nat} : upd (ldd val snap o k) k (snap (o + k)) = ldd val snap o (k + 1) := by
  funext i
  by_cases q : i = k
  · rw [q, pk_us]
    show _ = if _ then _ else _
    rw [if_pos (by omega)]
  · rw [pk_un q]
    show (if _ then _ else _) = if _ then _ else _
    by_cases q2 : i < k
    · rw [if_pos q2, if_pos (by omega)]
    · rw [if_neg q2, if_neg (by omega)]
theorem ldd_at {snap val : Nat → Int32} {o k : Nat} : ldd val snap o k k = val k := if_neg (by omega)
end
section
/-! sorting by insertion, and the rank -/
def ctp (P : Int32 → Bool) (a : Nat → Int32) : Nat → Nat
  | 0 => 0
  | n + 1 => ctp P a n + (if P (a n) = true then 1 else 0)
section CTP
variable {P : Int32 → Bool} {a : Nat → Int32} {x v : Int32} {n k p q : Nat}
theorem ctp_s : ctp P a (n + 1) = ctp P a n + (if P (a n) = true then 1 else 0) := rfl
theorem ctp_out (h : n ≤ k) : ctp P (upd a k x) n = ctp P a n := by
  induction n with
  | zero => rfl
  | succ n ih => rw [ctp_s, ctp_s, ih (by omega), pk_un (by omega)]
theorem ctp_in (h : k < n) : ctp P (upd a k x) n + (if P (a k) = true then 1 else 0) = ctp P a n + (if P x = true then 1 else 0) := by
  induction n with
  | zero => omega
  | succ n ih =>
    rw [ctp_s, ctp_s]
    by_cases hk : k = n
    · subst hk
      rw [ctp_out (Nat.le_refl _), pk_us]
      omega
    · rw [pk_un (fun q => hk q.symm)]
      have := ih (by omega)
      omega
theorem ctp_congr {b : Nat → Int32} (h : ∀ j, j < n → a j = b j) : ctp P a n = ctp P b n := by
  induction n with
  | zero => rfl
  | succ n ih => rw [ctp_s, ctp_s, ih (fun j hj => h j (by omega)), h n (by omega)]
theorem ctp_sw (hp : p < n) (hq : q < n) (hne : q ≠ p) : ctp P (upd (upd a p (a q)) q (a p)) n = ctp P a n := by
  have e1 := ctp_in (P := P) (a := a) (x := a q) hp
  have e2 := ctp_in (P := P) (a := upd a p (a q)) (x := a p) hq
  rw [pk_un hne] at e2
  omega
theorem cn_ctp : cn a v n = ctp (fun z => decide (z = v)) a n := by
  induction n with
  | zero => rfl
  | succ n ih => rw [cn_s, ctp_s, ih]; simp only [decide_eq_true_eq]
theorem cl_s : cl a v (n + 1) = cl a v n + (if a n < v then 1 else 0) := rfl
theorem cl_ctp : cl a v n = ctp (fun z => decide (z < v)) a n := by
  induction n with
  | zero => rfl
  | succ n ih => rw [cl_s, ctp_s, ih]; simp only [decide_eq_true_eq]
theorem cl_mono (h : k ≤ n) : cl a v k ≤ cl a v n := by
  induction n with
  | zero =>
    have : k = 0 := by omega
    subst this
    exact Nat.le_refl _
  | succ n ih =>
    by_cases q : k = n + 1
    · subst q
      exact Nat.le_refl _
    · rw [cl_s]
      have := ih (by omega)
      omega
theorem cl_few (h : ∀ j, k ≤ j → j < n → ¬ a j < v) : cl a v n ≤ k := by
  induction n with
  | zero => exact Nat.zero_le _
  | succ n ih =>
    rw [cl_s]
    have e := ih (fun j h1 h2 => h j h1 (by omega))
    by_cases q : k ≤ n
    · rw [if_neg (h n q (by omega))]
      omega
    · have : cl a v n ≤ n := cl_le
      split <;> omega
theorem cl_cn (h : ∀ j, j < n → a j ≤ v) : cl a v n + cn a v n = n := by
  induction n with
  | zero => rfl
  | succ n ih =>
    rw [cl_s, cn_s]
    have e := ih (fun j hj => h j (by omega))
    have h1 := h n (by omega)
    by_cases q : a n = v
    · rw [if_pos q, if_neg (by rw [q]; exact Int32.lt_irrefl)]
      omega
    · rw [if_neg q, if_pos (Int32.lt_of_le_of_ne h1 q)]
      omega
theorem cl_lt {r : Int32} (h : v < r) : cl a v n + cn a v n ≤ cl a r n := by
  induction n with
  | zero => exact Nat.le_refl _
  | succ n ih =>
    rw [cl_s, cn_s, cl_s]
    by_cases q : a n = v
    · rw [if_pos q, if_neg (by rw [q]; exact Int32.lt_irrefl), if_pos (by rw [q]; exact h)]
      omega
    · rw [if_neg q]
      by_cases q2 : a n < v
      · rw [if_pos q2, if_pos (Int32.lt_trans q2 h)]
        omega
      · rw [if_neg q2]
        omega
end CTP
/-- r is the k-th of the sixteen values, counted from 0 -/
def Rk (val : Nat → Int32) (k : Nat) (r : Int32) : Prop := cl val r 16 ≤ k ∧ k < cl val r 16 + cn val r 16
theorem Rk.one {val : Nat → Int32} {k : Nat} {r1 r2 : Int32} (h1 : Rk val k r1) (h2 : Rk val k r2) : r1 = r2 := by
  by_cases q : r1 = r2
  · exact q
  · exfalso
    by_cases z : r1 < r2
    · have := cl_lt (a := val) (n := 16) z
      have a1 := h1.2
      have a2 := h2.1
      omega
    · have z2 : r2 < r1 := Int32.lt_of_le_of_ne (Int32.not_lt.mp z) (fun e => q e.symm)
      have := cl_lt (a := val) (n := 16) z2
      have a1 := h2.2
      have a2 := h1.1
      omega
theorem Rk.ex {val : Nat → Int32} {k : Nat} {r : Int32} (h : Rk val k r) : ∃ i, i < 16 ∧ Rk val k (val i) := by
  obtain ⟨i, h1, h2⟩ := cn_pos (a := val) (v := r) (n := 16) (by have := h.1; have := h.2; omega)
  exact ⟨i, h1, by rw [h2]; exact h⟩
/-- sorted below i, a permutation of val -/
def srt (val a : Nat → Int32) (i : Nat) : Prop := (∀ P : Int32 → Bool, ctp P a 16 = ctp P val 16) ∧ ∀ p q, p < q → q < i → a p ≤ a q
/-- the hole at 'pt', mv in hand -/
def ins (val a : Nat → Int32) (i pt : Nat) (mv : Int32) : Prop :=
  pt ≤ i ∧ (∀ P : Int32 → Bool, ctp P (upd a pt mv) 16 = ctp P val 16) ∧ (∀ p q, p < q → q ≤ i → p ≠ pt → q ≠ pt → a p ≤ a q) ∧ ∀ q, pt < q → q ≤ i → mv < a q
section INS
variable {val a : Nat → Int32} {i pt : Nat} {mv : Int32}
theorem srt.start (h : ∀ j, j < 16 → a j = val j) : srt val a 1 := ⟨fun _ => ctp_congr h, fun p q h1 h2 => absurd h2 (by omega)⟩
theorem srt.ins (h : srt val a i) : ins val a i i (a i) := by
  refine ⟨Nat.le_refl _, fun P => ?_, fun p q h1 h2 h3 h4 => h.2 p q h1 (by omega), fun q h1 h2 => absurd h1 (by omega)⟩
  rw [upd_same]
  exact h.1 P
theorem ins.step (h : ins val a i (pt + 1) mv) (hi : i < 16) (hc : mv < a pt) : ins val (upd a (pt + 1) (a pt)) i pt mv := by
  obtain ⟨h0, h1, h2, h3⟩ := h
  refine ⟨by omega, fun P => ?_, fun p q a1 a2 a3 a4 => ?_, fun q a1 a2 => ?_⟩
  · rw [← h1 P, ← ctp_sw (P := P) (a := upd a (pt + 1) mv) (p := pt + 1) (q := pt) (n := 16) (by omega) (by omega) (by omega)]
    congr 1
    funext j
    by_cases q : j = pt
    · rw [q, pk_us, pk_us, pk_us]
    · rw [pk_un q, pk_un q]
      by_cases q2 : j = pt + 1
      · rw [q2, pk_us, pk_us, pk_un (by omega)]
      · rw [pk_un q2, pk_un q2, pk_un q2]
  · by_cases q1 : q = pt + 1
    · rw [q1, pk_us, pk_un (by omega)]
      exact h2 p pt (by omega) (by omega) (by omega) (by omega)
    · rw [pk_un q1]
      by_cases q2 : p = pt + 1
      · rw [q2, pk_us]
        exact h2 pt q (by omega) a2 (by omega) q1
      · rw [pk_un q2]
        exact h2 p q a1 a2 q2 q1
  · by_cases q1 : q = pt + 1
    · rw [q1, pk_us]
      exact hc
    · rw [pk_un q1]
      exact h3 q (by omega) a2
theorem ins.done (h : ins val a i pt mv) (hc : pt = 0 ∨ ∃ p, pt = p + 1 ∧ a p ≤ mv) : srt val (upd a pt mv) (i + 1) := by
  obtain ⟨h0, h1, h2, h3⟩ := h
  refine ⟨h1, fun p q a1 a2 => ?_⟩
  by_cases q1 : p = pt
  · rw [q1, pk_us, pk_un (by omega)]
    exact Int32.le_of_lt (h3 q (by omega) (by omega))
  · rw [pk_un q1]
    by_cases q2 : q = pt
    · rw [q2, pk_us]
      rcases hc with z | ⟨r, z1, z2⟩
      · omega
      · by_cases q3 : p = r
        · rw [q3]; exact z2
        · exact Int32.le_trans (h2 p r (by omega) (by omega) q1 (by omega)) z2
    · rw [pk_un q2]
      exact h2 p q a1 (by omega) q1 q2
theorem srt.rank {k : Nat} (h : srt val a 16) (hk : k < 16) : Rk val k (a k) := by
  have e1 : cl val (a k) 16 = cl a (a k) 16 := by rw [cl_ctp, cl_ctp]; exact (h.1 _).symm
  have e2 : cn val (a k) 16 = cn a (a k) 16 := by rw [cn_ctp, cn_ctp]; exact (h.1 _).symm
  unfold Rk
  rw [e1, e2]
  constructor
  · refine cl_few (fun j h1 h2 hlt => ?_)
    by_cases q : j = k
    · rw [q] at hlt; exact Int32.lt_irrefl hlt
    · exact (Int32.not_lt.mpr (h.2 k j (by omega) h2)) hlt
  · have e3 := cl_cn (a := a) (v := a k) (n := k + 1) (fun j hj => by
      by_cases q : j = k
      · rw [q]; exact Int32.le_refl _
      · exact h.2 j k (by omega) hk)
    have e4 : cl a (a k) (k + 1) ≤ cl a (a k) 16 := cl_mono (by omega)
    have e5 : cn a (a k) (k + 1) ≤ cn a (a k) 16 := cn_mono (by omega)
    omega
end INS
end
section
/-! PathOram as made: the stashes full, the trees empty -/
theorem cn_id {a : Nat → Int32} {n b : Nat} (h : ∀ j, j < n → a j = nI j) (hb : b < 2 ^ 31) (hn : n < 2 ^ 31) : cn a (nI b) n = if b < n then 1 else 0 := by
  induction n with
  | zero => rfl
  | succ n ih =>
    rw [cn_s, ih (fun j hj => h j (by omega)) (by omega), h n (by omega)]
    by_cases q : n = b
    · rw [q, if_pos rfl, if_neg (by omega), if_pos (by omega)]
    · rw [if_neg (show ¬ nI n = nI b from fun z => q ((nI_eq (by omega) hb).mp z))]
      by_cases q2 : b < n
      · rw [if_pos q2, if_pos (by omega)]
      · rw [if_neg q2, if_neg (by omega)]
section INI
variable {f : Nat → Int32} {g : Nat → Nat → Int32} {lf wl : Nat → Nat}
theorem tX_init (h0 : f 0 = nI 16) (ho : ∀ s, s < 64 → g 0 s = -1) (hso : ∀ j, j < 16 → g 4 j = nI j) (hsc : ∀ j, j < 16 → g 5 j = 0) (hst : ∀ j, j < 16 → g 6 j = nI (lf j)) (hlf : ∀ j, j < 16 → lf j < 8) : tX f g 16 (fun _ => 0) lf := by
  refine ⟨h0, ⟨Nat.le_refl _, fun s hs => Or.inl (ho s hs), fun i hi => ⟨i, hi, hso i hi, hsc i hi, hst i hi⟩, fun b hb => ?_, ?_⟩, hlf⟩
  · rw [cn_id hso (by omega) (by decide), if_pos hb, cn_zero (fun j hj => by rw [ho j hj]; exact fun q => nI_m1 (b := b) (by omega) q.symm)]
  · rw [cn_all ho]
theorem tM_init (h0 : f 1 = nI 4) (ho : ∀ s, s < 16 → g 7 s = -1) (hso : ∀ j, j < 4 → g 10 j = nI j) (hsc : ∀ j, j < 4 → g 11 j = g 15 j) (hst : ∀ j, j < 4 → g 12 j = nI (wl j)) (hwl : ∀ j, j < 4 → wl j < 4) : tM f g 4 (g 15) wl := by
  refine ⟨h0, ⟨Nat.le_refl _, fun s hs => Or.inl (ho s hs), fun i hi => ⟨i, hi, hso i hi, hsc i hi, hst i hi⟩, fun b hb => ?_, ?_⟩, hwl⟩
  · rw [cn_id hso (by omega) (by decide), if_pos hb, cn_zero (fun j hj => by rw [ho j hj]; exact fun q => nI_m1 (b := b) (by omega) q.symm)]
  · rw [cn_all ho]
end INI
/-- the words with the leaves of the first b blocks -/
def lfP (sc : Nat → Int32) (lf : Nat → Nat) (b : Nat) : Prop := ∀ j, j < 16 → (sc (j / 4) >>> (nI (3 * (j % 4)) &&& 31)) &&& nI 7 = nI (if j < b then lf j else 0)
theorem lfP_0 {lf : Nat → Nat} : lfP (fun _ => 0) lf 0 := by
  intro j hj
  rw [if_neg (by omega)]
  have : ∀ j, j < 16 → ((0 : Int32) >>> (nI (3 * (j % 4)) &&& 31)) &&& nI 7 = nI 0 := by decide +kernel
  exact this j hj
theorem lfP_s {sc : Nat → Int32} {lf : Nat → Nat} {b nl : Nat} (h : lfP sc lf b) (hb : b < 16) (hn : nl < 8) : lfP (upd sc (b / 4) (sc (b / 4) ||| (nI nl <<< (nI (3 * (b % 4)) &&& 31)))) (va_up lf b nl) (b + 1) := by
  intro j hj
  show _ = nI (if j < b + 1 then (if j = b then nl else lf j) else 0)
  have hz := h b hb
  rw [if_neg (by omega)] at hz
  by_cases q : j / 4 = b / 4
  · rw [q, pk_us, wor_at _ (by omega) (by omega) hn hz]
    by_cases q2 : j % 4 = b % 4
    · rw [if_pos q2, if_pos (by omega), if_pos (by omega)]
    · rw [if_neg q2, ← q, h j hj]
      by_cases q3 : j < b
      · rw [if_pos q3, if_pos (by omega), if_neg (by omega)]
      · rw [if_neg q3, if_neg (by omega)]
  · rw [pk_un q, h j hj]
    by_cases q3 : j < b
    · rw [if_pos q3, if_pos (by omega), if_neg (by omega)]
    · rw [if_neg q3, if_neg (by omega)]
def rmI : Room := { frames := 3, cells := 16, slots := 368, locals := 90 }
def rmJ : Room := { frames := 1, cells := 3, slots := 64, locals := 12 }
end
section
set_option maxHeartbeats 4000000 in
set_option maxRecDepth 100000 in
theorem c1_bucketAt (l : Launch) (leaf lv : Nat) (h1 : leaf < 8) (h2 : lv < 4) : ow_MS l yX1_bucketAt cX1_bucketAt 2 .int (rmD 0) [.int (nI leaf), .int (nI lv)] (fun r => r = nI ((8 + leaf) / 2 ^ (3 - lv))) := by
  refine ow_ofS (by decide) (Nat.le_of_ble_eq_true rfl) ?_
  intro p e s m args below meth c Q ls E0 hl ret
  have hx := E0.1
  have hb := E0.2.1
  have hl : lv_has ls 2 [(0, .int (nI leaf)), (1, .int (nI lv))] := hl
  refine lv_bipush (v := nI 8) hx hb dX1_bucketAt_0 (by decide) ?_
  refine lv_iload_n hx hb dX1_bucketAt_2 rfl (lv_at hl 0 rfl) ?_
  refine lv_iadd hx hb dX1_bucketAt_3 ?_
  refine ow_top (v := nI (8 + leaf)) (nI_add _ _) ?_
  refine lv_iconst (v := nI 3) hx hb dX1_bucketAt_4 (by decide) ?_
  refine lv_iload_n hx hb dX1_bucketAt_5 rfl (lv_at hl 1 rfl) ?_
  refine lv_isub hx hb dX1_bucketAt_6 ?_
  refine ow_top (v := nI (3 - lv)) (pk_sub (by omega)) ?_
  refine lv_ishr hx hb dX1_bucketAt_7 ?_
  refine ow_top (v := nI ((8 + leaf) / 2 ^ (3 - lv))) (pk_shrN (by omega) _ _ (sh_ok _ (by omega))) ?_
  exact ret dX1_bucketAt_8 rfl rfl
set_option maxHeartbeats 4000000 in
set_option maxRecDepth 100000 in
theorem c1_mapBucketAt (l : Launch) (leaf lv : Nat) (h1 : leaf < 4) (h2 : lv < 3) : ow_MS l yX1_mapBucketAt cX1_mapBucketAt 2 .int (rmD 0) [.int (nI leaf), .int (nI lv)] (fun r => r = nI ((4 + leaf) / 2 ^ (2 - lv))) := by
  refine ow_ofS (by decide) (Nat.le_of_ble_eq_true rfl) ?_
  intro p e s m args below meth c Q ls E0 hl ret
  have hx := E0.1
  have hb := E0.2.1
  have hl : lv_has ls 2 [(0, .int (nI leaf)), (1, .int (nI lv))] := hl
  refine lv_iconst (v := nI 4) hx hb dX1_mapBucketAt_0 (by decide) ?_
  refine lv_iload_n hx hb dX1_mapBucketAt_1 rfl (lv_at hl 0 rfl) ?_
  refine lv_iadd hx hb dX1_mapBucketAt_2 ?_
  refine ow_top (v := nI (4 + leaf)) (nI_add _ _) ?_
  refine lv_iconst (v := nI 2) hx hb dX1_mapBucketAt_3 (by decide) ?_
  refine lv_iload_n hx hb dX1_mapBucketAt_4 rfl (lv_at hl 1 rfl) ?_
  refine lv_isub hx hb dX1_mapBucketAt_5 ?_
  refine ow_top (v := nI (2 - lv)) (pk_sub (by omega)) ?_
  refine lv_ishr hx hb dX1_mapBucketAt_6 ?_
  refine ow_top (v := nI ((4 + leaf) / 2 ^ (2 - lv))) (pk_shrN (by omega) _ _ (sh_ok _ (by omega))) ?_
  exact ret dX1_mapBucketAt_7 rfl rfl
set_option maxHeartbeats 4000000 in
set_option maxRecDepth 100000 in
theorem c1_isBlock (l : Launch) (b : Int32) : ow_MS l yX1_isBlock cX1_isBlock 1 .boolean (rmD 0) [.int b] (fun r => r = if inb b = true then 1 else 0) := by
  refine ow_ofS (by decide) (Nat.le_of_ble_eq_true rfl) ?_
  intro p e s m args below meth c Q ls E0 hl ret
  have hx := E0.1
  have hb := E0.2.1
  have hl : lv_has ls 1 [(0, .int b)] := hl
  refine lv_iload_n hx hb dX1_isBlock_0 rfl (lv_at hl 0 rfl) ?_
  refine lv_if_lt (tgt := 14) hx hb dX1_isBlock_1 (by decide) (fun c1 => ?_) (fun c1 => ?_)
  · refine lv_iconst (v := 0) hx hb dX1_isBlock_14 (by decide) ?_
    exact ret dX1_isBlock_15 rfl (by rw [inb_neg c1]; rfl)
  · refine lv_iload_n hx hb dX1_isBlock_4 rfl (lv_at hl 0 rfl) ?_
    refine lv_bipush (v := 16) hx hb dX1_isBlock_5 (by decide) ?_
    refine lv_icmp_ge (tgt := 14) hx hb dX1_isBlock_7 (by decide) (fun c7 => ?_) (fun c7 => ?_)
    · refine lv_iconst (v := 0) hx hb dX1_isBlock_14 (by decide) ?_
      exact ret dX1_isBlock_15 rfl (by rw [inb_big c7]; rfl)
    · refine lv_iconst (v := 1) hx hb dX1_isBlock_10 (by decide) ?_
      refine lv_goto (tgt := 15) hx hb dX1_isBlock_11 (by decide) ?_
      exact ret dX1_isBlock_15 rfl (by rw [(inb_of c1 c7).1]; rfl)
set_option maxHeartbeats 4000000 in
set_option maxRecDepth 100000 in
theorem c1_next (l : Launch) (D : va_G) (h : Nat) (ad : Nat → Nat) (dA : Nat → ClassId) (f : Nat → Int32) (g : Nat → Nat → Int32)  : ow_MI 0 16 5 xlen l yX1_next cX1_next 2 .int (rmD 0) D h ad dA [] f g (fun _ f1 g1 => (∃ x, f1 = va_up f 2 x) ∧ g1 = g) := by
  refine ow_ofI (by decide) (Nat.le_of_ble_eq_true rfl) ?_
  intro p e s m args below meth c A Q ls E w hl ret
  have E : ow_E 16 p m meth c cX1_next 2 (some .int) s args RX1 D A dA := E
  have hx := E.1.1
  have hb := E.1.2.1
  have hl : lv_has ls 2 [(0, .ref h)] := hl
  refine lv_aload_n hx hb dX1_next_0 rfl (lv_at hl 0 rfl) ?_
  refine ow_geti xC E w 2 18 rfl (by decide) q98 dX1_next_1 ?_
  refine lv_topi (fun y1 ey1 => ?_)
  refine lv_istore_n (lv' := [(1, .int y1), (0, .ref h)]) hx hb dX1_next_4 rfl hl (by decide) rfl (fun ls hl => ?_)
  refine lv_iload_n hx hb dX1_next_5 rfl (lv_at hl 0 rfl) ?_
  refine lv_iload_n hx hb dX1_next_6 rfl (lv_at hl 0 rfl) ?_
  refine lv_bipush (v := nI 13) hx hb dX1_next_7 (by decide) ?_
  refine lv_ishl hx hb dX1_next_9 ?_
  refine lv_ixor hx hb dX1_next_10 ?_
  refine lv_topi (fun y2 ey2 => ?_)
  refine lv_istore_n (lv' := [(1, .int y2), (0, .ref h)]) hx hb dX1_next_11 rfl hl (by decide) rfl (fun ls hl => ?_)
  refine lv_iload_n hx hb dX1_next_12 rfl (lv_at hl 0 rfl) ?_
  refine lv_iload_n hx hb dX1_next_13 rfl (lv_at hl 0 rfl) ?_
  refine lv_bipush (v := nI 17) hx hb dX1_next_14 (by decide) ?_
  refine lv_iushr (v := (Int32.toUInt32 y2 >>> (Int32.toUInt32 (nI 17) &&& Int32.toUInt32 31)).toInt32) hx hb dX1_next_16 rfl ?_
  refine lv_ixor hx hb dX1_next_17 ?_
  refine lv_topi (fun y3 ey3 => ?_)
  refine lv_istore_n (lv' := [(1, .int y3), (0, .ref h)]) hx hb dX1_next_18 rfl hl (by decide) rfl (fun ls hl => ?_)
  refine lv_iload_n hx hb dX1_next_19 rfl (lv_at hl 0 rfl) ?_
  refine lv_iload_n hx hb dX1_next_20 rfl (lv_at hl 0 rfl) ?_
  refine lv_iconst (v := nI 5) hx hb dX1_next_21 (by decide) ?_
  refine lv_ishl hx hb dX1_next_22 ?_
  refine lv_ixor hx hb dX1_next_23 ?_
  refine lv_topi (fun y4 ey4 => ?_)
  refine lv_istore_n (lv' := [(1, .int y4), (0, .ref h)]) hx hb dX1_next_24 rfl hl (by decide) rfl (fun ls hl => ?_)
  refine lv_aload_n hx hb dX1_next_25 rfl (lv_at hl 1 rfl) ?_
  refine lv_iload_n hx hb dX1_next_26 rfl (lv_at hl 0 rfl) ?_
  refine ow_puti xC E w 2 18 rfl (by decide) rfl rfl rfl q98 dX1_next_27 (fun f1 H locs ef1 w => ?_)
  refine lv_iload_n hx hb dX1_next_30 rfl (lv_at hl 0 rfl) ?_
  refine lv_iconst (v := nI 3) hx hb dX1_next_31 (by decide) ?_
  refine lv_iushr (v := (Int32.toUInt32 y4 >>> (Int32.toUInt32 (nI 3) &&& Int32.toUInt32 31)).toInt32) hx hb dX1_next_32 rfl ?_
  refine lv_ldc (v := 1048575) hx hb E.1.2.2.2.1 (E.1.2.2.2.2 _ q37) dX1_next_33 ?_
  refine lv_iand hx hb dX1_next_35 ?_
  exact ret dX1_next_36 rfl (⟨⟨_, ef1⟩, rfl⟩) w
set_option maxHeartbeats 4000000 in
set_option maxRecDepth 100000 in
theorem c1_stir (l : Launch) (D : va_G) (h : Nat) (ad : Nat → Nat) (dA : Nat → ClassId) (f : Nat → Int32) (g : Nat → Nat → Int32) (x : Int32) : ow_MV 0 16 5 xlen l yX1_stir cX1_stir 2 (rmD 0) D h ad dA [.int x] f g (fun f1 g1 => (∃ x, f1 = va_up f 2 x) ∧ g1 = g) := by
  refine ow_ofV (by decide) (Nat.le_of_ble_eq_true rfl) ?_
  intro p e s m args below meth c A Q ls E w hl ret
  have E : ow_E 16 p m meth c cX1_stir 2 (none) s args RX1 D A dA := E
  have hx := E.1.1
  have hb := E.1.2.1
  have hl : lv_has ls 2 [(0, .ref h), (1, .int x)] := hl
  refine lv_aload_n hx hb dX1_stir_0 rfl (lv_at hl 0 rfl) ?_
  refine lv_iload_n hx hb dX1_stir_1 rfl (lv_at hl 1 rfl) ?_
  refine lv_if_ne (tgt := 10) hx hb dX1_stir_2 (by decide) (fun c2 => ?_) (fun c2 => ?_)
  · refine lv_iload_n hx hb dX1_stir_10 rfl (lv_at hl 1 rfl) ?_
    refine ow_puti xC E w 2 18 rfl (by decide) rfl rfl rfl q98 dX1_stir_11 (fun f1 H locs ef1 w => ?_)
    exact ret dX1_stir_14 (⟨⟨_, ef1⟩, rfl⟩) w
  · refine lv_ldc (v := 88675123) hx hb E.1.2.2.2.1 (E.1.2.2.2.2 _ q32) dX1_stir_5 ?_
    refine lv_goto (tgt := 11) hx hb dX1_stir_7 (by decide) ?_
    refine ow_puti xC E w 2 18 rfl (by decide) rfl rfl rfl q98 dX1_stir_11 (fun f1 H locs ef1 w => ?_)
    exact ret dX1_stir_14 (⟨⟨_, ef1⟩, rfl⟩) w
set_option maxHeartbeats 4000000 in
set_option maxRecDepth 100000 in
theorem c1_touched (l : Launch) (D : va_G) (h : Nat) (ad : Nat → Nat) (dA : Nat → ClassId) (f : Nat → Int32) (g : Nat → Nat → Int32)  : ow_MI 0 16 5 xlen l yX1_touched cX1_touched 1 .int (rmD 0) D h ad dA [] f g (fun r f1 g1 => r = f 4 ∧ f1 = f ∧ g1 = g) := by
  refine ow_ofI (by decide) (Nat.le_of_ble_eq_true rfl) ?_
  intro p e s m args below meth c A Q ls E w hl ret
  have E : ow_E 16 p m meth c cX1_touched 1 (some .int) s args RX1 D A dA := E
  have hx := E.1.1
  have hb := E.1.2.1
  have hl : lv_has ls 1 [(0, .ref h)] := hl
  refine lv_aload_n hx hb dX1_touched_0 rfl (lv_at hl 0 rfl) ?_
  refine ow_geti xC E w 4 20 rfl (by decide) q100 dX1_touched_1 ?_
  exact ret dX1_touched_4 rfl (⟨rfl, rfl, rfl⟩) w
set_option maxHeartbeats 4000000 in
set_option maxRecDepth 100000 in
theorem c1_pad (l : Launch) (D : va_G) (h : Nat) (ad : Nat → Nat) (dA : Nat → ClassId) (f : Nat → Int32) (g : Nat → Nat → Int32) (sl : Nat) (h1 : sl < 64) : ow_MI 0 16 5 xlen l yX1_pad cX1_pad 3 .int (rmD 0) D h ad dA [.int (nI sl)] f g (fun r f1 g1 => r = pdf (f 3) (g 3 (sl / 4)) (nI sl) ∧ f1 = f ∧ g1 = g) := by
  refine ow_ofI (by decide) (Nat.le_of_ble_eq_true rfl) ?_
  intro p e s m args below meth c A Q ls E w hl ret
  have E : ow_E 16 p m meth c cX1_pad 3 (some .int) s args RX1 D A dA := E
  have hx := E.1.1
  have hb := E.1.2.1
  have hl : lv_has ls 3 [(0, .ref h), (1, .int (nI sl))] := hl
  refine lv_aload_n hx hb dX1_pad_0 rfl (lv_at hl 0 rfl) ?_
  refine ow_geti xC E w 3 19 rfl (by decide) q99 dX1_pad_1 ?_
  refine lv_iload_n hx hb dX1_pad_4 rfl (lv_at hl 1 rfl) ?_
  refine lv_ldc (v := 1640531527) hx hb E.1.2.2.2.1 (E.1.2.2.2.2 _ q49) dX1_pad_5 ?_
  refine lv_imul hx hb dX1_pad_7 ?_
  refine lv_iadd hx hb dX1_pad_8 ?_
  refine lv_aload_n hx hb dX1_pad_9 rfl (lv_at hl 0 rfl) ?_
  refine ow_geta xC E w 3 (by decide) q83 dX1_pad_10 ?_
  refine lv_iload_n hx hb dX1_pad_13 rfl (lv_at hl 1 rfl) ?_
  refine lv_iconst (v := nI 2) hx hb dX1_pad_14 (by decide) ?_
  refine lv_ishr hx hb dX1_pad_15 ?_
  refine ow_top (v := nI (sl / 4)) (pk_shrN (by omega) _ 2 (sh_ok 2 (by omega))) ?_
  refine ow_iald xC E w 3 (by decide) (sl / 4) rfl (show _ < _ by first | omega | (simp only [xlen, mlen]; omega)) dX1_pad_16 ?_
  refine lv_ldc (v := 374761393) hx hb E.1.2.2.2.1 (E.1.2.2.2.2 _ q50) dX1_pad_17 ?_
  refine lv_imul hx hb dX1_pad_19 ?_
  refine lv_iadd hx hb dX1_pad_20 ?_
  refine lv_topi (fun y1 ey1 => ?_)
  refine lv_istore_n (lv' := [(2, .int y1), (0, .ref h), (1, .int (nI sl))]) hx hb dX1_pad_21 rfl hl (by decide) rfl (fun ls hl => ?_)
  refine lv_iload_n hx hb dX1_pad_22 rfl (lv_at hl 0 rfl) ?_
  refine lv_iload_n hx hb dX1_pad_23 rfl (lv_at hl 0 rfl) ?_
  refine lv_bipush (v := nI 15) hx hb dX1_pad_24 (by decide) ?_
  refine lv_iushr (v := ush y1 (nI 15)) hx hb dX1_pad_26 rfl ?_
  refine lv_ixor hx hb dX1_pad_27 ?_
  refine lv_ldc (v := 668265263) hx hb E.1.2.2.2.1 (E.1.2.2.2.2 _ q51) dX1_pad_28 ?_
  refine lv_imul hx hb dX1_pad_30 ?_
  refine lv_topi (fun y2 ey2 => ?_)
  refine lv_istore_n (lv' := [(2, .int y2), (0, .ref h), (1, .int (nI sl))]) hx hb dX1_pad_31 rfl hl (by decide) rfl (fun ls hl => ?_)
  refine lv_iload_n hx hb dX1_pad_32 rfl (lv_at hl 0 rfl) ?_
  refine lv_iload_n hx hb dX1_pad_33 rfl (lv_at hl 0 rfl) ?_
  refine lv_bipush (v := nI 13) hx hb dX1_pad_34 (by decide) ?_
  refine lv_iushr (v := ush y2 (nI 13)) hx hb dX1_pad_36 rfl ?_
  refine lv_ixor hx hb dX1_pad_37 ?_
  refine lv_ldc (v := 1103515245) hx hb E.1.2.2.2.1 (E.1.2.2.2.2 _ q52) dX1_pad_38 ?_
  refine lv_imul hx hb dX1_pad_40 ?_
  refine lv_topi (fun y3 ey3 => ?_)
  refine lv_istore_n (lv' := [(2, .int y3), (0, .ref h), (1, .int (nI sl))]) hx hb dX1_pad_41 rfl hl (by decide) rfl (fun ls hl => ?_)
  refine lv_iload_n hx hb dX1_pad_42 rfl (lv_at hl 0 rfl) ?_
  refine lv_iload_n hx hb dX1_pad_43 rfl (lv_at hl 0 rfl) ?_
  refine lv_bipush (v := nI 16) hx hb dX1_pad_44 (by decide) ?_
  refine lv_iushr (v := ush y3 (nI 16)) hx hb dX1_pad_46 rfl ?_
  refine lv_ixor hx hb dX1_pad_47 ?_
  exact ret dX1_pad_48 rfl (⟨by rw [ey3, ey2, ey1]; rfl, rfl, rfl⟩) w
section KX0
variable {p : Program} {l : Launch} {e : Env} {R : Room} {s : State} {m : MethodId} {args : Array Value} {below : List Frame} {meth : Method} {c : Code} {H : Heap} {locs : List Loc} {cells slots : Nat} {Q : State → Prop}
variable {pc : Nat} {ls : Array Slot} {rest : List Value} {cc : ByteArray} {nL : Nat} {rt : Option FieldType} {D : va_G} {A : Nat → Prop} {h : Nat} {ad : Nat → Nat} {dA : Nat → ClassId} {f : Nat → Int32} {g : Nat → Nat → Int32}
theorem k1_bucketAt (leaf lv : Nat) (E : CallFix p m c cc nL s args lw_all RX1) (hls : ls.size = nL) (hW : (rest.map fun v => v.category).sum ≤ 8) (hdg : decode cc pc = .ok (.invokestatic 118, 3)) (hR : (rmD 0).frames + 1 ≤ R.frames ∧ 8 + (2 + 11) + (rmD 0).locals ≤ R.locals) (hcs : cells ≤ R.cells ∧ slots ≤ R.slots) (h1 : leaf < 8) (h2 : lv < 4) (kk : ∀ r : Int32, (fun r => r = nI ((8 + leaf) / 2 ^ (3 - lv))) r → W p l e R s m args below meth c H locs cells slots Q (F0 m (pc + 3) ls (.int r :: rest))) : W p l e R s m args below meth c H locs cells slots Q (F0 m pc ls (.int (nI lv) :: .int (nI leaf) :: rest)) :=
  ow_calls E (c1_bucketAt l leaf lv h1 h2) (va_cwS 2 E.2.2.2.2 (lw_S q42 q43 q18 q44) rfl rfl rfl (by decide +kernel) hR) rfl hls rfl hW hdg hcs kk
theorem k1_mapBucketAt (leaf lv : Nat) (E : CallFix p m c cc nL s args lw_all RX1) (hls : ls.size = nL) (hW : (rest.map fun v => v.category).sum ≤ 8) (hdg : decode cc pc = .ok (.invokestatic 132, 3)) (hR : (rmD 0).frames + 1 ≤ R.frames ∧ 8 + (2 + 11) + (rmD 0).locals ≤ R.locals) (hcs : cells ≤ R.cells ∧ slots ≤ R.slots) (h1 : leaf < 4) (h2 : lv < 3) (kk : ∀ r : Int32, (fun r => r = nI ((4 + leaf) / 2 ^ (2 - lv))) r → W p l e R s m args below meth c H locs cells slots Q (F0 m (pc + 3) ls (.int r :: rest))) : W p l e R s m args below meth c H locs cells slots Q (F0 m pc ls (.int (nI lv) :: .int (nI leaf) :: rest)) :=
  ow_calls E (c1_mapBucketAt l leaf lv h1 h2) (va_cwS 2 E.2.2.2.2 (lw_S q69 q70 q18 q71) rfl rfl rfl (by decide +kernel) hR) rfl hls rfl hW hdg hcs kk
theorem k1_isBlock {b : Int32} (E : CallFix p m c cc nL s args lw_all RX1) (hls : ls.size = nL) (hW : (rest.map fun v => v.category).sum ≤ 8) (hdg : decode cc pc = .ok (.invokestatic 95, 3)) (hR : (rmD 0).frames + 1 ≤ R.frames ∧ 8 + (1 + 11) + (rmD 0).locals ≤ R.locals) (hcs : cells ≤ R.cells ∧ slots ≤ R.slots)  (kk : ∀ r : Int32, (fun r => r = if inb b = true then 1 else 0) r → W p l e R s m args below meth c H locs cells slots Q (F0 m (pc + 3) ls (.int r :: rest))) : W p l e R s m args below meth c H locs cells slots Q (F0 m pc ls (.int b :: rest)) :=
  ow_calls E (c1_isBlock l b) (va_cwS 1 E.2.2.2.2 (lw_S q150 q151 q18 q152) rfl rfl rfl (by decide +kernel) hR) rfl hls rfl hW hdg hcs kk
theorem k1_next  (E : ow_E 16 p m meth c cc nL rt s args RX1 D A dA) (w : ow_W 0 16 5 xlen D A h ad dA f g s H locs) (hls : ls.size = nL) (hW : (rest.map fun v => v.category).sum ≤ 8) (hdg : decode cc pc = .ok (.invokevirtual 62, 3)) (hR : (rmD 0).frames + 1 ≤ R.frames ∧ 8 + (2 + 11) + (rmD 0).locals ≤ R.locals) (hcs : cells ≤ R.cells ∧ slots ≤ R.slots)  (kk : ∀ (r : Int32) (f1 : Nat → Int32) (g1 : Nat → Nat → Int32) (H1 : Heap) (locs1 : List Loc), (fun _ f1 g1 => (∃ x, f1 = va_up f 2 x) ∧ g1 = g) r f1 g1 → ow_W 0 16 5 xlen D A h ad dA f1 g1 s H1 locs1 → W p l e R s m args below meth c H1 locs1 cells slots Q (F0 m (pc + 3) ls (.int r :: rest))) : W p l e R s m args below meth c H locs cells slots Q (F0 m pc ls (.ref h :: rest)) :=
  ow_calli xC E w (c1_next l D h ad dA f g) (cwV 0 E.1.2.2.2.2 (lw_V q33 q35 qs0 q18 q36) rfl rfl rfl (by decide +kernel) hR) rfl hls rfl hW hdg hcs kk
theorem k1_stir {x : Int32} (E : ow_E 16 p m meth c cc nL rt s args RX1 D A dA) (w : ow_W 0 16 5 xlen D A h ad dA f g s H locs) (hls : ls.size = nL) (hW : (rest.map fun v => v.category).sum ≤ 8) (hdg : decode cc pc = .ok (.invokevirtual 58, 3)) (hR : (rmD 0).frames + 1 ≤ R.frames ∧ 8 + (2 + 11) + (rmD 0).locals ≤ R.locals) (hcs : cells ≤ R.cells ∧ slots ≤ R.slots)  (kk : ∀ (f1 : Nat → Int32) (g1 : Nat → Nat → Int32) (H1 : Heap) (locs1 : List Loc), (fun f1 g1 => (∃ x, f1 = va_up f 2 x) ∧ g1 = g) f1 g1 → ow_W 0 16 5 xlen D A h ad dA f1 g1 s H1 locs1 → W p l e R s m args below meth c H1 locs1 cells slots Q (F0 m (pc + 3) ls (rest))) : W p l e R s m args below meth c H locs cells slots Q (F0 m pc ls (.int x :: .ref h :: rest)) :=
  ow_callv xC E w (c1_stir l D h ad dA f g x) (cwV 1 E.1.2.2.2.2 (lw_V q28 q29 q30 q18 q31) rfl rfl rfl (by decide +kernel) hR) rfl hls rfl hW hdg hcs kk
theorem k1_pad {sl : Nat} (E : ow_E 16 p m meth c cc nL rt s args RX1 D A dA) (w : ow_W 0 16 5 xlen D A h ad dA f g s H locs) (hls : ls.size = nL) (hW : (rest.map fun v => v.category).sum ≤ 8) (hdg : decode cc pc = .ok (.invokevirtual 121, 3)) (hR : (rmD 0).frames + 1 ≤ R.frames ∧ 8 + (3 + 11) + (rmD 0).locals ≤ R.locals) (hcs : cells ≤ R.cells ∧ slots ≤ R.slots) (h1 : sl < 64) (kk : ∀ (r : Int32) (f1 : Nat → Int32) (g1 : Nat → Nat → Int32) (H1 : Heap) (locs1 : List Loc), (fun r f1 g1 => r = pdf (f 3) (g 3 (sl / 4)) (nI sl) ∧ f1 = f ∧ g1 = g) r f1 g1 → ow_W 0 16 5 xlen D A h ad dA f1 g1 s H1 locs1 → W p l e R s m args below meth c H1 locs1 cells slots Q (F0 m (pc + 3) ls (.int r :: rest))) : W p l e R s m args below meth c H locs cells slots Q (F0 m pc ls (.int (nI sl) :: .ref h :: rest)) :=
  ow_calli xC E w (c1_pad l D h ad dA f g sl h1) (cwV 1 E.1.2.2.2.2 (lw_V q45 q47 qs2 q18 q48) rfl rfl rfl (by decide +kernel) hR) rfl hls rfl hW hdg hcs kk
end KX0
end
section
set_option maxHeartbeats 4000000 in
set_option maxRecDepth 100000 in
theorem c1_fitting (l : Launch) (D : va_G) (h : Nat) (ad : Nat → Nat) (dA : Nat → ClassId) (f : Nat → Int32) (g : Nat → Nat → Int32) (leaf lv n : Nat) (val : Nat → Int32) (lf : Nat → Nat) (hX : tX f g n val lf) (h1 : leaf < 8) (h2 : lv < 4) : ow_MI 0 16 5 xlen l yX1_fitting cX1_fitting 4 .int (rmD 1) D h ad dA [.int (nI leaf), .int (nI lv)] f g (fun r f1 g1 => f1 = f ∧ g1 = g ∧ (r = -1 ∨ ∃ i, i < n ∧ r = nI i ∧ ∀ b, b < 16 → g 6 i = nI (lf b) → (8 + lf b) / 2 ^ (3 - lv) = (8 + leaf) / 2 ^ (3 - lv))) := by
  refine ow_ofI (by decide) (Nat.le_of_ble_eq_true rfl) ?_
  intro p e s m args below meth c A Q ls E w hl ret
  have E : ow_E 16 p m meth c cX1_fitting 4 (some .int) s args RX1 D A dA := E
  have hx := E.1.1
  have hb := E.1.2.1
  have hl : lv_has ls 4 [(0, .ref h), (1, .int (nI leaf)), (2, .int (nI lv))] := hl
  have hn : n ≤ 16 := hX.2.1.1
  have loop : ∀ (k i : Nat), i ≤ n → n < i + k → ∀ (H : Heap) (locs : List Loc) (ls : Array Slot), ow_W 0 16 5 xlen D A h ad dA f g s H locs → lv_has ls 4 [(0, .ref h), (1, .int (nI leaf)), (2, .int (nI lv)), (3, .int (nI i))] → W p l e (rmD 1) s m args below meth c H locs 0 0 Q (F0 m 2 ls []) := by
    intro k
    induction k with
    | zero => intro i hi hk; exact absurd hk (by omega)
    | succ k ih =>
      intro i hi hk H locs ls w hl
      refine lv_iload_n hx hb dX1_fitting_2 rfl (lv_at hl 3 rfl) ?_
      refine lv_aload_n hx hb dX1_fitting_3 rfl (lv_at hl 0 rfl) ?_
      refine ow_geti xC E w 0 16 rfl (by decide) q96 dX1_fitting_4 ?_
      refine ow_top (v := nI n) (hX.1) ?_
      refine ow_ge (i) (n) (by omega) (by omega) (tgt := 36) hx hb dX1_fitting_7 (by decide) (fun c7 => ?_) (fun c7 => ?_)
      · refine lv_iconst (v := (-1)) hx hb dX1_fitting_36 (by decide) ?_
        exact ret dX1_fitting_37 rfl (⟨rfl, rfl, Or.inl rfl⟩) w
      · obtain ⟨bb, hbb, eo, ec, et⟩ := hX.2.1.2.2.1 i c7
        refine lv_aload_n hx hb dX1_fitting_10 rfl (lv_at hl 0 rfl) ?_
        refine ow_geta xC E w 6 (by decide) q86 dX1_fitting_11 ?_
        refine lv_iload_n hx hb dX1_fitting_14 rfl (lv_at hl 3 rfl) ?_
        refine ow_iald xC E w 6 (by decide) (i) rfl (show _ < _ by first | omega | (simp only [xlen, mlen]; omega)) dX1_fitting_15 ?_
        refine ow_top (v := nI (lf bb)) et ?_
        refine lv_iload_n hx hb dX1_fitting_16 rfl (lv_at hl 2 rfl) ?_
        refine k1_bucketAt (lf bb) lv E.1 hl.1 (Nat.le_of_ble_eq_true rfl) dX1_fitting_17 (by decide) ⟨Nat.zero_le _, Nat.zero_le _⟩ (hX.2.2 bb hbb) h2 (fun r1 er1 => ?_)
        refine ow_top (v := nI ((8 + lf bb) / 2 ^ (3 - lv))) er1 ?_
        refine lv_iload_n hx hb dX1_fitting_20 rfl (lv_at hl 1 rfl) ?_
        refine lv_iload_n hx hb dX1_fitting_21 rfl (lv_at hl 2 rfl) ?_
        refine k1_bucketAt leaf lv E.1 hl.1 (Nat.le_of_ble_eq_true rfl) dX1_fitting_22 (by decide) ⟨Nat.zero_le _, Nat.zero_le _⟩ h1 h2 (fun r2 er2 => ?_)
        refine ow_top (v := nI ((8 + leaf) / 2 ^ (3 - lv))) er2 ?_
        have q1 := (bk_in (lf bb) (hX.2.2 bb hbb) lv h2).2
        have q2 := (bk_in leaf h1 lv h2).2
        refine ow_ne ((8 + lf bb) / 2 ^ (3 - lv)) ((8 + leaf) / 2 ^ (3 - lv)) (by omega) (by omega) (tgt := 30) hx hb dX1_fitting_25 (by decide) (fun c25 => ?_) (fun c25 => ?_)
        · refine lv_iinc (v := nI (i + 1)) (lv' := [(3, .int (nI (i + 1))), (0, .ref h), (1, .int (nI leaf)), (2, .int (nI lv))]) hx hb dX1_fitting_30 hl (k := 3) rfl (nI_1 _) (by decide) rfl (fun ls hl => ?_)
          refine lv_goto (tgt := 2) hx hb dX1_fitting_33 (by decide) ?_
          exact ih (i + 1) (by omega) (by omega) H locs ls w (lv_sub hl [1, 2, 3, 0] rfl)
        · refine lv_iload_n hx hb dX1_fitting_28 rfl (lv_at hl 3 rfl) ?_
          refine ret dX1_fitting_29 rfl ⟨rfl, rfl, Or.inr ⟨i, c7, rfl, fun b hb eb => ?_⟩⟩ w
          have := (nI_eq (by have := hX.2.2 b hb; omega) (by have := hX.2.2 bb hbb; omega)).mp (eb.symm.trans et)
          rw [this]
          exact c25
  refine lv_iconst (v := nI 0) hx hb dX1_fitting_0 (by decide) ?_
  refine lv_istore_n (lv' := [(3, .int (nI 0)), (0, .ref h), (1, .int (nI leaf)), (2, .int (nI lv))]) hx hb dX1_fitting_1 rfl hl (by decide) rfl (fun ls hl => ?_)
  exact loop (n + 1) 0 (by omega) (by omega) _ _ ls w (lv_sub hl [1, 2, 3, 0] rfl)
set_option maxHeartbeats 4000000 in
set_option maxRecDepth 100000 in
theorem c1_settle (l : Launch) (D : va_G) (h : Nat) (ad : Nat → Nat) (dA : Nat → ClassId) (f : Nat → Int32) (g : Nat → Nat → Int32) (i sl n : Nat) (h0 : f 0 = nI n) (h1 : i < n) (h2 : n ≤ 16) (h3 : sl < 64) : ow_MV 0 16 5 xlen l yX1_settle cX1_settle 3 (rmD 1) D h ad dA [.int (nI i), .int (nI sl)] f g (fun f1 g1 => f1 = va_up f 0 (nI (n - 1)) ∧ g1 = va_up (va_up (va_up (va_up (va_up (va_up g 0 (upd (g 0) sl (g 4 i))) 1 (upd (g 1) sl (g 5 i ^^^ pdf (f 3) (g 3 (sl / 4)) (nI sl)))) 2 (upd (g 2) sl (g 6 i))) 4 (upd (g 4) i (g 4 (n - 1)))) 5 (upd (g 5) i (g 5 (n - 1)))) 6 (upd (g 6) i (g 6 (n - 1)))) := by
  refine ow_ofV (by decide) (Nat.le_of_ble_eq_true rfl) ?_
  intro p e s m args below meth c A Q ls E w hl ret
  have E : ow_E 16 p m meth c cX1_settle 3 (none) s args RX1 D A dA := E
  have hx := E.1.1
  have hb := E.1.2.1
  have hl : lv_has ls 3 [(0, .ref h), (1, .int (nI i)), (2, .int (nI sl))] := hl
  refine lv_aload_n hx hb dX1_settle_0 rfl (lv_at hl 0 rfl) ?_
  refine ow_geta xC E w 0 (by decide) q80 dX1_settle_1 ?_
  refine lv_iload_n hx hb dX1_settle_4 rfl (lv_at hl 2 rfl) ?_
  refine lv_aload_n hx hb dX1_settle_5 rfl (lv_at hl 0 rfl) ?_
  refine ow_geta xC E w 4 (by decide) q84 dX1_settle_6 ?_
  refine lv_iload_n hx hb dX1_settle_9 rfl (lv_at hl 1 rfl) ?_
  refine ow_iald xC E w 4 (by decide) (i) rfl (show _ < _ by first | omega | (simp only [xlen, mlen]; omega)) dX1_settle_10 ?_
  refine ow_iast xC E w 0 (by decide) (sl) rfl (show _ < _ by first | omega | (simp only [xlen, mlen]; omega)) dX1_settle_11 (fun g1 H locs eg1 w => ?_)
  refine lv_aload_n hx hb dX1_settle_12 rfl (lv_at hl 0 rfl) ?_
  refine ow_geta xC E w 1 (by decide) q81 dX1_settle_13 ?_
  refine lv_iload_n hx hb dX1_settle_16 rfl (lv_at hl 2 rfl) ?_
  refine lv_aload_n hx hb dX1_settle_17 rfl (lv_at hl 0 rfl) ?_
  refine ow_geta xC E w 5 (by decide) q85 dX1_settle_18 ?_
  refine lv_iload_n hx hb dX1_settle_21 rfl (lv_at hl 1 rfl) ?_
  refine ow_iald xC E w 5 (by decide) (i) rfl (show _ < _ by first | omega | (simp only [xlen, mlen]; omega)) dX1_settle_22 ?_
  refine lv_aload_n hx hb dX1_settle_23 rfl (lv_at hl 0 rfl) ?_
  refine lv_iload_n hx hb dX1_settle_24 rfl (lv_at hl 2 rfl) ?_
  refine k1_pad E w hl.1 (Nat.le_of_ble_eq_true rfl) dX1_settle_25 (by decide) ⟨Nat.zero_le _, Nat.zero_le _⟩ h3 (fun r1 f2 g2 H locs hp w => ?_)
  obtain ⟨er1, ef2, eg2⟩ := hp
  subst f2 g2
  have h0 := h0
  refine lv_ixor hx hb dX1_settle_28 ?_
  refine ow_iast xC E w 1 (by decide) (sl) rfl (show _ < _ by first | omega | (simp only [xlen, mlen]; omega)) dX1_settle_29 (fun g3 H locs eg3 w => ?_)
  refine lv_aload_n hx hb dX1_settle_30 rfl (lv_at hl 0 rfl) ?_
  refine ow_geta xC E w 2 (by decide) q82 dX1_settle_31 ?_
  refine lv_iload_n hx hb dX1_settle_34 rfl (lv_at hl 2 rfl) ?_
  refine lv_aload_n hx hb dX1_settle_35 rfl (lv_at hl 0 rfl) ?_
  refine ow_geta xC E w 6 (by decide) q86 dX1_settle_36 ?_
  refine lv_iload_n hx hb dX1_settle_39 rfl (lv_at hl 1 rfl) ?_
  refine ow_iald xC E w 6 (by decide) (i) rfl (show _ < _ by first | omega | (simp only [xlen, mlen]; omega)) dX1_settle_40 ?_
  refine ow_iast xC E w 2 (by decide) (sl) rfl (show _ < _ by first | omega | (simp only [xlen, mlen]; omega)) dX1_settle_41 (fun g4 H locs eg4 w => ?_)
  refine lv_aload_n hx hb dX1_settle_42 rfl (lv_at hl 0 rfl) ?_
  refine lv_dup hx hb dX1_settle_43 rfl ?_
  refine ow_geti xC E w 0 16 rfl (by decide) q96 dX1_settle_44 ?_
  refine ow_top (v := nI n) h0 ?_
  refine lv_iconst (v := nI 1) hx hb dX1_settle_47 (by decide) ?_
  refine lv_isub hx hb dX1_settle_48 ?_
  refine ow_top (v := nI (n - 1)) (pk_sub (by omega)) ?_
  refine ow_puti xC E w 0 16 rfl (by decide) rfl rfl rfl q96 dX1_settle_49 (fun f5 H locs ef5 w => ?_)
  refine lv_aload_n hx hb dX1_settle_52 rfl (lv_at hl 0 rfl) ?_
  refine ow_geta xC E w 4 (by decide) q84 dX1_settle_53 ?_
  refine lv_iload_n hx hb dX1_settle_56 rfl (lv_at hl 1 rfl) ?_
  refine lv_aload_n hx hb dX1_settle_57 rfl (lv_at hl 0 rfl) ?_
  refine ow_geta xC E w 4 (by decide) q84 dX1_settle_58 ?_
  refine lv_aload_n hx hb dX1_settle_61 rfl (lv_at hl 0 rfl) ?_
  refine ow_geti xC E w 0 16 rfl (by decide) q96 dX1_settle_62 ?_
  refine ow_top (v := nI (n - 1)) (by rw [ef5]; rfl) ?_
  refine ow_iald xC E w 4 (by decide) (n - 1) rfl (show _ < _ by first | omega | (simp only [xlen, mlen]; omega)) dX1_settle_65 ?_
  refine ow_iast xC E w 4 (by decide) (i) rfl (show _ < _ by first | omega | (simp only [xlen, mlen]; omega)) dX1_settle_66 (fun g6 H locs eg6 w => ?_)
  refine lv_aload_n hx hb dX1_settle_67 rfl (lv_at hl 0 rfl) ?_
  refine ow_geta xC E w 5 (by decide) q85 dX1_settle_68 ?_
  refine lv_iload_n hx hb dX1_settle_71 rfl (lv_at hl 1 rfl) ?_
  refine lv_aload_n hx hb dX1_settle_72 rfl (lv_at hl 0 rfl) ?_
  refine ow_geta xC E w 5 (by decide) q85 dX1_settle_73 ?_
  refine lv_aload_n hx hb dX1_settle_76 rfl (lv_at hl 0 rfl) ?_
  refine ow_geti xC E w 0 16 rfl (by decide) q96 dX1_settle_77 ?_
  refine ow_top (v := nI (n - 1)) (by rw [ef5]; rfl) ?_
  refine ow_iald xC E w 5 (by decide) (n - 1) rfl (show _ < _ by first | omega | (simp only [xlen, mlen]; omega)) dX1_settle_80 ?_
  refine ow_iast xC E w 5 (by decide) (i) rfl (show _ < _ by first | omega | (simp only [xlen, mlen]; omega)) dX1_settle_81 (fun g7 H locs eg7 w => ?_)
  refine lv_aload_n hx hb dX1_settle_82 rfl (lv_at hl 0 rfl) ?_
  refine ow_geta xC E w 6 (by decide) q86 dX1_settle_83 ?_
  refine lv_iload_n hx hb dX1_settle_86 rfl (lv_at hl 1 rfl) ?_
  refine lv_aload_n hx hb dX1_settle_87 rfl (lv_at hl 0 rfl) ?_
  refine ow_geta xC E w 6 (by decide) q86 dX1_settle_88 ?_
  refine lv_aload_n hx hb dX1_settle_91 rfl (lv_at hl 0 rfl) ?_
  refine ow_geti xC E w 0 16 rfl (by decide) q96 dX1_settle_92 ?_
  refine ow_top (v := nI (n - 1)) (by rw [ef5]; rfl) ?_
  refine ow_iald xC E w 6 (by decide) (n - 1) rfl (show _ < _ by first | omega | (simp only [xlen, mlen]; omega)) dX1_settle_95 ?_
  refine ow_iast xC E w 6 (by decide) (i) rfl (show _ < _ by first | omega | (simp only [xlen, mlen]; omega)) dX1_settle_96 (fun g8 H locs eg8 w => ?_)
  refine ret dX1_settle_97 ⟨ef5, ?_⟩ w
  rw [eg8, eg7, eg6, eg4, eg3, er1, eg1]
  rfl
section KX1
variable {p : Program} {l : Launch} {e : Env} {R : Room} {s : State} {m : MethodId} {args : Array Value} {below : List Frame} {meth : Method} {c : Code} {H : Heap} {locs : List Loc} {cells slots : Nat} {Q : State → Prop}
variable {pc : Nat} {ls : Array Slot} {rest : List Value} {cc : ByteArray} {nL : Nat} {rt : Option FieldType} {D : va_G} {A : Nat → Prop} {h : Nat} {ad : Nat → Nat} {dA : Nat → ClassId} {f : Nat → Int32} {g : Nat → Nat → Int32}
theorem k1_fitting {leaf lv n : Nat} {val : Nat → Int32} {lf : Nat → Nat} (E : ow_E 16 p m meth c cc nL rt s args RX1 D A dA) (w : ow_W 0 16 5 xlen D A h ad dA f g s H locs) (hls : ls.size = nL) (hW : (rest.map fun v => v.category).sum ≤ 8) (hdg : decode cc pc = .ok (.invokevirtual 125, 3)) (hR : (rmD 1).frames + 1 ≤ R.frames ∧ 8 + (4 + 11) + (rmD 1).locals ≤ R.locals) (hcs : cells ≤ R.cells ∧ slots ≤ R.slots) (hX : tX f g n val lf) (h1 : leaf < 8) (h2 : lv < 4) (kk : ∀ (r : Int32) (f1 : Nat → Int32) (g1 : Nat → Nat → Int32) (H1 : Heap) (locs1 : List Loc), (fun r f1 g1 => f1 = f ∧ g1 = g ∧ (r = -1 ∨ ∃ i, i < n ∧ r = nI i ∧ ∀ b, b < 16 → g 6 i = nI (lf b) → (8 + lf b) / 2 ^ (3 - lv) = (8 + leaf) / 2 ^ (3 - lv))) r f1 g1 → ow_W 0 16 5 xlen D A h ad dA f1 g1 s H1 locs1 → W p l e R s m args below meth c H1 locs1 cells slots Q (F0 m (pc + 3) ls (.int r :: rest))) : W p l e R s m args below meth c H locs cells slots Q (F0 m pc ls (.int (nI lv) :: .int (nI leaf) :: .ref h :: rest)) :=
  ow_calli xC E w (c1_fitting l D h ad dA f g leaf lv n val lf hX h1 h2) (cwV 2 E.1.2.2.2.2 (lw_V q57 q59 qs4 q18 q60) rfl rfl rfl (by decide +kernel) hR) rfl hls rfl hW hdg hcs kk
theorem k1_settle {i sl n : Nat} (E : ow_E 16 p m meth c cc nL rt s args RX1 D A dA) (w : ow_W 0 16 5 xlen D A h ad dA f g s H locs) (hls : ls.size = nL) (hW : (rest.map fun v => v.category).sum ≤ 8) (hdg : decode cc pc = .ok (.invokevirtual 128, 3)) (hR : (rmD 1).frames + 1 ≤ R.frames ∧ 8 + (3 + 11) + (rmD 1).locals ≤ R.locals) (hcs : cells ≤ R.cells ∧ slots ≤ R.slots) (h0 : f 0 = nI n) (h1 : i < n) (h2 : n ≤ 16) (h3 : sl < 64) (kk : ∀ (f1 : Nat → Int32) (g1 : Nat → Nat → Int32) (H1 : Heap) (locs1 : List Loc), (fun f1 g1 => f1 = va_up f 0 (nI (n - 1)) ∧ g1 = va_up (va_up (va_up (va_up (va_up (va_up g 0 (upd (g 0) sl (g 4 i))) 1 (upd (g 1) sl (g 5 i ^^^ pdf (f 3) (g 3 (sl / 4)) (nI sl)))) 2 (upd (g 2) sl (g 6 i))) 4 (upd (g 4) i (g 4 (n - 1)))) 5 (upd (g 5) i (g 5 (n - 1)))) 6 (upd (g 6) i (g 6 (n - 1)))) f1 g1 → ow_W 0 16 5 xlen D A h ad dA f1 g1 s H1 locs1 → W p l e R s m args below meth c H1 locs1 cells slots Q (F0 m (pc + 3) ls (rest))) : W p l e R s m args below meth c H locs cells slots Q (F0 m pc ls (.int (nI sl) :: .int (nI i) :: .ref h :: rest)) :=
  ow_callv xC E w (c1_settle l D h ad dA f g i sl n h0 h1 h2 h3) (cwV 2 E.1.2.2.2.2 (lw_V q61 q63 qs5 q18 q64) rfl rfl rfl (by decide +kernel) hR) rfl hls rfl hW hdg hcs kk
end KX1
end
section
set_option maxHeartbeats 4000000 in
set_option maxRecDepth 100000 in
theorem c1_readPath (l : Launch) (D : va_G) (h : Nat) (ad : Nat → Nat) (dA : Nat → ClassId) (f : Nat → Int32) (g : Nat → Nat → Int32) (leaf n : Nat) (val : Nat → Int32) (lf : Nat → Nat) (hX : tX f g n val lf) (h1 : leaf < 8) : ow_MV 0 16 5 xlen l yX1_readPath cX1_readPath 5 (rmD 1) D h ad dA [.int (nI leaf)] f g (fun f1 g1 => ∃ n1, tX f1 g1 n1 val lf ∧ (∀ s, s < 64 → onp4 leaf s → g1 0 s = -1) ∧ (∀ k, k ≠ 0 → k ≠ 4 → k ≠ 5 → k ≠ 6 → g1 k = g k) ∧ f1 1 = f 1 ∧ f1 2 = f 2 ∧ f1 3 = f 3 ∧ f1 4 = f 4 + nI 4) := by
  refine ow_ofV (by decide) (Nat.le_of_ble_eq_true rfl) ?_
  intro p e s m args below meth c A Q ls E w hl ret
  have E : ow_E 16 p m meth c cX1_readPath 5 (none) s args RX1 D A dA := E
  have hx := E.1.1
  have hb := E.1.2.1
  have hl : lv_has ls 5 [(0, .ref h), (1, .int (nI leaf))] := hl
  have loop : ∀ (k lv : Nat), lv ≤ 4 → 4 < lv + k → ∀ (f2 : Nat → Int32) (g2 : Nat → Nat → Int32) (n2 : Nat), tX f2 g2 n2 val lf → (∀ s, s < 64 → ∀ l, l < lv → (8 + leaf) / 2 ^ (3 - l) = s / 4 → g2 0 s = -1) → (∀ k, k ≠ 0 → k ≠ 4 → k ≠ 5 → k ≠ 6 → g2 k = g k) → (f2 1 = f 1 ∧ f2 2 = f 2 ∧ f2 3 = f 3 ∧ f2 4 = f 4 + nI lv) → ∀ (H : Heap) (locs : List Loc) (ls : Array Slot), ow_W 0 16 5 xlen D A h ad dA f2 g2 s H locs → lv_has ls 5 [(0, .ref h), (1, .int (nI leaf)), (2, .int (nI lv))] → W p l e (rmD 1) s m args below meth c H locs 0 0 Q (F0 m 2 ls []) := by
    intro k
    induction k with
    | zero => intro lv hi hk; exact absurd hk (by omega)
    | succ k ih =>
      intro lv hlv hk f2 g2 n2 hX2 hE2 hF2 hf2 H locs ls w hl
      refine lv_iload_n hx hb dX1_readPath_2 rfl (lv_at hl 2 rfl) ?_
      refine lv_iconst (v := nI 4) hx hb dX1_readPath_3 (by decide) ?_
      refine ow_ge (lv) (4) (by omega) (by omega) (tgt := 143) hx hb dX1_readPath_4 (by decide) (fun c4 => ?_) (fun c4 => ?_)
      · have e4 : lv = 4 := by omega
        subst e4
        exact ret dX1_readPath_143 (⟨n2, hX2, fun s hs ⟨l, hl4, el⟩ => hE2 s hs l hl4 el, hF2, hf2⟩) w
      · refine lv_iload_n hx hb dX1_readPath_7 rfl (lv_at hl 1 rfl) ?_
        refine lv_iload_n hx hb dX1_readPath_8 rfl (lv_at hl 2 rfl) ?_
        refine k1_bucketAt leaf lv E.1 hl.1 (Nat.le_of_ble_eq_true rfl) dX1_readPath_9 (by decide) ⟨Nat.zero_le _, Nat.zero_le _⟩ h1 (by omega) (fun r1 er1 => ?_)
        obtain ⟨bk, ebk⟩ : ∃ bk, bk = (8 + leaf) / 2 ^ (3 - lv) := ⟨_, rfl⟩
        have hbk := bk_in leaf h1 lv (by omega)
        rw [← ebk] at hbk er1
        refine ow_top (v := nI bk) er1 ?_
        refine lv_istore_n (lv' := [(3, .int (nI bk)), (0, .ref h), (1, .int (nI leaf)), (2, .int (nI lv))]) hx hb dX1_readPath_12 rfl hl (by decide) rfl (fun ls hl => ?_)
        refine lv_aload_n hx hb dX1_readPath_13 rfl (lv_at hl 1 rfl) ?_
        refine lv_dup hx hb dX1_readPath_14 rfl ?_
        refine ow_geti xC E w 4 20 rfl (by decide) q100 dX1_readPath_15 ?_
        refine lv_iconst (v := nI 1) hx hb dX1_readPath_18 (by decide) ?_
        refine lv_iadd hx hb dX1_readPath_19 ?_
        refine ow_puti xC E w 4 20 rfl (by decide) rfl rfl rfl q100 dX1_readPath_20 (fun f3 H locs ef3 w => ?_)
        have hX3 : tX f3 g2 n2 val lf := hX2.cg (by rw [ef3]; rfl) (by rw [ef3]; rfl) (fun _ _ => rfl)
        have hf3 : f3 1 = f 1 ∧ f3 2 = f 2 ∧ f3 3 = f 3 ∧ f3 4 = f 4 + nI (lv + 1) := by
          rw [ef3]
          refine ⟨hf2.1, hf2.2.1, hf2.2.2.1, ?_⟩
          show f2 4 + nI 1 = _
          rw [hf2.2.2.2, Int32.add_assoc, nI_add]
        have inner : ∀ (k sl : Nat), 4 * bk ≤ sl → sl ≤ 4 * bk + 4 → 4 * bk + 4 < sl + k → ∀ (f4 : Nat → Int32) (g4 : Nat → Nat → Int32) (n4 : Nat), tX f4 g4 n4 val lf → (∀ s, s < 64 → ∀ l, l < lv → (8 + leaf) / 2 ^ (3 - l) = s / 4 → g4 0 s = -1) → (∀ s, 4 * bk ≤ s → s < sl → g4 0 s = -1) → (∀ k, k ≠ 0 → k ≠ 4 → k ≠ 5 → k ≠ 6 → g4 k = g k) → (f4 1 = f 1 ∧ f4 2 = f 2 ∧ f4 3 = f 3 ∧ f4 4 = f 4 + nI (lv + 1)) → ∀ (H : Heap) (locs : List Loc) (ls : Array Slot), ow_W 0 16 5 xlen D A h ad dA f4 g4 s H locs → lv_has ls 5 [(0, .ref h), (1, .int (nI leaf)), (2, .int (nI lv)), (3, .int (nI bk)), (4, .int (nI sl))] → W p l e (rmD 1) s m args below meth c H locs 0 0 Q (F0 m 28 ls []) := by
          intro k
          induction k with
          | zero => intro sl _ hi hk; exact absurd hk (by omega)
          | succ k ih2 =>
            intro sl hs0 hs1 hk2 f4 g4 n4 hX4 hE4 hE5 hF4 hf4 H locs ls w hl
            refine lv_iload hx hb dX1_readPath_28 (lv_at hl 4 rfl) ?_
            refine lv_iconst (v := nI 4) hx hb dX1_readPath_30 (by decide) ?_
            refine lv_iload_n hx hb dX1_readPath_31 rfl (lv_at hl 3 rfl) ?_
            refine lv_imul hx hb dX1_readPath_32 ?_
            refine ow_top (v := nI (4 * bk)) (pk_mul _ _) ?_
            refine lv_iconst (v := nI 4) hx hb dX1_readPath_33 (by decide) ?_
            refine lv_iadd hx hb dX1_readPath_34 ?_
            refine ow_top (v := nI (4 * bk + 4)) (nI_add _ _) ?_
            refine ow_ge (sl) (4 * bk + 4) (by omega) (by omega) (tgt := 137) hx hb dX1_readPath_35 (by decide) (fun c35 => ?_) (fun c35 => ?_)
            · refine lv_iinc (v := nI (lv + 1)) (lv' := [(2, .int (nI (lv + 1))), (0, .ref h), (1, .int (nI leaf)), (3, .int (nI bk)), (4, .int (nI sl))]) hx hb dX1_readPath_137 hl (k := 2) rfl (nI_1 _) (by decide) rfl (fun ls hl => ?_)
              refine lv_goto (tgt := 2) hx hb dX1_readPath_140 (by decide) ?_
              refine ih (lv + 1) (by omega) (by omega) f4 g4 n4 hX4 (fun s hs l hl2 el => ?_) hF4 hf4 H locs ls w (lv_sub hl [1, 2, 0] rfl)
              by_cases q : l = lv
              · rw [q, ← ebk] at el
                exact hE5 s (by omega) (by omega)
              · exact hE4 s hs l (by omega) el
            · refine lv_aload_n hx hb dX1_readPath_38 rfl (lv_at hl 0 rfl) ?_
              refine ow_geta xC E w 0 (by decide) q80 dX1_readPath_39 ?_
              refine lv_iload hx hb dX1_readPath_42 (lv_at hl 4 rfl) ?_
              refine ow_iald xC E w 0 (by decide) (sl) rfl (show _ < _ by first | omega | (simp only [xlen, mlen]; omega)) dX1_readPath_44 ?_
              refine lv_iconst (v := (-1)) hx hb dX1_readPath_45 (by decide) ?_
              refine lv_icmp_eq (tgt := 131) hx hb dX1_readPath_46 (by decide) (fun c46 => ?_) (fun c46 => ?_)
              · refine lv_iinc (v := nI (sl + 1)) (lv' := [(4, .int (nI (sl + 1))), (0, .ref h), (1, .int (nI leaf)), (2, .int (nI lv)), (3, .int (nI bk))]) hx hb dX1_readPath_131 hl (k := 4) rfl (nI_1 _) (by decide) rfl (fun ls hl => ?_)
                refine lv_goto (tgt := 28) hx hb dX1_readPath_134 (by decide) ?_
                refine ih2 (sl + 1) (by omega) (by omega) (by omega) f4 g4 n4 hX4 hE4 (fun s q1 q2 => ?_) hF4 hf4 H locs ls w (lv_sub hl [1, 2, 3, 4, 0] rfl)
                by_cases q : s = sl
                · rw [q]; exact c46
                · exact hE5 s q1 (by omega)
              · obtain ⟨hn4, hX5⟩ := hX4.take (sl := sl) (by omega) c46
                refine lv_aload_n hx hb dX1_readPath_49 rfl (lv_at hl 0 rfl) ?_
                refine ow_geti xC E w 0 16 rfl (by decide) q96 dX1_readPath_50 ?_
                refine ow_top (v := nI n4) (hX4.1) ?_
                refine lv_bipush (v := nI 16) hx hb dX1_readPath_53 (by decide) ?_
                refine ow_ge (n4) (16) (by omega) (by omega) (tgt := 131) hx hb dX1_readPath_55 (by decide) (fun c55 => ?_) (fun c55 => ?_)
                · exact absurd c55 (by omega)
                · refine lv_aload_n hx hb dX1_readPath_58 rfl (lv_at hl 0 rfl) ?_
                  refine ow_geta xC E w 4 (by decide) q84 dX1_readPath_59 ?_
                  refine lv_aload_n hx hb dX1_readPath_62 rfl (lv_at hl 0 rfl) ?_
                  refine ow_geti xC E w 0 16 rfl (by decide) q96 dX1_readPath_63 ?_
                  refine ow_top (v := nI n4) (hX4.1) ?_
                  refine lv_aload_n hx hb dX1_readPath_66 rfl (lv_at hl 0 rfl) ?_
                  refine ow_geta xC E w 0 (by decide) q80 dX1_readPath_67 ?_
                  refine lv_iload hx hb dX1_readPath_70 (lv_at hl 4 rfl) ?_
                  refine ow_iald xC E w 0 (by decide) (sl) rfl (show _ < _ by first | omega | (simp only [xlen, mlen]; omega)) dX1_readPath_72 ?_
                  refine ow_iast xC E w 4 (by decide) (n4) rfl (show _ < _ by first | omega | (simp only [xlen, mlen]; omega)) dX1_readPath_73 (fun g5 H locs eg5 w => ?_)
                  refine lv_aload_n hx hb dX1_readPath_74 rfl (lv_at hl 0 rfl) ?_
                  refine ow_geta xC E w 5 (by decide) q85 dX1_readPath_75 ?_
                  refine lv_aload_n hx hb dX1_readPath_78 rfl (lv_at hl 0 rfl) ?_
                  refine ow_geti xC E w 0 16 rfl (by decide) q96 dX1_readPath_79 ?_
                  refine ow_top (v := nI n4) (hX4.1) ?_
                  refine lv_aload_n hx hb dX1_readPath_82 rfl (lv_at hl 0 rfl) ?_
                  refine ow_geta xC E w 1 (by decide) q81 dX1_readPath_83 ?_
                  refine lv_iload hx hb dX1_readPath_86 (lv_at hl 4 rfl) ?_
                  refine ow_iald xC E w 1 (by decide) (sl) rfl (show _ < _ by first | omega | (simp only [xlen, mlen]; omega)) dX1_readPath_88 ?_
                  refine lv_aload_n hx hb dX1_readPath_89 rfl (lv_at hl 0 rfl) ?_
                  refine lv_iload hx hb dX1_readPath_90 (lv_at hl 4 rfl) ?_
                  refine k1_pad E w hl.1 (Nat.le_of_ble_eq_true rfl) dX1_readPath_92 (by decide) ⟨Nat.zero_le _, Nat.zero_le _⟩ (by omega) (fun r1 f9 g9 H locs hp w => ?_)
                  obtain ⟨er1, ef9, eg9⟩ := hp
                  subst f9 g9
                  refine lv_ixor hx hb dX1_readPath_95 ?_
                  refine ow_iast xC E w 5 (by decide) (n4) rfl (show _ < _ by first | omega | (simp only [xlen, mlen]; omega)) dX1_readPath_96 (fun g6 H locs eg6 w => ?_)
                  refine lv_aload_n hx hb dX1_readPath_97 rfl (lv_at hl 0 rfl) ?_
                  refine ow_geta xC E w 6 (by decide) q86 dX1_readPath_98 ?_
                  refine lv_aload_n hx hb dX1_readPath_101 rfl (lv_at hl 0 rfl) ?_
                  refine ow_geti xC E w 0 16 rfl (by decide) q96 dX1_readPath_102 ?_
                  refine ow_top (v := nI n4) (hX4.1) ?_
                  refine lv_aload_n hx hb dX1_readPath_105 rfl (lv_at hl 0 rfl) ?_
                  refine ow_geta xC E w 2 (by decide) q82 dX1_readPath_106 ?_
                  refine lv_iload hx hb dX1_readPath_109 (lv_at hl 4 rfl) ?_
                  refine ow_iald xC E w 2 (by decide) (sl) rfl (show _ < _ by first | omega | (simp only [xlen, mlen]; omega)) dX1_readPath_111 ?_
                  refine ow_iast xC E w 6 (by decide) (n4) rfl (show _ < _ by first | omega | (simp only [xlen, mlen]; omega)) dX1_readPath_112 (fun g7 H locs eg7 w => ?_)
                  refine lv_aload_n hx hb dX1_readPath_113 rfl (lv_at hl 0 rfl) ?_
                  refine ow_geta xC E w 0 (by decide) q80 dX1_readPath_114 ?_
                  refine lv_iload hx hb dX1_readPath_117 (lv_at hl 4 rfl) ?_
                  refine lv_iconst (v := (-1)) hx hb dX1_readPath_119 (by decide) ?_
                  refine ow_iast xC E w 0 (by decide) (sl) rfl (show _ < _ by first | omega | (simp only [xlen, mlen]; omega)) dX1_readPath_120 (fun g8 H locs eg8 w => ?_)
                  refine lv_aload_n hx hb dX1_readPath_121 rfl (lv_at hl 0 rfl) ?_
                  refine lv_dup hx hb dX1_readPath_122 rfl ?_
                  refine ow_geti xC E w 0 16 rfl (by decide) q96 dX1_readPath_123 ?_
                  refine ow_top (v := nI n4) (hX4.1) ?_
                  refine lv_iconst (v := nI 1) hx hb dX1_readPath_126 (by decide) ?_
                  refine lv_iadd hx hb dX1_readPath_127 ?_
                  refine ow_top (v := nI (n4 + 1)) (nI_add _ _) ?_
                  refine ow_puti xC E w 0 16 rfl (by decide) rfl rfl rfl q96 dX1_readPath_128 (fun f5 H locs ef5 w => ?_)
                  refine lv_iinc (v := nI (sl + 1)) (lv' := [(4, .int (nI (sl + 1))), (0, .ref h), (1, .int (nI leaf)), (2, .int (nI lv)), (3, .int (nI bk))]) hx hb dX1_readPath_131 hl (k := 4) rfl (nI_1 _) (by decide) rfl (fun ls hl => ?_)
                  refine lv_goto (tgt := 28) hx hb dX1_readPath_134 (by decide) ?_
                  have eg : g8 = va_up (va_up (va_up (va_up g4 4 (upd (g4 4) n4 (g4 0 sl))) 5 (upd (g4 5) n4 (g4 1 sl ^^^ pdf (f4 3) (g4 3 (sl / 4)) (nI sl)))) 6 (upd (g4 6) n4 (g4 2 sl))) 0 (upd (g4 0) sl (-1)) := by
                    rw [eg8, eg7, eg6, er1, eg5]; rfl
                  rw [← ef5, ← eg] at hX5
                  refine ih2 (sl + 1) (by omega) (by omega) (by omega) f5 g8 (n4 + 1) hX5 (fun s hs l hl2 el => ?_) (fun s q1 q2 => ?_) (fun k k0 k4 k5 k6 => ?_) ?_ H locs ls w (lv_sub hl [1, 2, 3, 4, 0] rfl)
                  · rw [eg]
                    show upd (g4 0) sl (-1) s = -1
                    by_cases q : s = sl
                    · rw [q]; exact pk_us
                    · rw [pk_un q]; exact hE4 s hs l hl2 el
                  · rw [eg]
                    show upd (g4 0) sl (-1) s = -1
                    by_cases q : s = sl
                    · rw [q]; exact pk_us
                    · rw [pk_un q]; exact hE5 s q1 (by omega)
                  · rw [eg]
                    simp only [va_up, if_neg k0, if_neg k4, if_neg k5, if_neg k6]
                    exact hF4 k k0 k4 k5 k6
                  · rw [ef5]
                    exact hf4
        refine lv_iconst (v := nI 4) hx hb dX1_readPath_23 (by decide) ?_
        refine lv_iload_n hx hb dX1_readPath_24 rfl (lv_at hl 0 rfl) ?_
        refine lv_imul hx hb dX1_readPath_25 ?_
        refine ow_top (v := nI (4 * bk)) (pk_mul _ _) ?_
        refine lv_istore (lv' := [(4, .int (nI (4 * bk))), (3, .int (nI bk)), (0, .ref h), (1, .int (nI leaf)), (2, .int (nI lv))]) hx hb dX1_readPath_26 hl (by decide) rfl (fun ls hl => ?_)
        exact inner 5 (4 * bk) (by omega) (by omega) (by omega) f3 g2 n2 hX3 hE2 (fun s q1 q2 => absurd q2 (by omega)) hF2 hf3 _ _ ls w (lv_sub hl [2, 3, 4, 1, 0] rfl)
  refine lv_iconst (v := nI 0) hx hb dX1_readPath_0 (by decide) ?_
  refine lv_istore_n (lv' := [(2, .int (nI 0)), (0, .ref h), (1, .int (nI leaf))]) hx hb dX1_readPath_1 rfl hl (by decide) rfl (fun ls hl => ?_)
  exact loop 5 0 (by omega) (by omega) f g n hX (fun s hs l hl2 el => absurd hl2 (by omega)) (fun _ _ _ _ _ => rfl) ⟨rfl, rfl, rfl, by rw [nI_0, Int32.add_zero]⟩ _ _ ls w (lv_sub hl [1, 2, 0] rfl)
set_option maxHeartbeats 4000000 in
set_option maxRecDepth 100000 in
theorem c1_writePath (l : Launch) (D : va_G) (h : Nat) (ad : Nat → Nat) (dA : Nat → ClassId) (f : Nat → Int32) (g : Nat → Nat → Int32) (leaf n : Nat) (val : Nat → Int32) (lf : Nat → Nat) (hX : tX f g n val lf) (h1 : leaf < 8) (hE : ∀ s, s < 64 → onp4 leaf s → g 0 s = -1) : ow_MV 0 16 5 xlen l yX1_writePath cX1_writePath 6 (rmD 2) D h ad dA [.int (nI leaf)] f g (fun f1 g1 => ∃ n1, tX f1 g1 n1 val lf ∧ (∀ k, 7 ≤ k → g1 k = g k) ∧ f1 1 = f 1 ∧ f1 3 = f 3 ∧ f1 4 = f 4) := by
  refine ow_ofV (by decide) (Nat.le_of_ble_eq_true rfl) ?_
  intro p e s m args below meth c A Q ls E w hl ret
  have E : ow_E 16 p m meth c cX1_writePath 6 (none) s args RX1 D A dA := E
  have hx := E.1.1
  have hb := E.1.2.1
  have hl : lv_has ls 6 [(0, .ref h), (1, .int (nI leaf))] := hl
  have loop : ∀ (j : Nat), j ≤ 4 → ∀ (f2 : Nat → Int32) (g2 : Nat → Nat → Int32) (n2 : Nat), tX f2 g2 n2 val lf → (∀ s, s < 64 → ∀ l, l < j → (8 + leaf) / 2 ^ (3 - l) = s / 4 → g2 0 s = -1) → (∀ k, 7 ≤ k → g2 k = g k) → (f2 1 = f 1 ∧ f2 3 = f 3 ∧ f2 4 = f 4) → ∀ (H : Heap) (locs : List Loc) (ls : Array Slot), ow_W 0 16 5 xlen D A h ad dA f2 g2 s H locs → lv_has ls 6 [(0, .ref h), (1, .int (nI leaf)), (2, .int (dl j))] → W p l e (rmD 2) s m args below meth c H locs 0 0 Q (F0 m 2 ls []) := by
    intro j
    induction j with
    | zero =>
      intro _ f2 g2 n2 hX2 hE2 hF2 hf2 H locs ls w hl
      have hl : lv_has ls 6 [(0, .ref h), (1, .int (nI leaf)), (2, .int (-1))] := hl
      refine lv_iload_n hx hb dX1_writePath_2 rfl (lv_at hl 2 rfl) ?_
      refine lv_if_lt (tgt := 85) hx hb dX1_writePath_3 (by decide) (fun c3 => ?_) (fun c3 => ?_)
      · exact ret dX1_writePath_85 (⟨n2, hX2, hF2, hf2⟩) w
      · exact absurd (by decide) c3
    | succ lv ih =>
      intro hlv f2 g2 n2 hX2 hE2 hF2 hf2 H locs ls w hl
      have hl : lv_has ls 6 [(0, .ref h), (1, .int (nI leaf)), (2, .int (nI lv))] := hl
      refine lv_iload_n hx hb dX1_writePath_2 rfl (lv_at hl 2 rfl) ?_
      refine lv_if_lt (tgt := 85) hx hb dX1_writePath_3 (by decide) (fun c3 => ?_) (fun c3 => ?_)
      · exact absurd c3 (nI_pos (by omega))
      · refine lv_iload_n hx hb dX1_writePath_6 rfl (lv_at hl 1 rfl) ?_
        refine lv_iload_n hx hb dX1_writePath_7 rfl (lv_at hl 2 rfl) ?_
        refine k1_bucketAt leaf lv E.1 hl.1 (Nat.le_of_ble_eq_true rfl) dX1_writePath_8 (by decide) ⟨Nat.zero_le _, Nat.zero_le _⟩ h1 (by omega) (fun r1 er1 => ?_)
        obtain ⟨bk, ebk⟩ : ∃ bk, bk = (8 + leaf) / 2 ^ (3 - lv) := ⟨_, rfl⟩
        have hbk := bk_in leaf h1 lv (by omega)
        rw [← ebk] at hbk er1
        refine ow_top (v := nI bk) er1 ?_
        refine lv_istore_n (lv' := [(3, .int (nI bk)), (0, .ref h), (1, .int (nI leaf)), (2, .int (nI lv))]) hx hb dX1_writePath_11 rfl hl (by decide) rfl (fun ls hl => ?_)
        refine lv_aload_n hx hb dX1_writePath_12 rfl (lv_at hl 1 rfl) ?_
        refine ow_geta xC E w 3 (by decide) q83 dX1_writePath_13 ?_
        refine lv_iload_n hx hb dX1_writePath_16 rfl (lv_at hl 0 rfl) ?_
        refine lv_dup2_11 hx hb dX1_writePath_17 rfl rfl ?_
        refine ow_iald xC E w 3 (by decide) (bk) rfl (show _ < _ by first | omega | (simp only [xlen, mlen]; omega)) dX1_writePath_18 ?_
        refine lv_iconst (v := nI 1) hx hb dX1_writePath_19 (by decide) ?_
        refine lv_iadd hx hb dX1_writePath_20 ?_
        refine ow_iast xC E w 3 (by decide) (bk) rfl (show _ < _ by first | omega | (simp only [xlen, mlen]; omega)) dX1_writePath_21 (fun g3 H locs eg3 w => ?_)
        have hX3 : tX f2 g3 n2 val lf := by
          rw [eg3]
          exact hX2.vers (fun s hs es => hE2 s hs lv (by omega) (by rw [← ebk]; exact es.symm))
        have hE3 : ∀ s, s < 64 → ∀ l, l < lv → (8 + leaf) / 2 ^ (3 - l) = s / 4 → g3 0 s = -1 := by
          intro s hs l hl2 el
          rw [eg3]
          exact hE2 s hs l (by omega) el
        have hE3' : ∀ s, 4 * bk ≤ s → s < 4 * bk + 4 → g3 0 s = -1 := by
          intro s q1 q2
          rw [eg3]
          exact hE2 s (by omega) lv (by omega) (by rw [← ebk]; omega)
        have hF3 : ∀ k, 7 ≤ k → g3 k = g k := by
          intro k hk
          rw [eg3]
          simp only [va_up, if_neg (show ¬ k = 3 by omega)]
          exact hF2 k hk
        have inner : ∀ (k sl : Nat), 4 * bk ≤ sl → sl ≤ 4 * bk + 4 → 4 * bk + 4 < sl + k → ∀ (f4 : Nat → Int32) (g4 : Nat → Nat → Int32) (n4 : Nat), tX f4 g4 n4 val lf → (∀ s, s < 64 → ∀ l, l < lv → (8 + leaf) / 2 ^ (3 - l) = s / 4 → g4 0 s = -1) → (∀ s, sl ≤ s → s < 4 * bk + 4 → g4 0 s = -1) → (∀ k, 7 ≤ k → g4 k = g k) → (f4 1 = f 1 ∧ f4 3 = f 3 ∧ f4 4 = f 4) → ∀ (H : Heap) (locs : List Loc) (ls : Array Slot), ow_W 0 16 5 xlen D A h ad dA f4 g4 s H locs → lv_has ls 6 [(0, .ref h), (1, .int (nI leaf)), (2, .int (nI lv)), (3, .int (nI bk)), (4, .int (nI sl))] → W p l e (rmD 2) s m args below meth c H locs 0 0 Q (F0 m 27 ls []) := by
          intro k
          induction k with
          | zero => intro sl _ hi hk; exact absurd hk (by omega)
          | succ k ih2 =>
            intro sl hs0 hs1 hk2 f4 g4 n4 hX4 hE4 hE5 hF4 hf4 H locs ls w hl
            refine lv_iload hx hb dX1_writePath_27 (lv_at hl 4 rfl) ?_
            refine lv_iconst (v := nI 4) hx hb dX1_writePath_29 (by decide) ?_
            refine lv_iload_n hx hb dX1_writePath_30 rfl (lv_at hl 3 rfl) ?_
            refine lv_imul hx hb dX1_writePath_31 ?_
            refine ow_top (v := nI (4 * bk)) (pk_mul _ _) ?_
            refine lv_iconst (v := nI 4) hx hb dX1_writePath_32 (by decide) ?_
            refine lv_iadd hx hb dX1_writePath_33 ?_
            refine ow_top (v := nI (4 * bk + 4)) (nI_add _ _) ?_
            refine ow_ge (sl) (4 * bk + 4) (by omega) (by omega) (tgt := 79) hx hb dX1_writePath_34 (by decide) (fun c34 => ?_) (fun c34 => ?_)
            · refine lv_iinc (v := dl lv) (lv' := [(2, .int (dl lv)), (0, .ref h), (1, .int (nI leaf)), (3, .int (nI bk)), (4, .int (nI sl))]) hx hb dX1_writePath_79 hl (k := 2) rfl (dl_dec lv) (by decide) rfl (fun ls hl => ?_)
              refine lv_goto (tgt := 2) hx hb dX1_writePath_82 (by decide) ?_
              exact ih (by omega) f4 g4 n4 hX4 hE4 hF4 hf4 H locs ls w (lv_sub hl [1, 2, 0] rfl)
            · refine lv_aload_n hx hb dX1_writePath_37 rfl (lv_at hl 0 rfl) ?_
              refine lv_iload_n hx hb dX1_writePath_38 rfl (lv_at hl 1 rfl) ?_
              refine lv_iload_n hx hb dX1_writePath_39 rfl (lv_at hl 2 rfl) ?_
              refine k1_fitting E w hl.1 (Nat.le_of_ble_eq_true rfl) dX1_writePath_40 (by decide) ⟨Nat.zero_le _, Nat.zero_le _⟩ hX4 h1 (by omega) (fun r1 f9 g9 H locs hp w => ?_)
              obtain ⟨ef9, eg9, hfit⟩ := hp
              subst f9 g9
              refine lv_istore (lv' := [(5, .int r1), (0, .ref h), (1, .int (nI leaf)), (2, .int (nI lv)), (3, .int (nI bk)), (4, .int (nI sl))]) hx hb dX1_writePath_43 hl (by decide) rfl (fun ls hl => ?_)
              refine lv_iload hx hb dX1_writePath_45 (lv_at hl 0 rfl) ?_
              refine lv_iconst (v := (-1)) hx hb dX1_writePath_47 (by decide) ?_
              refine lv_icmp_eq (tgt := 62) hx hb dX1_writePath_48 (by decide) (fun c48 => ?_) (fun c48 => ?_)
              · refine lv_aload_n hx hb dX1_writePath_62 rfl (lv_at hl 1 rfl) ?_
                refine ow_geta xC E w 1 (by decide) q81 dX1_writePath_63 ?_
                refine lv_iload hx hb dX1_writePath_66 (lv_at hl 5 rfl) ?_
                refine lv_aload_n hx hb dX1_writePath_68 rfl (lv_at hl 1 rfl) ?_
                refine k1_next E w hl.1 (Nat.le_of_ble_eq_true rfl) dX1_writePath_69 (by decide) ⟨Nat.zero_le _, Nat.zero_le _⟩  (fun r2 f5 g9 H locs hp w => ?_)
                obtain ⟨⟨x2, ef5⟩, eg9⟩ := hp
                subst g9
                refine ow_iast xC E w 1 (by decide) (sl) rfl (show _ < _ by first | omega | (simp only [xlen, mlen]; omega)) dX1_writePath_72 (fun g5 H locs eg5 w => ?_)
                refine lv_iinc (v := nI (sl + 1)) (lv' := [(4, .int (nI (sl + 1))), (5, .int r1), (0, .ref h), (1, .int (nI leaf)), (2, .int (nI lv)), (3, .int (nI bk))]) hx hb dX1_writePath_73 hl (k := 5) rfl (nI_1 _) (by decide) rfl (fun ls hl => ?_)
                refine lv_goto (tgt := 27) hx hb dX1_writePath_76 (by decide) ?_
                have hX5 : tX f5 g5 n4 val lf := by
                  rw [eg5]
                  exact (hX4.noise (hE5 sl (by omega) (by omega))).cg (by rw [ef5]; rfl) (by rw [ef5]; rfl) (fun _ _ => rfl)
                refine ih2 (sl + 1) (by omega) (by omega) (by omega) f5 g5 n4 hX5 (fun s hs l hl2 el => ?_) (fun s q1 q2 => ?_) (fun k hk => ?_) ?_ H locs ls w (lv_sub hl [2, 3, 4, 5, 0] rfl)
                · rw [eg5]; exact hE4 s hs l hl2 el
                · rw [eg5]; exact hE5 s (by omega) q2
                · rw [eg5]
                  simp only [va_up, if_neg (show ¬ k = 1 by omega)]
                  exact hF4 k hk
                · rw [ef5]; exact hf4
              · rcases hfit with q | ⟨i, hi, ei, hib⟩
                · exact absurd q c48
                subst r1
                refine lv_aload_n hx hb dX1_writePath_51 rfl (lv_at hl 1 rfl) ?_
                refine lv_iload hx hb dX1_writePath_52 (lv_at hl 0 rfl) ?_
                refine lv_iload hx hb dX1_writePath_54 (lv_at hl 5 rfl) ?_
                refine k1_settle E w hl.1 (Nat.le_of_ble_eq_true rfl) dX1_writePath_56 (by decide) ⟨Nat.zero_le _, Nat.zero_le _⟩ hX4.1 hi hX4.2.1.1 (by omega) (fun f5 g5 H locs hp w => ?_)
                obtain ⟨ef5, eg5⟩ := hp
                refine lv_goto (tgt := 73) hx hb dX1_writePath_59 (by decide) ?_
                refine lv_iinc (v := nI (sl + 1)) (lv' := [(4, .int (nI (sl + 1))), (5, .int (nI i)), (0, .ref h), (1, .int (nI leaf)), (2, .int (nI lv)), (3, .int (nI bk))]) hx hb dX1_writePath_73 hl (k := 5) rfl (nI_1 _) (by decide) rfl (fun ls hl => ?_)
                refine lv_goto (tgt := 27) hx hb dX1_writePath_76 (by decide) ?_
                have hX5 : tX f5 g5 (n4 - 1) val lf := by
                  rw [ef5, eg5]
                  exact hX4.put (by omega) (hE5 sl (by omega) (by omega)) hi (fun b hb eb => ⟨lv, by omega, by rw [hib b hb eb, ← ebk]; omega⟩)
                refine ih2 (sl + 1) (by omega) (by omega) (by omega) f5 g5 (n4 - 1) hX5 (fun s hs l hl2 el => ?_) (fun s q1 q2 => ?_) (fun k hk => ?_) ?_ H locs ls w (lv_sub hl [2, 3, 4, 5, 0] rfl)
                · rw [eg5]
                  show upd (g4 0) sl (g4 4 i) s = -1
                  have q := bk_inj leaf h1 lv (by omega) l hl2
                  rw [← ebk] at q
                  rw [pk_un (by omega)]
                  exact hE4 s hs l hl2 el
                · rw [eg5]
                  show upd (g4 0) sl (g4 4 i) s = -1
                  rw [pk_un (by omega)]
                  exact hE5 s (by omega) q2
                · rw [eg5]
                  simp only [va_up, if_neg (show ¬ k = 0 by omega), if_neg (show ¬ k = 1 by omega), if_neg (show ¬ k = 2 by omega), if_neg (show ¬ k = 4 by omega), if_neg (show ¬ k = 5 by omega), if_neg (show ¬ k = 6 by omega)]
                  exact hF4 k hk
                · rw [ef5]; exact hf4
        refine lv_iconst (v := nI 4) hx hb dX1_writePath_22 (by decide) ?_
        refine lv_iload_n hx hb dX1_writePath_23 rfl (lv_at hl 0 rfl) ?_
        refine lv_imul hx hb dX1_writePath_24 ?_
        refine ow_top (v := nI (4 * bk)) (pk_mul _ _) ?_
        refine lv_istore (lv' := [(4, .int (nI (4 * bk))), (3, .int (nI bk)), (0, .ref h), (1, .int (nI leaf)), (2, .int (nI lv))]) hx hb dX1_writePath_25 hl (by decide) rfl (fun ls hl => ?_)
        exact inner 5 (4 * bk) (by omega) (by omega) (by omega) f2 g3 n2 hX3 hE3 hE3' hF3 hf2 _ _ ls w (lv_sub hl [2, 3, 4, 1, 0] rfl)
  refine lv_iconst (v := dl 4) hx hb dX1_writePath_0 (by decide) ?_
  refine lv_istore_n (lv' := [(2, .int (dl 4)), (0, .ref h), (1, .int (nI leaf))]) hx hb dX1_writePath_1 rfl hl (by decide) rfl (fun ls hl => ?_)
  exact loop 4 (by omega) f g n hX (fun s hs l hl2 el => hE s hs ⟨l, hl2, el⟩) (fun _ _ => rfl) ⟨rfl, rfl, rfl⟩ _ _ ls w (lv_sub hl [1, 2, 0] rfl)
section KX2
variable {p : Program} {l : Launch} {e : Env} {R : Room} {s : State} {m : MethodId} {args : Array Value} {below : List Frame} {meth : Method} {c : Code} {H : Heap} {locs : List Loc} {cells slots : Nat} {Q : State → Prop}
variable {pc : Nat} {ls : Array Slot} {rest : List Value} {cc : ByteArray} {nL : Nat} {rt : Option FieldType} {D : va_G} {A : Nat → Prop} {h : Nat} {ad : Nat → Nat} {dA : Nat → ClassId} {f : Nat → Int32} {g : Nat → Nat → Int32}
theorem k1_readPath {leaf n : Nat} {val : Nat → Int32} {lf : Nat → Nat} (E : ow_E 16 p m meth c cc nL rt s args RX1 D A dA) (w : ow_W 0 16 5 xlen D A h ad dA f g s H locs) (hls : ls.size = nL) (hW : (rest.map fun v => v.category).sum ≤ 8) (hdg : decode cc pc = .ok (.invokevirtual 76, 3)) (hR : (rmD 1).frames + 1 ≤ R.frames ∧ 8 + (5 + 11) + (rmD 1).locals ≤ R.locals) (hcs : cells ≤ R.cells ∧ slots ≤ R.slots) (hX : tX f g n val lf) (h1 : leaf < 8) (kk : ∀ (f1 : Nat → Int32) (g1 : Nat → Nat → Int32) (H1 : Heap) (locs1 : List Loc), (fun f1 g1 => ∃ n1, tX f1 g1 n1 val lf ∧ (∀ s, s < 64 → onp4 leaf s → g1 0 s = -1) ∧ (∀ k, k ≠ 0 → k ≠ 4 → k ≠ 5 → k ≠ 6 → g1 k = g k) ∧ f1 1 = f 1 ∧ f1 2 = f 2 ∧ f1 3 = f 3 ∧ f1 4 = f 4 + nI 4) f1 g1 → ow_W 0 16 5 xlen D A h ad dA f1 g1 s H1 locs1 → W p l e R s m args below meth c H1 locs1 cells slots Q (F0 m (pc + 3) ls (rest))) : W p l e R s m args below meth c H locs cells slots Q (F0 m pc ls (.int (nI leaf) :: .ref h :: rest)) :=
  ow_callv xC E w (c1_readPath l D h ad dA f g leaf n val lf hX h1) (cwV 1 E.1.2.2.2.2 (lw_V q38 q40 qs1 q18 q41) rfl rfl rfl (by decide +kernel) hR) rfl hls rfl hW hdg hcs kk
theorem k1_writePath {leaf n : Nat} {val : Nat → Int32} {lf : Nat → Nat} (E : ow_E 16 p m meth c cc nL rt s args RX1 D A dA) (w : ow_W 0 16 5 xlen D A h ad dA f g s H locs) (hls : ls.size = nL) (hW : (rest.map fun v => v.category).sum ≤ 8) (hdg : decode cc pc = .ok (.invokevirtual 79, 3)) (hR : (rmD 2).frames + 1 ≤ R.frames ∧ 8 + (6 + 11) + (rmD 2).locals ≤ R.locals) (hcs : cells ≤ R.cells ∧ slots ≤ R.slots) (hX : tX f g n val lf) (h1 : leaf < 8) (hE : ∀ s, s < 64 → onp4 leaf s → g 0 s = -1) (kk : ∀ (f1 : Nat → Int32) (g1 : Nat → Nat → Int32) (H1 : Heap) (locs1 : List Loc), (fun f1 g1 => ∃ n1, tX f1 g1 n1 val lf ∧ (∀ k, 7 ≤ k → g1 k = g k) ∧ f1 1 = f 1 ∧ f1 3 = f 3 ∧ f1 4 = f 4) f1 g1 → ow_W 0 16 5 xlen D A h ad dA f1 g1 s H1 locs1 → W p l e R s m args below meth c H1 locs1 cells slots Q (F0 m (pc + 3) ls (rest))) : W p l e R s m args below meth c H locs cells slots Q (F0 m pc ls (.int (nI leaf) :: .ref h :: rest)) :=
  ow_callv xC E w (c1_writePath l D h ad dA f g leaf n val lf hX h1 hE) (cwV 1 E.1.2.2.2.2 (lw_V q53 q55 qs3 q18 q56) rfl rfl rfl (by decide +kernel) hR) rfl hls rfl hW hdg hcs kk
end KX2
end
section
set_option maxHeartbeats 4000000 in
set_option maxRecDepth 100000 in
theorem c1_mapFitting (l : Launch) (D : va_G) (h : Nat) (ad : Nat → Nat) (dA : Nat → ClassId) (f : Nat → Int32) (g : Nat → Nat → Int32) (leaf lv n : Nat) (wv : Nat → Int32) (wl : Nat → Nat) (hX : tM f g n wv wl) (h1 : leaf < 4) (h2 : lv < 3) : ow_MI 0 16 5 xlen l yX1_mapFitting cX1_mapFitting 4 .int (rmD 1) D h ad dA [.int (nI leaf), .int (nI lv)] f g (fun r f1 g1 => f1 = f ∧ g1 = g ∧ (r = -1 ∨ ∃ i, i < n ∧ r = nI i ∧ ∀ b, b < 4 → g 12 i = nI (wl b) → (4 + wl b) / 2 ^ (2 - lv) = (4 + leaf) / 2 ^ (2 - lv))) := by
  refine ow_ofI (by decide) (Nat.le_of_ble_eq_true rfl) ?_
  intro p e s m args below meth c A Q ls E w hl ret
  have E : ow_E 16 p m meth c cX1_mapFitting 4 (some .int) s args RX1 D A dA := E
  have hx := E.1.1
  have hb := E.1.2.1
  have hl : lv_has ls 4 [(0, .ref h), (1, .int (nI leaf)), (2, .int (nI lv))] := hl
  have hn : n ≤ 4 := hX.2.1.1
  have loop : ∀ (k i : Nat), i ≤ n → n < i + k → ∀ (H : Heap) (locs : List Loc) (ls : Array Slot), ow_W 0 16 5 xlen D A h ad dA f g s H locs → lv_has ls 4 [(0, .ref h), (1, .int (nI leaf)), (2, .int (nI lv)), (3, .int (nI i))] → W p l e (rmD 1) s m args below meth c H locs 0 0 Q (F0 m 2 ls []) := by
    intro k
    induction k with
    | zero => intro i hi hk; exact absurd hk (by omega)
    | succ k ih =>
      intro i hi hk H locs ls w hl
      refine lv_iload_n hx hb dX1_mapFitting_2 rfl (lv_at hl 3 rfl) ?_
      refine lv_aload_n hx hb dX1_mapFitting_3 rfl (lv_at hl 0 rfl) ?_
      refine ow_geti xC E w 1 17 rfl (by decide) q97 dX1_mapFitting_4 ?_
      refine ow_top (v := nI n) (hX.1) ?_
      refine ow_ge (i) (n) (by omega) (by omega) (tgt := 36) hx hb dX1_mapFitting_7 (by decide) (fun c7 => ?_) (fun c7 => ?_)
      · refine lv_iconst (v := (-1)) hx hb dX1_mapFitting_36 (by decide) ?_
        exact ret dX1_mapFitting_37 rfl (⟨rfl, rfl, Or.inl rfl⟩) w
      · obtain ⟨bb, hbb, eo, ec, et⟩ := hX.2.1.2.2.1 i c7
        refine lv_aload_n hx hb dX1_mapFitting_10 rfl (lv_at hl 0 rfl) ?_
        refine ow_geta xC E w 12 (by decide) q92 dX1_mapFitting_11 ?_
        refine lv_iload_n hx hb dX1_mapFitting_14 rfl (lv_at hl 3 rfl) ?_
        refine ow_iald xC E w 12 (by decide) (i) rfl (show _ < _ by first | omega | (simp only [xlen, mlen]; omega)) dX1_mapFitting_15 ?_
        refine ow_top (v := nI (wl bb)) et ?_
        refine lv_iload_n hx hb dX1_mapFitting_16 rfl (lv_at hl 2 rfl) ?_
        refine k1_mapBucketAt (wl bb) lv E.1 hl.1 (Nat.le_of_ble_eq_true rfl) dX1_mapFitting_17 (by decide) ⟨Nat.zero_le _, Nat.zero_le _⟩ (hX.2.2 bb hbb) h2 (fun r1 er1 => ?_)
        refine ow_top (v := nI ((4 + wl bb) / 2 ^ (2 - lv))) er1 ?_
        refine lv_iload_n hx hb dX1_mapFitting_20 rfl (lv_at hl 1 rfl) ?_
        refine lv_iload_n hx hb dX1_mapFitting_21 rfl (lv_at hl 2 rfl) ?_
        refine k1_mapBucketAt leaf lv E.1 hl.1 (Nat.le_of_ble_eq_true rfl) dX1_mapFitting_22 (by decide) ⟨Nat.zero_le _, Nat.zero_le _⟩ h1 h2 (fun r2 er2 => ?_)
        refine ow_top (v := nI ((4 + leaf) / 2 ^ (2 - lv))) er2 ?_
        have q1 := (bm_in (wl bb) (hX.2.2 bb hbb) lv h2).2
        have q2 := (bm_in leaf h1 lv h2).2
        refine ow_ne ((4 + wl bb) / 2 ^ (2 - lv)) ((4 + leaf) / 2 ^ (2 - lv)) (by omega) (by omega) (tgt := 30) hx hb dX1_mapFitting_25 (by decide) (fun c25 => ?_) (fun c25 => ?_)
        · refine lv_iinc (v := nI (i + 1)) (lv' := [(3, .int (nI (i + 1))), (0, .ref h), (1, .int (nI leaf)), (2, .int (nI lv))]) hx hb dX1_mapFitting_30 hl (k := 3) rfl (nI_1 _) (by decide) rfl (fun ls hl => ?_)
          refine lv_goto (tgt := 2) hx hb dX1_mapFitting_33 (by decide) ?_
          exact ih (i + 1) (by omega) (by omega) H locs ls w (lv_sub hl [1, 2, 3, 0] rfl)
        · refine lv_iload_n hx hb dX1_mapFitting_28 rfl (lv_at hl 3 rfl) ?_
          refine ret dX1_mapFitting_29 rfl ⟨rfl, rfl, Or.inr ⟨i, c7, rfl, fun b hb eb => ?_⟩⟩ w
          have := (nI_eq (by have := hX.2.2 b hb; omega) (by have := hX.2.2 bb hbb; omega)).mp (eb.symm.trans et)
          rw [this]
          exact c25
  refine lv_iconst (v := nI 0) hx hb dX1_mapFitting_0 (by decide) ?_
  refine lv_istore_n (lv' := [(3, .int (nI 0)), (0, .ref h), (1, .int (nI leaf)), (2, .int (nI lv))]) hx hb dX1_mapFitting_1 rfl hl (by decide) rfl (fun ls hl => ?_)
  exact loop (n + 1) 0 (by omega) (by omega) _ _ ls w (lv_sub hl [1, 2, 3, 0] rfl)
section KX3
variable {p : Program} {l : Launch} {e : Env} {R : Room} {s : State} {m : MethodId} {args : Array Value} {below : List Frame} {meth : Method} {c : Code} {H : Heap} {locs : List Loc} {cells slots : Nat} {Q : State → Prop}
variable {pc : Nat} {ls : Array Slot} {rest : List Value} {cc : ByteArray} {nL : Nat} {rt : Option FieldType} {D : va_G} {A : Nat → Prop} {h : Nat} {ad : Nat → Nat} {dA : Nat → ClassId} {f : Nat → Int32} {g : Nat → Nat → Int32}
theorem k1_mapFitting {leaf lv n : Nat} {wv : Nat → Int32} {wl : Nat → Nat} (E : ow_E 16 p m meth c cc nL rt s args RX1 D A dA) (w : ow_W 0 16 5 xlen D A h ad dA f g s H locs) (hls : ls.size = nL) (hW : (rest.map fun v => v.category).sum ≤ 8) (hdg : decode cc pc = .ok (.invokevirtual 135, 3)) (hR : (rmD 1).frames + 1 ≤ R.frames ∧ 8 + (4 + 11) + (rmD 1).locals ≤ R.locals) (hcs : cells ≤ R.cells ∧ slots ≤ R.slots) (hX : tM f g n wv wl) (h1 : leaf < 4) (h2 : lv < 3) (kk : ∀ (r : Int32) (f1 : Nat → Int32) (g1 : Nat → Nat → Int32) (H1 : Heap) (locs1 : List Loc), (fun r f1 g1 => f1 = f ∧ g1 = g ∧ (r = -1 ∨ ∃ i, i < n ∧ r = nI i ∧ ∀ b, b < 4 → g 12 i = nI (wl b) → (4 + wl b) / 2 ^ (2 - lv) = (4 + leaf) / 2 ^ (2 - lv))) r f1 g1 → ow_W 0 16 5 xlen D A h ad dA f1 g1 s H1 locs1 → W p l e R s m args below meth c H1 locs1 cells slots Q (F0 m (pc + 3) ls (.int r :: rest))) : W p l e R s m args below meth c H locs cells slots Q (F0 m pc ls (.int (nI lv) :: .int (nI leaf) :: .ref h :: rest)) :=
  ow_calli xC E w (c1_mapFitting l D h ad dA f g leaf lv n wv wl hX h1 h2) (cwV 2 E.1.2.2.2.2 (lw_V q76 q78 qs8 q18 q79) rfl rfl rfl (by decide +kernel) hR) rfl hls rfl hW hdg hcs kk
end KX3
set_option maxHeartbeats 4000000 in
set_option maxRecDepth 100000 in
theorem c1_readMapPath (l : Launch) (D : va_G) (h : Nat) (ad : Nat → Nat) (dA : Nat → ClassId) (f : Nat → Int32) (g : Nat → Nat → Int32) (leaf n : Nat) (wv : Nat → Int32) (wl : Nat → Nat) (hX : tM f g n wv wl) (h1 : leaf < 4) : ow_MV 0 16 5 xlen l yX1_readMapPath cX1_readMapPath 5 (rmD 1) D h ad dA [.int (nI leaf)] f g (fun f1 g1 => ∃ n1, tM f1 g1 n1 wv wl ∧ (∀ s, s < 16 → onp2 leaf s → g1 7 s = -1) ∧ (∀ k, k ≠ 7 → k ≠ 10 → k ≠ 11 → k ≠ 12 → g1 k = g k) ∧ f1 0 = f 0 ∧ f1 2 = f 2 ∧ f1 3 = f 3 ∧ f1 4 = f 4) := by
  refine ow_ofV (by decide) (Nat.le_of_ble_eq_true rfl) ?_
  intro p e s m args below meth c A Q ls E w hl ret
  have E : ow_E 16 p m meth c cX1_readMapPath 5 (none) s args RX1 D A dA := E
  have hx := E.1.1
  have hb := E.1.2.1
  have hl : lv_has ls 5 [(0, .ref h), (1, .int (nI leaf))] := hl
  have loop : ∀ (k lv : Nat), lv ≤ 3 → 3 < lv + k → ∀ (f2 : Nat → Int32) (g2 : Nat → Nat → Int32) (n2 : Nat), tM f2 g2 n2 wv wl → (∀ s, s < 16 → ∀ l, l < lv → (4 + leaf) / 2 ^ (2 - l) = s / 2 → g2 7 s = -1) → (∀ k, k ≠ 7 → k ≠ 10 → k ≠ 11 → k ≠ 12 → g2 k = g k) → (f2 0 = f 0 ∧ f2 2 = f 2 ∧ f2 3 = f 3 ∧ f2 4 = f 4) → ∀ (H : Heap) (locs : List Loc) (ls : Array Slot), ow_W 0 16 5 xlen D A h ad dA f2 g2 s H locs → lv_has ls 5 [(0, .ref h), (1, .int (nI leaf)), (2, .int (nI lv))] → W p l e (rmD 1) s m args below meth c H locs 0 0 Q (F0 m 2 ls []) := by
    intro k
    induction k with
    | zero => intro lv hi hk; exact absurd hk (by omega)
    | succ k ih =>
      intro lv hlv hk f2 g2 n2 hX2 hE2 hF2 hf2 H locs ls w hl
      refine lv_iload_n hx hb dX1_readMapPath_2 rfl (lv_at hl 2 rfl) ?_
      refine lv_iconst (v := nI 3) hx hb dX1_readMapPath_3 (by decide) ?_
      refine ow_ge (lv) (3) (by omega) (by omega) (tgt := 125) hx hb dX1_readMapPath_4 (by decide) (fun c4 => ?_) (fun c4 => ?_)
      · have e4 : lv = 3 := by omega
        subst e4
        exact ret dX1_readMapPath_125 (⟨n2, hX2, fun s hs ⟨l, hl4, el⟩ => hE2 s hs l hl4 el, hF2, hf2⟩) w
      · refine lv_iload_n hx hb dX1_readMapPath_7 rfl (lv_at hl 1 rfl) ?_
        refine lv_iload_n hx hb dX1_readMapPath_8 rfl (lv_at hl 2 rfl) ?_
        refine k1_mapBucketAt leaf lv E.1 hl.1 (Nat.le_of_ble_eq_true rfl) dX1_readMapPath_9 (by decide) ⟨Nat.zero_le _, Nat.zero_le _⟩ h1 (by omega) (fun r1 er1 => ?_)
        obtain ⟨bk, ebk⟩ : ∃ bk, bk = (4 + leaf) / 2 ^ (2 - lv) := ⟨_, rfl⟩
        have hbk := bm_in leaf h1 lv (by omega)
        rw [← ebk] at hbk er1
        refine ow_top (v := nI bk) er1 ?_
        have inner : ∀ (k sl : Nat), 2 * bk ≤ sl → sl ≤ 2 * bk + 2 → 2 * bk + 2 < sl + k → ∀ (f4 : Nat → Int32) (g4 : Nat → Nat → Int32) (n4 : Nat), tM f4 g4 n4 wv wl → (∀ s, s < 16 → ∀ l, l < lv → (4 + leaf) / 2 ^ (2 - l) = s / 2 → g4 7 s = -1) → (∀ s, 2 * bk ≤ s → s < sl → g4 7 s = -1) → (∀ k, k ≠ 7 → k ≠ 10 → k ≠ 11 → k ≠ 12 → g4 k = g k) → (f4 0 = f 0 ∧ f4 2 = f 2 ∧ f4 3 = f 3 ∧ f4 4 = f 4) → ∀ (H : Heap) (locs : List Loc) (ls : Array Slot), ow_W 0 16 5 xlen D A h ad dA f4 g4 s H locs → lv_has ls 5 [(0, .ref h), (1, .int (nI leaf)), (2, .int (nI lv)), (3, .int (nI bk)), (4, .int (nI sl))] → W p l e (rmD 1) s m args below meth c H locs 0 0 Q (F0 m 18 ls []) := by
          intro k
          induction k with
          | zero => intro sl _ hi hk; exact absurd hk (by omega)
          | succ k ih2 =>
            intro sl hs0 hs1 hk2 f4 g4 n4 hX4 hE4 hE5 hF4 hf4 H locs ls w hl
            refine lv_iload hx hb dX1_readMapPath_18 (lv_at hl 4 rfl) ?_
            refine lv_iconst (v := nI 2) hx hb dX1_readMapPath_20 (by decide) ?_
            refine lv_iload_n hx hb dX1_readMapPath_21 rfl (lv_at hl 3 rfl) ?_
            refine lv_imul hx hb dX1_readMapPath_22 ?_
            refine ow_top (v := nI (2 * bk)) (pk_mul _ _) ?_
            refine lv_iconst (v := nI 2) hx hb dX1_readMapPath_23 (by decide) ?_
            refine lv_iadd hx hb dX1_readMapPath_24 ?_
            refine ow_top (v := nI (2 * bk + 2)) (nI_add _ _) ?_
            refine ow_ge (sl) (2 * bk + 2) (by omega) (by omega) (tgt := 119) hx hb dX1_readMapPath_25 (by decide) (fun c25 => ?_) (fun c25 => ?_)
            · refine lv_iinc (v := nI (lv + 1)) (lv' := [(2, .int (nI (lv + 1))), (0, .ref h), (1, .int (nI leaf)), (3, .int (nI bk)), (4, .int (nI sl))]) hx hb dX1_readMapPath_119 hl (k := 2) rfl (nI_1 _) (by decide) rfl (fun ls hl => ?_)
              refine lv_goto (tgt := 2) hx hb dX1_readMapPath_122 (by decide) ?_
              refine ih (lv + 1) (by omega) (by omega) f4 g4 n4 hX4 (fun s hs l hl2 el => ?_) hF4 hf4 H locs ls w (lv_sub hl [1, 2, 0] rfl)
              by_cases q : l = lv
              · rw [q, ← ebk] at el
                exact hE5 s (by omega) (by omega)
              · exact hE4 s hs l (by omega) el
            · refine lv_aload_n hx hb dX1_readMapPath_28 rfl (lv_at hl 0 rfl) ?_
              refine ow_geta xC E w 7 (by decide) q87 dX1_readMapPath_29 ?_
              refine lv_iload hx hb dX1_readMapPath_32 (lv_at hl 4 rfl) ?_
              refine ow_iald xC E w 7 (by decide) (sl) rfl (show _ < _ by first | omega | (simp only [xlen, mlen]; omega)) dX1_readMapPath_34 ?_
              refine lv_iconst (v := (-1)) hx hb dX1_readMapPath_35 (by decide) ?_
              refine lv_icmp_eq (tgt := 113) hx hb dX1_readMapPath_36 (by decide) (fun c36 => ?_) (fun c36 => ?_)
              · refine lv_iinc (v := nI (sl + 1)) (lv' := [(4, .int (nI (sl + 1))), (0, .ref h), (1, .int (nI leaf)), (2, .int (nI lv)), (3, .int (nI bk))]) hx hb dX1_readMapPath_113 hl (k := 4) rfl (nI_1 _) (by decide) rfl (fun ls hl => ?_)
                refine lv_goto (tgt := 18) hx hb dX1_readMapPath_116 (by decide) ?_
                refine ih2 (sl + 1) (by omega) (by omega) (by omega) f4 g4 n4 hX4 hE4 (fun s q1 q2 => ?_) hF4 hf4 H locs ls w (lv_sub hl [1, 2, 3, 4, 0] rfl)
                by_cases q : s = sl
                · rw [q]; exact c36
                · exact hE5 s q1 (by omega)
              · obtain ⟨hn4, hX5⟩ := hX4.take (sl := sl) (by omega) c36
                refine lv_aload_n hx hb dX1_readMapPath_39 rfl (lv_at hl 0 rfl) ?_
                refine ow_geti xC E w 1 17 rfl (by decide) q97 dX1_readMapPath_40 ?_
                refine ow_top (v := nI n4) (hX4.1) ?_
                refine lv_iconst (v := nI 4) hx hb dX1_readMapPath_43 (by decide) ?_
                refine ow_ge (n4) (4) (by omega) (by omega) (tgt := 113) hx hb dX1_readMapPath_44 (by decide) (fun c44 => ?_) (fun c44 => ?_)
                · exact absurd c44 (by omega)
                · refine lv_aload_n hx hb dX1_readMapPath_47 rfl (lv_at hl 0 rfl) ?_
                  refine ow_geta xC E w 10 (by decide) q90 dX1_readMapPath_48 ?_
                  refine lv_aload_n hx hb dX1_readMapPath_51 rfl (lv_at hl 0 rfl) ?_
                  refine ow_geti xC E w 1 17 rfl (by decide) q97 dX1_readMapPath_52 ?_
                  refine ow_top (v := nI n4) (hX4.1) ?_
                  refine lv_aload_n hx hb dX1_readMapPath_55 rfl (lv_at hl 0 rfl) ?_
                  refine ow_geta xC E w 7 (by decide) q87 dX1_readMapPath_56 ?_
                  refine lv_iload hx hb dX1_readMapPath_59 (lv_at hl 4 rfl) ?_
                  refine ow_iald xC E w 7 (by decide) (sl) rfl (show _ < _ by first | omega | (simp only [xlen, mlen]; omega)) dX1_readMapPath_61 ?_
                  refine ow_iast xC E w 10 (by decide) (n4) rfl (show _ < _ by first | omega | (simp only [xlen, mlen]; omega)) dX1_readMapPath_62 (fun g5 H locs eg5 w => ?_)
                  refine lv_aload_n hx hb dX1_readMapPath_63 rfl (lv_at hl 0 rfl) ?_
                  refine ow_geta xC E w 11 (by decide) q91 dX1_readMapPath_64 ?_
                  refine lv_aload_n hx hb dX1_readMapPath_67 rfl (lv_at hl 0 rfl) ?_
                  refine ow_geti xC E w 1 17 rfl (by decide) q97 dX1_readMapPath_68 ?_
                  refine ow_top (v := nI n4) (hX4.1) ?_
                  refine lv_aload_n hx hb dX1_readMapPath_71 rfl (lv_at hl 0 rfl) ?_
                  refine ow_geta xC E w 8 (by decide) q88 dX1_readMapPath_72 ?_
                  refine lv_iload hx hb dX1_readMapPath_75 (lv_at hl 4 rfl) ?_
                  refine ow_iald xC E w 8 (by decide) (sl) rfl (show _ < _ by first | omega | (simp only [xlen, mlen]; omega)) dX1_readMapPath_77 ?_
                  refine ow_iast xC E w 11 (by decide) (n4) rfl (show _ < _ by first | omega | (simp only [xlen, mlen]; omega)) dX1_readMapPath_78 (fun g6 H locs eg6 w => ?_)
                  refine lv_aload_n hx hb dX1_readMapPath_79 rfl (lv_at hl 0 rfl) ?_
                  refine ow_geta xC E w 12 (by decide) q92 dX1_readMapPath_80 ?_
                  refine lv_aload_n hx hb dX1_readMapPath_83 rfl (lv_at hl 0 rfl) ?_
                  refine ow_geti xC E w 1 17 rfl (by decide) q97 dX1_readMapPath_84 ?_
                  refine ow_top (v := nI n4) (hX4.1) ?_
                  refine lv_aload_n hx hb dX1_readMapPath_87 rfl (lv_at hl 0 rfl) ?_
                  refine ow_geta xC E w 9 (by decide) q89 dX1_readMapPath_88 ?_
                  refine lv_iload hx hb dX1_readMapPath_91 (lv_at hl 4 rfl) ?_
                  refine ow_iald xC E w 9 (by decide) (sl) rfl (show _ < _ by first | omega | (simp only [xlen, mlen]; omega)) dX1_readMapPath_93 ?_
                  refine ow_iast xC E w 12 (by decide) (n4) rfl (show _ < _ by first | omega | (simp only [xlen, mlen]; omega)) dX1_readMapPath_94 (fun g7 H locs eg7 w => ?_)
                  refine lv_aload_n hx hb dX1_readMapPath_95 rfl (lv_at hl 0 rfl) ?_
                  refine ow_geta xC E w 7 (by decide) q87 dX1_readMapPath_96 ?_
                  refine lv_iload hx hb dX1_readMapPath_99 (lv_at hl 4 rfl) ?_
                  refine lv_iconst (v := (-1)) hx hb dX1_readMapPath_101 (by decide) ?_
                  refine ow_iast xC E w 7 (by decide) (sl) rfl (show _ < _ by first | omega | (simp only [xlen, mlen]; omega)) dX1_readMapPath_102 (fun g8 H locs eg8 w => ?_)
                  refine lv_aload_n hx hb dX1_readMapPath_103 rfl (lv_at hl 0 rfl) ?_
                  refine lv_dup hx hb dX1_readMapPath_104 rfl ?_
                  refine ow_geti xC E w 1 17 rfl (by decide) q97 dX1_readMapPath_105 ?_
                  refine ow_top (v := nI n4) (hX4.1) ?_
                  refine lv_iconst (v := nI 1) hx hb dX1_readMapPath_108 (by decide) ?_
                  refine lv_iadd hx hb dX1_readMapPath_109 ?_
                  refine ow_top (v := nI (n4 + 1)) (nI_add _ _) ?_
                  refine ow_puti xC E w 1 17 rfl (by decide) rfl rfl rfl q97 dX1_readMapPath_110 (fun f5 H locs ef5 w => ?_)
                  refine lv_iinc (v := nI (sl + 1)) (lv' := [(4, .int (nI (sl + 1))), (0, .ref h), (1, .int (nI leaf)), (2, .int (nI lv)), (3, .int (nI bk))]) hx hb dX1_readMapPath_113 hl (k := 4) rfl (nI_1 _) (by decide) rfl (fun ls hl => ?_)
                  refine lv_goto (tgt := 18) hx hb dX1_readMapPath_116 (by decide) ?_
                  have eg : g8 = va_up (va_up (va_up (va_up g4 10 (upd (g4 10) n4 (g4 7 sl))) 11 (upd (g4 11) n4 (g4 8 sl))) 12 (upd (g4 12) n4 (g4 9 sl))) 7 (upd (g4 7) sl (-1)) := by
                    rw [eg8, eg7, eg6, eg5]; rfl
                  rw [← ef5, ← eg] at hX5
                  refine ih2 (sl + 1) (by omega) (by omega) (by omega) f5 g8 (n4 + 1) hX5 (fun s hs l hl2 el => ?_) (fun s q1 q2 => ?_) (fun k k0 k4 k5 k6 => ?_) ?_ H locs ls w (lv_sub hl [1, 2, 3, 4, 0] rfl)
                  · rw [eg]
                    show upd (g4 7) sl (-1) s = -1
                    by_cases q : s = sl
                    · rw [q]; exact pk_us
                    · rw [pk_un q]; exact hE4 s hs l hl2 el
                  · rw [eg]
                    show upd (g4 7) sl (-1) s = -1
                    by_cases q : s = sl
                    · rw [q]; exact pk_us
                    · rw [pk_un q]; exact hE5 s q1 (by omega)
                  · rw [eg]
                    simp only [va_up, if_neg k0, if_neg k4, if_neg k5, if_neg k6]
                    exact hF4 k k0 k4 k5 k6
                  · rw [ef5]
                    exact hf4
        refine lv_istore_n (lv' := [(3, .int (nI bk)), (0, .ref h), (1, .int (nI leaf)), (2, .int (nI lv))]) hx hb dX1_readMapPath_12 rfl hl (by decide) rfl (fun ls hl => ?_)
        refine lv_iconst (v := nI 2) hx hb dX1_readMapPath_13 (by decide) ?_
        refine lv_iload_n hx hb dX1_readMapPath_14 rfl (lv_at hl 0 rfl) ?_
        refine lv_imul hx hb dX1_readMapPath_15 ?_
        refine ow_top (v := nI (2 * bk)) (pk_mul _ _) ?_
        refine lv_istore (lv' := [(4, .int (nI (2 * bk))), (3, .int (nI bk)), (0, .ref h), (1, .int (nI leaf)), (2, .int (nI lv))]) hx hb dX1_readMapPath_16 hl (by decide) rfl (fun ls hl => ?_)
        exact inner 3 (2 * bk) (by omega) (by omega) (by omega) f2 g2 n2 hX2 hE2 (fun s q1 q2 => absurd q2 (by omega)) hF2 hf2 _ _ ls w (lv_sub hl [2, 3, 4, 1, 0] rfl)
  refine lv_iconst (v := nI 0) hx hb dX1_readMapPath_0 (by decide) ?_
  refine lv_istore_n (lv' := [(2, .int (nI 0)), (0, .ref h), (1, .int (nI leaf))]) hx hb dX1_readMapPath_1 rfl hl (by decide) rfl (fun ls hl => ?_)
  exact loop 4 0 (by omega) (by omega) f g n hX (fun s hs l hl2 el => absurd hl2 (by omega)) (fun _ _ _ _ _ => rfl) ⟨rfl, rfl, rfl, rfl⟩ _ _ ls w (lv_sub hl [1, 2, 0] rfl)
set_option maxHeartbeats 4000000 in
set_option maxRecDepth 100000 in
theorem c1_writeMapPath (l : Launch) (D : va_G) (h : Nat) (ad : Nat → Nat) (dA : Nat → ClassId) (f : Nat → Int32) (g : Nat → Nat → Int32) (leaf n : Nat) (wv : Nat → Int32) (wl : Nat → Nat) (hX : tM f g n wv wl) (h1 : leaf < 4) : ow_MV 0 16 5 xlen l yX1_writeMapPath cX1_writeMapPath 6 (rmD 2) D h ad dA [.int (nI leaf)] f g (fun f1 g1 => ∃ n1, tM f1 g1 n1 wv wl ∧ (∀ k, k < 7 ∨ 13 ≤ k → g1 k = g k) ∧ f1 0 = f 0 ∧ f1 2 = f 2 ∧ f1 3 = f 3 ∧ f1 4 = f 4) := by
  refine ow_ofV (by decide) (Nat.le_of_ble_eq_true rfl) ?_
  intro p e s m args below meth c A Q ls E w hl ret
  have E : ow_E 16 p m meth c cX1_writeMapPath 6 (none) s args RX1 D A dA := E
  have hx := E.1.1
  have hb := E.1.2.1
  have hl : lv_has ls 6 [(0, .ref h), (1, .int (nI leaf))] := hl
  have loop : ∀ (j : Nat), j ≤ 3 → ∀ (f2 : Nat → Int32) (g2 : Nat → Nat → Int32) (n2 : Nat), tM f2 g2 n2 wv wl → (∀ k, k < 7 ∨ 13 ≤ k → g2 k = g k) → (f2 0 = f 0 ∧ f2 2 = f 2 ∧ f2 3 = f 3 ∧ f2 4 = f 4) → ∀ (H : Heap) (locs : List Loc) (ls : Array Slot), ow_W 0 16 5 xlen D A h ad dA f2 g2 s H locs → lv_has ls 6 [(0, .ref h), (1, .int (nI leaf)), (2, .int (dl j))] → W p l e (rmD 2) s m args below meth c H locs 0 0 Q (F0 m 2 ls []) := by
    intro j
    induction j with
    | zero =>
      intro _ f2 g2 n2 hX2 hF2 hf2 H locs ls w hl
      have hl : lv_has ls 6 [(0, .ref h), (1, .int (nI leaf)), (2, .int (-1))] := hl
      refine lv_iload_n hx hb dX1_writeMapPath_2 rfl (lv_at hl 2 rfl) ?_
      refine lv_if_lt (tgt := 164) hx hb dX1_writeMapPath_3 (by decide) (fun c3 => ?_) (fun c3 => ?_)
      · exact ret dX1_writeMapPath_164 (⟨n2, hX2, hF2, hf2⟩) w
      · exact absurd (by decide) c3
    | succ lv ih =>
      intro hlv f2 g2 n2 hX2 hF2 hf2 H locs ls w hl
      have hl : lv_has ls 6 [(0, .ref h), (1, .int (nI leaf)), (2, .int (nI lv))] := hl
      refine lv_iload_n hx hb dX1_writeMapPath_2 rfl (lv_at hl 2 rfl) ?_
      refine lv_if_lt (tgt := 164) hx hb dX1_writeMapPath_3 (by decide) (fun c3 => ?_) (fun c3 => ?_)
      · exact absurd c3 (nI_pos (by omega))
      · refine lv_iload_n hx hb dX1_writeMapPath_6 rfl (lv_at hl 1 rfl) ?_
        refine lv_iload_n hx hb dX1_writeMapPath_7 rfl (lv_at hl 2 rfl) ?_
        refine k1_mapBucketAt leaf lv E.1 hl.1 (Nat.le_of_ble_eq_true rfl) dX1_writeMapPath_8 (by decide) ⟨Nat.zero_le _, Nat.zero_le _⟩ h1 (by omega) (fun r1 er1 => ?_)
        obtain ⟨bk, ebk⟩ : ∃ bk, bk = (4 + leaf) / 2 ^ (2 - lv) := ⟨_, rfl⟩
        have hbk := bm_in leaf h1 lv (by omega)
        rw [← ebk] at hbk er1
        refine ow_top (v := nI bk) er1 ?_
        have inner : ∀ (k sl : Nat), 2 * bk ≤ sl → sl ≤ 2 * bk + 2 → 2 * bk + 2 < sl + k → ∀ (f4 : Nat → Int32) (g4 : Nat → Nat → Int32) (n4 : Nat), tM f4 g4 n4 wv wl → (∀ k, k < 7 ∨ 13 ≤ k → g4 k = g k) → (f4 0 = f 0 ∧ f4 2 = f 2 ∧ f4 3 = f 3 ∧ f4 4 = f 4) → ∀ (H : Heap) (locs : List Loc) (ls : Array Slot), ow_W 0 16 5 xlen D A h ad dA f4 g4 s H locs → lv_has ls 6 [(0, .ref h), (1, .int (nI leaf)), (2, .int (nI lv)), (3, .int (nI bk)), (4, .int (nI sl))] → W p l e (rmD 2) s m args below meth c H locs 0 0 Q (F0 m 17 ls []) := by
          intro k
          induction k with
          | zero => intro sl _ hi hk; exact absurd hk (by omega)
          | succ k ih2 =>
            intro sl hs0 hs1 hk2 f4 g4 n4 hX4 hF4 hf4 H locs ls w hl
            have hn4 : n4 ≤ 4 := hX4.2.1.1
            refine lv_iload hx hb dX1_writeMapPath_17 (lv_at hl 4 rfl) ?_
            refine lv_iconst (v := nI 2) hx hb dX1_writeMapPath_19 (by decide) ?_
            refine lv_iload_n hx hb dX1_writeMapPath_20 rfl (lv_at hl 3 rfl) ?_
            refine lv_imul hx hb dX1_writeMapPath_21 ?_
            refine ow_top (v := nI (2 * bk)) (pk_mul _ _) ?_
            refine lv_iconst (v := nI 2) hx hb dX1_writeMapPath_22 (by decide) ?_
            refine lv_iadd hx hb dX1_writeMapPath_23 ?_
            refine ow_top (v := nI (2 * bk + 2)) (nI_add _ _) ?_
            refine ow_ge (sl) (2 * bk + 2) (by omega) (by omega) (tgt := 158) hx hb dX1_writeMapPath_24 (by decide) (fun c24 => ?_) (fun c24 => ?_)
            · refine lv_iinc (v := dl lv) (lv' := [(2, .int (dl lv)), (0, .ref h), (1, .int (nI leaf)), (3, .int (nI bk)), (4, .int (nI sl))]) hx hb dX1_writeMapPath_158 hl (k := 2) rfl (dl_dec lv) (by decide) rfl (fun ls hl => ?_)
              refine lv_goto (tgt := 2) hx hb dX1_writeMapPath_161 (by decide) ?_
              exact ih (by omega) f4 g4 n4 hX4 hF4 hf4 H locs ls w (lv_sub hl [1, 2, 0] rfl)
            · refine lv_aload_n hx hb dX1_writeMapPath_27 rfl (lv_at hl 0 rfl) ?_
              refine lv_iload_n hx hb dX1_writeMapPath_28 rfl (lv_at hl 1 rfl) ?_
              refine lv_iload_n hx hb dX1_writeMapPath_29 rfl (lv_at hl 2 rfl) ?_
              refine k1_mapFitting E w hl.1 (Nat.le_of_ble_eq_true rfl) dX1_writeMapPath_30 (by decide) ⟨Nat.zero_le _, Nat.zero_le _⟩ hX4 h1 (by omega) (fun r1 f9 g9 H locs hp w => ?_)
              obtain ⟨ef9, eg9, hfit⟩ := hp
              subst f9 g9
              refine lv_istore (lv' := [(5, .int r1), (0, .ref h), (1, .int (nI leaf)), (2, .int (nI lv)), (3, .int (nI bk)), (4, .int (nI sl))]) hx hb dX1_writeMapPath_33 hl (by decide) rfl (fun ls hl => ?_)
              refine lv_aload_n hx hb dX1_writeMapPath_35 rfl (lv_at hl 1 rfl) ?_
              refine ow_geta xC E w 7 (by decide) q87 dX1_writeMapPath_36 ?_
              refine lv_iload hx hb dX1_writeMapPath_39 (lv_at hl 5 rfl) ?_
              refine ow_iald xC E w 7 (by decide) (sl) rfl (show _ < _ by first | omega | (simp only [xlen, mlen]; omega)) dX1_writeMapPath_41 ?_
              refine lv_iconst (v := (-1)) hx hb dX1_writeMapPath_42 (by decide) ?_
              refine lv_icmp_ne (tgt := 152) hx hb dX1_writeMapPath_43 (by decide) (fun c43 => ?_) (fun c43 => ?_)
              · refine lv_iinc (v := nI (sl + 1)) (lv' := [(4, .int (nI (sl + 1))), (5, .int r1), (0, .ref h), (1, .int (nI leaf)), (2, .int (nI lv)), (3, .int (nI bk))]) hx hb dX1_writeMapPath_152 hl (k := 5) rfl (nI_1 _) (by decide) rfl (fun ls hl => ?_)
                refine lv_goto (tgt := 17) hx hb dX1_writeMapPath_155 (by decide) ?_
                exact ih2 (sl + 1) (by omega) (by omega) (by omega) f4 g4 n4 hX4 hF4 hf4 H locs ls w (lv_sub hl [2, 3, 4, 5, 0] rfl)
              · refine lv_iload hx hb dX1_writeMapPath_46 (lv_at hl 0 rfl) ?_
                refine lv_iconst (v := (-1)) hx hb dX1_writeMapPath_48 (by decide) ?_
                refine lv_icmp_eq (tgt := 152) hx hb dX1_writeMapPath_49 (by decide) (fun c49 => ?_) (fun c49 => ?_)
                · refine lv_iinc (v := nI (sl + 1)) (lv' := [(4, .int (nI (sl + 1))), (5, .int r1), (0, .ref h), (1, .int (nI leaf)), (2, .int (nI lv)), (3, .int (nI bk))]) hx hb dX1_writeMapPath_152 hl (k := 5) rfl (nI_1 _) (by decide) rfl (fun ls hl => ?_)
                  refine lv_goto (tgt := 17) hx hb dX1_writeMapPath_155 (by decide) ?_
                  exact ih2 (sl + 1) (by omega) (by omega) (by omega) f4 g4 n4 hX4 hF4 hf4 H locs ls w (lv_sub hl [2, 3, 4, 5, 0] rfl)
                · rcases hfit with q | ⟨i, hi, ei, hib⟩
                  · exact absurd q c49
                  subst r1
                  refine lv_aload_n hx hb dX1_writeMapPath_52 rfl (lv_at hl 1 rfl) ?_
                  refine lv_dup hx hb dX1_writeMapPath_53 rfl ?_
                  refine ow_geti xC E w 1 17 rfl (by decide) q97 dX1_writeMapPath_54 ?_
                  refine ow_top (v := nI n4) (hX4.1) ?_
                  refine lv_iconst (v := nI 1) hx hb dX1_writeMapPath_57 (by decide) ?_
                  refine lv_isub hx hb dX1_writeMapPath_58 ?_
                  refine ow_top (v := nI (n4 - 1)) (pk_sub (by omega)) ?_
                  refine ow_puti xC E w 1 17 rfl (by decide) rfl rfl rfl q97 dX1_writeMapPath_59 (fun f5 H locs ef5 w => ?_)
                  refine lv_aload_n hx hb dX1_writeMapPath_62 rfl (lv_at hl 1 rfl) ?_
                  refine ow_geta xC E w 7 (by decide) q87 dX1_writeMapPath_63 ?_
                  refine lv_iload hx hb dX1_writeMapPath_66 (lv_at hl 5 rfl) ?_
                  refine lv_aload_n hx hb dX1_writeMapPath_68 rfl (lv_at hl 1 rfl) ?_
                  refine ow_geta xC E w 10 (by decide) q90 dX1_writeMapPath_69 ?_
                  refine lv_iload hx hb dX1_writeMapPath_72 (lv_at hl 0 rfl) ?_
                  refine ow_iald xC E w 10 (by decide) (i) rfl (show _ < _ by first | omega | (simp only [xlen, mlen]; omega)) dX1_writeMapPath_74 ?_
                  refine ow_iast xC E w 7 (by decide) (sl) rfl (show _ < _ by first | omega | (simp only [xlen, mlen]; omega)) dX1_writeMapPath_75 (fun g5 H locs eg5 w => ?_)
                  refine lv_aload_n hx hb dX1_writeMapPath_76 rfl (lv_at hl 1 rfl) ?_
                  refine ow_geta xC E w 8 (by decide) q88 dX1_writeMapPath_77 ?_
                  refine lv_iload hx hb dX1_writeMapPath_80 (lv_at hl 5 rfl) ?_
                  refine lv_aload_n hx hb dX1_writeMapPath_82 rfl (lv_at hl 1 rfl) ?_
                  refine ow_geta xC E w 11 (by decide) q91 dX1_writeMapPath_83 ?_
                  refine lv_iload hx hb dX1_writeMapPath_86 (lv_at hl 0 rfl) ?_
                  refine ow_iald xC E w 11 (by decide) (i) rfl (show _ < _ by first | omega | (simp only [xlen, mlen]; omega)) dX1_writeMapPath_88 ?_
                  refine ow_iast xC E w 8 (by decide) (sl) rfl (show _ < _ by first | omega | (simp only [xlen, mlen]; omega)) dX1_writeMapPath_89 (fun g6 H locs eg6 w => ?_)
                  refine lv_aload_n hx hb dX1_writeMapPath_90 rfl (lv_at hl 1 rfl) ?_
                  refine ow_geta xC E w 9 (by decide) q89 dX1_writeMapPath_91 ?_
                  refine lv_iload hx hb dX1_writeMapPath_94 (lv_at hl 5 rfl) ?_
                  refine lv_aload_n hx hb dX1_writeMapPath_96 rfl (lv_at hl 1 rfl) ?_
                  refine ow_geta xC E w 12 (by decide) q92 dX1_writeMapPath_97 ?_
                  refine lv_iload hx hb dX1_writeMapPath_100 (lv_at hl 0 rfl) ?_
                  refine ow_iald xC E w 12 (by decide) (i) rfl (show _ < _ by first | omega | (simp only [xlen, mlen]; omega)) dX1_writeMapPath_102 ?_
                  refine ow_iast xC E w 9 (by decide) (sl) rfl (show _ < _ by first | omega | (simp only [xlen, mlen]; omega)) dX1_writeMapPath_103 (fun g7 H locs eg7 w => ?_)
                  refine lv_aload_n hx hb dX1_writeMapPath_104 rfl (lv_at hl 1 rfl) ?_
                  refine ow_geta xC E w 10 (by decide) q90 dX1_writeMapPath_105 ?_
                  refine lv_iload hx hb dX1_writeMapPath_108 (lv_at hl 0 rfl) ?_
                  refine lv_aload_n hx hb dX1_writeMapPath_110 rfl (lv_at hl 1 rfl) ?_
                  refine ow_geta xC E w 10 (by decide) q90 dX1_writeMapPath_111 ?_
                  refine lv_aload_n hx hb dX1_writeMapPath_114 rfl (lv_at hl 1 rfl) ?_
                  refine ow_geti xC E w 1 17 rfl (by decide) q97 dX1_writeMapPath_115 ?_
                  refine ow_top (v := nI (n4 - 1)) (by rw [ef5]; rfl) ?_
                  refine ow_iald xC E w 10 (by decide) (n4 - 1) rfl (show _ < _ by first | omega | (simp only [xlen, mlen]; omega)) dX1_writeMapPath_118 ?_
                  refine ow_iast xC E w 10 (by decide) (i) rfl (show _ < _ by first | omega | (simp only [xlen, mlen]; omega)) dX1_writeMapPath_119 (fun g8 H locs eg8 w => ?_)
                  refine lv_aload_n hx hb dX1_writeMapPath_120 rfl (lv_at hl 1 rfl) ?_
                  refine ow_geta xC E w 11 (by decide) q91 dX1_writeMapPath_121 ?_
                  refine lv_iload hx hb dX1_writeMapPath_124 (lv_at hl 0 rfl) ?_
                  refine lv_aload_n hx hb dX1_writeMapPath_126 rfl (lv_at hl 1 rfl) ?_
                  refine ow_geta xC E w 11 (by decide) q91 dX1_writeMapPath_127 ?_
                  refine lv_aload_n hx hb dX1_writeMapPath_130 rfl (lv_at hl 1 rfl) ?_
                  refine ow_geti xC E w 1 17 rfl (by decide) q97 dX1_writeMapPath_131 ?_
                  refine ow_top (v := nI (n4 - 1)) (by rw [ef5]; rfl) ?_
                  refine ow_iald xC E w 11 (by decide) (n4 - 1) rfl (show _ < _ by first | omega | (simp only [xlen, mlen]; omega)) dX1_writeMapPath_134 ?_
                  refine ow_iast xC E w 11 (by decide) (i) rfl (show _ < _ by first | omega | (simp only [xlen, mlen]; omega)) dX1_writeMapPath_135 (fun g9 H locs eg9 w => ?_)
                  refine lv_aload_n hx hb dX1_writeMapPath_136 rfl (lv_at hl 1 rfl) ?_
                  refine ow_geta xC E w 12 (by decide) q92 dX1_writeMapPath_137 ?_
                  refine lv_iload hx hb dX1_writeMapPath_140 (lv_at hl 0 rfl) ?_
                  refine lv_aload_n hx hb dX1_writeMapPath_142 rfl (lv_at hl 1 rfl) ?_
                  refine ow_geta xC E w 12 (by decide) q92 dX1_writeMapPath_143 ?_
                  refine lv_aload_n hx hb dX1_writeMapPath_146 rfl (lv_at hl 1 rfl) ?_
                  refine ow_geti xC E w 1 17 rfl (by decide) q97 dX1_writeMapPath_147 ?_
                  refine ow_top (v := nI (n4 - 1)) (by rw [ef5]; rfl) ?_
                  refine ow_iald xC E w 12 (by decide) (n4 - 1) rfl (show _ < _ by first | omega | (simp only [xlen, mlen]; omega)) dX1_writeMapPath_150 ?_
                  refine ow_iast xC E w 12 (by decide) (i) rfl (show _ < _ by first | omega | (simp only [xlen, mlen]; omega)) dX1_writeMapPath_151 (fun g10 H locs eg10 w => ?_)
                  refine lv_iinc (v := nI (sl + 1)) (lv' := [(4, .int (nI (sl + 1))), (5, .int (nI i)), (0, .ref h), (1, .int (nI leaf)), (2, .int (nI lv)), (3, .int (nI bk))]) hx hb dX1_writeMapPath_152 hl (k := 5) rfl (nI_1 _) (by decide) rfl (fun ls hl => ?_)
                  refine lv_goto (tgt := 17) hx hb dX1_writeMapPath_155 (by decide) ?_
                  have eg : g10 = va_up (va_up (va_up (va_up (va_up (va_up g4 7 (upd (g4 7) sl (g4 10 i))) 8 (upd (g4 8) sl (g4 11 i))) 9 (upd (g4 9) sl (g4 12 i))) 10 (upd (g4 10) i (g4 10 (n4 - 1)))) 11 (upd (g4 11) i (g4 11 (n4 - 1)))) 12 (upd (g4 12) i (g4 12 (n4 - 1))) := by
                    rw [eg10, eg9, eg8, eg7, eg6, eg5]; rfl
                  have hX5 : tM f5 g10 (n4 - 1) wv wl := by
                    rw [ef5, eg]
                    exact hX4.put (by omega) c43 hi (fun b hb eb => ⟨lv, by omega, by rw [hib b hb eb, ← ebk]; omega⟩)
                  refine ih2 (sl + 1) (by omega) (by omega) (by omega) f5 g10 (n4 - 1) hX5 (fun k hk => ?_) ?_ H locs ls w (lv_sub hl [2, 3, 4, 5, 0] rfl)
                  · rw [eg]
                    simp only [va_up, if_neg (show ¬ k = 7 by omega), if_neg (show ¬ k = 8 by omega), if_neg (show ¬ k = 9 by omega), if_neg (show ¬ k = 10 by omega), if_neg (show ¬ k = 11 by omega), if_neg (show ¬ k = 12 by omega)]
                    exact hF4 k hk
                  · rw [ef5]; exact hf4
        refine lv_istore_n (lv' := [(3, .int (nI bk)), (0, .ref h), (1, .int (nI leaf)), (2, .int (nI lv))]) hx hb dX1_writeMapPath_11 rfl hl (by decide) rfl (fun ls hl => ?_)
        refine lv_iconst (v := nI 2) hx hb dX1_writeMapPath_12 (by decide) ?_
        refine lv_iload_n hx hb dX1_writeMapPath_13 rfl (lv_at hl 0 rfl) ?_
        refine lv_imul hx hb dX1_writeMapPath_14 ?_
        refine ow_top (v := nI (2 * bk)) (pk_mul _ _) ?_
        refine lv_istore (lv' := [(4, .int (nI (2 * bk))), (3, .int (nI bk)), (0, .ref h), (1, .int (nI leaf)), (2, .int (nI lv))]) hx hb dX1_writeMapPath_15 hl (by decide) rfl (fun ls hl => ?_)
        exact inner 3 (2 * bk) (by omega) (by omega) (by omega) f2 g2 n2 hX2 hF2 hf2 _ _ ls w (lv_sub hl [2, 3, 4, 1, 0] rfl)
  refine lv_iconst (v := dl 3) hx hb dX1_writeMapPath_0 (by decide) ?_
  refine lv_istore_n (lv' := [(2, .int (dl 3)), (0, .ref h), (1, .int (nI leaf))]) hx hb dX1_writeMapPath_1 rfl hl (by decide) rfl (fun ls hl => ?_)
  exact loop 3 (by omega) f g n hX (fun _ _ => rfl) ⟨rfl, rfl, rfl, rfl⟩ _ _ ls w (lv_sub hl [1, 2, 0] rfl)
section KX4
variable {p : Program} {l : Launch} {e : Env} {R : Room} {s : State} {m : MethodId} {args : Array Value} {below : List Frame} {meth : Method} {c : Code} {H : Heap} {locs : List Loc} {cells slots : Nat} {Q : State → Prop}
variable {pc : Nat} {ls : Array Slot} {rest : List Value} {cc : ByteArray} {nL : Nat} {rt : Option FieldType} {D : va_G} {A : Nat → Prop} {h : Nat} {ad : Nat → Nat} {dA : Nat → ClassId} {f : Nat → Int32} {g : Nat → Nat → Int32}
theorem k1_readMapPath {leaf n : Nat} {wv : Nat → Int32} {wl : Nat → Nat} (E : ow_E 16 p m meth c cc nL rt s args RX1 D A dA) (w : ow_W 0 16 5 xlen D A h ad dA f g s H locs) (hls : ls.size = nL) (hW : (rest.map fun v => v.category).sum ≤ 8) (hdg : decode cc pc = .ok (.invokevirtual 82, 3)) (hR : (rmD 1).frames + 1 ≤ R.frames ∧ 8 + (5 + 11) + (rmD 1).locals ≤ R.locals) (hcs : cells ≤ R.cells ∧ slots ≤ R.slots) (hX : tM f g n wv wl) (h1 : leaf < 4) (kk : ∀ (f1 : Nat → Int32) (g1 : Nat → Nat → Int32) (H1 : Heap) (locs1 : List Loc), (fun f1 g1 => ∃ n1, tM f1 g1 n1 wv wl ∧ (∀ s, s < 16 → onp2 leaf s → g1 7 s = -1) ∧ (∀ k, k ≠ 7 → k ≠ 10 → k ≠ 11 → k ≠ 12 → g1 k = g k) ∧ f1 0 = f 0 ∧ f1 2 = f 2 ∧ f1 3 = f 3 ∧ f1 4 = f 4) f1 g1 → ow_W 0 16 5 xlen D A h ad dA f1 g1 s H1 locs1 → W p l e R s m args below meth c H1 locs1 cells slots Q (F0 m (pc + 3) ls (rest))) : W p l e R s m args below meth c H locs cells slots Q (F0 m pc ls (.int (nI leaf) :: .ref h :: rest)) :=
  ow_callv xC E w (c1_readMapPath l D h ad dA f g leaf n wv wl hX h1) (cwV 1 E.1.2.2.2.2 (lw_V q65 q67 qs6 q18 q68) rfl rfl rfl (by decide +kernel) hR) rfl hls rfl hW hdg hcs kk
theorem k1_writeMapPath {leaf n : Nat} {wv : Nat → Int32} {wl : Nat → Nat} (E : ow_E 16 p m meth c cc nL rt s args RX1 D A dA) (w : ow_W 0 16 5 xlen D A h ad dA f g s H locs) (hls : ls.size = nL) (hW : (rest.map fun v => v.category).sum ≤ 8) (hdg : decode cc pc = .ok (.invokevirtual 85, 3)) (hR : (rmD 2).frames + 1 ≤ R.frames ∧ 8 + (6 + 11) + (rmD 2).locals ≤ R.locals) (hcs : cells ≤ R.cells ∧ slots ≤ R.slots) (hX : tM f g n wv wl) (h1 : leaf < 4) (kk : ∀ (f1 : Nat → Int32) (g1 : Nat → Nat → Int32) (H1 : Heap) (locs1 : List Loc), (fun f1 g1 => ∃ n1, tM f1 g1 n1 wv wl ∧ (∀ k, k < 7 ∨ 13 ≤ k → g1 k = g k) ∧ f1 0 = f 0 ∧ f1 2 = f 2 ∧ f1 3 = f 3 ∧ f1 4 = f 4) f1 g1 → ow_W 0 16 5 xlen D A h ad dA f1 g1 s H1 locs1 → W p l e R s m args below meth c H1 locs1 cells slots Q (F0 m (pc + 3) ls (rest))) : W p l e R s m args below meth c H locs cells slots Q (F0 m pc ls (.int (nI leaf) :: .ref h :: rest)) :=
  ow_callv xC E w (c1_writeMapPath l D h ad dA f g leaf n wv wl hX h1) (cwV 1 E.1.2.2.2.2 (lw_V q72 q74 qs7 q18 q75) rfl rfl rfl (by decide +kernel) hR) rfl hls rfl hW hdg hcs kk
end KX4
end
section
set_option maxHeartbeats 4000000 in
set_option maxRecDepth 100000 in
theorem c1_leafOf (l : Launch) (D : va_G) (h : Nat) (ad : Nat → Nat) (dA : Nat → ClassId) (f : Nat → Int32) (g : Nat → Nat → Int32) (b : Nat) (x : Int32) (lf lf' : Nat → Nat) (hM : mO f g lf) (h1 : b < 16) (h2 : (x = -1 ∧ lf' = lf) ∨ ∃ nl, nl < 8 ∧ x = nI nl ∧ lf' = va_up lf b nl) : ow_MI 0 16 5 xlen l yX1_leafOf cX1_leafOf 9 .int (rmD 3) D h ad dA [.int (nI b), .int x] f g (fun r f1 g1 => r = nI (lf b) ∧ mO f1 g1 lf' ∧ (∀ k, k < 7 ∨ 14 ≤ k → g1 k = g k) ∧ f1 0 = f 0 ∧ f1 3 = f 3 ∧ f1 4 = f 4) := by
  refine ow_ofI (by decide) (Nat.le_of_ble_eq_true rfl) ?_
  intro p e s m args below meth c A Q ls E w hl ret
  have E : ow_E 16 p m meth c cX1_leafOf 9 (some .int) s args RX1 D A dA := E
  have hx := E.1.1
  have hb := E.1.2.1
  have hl : lv_has ls 9 [(0, .ref h), (1, .int (nI b)), (2, .int x)] := hl
  obtain ⟨n, wv, wl, hT, hwl, hlf⟩ := hM
  refine lv_iload_n hx hb dX1_leafOf_0 rfl (lv_at hl 1 rfl) ?_
  refine lv_iconst (v := nI 2) hx hb dX1_leafOf_1 (by decide) ?_
  refine lv_ishr hx hb dX1_leafOf_2 ?_
  refine ow_top (v := nI (b / 4)) (pk_shrN (by omega) _ 2 (sh_ok 2 (by omega))) ?_
  refine lv_istore_n (lv' := [(3, .int (nI (b / 4))), (0, .ref h), (1, .int (nI b)), (2, .int x)]) hx hb dX1_leafOf_3 rfl hl (by decide) rfl (fun ls hl => ?_)
  refine lv_iconst (v := nI 3) hx hb dX1_leafOf_4 (by decide) ?_
  refine lv_iload_n hx hb dX1_leafOf_5 rfl (lv_at hl 2 rfl) ?_
  refine lv_iconst (v := nI 3) hx hb dX1_leafOf_6 (by decide) ?_
  refine lv_iand hx hb dX1_leafOf_7 ?_
  refine ow_top (v := nI (b % 4)) (pk_andN (by omega) 2 (by decide)) ?_
  refine lv_imul hx hb dX1_leafOf_8 ?_
  refine ow_top (v := nI (3 * (b % 4))) (pk_mul _ _) ?_
  refine lv_istore (lv' := [(4, .int (nI (3 * (b % 4)))), (3, .int (nI (b / 4))), (0, .ref h), (1, .int (nI b)), (2, .int x)]) hx hb dX1_leafOf_9 hl (by decide) rfl (fun ls hl => ?_)
  refine lv_aload_n hx hb dX1_leafOf_11 rfl (lv_at hl 2 rfl) ?_
  refine ow_geta xC E w 13 (by decide) q93 dX1_leafOf_12 ?_
  refine lv_iload_n hx hb dX1_leafOf_15 rfl (lv_at hl 1 rfl) ?_
  refine ow_iald xC E w 13 (by decide) (b / 4) rfl (show _ < _ by first | omega | (simp only [xlen, mlen]; omega)) dX1_leafOf_16 ?_
  refine ow_top (v := nI (wl (b / 4))) (hwl _ (by omega)) ?_
  refine lv_istore (lv' := [(5, .int (nI (wl (b / 4)))), (4, .int (nI (3 * (b % 4)))), (3, .int (nI (b / 4))), (0, .ref h), (1, .int (nI b)), (2, .int x)]) hx hb dX1_leafOf_17 hl (by decide) rfl (fun ls hl => ?_)
  refine lv_aload_n hx hb dX1_leafOf_19 rfl (lv_at hl 3 rfl) ?_
  refine ow_geta xC E w 13 (by decide) q93 dX1_leafOf_20 ?_
  refine lv_iload_n hx hb dX1_leafOf_23 rfl (lv_at hl 2 rfl) ?_
  refine lv_aload_n hx hb dX1_leafOf_24 rfl (lv_at hl 3 rfl) ?_
  refine k1_next E w hl.1 (Nat.le_of_ble_eq_true rfl) dX1_leafOf_25 (by decide) ⟨Nat.zero_le _, Nat.zero_le _⟩  (fun r1 f1 g9 H locs hp w => ?_)
  obtain ⟨⟨x2, ef1⟩, eg9⟩ := hp
  subst g9
  obtain ⟨nw, hnw, enw⟩ := pk_andE r1 (m := nI 3) 2 (by decide)
  refine lv_iconst (v := nI 3) hx hb dX1_leafOf_28 (by decide) ?_
  refine lv_iand hx hb dX1_leafOf_29 ?_
  refine ow_top (v := nI nw) enw ?_
  refine ow_iast xC E w 13 (by decide) (b / 4) rfl (show _ < _ by first | omega | (simp only [xlen, mlen]; omega)) dX1_leafOf_30 (fun g1 H locs eg1 w => ?_)
  refine lv_aload_n hx hb dX1_leafOf_31 rfl (lv_at hl 3 rfl) ?_
  refine lv_iload hx hb dX1_leafOf_32 (lv_at hl 0 rfl) ?_
  have hT1 : tM f1 g1 n wv wl := hT.cg (by rw [ef1]; rfl) (fun k a1 a2 => by rw [eg1]; simp only [va_up, if_neg (show ¬ k = 13 by omega)])
  refine k1_readMapPath E w hl.1 (Nat.le_of_ble_eq_true rfl) dX1_leafOf_34 (by decide) ⟨Nat.zero_le _, Nat.zero_le _⟩ hT1 (hT.2.2 _ (by omega)) (fun f2 g2 H locs hp w => ?_)
  obtain ⟨n2, hT2, hE2, hF2, hf2⟩ := hp
  have hn2 : n2 ≤ 4 := hT2.2.1.1
  have hoff := hT2.2.1.off (by decide) (b := b / 4) (by omega) hE2
  have hone := hT2.2.1.here (b := b / 4) (by omega) hoff
  refine lv_iconst (v := 0) hx hb dX1_leafOf_37 (by decide) ?_
  refine lv_istore (lv' := [(6, .int 0), (5, .int (nI (wl (b / 4)))), (4, .int (nI (3 * (b % 4)))), (3, .int (nI (b / 4))), (0, .ref h), (1, .int (nI b)), (2, .int x)]) hx hb dX1_leafOf_38 hl (by decide) rfl (fun ls hl => ?_)
  refine lv_iconst (v := nI 0) hx hb dX1_leafOf_40 (by decide) ?_
  refine lv_istore (lv' := [(7, .int (nI 0)), (6, .int 0), (5, .int (nI (wl (b / 4)))), (4, .int (nI (3 * (b % 4)))), (3, .int (nI (b / 4))), (0, .ref h), (1, .int (nI b)), (2, .int x)]) hx hb dX1_leafOf_41 hl (by decide) rfl (fun ls hl => ?_)
  have loop : ∀ (k i : Nat), i ≤ n2 → n2 < i + k → ∀ (g3 : Nat → Nat → Int32) (y : Int32), (∀ k, k ≠ 11 → k ≠ 12 → g3 k = g2 k) → chL (g2 10) (g2 11) (g2 12) (g3 11) (g3 12) (nI (b / 4)) i (nvw x (nI (3 * (b % 4))) (wv (b / 4))) (nI nw) → (y = if 0 < cn (g2 10) (nI (b / 4)) i then nI (lf b) else 0) → ∀ (H : Heap) (locs : List Loc) (ls : Array Slot), ow_W 0 16 5 xlen D A h ad dA f2 g3 s H locs → lv_has ls 9 [(0, .ref h), (1, .int (nI b)), (2, .int x), (3, .int (nI (b / 4))), (4, .int (nI (3 * (b % 4)))), (5, .int (nI (wl (b / 4)))), (6, .int y), (7, .int (nI i))] → W p l e (rmD 3) s m args below meth c H locs 0 0 Q (F0 m 43 ls []) := by
    intro k
    induction k with
    | zero => intro i hi hk; exact absurd hk (by omega)
    | succ k ih =>
      intro i hi hk g3 y hF3 hC hy H locs ls w hl
      refine lv_iload hx hb dX1_leafOf_43 (lv_at hl 7 rfl) ?_
      refine lv_aload_n hx hb dX1_leafOf_45 rfl (lv_at hl 0 rfl) ?_
      refine ow_geti xC E w 1 17 rfl (by decide) q97 dX1_leafOf_46 ?_
      refine ow_top (v := nI n2) (hT2.1) ?_
      refine ow_ge (i) (n2) (by omega) (by omega) (tgt := 128) hx hb dX1_leafOf_49 (by decide) (fun c49 => ?_) (fun c49 => ?_)
      · have ei : i = n2 := by omega
        subst ei
        rw [hone, if_pos (by omega)] at hy
        have hT3 : tM f2 g3 i (upd wv (b / 4) (nvw x (nI (3 * (b % 4))) (wv (b / 4)))) (va_up wl (b / 4) nw) := by
          have q := hT2.2.1.chg (by decide) (b := b / 4) (v := nvw x (nI (3 * (b % 4))) (wv (b / 4))) (nl := nw) (sc' := g3 11) (st' := g3 12) (by omega) hoff (fun j hj => by rw [hC.1 j]; simp only [hj, true_and]) (fun j hj => by rw [hC.2 j]; simp only [hj, true_and])
          refine ⟨hT2.1, ?_, fun w hw => ?_⟩
          · rw [hF3 7 (by decide) (by decide), hF3 8 (by decide) (by decide), hF3 9 (by decide) (by decide), hF3 10 (by decide) (by decide)]
            exact q
          · show (if w = b / 4 then nw else wl w) < 4
            by_cases q : w = b / 4
            · rw [if_pos q]; exact hnw
            · rw [if_neg q]; exact hT.2.2 w hw
        refine lv_aload_n hx hb dX1_leafOf_128 rfl (lv_at hl 0 rfl) ?_
        refine lv_iload hx hb dX1_leafOf_129 (lv_at hl 5 rfl) ?_
        refine k1_writeMapPath E w hl.1 (Nat.le_of_ble_eq_true rfl) dX1_leafOf_131 (by decide) ⟨Nat.zero_le _, Nat.zero_le _⟩ hT3 (hT.2.2 _ (by omega)) (fun f4 g4 H locs hp w => ?_)
        obtain ⟨n4, hT4, hF4, hf4⟩ := hp
        refine lv_iload hx hb dX1_leafOf_134 (lv_at hl 6 rfl) ?_
        have hk : ∀ k, k < 7 ∨ 14 ≤ k → g4 k = g k := by
          intro k hk
          rw [hF4 k (by omega), hF3 k (by omega) (by omega), hF2 k (by omega) (by omega) (by omega) (by omega), eg1]
          simp only [va_up, if_neg (show ¬ k = 13 by omega)]
        have h13 : g4 13 = upd (g 13) (b / 4) (nI nw) := by
          rw [hF4 13 (by omega), hF3 13 (by omega) (by omega), hF2 13 (by omega) (by omega) (by omega) (by omega), eg1]
          rfl
        refine ret dX1_leafOf_136 rfl ⟨hy, ⟨n4, _, _, hT4, fun w hw => ?_, ?_⟩, hk, by rw [hf4.1, hf2.1, ef1]; rfl, by rw [hf4.2.2.1, hf2.2.2.1, ef1]; rfl, by rw [hf4.2.2.2, hf2.2.2.2, ef1]; rfl⟩ w
        · rw [h13]
          show _ = nI (if w = b / 4 then nw else wl w)
          by_cases q : w = b / 4
          · rw [if_pos q, q, pk_us]
          · rw [if_neg q, pk_un q]; exact hwl w hw
        · rcases h2 with ⟨e1, e2⟩ | ⟨nl, e0, e1, e2⟩
          · rw [e1, e2]
            have q : nvw (-1) (nI (3 * (b % 4))) (wv (b / 4)) = wv (b / 4) := if_pos rfl
            rw [q, upd_same]
            exact hlf
          · rw [e1, e2]
            exact lfW_put hlf h1 e0
      · refine lv_aload_n hx hb dX1_leafOf_52 rfl (lv_at hl 0 rfl) ?_
        refine ow_geta xC E w 10 (by decide) q90 dX1_leafOf_53 ?_
        refine lv_iload hx hb dX1_leafOf_56 (lv_at hl 7 rfl) ?_
        refine ow_iald xC E w 10 (by decide) (i) rfl (show _ < _ by first | omega | (simp only [xlen, mlen]; omega)) dX1_leafOf_58 ?_
        refine lv_iload_n hx hb dX1_leafOf_59 rfl (lv_at hl 3 rfl) ?_
        refine lv_icmp_ne (tgt := 122) hx hb dX1_leafOf_60 (by decide) (fun c60 => ?_) (fun c60 => ?_)
        · refine lv_iinc (v := nI (i + 1)) (lv' := [(7, .int (nI (i + 1))), (0, .ref h), (1, .int (nI b)), (2, .int x), (3, .int (nI (b / 4))), (4, .int (nI (3 * (b % 4)))), (5, .int (nI (wl (b / 4)))), (6, .int y)]) hx hb dX1_leafOf_122 hl (k := 7) rfl (nI_1 _) (by decide) rfl (fun ls hl => ?_)
          refine lv_goto (tgt := 43) hx hb dX1_leafOf_125 (by decide) ?_
          have hne : g2 10 i ≠ nI (b / 4) := by rw [← hF3 10 (by decide) (by decide)]; exact c60
          exact ih (i + 1) (by omega) (by omega) g3 y hF3 (hC.skip hne) (cn_y hy hne) H locs ls w (lv_sub hl [1, 2, 3, 4, 5, 6, 7, 0] rfl)
        · have heq : g2 10 i = nI (b / 4) := by rw [← hF3 10 (by decide) (by decide)]; exact c60
          have hwd : g3 11 i = wv (b / 4) := by rw [hC.cell]; exact (hT2.2.1.at (by decide) (b := b / 4) (by omega) c49 heq).1
          refine lv_aload_n hx hb dX1_leafOf_63 rfl (lv_at hl 0 rfl) ?_
          refine ow_geta xC E w 11 (by decide) q91 dX1_leafOf_64 ?_
          refine lv_iload hx hb dX1_leafOf_67 (lv_at hl 7 rfl) ?_
          refine ow_iald xC E w 11 (by decide) (i) rfl (show _ < _ by first | omega | (simp only [xlen, mlen]; omega)) dX1_leafOf_69 ?_
          refine ow_top (v := wv (b / 4)) hwd ?_
          refine lv_istore (lv' := [(8, .int (wv (b / 4))), (0, .ref h), (1, .int (nI b)), (2, .int x), (3, .int (nI (b / 4))), (4, .int (nI (3 * (b % 4)))), (5, .int (nI (wl (b / 4)))), (6, .int y), (7, .int (nI i))]) hx hb dX1_leafOf_70 hl (by decide) rfl (fun ls hl => ?_)
          refine lv_iload hx hb dX1_leafOf_72 (lv_at hl 0 rfl) ?_
          refine lv_iload hx hb dX1_leafOf_74 (lv_at hl 5 rfl) ?_
          refine lv_ishr hx hb dX1_leafOf_76 ?_
          refine lv_bipush (v := nI 7) hx hb dX1_leafOf_77 (by decide) ?_
          refine lv_iand hx hb dX1_leafOf_79 ?_
          refine ow_top (v := nI (lf b)) (hlf b h1) ?_
          refine lv_istore (lv' := [(6, .int (nI (lf b))), (8, .int (wv (b / 4))), (0, .ref h), (1, .int (nI b)), (2, .int x), (3, .int (nI (b / 4))), (4, .int (nI (3 * (b % 4)))), (5, .int (nI (wl (b / 4)))), (7, .int (nI i))]) hx hb dX1_leafOf_80 hl (by decide) rfl (fun ls hl => ?_)
          refine lv_iload_n hx hb dX1_leafOf_82 rfl (lv_at hl 4 rfl) ?_
          refine lv_iconst (v := (-1)) hx hb dX1_leafOf_83 (by decide) ?_
          refine lv_icmp_eq (tgt := 109) hx hb dX1_leafOf_84 (by decide) (fun c84 => ?_) (fun c84 => ?_)
          · refine lv_aload_n hx hb dX1_leafOf_109 rfl (lv_at hl 2 rfl) ?_
            refine ow_geta xC E w 12 (by decide) q92 dX1_leafOf_110 ?_
            refine lv_iload hx hb dX1_leafOf_113 (lv_at hl 8 rfl) ?_
            refine lv_aload_n hx hb dX1_leafOf_115 rfl (lv_at hl 2 rfl) ?_
            refine ow_geta xC E w 13 (by decide) q93 dX1_leafOf_116 ?_
            refine lv_iload_n hx hb dX1_leafOf_119 rfl (lv_at hl 5 rfl) ?_
            refine ow_iald xC E w 13 (by decide) (b / 4) rfl (show _ < _ by first | omega | (simp only [xlen, mlen]; omega)) dX1_leafOf_120 ?_
            refine ow_top (v := nI nw) (by rw [hF3 13 (by decide) (by decide), hF2 13 (by decide) (by decide) (by decide) (by decide), eg1]; exact pk_us) ?_
            refine ow_iast xC E w 12 (by decide) (i) rfl (show _ < _ by first | omega | (simp only [xlen, mlen]; omega)) dX1_leafOf_121 (fun g6 H locs eg6 w => ?_)
            refine lv_iinc (v := nI (i + 1)) (lv' := [(7, .int (nI (i + 1))), (6, .int (nI (lf b))), (8, .int (wv (b / 4))), (0, .ref h), (1, .int (nI b)), (2, .int x), (3, .int (nI (b / 4))), (4, .int (nI (3 * (b % 4)))), (5, .int (nI (wl (b / 4))))]) hx hb dX1_leafOf_122 hl (k := 8) rfl (nI_1 _) (by decide) rfl (fun ls hl => ?_)
            refine lv_goto (tgt := 43) hx hb dX1_leafOf_125 (by decide) ?_
            have hF6 : ∀ k, k ≠ 11 → k ≠ 12 → g6 k = g2 k := by
              intro k k1 k2
              rw [eg6]
              simp only [va_up, if_neg k1, if_neg k2]
              exact hF3 k k1 k2
            have hC6 : chL (g2 10) (g2 11) (g2 12) (g6 11) (g6 12) (nI (b / 4)) (i + 1) (nvw x (nI (3 * (b % 4))) (wv (b / 4))) (nI nw) := by
              rw [eg6]
              exact hC.hit2 heq (by rw [hwd, c84]; rfl)
            exact ih (i + 1) (by omega) (by omega) g6 (nI (lf b)) hF6 hC6 (cn_yh heq) H locs ls w (lv_sub hl [3, 4, 5, 6, 7, 8, 1, 0] rfl)
          · refine lv_aload_n hx hb dX1_leafOf_87 rfl (lv_at hl 2 rfl) ?_
            refine ow_geta xC E w 11 (by decide) q91 dX1_leafOf_88 ?_
            refine lv_iload hx hb dX1_leafOf_91 (lv_at hl 8 rfl) ?_
            refine lv_iload hx hb dX1_leafOf_93 (lv_at hl 1 rfl) ?_
            refine lv_bipush (v := nI 7) hx hb dX1_leafOf_95 (by decide) ?_
            refine lv_iload hx hb dX1_leafOf_97 (lv_at hl 6 rfl) ?_
            refine lv_ishl hx hb dX1_leafOf_99 ?_
            refine lv_iconst (v := (-1)) hx hb dX1_leafOf_100 (by decide) ?_
            refine lv_ixor hx hb dX1_leafOf_101 ?_
            refine lv_iand hx hb dX1_leafOf_102 ?_
            refine lv_iload_n hx hb dX1_leafOf_103 rfl (lv_at hl 4 rfl) ?_
            refine lv_iload hx hb dX1_leafOf_104 (lv_at hl 6 rfl) ?_
            refine lv_ishl hx hb dX1_leafOf_106 ?_
            refine lv_ior hx hb dX1_leafOf_107 ?_
            refine ow_iast xC E w 11 (by decide) (i) rfl (show _ < _ by first | omega | (simp only [xlen, mlen]; omega)) dX1_leafOf_108 (fun g5 H locs eg5 w => ?_)
            refine lv_aload_n hx hb dX1_leafOf_109 rfl (lv_at hl 2 rfl) ?_
            refine ow_geta xC E w 12 (by decide) q92 dX1_leafOf_110 ?_
            refine lv_iload hx hb dX1_leafOf_113 (lv_at hl 8 rfl) ?_
            refine lv_aload_n hx hb dX1_leafOf_115 rfl (lv_at hl 2 rfl) ?_
            refine ow_geta xC E w 13 (by decide) q93 dX1_leafOf_116 ?_
            refine lv_iload_n hx hb dX1_leafOf_119 rfl (lv_at hl 5 rfl) ?_
            refine ow_iald xC E w 13 (by decide) (b / 4) rfl (show _ < _ by first | omega | (simp only [xlen, mlen]; omega)) dX1_leafOf_120 ?_
            refine ow_top (v := nI nw) (by rw [eg5, show va_up g3 11 _ 13 = g3 13 from rfl, hF3 13 (by decide) (by decide), hF2 13 (by decide) (by decide) (by decide) (by decide), eg1]; exact pk_us) ?_
            refine ow_iast xC E w 12 (by decide) (i) rfl (show _ < _ by first | omega | (simp only [xlen, mlen]; omega)) dX1_leafOf_121 (fun g6 H locs eg6 w => ?_)
            refine lv_iinc (v := nI (i + 1)) (lv' := [(7, .int (nI (i + 1))), (6, .int (nI (lf b))), (8, .int (wv (b / 4))), (0, .ref h), (1, .int (nI b)), (2, .int x), (3, .int (nI (b / 4))), (4, .int (nI (3 * (b % 4)))), (5, .int (nI (wl (b / 4))))]) hx hb dX1_leafOf_122 hl (k := 8) rfl (nI_1 _) (by decide) rfl (fun ls hl => ?_)
            refine lv_goto (tgt := 43) hx hb dX1_leafOf_125 (by decide) ?_
            have hF6 : ∀ k, k ≠ 11 → k ≠ 12 → g6 k = g2 k := by
              intro k k1 k2
              rw [eg6, eg5]
              simp only [va_up, if_neg k1, if_neg k2]
              exact hF3 k k1 k2
            have hC6 : chL (g2 10) (g2 11) (g2 12) (g6 11) (g6 12) (nI (b / 4)) (i + 1) (nvw x (nI (3 * (b % 4))) (wv (b / 4))) (nI nw) := by
              have q := hC.hit heq
              rw [show nvw x (nI (3 * (b % 4))) (wv (b / 4)) = _ from if_neg c84] at q ⊢
              rw [eg6, eg5]
              exact q
            exact ih (i + 1) (by omega) (by omega) g6 (nI (lf b)) hF6 hC6 (cn_yh heq) H locs ls w (lv_sub hl [3, 4, 5, 6, 7, 8, 1, 0] rfl)
  exact loop (n2 + 1) 0 (by omega) (by omega) g2 0 (fun _ _ _ => rfl) chL.zero rfl _ _ ls w (lv_sub hl [5, 6, 7, 4, 3, 2, 1, 0] rfl)
section KX5
variable {p : Program} {l : Launch} {e : Env} {R : Room} {s : State} {m : MethodId} {args : Array Value} {below : List Frame} {meth : Method} {c : Code} {H : Heap} {locs : List Loc} {cells slots : Nat} {Q : State → Prop}
variable {pc : Nat} {ls : Array Slot} {rest : List Value} {cc : ByteArray} {nL : Nat} {rt : Option FieldType} {D : va_G} {A : Nat → Prop} {h : Nat} {ad : Nat → Nat} {dA : Nat → ClassId} {f : Nat → Int32} {g : Nat → Nat → Int32}
theorem k1_leafOf {b : Nat} {x : Int32} {lf lf' : Nat → Nat} (E : ow_E 16 p m meth c cc nL rt s args RX1 D A dA) (w : ow_W 0 16 5 xlen D A h ad dA f g s H locs) (hls : ls.size = nL) (hW : (rest.map fun v => v.category).sum ≤ 8) (hdg : decode cc pc = .ok (.invokevirtual 106, 3)) (hR : (rmD 3).frames + 1 ≤ R.frames ∧ 8 + (9 + 11) + (rmD 3).locals ≤ R.locals) (hcs : cells ≤ R.cells ∧ slots ≤ R.slots) (hM : mO f g lf) (h1 : b < 16) (h2 : (x = -1 ∧ lf' = lf) ∨ ∃ nl, nl < 8 ∧ x = nI nl ∧ lf' = va_up lf b nl) (kk : ∀ (r : Int32) (f1 : Nat → Int32) (g1 : Nat → Nat → Int32) (H1 : Heap) (locs1 : List Loc), (fun r f1 g1 => r = nI (lf b) ∧ mO f1 g1 lf' ∧ (∀ k, k < 7 ∨ 14 ≤ k → g1 k = g k) ∧ f1 0 = f 0 ∧ f1 3 = f 3 ∧ f1 4 = f 4) r f1 g1 → ow_W 0 16 5 xlen D A h ad dA f1 g1 s H1 locs1 → W p l e R s m args below meth c H1 locs1 cells slots Q (F0 m (pc + 3) ls (.int r :: rest))) : W p l e R s m args below meth c H locs cells slots Q (F0 m pc ls (.int x :: .int (nI b) :: .ref h :: rest)) :=
  ow_calli xC E w (c1_leafOf l D h ad dA f g b x lf lf' hM h1 h2) (cwV 2 E.1.2.2.2.2 (lw_V q157 q159 qs10 q18 q160) rfl rfl rfl (by decide +kernel) hR) rfl hls rfl hW hdg hcs kk
end KX5
end
section
set_option maxHeartbeats 4000000 in
set_option maxRecDepth 100000 in
theorem c1_access (l : Launch) (D : va_G) (h : Nat) (ad : Nat → Nat) (dA : Nat → ClassId) (f : Nat → Int32) (g : Nat → Nat → Int32) (b : Nat) (x v : Int32) (val : Nat → Int32) (hO : oI f g val) (h1 : b < 16) : ow_MI 0 16 5 xlen l yX1_access cX1_access 8 .int (rmD 4) D h ad dA [.int (nI b), .int x, .int v] f g (fun r f1 g1 => r = val b ∧ oI f1 g1 (upd val b (if x = 0 then val b else v)) ∧ g1 14 = g 14 ∧ g1 15 = g 15 ∧ f1 4 = nI 4) := by
  refine ow_ofI (by decide) (Nat.le_of_ble_eq_true rfl) ?_
  intro p e s m args below meth c A Q ls E w hl ret
  have E : ow_E 16 p m meth c cX1_access 8 (some .int) s args RX1 D A dA := E
  have hx := E.1.1
  have hb := E.1.2.1
  have hl : lv_has ls 8 [(0, .ref h), (1, .int (nI b)), (2, .int x), (3, .int v)] := hl
  obtain ⟨n, lf, hX, hM⟩ := hO
  refine lv_aload_n hx hb dX1_access_0 rfl (lv_at hl 0 rfl) ?_
  refine k1_next E w hl.1 (Nat.le_of_ble_eq_true rfl) dX1_access_1 (by decide) ⟨Nat.zero_le _, Nat.zero_le _⟩  (fun r1 f1 g9 H locs hp w => ?_)
  obtain ⟨⟨x2, ef1⟩, eg9⟩ := hp
  subst g9
  obtain ⟨nl, hnl, enl⟩ := pk_andE r1 (m := nI 7) 3 (by decide)
  refine lv_bipush (v := nI 7) hx hb dX1_access_4 (by decide) ?_
  refine lv_iand hx hb dX1_access_6 ?_
  refine ow_top (v := nI nl) enl ?_
  refine lv_istore (lv' := [(4, .int (nI nl)), (0, .ref h), (1, .int (nI b)), (2, .int x), (3, .int v)]) hx hb dX1_access_7 hl (by decide) rfl (fun ls hl => ?_)
  refine lv_aload_n hx hb dX1_access_9 rfl (lv_at hl 1 rfl) ?_
  refine lv_iload_n hx hb dX1_access_10 rfl (lv_at hl 2 rfl) ?_
  refine lv_iload hx hb dX1_access_11 (lv_at hl 0 rfl) ?_
  have hM1 : mO f1 g lf := hM.cg (by rw [ef1]; rfl) (fun _ _ _ => rfl)
  refine k1_leafOf E w hl.1 (Nat.le_of_ble_eq_true rfl) dX1_access_13 (by decide) ⟨Nat.zero_le _, Nat.zero_le _⟩ hM1 h1 (Or.inr ⟨nl, hnl, rfl, rfl⟩) (fun r2 f2 g2 H locs hp w => ?_)
  obtain ⟨er2, hM2, hF2, hf2⟩ := hp
  refine ow_top (v := nI (lf b)) er2 ?_
  refine lv_istore (lv' := [(5, .int (nI (lf b))), (4, .int (nI nl)), (0, .ref h), (1, .int (nI b)), (2, .int x), (3, .int v)]) hx hb dX1_access_16 hl (by decide) rfl (fun ls hl => ?_)
  refine lv_aload_n hx hb dX1_access_18 rfl (lv_at hl 2 rfl) ?_
  refine lv_iconst (v := nI 0) hx hb dX1_access_19 (by decide) ?_
  refine ow_puti xC E w 4 20 rfl (by decide) rfl rfl rfl q100 dX1_access_20 (fun f3 H locs ef3 w => ?_)
  refine lv_aload_n hx hb dX1_access_23 rfl (lv_at hl 2 rfl) ?_
  refine lv_iload hx hb dX1_access_24 (lv_at hl 0 rfl) ?_
  have hX3 : tX f3 g2 n val lf := hX.cg (by rw [ef3]; show f2 0 = _; rw [hf2.1, ef1]; rfl) (by rw [ef3]; show f2 3 = _; rw [hf2.2.1, ef1]; rfl) (fun k hk => hF2 k (by omega))
  refine k1_readPath E w hl.1 (Nat.le_of_ble_eq_true rfl) dX1_access_26 (by decide) ⟨Nat.zero_le _, Nat.zero_le _⟩ hX3 (hX.2.2 b h1) (fun f4 g4 H locs hp w => ?_)
  obtain ⟨n4, hX4, hE4, hF4, hf4⟩ := hp
  have hn4 : n4 ≤ 16 := hX4.2.1.1
  have hoff := hX4.2.1.off (by decide) h1 hE4
  have hone := hX4.2.1.here h1 hoff
  refine lv_iconst (v := 0) hx hb dX1_access_29 (by decide) ?_
  refine lv_istore (lv' := [(6, .int 0), (5, .int (nI (lf b))), (4, .int (nI nl)), (0, .ref h), (1, .int (nI b)), (2, .int x), (3, .int v)]) hx hb dX1_access_30 hl (by decide) rfl (fun ls hl => ?_)
  refine lv_iconst (v := nI 0) hx hb dX1_access_32 (by decide) ?_
  refine lv_istore (lv' := [(7, .int (nI 0)), (6, .int 0), (5, .int (nI (lf b))), (4, .int (nI nl)), (0, .ref h), (1, .int (nI b)), (2, .int x), (3, .int v)]) hx hb dX1_access_33 hl (by decide) rfl (fun ls hl => ?_)
  have loop : ∀ (k i : Nat), i ≤ n4 → n4 < i + k → ∀ (g5 : Nat → Nat → Int32) (y : Int32), (∀ k, k ≠ 5 → k ≠ 6 → g5 k = g4 k) → chL (g4 4) (g4 5) (g4 6) (g5 5) (g5 6) (nI b) i (if x = 0 then val b else v) (nI nl) → (y = if 0 < cn (g4 4) (nI b) i then val b else 0) → ∀ (H : Heap) (locs : List Loc) (ls : Array Slot), ow_W 0 16 5 xlen D A h ad dA f4 g5 s H locs → lv_has ls 8 [(0, .ref h), (1, .int (nI b)), (2, .int x), (3, .int v), (4, .int (nI nl)), (5, .int (nI (lf b))), (6, .int y), (7, .int (nI i))] → W p l e (rmD 4) s m args below meth c H locs 0 0 Q (F0 m 35 ls []) := by
    intro k
    induction k with
    | zero => intro i hi hk; exact absurd hk (by omega)
    | succ k ih =>
      intro i hi hk g5 y hF5 hC hy H locs ls w hl
      refine lv_iload hx hb dX1_access_35 (lv_at hl 7 rfl) ?_
      refine lv_aload_n hx hb dX1_access_37 rfl (lv_at hl 0 rfl) ?_
      refine ow_geti xC E w 0 16 rfl (by decide) q96 dX1_access_38 ?_
      refine ow_top (v := nI n4) (hX4.1) ?_
      refine ow_ge (i) (n4) (by omega) (by omega) (tgt := 96) hx hb dX1_access_41 (by decide) (fun c41 => ?_) (fun c41 => ?_)
      · have ei : i = n4 := by omega
        subst ei
        rw [hone, if_pos (by omega)] at hy
        have hX5 : tX f4 g5 i (upd val b (if x = 0 then val b else v)) (va_up lf b nl) := by
          have q := hX4.2.1.chg (by decide) (v := if x = 0 then val b else v) (nl := nl) (sc' := g5 5) (st' := g5 6) h1 hoff (fun j hj => by rw [hC.1 j]; simp only [hj, true_and]) (fun j hj => by rw [hC.2 j]; simp only [hj, true_and])
          refine ⟨hX4.1, ?_, fun w hw => ?_⟩
          · rw [hF5 0 (by decide) (by decide), hF5 1 (by decide) (by decide), hF5 2 (by decide) (by decide), hF5 3 (by decide) (by decide), hF5 4 (by decide) (by decide)]
            exact q
          · show (if w = b then nl else lf w) < 8
            by_cases q : w = b
            · rw [if_pos q]; exact hnl
            · rw [if_neg q]; exact hX.2.2 w hw
        refine lv_aload_n hx hb dX1_access_96 rfl (lv_at hl 0 rfl) ?_
        refine lv_iload hx hb dX1_access_97 (lv_at hl 5 rfl) ?_
        refine k1_writePath E w hl.1 (Nat.le_of_ble_eq_true rfl) dX1_access_99 (by decide) ⟨Nat.zero_le _, Nat.zero_le _⟩ hX5 (hX.2.2 b h1) (fun s hs hp => by rw [hF5 0 (by decide) (by decide)]; exact hE4 s hs hp) (fun f6 g6 H locs hp w => ?_)
        obtain ⟨n6, hX6, hF6, hf6⟩ := hp
        refine lv_iload hx hb dX1_access_102 (lv_at hl 6 rfl) ?_
        have hk : ∀ k, 7 ≤ k → g6 k = g2 k := by
          intro k hk
          rw [hF6 k hk, hF5 k (by omega) (by omega), hF4 k (by omega) (by omega) (by omega) (by omega)]
        refine ret dX1_access_104 rfl ⟨hy, ⟨n6, _, hX6, hM2.cg ?_ (fun k a1 a2 => hk k a1)⟩, by rw [hk 14 (by omega), hF2 14 (by omega)], by rw [hk 15 (by omega), hF2 15 (by omega)], ?_⟩ w
        · rw [hf6.1, hf4.1, ef3]; rfl
        · rw [hf6.2.2, hf4.2.2.2, ef3]
          show nI 0 + nI 4 = nI 4
          rw [nI_add]
      · refine lv_aload_n hx hb dX1_access_44 rfl (lv_at hl 0 rfl) ?_
        refine ow_geta xC E w 4 (by decide) q84 dX1_access_45 ?_
        refine lv_iload hx hb dX1_access_48 (lv_at hl 7 rfl) ?_
        refine ow_iald xC E w 4 (by decide) (i) rfl (show _ < _ by first | omega | (simp only [xlen, mlen]; omega)) dX1_access_50 ?_
        refine lv_iload_n hx hb dX1_access_51 rfl (lv_at hl 1 rfl) ?_
        refine lv_icmp_ne (tgt := 90) hx hb dX1_access_52 (by decide) (fun c52 => ?_) (fun c52 => ?_)
        · refine lv_iinc (v := nI (i + 1)) (lv' := [(7, .int (nI (i + 1))), (0, .ref h), (1, .int (nI b)), (2, .int x), (3, .int v), (4, .int (nI nl)), (5, .int (nI (lf b))), (6, .int y)]) hx hb dX1_access_90 hl (k := 7) rfl (nI_1 _) (by decide) rfl (fun ls hl => ?_)
          refine lv_goto (tgt := 35) hx hb dX1_access_93 (by decide) ?_
          have hne : g4 4 i ≠ nI b := by rw [← hF5 4 (by decide) (by decide)]; exact c52
          exact ih (i + 1) (by omega) (by omega) g5 y hF5 (hC.skip hne) (cn_y hy hne) H locs ls w (lv_sub hl [1, 2, 3, 4, 5, 6, 7, 0] rfl)
        · have heq : g4 4 i = nI b := by rw [← hF5 4 (by decide) (by decide)]; exact c52
          have hwd : g5 5 i = val b := by rw [hC.cell]; exact (hX4.2.1.at (by decide) h1 c41 heq).1
          refine lv_aload_n hx hb dX1_access_55 rfl (lv_at hl 0 rfl) ?_
          refine ow_geta xC E w 5 (by decide) q85 dX1_access_56 ?_
          refine lv_iload hx hb dX1_access_59 (lv_at hl 7 rfl) ?_
          refine ow_iald xC E w 5 (by decide) (i) rfl (show _ < _ by first | omega | (simp only [xlen, mlen]; omega)) dX1_access_61 ?_
          refine ow_top (v := val b) hwd ?_
          refine lv_istore (lv' := [(6, .int (val b)), (0, .ref h), (1, .int (nI b)), (2, .int x), (3, .int v), (4, .int (nI nl)), (5, .int (nI (lf b))), (7, .int (nI i))]) hx hb dX1_access_62 hl (by decide) rfl (fun ls hl => ?_)
          refine lv_aload_n hx hb dX1_access_64 rfl (lv_at hl 1 rfl) ?_
          refine ow_geta xC E w 5 (by decide) q85 dX1_access_65 ?_
          refine lv_iload hx hb dX1_access_68 (lv_at hl 7 rfl) ?_
          refine lv_iload_n hx hb dX1_access_70 rfl (lv_at hl 3 rfl) ?_
          refine lv_if_eq (tgt := 78) hx hb dX1_access_71 (by decide) (fun c71 => ?_) (fun c71 => ?_)
          · refine lv_iload hx hb dX1_access_78 (lv_at hl 0 rfl) ?_
            refine ow_iast xC E w 5 (by decide) (i) rfl (show _ < _ by first | omega | (simp only [xlen, mlen]; omega)) dX1_access_80 (fun g6 H locs eg6 w => ?_)
            refine lv_aload_n hx hb dX1_access_81 rfl (lv_at hl 1 rfl) ?_
            refine ow_geta xC E w 6 (by decide) q86 dX1_access_82 ?_
            refine lv_iload hx hb dX1_access_85 (lv_at hl 7 rfl) ?_
            refine lv_iload hx hb dX1_access_87 (lv_at hl 5 rfl) ?_
            refine ow_iast xC E w 6 (by decide) (i) rfl (show _ < _ by first | omega | (simp only [xlen, mlen]; omega)) dX1_access_89 (fun g7 H locs eg7 w => ?_)
            refine lv_iinc (v := nI (i + 1)) (lv' := [(7, .int (nI (i + 1))), (6, .int (val b)), (0, .ref h), (1, .int (nI b)), (2, .int x), (3, .int v), (4, .int (nI nl)), (5, .int (nI (lf b)))]) hx hb dX1_access_90 hl (k := 7) rfl (nI_1 _) (by decide) rfl (fun ls hl => ?_)
            refine lv_goto (tgt := 35) hx hb dX1_access_93 (by decide) ?_
            have hF7 : ∀ k, k ≠ 5 → k ≠ 6 → g7 k = g4 k := by
              intro k k1 k2
              rw [eg7, eg6]
              simp only [va_up, if_neg k1, if_neg k2]
              exact hF5 k k1 k2
            have hC7 : chL (g4 4) (g4 5) (g4 6) (g7 5) (g7 6) (nI b) (i + 1) (if x = 0 then val b else v) (nI nl) := by
              have q := hC.hit heq
              rw [if_pos c71] at q ⊢
              rw [eg7, eg6]
              exact q
            exact ih (i + 1) (by omega) (by omega) g7 (val b) hF7 hC7 (cn_yh heq) H locs ls w (lv_sub hl [2, 3, 4, 5, 6, 7, 1, 0] rfl)
          · refine lv_iload_n hx hb dX1_access_74 rfl (lv_at hl 4 rfl) ?_
            refine lv_goto (tgt := 80) hx hb dX1_access_75 (by decide) ?_
            refine ow_iast xC E w 5 (by decide) (i) rfl (show _ < _ by first | omega | (simp only [xlen, mlen]; omega)) dX1_access_80 (fun g6 H locs eg6 w => ?_)
            refine lv_aload_n hx hb dX1_access_81 rfl (lv_at hl 1 rfl) ?_
            refine ow_geta xC E w 6 (by decide) q86 dX1_access_82 ?_
            refine lv_iload hx hb dX1_access_85 (lv_at hl 7 rfl) ?_
            refine lv_iload hx hb dX1_access_87 (lv_at hl 5 rfl) ?_
            refine ow_iast xC E w 6 (by decide) (i) rfl (show _ < _ by first | omega | (simp only [xlen, mlen]; omega)) dX1_access_89 (fun g7 H locs eg7 w => ?_)
            refine lv_iinc (v := nI (i + 1)) (lv' := [(7, .int (nI (i + 1))), (6, .int (val b)), (0, .ref h), (1, .int (nI b)), (2, .int x), (3, .int v), (4, .int (nI nl)), (5, .int (nI (lf b)))]) hx hb dX1_access_90 hl (k := 7) rfl (nI_1 _) (by decide) rfl (fun ls hl => ?_)
            refine lv_goto (tgt := 35) hx hb dX1_access_93 (by decide) ?_
            have hF7 : ∀ k, k ≠ 5 → k ≠ 6 → g7 k = g4 k := by
              intro k k1 k2
              rw [eg7, eg6]
              simp only [va_up, if_neg k1, if_neg k2]
              exact hF5 k k1 k2
            have hC7 : chL (g4 4) (g4 5) (g4 6) (g7 5) (g7 6) (nI b) (i + 1) (if x = 0 then val b else v) (nI nl) := by
              have q := hC.hit heq
              rw [if_neg c71] at q ⊢
              rw [eg7, eg6]
              exact q
            exact ih (i + 1) (by omega) (by omega) g7 (val b) hF7 hC7 (cn_yh heq) H locs ls w (lv_sub hl [2, 3, 4, 5, 6, 7, 1, 0] rfl)
  exact loop (n4 + 1) 0 (by omega) (by omega) g4 0 (fun _ _ _ => rfl) chL.zero rfl _ _ ls w (lv_sub hl [4, 5, 6, 7, 3, 2, 1, 0] rfl)
section KX6
variable {p : Program} {l : Launch} {e : Env} {R : Room} {s : State} {m : MethodId} {args : Array Value} {below : List Frame} {meth : Method} {c : Code} {H : Heap} {locs : List Loc} {cells slots : Nat} {Q : State → Prop}
variable {pc : Nat} {ls : Array Slot} {rest : List Value} {cc : ByteArray} {nL : Nat} {rt : Option FieldType} {D : va_G} {A : Nat → Prop} {h : Nat} {ad : Nat → Nat} {dA : Nat → ClassId} {f : Nat → Int32} {g : Nat → Nat → Int32}
theorem k1_access {b : Nat} {x v : Int32} {val : Nat → Int32} (E : ow_E 16 p m meth c cc nL rt s args RX1 D A dA) (w : ow_W 0 16 5 xlen D A h ad dA f g s H locs) (hls : ls.size = nL) (hW : (rest.map fun v => v.category).sum ≤ 8) (hdg : decode cc pc = .ok (.invokevirtual 99, 3)) (hR : (rmD 4).frames + 1 ≤ R.frames ∧ 8 + (8 + 11) + (rmD 4).locals ≤ R.locals) (hcs : cells ≤ R.cells ∧ slots ≤ R.slots) (hO : oI f g val) (h1 : b < 16) (kk : ∀ (r : Int32) (f1 : Nat → Int32) (g1 : Nat → Nat → Int32) (H1 : Heap) (locs1 : List Loc), (fun r f1 g1 => r = val b ∧ oI f1 g1 (upd val b (if x = 0 then val b else v)) ∧ g1 14 = g 14 ∧ g1 15 = g 15 ∧ f1 4 = nI 4) r f1 g1 → ow_W 0 16 5 xlen D A h ad dA f1 g1 s H1 locs1 → W p l e R s m args below meth c H1 locs1 cells slots Q (F0 m (pc + 3) ls (.int r :: rest))) : W p l e R s m args below meth c H locs cells slots Q (F0 m pc ls (.int v :: .int x :: .int (nI b) :: .ref h :: rest)) :=
  ow_calli xC E w (c1_access l D h ad dA f g b x v val hO h1) (cwV 3 E.1.2.2.2.2 (lw_V q153 q155 qs9 q18 q156) rfl rfl rfl (by decide +kernel) hR) rfl hls rfl hW hdg hcs kk
theorem k1_accR {b : Nat} {v : Int32} {val : Nat → Int32} (E : ow_E 16 p m meth c cc nL rt s args RX1 D A dA) (w : ow_W 0 16 5 xlen D A h ad dA f g s H locs) (hls : ls.size = nL) (hW : (rest.map fun v => v.category).sum ≤ 8) (hdg : decode cc pc = .ok (.invokevirtual 99, 3)) (hR : (rmD 4).frames + 1 ≤ R.frames ∧ 8 + (8 + 11) + (rmD 4).locals ≤ R.locals) (hcs : cells ≤ R.cells ∧ slots ≤ R.slots) (hO : oI f g val) (h1 : b < 16) (kk : ∀ (f1 : Nat → Int32) (g1 : Nat → Nat → Int32) (H1 : Heap) (locs1 : List Loc), (oI f1 g1 val ∧ g1 14 = g 14 ∧ g1 15 = g 15 ∧ f1 4 = nI 4) → ow_W 0 16 5 xlen D A h ad dA f1 g1 s H1 locs1 → W p l e R s m args below meth c H1 locs1 cells slots Q (F0 m (pc + 3) ls (.int (val b) :: rest))) : W p l e R s m args below meth c H locs cells slots Q (F0 m pc ls (.int v :: .int 0 :: .int (nI b) :: .ref h :: rest)) := by
  refine k1_access E w hls hW hdg hR hcs hO h1 (fun r f1 g1 H1 locs1 hp w => ?_)
  obtain ⟨er, h2, h3⟩ := hp
  subst r
  exact kk f1 g1 H1 locs1 ⟨by rw [if_pos rfl, upd_same] at h2; exact h2, h3⟩ w
theorem k1_accW {b : Nat} {v : Int32} {val : Nat → Int32} (E : ow_E 16 p m meth c cc nL rt s args RX1 D A dA) (w : ow_W 0 16 5 xlen D A h ad dA f g s H locs) (hls : ls.size = nL) (hW : (rest.map fun v => v.category).sum ≤ 8) (hdg : decode cc pc = .ok (.invokevirtual 99, 3)) (hR : (rmD 4).frames + 1 ≤ R.frames ∧ 8 + (8 + 11) + (rmD 4).locals ≤ R.locals) (hcs : cells ≤ R.cells ∧ slots ≤ R.slots) (hO : oI f g val) (h1 : b < 16) (kk : ∀ (f1 : Nat → Int32) (g1 : Nat → Nat → Int32) (H1 : Heap) (locs1 : List Loc), (oI f1 g1 (upd val b v) ∧ g1 14 = g 14 ∧ g1 15 = g 15 ∧ f1 4 = nI 4) → ow_W 0 16 5 xlen D A h ad dA f1 g1 s H1 locs1 → W p l e R s m args below meth c H1 locs1 cells slots Q (F0 m (pc + 3) ls (.int (val b) :: rest))) : W p l e R s m args below meth c H locs cells slots Q (F0 m pc ls (.int v :: .int 1 :: .int (nI b) :: .ref h :: rest)) := by
  refine k1_access E w hls hW hdg hR hcs hO h1 (fun r f1 g1 H1 locs1 hp w => ?_)
  obtain ⟨er, h2, h3⟩ := hp
  subst r
  exact kk f1 g1 H1 locs1 ⟨by rw [if_neg (by decide)] at h2; exact h2, h3⟩ w
end KX6
set_option maxHeartbeats 4000000 in
set_option maxRecDepth 100000 in
theorem c1_gather (l : Launch) (D : va_G) (h : Nat) (ad : Nat → Nat) (dA : Nat → ClassId) (f : Nat → Int32) (g : Nat → Nat → Int32) (val : Nat → Int32) (hO : oI f g val) : ow_MV 0 16 5 xlen l yX1_gather cX1_gather 2 (rmD 5) D h ad dA [] f g (fun f1 g1 => oI f1 g1 val ∧ g1 14 = g 14 ∧ (∀ j, j < 16 → g1 15 j = val j) ∧ f1 4 = nI 4) := by
  refine ow_ofV (by decide) (Nat.le_of_ble_eq_true rfl) ?_
  intro p e s m args below meth c A Q ls E w hl ret
  have E : ow_E 16 p m meth c cX1_gather 2 (none) s args RX1 D A dA := E
  have hx := E.1.1
  have hb := E.1.2.1
  have hl : lv_has ls 2 [(0, .ref h)] := hl
  have loop : ∀ (k b : Nat), b ≤ 16 → 16 < b + k → ∀ (f2 : Nat → Int32) (g2 : Nat → Nat → Int32), oI f2 g2 val → g2 14 = g 14 → (∀ j, j < b → g2 15 j = val j) → (b = 0 ∨ f2 4 = nI 4) → ∀ (H : Heap) (locs : List Loc) (ls : Array Slot), ow_W 0 16 5 xlen D A h ad dA f2 g2 s H locs → lv_has ls 2 [(0, .ref h), (1, .int (nI b))] → W p l e (rmD 5) s m args below meth c H locs 0 0 Q (F0 m 2 ls []) := by
    intro k
    induction k with
    | zero => intro i hi hk; exact absurd hk (by omega)
    | succ k ih =>
      intro b hb1 hk f2 g2 hO2 h14 h15 h4 H locs ls w hl
      refine lv_iload_n hx hb dX1_gather_2 rfl (lv_at hl 1 rfl) ?_
      refine lv_bipush (v := nI 16) hx hb dX1_gather_3 (by decide) ?_
      refine ow_ge (b) (16) (by omega) (by omega) (tgt := 27) hx hb dX1_gather_5 (by decide) (fun c5 => ?_) (fun c5 => ?_)
      · exact ret dX1_gather_27 (⟨hO2, h14, fun j hj => h15 j (by omega), h4.resolve_left (by omega)⟩) w
      · refine lv_aload_n hx hb dX1_gather_8 rfl (lv_at hl 0 rfl) ?_
        refine ow_geta xC E w 15 (by decide) q95 dX1_gather_9 ?_
        refine lv_iload_n hx hb dX1_gather_12 rfl (lv_at hl 1 rfl) ?_
        refine lv_aload_n hx hb dX1_gather_13 rfl (lv_at hl 0 rfl) ?_
        refine lv_iload_n hx hb dX1_gather_14 rfl (lv_at hl 1 rfl) ?_
        refine lv_iconst (v := 0) hx hb dX1_gather_15 (by decide) ?_
        refine lv_iconst (v := 0) hx hb dX1_gather_16 (by decide) ?_
        refine k1_accR E w hl.1 (Nat.le_of_ble_eq_true rfl) dX1_gather_17 (by decide) ⟨Nat.zero_le _, Nat.zero_le _⟩ hO2 (by omega) (fun f3 g3 H locs hp w => ?_)
        refine ow_iast xC E w 15 (by decide) (b) rfl (show _ < _ by first | omega | (simp only [xlen, mlen]; omega)) dX1_gather_20 (fun g4 H locs eg4 w => ?_)
        refine lv_iinc (v := nI (b + 1)) (lv' := [(1, .int (nI (b + 1))), (0, .ref h)]) hx hb dX1_gather_21 hl (k := 1) rfl (nI_1 _) (by decide) rfl (fun ls hl => ?_)
        refine lv_goto (tgt := 2) hx hb dX1_gather_24 (by decide) ?_
        obtain ⟨hO3, e14, e15, e4⟩ := hp
        obtain ⟨n3, lf3, hX3, hM3⟩ := hO3
        have hO4 : oI f3 g4 val := ⟨n3, lf3, hX3.cg rfl rfl (fun k hk => by rw [eg4]; simp only [va_up, if_neg (show ¬ k = 15 by omega)]), hM3.cg rfl (fun k _ hk => by rw [eg4]; simp only [va_up, if_neg (show ¬ k = 15 by omega)])⟩
        refine ih (b + 1) (by omega) (by omega) f3 g4 hO4 (by rw [eg4]; exact e14.trans h14) (fun j hj => ?_) (Or.inr e4) H locs ls w (lv_sub hl [1, 0] rfl)
        rw [eg4]
        show upd (g3 15) b (val b) j = val j
        by_cases q : j = b
        · rw [q, pk_us]
        · rw [pk_un q, e15]; exact h15 j (by omega)
  refine lv_iconst (v := nI 0) hx hb dX1_gather_0 (by decide) ?_
  refine lv_istore_n (lv' := [(1, .int (nI 0)), (0, .ref h)]) hx hb dX1_gather_1 rfl hl (by decide) rfl (fun ls hl => ?_)
  exact loop 17 0 (by omega) (by omega) f g hO rfl (fun j hj => absurd hj (by omega)) (Or.inl rfl) _ _ ls w (lv_sub hl [1, 0] rfl)
set_option maxHeartbeats 4000000 in
set_option maxRecDepth 100000 in
theorem c1_placesOf (l : Launch) (D : va_G) (h : Nat) (ad : Nat → Nat) (dA : Nat → ClassId) (f : Nat → Int32) (g : Nat → Nat → Int32) (b n : Nat) (val : Nat → Int32) (lf : Nat → Nat) (hX : tX f g n val lf) (h1 : b < 16) : ow_MI 0 16 5 xlen l yX1_placesOf cX1_placesOf 7 .int (rmD 1) D h ad dA [.int (nI b), .int (nI (lf b))] f g (fun r f1 g1 => r = nI 1 ∧ f1 = f ∧ g1 = g) := by
  refine ow_ofI (by decide) (Nat.le_of_ble_eq_true rfl) ?_
  intro p e s m args below meth c A Q ls E w hl ret
  have E : ow_E 16 p m meth c cX1_placesOf 7 (some .int) s args RX1 D A dA := E
  have hx := E.1.1
  have hb := E.1.2.1
  have hl : lv_has ls 7 [(0, .ref h), (1, .int (nI b)), (2, .int (nI (lf b)))] := hl
  have hn : n ≤ 16 := hX.2.1.1
  have hlf := hX.2.2 b h1
  have hat : ∀ s, s < 64 → g 0 s = nI b → g 2 s = nI (lf b) ∧ onp4 (lf b) s := by
    intro s hs hq
    obtain ⟨b', a1, a2, a3, a4, a5⟩ := (hX.2.1.2.1 s hs).resolve_left (by rw [hq]; exact nI_m1 (by omega))
    have : b' = b := (nI_eq (by omega) (by omega)).mp (a2.symm.trans hq)
    subst this
    exact ⟨a4, a5⟩
  have h40 : cn (g 0) (nI b) 4 = 0 := by
    refine cn_zero (fun j hj hq => ?_)
    obtain ⟨l, hl4, el⟩ := (hat j (by omega) hq).2
    have := (bk_in (lf b) hlf l hl4).1
    omega
  have hone := hX.2.1.2.2.2.1 b h1
  have loop2 : ∀ (k i : Nat), i ≤ n → n < i + k → ∀ (H : Heap) (locs : List Loc) (ls : Array Slot), ow_W 0 16 5 xlen D A h ad dA f g s H locs → lv_has ls 7 [(0, .ref h), (1, .int (nI b)), (2, .int (nI (lf b))), (3, .int (nI (cn (g 0) (nI b) 64 + cn (g 4) (nI b) i))), (4, .int (nI i))] → W p l e (rmD 1) s m args below meth c H locs 0 0 Q (F0 m 99 ls []) := by
    intro k
    induction k with
    | zero => intro i hi hk; exact absurd hk (by omega)
    | succ k ih =>
      intro i hi hk H locs ls w hl
      refine lv_iload hx hb dX1_placesOf_99 (lv_at hl 4 rfl) ?_
      refine lv_aload_n hx hb dX1_placesOf_101 rfl (lv_at hl 0 rfl) ?_
      refine ow_geti xC E w 0 16 rfl (by decide) q96 dX1_placesOf_102 ?_
      refine ow_top (v := nI n) (hX.1) ?_
      refine ow_ge (i) (n) (by omega) (by omega) (tgt := 144) hx hb dX1_placesOf_105 (by decide) (fun c105 => ?_) (fun c105 => ?_)
      · have ei : i = n := by omega
        subst ei
        refine lv_iload_n hx hb dX1_placesOf_144 rfl (lv_at hl 3 rfl) ?_
        exact ret dX1_placesOf_145 rfl (⟨by rw [hone], rfl, rfl⟩) w
      · refine lv_aload_n hx hb dX1_placesOf_108 rfl (lv_at hl 0 rfl) ?_
        refine ow_geta xC E w 4 (by decide) q84 dX1_placesOf_109 ?_
        refine lv_iload hx hb dX1_placesOf_112 (lv_at hl 4 rfl) ?_
        refine ow_iald xC E w 4 (by decide) (i) rfl (show _ < _ by first | omega | (simp only [xlen, mlen]; omega)) dX1_placesOf_114 ?_
        refine lv_iload_n hx hb dX1_placesOf_115 rfl (lv_at hl 1 rfl) ?_
        refine lv_icmp_ne (tgt := 138) hx hb dX1_placesOf_116 (by decide) (fun c116 => ?_) (fun c116 => ?_)
        · refine lv_iinc (v := nI (i + 1)) (lv' := [(4, .int (nI (i + 1))), (0, .ref h), (1, .int (nI b)), (2, .int (nI (lf b))), (3, .int (nI (cn (g 0) (nI b) 64 + cn (g 4) (nI b) i)))]) hx hb dX1_placesOf_138 hl (k := 4) rfl (nI_1 _) (by decide) rfl (fun ls hl => ?_)
          refine lv_goto (tgt := 99) hx hb dX1_placesOf_141 (by decide) ?_
          have e : cn (g 4) (nI b) (i + 1) = cn (g 4) (nI b) i := by rw [cn_s, if_neg c116, Nat.add_zero]
          refine ih (i + 1) (by omega) (by omega) H locs ls w ?_
          rw [e]
          exact (lv_sub hl [1, 2, 3, 4, 0] rfl)
        · refine lv_iload_n hx hb dX1_placesOf_119 rfl (lv_at hl 3 rfl) ?_
          refine lv_aload_n hx hb dX1_placesOf_120 rfl (lv_at hl 0 rfl) ?_
          refine ow_geta xC E w 6 (by decide) q86 dX1_placesOf_121 ?_
          refine lv_iload hx hb dX1_placesOf_124 (lv_at hl 4 rfl) ?_
          refine ow_iald xC E w 6 (by decide) (i) rfl (show _ < _ by first | omega | (simp only [xlen, mlen]; omega)) dX1_placesOf_126 ?_
          refine ow_top (v := nI (lf b)) ((hX.2.1.at (by decide) h1 c105 c116).2) ?_
          refine lv_iload_n hx hb dX1_placesOf_127 rfl (lv_at hl 2 rfl) ?_
          refine ow_ne (lf b) (lf b) (by omega) (by omega) (tgt := 135) hx hb dX1_placesOf_128 (by decide) (fun c128 => ?_) (fun c128 => ?_)
          · exact absurd rfl c128
          · refine lv_iconst (v := nI 1) hx hb dX1_placesOf_131 (by decide) ?_
            refine lv_goto (tgt := 136) hx hb dX1_placesOf_132 (by decide) ?_
            refine lv_iadd hx hb dX1_placesOf_136 ?_
            refine ow_top (v := nI (cn (g 0) (nI b) 64 + cn (g 4) (nI b) i + 1)) (nI_add _ _) ?_
            refine lv_istore_n (lv' := [(3, .int (nI (cn (g 0) (nI b) 64 + cn (g 4) (nI b) i + 1))), (0, .ref h), (1, .int (nI b)), (2, .int (nI (lf b))), (4, .int (nI i))]) hx hb dX1_placesOf_137 rfl hl (by decide) rfl (fun ls hl => ?_)
            refine lv_iinc (v := nI (i + 1)) (lv' := [(4, .int (nI (i + 1))), (3, .int (nI (cn (g 0) (nI b) 64 + cn (g 4) (nI b) i + 1))), (0, .ref h), (1, .int (nI b)), (2, .int (nI (lf b)))]) hx hb dX1_placesOf_138 hl (k := 4) rfl (nI_1 _) (by decide) rfl (fun ls hl => ?_)
            refine lv_goto (tgt := 99) hx hb dX1_placesOf_141 (by decide) ?_
            have e : cn (g 4) (nI b) (i + 1) = cn (g 4) (nI b) i + 1 := by rw [cn_s, if_pos c116]
            refine ih (i + 1) (by omega) (by omega) H locs ls w ?_
            rw [e, ← Nat.add_assoc]
            exact (lv_sub hl [2, 3, 4, 1, 0] rfl)
  have loop : ∀ (k sl : Nat), 4 ≤ sl → sl ≤ 64 → 64 < sl + k → ∀ (H : Heap) (locs : List Loc) (ls : Array Slot), ow_W 0 16 5 xlen D A h ad dA f g s H locs → lv_has ls 7 [(0, .ref h), (1, .int (nI b)), (2, .int (nI (lf b))), (3, .int (nI (cn (g 0) (nI b) sl))), (4, .int (nI sl))] → W p l e (rmD 1) s m args below meth c H locs 0 0 Q (F0 m 5 ls []) := by
    intro k
    induction k with
    | zero => intro sl _ hi hk; exact absurd hk (by omega)
    | succ k ih =>
      intro sl hs0 hi hk H locs ls w hl
      refine lv_iload hx hb dX1_placesOf_5 (lv_at hl 4 rfl) ?_
      refine lv_bipush (v := nI 64) hx hb dX1_placesOf_7 (by decide) ?_
      refine ow_ge (sl) (64) (by omega) (by omega) (tgt := 96) hx hb dX1_placesOf_9 (by decide) (fun c9 => ?_) (fun c9 => ?_)
      · have ei : sl = 64 := by omega
        subst ei
        refine lv_iconst (v := nI 0) hx hb dX1_placesOf_96 (by decide) ?_
        refine lv_istore (lv' := [(4, .int (nI 0)), (0, .ref h), (1, .int (nI b)), (2, .int (nI (lf b))), (3, .int (nI (cn (g 0) (nI b) 64)))]) hx hb dX1_placesOf_97 hl (by decide) rfl (fun ls hl => ?_)
        exact loop2 (n + 1) 0 (by omega) (by omega) _ _ ls w (lv_sub hl [1, 2, 3, 4, 0] rfl)
      · refine lv_aload_n hx hb dX1_placesOf_12 rfl (lv_at hl 0 rfl) ?_
        refine ow_geta xC E w 0 (by decide) q80 dX1_placesOf_13 ?_
        refine lv_iload hx hb dX1_placesOf_16 (lv_at hl 4 rfl) ?_
        refine ow_iald xC E w 0 (by decide) (sl) rfl (show _ < _ by first | omega | (simp only [xlen, mlen]; omega)) dX1_placesOf_18 ?_
        refine lv_iload_n hx hb dX1_placesOf_19 rfl (lv_at hl 1 rfl) ?_
        refine lv_icmp_ne (tgt := 90) hx hb dX1_placesOf_20 (by decide) (fun c20 => ?_) (fun c20 => ?_)
        · refine lv_iinc (v := nI (sl + 1)) (lv' := [(4, .int (nI (sl + 1))), (0, .ref h), (1, .int (nI b)), (2, .int (nI (lf b))), (3, .int (nI (cn (g 0) (nI b) sl)))]) hx hb dX1_placesOf_90 hl (k := 4) rfl (nI_1 _) (by decide) rfl (fun ls hl => ?_)
          refine lv_goto (tgt := 5) hx hb dX1_placesOf_93 (by decide) ?_
          have e : cn (g 0) (nI b) (sl + 1) = cn (g 0) (nI b) sl := by rw [cn_s, if_neg c20, Nat.add_zero]
          refine ih (sl + 1) (by omega) (by omega) (by omega) H locs ls w ?_
          rw [e]
          exact (lv_sub hl [1, 2, 3, 4, 0] rfl)
        · obtain ⟨htag, l0, hl0, el0⟩ := hat sl (by omega) c20
          have inner : ∀ (k lv : Nat), lv ≤ 4 → 4 < lv + k → ∀ (op : Int32), ((op = 1 ∧ ∃ l, l < lv ∧ (8 + lf b) / 2 ^ (3 - l) = sl / 4) ∨ (op = 0 ∧ ∀ l, l < lv → (8 + lf b) / 2 ^ (3 - l) ≠ sl / 4)) → ∀ (H : Heap) (locs : List Loc) (ls : Array Slot), ow_W 0 16 5 xlen D A h ad dA f g s H locs → lv_has ls 7 [(0, .ref h), (1, .int (nI b)), (2, .int (nI (lf b))), (3, .int (nI (cn (g 0) (nI b) sl))), (4, .int (nI sl)), (5, .int op), (6, .int (nI lv))] → W p l e (rmD 1) s m args below meth c H locs 0 0 Q (F0 m 29 ls []) := by
            intro k
            induction k with
            | zero => intro lv hi hk; exact absurd hk (by omega)
            | succ k ih2 =>
              intro lv hlv hk2 op hop H locs ls w hl
              refine lv_iload hx hb dX1_placesOf_29 (lv_at hl 6 rfl) ?_
              refine lv_iconst (v := nI 4) hx hb dX1_placesOf_31 (by decide) ?_
              refine ow_ge (lv) (4) (by omega) (by omega) (tgt := 66) hx hb dX1_placesOf_32 (by decide) (fun c32 => ?_) (fun c32 => ?_)
              · refine lv_iload_n hx hb dX1_placesOf_66 rfl (lv_at hl 3 rfl) ?_
                refine lv_iload hx hb dX1_placesOf_67 (lv_at hl 5 rfl) ?_
                refine lv_if_eq (tgt := 87) hx hb dX1_placesOf_69 (by decide) (fun c69 => ?_) (fun c69 => ?_)
                · rcases hop with ⟨e1, -⟩ | ⟨-, e2⟩
                  · rw [e1] at c69; exact absurd c69 (by decide)
                  · exact absurd el0 (e2 l0 (by omega))
                · refine lv_aload_n hx hb dX1_placesOf_72 rfl (lv_at hl 0 rfl) ?_
                  refine ow_geta xC E w 2 (by decide) q82 dX1_placesOf_73 ?_
                  refine lv_iload hx hb dX1_placesOf_76 (lv_at hl 4 rfl) ?_
                  refine ow_iald xC E w 2 (by decide) (sl) rfl (show _ < _ by first | omega | (simp only [xlen, mlen]; omega)) dX1_placesOf_78 ?_
                  refine ow_top (v := nI (lf b)) htag ?_
                  refine lv_iload_n hx hb dX1_placesOf_79 rfl (lv_at hl 2 rfl) ?_
                  refine ow_ne (lf b) (lf b) (by omega) (by omega) (tgt := 87) hx hb dX1_placesOf_80 (by decide) (fun c80 => ?_) (fun c80 => ?_)
                  · exact absurd rfl c80
                  · refine lv_iconst (v := nI 1) hx hb dX1_placesOf_83 (by decide) ?_
                    refine lv_goto (tgt := 88) hx hb dX1_placesOf_84 (by decide) ?_
                    refine lv_iadd hx hb dX1_placesOf_88 ?_
                    refine ow_top (v := nI (cn (g 0) (nI b) sl + 1)) (nI_add _ _) ?_
                    refine lv_istore_n (lv' := [(3, .int (nI (cn (g 0) (nI b) sl + 1))), (0, .ref h), (1, .int (nI b)), (2, .int (nI (lf b))), (4, .int (nI sl)), (5, .int op), (6, .int (nI lv))]) hx hb dX1_placesOf_89 rfl hl (by decide) rfl (fun ls hl => ?_)
                    refine lv_iinc (v := nI (sl + 1)) (lv' := [(4, .int (nI (sl + 1))), (3, .int (nI (cn (g 0) (nI b) sl + 1))), (0, .ref h), (1, .int (nI b)), (2, .int (nI (lf b))), (5, .int op), (6, .int (nI lv))]) hx hb dX1_placesOf_90 hl (k := 4) rfl (nI_1 _) (by decide) rfl (fun ls hl => ?_)
                    refine lv_goto (tgt := 5) hx hb dX1_placesOf_93 (by decide) ?_
                    have e : cn (g 0) (nI b) (sl + 1) = cn (g 0) (nI b) sl + 1 := by rw [cn_s, if_pos c20]
                    refine ih (sl + 1) (by omega) (by omega) (by omega) H locs ls w ?_
                    rw [e]
                    exact (lv_sub hl [2, 3, 4, 1, 0] rfl)
              · refine lv_iload hx hb dX1_placesOf_35 (lv_at hl 5 rfl) ?_
                refine lv_if_ne (tgt := 53) hx hb dX1_placesOf_37 (by decide) (fun c37 => ?_) (fun c37 => ?_)
                · refine lv_iconst (v := 1) hx hb dX1_placesOf_53 (by decide) ?_
                  refine lv_goto (tgt := 58) hx hb dX1_placesOf_54 (by decide) ?_
                  refine lv_istore (lv' := [(5, .int 1), (0, .ref h), (1, .int (nI b)), (2, .int (nI (lf b))), (3, .int (nI (cn (g 0) (nI b) sl))), (4, .int (nI sl)), (6, .int (nI lv))]) hx hb dX1_placesOf_58 hl (by decide) rfl (fun ls hl => ?_)
                  refine lv_iinc (v := nI (lv + 1)) (lv' := [(6, .int (nI (lv + 1))), (5, .int 1), (0, .ref h), (1, .int (nI b)), (2, .int (nI (lf b))), (3, .int (nI (cn (g 0) (nI b) sl))), (4, .int (nI sl))]) hx hb dX1_placesOf_60 hl (k := 6) rfl (nI_1 _) (by decide) rfl (fun ls hl => ?_)
                  refine lv_goto (tgt := 29) hx hb dX1_placesOf_63 (by decide) ?_
                  rcases hop with ⟨e1, l, hl2, el⟩ | ⟨e1, -⟩
                  · exact ih2 (lv + 1) (by omega) (by omega) 1 (Or.inl ⟨rfl, l, by omega, el⟩) H locs ls w (lv_sub hl [2, 3, 4, 5, 6, 1, 0] rfl)
                  · exact absurd e1 c37
                · refine lv_iload_n hx hb dX1_placesOf_40 rfl (lv_at hl 2 rfl) ?_
                  refine lv_iload hx hb dX1_placesOf_41 (lv_at hl 6 rfl) ?_
                  refine k1_bucketAt (lf b) lv E.1 hl.1 (Nat.le_of_ble_eq_true rfl) dX1_placesOf_43 (by decide) ⟨Nat.zero_le _, Nat.zero_le _⟩ hlf (by omega) (fun r1 er1 => ?_)
                  refine ow_top (v := nI ((8 + lf b) / 2 ^ (3 - lv))) er1 ?_
                  have q1 := (bk_in (lf b) hlf lv (by omega)).2
                  refine lv_iload hx hb dX1_placesOf_46 (lv_at hl 4 rfl) ?_
                  refine lv_iconst (v := nI 2) hx hb dX1_placesOf_48 (by decide) ?_
                  refine lv_ishr hx hb dX1_placesOf_49 ?_
                  refine ow_top (v := nI (sl / 4)) (pk_shrN (by omega) _ 2 (sh_ok 2 (by omega))) ?_
                  refine ow_ne ((8 + lf b) / 2 ^ (3 - lv)) (sl / 4) (by omega) (by omega) (tgt := 57) hx hb dX1_placesOf_50 (by decide) (fun c50 => ?_) (fun c50 => ?_)
                  · refine lv_iconst (v := 0) hx hb dX1_placesOf_57 (by decide) ?_
                    refine lv_istore (lv' := [(5, .int 0), (0, .ref h), (1, .int (nI b)), (2, .int (nI (lf b))), (3, .int (nI (cn (g 0) (nI b) sl))), (4, .int (nI sl)), (6, .int (nI lv))]) hx hb dX1_placesOf_58 hl (by decide) rfl (fun ls hl => ?_)
                    refine lv_iinc (v := nI (lv + 1)) (lv' := [(6, .int (nI (lv + 1))), (5, .int 0), (0, .ref h), (1, .int (nI b)), (2, .int (nI (lf b))), (3, .int (nI (cn (g 0) (nI b) sl))), (4, .int (nI sl))]) hx hb dX1_placesOf_60 hl (k := 6) rfl (nI_1 _) (by decide) rfl (fun ls hl => ?_)
                    refine lv_goto (tgt := 29) hx hb dX1_placesOf_63 (by decide) ?_
                    rcases hop with ⟨e1, -⟩ | ⟨-, e2⟩
                    · rw [e1] at c37; exact absurd c37 (by decide)
                    · refine ih2 (lv + 1) (by omega) (by omega) 0 (Or.inr ⟨rfl, fun l hl2 => ?_⟩) H locs ls w (lv_sub hl [2, 3, 4, 5, 6, 1, 0] rfl)
                      by_cases z : l = lv
                      · rw [z]; exact c50
                      · exact e2 l (by omega)
                  · refine lv_iconst (v := 1) hx hb dX1_placesOf_53 (by decide) ?_
                    refine lv_goto (tgt := 58) hx hb dX1_placesOf_54 (by decide) ?_
                    refine lv_istore (lv' := [(5, .int 1), (0, .ref h), (1, .int (nI b)), (2, .int (nI (lf b))), (3, .int (nI (cn (g 0) (nI b) sl))), (4, .int (nI sl)), (6, .int (nI lv))]) hx hb dX1_placesOf_58 hl (by decide) rfl (fun ls hl => ?_)
                    refine lv_iinc (v := nI (lv + 1)) (lv' := [(6, .int (nI (lv + 1))), (5, .int 1), (0, .ref h), (1, .int (nI b)), (2, .int (nI (lf b))), (3, .int (nI (cn (g 0) (nI b) sl))), (4, .int (nI sl))]) hx hb dX1_placesOf_60 hl (k := 6) rfl (nI_1 _) (by decide) rfl (fun ls hl => ?_)
                    refine lv_goto (tgt := 29) hx hb dX1_placesOf_63 (by decide) ?_
                    exact ih2 (lv + 1) (by omega) (by omega) 1 (Or.inl ⟨rfl, lv, by omega, c50⟩) H locs ls w (lv_sub hl [2, 3, 4, 5, 6, 1, 0] rfl)
          refine lv_iconst (v := 0) hx hb dX1_placesOf_23 (by decide) ?_
          refine lv_istore (lv' := [(5, .int 0), (0, .ref h), (1, .int (nI b)), (2, .int (nI (lf b))), (3, .int (nI (cn (g 0) (nI b) sl))), (4, .int (nI sl))]) hx hb dX1_placesOf_24 hl (by decide) rfl (fun ls hl => ?_)
          refine lv_iconst (v := nI 0) hx hb dX1_placesOf_26 (by decide) ?_
          refine lv_istore (lv' := [(6, .int (nI 0)), (5, .int 0), (0, .ref h), (1, .int (nI b)), (2, .int (nI (lf b))), (3, .int (nI (cn (g 0) (nI b) sl))), (4, .int (nI sl))]) hx hb dX1_placesOf_27 hl (by decide) rfl (fun ls hl => ?_)
          exact inner 5 0 (by omega) (by omega) 0 (Or.inr ⟨rfl, fun l hl2 => absurd hl2 (by omega)⟩) _ _ ls w (lv_sub hl [2, 3, 4, 5, 6, 1, 0] rfl)
  refine lv_iconst (v := nI 0) hx hb dX1_placesOf_0 (by decide) ?_
  refine lv_istore_n (lv' := [(3, .int (nI 0)), (0, .ref h), (1, .int (nI b)), (2, .int (nI (lf b)))]) hx hb dX1_placesOf_1 rfl hl (by decide) rfl (fun ls hl => ?_)
  refine lv_iconst (v := nI 4) hx hb dX1_placesOf_2 (by decide) ?_
  refine lv_istore (lv' := [(4, .int (nI 4)), (3, .int (nI 0)), (0, .ref h), (1, .int (nI b)), (2, .int (nI (lf b)))]) hx hb dX1_placesOf_3 hl (by decide) rfl (fun ls hl => ?_)
  refine loop 61 4 (by omega) (by omega) (by omega) _ _ ls w ?_
  rw [h40]
  exact (lv_sub hl [2, 3, 4, 1, 0] rfl)
section KX7
variable {p : Program} {l : Launch} {e : Env} {R : Room} {s : State} {m : MethodId} {args : Array Value} {below : List Frame} {meth : Method} {c : Code} {H : Heap} {locs : List Loc} {cells slots : Nat} {Q : State → Prop}
variable {pc : Nat} {ls : Array Slot} {rest : List Value} {cc : ByteArray} {nL : Nat} {rt : Option FieldType} {D : va_G} {A : Nat → Prop} {h : Nat} {ad : Nat → Nat} {dA : Nat → ClassId} {f : Nat → Int32} {g : Nat → Nat → Int32}
theorem k1_gather {val : Nat → Int32} (E : ow_E 16 p m meth c cc nL rt s args RX1 D A dA) (w : ow_W 0 16 5 xlen D A h ad dA f g s H locs) (hls : ls.size = nL) (hW : (rest.map fun v => v.category).sum ≤ 8) (hdg : decode cc pc = .ok (.invokevirtual 103, 3)) (hR : (rmD 5).frames + 1 ≤ R.frames ∧ 8 + (2 + 11) + (rmD 5).locals ≤ R.locals) (hcs : cells ≤ R.cells ∧ slots ≤ R.slots) (hO : oI f g val) (kk : ∀ (f1 : Nat → Int32) (g1 : Nat → Nat → Int32) (H1 : Heap) (locs1 : List Loc), (fun f1 g1 => oI f1 g1 val ∧ g1 14 = g 14 ∧ (∀ j, j < 16 → g1 15 j = val j) ∧ f1 4 = nI 4) f1 g1 → ow_W 0 16 5 xlen D A h ad dA f1 g1 s H1 locs1 → W p l e R s m args below meth c H1 locs1 cells slots Q (F0 m (pc + 3) ls (rest))) : W p l e R s m args below meth c H locs cells slots Q (F0 m pc ls (.ref h :: rest)) :=
  ow_callv xC E w (c1_gather l D h ad dA f g val hO) (cwV 0 E.1.2.2.2.2 (lw_V q185 q187 qs11 q18 q188) rfl rfl rfl (by decide +kernel) hR) rfl hls rfl hW hdg hcs kk
theorem k1_placesOf {b n : Nat} {val : Nat → Int32} {lf : Nat → Nat} (E : ow_E 16 p m meth c cc nL rt s args RX1 D A dA) (w : ow_W 0 16 5 xlen D A h ad dA f g s H locs) (hls : ls.size = nL) (hW : (rest.map fun v => v.category).sum ≤ 8) (hdg : decode cc pc = .ok (.invokevirtual 110, 3)) (hR : (rmD 1).frames + 1 ≤ R.frames ∧ 8 + (7 + 11) + (rmD 1).locals ≤ R.locals) (hcs : cells ≤ R.cells ∧ slots ≤ R.slots) (hX : tX f g n val lf) (h1 : b < 16) (kk : ∀ (r : Int32) (f1 : Nat → Int32) (g1 : Nat → Nat → Int32) (H1 : Heap) (locs1 : List Loc), (fun r f1 g1 => r = nI 1 ∧ f1 = f ∧ g1 = g) r f1 g1 → ow_W 0 16 5 xlen D A h ad dA f1 g1 s H1 locs1 → W p l e R s m args below meth c H1 locs1 cells slots Q (F0 m (pc + 3) ls (.int r :: rest))) : W p l e R s m args below meth c H locs cells slots Q (F0 m pc ls (.int (nI (lf b)) :: .int (nI b) :: .ref h :: rest)) :=
  ow_calli xC E w (c1_placesOf l D h ad dA f g b n val lf hX h1) (cwV 2 E.1.2.2.2.2 (lw_V q221 q223 qs12 q18 q224) rfl rfl rfl (by decide +kernel) hR) rfl hls rfl hW hdg hcs kk
end KX7
end
section
set_option maxHeartbeats 4000000 in
set_option maxRecDepth 100000 in
theorem c1_read (l : Launch) (D : va_G) (h : Nat) (ad : Nat → Nat) (dA : Nat → ClassId) (f : Nat → Int32) (g : Nat → Nat → Int32) (b : Int32) (val snap : Nat → Int32) (t : Int32) (hP : PX f g val snap t) : ow_MI 0 16 5 xlen l yX1_read cX1_read 2 .int (rmD 5) D h ad dA [.int b] f g (fun r f1 g1 => r = (if inb b = true then val (ixb b) else 0) ∧ PX f1 g1 val snap (if inb b = true then nI 4 else t)) := by
  refine ow_ofI (by decide) (Nat.le_of_ble_eq_true rfl) ?_
  intro p e s m args below meth c A Q ls E w hl ret
  have E : ow_E 16 p m meth c cX1_read 2 (some .int) s args RX1 D A dA := E
  have hx := E.1.1
  have hb := E.1.2.1
  have hl : lv_has ls 2 [(0, .ref h), (1, .int b)] := hl
  refine lv_iload_n hx hb dX1_read_0 rfl (lv_at hl 1 rfl) ?_
  refine k1_isBlock E.1 hl.1 (Nat.le_of_ble_eq_true rfl) dX1_read_1 (by decide) ⟨Nat.zero_le _, Nat.zero_le _⟩  (fun r1 er1 => ?_)
  refine lv_if_eq (tgt := 17) hx hb dX1_read_4 (by decide) (fun c4 => ?_) (fun c4 => ?_)
  · refine lv_iconst (v := 0) hx hb dX1_read_17 (by decide) ?_
    have hin := inb01_f er1 c4
    refine ret dX1_read_18 rfl ⟨?_, ?_⟩ w
    · simp only [hin, Bool.false_eq_true, ↓reduceIte]
    · simp only [hin, Bool.false_eq_true, ↓reduceIte]
      exact hP
  · obtain ⟨hinj, j, hj, ej⟩ := inb01_t er1 c4
    subst ej
    refine lv_aload_n hx hb dX1_read_7 rfl (lv_at hl 0 rfl) ?_
    refine lv_iload_n hx hb dX1_read_8 rfl (lv_at hl 1 rfl) ?_
    refine lv_iconst (v := 0) hx hb dX1_read_9 (by decide) ?_
    refine lv_iconst (v := 0) hx hb dX1_read_10 (by decide) ?_
    refine k1_accR E w hl.1 (Nat.le_of_ble_eq_true rfl) dX1_read_11 (by decide) ⟨Nat.zero_le _, Nat.zero_le _⟩ hP.1 hj (fun f2 g2 H locs hpf2 w => ?_)
    refine lv_goto (tgt := 18) hx hb dX1_read_14 (by decide) ?_
    refine ret dX1_read_18 rfl ⟨?_, ?_⟩ w
    · simp only [hinj, ↓reduceIte, ixb_nI (show j < 2 ^ 31 by omega)]
    · simp only [hinj, ↓reduceIte, ixb_nI (show j < 2 ^ 31 by omega)]
      exact ⟨hpf2.1, hpf2.2.1.trans hP.2.1, hpf2.2.2.2⟩
set_option maxHeartbeats 4000000 in
set_option maxRecDepth 100000 in
theorem c1_write (l : Launch) (D : va_G) (h : Nat) (ad : Nat → Nat) (dA : Nat → ClassId) (f : Nat → Int32) (g : Nat → Nat → Int32) (b v : Int32) (val snap : Nat → Int32) (t : Int32) (hP : PX f g val snap t) : ow_MI 0 16 5 xlen l yX1_write cX1_write 3 .int (rmD 5) D h ad dA [.int b, .int v] f g (fun r f1 g1 => r = (if inb b = true then 0 else -1) ∧ PX f1 g1 (if inb b = true then upd val (ixb b) v else val) snap (if inb b = true then nI 4 else t)) := by
  refine ow_ofI (by decide) (Nat.le_of_ble_eq_true rfl) ?_
  intro p e s m args below meth c A Q ls E w hl ret
  have E : ow_E 16 p m meth c cX1_write 3 (some .int) s args RX1 D A dA := E
  have hx := E.1.1
  have hb := E.1.2.1
  have hl : lv_has ls 3 [(0, .ref h), (1, .int b), (2, .int v)] := hl
  refine lv_iload_n hx hb dX1_write_0 rfl (lv_at hl 1 rfl) ?_
  refine k1_isBlock E.1 hl.1 (Nat.le_of_ble_eq_true rfl) dX1_write_1 (by decide) ⟨Nat.zero_le _, Nat.zero_le _⟩  (fun r1 er1 => ?_)
  refine lv_if_ne (tgt := 9) hx hb dX1_write_4 (by decide) (fun c4 => ?_) (fun c4 => ?_)
  · obtain ⟨hinj, j, hj, ej⟩ := inb01_t er1 c4
    subst ej
    refine lv_aload_n hx hb dX1_write_9 rfl (lv_at hl 0 rfl) ?_
    refine lv_iload_n hx hb dX1_write_10 rfl (lv_at hl 1 rfl) ?_
    refine lv_iconst (v := 1) hx hb dX1_write_11 (by decide) ?_
    refine lv_iload_n hx hb dX1_write_12 rfl (lv_at hl 2 rfl) ?_
    refine k1_accW E w hl.1 (Nat.le_of_ble_eq_true rfl) dX1_write_13 (by decide) ⟨Nat.zero_le _, Nat.zero_le _⟩ hP.1 hj (fun f2 g2 H locs hpf2 w => ?_)
    refine lv_pop hx hb dX1_write_16 rfl ?_
    refine lv_iconst (v := 0) hx hb dX1_write_17 (by decide) ?_
    refine ret dX1_write_18 rfl ⟨?_, ?_⟩ w
    · simp only [hinj, ↓reduceIte, ixb_nI (show j < 2 ^ 31 by omega)]
    · simp only [hinj, ↓reduceIte, ixb_nI (show j < 2 ^ 31 by omega)]
      exact ⟨hpf2.1, hpf2.2.1.trans hP.2.1, hpf2.2.2.2⟩
  · refine lv_iconst (v := (-1)) hx hb dX1_write_7 (by decide) ?_
    have hin := inb01_f er1 c4
    refine ret dX1_write_8 rfl ⟨?_, ?_⟩ w
    · simp only [hin, Bool.false_eq_true, ↓reduceIte]
    · simp only [hin, Bool.false_eq_true, ↓reduceIte]
      exact hP
set_option maxHeartbeats 4000000 in
set_option maxRecDepth 100000 in
theorem c1_add (l : Launch) (D : va_G) (h : Nat) (ad : Nat → Nat) (dA : Nat → ClassId) (f : Nat → Int32) (g : Nat → Nat → Int32) (b v : Int32) (val snap : Nat → Int32) (t : Int32) (hP : PX f g val snap t) : ow_MI 0 16 5 xlen l yX1_add cX1_add 4 .int (rmD 5) D h ad dA [.int b, .int v] f g (fun r f1 g1 => r = (if inb b = true then val (ixb b) + v else 0) ∧ PX f1 g1 (if inb b = true then upd val (ixb b) (val (ixb b) + v) else val) snap (if inb b = true then nI 4 else t)) := by
  refine ow_ofI (by decide) (Nat.le_of_ble_eq_true rfl) ?_
  intro p e s m args below meth c A Q ls E w hl ret
  have E : ow_E 16 p m meth c cX1_add 4 (some .int) s args RX1 D A dA := E
  have hx := E.1.1
  have hb := E.1.2.1
  have hl : lv_has ls 4 [(0, .ref h), (1, .int b), (2, .int v)] := hl
  refine lv_iload_n hx hb dX1_add_0 rfl (lv_at hl 1 rfl) ?_
  refine k1_isBlock E.1 hl.1 (Nat.le_of_ble_eq_true rfl) dX1_add_1 (by decide) ⟨Nat.zero_le _, Nat.zero_le _⟩  (fun r1 er1 => ?_)
  refine lv_if_ne (tgt := 9) hx hb dX1_add_4 (by decide) (fun c4 => ?_) (fun c4 => ?_)
  · obtain ⟨hinj, j, hj, ej⟩ := inb01_t er1 c4
    subst ej
    refine lv_aload_n hx hb dX1_add_9 rfl (lv_at hl 0 rfl) ?_
    refine lv_iload_n hx hb dX1_add_10 rfl (lv_at hl 1 rfl) ?_
    refine lv_iconst (v := 0) hx hb dX1_add_11 (by decide) ?_
    refine lv_iconst (v := 0) hx hb dX1_add_12 (by decide) ?_
    refine k1_accR E w hl.1 (Nat.le_of_ble_eq_true rfl) dX1_add_13 (by decide) ⟨Nat.zero_le _, Nat.zero_le _⟩ hP.1 hj (fun f2 g2 H locs hpf2 w => ?_)
    refine lv_iload_n hx hb dX1_add_16 rfl (lv_at hl 2 rfl) ?_
    refine lv_iadd hx hb dX1_add_17 ?_
    refine lv_istore_n (lv' := [(3, .int ((val j) + v)), (0, .ref h), (1, .int (nI j)), (2, .int v)]) hx hb dX1_add_18 rfl hl (by decide) rfl (fun ls hl => ?_)
    refine lv_aload_n hx hb dX1_add_19 rfl (lv_at hl 1 rfl) ?_
    refine lv_iload_n hx hb dX1_add_20 rfl (lv_at hl 2 rfl) ?_
    refine lv_iconst (v := 1) hx hb dX1_add_21 (by decide) ?_
    refine lv_iload_n hx hb dX1_add_22 rfl (lv_at hl 0 rfl) ?_
    refine k1_accW E w hl.1 (Nat.le_of_ble_eq_true rfl) dX1_add_23 (by decide) ⟨Nat.zero_le _, Nat.zero_le _⟩ hpf2.1 hj (fun f3 g3 H locs hpf3 w => ?_)
    refine lv_pop hx hb dX1_add_26 rfl ?_
    refine lv_iload_n hx hb dX1_add_27 rfl (lv_at hl 0 rfl) ?_
    refine ret dX1_add_28 rfl ⟨?_, ?_⟩ w
    · simp only [hinj, ↓reduceIte, ixb_nI (show j < 2 ^ 31 by omega)]
    · simp only [hinj, ↓reduceIte, ixb_nI (show j < 2 ^ 31 by omega)]
      exact ⟨hpf3.1, hpf3.2.1.trans (hpf2.2.1.trans hP.2.1), hpf3.2.2.2⟩
  · refine lv_iconst (v := 0) hx hb dX1_add_7 (by decide) ?_
    have hin := inb01_f er1 c4
    refine ret dX1_add_8 rfl ⟨?_, ?_⟩ w
    · simp only [hin, Bool.false_eq_true, ↓reduceIte]
    · simp only [hin, Bool.false_eq_true, ↓reduceIte]
      exact hP
set_option maxHeartbeats 4000000 in
set_option maxRecDepth 100000 in
theorem c1_exchange (l : Launch) (D : va_G) (h : Nat) (ad : Nat → Nat) (dA : Nat → ClassId) (f : Nat → Int32) (g : Nat → Nat → Int32) (b d : Int32) (val snap : Nat → Int32) (t : Int32) (hP : PX f g val snap t) : ow_MI 0 16 5 xlen l yX1_exchange cX1_exchange 5 .int (rmD 5) D h ad dA [.int b, .int d] f g (fun r f1 g1 => r = (if inb b = true ∧ inb d = true then 0 else -1) ∧ PX f1 g1 (if inb b = true ∧ inb d = true then upd (upd val (ixb b) (val (ixb d))) (ixb d) (val (ixb b)) else val) snap (if inb b = true ∧ inb d = true then nI 4 else t)) := by
  refine ow_ofI (by decide) (Nat.le_of_ble_eq_true rfl) ?_
  intro p e s m args below meth c A Q ls E w hl ret
  have E : ow_E 16 p m meth c cX1_exchange 5 (some .int) s args RX1 D A dA := E
  have hx := E.1.1
  have hb := E.1.2.1
  have hl : lv_has ls 5 [(0, .ref h), (1, .int b), (2, .int d)] := hl
  refine lv_iload_n hx hb dX1_exchange_0 rfl (lv_at hl 1 rfl) ?_
  refine k1_isBlock E.1 hl.1 (Nat.le_of_ble_eq_true rfl) dX1_exchange_1 (by decide) ⟨Nat.zero_le _, Nat.zero_le _⟩  (fun r1 er1 => ?_)
  refine lv_if_eq (tgt := 14) hx hb dX1_exchange_4 (by decide) (fun c4 => ?_) (fun c4 => ?_)
  · refine lv_iconst (v := (-1)) hx hb dX1_exchange_14 (by decide) ?_
    have hin := inb01_f er1 c4
    refine ret dX1_exchange_15 rfl ⟨?_, ?_⟩ w
    · simp only [hin, false_and, Bool.false_eq_true, ↓reduceIte]
    · simp only [hin, false_and, Bool.false_eq_true, ↓reduceIte]
      exact hP
  · obtain ⟨hinj, j, hj, ej⟩ := inb01_t er1 c4
    subst ej
    refine lv_iload_n hx hb dX1_exchange_7 rfl (lv_at hl 2 rfl) ?_
    refine k1_isBlock E.1 hl.1 (Nat.le_of_ble_eq_true rfl) dX1_exchange_8 (by decide) ⟨Nat.zero_le _, Nat.zero_le _⟩  (fun r2 er2 => ?_)
    refine lv_if_ne (tgt := 16) hx hb dX1_exchange_11 (by decide) (fun c11 => ?_) (fun c11 => ?_)
    · obtain ⟨hink, k, hk, ek⟩ := inb01_t er2 c11
      subst ek
      refine lv_aload_n hx hb dX1_exchange_16 rfl (lv_at hl 0 rfl) ?_
      refine lv_iload_n hx hb dX1_exchange_17 rfl (lv_at hl 1 rfl) ?_
      refine lv_iconst (v := 0) hx hb dX1_exchange_18 (by decide) ?_
      refine lv_iconst (v := 0) hx hb dX1_exchange_19 (by decide) ?_
      refine k1_accR E w hl.1 (Nat.le_of_ble_eq_true rfl) dX1_exchange_20 (by decide) ⟨Nat.zero_le _, Nat.zero_le _⟩ hP.1 hj (fun f2 g2 H locs hpf2 w => ?_)
      refine lv_istore_n (lv' := [(3, .int (val j)), (0, .ref h), (1, .int (nI j)), (2, .int (nI k))]) hx hb dX1_exchange_23 rfl hl (by decide) rfl (fun ls hl => ?_)
      refine lv_aload_n hx hb dX1_exchange_24 rfl (lv_at hl 1 rfl) ?_
      refine lv_iload_n hx hb dX1_exchange_25 rfl (lv_at hl 3 rfl) ?_
      refine lv_iconst (v := 1) hx hb dX1_exchange_26 (by decide) ?_
      refine lv_iload_n hx hb dX1_exchange_27 rfl (lv_at hl 0 rfl) ?_
      refine k1_accW E w hl.1 (Nat.le_of_ble_eq_true rfl) dX1_exchange_28 (by decide) ⟨Nat.zero_le _, Nat.zero_le _⟩ hpf2.1 hk (fun f3 g3 H locs hpf3 w => ?_)
      refine lv_istore (lv' := [(4, .int (val k)), (3, .int (val j)), (0, .ref h), (1, .int (nI j)), (2, .int (nI k))]) hx hb dX1_exchange_31 hl (by decide) rfl (fun ls hl => ?_)
      refine lv_aload_n hx hb dX1_exchange_33 rfl (lv_at hl 2 rfl) ?_
      refine lv_iload_n hx hb dX1_exchange_34 rfl (lv_at hl 3 rfl) ?_
      refine lv_iconst (v := 1) hx hb dX1_exchange_35 (by decide) ?_
      refine lv_iload hx hb dX1_exchange_36 (lv_at hl 0 rfl) ?_
      refine k1_accW E w hl.1 (Nat.le_of_ble_eq_true rfl) dX1_exchange_38 (by decide) ⟨Nat.zero_le _, Nat.zero_le _⟩ hpf3.1 hj (fun f4 g4 H locs hpf4 w => ?_)
      refine lv_pop hx hb dX1_exchange_41 rfl ?_
      refine lv_iconst (v := 0) hx hb dX1_exchange_42 (by decide) ?_
      refine ret dX1_exchange_43 rfl ⟨?_, ?_⟩ w
      · simp only [hinj, hink, and_self, ↓reduceIte, ixb_nI (show j < 2 ^ 31 by omega), ixb_nI (show k < 2 ^ 31 by omega)]
      · simp only [hinj, hink, and_self, ↓reduceIte, ixb_nI (show j < 2 ^ 31 by omega), ixb_nI (show k < 2 ^ 31 by omega)]
        exact ⟨by rw [← upd_swap]; exact hpf4.1, hpf4.2.1.trans (hpf3.2.1.trans (hpf2.2.1.trans hP.2.1)), hpf4.2.2.2⟩
    · refine lv_iconst (v := (-1)) hx hb dX1_exchange_14 (by decide) ?_
      have hin := inb01_f er2 c11
      refine ret dX1_exchange_15 rfl ⟨?_, ?_⟩ w
      · simp only [hin, and_false, Bool.false_eq_true, ↓reduceIte]
      · simp only [hin, and_false, Bool.false_eq_true, ↓reduceIte]
        exact hP
set_option maxHeartbeats 4000000 in
set_option maxRecDepth 100000 in
theorem c1_copy (l : Launch) (D : va_G) (h : Nat) (ad : Nat → Nat) (dA : Nat → ClassId) (f : Nat → Int32) (g : Nat → Nat → Int32) (b d : Int32) (val snap : Nat → Int32) (t : Int32) (hP : PX f g val snap t) : ow_MI 0 16 5 xlen l yX1_copy cX1_copy 4 .int (rmD 5) D h ad dA [.int b, .int d] f g (fun r f1 g1 => r = (if inb b = true ∧ inb d = true then 0 else -1) ∧ PX f1 g1 (if inb b = true ∧ inb d = true then upd val (ixb d) (val (ixb b)) else val) snap (if inb b = true ∧ inb d = true then nI 4 else t)) := by
  refine ow_ofI (by decide) (Nat.le_of_ble_eq_true rfl) ?_
  intro p e s m args below meth c A Q ls E w hl ret
  have E : ow_E 16 p m meth c cX1_copy 4 (some .int) s args RX1 D A dA := E
  have hx := E.1.1
  have hb := E.1.2.1
  have hl : lv_has ls 4 [(0, .ref h), (1, .int b), (2, .int d)] := hl
  refine lv_iload_n hx hb dX1_copy_0 rfl (lv_at hl 1 rfl) ?_
  refine k1_isBlock E.1 hl.1 (Nat.le_of_ble_eq_true rfl) dX1_copy_1 (by decide) ⟨Nat.zero_le _, Nat.zero_le _⟩  (fun r1 er1 => ?_)
  refine lv_if_eq (tgt := 14) hx hb dX1_copy_4 (by decide) (fun c4 => ?_) (fun c4 => ?_)
  · refine lv_iconst (v := (-1)) hx hb dX1_copy_14 (by decide) ?_
    have hin := inb01_f er1 c4
    refine ret dX1_copy_15 rfl ⟨?_, ?_⟩ w
    · simp only [hin, false_and, Bool.false_eq_true, ↓reduceIte]
    · simp only [hin, false_and, Bool.false_eq_true, ↓reduceIte]
      exact hP
  · obtain ⟨hinj, j, hj, ej⟩ := inb01_t er1 c4
    subst ej
    refine lv_iload_n hx hb dX1_copy_7 rfl (lv_at hl 2 rfl) ?_
    refine k1_isBlock E.1 hl.1 (Nat.le_of_ble_eq_true rfl) dX1_copy_8 (by decide) ⟨Nat.zero_le _, Nat.zero_le _⟩  (fun r2 er2 => ?_)
    refine lv_if_ne (tgt := 16) hx hb dX1_copy_11 (by decide) (fun c11 => ?_) (fun c11 => ?_)
    · obtain ⟨hink, k, hk, ek⟩ := inb01_t er2 c11
      subst ek
      refine lv_aload_n hx hb dX1_copy_16 rfl (lv_at hl 0 rfl) ?_
      refine lv_iload_n hx hb dX1_copy_17 rfl (lv_at hl 1 rfl) ?_
      refine lv_iconst (v := 0) hx hb dX1_copy_18 (by decide) ?_
      refine lv_iconst (v := 0) hx hb dX1_copy_19 (by decide) ?_
      refine k1_accR E w hl.1 (Nat.le_of_ble_eq_true rfl) dX1_copy_20 (by decide) ⟨Nat.zero_le _, Nat.zero_le _⟩ hP.1 hj (fun f2 g2 H locs hpf2 w => ?_)
      refine lv_istore_n (lv' := [(3, .int (val j)), (0, .ref h), (1, .int (nI j)), (2, .int (nI k))]) hx hb dX1_copy_23 rfl hl (by decide) rfl (fun ls hl => ?_)
      refine lv_aload_n hx hb dX1_copy_24 rfl (lv_at hl 1 rfl) ?_
      refine lv_iload_n hx hb dX1_copy_25 rfl (lv_at hl 3 rfl) ?_
      refine lv_iconst (v := 1) hx hb dX1_copy_26 (by decide) ?_
      refine lv_iload_n hx hb dX1_copy_27 rfl (lv_at hl 0 rfl) ?_
      refine k1_accW E w hl.1 (Nat.le_of_ble_eq_true rfl) dX1_copy_28 (by decide) ⟨Nat.zero_le _, Nat.zero_le _⟩ hpf2.1 hk (fun f3 g3 H locs hpf3 w => ?_)
      refine lv_pop hx hb dX1_copy_31 rfl ?_
      refine lv_iconst (v := 0) hx hb dX1_copy_32 (by decide) ?_
      refine ret dX1_copy_33 rfl ⟨?_, ?_⟩ w
      · simp only [hinj, hink, and_self, ↓reduceIte, ixb_nI (show j < 2 ^ 31 by omega), ixb_nI (show k < 2 ^ 31 by omega)]
      · simp only [hinj, hink, and_self, ↓reduceIte, ixb_nI (show j < 2 ^ 31 by omega), ixb_nI (show k < 2 ^ 31 by omega)]
        exact ⟨hpf3.1, hpf3.2.1.trans (hpf2.2.1.trans hP.2.1), hpf3.2.2.2⟩
    · refine lv_iconst (v := (-1)) hx hb dX1_copy_14 (by decide) ?_
      have hin := inb01_f er2 c11
      refine ret dX1_copy_15 rfl ⟨?_, ?_⟩ w
      · simp only [hin, and_false, Bool.false_eq_true, ↓reduceIte]
      · simp only [hin, and_false, Bool.false_eq_true, ↓reduceIte]
        exact hP
set_option maxHeartbeats 4000000 in
set_option maxRecDepth 100000 in
theorem c1_fill (l : Launch) (D : va_G) (h : Nat) (ad : Nat → Nat) (dA : Nat → ClassId) (f : Nat → Int32) (g : Nat → Nat → Int32) (b n v st : Int32) (val snap : Nat → Int32) (t : Int32) (hP : PX f g val snap t) : ow_MI 0 16 5 xlen l yX1_fill cX1_fill 6 .int (rmD 5) D h ad dA [.int b, .int n, .int v, .int st] f g (fun r f1 g1 => r = (if n < 1 ∨ ¬ n ≤ 16 then -1 else if b < 0 ∨ ¬ b ≤ 16 - n then -2 else 0) ∧ PX f1 g1 (if n < 1 ∨ ¬ n ≤ 16 then val else if b < 0 ∨ ¬ b ≤ 16 - n then val else fl val (ixb b) (ixb n) v st) snap (if ¬ (n < 1 ∨ ¬ n ≤ 16) ∧ ¬ (b < 0 ∨ ¬ b ≤ 16 - n) then nI 4 else t)) := by
  refine ow_ofI (by decide) (Nat.le_of_ble_eq_true rfl) ?_
  intro p e s m args below meth c A Q ls E w hl ret
  have E : ow_E 16 p m meth c cX1_fill 6 (some .int) s args RX1 D A dA := E
  have hx := E.1.1
  have hb := E.1.2.1
  have hl : lv_has ls 6 [(0, .ref h), (1, .int b), (2, .int n), (3, .int v), (4, .int st)] := hl
  refine lv_iload_n hx hb dX1_fill_0 rfl (lv_at hl 2 rfl) ?_
  refine lv_iconst (v := 1) hx hb dX1_fill_1 (by decide) ?_
  refine lv_icmp_lt (tgt := 11) hx hb dX1_fill_2 (by decide) (fun c2 => ?_) (fun c2 => ?_)
  · refine lv_iconst (v := (-1)) hx hb dX1_fill_11 (by decide) ?_
    refine ret dX1_fill_12 rfl ⟨?_, ?_⟩ w
    · simp only [c2, true_or, not_true_eq_false, false_and, ↓reduceIte]
    · simp only [c2, true_or, not_true_eq_false, false_and, ↓reduceIte]
      exact hP
  · refine lv_iload_n hx hb dX1_fill_5 rfl (lv_at hl 2 rfl) ?_
    refine lv_bipush (v := 16) hx hb dX1_fill_6 (by decide) ?_
    refine lv_icmp_le (tgt := 13) hx hb dX1_fill_8 (by decide) (fun c8 => ?_) (fun c8 => ?_)
    · refine lv_iload_n hx hb dX1_fill_13 rfl (lv_at hl 1 rfl) ?_
      refine lv_if_lt (tgt := 25) hx hb dX1_fill_14 (by decide) (fun c14 => ?_) (fun c14 => ?_)
      · refine lv_bipush (v := (-2)) hx hb dX1_fill_25 (by decide) ?_
        refine ret dX1_fill_27 rfl ⟨?_, ?_⟩ w
        · simp only [c2, c8, c14, true_or, not_true_eq_false, not_false_eq_true, or_false, or_self, and_false, ↓reduceIte]
        · simp only [c2, c8, c14, true_or, not_true_eq_false, not_false_eq_true, or_false, or_self, and_false, ↓reduceIte]
          exact hP
      · refine lv_iload_n hx hb dX1_fill_17 rfl (lv_at hl 1 rfl) ?_
        refine lv_bipush (v := 16) hx hb dX1_fill_18 (by decide) ?_
        refine lv_iload_n hx hb dX1_fill_20 rfl (lv_at hl 2 rfl) ?_
        refine lv_isub hx hb dX1_fill_21 ?_
        refine lv_icmp_le (tgt := 28) hx hb dX1_fill_22 (by decide) (fun c22 => ?_) (fun c22 => ?_)
        · have cc2 := c2
          have cc8 := c8
          have cc14 := c14
          have cc22 := c22
          obtain ⟨j, n', hn1, hjn, ej, en⟩ := fill_ok c2 c8 c14 c22
          subst ej
          subst en
          have loop : ∀ (q k : Nat), k ≤ n' → n' < k + q → ∀ (f2 : Nat → Int32) (g2 : Nat → Nat → Int32), oI f2 g2 (fl val j k v st) → g2 14 = snap → (k = 0 ∨ f2 4 = nI 4) → ∀ (H : Heap) (locs : List Loc) (ls : Array Slot), ow_W 0 16 5 xlen D A h ad dA f2 g2 s H locs → lv_has ls 6 [(0, .ref h), (1, .int (nI j)), (2, .int (nI n')), (3, .int v), (4, .int st), (5, .int (nI k))] → W p l e (rmD 5) s m args below meth c H locs 0 0 Q (F0 m 31 ls []) := by
            intro q
            induction q with
            | zero => intro k hk hq; exact absurd hq (by omega)
            | succ q ih =>
              intro k hk hq f2 g2 hO2 h14 h4 H locs ls w hl
              refine lv_iload hx hb dX1_fill_31 (lv_at hl 5 rfl) ?_
              refine lv_iload_n hx hb dX1_fill_33 rfl (lv_at hl 2 rfl) ?_
              refine ow_ge (k) (n') (by omega) (by omega) (tgt := 60) hx hb dX1_fill_34 (by decide) (fun c34 => ?_) (fun c34 => ?_)
              · have ek : k = n' := by omega
                subst ek
                refine lv_iconst (v := 0) hx hb dX1_fill_60 (by decide) ?_
                refine ret dX1_fill_61 rfl ⟨?_, ?_⟩ w
                · simp only [cc2, cc8, cc14, cc22, or_self, not_true_eq_false, not_false_eq_true, and_self, ↓reduceIte, ixb_nI (show j < 2 ^ 31 by omega), ixb_nI (show k < 2 ^ 31 by omega)]
                · simp only [cc2, cc8, cc14, cc22, or_self, not_true_eq_false, not_false_eq_true, and_self, ↓reduceIte, ixb_nI (show j < 2 ^ 31 by omega), ixb_nI (show k < 2 ^ 31 by omega)]
                  exact ⟨hO2, h14, h4.resolve_left (by omega)⟩
              · refine lv_aload_n hx hb dX1_fill_37 rfl (lv_at hl 0 rfl) ?_
                refine lv_iload_n hx hb dX1_fill_38 rfl (lv_at hl 1 rfl) ?_
                refine lv_iload hx hb dX1_fill_39 (lv_at hl 5 rfl) ?_
                refine lv_iadd hx hb dX1_fill_41 ?_
                refine ow_top (v := nI (j + k)) (nI_add _ _) ?_
                refine lv_iconst (v := 1) hx hb dX1_fill_42 (by decide) ?_
                refine lv_iload_n hx hb dX1_fill_43 rfl (lv_at hl 3 rfl) ?_
                refine lv_iload hx hb dX1_fill_44 (lv_at hl 5 rfl) ?_
                refine lv_iload hx hb dX1_fill_46 (lv_at hl 4 rfl) ?_
                refine lv_imul hx hb dX1_fill_48 ?_
                refine lv_iadd hx hb dX1_fill_49 ?_
                refine k1_accW E w hl.1 (Nat.le_of_ble_eq_true rfl) dX1_fill_50 (by decide) ⟨Nat.zero_le _, Nat.zero_le _⟩ hO2 (by omega) (fun f3 g3 H locs hpf3 w => ?_)
                refine lv_pop hx hb dX1_fill_53 rfl ?_
                refine lv_iinc (v := nI (k + 1)) (lv' := [(5, .int (nI (k + 1))), (0, .ref h), (1, .int (nI j)), (2, .int (nI n')), (3, .int v), (4, .int st)]) hx hb dX1_fill_54 hl (k := 5) rfl (nI_1 _) (by decide) rfl (fun ls hl => ?_)
                refine lv_goto (tgt := 31) hx hb dX1_fill_57 (by decide) ?_
                obtain ⟨hO3, e14, e15, e4⟩ := hpf3
                rw [fl_s] at hO3
                exact ih (k + 1) (by omega) (by omega) f3 g3 hO3 (e14.trans h14) (Or.inr e4) H locs ls w (lv_sub hl [1, 2, 3, 4, 5, 0] rfl)
          refine lv_iconst (v := nI 0) hx hb dX1_fill_28 (by decide) ?_
          refine lv_istore (lv' := [(5, .int (nI 0)), (0, .ref h), (1, .int (nI j)), (2, .int (nI n')), (3, .int v), (4, .int st)]) hx hb dX1_fill_29 hl (by decide) rfl (fun ls hl => ?_)
          exact loop (n' + 1) 0 (by omega) (by omega) f g (by rw [fl_0]; exact hP.1) hP.2.1 (Or.inl rfl) _ _ ls w (lv_sub hl [1, 2, 3, 4, 5, 0] rfl)
        · refine lv_bipush (v := (-2)) hx hb dX1_fill_25 (by decide) ?_
          refine ret dX1_fill_27 rfl ⟨?_, ?_⟩ w
          · simp only [c2, c8, c14, c22, not_false_eq_true, not_true_eq_false, or_true, or_self, false_or, and_false, ↓reduceIte]
          · simp only [c2, c8, c14, c22, not_false_eq_true, not_true_eq_false, or_true, or_self, false_or, and_false, ↓reduceIte]
            exact hP
    · refine lv_iconst (v := (-1)) hx hb dX1_fill_11 (by decide) ?_
      refine ret dX1_fill_12 rfl ⟨?_, ?_⟩ w
      · simp only [c2, c8, not_false_eq_true, not_true_eq_false, or_true, false_and, ↓reduceIte]
      · simp only [c2, c8, not_false_eq_true, not_true_eq_false, or_true, false_and, ↓reduceIte]
        exact hP
end
section
set_option maxHeartbeats 4000000 in
set_option maxRecDepth 100000 in
theorem c1_rotate (l : Launch) (D : va_G) (h : Nat) (ad : Nat → Nat) (dA : Nat → ClassId) (f : Nat → Int32) (g : Nat → Nat → Int32) (sh : Int32) (val snap : Nat → Int32) (t : Int32) (hP : PX f g val snap t) : ow_MI 0 16 5 xlen l yX1_rotate cX1_rotate 3 .int (rmD 6) D h ad dA [.int sh] f g (fun r f1 g1 => r = 0 ∧ PX f1 g1 (rtt val sh 16) snap (if True then nI 4 else t)) := by
  refine ow_ofI (by decide) (Nat.le_of_ble_eq_true rfl) ?_
  intro p e s m args below meth c A Q ls E w hl ret
  have E : ow_E 16 p m meth c cX1_rotate 3 (some .int) s args RX1 D A dA := E
  have hx := E.1.1
  have hb := E.1.2.1
  have hl : lv_has ls 3 [(0, .ref h), (1, .int sh)] := hl
  refine lv_aload_n hx hb dX1_rotate_0 rfl (lv_at hl 0 rfl) ?_
  refine k1_gather E w hl.1 (Nat.le_of_ble_eq_true rfl) dX1_rotate_1 (by decide) ⟨Nat.zero_le _, Nat.zero_le _⟩ hP.1 (fun f2 g2 H locs hp w => ?_)
  obtain ⟨hO2, h14, h15, h4⟩ := hp
  rw [hP.2.1] at h14
  refine lv_iconst (v := nI 0) hx hb dX1_rotate_4 (by decide) ?_
  refine lv_istore_n (lv' := [(2, .int (nI 0)), (0, .ref h), (1, .int sh)]) hx hb dX1_rotate_5 rfl hl (by decide) rfl (fun ls hl => ?_)
  have loop : ∀ (q k : Nat), k ≤ 16 → 16 < k + q → ∀ (f2 : Nat → Int32) (g2 : Nat → Nat → Int32), oI f2 g2 (rtt val sh k) → g2 14 = snap → (∀ j, j < 16 → g2 15 j = val j) → f2 4 = nI 4 → ∀ (H : Heap) (locs : List Loc) (ls : Array Slot), ow_W 0 16 5 xlen D A h ad dA f2 g2 s H locs → lv_has ls 3 [(0, .ref h), (1, .int sh), (2, .int (nI k))] → W p l e (rmD 6) s m args below meth c H locs 0 0 Q (F0 m 6 ls []) := by
    intro q
    induction q with
    | zero => intro k hk hq; exact absurd hq (by omega)
    | succ q ih =>
      intro k hk hq f2 g2 hO2 h14 h15 h4 H locs ls w hl
      refine lv_iload_n hx hb dX1_rotate_6 rfl (lv_at hl 2 rfl) ?_
      refine lv_bipush (v := nI 16) hx hb dX1_rotate_7 (by decide) ?_
      refine ow_ge (k) (16) (by omega) (by omega) (tgt := 36) hx hb dX1_rotate_9 (by decide) (fun c9 => ?_) (fun c9 => ?_)
      · have ek : k = 16 := by omega
        subst ek
        refine lv_iconst (v := 0) hx hb dX1_rotate_36 (by decide) ?_
        refine ret dX1_rotate_37 rfl ⟨?_, ?_⟩ w
        · exact rfl
        · simp only [↓reduceIte]
          exact ⟨hO2, h14, h4⟩
      · obtain ⟨i, hi, ei⟩ := pk_andE (nI k + sh) (m := nI 15) 4 (by decide)
        have er : rix k sh = i := by unfold rix; rw [ei]; exact ixb_nI (by omega)
        refine lv_aload_n hx hb dX1_rotate_12 rfl (lv_at hl 0 rfl) ?_
        refine lv_iload_n hx hb dX1_rotate_13 rfl (lv_at hl 2 rfl) ?_
        refine lv_iconst (v := 1) hx hb dX1_rotate_14 (by decide) ?_
        refine lv_aload_n hx hb dX1_rotate_15 rfl (lv_at hl 0 rfl) ?_
        refine ow_geta xC E w 15 (by decide) q95 dX1_rotate_16 ?_
        refine lv_iload_n hx hb dX1_rotate_19 rfl (lv_at hl 2 rfl) ?_
        refine lv_iload_n hx hb dX1_rotate_20 rfl (lv_at hl 1 rfl) ?_
        refine lv_iadd hx hb dX1_rotate_21 ?_
        refine lv_bipush (v := nI 15) hx hb dX1_rotate_22 (by decide) ?_
        refine lv_iand hx hb dX1_rotate_24 ?_
        refine ow_top (v := nI i) ei ?_
        refine ow_iald xC E w 15 (by decide) (i) rfl (show _ < _ by first | omega | (simp only [xlen, mlen]; omega)) dX1_rotate_25 ?_
        refine ow_top (v := val i) (h15 i hi) ?_
        refine k1_accW E w hl.1 (Nat.le_of_ble_eq_true rfl) dX1_rotate_26 (by decide) ⟨Nat.zero_le _, Nat.zero_le _⟩ hO2 (by omega) (fun f3 g3 H locs hpf3 w => ?_)
        refine lv_pop hx hb dX1_rotate_29 rfl ?_
        refine lv_iinc (v := nI (k + 1)) (lv' := [(2, .int (nI (k + 1))), (0, .ref h), (1, .int sh)]) hx hb dX1_rotate_30 hl (k := 2) rfl (nI_1 _) (by decide) rfl (fun ls hl => ?_)
        refine lv_goto (tgt := 6) hx hb dX1_rotate_33 (by decide) ?_
        obtain ⟨hO3, e14, e15, e4⟩ := hpf3
        rw [← er, rtt_s] at hO3
        exact ih (k + 1) (by omega) (by omega) f3 g3 hO3 (e14.trans h14) (by rw [e15]; exact h15) e4 H locs ls w (lv_sub hl [1, 2, 0] rfl)
  exact loop 17 0 (by omega) (by omega) f2 g2 (by rw [rtt_0]; exact hO2) h14 h15 h4 _ _ ls w (lv_sub hl [1, 2, 0] rfl)
set_option maxHeartbeats 4000000 in
set_option maxRecDepth 100000 in
theorem c1_sum (l : Launch) (D : va_G) (h : Nat) (ad : Nat → Nat) (dA : Nat → ClassId) (f : Nat → Int32) (g : Nat → Nat → Int32) (val snap : Nat → Int32) (t : Int32) (hP : PX f g val snap t) : ow_MI 0 16 5 xlen l yX1_sum cX1_sum 3 .int (rmD 6) D h ad dA [] f g (fun r f1 g1 => r = (sm val 16) ∧ PX f1 g1 val snap (if True then nI 4 else t)) := by
  refine ow_ofI (by decide) (Nat.le_of_ble_eq_true rfl) ?_
  intro p e s m args below meth c A Q ls E w hl ret
  have E : ow_E 16 p m meth c cX1_sum 3 (some .int) s args RX1 D A dA := E
  have hx := E.1.1
  have hb := E.1.2.1
  have hl : lv_has ls 3 [(0, .ref h)] := hl
  refine lv_aload_n hx hb dX1_sum_0 rfl (lv_at hl 0 rfl) ?_
  refine k1_gather E w hl.1 (Nat.le_of_ble_eq_true rfl) dX1_sum_1 (by decide) ⟨Nat.zero_le _, Nat.zero_le _⟩ hP.1 (fun f2 g2 H locs hp w => ?_)
  obtain ⟨hO2, h14, h15, h4⟩ := hp
  rw [hP.2.1] at h14
  refine lv_iconst (v := 0) hx hb dX1_sum_4 (by decide) ?_
  refine lv_istore_n (lv' := [(1, .int 0), (0, .ref h)]) hx hb dX1_sum_5 rfl hl (by decide) rfl (fun ls hl => ?_)
  refine lv_iconst (v := nI 0) hx hb dX1_sum_6 (by decide) ?_
  refine lv_istore_n (lv' := [(2, .int (nI 0)), (1, .int 0), (0, .ref h)]) hx hb dX1_sum_7 rfl hl (by decide) rfl (fun ls hl => ?_)
  have loop : ∀ (q k : Nat), k ≤ 16 → 16 < k + q → ∀ (H : Heap) (locs : List Loc) (ls : Array Slot), ow_W 0 16 5 xlen D A h ad dA f2 g2 s H locs → lv_has ls 3 [(0, .ref h), (1, .int (sm val k)), (2, .int (nI k))] → W p l e (rmD 6) s m args below meth c H locs 0 0 Q (F0 m 8 ls []) := by
    intro q
    induction q with
    | zero => intro k hk hq; exact absurd hq (by omega)
    | succ q ih =>
      intro k hk hq  H locs ls w hl
      refine lv_iload_n hx hb dX1_sum_8 rfl (lv_at hl 2 rfl) ?_
      refine lv_bipush (v := nI 16) hx hb dX1_sum_9 (by decide) ?_
      refine ow_ge (k) (16) (by omega) (by omega) (tgt := 29) hx hb dX1_sum_11 (by decide) (fun c11 => ?_) (fun c11 => ?_)
      · have ek : k = 16 := by omega
        subst ek
        refine lv_iload_n hx hb dX1_sum_29 rfl (lv_at hl 1 rfl) ?_
        refine ret dX1_sum_30 rfl ⟨?_, ?_⟩ w
        · exact rfl
        · simp only [↓reduceIte]
          exact ⟨hO2, h14, h4⟩
      · refine lv_iload_n hx hb dX1_sum_14 rfl (lv_at hl 1 rfl) ?_
        refine lv_aload_n hx hb dX1_sum_15 rfl (lv_at hl 0 rfl) ?_
        refine ow_geta xC E w 15 (by decide) q95 dX1_sum_16 ?_
        refine lv_iload_n hx hb dX1_sum_19 rfl (lv_at hl 2 rfl) ?_
        refine ow_iald xC E w 15 (by decide) (k) rfl (show _ < _ by first | omega | (simp only [xlen, mlen]; omega)) dX1_sum_20 ?_
        refine ow_top (v := val k) (h15 k (by omega)) ?_
        refine lv_iadd hx hb dX1_sum_21 ?_
        refine ow_top (v := sm val (k + 1)) rfl ?_
        refine lv_istore_n (lv' := [(1, .int (sm val (k + 1))), (0, .ref h), (2, .int (nI k))]) hx hb dX1_sum_22 rfl hl (by decide) rfl (fun ls hl => ?_)
        refine lv_iinc (v := nI (k + 1)) (lv' := [(2, .int (nI (k + 1))), (1, .int (sm val (k + 1))), (0, .ref h)]) hx hb dX1_sum_23 hl (k := 2) rfl (nI_1 _) (by decide) rfl (fun ls hl => ?_)
        refine lv_goto (tgt := 8) hx hb dX1_sum_26 (by decide) ?_
        exact ih (k + 1) (by omega) (by omega) H locs ls w (lv_sub hl [2, 1, 0] rfl)
  exact loop 17 0 (by omega) (by omega) _ _ ls w (lv_sub hl [2, 1, 0] rfl)
set_option maxHeartbeats 4000000 in
set_option maxRecDepth 100000 in
theorem c1_find (l : Launch) (D : va_G) (h : Nat) (ad : Nat → Nat) (dA : Nat → ClassId) (f : Nat → Int32) (g : Nat → Nat → Int32) (v b : Int32) (val snap : Nat → Int32) (t : Int32) (hP : PX f g val snap t) : ow_MI 0 16 5 xlen l yX1_find cX1_find 5 .int (rmD 5) D h ad dA [.int v, .int b] f g (fun r f1 g1 => r = (if inb b = true then fd val v (ixb b) (16 - ixb b) else -1) ∧ PX f1 g1 val snap (if inb b = true then nI 4 else t)) := by
  refine ow_ofI (by decide) (Nat.le_of_ble_eq_true rfl) ?_
  intro p e s m args below meth c A Q ls E w hl ret
  have E : ow_E 16 p m meth c cX1_find 5 (some .int) s args RX1 D A dA := E
  have hx := E.1.1
  have hb := E.1.2.1
  have hl : lv_has ls 5 [(0, .ref h), (1, .int v), (2, .int b)] := hl
  refine lv_iload_n hx hb dX1_find_0 rfl (lv_at hl 2 rfl) ?_
  refine k1_isBlock E.1 hl.1 (Nat.le_of_ble_eq_true rfl) dX1_find_1 (by decide) ⟨Nat.zero_le _, Nat.zero_le _⟩  (fun r1 er1 => ?_)
  refine lv_if_ne (tgt := 9) hx hb dX1_find_4 (by decide) (fun c4 => ?_) (fun c4 => ?_)
  · obtain ⟨hinj, j, hj, ej⟩ := inb01_t er1 c4
    subst ej
    refine lv_iload_n hx hb dX1_find_9 rfl (lv_at hl 2 rfl) ?_
    refine lv_istore_n (lv' := [(3, .int (nI j)), (0, .ref h), (1, .int v), (2, .int (nI j))]) hx hb dX1_find_10 rfl hl (by decide) rfl (fun ls hl => ?_)
    have loop : ∀ (q k : Nat), k ≤ 16 → 16 < k + q → ∀ (f2 : Nat → Int32) (g2 : Nat → Nat → Int32), oI f2 g2 val → g2 14 = snap → (k = j ∨ f2 4 = nI 4) → fd val v j (16 - j) = fd val v k (16 - k) → ∀ (H : Heap) (locs : List Loc) (ls : Array Slot), ow_W 0 16 5 xlen D A h ad dA f2 g2 s H locs → lv_has ls 5 [(0, .ref h), (1, .int v), (2, .int (nI j)), (3, .int (nI k))] → W p l e (rmD 5) s m args below meth c H locs 0 0 Q (F0 m 11 ls []) := by
      intro q
      induction q with
      | zero => intro k hk hq; exact absurd hq (by omega)
      | succ q ih =>
        intro k hk hq f2 g2 hO2 h14 h4 hfd H locs ls w hl
        refine lv_iload_n hx hb dX1_find_11 rfl (lv_at hl 3 rfl) ?_
        refine lv_bipush (v := nI 16) hx hb dX1_find_12 (by decide) ?_
        refine ow_ge (k) (16) (by omega) (by omega) (tgt := 40) hx hb dX1_find_14 (by decide) (fun c14 => ?_) (fun c14 => ?_)
        · have ek : k = 16 := by omega
          subst ek
          refine lv_bipush (v := (-2)) hx hb dX1_find_40 (by decide) ?_
          refine ret dX1_find_42 rfl ⟨?_, ?_⟩ w
          · exact by simp only [hinj, ↓reduceIte, ixb_nI (show j < 2 ^ 31 by omega)]; exact hfd.symm
          · simp only [hinj, ↓reduceIte, ixb_nI (show j < 2 ^ 31 by omega)]
            exact ⟨hO2, h14, h4.resolve_left (by omega)⟩
        · refine lv_aload_n hx hb dX1_find_17 rfl (lv_at hl 0 rfl) ?_
          refine lv_iload_n hx hb dX1_find_18 rfl (lv_at hl 3 rfl) ?_
          refine lv_iconst (v := 0) hx hb dX1_find_19 (by decide) ?_
          refine lv_iconst (v := 0) hx hb dX1_find_20 (by decide) ?_
          refine k1_accR E w hl.1 (Nat.le_of_ble_eq_true rfl) dX1_find_21 (by decide) ⟨Nat.zero_le _, Nat.zero_le _⟩ hO2 (by omega) (fun f3 g3 H locs hpf3 w => ?_)
          refine lv_istore (lv' := [(4, .int (val k)), (0, .ref h), (1, .int v), (2, .int (nI j)), (3, .int (nI k))]) hx hb dX1_find_24 hl (by decide) rfl (fun ls hl => ?_)
          refine lv_iload hx hb dX1_find_26 (lv_at hl 0 rfl) ?_
          refine lv_iload_n hx hb dX1_find_28 rfl (lv_at hl 2 rfl) ?_
          obtain ⟨hO3, e14, e15, e4⟩ := hpf3
          have e1 : 16 - k = (16 - (k + 1)) + 1 := by omega
          refine lv_icmp_ne (tgt := 34) hx hb dX1_find_29 (by decide) (fun c29 => ?_) (fun c29 => ?_)
          · refine lv_iinc (v := nI (k + 1)) (lv' := [(3, .int (nI (k + 1))), (4, .int (val k)), (0, .ref h), (1, .int v), (2, .int (nI j))]) hx hb dX1_find_34 hl (k := 4) rfl (nI_1 _) (by decide) rfl (fun ls hl => ?_)
            refine lv_goto (tgt := 11) hx hb dX1_find_37 (by decide) ?_
            refine ih (k + 1) (by omega) (by omega) f3 g3 hO3 (e14.trans h14) (Or.inr e4) ?_ H locs ls w (lv_sub hl [2, 3, 4, 0] rfl)
            rw [hfd, e1]
            exact if_neg c29
          · refine lv_iload_n hx hb dX1_find_32 rfl (lv_at hl 4 rfl) ?_
            refine ret dX1_find_33 rfl ⟨?_, ?_⟩ w
            · exact by simp only [hinj, ↓reduceIte, ixb_nI (show j < 2 ^ 31 by omega)]; rw [hfd, e1]; exact (if_pos c29).symm
            · simp only [hinj, ↓reduceIte, ixb_nI (show j < 2 ^ 31 by omega)]
              exact ⟨hO3, e14.trans h14, e4⟩
    exact loop 17 j (by omega) (by omega) f g hP.1 hP.2.1 (Or.inl rfl) rfl _ _ ls w (lv_sub hl [1, 2, 3, 0] rfl)
  · refine lv_iconst (v := (-1)) hx hb dX1_find_7 (by decide) ?_
    have hin := inb01_f er1 c4
    refine ret dX1_find_8 rfl ⟨?_, ?_⟩ w
    · simp only [hin, Bool.false_eq_true, ↓reduceIte]
    · simp only [hin, Bool.false_eq_true, ↓reduceIte]
      exact hP
set_option maxHeartbeats 4000000 in
set_option maxRecDepth 100000 in
theorem c1_below (l : Launch) (D : va_G) (h : Nat) (ad : Nat → Nat) (dA : Nat → ClassId) (f : Nat → Int32) (g : Nat → Nat → Int32) (v : Int32) (val snap : Nat → Int32) (t : Int32) (hP : PX f g val snap t) : ow_MI 0 16 5 xlen l yX1_below cX1_below 4 .int (rmD 6) D h ad dA [.int v] f g (fun r f1 g1 => r = (nI (cl val v 16)) ∧ PX f1 g1 val snap (if True then nI 4 else t)) := by
  refine ow_ofI (by decide) (Nat.le_of_ble_eq_true rfl) ?_
  intro p e s m args below meth c A Q ls E w hl ret
  have E : ow_E 16 p m meth c cX1_below 4 (some .int) s args RX1 D A dA := E
  have hx := E.1.1
  have hb := E.1.2.1
  have hl : lv_has ls 4 [(0, .ref h), (1, .int v)] := hl
  refine lv_aload_n hx hb dX1_below_0 rfl (lv_at hl 0 rfl) ?_
  refine k1_gather E w hl.1 (Nat.le_of_ble_eq_true rfl) dX1_below_1 (by decide) ⟨Nat.zero_le _, Nat.zero_le _⟩ hP.1 (fun f2 g2 H locs hp w => ?_)
  obtain ⟨hO2, h14, h15, h4⟩ := hp
  rw [hP.2.1] at h14
  refine lv_iconst (v := nI 0) hx hb dX1_below_4 (by decide) ?_
  refine lv_istore_n (lv' := [(2, .int (nI 0)), (0, .ref h), (1, .int v)]) hx hb dX1_below_5 rfl hl (by decide) rfl (fun ls hl => ?_)
  refine lv_iconst (v := nI 0) hx hb dX1_below_6 (by decide) ?_
  refine lv_istore_n (lv' := [(3, .int (nI 0)), (2, .int (nI 0)), (0, .ref h), (1, .int v)]) hx hb dX1_below_7 rfl hl (by decide) rfl (fun ls hl => ?_)
  have loop : ∀ (q k : Nat), k ≤ 16 → 16 < k + q → ∀ (H : Heap) (locs : List Loc) (ls : Array Slot), ow_W 0 16 5 xlen D A h ad dA f2 g2 s H locs → lv_has ls 4 [(0, .ref h), (1, .int v), (2, .int (nI (cl val v k))), (3, .int (nI k))] → W p l e (rmD 6) s m args below meth c H locs 0 0 Q (F0 m 8 ls []) := by
    intro q
    induction q with
    | zero => intro k hk hq; exact absurd hq (by omega)
    | succ q ih =>
      intro k hk hq  H locs ls w hl
      refine lv_iload_n hx hb dX1_below_8 rfl (lv_at hl 3 rfl) ?_
      refine lv_bipush (v := nI 16) hx hb dX1_below_9 (by decide) ?_
      refine ow_ge (k) (16) (by omega) (by omega) (tgt := 33) hx hb dX1_below_11 (by decide) (fun c11 => ?_) (fun c11 => ?_)
      · have ek : k = 16 := by omega
        subst ek
        refine lv_iload_n hx hb dX1_below_33 rfl (lv_at hl 2 rfl) ?_
        refine ret dX1_below_34 rfl ⟨?_, ?_⟩ w
        · exact rfl
        · simp only [↓reduceIte]
          exact ⟨hO2, h14, h4⟩
      · refine lv_aload_n hx hb dX1_below_14 rfl (lv_at hl 0 rfl) ?_
        refine ow_geta xC E w 15 (by decide) q95 dX1_below_15 ?_
        refine lv_iload_n hx hb dX1_below_18 rfl (lv_at hl 3 rfl) ?_
        refine ow_iald xC E w 15 (by decide) (k) rfl (show _ < _ by first | omega | (simp only [xlen, mlen]; omega)) dX1_below_19 ?_
        refine ow_top (v := val k) (h15 k (by omega)) ?_
        refine lv_iload_n hx hb dX1_below_20 rfl (lv_at hl 1 rfl) ?_
        refine lv_icmp_ge (tgt := 27) hx hb dX1_below_21 (by decide) (fun c21 => ?_) (fun c21 => ?_)
        · refine lv_iinc (v := nI (k + 1)) (lv' := [(3, .int (nI (k + 1))), (0, .ref h), (1, .int v), (2, .int (nI (cl val v k)))]) hx hb dX1_below_27 hl (k := 3) rfl (nI_1 _) (by decide) rfl (fun ls hl => ?_)
          refine lv_goto (tgt := 8) hx hb dX1_below_30 (by decide) ?_
          have e : cl val v (k + 1) = cl val v k := by
            show cl val v k + _ = _
            rw [if_neg (Int32.not_lt.mpr c21), Nat.add_zero]
          refine ih (k + 1) (by omega) (by omega) H locs ls w ?_
          rw [e]
          exact (lv_sub hl [1, 2, 3, 0] rfl)
        · refine lv_iinc (v := nI (cl val v k + 1)) (lv' := [(2, .int (nI (cl val v k + 1))), (0, .ref h), (1, .int v), (3, .int (nI k))]) hx hb dX1_below_24 hl (k := 2) rfl (nI_1 _) (by decide) rfl (fun ls hl => ?_)
          refine lv_iinc (v := nI (k + 1)) (lv' := [(3, .int (nI (k + 1))), (2, .int (nI (cl val v k + 1))), (0, .ref h), (1, .int v)]) hx hb dX1_below_27 hl (k := 3) rfl (nI_1 _) (by decide) rfl (fun ls hl => ?_)
          refine lv_goto (tgt := 8) hx hb dX1_below_30 (by decide) ?_
          have e : cl val v (k + 1) = cl val v k + 1 := by
            show cl val v k + _ = _
            rw [if_pos (Int32.not_le.mp c21)]
          refine ih (k + 1) (by omega) (by omega) H locs ls w ?_
          rw [e]
          exact (lv_sub hl [2, 3, 1, 0] rfl)
  exact loop 17 0 (by omega) (by omega) _ _ ls w (lv_sub hl [2, 3, 1, 0] rfl)
set_option maxHeartbeats 4000000 in
set_option maxRecDepth 100000 in
theorem c1_save (l : Launch) (D : va_G) (h : Nat) (ad : Nat → Nat) (dA : Nat → ClassId) (f : Nat → Int32) (g : Nat → Nat → Int32) (x : Int32) (val snap : Nat → Int32) (t : Int32) (hP : PX f g val snap t) : ow_MI 0 16 5 xlen l yX1_save cX1_save 3 .int (rmD 6) D h ad dA [.int x] f g (fun r f1 g1 => r = (if shot x = true then 0 else -1) ∧ PX f1 g1 val (if shot x = true then svv snap val (16 * ixb x) 16 else snap) (if shot x = true then nI 4 else t)) := by
  refine ow_ofI (by decide) (Nat.le_of_ble_eq_true rfl) ?_
  intro p e s m args below meth c A Q ls E w hl ret
  have E : ow_E 16 p m meth c cX1_save 3 (some .int) s args RX1 D A dA := E
  have hx := E.1.1
  have hb := E.1.2.1
  have hl : lv_has ls 3 [(0, .ref h), (1, .int x)] := hl
  have good : ∀ sn : Nat, sn < 2 → x = nI sn → W p l e (rmD 6) s m args below meth c s.heap [] 0 0 Q (F0 m 11 ls []) := by
    intro sn hsn ex
    subst ex
    have hsh := shot_nI sn hsn
    refine lv_aload_n hx hb dX1_save_11 rfl (lv_at hl 0 rfl) ?_
    refine k1_gather E w hl.1 (Nat.le_of_ble_eq_true rfl) dX1_save_12 (by decide) ⟨Nat.zero_le _, Nat.zero_le _⟩ hP.1 (fun f2 g2 H locs hp w => ?_)
    obtain ⟨hO2, h14, h15, h4⟩ := hp
    rw [hP.2.1] at h14
    refine lv_iconst (v := nI 0) hx hb dX1_save_15 (by decide) ?_
    refine lv_istore_n (lv' := [(2, .int (nI 0)), (0, .ref h), (1, .int (nI sn))]) hx hb dX1_save_16 rfl hl (by decide) rfl (fun ls hl => ?_)
    have loop : ∀ (q k : Nat), k ≤ 16 → 16 < k + q → ∀ (g3 : Nat → Nat → Int32), (∀ i, i ≠ 14 → g3 i = g2 i) → g3 14 = svv snap val (16 * sn) k → ∀ (H : Heap) (locs : List Loc) (ls : Array Slot), ow_W 0 16 5 xlen D A h ad dA f2 g3 s H locs → lv_has ls 3 [(0, .ref h), (1, .int (nI sn)), (2, .int (nI k))] → W p l e (rmD 6) s m args below meth c H locs 0 0 Q (F0 m 17 ls []) := by
      intro q
      induction q with
      | zero => intro k hk hq; exact absurd hq (by omega)
      | succ q ih =>
        intro k hk hq g3 hF3 h143 H locs ls w hl
        refine lv_iload_n hx hb dX1_save_17 rfl (lv_at hl 2 rfl) ?_
        refine lv_bipush (v := nI 16) hx hb dX1_save_18 (by decide) ?_
        refine ow_ge (k) (16) (by omega) (by omega) (tgt := 46) hx hb dX1_save_20 (by decide) (fun c20 => ?_) (fun c20 => ?_)
        · have ek : k = 16 := by omega
          subst ek
          refine lv_iconst (v := 0) hx hb dX1_save_46 (by decide) ?_
          have hO3 : oI f2 g3 val := by
            obtain ⟨n3, lf3, hX3, hM3⟩ := hO2
            exact ⟨n3, lf3, hX3.cg rfl rfl (fun i hi => hF3 i (by omega)), hM3.cg rfl (fun i _ hi => hF3 i (by omega))⟩
          refine ret dX1_save_47 rfl ⟨?_, ?_⟩ w
          · simp only [hsh, ↓reduceIte, ixb_nI (show sn < 2 ^ 31 by omega)]
          · simp only [hsh, ↓reduceIte, ixb_nI (show sn < 2 ^ 31 by omega)]
            exact ⟨hO3, h143, h4⟩
        · refine lv_aload_n hx hb dX1_save_23 rfl (lv_at hl 0 rfl) ?_
          refine ow_geta xC E w 14 (by decide) q94 dX1_save_24 ?_
          refine lv_bipush (v := nI 16) hx hb dX1_save_27 (by decide) ?_
          refine lv_iload_n hx hb dX1_save_29 rfl (lv_at hl 1 rfl) ?_
          refine lv_imul hx hb dX1_save_30 ?_
          refine ow_top (v := nI (16 * sn)) (pk_mul _ _) ?_
          refine lv_iload_n hx hb dX1_save_31 rfl (lv_at hl 2 rfl) ?_
          refine lv_iadd hx hb dX1_save_32 ?_
          refine ow_top (v := nI (16 * sn + k)) (nI_add _ _) ?_
          refine lv_aload_n hx hb dX1_save_33 rfl (lv_at hl 0 rfl) ?_
          refine ow_geta xC E w 15 (by decide) q95 dX1_save_34 ?_
          refine lv_iload_n hx hb dX1_save_37 rfl (lv_at hl 2 rfl) ?_
          refine ow_iald xC E w 15 (by decide) (k) rfl (show _ < _ by first | omega | (simp only [xlen, mlen]; omega)) dX1_save_38 ?_
          refine ow_top (v := val k) (by rw [hF3 15 (by decide)]; exact h15 k (by omega)) ?_
          refine ow_iast xC E w 14 (by decide) (16 * sn + k) rfl (show _ < _ by first | omega | (simp only [xlen, mlen]; omega)) dX1_save_39 (fun g4 H locs eg4 w => ?_)
          refine lv_iinc (v := nI (k + 1)) (lv' := [(2, .int (nI (k + 1))), (0, .ref h), (1, .int (nI sn))]) hx hb dX1_save_40 hl (k := 2) rfl (nI_1 _) (by decide) rfl (fun ls hl => ?_)
          refine lv_goto (tgt := 17) hx hb dX1_save_43 (by decide) ?_
          refine ih (k + 1) (by omega) (by omega) g4 (fun i hi => ?_) ?_ H locs ls w (lv_sub hl [1, 2, 0] rfl)
          · rw [eg4]
            simp only [va_up, if_neg hi]
            exact hF3 i hi
          · rw [eg4]
            show upd (g3 14) (16 * sn + k) (val k) = _
            rw [h143, svv_s]
    exact loop 17 0 (by omega) (by omega) g2 (fun _ _ => rfl) (by rw [svv_0]; exact h14) _ _ ls w (lv_sub hl [1, 2, 0] rfl)
  refine lv_iload_n hx hb dX1_save_0 rfl (lv_at hl 1 rfl) ?_
  refine lv_if_eq (tgt := 11) hx hb dX1_save_1 (by decide) (fun c1 => ?_) (fun c1 => ?_)
  · exact good 0 (by omega) c1
  · refine lv_iload_n hx hb dX1_save_4 rfl (lv_at hl 1 rfl) ?_
    refine lv_iconst (v := 1) hx hb dX1_save_5 (by decide) ?_
    refine lv_icmp_eq (tgt := 11) hx hb dX1_save_6 (by decide) (fun c6 => ?_) (fun c6 => ?_)
    · exact good 1 (by omega) c6
    · refine lv_iconst (v := (-1)) hx hb dX1_save_9 (by decide) ?_
      have hsh := shot_no c1 c6
      refine ret dX1_save_10 rfl ⟨?_, ?_⟩ w
      · simp only [hsh, Bool.false_eq_true, ↓reduceIte]
      · simp only [hsh, Bool.false_eq_true, ↓reduceIte]
        exact hP
set_option maxHeartbeats 4000000 in
set_option maxRecDepth 100000 in
theorem c1_load (l : Launch) (D : va_G) (h : Nat) (ad : Nat → Nat) (dA : Nat → ClassId) (f : Nat → Int32) (g : Nat → Nat → Int32) (x : Int32) (val snap : Nat → Int32) (t : Int32) (hP : PX f g val snap t) : ow_MI 0 16 5 xlen l yX1_load cX1_load 6 .int (rmD 5) D h ad dA [.int x] f g (fun r f1 g1 => r = (if shot x = true then nI (df val snap (16 * ixb x) 16) else -1) ∧ PX f1 g1 (if shot x = true then ldd val snap (16 * ixb x) 16 else val) snap (if shot x = true then nI 4 else t)) := by
  refine ow_ofI (by decide) (Nat.le_of_ble_eq_true rfl) ?_
  intro p e s m args below meth c A Q ls E w hl ret
  have E : ow_E 16 p m meth c cX1_load 6 (some .int) s args RX1 D A dA := E
  have hx := E.1.1
  have hb := E.1.2.1
  have hl : lv_has ls 6 [(0, .ref h), (1, .int x)] := hl
  have good : ∀ sn : Nat, sn < 2 → x = nI sn → W p l e (rmD 5) s m args below meth c s.heap [] 0 0 Q (F0 m 11 ls []) := by
    intro sn hsn ex
    subst ex
    have hsh := shot_nI sn hsn
    refine lv_iconst (v := nI 0) hx hb dX1_load_11 (by decide) ?_
    refine lv_istore_n (lv' := [(2, .int (nI 0)), (0, .ref h), (1, .int (nI sn))]) hx hb dX1_load_12 rfl hl (by decide) rfl (fun ls hl => ?_)
    refine lv_iconst (v := nI 0) hx hb dX1_load_13 (by decide) ?_
    refine lv_istore_n (lv' := [(3, .int (nI 0)), (2, .int (nI 0)), (0, .ref h), (1, .int (nI sn))]) hx hb dX1_load_14 rfl hl (by decide) rfl (fun ls hl => ?_)
    have loop : ∀ (q k : Nat), k ≤ 16 → 16 < k + q → ∀ (f2 : Nat → Int32) (g2 : Nat → Nat → Int32), oI f2 g2 (ldd val snap (16 * sn) k) → g2 14 = snap → (k = 0 ∨ f2 4 = nI 4) → ∀ (H : Heap) (locs : List Loc) (ls : Array Slot), ow_W 0 16 5 xlen D A h ad dA f2 g2 s H locs → lv_has ls 6 [(0, .ref h), (1, .int (nI sn)), (2, .int (nI (df val snap (16 * sn) k))), (3, .int (nI k))] → W p l e (rmD 5) s m args below meth c H locs 0 0 Q (F0 m 15 ls []) := by
      intro q
      induction q with
      | zero => intro k hk hq; exact absurd hq (by omega)
      | succ q ih =>
        intro k hk hq f2 g2 hO2 h14 h4 H locs ls w hl
        refine lv_iload_n hx hb dX1_load_15 rfl (lv_at hl 3 rfl) ?_
        refine lv_bipush (v := nI 16) hx hb dX1_load_16 (by decide) ?_
        refine ow_ge (k) (16) (by omega) (by omega) (tgt := 60) hx hb dX1_load_18 (by decide) (fun c18 => ?_) (fun c18 => ?_)
        · have ek : k = 16 := by omega
          subst ek
          refine lv_iload_n hx hb dX1_load_60 rfl (lv_at hl 2 rfl) ?_
          refine ret dX1_load_61 rfl ⟨?_, ?_⟩ w
          · simp only [hsh, ↓reduceIte, ixb_nI (show sn < 2 ^ 31 by omega)]
          · simp only [hsh, ↓reduceIte, ixb_nI (show sn < 2 ^ 31 by omega)]
            exact ⟨hO2, h14, h4.resolve_left (by omega)⟩
        · refine lv_aload_n hx hb dX1_load_21 rfl (lv_at hl 0 rfl) ?_
          refine ow_geta xC E w 14 (by decide) q94 dX1_load_22 ?_
          refine lv_bipush (v := nI 16) hx hb dX1_load_25 (by decide) ?_
          refine lv_iload_n hx hb dX1_load_27 rfl (lv_at hl 1 rfl) ?_
          refine lv_imul hx hb dX1_load_28 ?_
          refine ow_top (v := nI (16 * sn)) (pk_mul _ _) ?_
          refine lv_iload_n hx hb dX1_load_29 rfl (lv_at hl 3 rfl) ?_
          refine lv_iadd hx hb dX1_load_30 ?_
          refine ow_top (v := nI (16 * sn + k)) (nI_add _ _) ?_
          refine ow_iald xC E w 14 (by decide) (16 * sn + k) rfl (show _ < _ by first | omega | (simp only [xlen, mlen]; omega)) dX1_load_31 ?_
          refine ow_top (v := snap (16 * sn + k)) (by rw [h14]) ?_
          refine lv_istore (lv' := [(4, .int (snap (16 * sn + k))), (0, .ref h), (1, .int (nI sn)), (2, .int (nI (df val snap (16 * sn) k))), (3, .int (nI k))]) hx hb dX1_load_32 hl (by decide) rfl (fun ls hl => ?_)
          refine lv_aload_n hx hb dX1_load_34 rfl (lv_at hl 1 rfl) ?_
          refine lv_iload_n hx hb dX1_load_35 rfl (lv_at hl 4 rfl) ?_
          refine lv_iconst (v := 1) hx hb dX1_load_36 (by decide) ?_
          refine lv_iload hx hb dX1_load_37 (lv_at hl 0 rfl) ?_
          refine k1_accW E w hl.1 (Nat.le_of_ble_eq_true rfl) dX1_load_39 (by decide) ⟨Nat.zero_le _, Nat.zero_le _⟩ hO2 (by omega) (fun f3 g3 H locs hpf3 w => ?_)
          refine ow_top (v := val k) ldd_at ?_
          obtain ⟨hO3, e14, e15, e4⟩ := hpf3
          rw [ldd_s] at hO3
          refine lv_istore (lv' := [(5, .int (val k)), (4, .int (snap (16 * sn + k))), (0, .ref h), (1, .int (nI sn)), (2, .int (nI (df val snap (16 * sn) k))), (3, .int (nI k))]) hx hb dX1_load_42 hl (by decide) rfl (fun ls hl => ?_)
          refine lv_iload hx hb dX1_load_44 (lv_at hl 0 rfl) ?_
          refine lv_iload hx hb dX1_load_46 (lv_at hl 1 rfl) ?_
          refine lv_icmp_eq (tgt := 54) hx hb dX1_load_48 (by decide) (fun c48 => ?_) (fun c48 => ?_)
          · refine lv_iinc (v := nI (k + 1)) (lv' := [(3, .int (nI (k + 1))), (5, .int (val k)), (4, .int (snap (16 * sn + k))), (0, .ref h), (1, .int (nI sn)), (2, .int (nI (df val snap (16 * sn) k)))]) hx hb dX1_load_54 hl (k := 5) rfl (nI_1 _) (by decide) rfl (fun ls hl => ?_)
            refine lv_goto (tgt := 15) hx hb dX1_load_57 (by decide) ?_
            have e : df val snap (16 * sn) (k + 1) = df val snap (16 * sn) k := by
              show df val snap (16 * sn) k + _ = _
              rw [if_pos c48, Nat.add_zero]
            refine ih (k + 1) (by omega) (by omega) f3 g3 hO3 (e14.trans h14) (Or.inr e4) H locs ls w ?_
            rw [e]
            exact (lv_sub hl [3, 4, 5, 0] rfl)
          · refine lv_iinc (v := nI (df val snap (16 * sn) k + 1)) (lv' := [(2, .int (nI (df val snap (16 * sn) k + 1))), (5, .int (val k)), (4, .int (snap (16 * sn + k))), (0, .ref h), (1, .int (nI sn)), (3, .int (nI k))]) hx hb dX1_load_51 hl (k := 4) rfl (nI_1 _) (by decide) rfl (fun ls hl => ?_)
            refine lv_iinc (v := nI (k + 1)) (lv' := [(3, .int (nI (k + 1))), (2, .int (nI (df val snap (16 * sn) k + 1))), (5, .int (val k)), (4, .int (snap (16 * sn + k))), (0, .ref h), (1, .int (nI sn))]) hx hb dX1_load_54 hl (k := 5) rfl (nI_1 _) (by decide) rfl (fun ls hl => ?_)
            refine lv_goto (tgt := 15) hx hb dX1_load_57 (by decide) ?_
            have e : df val snap (16 * sn) (k + 1) = df val snap (16 * sn) k + 1 := by
              show df val snap (16 * sn) k + _ = _
              rw [if_neg c48]
            refine ih (k + 1) (by omega) (by omega) f3 g3 hO3 (e14.trans h14) (Or.inr e4) H locs ls w ?_
            rw [e]
            exact (lv_sub hl [4, 5, 1, 0] rfl)
    exact loop 17 0 (by omega) (by omega) f g (by rw [ldd_0]; exact hP.1) hP.2.1 (Or.inl rfl) _ _ ls w (lv_sub hl [2, 3, 1, 0] rfl)
  refine lv_iload_n hx hb dX1_load_0 rfl (lv_at hl 1 rfl) ?_
  refine lv_if_eq (tgt := 11) hx hb dX1_load_1 (by decide) (fun c1 => ?_) (fun c1 => ?_)
  · exact good 0 (by omega) c1
  · refine lv_iload_n hx hb dX1_load_4 rfl (lv_at hl 1 rfl) ?_
    refine lv_iconst (v := 1) hx hb dX1_load_5 (by decide) ?_
    refine lv_icmp_eq (tgt := 11) hx hb dX1_load_6 (by decide) (fun c6 => ?_) (fun c6 => ?_)
    · exact good 1 (by omega) c6
    · refine lv_iconst (v := (-1)) hx hb dX1_load_9 (by decide) ?_
      have hsh := shot_no c1 c6
      refine ret dX1_load_10 rfl ⟨?_, ?_⟩ w
      · simp only [hsh, Bool.false_eq_true, ↓reduceIte]
      · simp only [hsh, Bool.false_eq_true, ↓reduceIte]
        exact hP
set_option maxHeartbeats 4000000 in
set_option maxRecDepth 100000 in
theorem c1_differing (l : Launch) (D : va_G) (h : Nat) (ad : Nat → Nat) (dA : Nat → ClassId) (f : Nat → Int32) (g : Nat → Nat → Int32) (x : Int32) (val snap : Nat → Int32) (t : Int32) (hP : PX f g val snap t) : ow_MI 0 16 5 xlen l yX1_differing cX1_differing 4 .int (rmD 6) D h ad dA [.int x] f g (fun r f1 g1 => r = (if shot x = true then nI (df val snap (16 * ixb x) 16) else -1) ∧ PX f1 g1 val snap (if shot x = true then nI 4 else t)) := by
  refine ow_ofI (by decide) (Nat.le_of_ble_eq_true rfl) ?_
  intro p e s m args below meth c A Q ls E w hl ret
  have E : ow_E 16 p m meth c cX1_differing 4 (some .int) s args RX1 D A dA := E
  have hx := E.1.1
  have hb := E.1.2.1
  have hl : lv_has ls 4 [(0, .ref h), (1, .int x)] := hl
  have good : ∀ sn : Nat, sn < 2 → x = nI sn → W p l e (rmD 6) s m args below meth c s.heap [] 0 0 Q (F0 m 11 ls []) := by
    intro sn hsn ex
    subst ex
    have hsh := shot_nI sn hsn
    refine lv_aload_n hx hb dX1_differing_11 rfl (lv_at hl 0 rfl) ?_
    refine k1_gather E w hl.1 (Nat.le_of_ble_eq_true rfl) dX1_differing_12 (by decide) ⟨Nat.zero_le _, Nat.zero_le _⟩ hP.1 (fun f2 g2 H locs hp w => ?_)
    obtain ⟨hO2, h14, h15, h4⟩ := hp
    rw [hP.2.1] at h14
    refine lv_iconst (v := nI 0) hx hb dX1_differing_15 (by decide) ?_
    refine lv_istore_n (lv' := [(2, .int (nI 0)), (0, .ref h), (1, .int (nI sn))]) hx hb dX1_differing_16 rfl hl (by decide) rfl (fun ls hl => ?_)
    refine lv_iconst (v := nI 0) hx hb dX1_differing_17 (by decide) ?_
    refine lv_istore_n (lv' := [(3, .int (nI 0)), (2, .int (nI 0)), (0, .ref h), (1, .int (nI sn))]) hx hb dX1_differing_18 rfl hl (by decide) rfl (fun ls hl => ?_)
    have loop : ∀ (q k : Nat), k ≤ 16 → 16 < k + q → ∀ (H : Heap) (locs : List Loc) (ls : Array Slot), ow_W 0 16 5 xlen D A h ad dA f2 g2 s H locs → lv_has ls 4 [(0, .ref h), (1, .int (nI sn)), (2, .int (nI (df val snap (16 * sn) k))), (3, .int (nI k))] → W p l e (rmD 6) s m args below meth c H locs 0 0 Q (F0 m 19 ls []) := by
      intro q
      induction q with
      | zero => intro k hk hq; exact absurd hq (by omega)
      | succ q ih =>
        intro k hk hq  H locs ls w hl
        refine lv_iload_n hx hb dX1_differing_19 rfl (lv_at hl 3 rfl) ?_
        refine lv_bipush (v := nI 16) hx hb dX1_differing_20 (by decide) ?_
        refine ow_ge (k) (16) (by omega) (by omega) (tgt := 54) hx hb dX1_differing_22 (by decide) (fun c22 => ?_) (fun c22 => ?_)
        · have ek : k = 16 := by omega
          subst ek
          refine lv_iload_n hx hb dX1_differing_54 rfl (lv_at hl 2 rfl) ?_
          refine ret dX1_differing_55 rfl ⟨?_, ?_⟩ w
          · simp only [hsh, ↓reduceIte, ixb_nI (show sn < 2 ^ 31 by omega)]
          · simp only [hsh, ↓reduceIte, ixb_nI (show sn < 2 ^ 31 by omega)]
            exact ⟨hO2, h14, h4⟩
        · refine lv_aload_n hx hb dX1_differing_25 rfl (lv_at hl 0 rfl) ?_
          refine ow_geta xC E w 15 (by decide) q95 dX1_differing_26 ?_
          refine lv_iload_n hx hb dX1_differing_29 rfl (lv_at hl 3 rfl) ?_
          refine ow_iald xC E w 15 (by decide) (k) rfl (show _ < _ by first | omega | (simp only [xlen, mlen]; omega)) dX1_differing_30 ?_
          refine ow_top (v := val k) (h15 k (by omega)) ?_
          refine lv_aload_n hx hb dX1_differing_31 rfl (lv_at hl 0 rfl) ?_
          refine ow_geta xC E w 14 (by decide) q94 dX1_differing_32 ?_
          refine lv_bipush (v := nI 16) hx hb dX1_differing_35 (by decide) ?_
          refine lv_iload_n hx hb dX1_differing_37 rfl (lv_at hl 1 rfl) ?_
          refine lv_imul hx hb dX1_differing_38 ?_
          refine ow_top (v := nI (16 * sn)) (pk_mul _ _) ?_
          refine lv_iload_n hx hb dX1_differing_39 rfl (lv_at hl 3 rfl) ?_
          refine lv_iadd hx hb dX1_differing_40 ?_
          refine ow_top (v := nI (16 * sn + k)) (nI_add _ _) ?_
          refine ow_iald xC E w 14 (by decide) (16 * sn + k) rfl (show _ < _ by first | omega | (simp only [xlen, mlen]; omega)) dX1_differing_41 ?_
          refine ow_top (v := snap (16 * sn + k)) (by rw [h14]) ?_
          refine lv_icmp_eq (tgt := 48) hx hb dX1_differing_42 (by decide) (fun c42 => ?_) (fun c42 => ?_)
          · refine lv_iinc (v := nI (k + 1)) (lv' := [(3, .int (nI (k + 1))), (0, .ref h), (1, .int (nI sn)), (2, .int (nI (df val snap (16 * sn) k)))]) hx hb dX1_differing_48 hl (k := 3) rfl (nI_1 _) (by decide) rfl (fun ls hl => ?_)
            refine lv_goto (tgt := 19) hx hb dX1_differing_51 (by decide) ?_
            have e : df val snap (16 * sn) (k + 1) = df val snap (16 * sn) k := by
              show df val snap (16 * sn) k + _ = _
              rw [if_pos c42, Nat.add_zero]
            refine ih (k + 1) (by omega) (by omega) H locs ls w ?_
            rw [e]
            exact (lv_sub hl [1, 2, 3, 0] rfl)
          · refine lv_iinc (v := nI (df val snap (16 * sn) k + 1)) (lv' := [(2, .int (nI (df val snap (16 * sn) k + 1))), (0, .ref h), (1, .int (nI sn)), (3, .int (nI k))]) hx hb dX1_differing_45 hl (k := 2) rfl (nI_1 _) (by decide) rfl (fun ls hl => ?_)
            refine lv_iinc (v := nI (k + 1)) (lv' := [(3, .int (nI (k + 1))), (2, .int (nI (df val snap (16 * sn) k + 1))), (0, .ref h), (1, .int (nI sn))]) hx hb dX1_differing_48 hl (k := 3) rfl (nI_1 _) (by decide) rfl (fun ls hl => ?_)
            refine lv_goto (tgt := 19) hx hb dX1_differing_51 (by decide) ?_
            have e : df val snap (16 * sn) (k + 1) = df val snap (16 * sn) k + 1 := by
              show df val snap (16 * sn) k + _ = _
              rw [if_neg c42]
            refine ih (k + 1) (by omega) (by omega) H locs ls w ?_
            rw [e]
            exact (lv_sub hl [2, 3, 1, 0] rfl)
    exact loop 17 0 (by omega) (by omega) _ _ ls w (lv_sub hl [2, 3, 1, 0] rfl)
  refine lv_iload_n hx hb dX1_differing_0 rfl (lv_at hl 1 rfl) ?_
  refine lv_if_eq (tgt := 11) hx hb dX1_differing_1 (by decide) (fun c1 => ?_) (fun c1 => ?_)
  · exact good 0 (by omega) c1
  · refine lv_iload_n hx hb dX1_differing_4 rfl (lv_at hl 1 rfl) ?_
    refine lv_iconst (v := 1) hx hb dX1_differing_5 (by decide) ?_
    refine lv_icmp_eq (tgt := 11) hx hb dX1_differing_6 (by decide) (fun c6 => ?_) (fun c6 => ?_)
    · exact good 1 (by omega) c6
    · refine lv_iconst (v := (-1)) hx hb dX1_differing_9 (by decide) ?_
      have hsh := shot_no c1 c6
      refine ret dX1_differing_10 rfl ⟨?_, ?_⟩ w
      · simp only [hsh, Bool.false_eq_true, ↓reduceIte]
      · simp only [hsh, Bool.false_eq_true, ↓reduceIte]
        exact hP
set_option maxHeartbeats 4000000 in
set_option maxRecDepth 100000 in
theorem c1_audit (l : Launch) (D : va_G) (h : Nat) (ad : Nat → Nat) (dA : Nat → ClassId) (f : Nat → Int32) (g : Nat → Nat → Int32) (val snap : Nat → Int32) (t : Int32) (hP : PX f g val snap t) : ow_MI 0 16 5 xlen l yX1_audit cX1_audit 5 .int (rmD 4) D h ad dA [] f g (fun r f1 g1 => r = 0 ∧ PX f1 g1 val snap (if False then nI 4 else t)) := by
  refine ow_ofI (by decide) (Nat.le_of_ble_eq_true rfl) ?_
  intro p e s m args below meth c A Q ls E w hl ret
  have E : ow_E 16 p m meth c cX1_audit 5 (some .int) s args RX1 D A dA := E
  have hx := E.1.1
  have hb := E.1.2.1
  have hl : lv_has ls 5 [(0, .ref h)] := hl
  obtain ⟨hO, hS14, hT⟩ := hP
  obtain ⟨n, lf, hX, hM⟩ := hO
  refine lv_iconst (v := 0) hx hb dX1_audit_0 (by decide) ?_
  refine lv_istore_n (lv' := [(1, .int 0), (0, .ref h)]) hx hb dX1_audit_1 rfl hl (by decide) rfl (fun ls hl => ?_)
  refine lv_iconst (v := nI 0) hx hb dX1_audit_2 (by decide) ?_
  refine lv_istore_n (lv' := [(2, .int (nI 0)), (1, .int 0), (0, .ref h)]) hx hb dX1_audit_3 rfl hl (by decide) rfl (fun ls hl => ?_)
  have loop : ∀ (q k : Nat), k ≤ 16 → 16 < k + q → ∀ (f2 : Nat → Int32) (g2 : Nat → Nat → Int32), tX f2 g2 n val lf → mO f2 g2 lf → g2 14 = snap → f2 4 = t → ∀ (H : Heap) (locs : List Loc) (ls : Array Slot), ow_W 0 16 5 xlen D A h ad dA f2 g2 s H locs → lv_has ls 5 [(0, .ref h), (1, .int 0), (2, .int (nI k))] → W p l e (rmD 4) s m args below meth c H locs 0 0 Q (F0 m 4 ls []) := by
    intro q
    induction q with
    | zero => intro k hk hq; exact absurd hq (by omega)
    | succ q ih =>
      intro k hk hq f2 g2 hX2 hM2 h14 h4 H locs ls w hl
      refine lv_iload_n hx hb dX1_audit_4 rfl (lv_at hl 2 rfl) ?_
      refine lv_bipush (v := nI 16) hx hb dX1_audit_5 (by decide) ?_
      refine ow_ge (k) (16) (by omega) (by omega) (tgt := 40) hx hb dX1_audit_7 (by decide) (fun c7 => ?_) (fun c7 => ?_)
      · refine lv_iload_n hx hb dX1_audit_40 rfl (lv_at hl 1 rfl) ?_
        refine ret dX1_audit_41 rfl ⟨?_, ?_⟩ w
        · exact rfl
        · simp only [↓reduceIte]
          exact ⟨⟨n, lf, hX2, hM2⟩, h14, h4⟩
      · refine lv_aload_n hx hb dX1_audit_10 rfl (lv_at hl 0 rfl) ?_
        refine lv_iload_n hx hb dX1_audit_11 rfl (lv_at hl 2 rfl) ?_
        refine lv_iconst (v := (-1)) hx hb dX1_audit_12 (by decide) ?_
        refine k1_leafOf E w hl.1 (Nat.le_of_ble_eq_true rfl) dX1_audit_13 (by decide) ⟨Nat.zero_le _, Nat.zero_le _⟩ hM2 c7 (Or.inl ⟨rfl, rfl⟩) (fun r1 f3 g3 H locs hp w => ?_)
        obtain ⟨er1, hM3, hF3, hf3⟩ := hp
        have hX3 : tX f3 g3 n val lf := hX2.cg hf3.1 hf3.2.1 (fun i hi => hF3 i (by omega))
        refine ow_top (v := nI (lf k)) er1 ?_
        refine lv_istore_n (lv' := [(3, .int (nI (lf k))), (0, .ref h), (1, .int 0), (2, .int (nI k))]) hx hb dX1_audit_16 rfl hl (by decide) rfl (fun ls hl => ?_)
        refine lv_aload_n hx hb dX1_audit_17 rfl (lv_at hl 1 rfl) ?_
        refine lv_iload_n hx hb dX1_audit_18 rfl (lv_at hl 3 rfl) ?_
        refine lv_iload_n hx hb dX1_audit_19 rfl (lv_at hl 0 rfl) ?_
        refine k1_placesOf E w hl.1 (Nat.le_of_ble_eq_true rfl) dX1_audit_20 (by decide) ⟨Nat.zero_le _, Nat.zero_le _⟩ hX3 c7 (fun r2 f9 g9 H locs hp w => ?_)
        obtain ⟨er2, ef9, eg9⟩ := hp
        subst f9 g9
        refine ow_top (v := nI 1) er2 ?_
        refine lv_istore (lv' := [(4, .int (nI 1)), (3, .int (nI (lf k))), (0, .ref h), (1, .int 0), (2, .int (nI k))]) hx hb dX1_audit_23 hl (by decide) rfl (fun ls hl => ?_)
        refine lv_iload hx hb dX1_audit_25 (lv_at hl 0 rfl) ?_
        refine lv_iconst (v := nI 1) hx hb dX1_audit_27 (by decide) ?_
        refine lv_icmp_eq (tgt := 34) hx hb dX1_audit_28 (by decide) (fun c28 => ?_) (fun c28 => ?_)
        · refine lv_iinc (v := nI (k + 1)) (lv' := [(2, .int (nI (k + 1))), (4, .int (nI 1)), (3, .int (nI (lf k))), (0, .ref h), (1, .int 0)]) hx hb dX1_audit_34 hl (k := 4) rfl (nI_1 _) (by decide) rfl (fun ls hl => ?_)
          refine lv_goto (tgt := 4) hx hb dX1_audit_37 (by decide) ?_
          exact ih (k + 1) (by omega) (by omega) f3 g3 hX3 hM3 ((hF3 14 (by omega)).trans h14) (hf3.2.2.trans h4) H locs ls w (lv_sub hl [3, 4, 0] rfl)
        · exact absurd rfl c28
  exact loop 17 0 (by omega) (by omega) f g hX hM hS14 hT _ _ ls w (lv_sub hl [2, 1, 0] rfl)
end
section
set_option maxHeartbeats 4000000 in
set_option maxRecDepth 100000 in
theorem c1_ranked (l : Launch) (D : va_G) (h : Nat) (ad : Nat → Nat) (dA : Nat → ClassId) (f : Nat → Int32) (g : Nat → Nat → Int32) (b : Int32) (val snap : Nat → Int32) (t : Int32) (hP : PX f g val snap t) : ow_MI 0 16 5 xlen l yX1_ranked cX1_ranked 5 .int (rmD 6) D h ad dA [.int b] f g (fun r f1 g1 => ((inb b = true → Rk val (ixb b) r) ∧ (inb b = false → r = 0)) ∧ PX f1 g1 val snap (if inb b = true then nI 4 else t)) := by
  refine ow_ofI (by decide) (Nat.le_of_ble_eq_true rfl) ?_
  intro p e s m args below meth c A Q ls E w hl ret
  have E : ow_E 16 p m meth c cX1_ranked 5 (some .int) s args RX1 D A dA := E
  have hx := E.1.1
  have hb := E.1.2.1
  have hl : lv_has ls 5 [(0, .ref h), (1, .int b)] := hl
  refine lv_iload_n hx hb dX1_ranked_0 rfl (lv_at hl 1 rfl) ?_
  refine k1_isBlock E.1 hl.1 (Nat.le_of_ble_eq_true rfl) dX1_ranked_1 (by decide) ⟨Nat.zero_le _, Nat.zero_le _⟩  (fun r1 er1 => ?_)
  refine lv_if_ne (tgt := 9) hx hb dX1_ranked_4 (by decide) (fun c4 => ?_) (fun c4 => ?_)
  · obtain ⟨hinkk, kk, hkk, ekk⟩ := inb01_t er1 c4
    subst ekk
    refine lv_aload_n hx hb dX1_ranked_9 rfl (lv_at hl 0 rfl) ?_
    refine k1_gather E w hl.1 (Nat.le_of_ble_eq_true rfl) dX1_ranked_10 (by decide) ⟨Nat.zero_le _, Nat.zero_le _⟩ hP.1 (fun f2 g2 H locs hp w => ?_)
    obtain ⟨hO2, h14, h15, h4⟩ := hp
    rw [hP.2.1] at h14
    refine lv_iconst (v := nI 1) hx hb dX1_ranked_13 (by decide) ?_
    refine lv_istore_n (lv' := [(2, .int (nI 1)), (0, .ref h), (1, .int (nI kk))]) hx hb dX1_ranked_14 rfl hl (by decide) rfl (fun ls hl => ?_)
    have loop : ∀ (q i : Nat), 1 ≤ i → i ≤ 16 → 16 < i + q → ∀ (g3 : Nat → Nat → Int32), (∀ x, x ≠ 15 → g3 x = g2 x) → srt val (g3 15) i → ∀ (H : Heap) (locs : List Loc) (ls : Array Slot), ow_W 0 16 5 xlen D A h ad dA f2 g3 s H locs → lv_has ls 5 [(0, .ref h), (1, .int (nI kk)), (2, .int (nI i))] → W p l e (rmD 6) s m args below meth c H locs 0 0 Q (F0 m 15 ls []) := by
      intro q
      induction q with
      | zero => intro i hlo hk hq; exact absurd hq (by omega)
      | succ q ih =>
        intro i hlo hk hq g3 hF3 hS3 H locs ls w hl
        refine lv_iload_n hx hb dX1_ranked_15 rfl (lv_at hl 2 rfl) ?_
        refine lv_bipush (v := nI 16) hx hb dX1_ranked_16 (by decide) ?_
        refine ow_ge (i) (16) (by omega) (by omega) (tgt := 85) hx hb dX1_ranked_18 (by decide) (fun c18 => ?_) (fun c18 => ?_)
        · have ei : i = 16 := by omega
          subst ei
          have hO3 : oI f2 g3 val := by
            obtain ⟨n3, lf3, hX3, hM3⟩ := hO2
            exact ⟨n3, lf3, hX3.cg rfl rfl (fun i hi => hF3 i (by omega)), hM3.cg rfl (fun i _ hi => hF3 i (by omega))⟩
          refine lv_aload_n hx hb dX1_ranked_85 rfl (lv_at hl 0 rfl) ?_
          refine ow_geta xC E w 15 (by decide) q95 dX1_ranked_86 ?_
          refine lv_iload_n hx hb dX1_ranked_89 rfl (lv_at hl 1 rfl) ?_
          refine ow_iald xC E w 15 (by decide) (kk) rfl (show _ < _ by first | omega | (simp only [xlen, mlen]; omega)) dX1_ranked_90 ?_
          refine ret dX1_ranked_91 rfl ⟨⟨fun _ => ?_, fun q => ?_⟩, ?_⟩ w
          · rw [ixb_nI (by omega)]
            exact hS3.rank hkk
          · rw [hinkk] at q; exact absurd q (by decide)
          · simp only [hinkk, ↓reduceIte]
            exact ⟨hO3, (hF3 14 (by decide)).trans h14, h4⟩
        · refine lv_aload_n hx hb dX1_ranked_21 rfl (lv_at hl 0 rfl) ?_
          refine ow_geta xC E w 15 (by decide) q95 dX1_ranked_22 ?_
          refine lv_iload_n hx hb dX1_ranked_25 rfl (lv_at hl 2 rfl) ?_
          refine ow_iald xC E w 15 (by decide) (i) rfl (show _ < _ by first | omega | (simp only [xlen, mlen]; omega)) dX1_ranked_26 ?_
          refine lv_topi (fun mv emv => ?_)
          refine lv_istore_n (lv' := [(3, .int mv), (0, .ref h), (1, .int (nI kk)), (2, .int (nI i))]) hx hb dX1_ranked_27 rfl hl (by decide) rfl (fun ls hl => ?_)
          refine lv_iload_n hx hb dX1_ranked_28 rfl (lv_at hl 3 rfl) ?_
          refine lv_istore (lv' := [(4, .int (nI i)), (3, .int mv), (0, .ref h), (1, .int (nI kk)), (2, .int (nI i))]) hx hb dX1_ranked_29 hl (by decide) rfl (fun ls hl => ?_)
          have inner : ∀ (pt : Nat) (g4 : Nat → Nat → Int32), (∀ x, x ≠ 15 → g4 x = g2 x) → ins val (g4 15) i pt mv → ∀ (H : Heap) (locs : List Loc) (ls : Array Slot), ow_W 0 16 5 xlen D A h ad dA f2 g4 s H locs → lv_has ls 5 [(0, .ref h), (1, .int (nI kk)), (2, .int (nI i)), (3, .int mv), (4, .int (nI pt))] → W p l e (rmD 6) s m args below meth c H locs 0 0 Q (F0 m 31 ls []) := by
            intro pt
            induction pt with
            | zero =>
              intro g4 hF4 hI H locs ls w hl
              refine lv_iload hx hb dX1_ranked_31 (lv_at hl 4 rfl) ?_
              refine lv_if_le (tgt := 71) hx hb dX1_ranked_33 (by decide) (fun c33 => ?_) (fun c33 => ?_)
              · refine lv_aload_n hx hb dX1_ranked_71 rfl (lv_at hl 0 rfl) ?_
                refine ow_geta xC E w 15 (by decide) q95 dX1_ranked_72 ?_
                refine lv_iload hx hb dX1_ranked_75 (lv_at hl 4 rfl) ?_
                refine lv_iload_n hx hb dX1_ranked_77 rfl (lv_at hl 3 rfl) ?_
                refine ow_iast xC E w 15 (by decide) (0) rfl (show _ < _ by first | omega | (simp only [xlen, mlen]; omega)) dX1_ranked_78 (fun g5 H locs eg5 w => ?_)
                refine lv_iinc (v := nI (i + 1)) (lv' := [(2, .int (nI (i + 1))), (0, .ref h), (1, .int (nI kk)), (3, .int mv), (4, .int (nI 0))]) hx hb dX1_ranked_79 hl (k := 2) rfl (nI_1 _) (by decide) rfl (fun ls hl => ?_)
                refine lv_goto (tgt := 15) hx hb dX1_ranked_82 (by decide) ?_
                refine ih (i + 1) (by omega) (by omega) (by omega) g5 (fun x hx => ?_) ?_ H locs ls w (lv_sub hl [1, 2, 0] rfl)
                · rw [eg5]
                  simp only [va_up, if_neg hx]
                  exact hF4 x hx
                · rw [eg5]
                  exact hI.done (Or.inl rfl)
              · exact absurd (by decide) c33
            | succ pt ih2 =>
              intro g4 hF4 hI H locs ls w hl
              have hpi : pt + 1 ≤ i := hI.1
              refine lv_iload hx hb dX1_ranked_31 (lv_at hl 4 rfl) ?_
              refine lv_if_le (tgt := 71) hx hb dX1_ranked_33 (by decide) (fun c33 => ?_) (fun c33 => ?_)
              · exact absurd c33 (nI_nle (by omega) (by omega))
              · refine lv_aload_n hx hb dX1_ranked_36 rfl (lv_at hl 0 rfl) ?_
                refine ow_geta xC E w 15 (by decide) q95 dX1_ranked_37 ?_
                refine lv_iload hx hb dX1_ranked_40 (lv_at hl 4 rfl) ?_
                refine lv_iconst (v := nI 1) hx hb dX1_ranked_42 (by decide) ?_
                refine lv_isub hx hb dX1_ranked_43 ?_
                refine ow_top (v := nI pt) (pk_sub (by omega)) ?_
                refine ow_iald xC E w 15 (by decide) (pt) rfl (show _ < _ by first | omega | (simp only [xlen, mlen]; omega)) dX1_ranked_44 ?_
                refine lv_iload_n hx hb dX1_ranked_45 rfl (lv_at hl 3 rfl) ?_
                refine lv_icmp_le (tgt := 71) hx hb dX1_ranked_46 (by decide) (fun c46 => ?_) (fun c46 => ?_)
                · refine lv_aload_n hx hb dX1_ranked_71 rfl (lv_at hl 0 rfl) ?_
                  refine ow_geta xC E w 15 (by decide) q95 dX1_ranked_72 ?_
                  refine lv_iload hx hb dX1_ranked_75 (lv_at hl 4 rfl) ?_
                  refine lv_iload_n hx hb dX1_ranked_77 rfl (lv_at hl 3 rfl) ?_
                  refine ow_iast xC E w 15 (by decide) (pt + 1) rfl (show _ < _ by first | omega | (simp only [xlen, mlen]; omega)) dX1_ranked_78 (fun g5 H locs eg5 w => ?_)
                  refine lv_iinc (v := nI (i + 1)) (lv' := [(2, .int (nI (i + 1))), (0, .ref h), (1, .int (nI kk)), (3, .int mv), (4, .int (nI (pt + 1)))]) hx hb dX1_ranked_79 hl (k := 2) rfl (nI_1 _) (by decide) rfl (fun ls hl => ?_)
                  refine lv_goto (tgt := 15) hx hb dX1_ranked_82 (by decide) ?_
                  refine ih (i + 1) (by omega) (by omega) (by omega) g5 (fun x hx => ?_) ?_ H locs ls w (lv_sub hl [1, 2, 0] rfl)
                  · rw [eg5]
                    simp only [va_up, if_neg hx]
                    exact hF4 x hx
                  · rw [eg5]
                    exact hI.done (Or.inr ⟨pt, rfl, c46⟩)
                · refine lv_aload_n hx hb dX1_ranked_49 rfl (lv_at hl 0 rfl) ?_
                  refine ow_geta xC E w 15 (by decide) q95 dX1_ranked_50 ?_
                  refine lv_iload hx hb dX1_ranked_53 (lv_at hl 4 rfl) ?_
                  refine lv_aload_n hx hb dX1_ranked_55 rfl (lv_at hl 0 rfl) ?_
                  refine ow_geta xC E w 15 (by decide) q95 dX1_ranked_56 ?_
                  refine lv_iload hx hb dX1_ranked_59 (lv_at hl 4 rfl) ?_
                  refine lv_iconst (v := nI 1) hx hb dX1_ranked_61 (by decide) ?_
                  refine lv_isub hx hb dX1_ranked_62 ?_
                  refine ow_top (v := nI pt) (pk_sub (by omega)) ?_
                  refine ow_iald xC E w 15 (by decide) (pt) rfl (show _ < _ by first | omega | (simp only [xlen, mlen]; omega)) dX1_ranked_63 ?_
                  refine ow_iast xC E w 15 (by decide) (pt + 1) rfl (show _ < _ by first | omega | (simp only [xlen, mlen]; omega)) dX1_ranked_64 (fun g5 H locs eg5 w => ?_)
                  refine lv_iinc (v := nI pt) (lv' := [(4, .int (nI pt)), (0, .ref h), (1, .int (nI kk)), (2, .int (nI i)), (3, .int mv)]) hx hb dX1_ranked_65 hl (k := 4) rfl (pk_m1 pt) (by decide) rfl (fun ls hl => ?_)
                  refine lv_goto (tgt := 31) hx hb dX1_ranked_68 (by decide) ?_
                  refine ih2 g5 (fun x hx => ?_) ?_ H locs ls w (lv_sub hl [1, 2, 3, 4, 0] rfl)
                  · rw [eg5]
                    simp only [va_up, if_neg hx]
                    exact hF4 x hx
                  · rw [eg5]
                    exact hI.step (by omega) (Int32.not_le.mp c46)
          exact inner i g3 hF3 (by rw [emv]; exact hS3.ins) _ _ ls w (lv_sub hl [2, 3, 4, 1, 0] rfl)
    exact loop 17 1 (by omega) (by omega) (by omega) g2 (fun _ _ => rfl) (srt.start h15) _ _ ls w (lv_sub hl [1, 2, 0] rfl)
  · refine lv_iconst (v := 0) hx hb dX1_ranked_7 (by decide) ?_
    have hin := inb01_f er1 c4
    refine ret dX1_ranked_8 rfl ⟨⟨fun q => ?_, fun _ => rfl⟩, ?_⟩ w
    · rw [hin] at q; exact absurd q (by decide)
    · simp only [hin, Bool.false_eq_true, ↓reduceIte]
      exact hP
end
section
theorem le15_t {b : Int32} (h : b ≤ 15) : ¬ 16 ≤ b := by
  intro q
  rw [Int32.le_iff_toInt_le] at h q
  have e1 : (15 : Int32).toInt = 15 := by decide
  have e2 : (16 : Int32).toInt = 16 := by decide
  omega
theorem le15_f {b : Int32} (h : ¬ b ≤ 15) : 16 ≤ b := by
  rw [Int32.le_iff_toInt_le] at h ⊢
  have e1 : (15 : Int32).toInt = 15 := by decide
  have e2 : (16 : Int32).toInt = 16 := by decide
  omega
theorem inb10_t {b r : Int32} (h : r = if inb b = true then 0 else 1) (c : r = 0) : inb b = true ∧ ∃ j, j < 16 ∧ b = nI j := by
  cases q : inb b with
  | false =>
    rw [q, c] at h
    exact absurd h (by decide)
  | true => exact ⟨rfl, inb_ex q⟩
theorem inb10_f {b r : Int32} (h : r = if inb b = true then 0 else 1) (c : ¬ r = 0) : inb b = false := by
  cases q : inb b with
  | false => rfl
  | true =>
    rw [q, if_pos rfl] at h
    exact absurd h c
theorem shot10_t {x r : Int32} (h : r = if shot x = true then 0 else 1) (c : r = 0) : shot x = true ∧ ∃ n, n < 2 ∧ x = nI n := by
  cases q : shot x with
  | false =>
    rw [q, c] at h
    exact absurd h (by decide)
  | true => exact ⟨rfl, shot_ex q⟩
theorem shot10_f {x r : Int32} (h : r = if shot x = true then 0 else 1) (c : ¬ r = 0) : shot x = false := by
  cases q : shot x with
  | false => rfl
  | true =>
    rw [q, if_pos rfl] at h
    exact absurd h c
theorem shot_neg {x : Int32} (h : x < 0) : shot x = false := by
  refine shot_no (fun q => ?_) (fun q => ?_)
  · rw [q] at h; exact absurd h (by decide)
  · rw [q] at h; exact absurd h (by decide)
theorem shot_big {x : Int32} (h : ¬ x ≤ 1) : shot x = false := by
  refine shot_no (fun q => ?_) (fun q => ?_)
  · rw [q] at h; exact absurd (by decide) h
  · rw [q] at h; exact absurd (by decide) h
theorem shot_in {x : Int32} (h : ¬ x < 0) (h1 : x ≤ 1) : shot x = true := by
  obtain ⟨j, hj, e⟩ := nI_of2 (M := 1) (n := 1) (by decide) h h1
  rw [e]
  exact shot_nI j (by omega)
set_option maxHeartbeats 4000000 in
set_option maxRecDepth 100000 in
theorem c2_bad (l : Launch) (D : va_G) (h : Nat) (ad : Nat → Nat) (dA : Nat → ClassId) (f : Nat → Int32) (g : Nat → Nat → Int32) (b : Int32) : ow_MI 1 3 1 mlen l yX2_bad cX2_bad 2 .boolean (rmD 0) D h ad dA [.int b] f g (fun r f1 g1 => r = (if inb b = true then 0 else 1) ∧ f1 = f ∧ g1 = g) := by
  refine ow_ofI (by decide) (Nat.le_of_ble_eq_true rfl) ?_
  intro p e s m args below meth c A Q ls E w hl ret
  have E : ow_E 3 p m meth c cX2_bad 2 (some .boolean) s args RX2 D A dA := E
  have hx := E.1.1
  have hb := E.1.2.1
  have hl : lv_has ls 2 [(0, .ref h), (1, .int b)] := hl
  refine lv_iload_n hx hb dX2_bad_0 rfl (lv_at hl 1 rfl) ?_
  refine lv_if_lt (tgt := 10) hx hb dX2_bad_1 (by decide) (fun c1 => ?_) (fun c1 => ?_)
  · refine lv_iconst (v := 1) hx hb dX2_bad_10 (by decide) ?_
    refine lv_goto (tgt := 15) hx hb dX2_bad_11 (by decide) ?_
    exact ret dX2_bad_15 rfl (⟨by rw [inb_neg c1]; rfl, rfl, rfl⟩) w
  · refine lv_iload_n hx hb dX2_bad_4 rfl (lv_at hl 1 rfl) ?_
    refine lv_bipush (v := 15) hx hb dX2_bad_5 (by decide) ?_
    refine lv_icmp_le (tgt := 14) hx hb dX2_bad_7 (by decide) (fun c7 => ?_) (fun c7 => ?_)
    · refine lv_iconst (v := 0) hx hb dX2_bad_14 (by decide) ?_
      exact ret dX2_bad_15 rfl (⟨by rw [(inb_of c1 (le15_t c7)).1]; rfl, rfl, rfl⟩) w
    · refine lv_iconst (v := 1) hx hb dX2_bad_10 (by decide) ?_
      refine lv_goto (tgt := 15) hx hb dX2_bad_11 (by decide) ?_
      exact ret dX2_bad_15 rfl (⟨by rw [inb_big (le15_f c7)]; rfl, rfl, rfl⟩) w
set_option maxHeartbeats 4000000 in
set_option maxRecDepth 100000 in
theorem c2_badShot (l : Launch) (D : va_G) (h : Nat) (ad : Nat → Nat) (dA : Nat → ClassId) (f : Nat → Int32) (g : Nat → Nat → Int32) (x : Int32) : ow_MI 1 3 1 mlen l yX2_badShot cX2_badShot 2 .boolean (rmD 0) D h ad dA [.int x] f g (fun r f1 g1 => r = (if shot x = true then 0 else 1) ∧ f1 = f ∧ g1 = g) := by
  refine ow_ofI (by decide) (Nat.le_of_ble_eq_true rfl) ?_
  intro p e s m args below meth c A Q ls E w hl ret
  have E : ow_E 3 p m meth c cX2_badShot 2 (some .boolean) s args RX2 D A dA := E
  have hx := E.1.1
  have hb := E.1.2.1
  have hl : lv_has ls 2 [(0, .ref h), (1, .int x)] := hl
  refine lv_iload_n hx hb dX2_badShot_0 rfl (lv_at hl 1 rfl) ?_
  refine lv_if_lt (tgt := 9) hx hb dX2_badShot_1 (by decide) (fun c1 => ?_) (fun c1 => ?_)
  · refine lv_iconst (v := 1) hx hb dX2_badShot_9 (by decide) ?_
    refine lv_goto (tgt := 14) hx hb dX2_badShot_10 (by decide) ?_
    exact ret dX2_badShot_14 rfl (⟨by rw [shot_neg c1]; rfl, rfl, rfl⟩) w
  · refine lv_iload_n hx hb dX2_badShot_4 rfl (lv_at hl 1 rfl) ?_
    refine lv_iconst (v := 1) hx hb dX2_badShot_5 (by decide) ?_
    refine lv_icmp_le (tgt := 13) hx hb dX2_badShot_6 (by decide) (fun c6 => ?_) (fun c6 => ?_)
    · refine lv_iconst (v := 0) hx hb dX2_badShot_13 (by decide) ?_
      exact ret dX2_badShot_14 rfl (⟨by rw [shot_in c1 c6]; rfl, rfl, rfl⟩) w
    · refine lv_iconst (v := 1) hx hb dX2_badShot_9 (by decide) ?_
      refine lv_goto (tgt := 14) hx hb dX2_badShot_10 (by decide) ?_
      exact ret dX2_badShot_14 rfl (⟨by rw [shot_big c6]; rfl, rfl, rfl⟩) w
set_option maxHeartbeats 4000000 in
set_option maxRecDepth 100000 in
theorem c2_less (l : Launch) (D : va_G) (h : Nat) (ad : Nat → Nat) (dA : Nat → ClassId) (f : Nat → Int32) (g : Nat → Nat → Int32) (v : Int32) (val : Nat → Int32) (hv : g 0 = val) : ow_MI 1 3 1 mlen l yX2_less cX2_less 4 .int (rmD 0) D h ad dA [.int v] f g (fun r f1 g1 => r = nI (cl val v 16) ∧ f1 = f ∧ g1 = g) := by
  refine ow_ofI (by decide) (Nat.le_of_ble_eq_true rfl) ?_
  intro p e s m args below meth c A Q ls E w hl ret
  have E : ow_E 3 p m meth c cX2_less 4 (some .int) s args RX2 D A dA := E
  have hx := E.1.1
  have hb := E.1.2.1
  have hl : lv_has ls 4 [(0, .ref h), (1, .int v)] := hl
  refine lv_iconst (v := nI 0) hx hb dX2_less_0 (by decide) ?_
  refine lv_istore_n (lv' := [(2, .int (nI 0)), (0, .ref h), (1, .int v)]) hx hb dX2_less_1 rfl hl (by decide) rfl (fun ls hl => ?_)
  refine lv_iconst (v := nI 0) hx hb dX2_less_2 (by decide) ?_
  refine lv_istore_n (lv' := [(3, .int (nI 0)), (2, .int (nI 0)), (0, .ref h), (1, .int v)]) hx hb dX2_less_3 rfl hl (by decide) rfl (fun ls hl => ?_)
  have loop : ∀ (q k : Nat), k ≤ 16 → 16 < k + q → ∀ (H : Heap) (locs : List Loc) (ls : Array Slot), ow_W 1 3 1 mlen D A h ad dA f g s H locs → lv_has ls 4 [(0, .ref h), (1, .int v), (2, .int (nI (cl val v k))), (3, .int (nI k))] → W p l e (rmD 0) s m args below meth c H locs 0 0 Q (F0 m 4 ls []) := by
    intro q
    induction q with
    | zero => intro k hk hq; exact absurd hq (by omega)
    | succ q ih =>
      intro k hk hq  H locs ls w hl
      refine lv_iload_n hx hb dX2_less_4 rfl (lv_at hl 3 rfl) ?_
      refine lv_bipush (v := nI 16) hx hb dX2_less_5 (by decide) ?_
      refine ow_ge (k) (16) (by omega) (by omega) (tgt := 29) hx hb dX2_less_7 (by decide) (fun c7 => ?_) (fun c7 => ?_)
      · have ek : k = 16 := by omega
        subst ek
        refine lv_iload_n hx hb dX2_less_29 rfl (lv_at hl 2 rfl) ?_
        exact ret dX2_less_30 rfl (⟨rfl, rfl, rfl⟩) w
      · refine lv_aload_n hx hb dX2_less_10 rfl (lv_at hl 0 rfl) ?_
        refine ow_geta mC E w 0 (by decide) q238 dX2_less_11 ?_
        refine lv_iload_n hx hb dX2_less_14 rfl (lv_at hl 3 rfl) ?_
        refine ow_iald mC E w 0 (by decide) (k) rfl (show _ < _ by first | omega | (simp only [xlen, mlen]; omega)) dX2_less_15 ?_
        refine ow_top (v := val k) (by rw [hv]) ?_
        refine lv_iload_n hx hb dX2_less_16 rfl (lv_at hl 1 rfl) ?_
        refine lv_icmp_ge (tgt := 23) hx hb dX2_less_17 (by decide) (fun c17 => ?_) (fun c17 => ?_)
        · refine lv_iinc (v := nI (k + 1)) (lv' := [(3, .int (nI (k + 1))), (0, .ref h), (1, .int v), (2, .int (nI (cl val v k)))]) hx hb dX2_less_23 hl (k := 3) rfl (nI_1 _) (by decide) rfl (fun ls hl => ?_)
          refine lv_goto (tgt := 4) hx hb dX2_less_26 (by decide) ?_
          have e : cl val v (k + 1) = cl val v k := by
            show cl val v k + _ = _
            rw [if_neg (Int32.not_lt.mpr c17), Nat.add_zero]
          refine ih (k + 1) (by omega) (by omega) H locs ls w ?_
          rw [e]
          exact (lv_sub hl [1, 2, 3, 0] rfl)
        · refine lv_iinc (v := nI (cl val v k + 1)) (lv' := [(2, .int (nI (cl val v k + 1))), (0, .ref h), (1, .int v), (3, .int (nI k))]) hx hb dX2_less_20 hl (k := 2) rfl (nI_1 _) (by decide) rfl (fun ls hl => ?_)
          refine lv_iinc (v := nI (k + 1)) (lv' := [(3, .int (nI (k + 1))), (2, .int (nI (cl val v k + 1))), (0, .ref h), (1, .int v)]) hx hb dX2_less_23 hl (k := 3) rfl (nI_1 _) (by decide) rfl (fun ls hl => ?_)
          refine lv_goto (tgt := 4) hx hb dX2_less_26 (by decide) ?_
          have e : cl val v (k + 1) = cl val v k + 1 := by
            show cl val v k + _ = _
            rw [if_pos (Int32.not_le.mp c17)]
          refine ih (k + 1) (by omega) (by omega) H locs ls w ?_
          rw [e]
          exact (lv_sub hl [2, 3, 1, 0] rfl)
  exact loop 17 0 (by omega) (by omega) _ _ ls w (lv_sub hl [2, 3, 1, 0] rfl)
set_option maxHeartbeats 4000000 in
set_option maxRecDepth 100000 in
theorem c2_same (l : Launch) (D : va_G) (h : Nat) (ad : Nat → Nat) (dA : Nat → ClassId) (f : Nat → Int32) (g : Nat → Nat → Int32) (v : Int32) (val : Nat → Int32) (hv : g 0 = val) : ow_MI 1 3 1 mlen l yX2_same cX2_same 4 .int (rmD 0) D h ad dA [.int v] f g (fun r f1 g1 => r = nI (cn val v 16) ∧ f1 = f ∧ g1 = g) := by
  refine ow_ofI (by decide) (Nat.le_of_ble_eq_true rfl) ?_
  intro p e s m args below meth c A Q ls E w hl ret
  have E : ow_E 3 p m meth c cX2_same 4 (some .int) s args RX2 D A dA := E
  have hx := E.1.1
  have hb := E.1.2.1
  have hl : lv_has ls 4 [(0, .ref h), (1, .int v)] := hl
  refine lv_iconst (v := nI 0) hx hb dX2_same_0 (by decide) ?_
  refine lv_istore_n (lv' := [(2, .int (nI 0)), (0, .ref h), (1, .int v)]) hx hb dX2_same_1 rfl hl (by decide) rfl (fun ls hl => ?_)
  refine lv_iconst (v := nI 0) hx hb dX2_same_2 (by decide) ?_
  refine lv_istore_n (lv' := [(3, .int (nI 0)), (2, .int (nI 0)), (0, .ref h), (1, .int v)]) hx hb dX2_same_3 rfl hl (by decide) rfl (fun ls hl => ?_)
  have loop : ∀ (q k : Nat), k ≤ 16 → 16 < k + q → ∀ (H : Heap) (locs : List Loc) (ls : Array Slot), ow_W 1 3 1 mlen D A h ad dA f g s H locs → lv_has ls 4 [(0, .ref h), (1, .int v), (2, .int (nI (cn val v k))), (3, .int (nI k))] → W p l e (rmD 0) s m args below meth c H locs 0 0 Q (F0 m 4 ls []) := by
    intro q
    induction q with
    | zero => intro k hk hq; exact absurd hq (by omega)
    | succ q ih =>
      intro k hk hq  H locs ls w hl
      refine lv_iload_n hx hb dX2_same_4 rfl (lv_at hl 3 rfl) ?_
      refine lv_bipush (v := nI 16) hx hb dX2_same_5 (by decide) ?_
      refine ow_ge (k) (16) (by omega) (by omega) (tgt := 29) hx hb dX2_same_7 (by decide) (fun c7 => ?_) (fun c7 => ?_)
      · have ek : k = 16 := by omega
        subst ek
        refine lv_iload_n hx hb dX2_same_29 rfl (lv_at hl 2 rfl) ?_
        exact ret dX2_same_30 rfl (⟨rfl, rfl, rfl⟩) w
      · refine lv_aload_n hx hb dX2_same_10 rfl (lv_at hl 0 rfl) ?_
        refine ow_geta mC E w 0 (by decide) q238 dX2_same_11 ?_
        refine lv_iload_n hx hb dX2_same_14 rfl (lv_at hl 3 rfl) ?_
        refine ow_iald mC E w 0 (by decide) (k) rfl (show _ < _ by first | omega | (simp only [xlen, mlen]; omega)) dX2_same_15 ?_
        refine ow_top (v := val k) (by rw [hv]) ?_
        refine lv_iload_n hx hb dX2_same_16 rfl (lv_at hl 1 rfl) ?_
        refine lv_icmp_ne (tgt := 23) hx hb dX2_same_17 (by decide) (fun c17 => ?_) (fun c17 => ?_)
        · refine lv_iinc (v := nI (k + 1)) (lv' := [(3, .int (nI (k + 1))), (0, .ref h), (1, .int v), (2, .int (nI (cn val v k)))]) hx hb dX2_same_23 hl (k := 3) rfl (nI_1 _) (by decide) rfl (fun ls hl => ?_)
          refine lv_goto (tgt := 4) hx hb dX2_same_26 (by decide) ?_
          have e : cn val v (k + 1) = cn val v k := by
            show cn val v k + _ = _
            rw [if_neg c17, Nat.add_zero]
          refine ih (k + 1) (by omega) (by omega) H locs ls w ?_
          rw [e]
          exact (lv_sub hl [1, 2, 3, 0] rfl)
        · refine lv_iinc (v := nI (cn val v k + 1)) (lv' := [(2, .int (nI (cn val v k + 1))), (0, .ref h), (1, .int v), (3, .int (nI k))]) hx hb dX2_same_20 hl (k := 2) rfl (nI_1 _) (by decide) rfl (fun ls hl => ?_)
          refine lv_iinc (v := nI (k + 1)) (lv' := [(3, .int (nI (k + 1))), (2, .int (nI (cn val v k + 1))), (0, .ref h), (1, .int v)]) hx hb dX2_same_23 hl (k := 3) rfl (nI_1 _) (by decide) rfl (fun ls hl => ?_)
          refine lv_goto (tgt := 4) hx hb dX2_same_26 (by decide) ?_
          have e : cn val v (k + 1) = cn val v k + 1 := by
            show cn val v k + _ = _
            rw [if_pos c17]
          refine ih (k + 1) (by omega) (by omega) H locs ls w ?_
          rw [e]
          exact (lv_sub hl [2, 3, 1, 0] rfl)
  exact loop 17 0 (by omega) (by omega) _ _ ls w (lv_sub hl [2, 3, 1, 0] rfl)
section KM0
variable {p : Program} {l : Launch} {e : Env} {R : Room} {s : State} {m : MethodId} {args : Array Value} {below : List Frame} {meth : Method} {c : Code} {H : Heap} {locs : List Loc} {cells slots : Nat} {Q : State → Prop}
variable {pc : Nat} {ls : Array Slot} {rest : List Value} {cc : ByteArray} {nL : Nat} {rt : Option FieldType} {D : va_G} {A : Nat → Prop} {h : Nat} {ad : Nat → Nat} {dA : Nat → ClassId} {f : Nat → Int32} {g : Nat → Nat → Int32}
theorem k2_bad {b : Int32} (E : ow_E 3 p m meth c cc nL rt s args RX2 D A dA) (w : ow_W 1 3 1 mlen D A h ad dA f g s H locs) (hls : ls.size = nL) (hW : (rest.map fun v => v.category).sum ≤ 8) (hdg : decode cc pc = .ok (.invokevirtual 19, 3)) (hR : (rmD 0).frames + 1 ≤ R.frames ∧ 8 + (2 + 11) + (rmD 0).locals ≤ R.locals) (hcs : cells ≤ R.cells ∧ slots ≤ R.slots)  (kk : ∀ (r : Int32) (f1 : Nat → Int32) (g1 : Nat → Nat → Int32) (H1 : Heap) (locs1 : List Loc), (fun r f1 g1 => r = (if inb b = true then 0 else 1) ∧ f1 = f ∧ g1 = g) r f1 g1 → ow_W 1 3 1 mlen D A h ad dA f1 g1 s H1 locs1 → W p l e R s m args below meth c H1 locs1 cells slots Q (F0 m (pc + 3) ls (.int r :: rest))) : W p l e R s m args below meth c H locs cells slots Q (F0 m pc ls (.int b :: .ref h :: rest)) :=
  ow_calli mC E w (c2_bad l D h ad dA f g b) (cwV 1 E.1.2.2.2.2 (lw_V q259 q261 qs13 q19 q262) rfl rfl rfl (by decide +kernel) hR) rfl hls rfl hW hdg hcs kk
theorem k2_badShot {x : Int32} (E : ow_E 3 p m meth c cc nL rt s args RX2 D A dA) (w : ow_W 1 3 1 mlen D A h ad dA f g s H locs) (hls : ls.size = nL) (hW : (rest.map fun v => v.category).sum ≤ 8) (hdg : decode cc pc = .ok (.invokevirtual 34, 3)) (hR : (rmD 0).frames + 1 ≤ R.frames ∧ 8 + (2 + 11) + (rmD 0).locals ≤ R.locals) (hcs : cells ≤ R.cells ∧ slots ≤ R.slots)  (kk : ∀ (r : Int32) (f1 : Nat → Int32) (g1 : Nat → Nat → Int32) (H1 : Heap) (locs1 : List Loc), (fun r f1 g1 => r = (if shot x = true then 0 else 1) ∧ f1 = f ∧ g1 = g) r f1 g1 → ow_W 1 3 1 mlen D A h ad dA f1 g1 s H1 locs1 → W p l e R s m args below meth c H1 locs1 cells slots Q (F0 m (pc + 3) ls (.int r :: rest))) : W p l e R s m args below meth c H locs cells slots Q (F0 m pc ls (.int x :: .ref h :: rest)) :=
  ow_calli mC E w (c2_badShot l D h ad dA f g x) (cwV 1 E.1.2.2.2.2 (lw_V q315 q317 qs16 q19 q318) rfl rfl rfl (by decide +kernel) hR) rfl hls rfl hW hdg hcs kk
theorem k2_less {v : Int32} {val : Nat → Int32} (E : ow_E 3 p m meth c cc nL rt s args RX2 D A dA) (w : ow_W 1 3 1 mlen D A h ad dA f g s H locs) (hls : ls.size = nL) (hW : (rest.map fun v => v.category).sum ≤ 8) (hdg : decode cc pc = .ok (.invokevirtual 27, 3)) (hR : (rmD 0).frames + 1 ≤ R.frames ∧ 8 + (4 + 11) + (rmD 0).locals ≤ R.locals) (hcs : cells ≤ R.cells ∧ slots ≤ R.slots) (hv : g 0 = val) (kk : ∀ (r : Int32) (f1 : Nat → Int32) (g1 : Nat → Nat → Int32) (H1 : Heap) (locs1 : List Loc), (fun r f1 g1 => r = nI (cl val v 16) ∧ f1 = f ∧ g1 = g) r f1 g1 → ow_W 1 3 1 mlen D A h ad dA f1 g1 s H1 locs1 → W p l e R s m args below meth c H1 locs1 cells slots Q (F0 m (pc + 3) ls (.int r :: rest))) : W p l e R s m args below meth c H locs cells slots Q (F0 m pc ls (.int v :: .ref h :: rest)) :=
  ow_calli mC E w (c2_less l D h ad dA f g v val hv) (cwV 1 E.1.2.2.2.2 (lw_V q299 q301 qs14 q19 q302) rfl rfl rfl (by decide +kernel) hR) rfl hls rfl hW hdg hcs kk
theorem k2_same {v : Int32} {val : Nat → Int32} (E : ow_E 3 p m meth c cc nL rt s args RX2 D A dA) (w : ow_W 1 3 1 mlen D A h ad dA f g s H locs) (hls : ls.size = nL) (hW : (rest.map fun v => v.category).sum ≤ 8) (hdg : decode cc pc = .ok (.invokevirtual 31, 3)) (hR : (rmD 0).frames + 1 ≤ R.frames ∧ 8 + (4 + 11) + (rmD 0).locals ≤ R.locals) (hcs : cells ≤ R.cells ∧ slots ≤ R.slots) (hv : g 0 = val) (kk : ∀ (r : Int32) (f1 : Nat → Int32) (g1 : Nat → Nat → Int32) (H1 : Heap) (locs1 : List Loc), (fun r f1 g1 => r = nI (cn val v 16) ∧ f1 = f ∧ g1 = g) r f1 g1 → ow_W 1 3 1 mlen D A h ad dA f1 g1 s H1 locs1 → W p l e R s m args below meth c H1 locs1 cells slots Q (F0 m (pc + 3) ls (.int r :: rest))) : W p l e R s m args below meth c H locs cells slots Q (F0 m pc ls (.int v :: .ref h :: rest)) :=
  ow_calli mC E w (c2_same l D h ad dA f g v val hv) (cwV 1 E.1.2.2.2.2 (lw_V q307 q309 qs15 q19 q310) rfl rfl rfl (by decide +kernel) hR) rfl hls rfl hW hdg hcs kk
end KM0
set_option maxHeartbeats 4000000 in
set_option maxRecDepth 100000 in
theorem c2_read (l : Launch) (D : va_G) (h : Nat) (ad : Nat → Nat) (dA : Nat → ClassId) (f : Nat → Int32) (g : Nat → Nat → Int32) (b : Int32) (val snap : Nat → Int32) (u : Int32) (hP : PM f g val snap u) : ow_MI 1 3 1 mlen l yX2_read cX2_read 2 .int (rmD 1) D h ad dA [.int b] f g (fun r f1 g1 => r = (if inb b = true then val (ixb b) else 0) ∧ PM f1 g1 val snap (if inb b = true then 1 else u)) := by
  refine ow_ofI (by decide) (Nat.le_of_ble_eq_true rfl) ?_
  intro p e s m args below meth c A Q ls E w hl ret
  have E : ow_E 3 p m meth c cX2_read 2 (some .int) s args RX2 D A dA := E
  have hx := E.1.1
  have hb := E.1.2.1
  have hl : lv_has ls 2 [(0, .ref h), (1, .int b)] := hl
  refine lv_aload_n hx hb dX2_read_0 rfl (lv_at hl 0 rfl) ?_
  refine lv_iload_n hx hb dX2_read_1 rfl (lv_at hl 1 rfl) ?_
  refine k2_bad E w hl.1 (Nat.le_of_ble_eq_true rfl) dX2_read_2 (by decide) ⟨Nat.zero_le _, Nat.zero_le _⟩  (fun r1 f9 g9 H locs hp w => ?_)
  obtain ⟨er1, ef9, eg9⟩ := hp
  subst f9 g9
  refine lv_if_eq (tgt := 10) hx hb dX2_read_5 (by decide) (fun c5 => ?_) (fun c5 => ?_)
  · obtain ⟨hinj, j, hj, ej⟩ := inb10_t er1 c5
    subst ej
    refine lv_aload_n hx hb dX2_read_10 rfl (lv_at hl 0 rfl) ?_
    refine lv_iconst (v := 1) hx hb dX2_read_11 (by decide) ?_
    refine ow_puti mC E w 0 3 rfl (by decide) rfl rfl rfl q241 dX2_read_12 (fun f1 H locs ef1 w => ?_)
    refine lv_aload_n hx hb dX2_read_15 rfl (lv_at hl 0 rfl) ?_
    refine ow_geta mC E w 0 (by decide) q238 dX2_read_16 ?_
    refine lv_iload_n hx hb dX2_read_19 rfl (lv_at hl 1 rfl) ?_
    refine ow_iald mC E w 0 (by decide) (j) rfl (show _ < _ by first | omega | (simp only [xlen, mlen]; omega)) dX2_read_20 ?_
    refine ow_top (v := val j) (by rw [hP.1]) ?_
    refine ret dX2_read_21 rfl ⟨?_, ?_⟩ w
    · simp only [hinj, ↓reduceIte, ixb_nI (show j < 2 ^ 31 by omega)]
    · simp only [hinj, ↓reduceIte, ixb_nI (show j < 2 ^ 31 by omega)]
      exact ⟨hP.1, hP.2.1, by rw [ef1]; rfl⟩
  · refine lv_iconst (v := 0) hx hb dX2_read_8 (by decide) ?_
    have hin := inb10_f er1 c5
    refine ret dX2_read_9 rfl ⟨?_, ?_⟩ w
    · simp only [hin, Bool.false_eq_true, ↓reduceIte]
    · simp only [hin, Bool.false_eq_true, ↓reduceIte]
      exact hP
set_option maxHeartbeats 4000000 in
set_option maxRecDepth 100000 in
theorem c2_write (l : Launch) (D : va_G) (h : Nat) (ad : Nat → Nat) (dA : Nat → ClassId) (f : Nat → Int32) (g : Nat → Nat → Int32) (b v : Int32) (val snap : Nat → Int32) (u : Int32) (hP : PM f g val snap u) : ow_MI 1 3 1 mlen l yX2_write cX2_write 3 .int (rmD 1) D h ad dA [.int b, .int v] f g (fun r f1 g1 => r = (if inb b = true then 0 else -1) ∧ PM f1 g1 (if inb b = true then upd val (ixb b) v else val) snap (if inb b = true then 1 else u)) := by
  refine ow_ofI (by decide) (Nat.le_of_ble_eq_true rfl) ?_
  intro p e s m args below meth c A Q ls E w hl ret
  have E : ow_E 3 p m meth c cX2_write 3 (some .int) s args RX2 D A dA := E
  have hx := E.1.1
  have hb := E.1.2.1
  have hl : lv_has ls 3 [(0, .ref h), (1, .int b), (2, .int v)] := hl
  refine lv_aload_n hx hb dX2_write_0 rfl (lv_at hl 0 rfl) ?_
  refine lv_iload_n hx hb dX2_write_1 rfl (lv_at hl 1 rfl) ?_
  refine k2_bad E w hl.1 (Nat.le_of_ble_eq_true rfl) dX2_write_2 (by decide) ⟨Nat.zero_le _, Nat.zero_le _⟩  (fun r1 f9 g9 H locs hp w => ?_)
  obtain ⟨er1, ef9, eg9⟩ := hp
  subst f9 g9
  refine lv_if_eq (tgt := 10) hx hb dX2_write_5 (by decide) (fun c5 => ?_) (fun c5 => ?_)
  · obtain ⟨hinj, j, hj, ej⟩ := inb10_t er1 c5
    subst ej
    refine lv_aload_n hx hb dX2_write_10 rfl (lv_at hl 0 rfl) ?_
    refine lv_iconst (v := 1) hx hb dX2_write_11 (by decide) ?_
    refine ow_puti mC E w 0 3 rfl (by decide) rfl rfl rfl q241 dX2_write_12 (fun f1 H locs ef1 w => ?_)
    refine lv_aload_n hx hb dX2_write_15 rfl (lv_at hl 0 rfl) ?_
    refine ow_geta mC E w 0 (by decide) q238 dX2_write_16 ?_
    refine lv_iload_n hx hb dX2_write_19 rfl (lv_at hl 1 rfl) ?_
    refine lv_iload_n hx hb dX2_write_20 rfl (lv_at hl 2 rfl) ?_
    refine ow_iast mC E w 0 (by decide) (j) rfl (show _ < _ by first | omega | (simp only [xlen, mlen]; omega)) dX2_write_21 (fun g1 H locs eg1 w => ?_)
    refine lv_iconst (v := 0) hx hb dX2_write_22 (by decide) ?_
    refine ret dX2_write_23 rfl ⟨?_, ?_⟩ w
    · simp only [hinj, ↓reduceIte, ixb_nI (show j < 2 ^ 31 by omega)]
    · simp only [hinj, ↓reduceIte, ixb_nI (show j < 2 ^ 31 by omega)]
      exact ⟨by rw [eg1, ← hP.1]; rfl, by rw [eg1]; exact hP.2.1, by rw [ef1]; rfl⟩
  · refine lv_iconst (v := (-1)) hx hb dX2_write_8 (by decide) ?_
    have hin := inb10_f er1 c5
    refine ret dX2_write_9 rfl ⟨?_, ?_⟩ w
    · simp only [hin, Bool.false_eq_true, ↓reduceIte]
    · simp only [hin, Bool.false_eq_true, ↓reduceIte]
      exact hP
set_option maxHeartbeats 4000000 in
set_option maxRecDepth 100000 in
theorem c2_add (l : Launch) (D : va_G) (h : Nat) (ad : Nat → Nat) (dA : Nat → ClassId) (f : Nat → Int32) (g : Nat → Nat → Int32) (b v : Int32) (val snap : Nat → Int32) (u : Int32) (hP : PM f g val snap u) : ow_MI 1 3 1 mlen l yX2_add cX2_add 3 .int (rmD 1) D h ad dA [.int b, .int v] f g (fun r f1 g1 => r = (if inb b = true then val (ixb b) + v else 0) ∧ PM f1 g1 (if inb b = true then upd val (ixb b) (val (ixb b) + v) else val) snap (if inb b = true then 1 else u)) := by
  refine ow_ofI (by decide) (Nat.le_of_ble_eq_true rfl) ?_
  intro p e s m args below meth c A Q ls E w hl ret
  have E : ow_E 3 p m meth c cX2_add 3 (some .int) s args RX2 D A dA := E
  have hx := E.1.1
  have hb := E.1.2.1
  have hl : lv_has ls 3 [(0, .ref h), (1, .int b), (2, .int v)] := hl
  refine lv_aload_n hx hb dX2_add_0 rfl (lv_at hl 0 rfl) ?_
  refine lv_iload_n hx hb dX2_add_1 rfl (lv_at hl 1 rfl) ?_
  refine k2_bad E w hl.1 (Nat.le_of_ble_eq_true rfl) dX2_add_2 (by decide) ⟨Nat.zero_le _, Nat.zero_le _⟩  (fun r1 f9 g9 H locs hp w => ?_)
  obtain ⟨er1, ef9, eg9⟩ := hp
  subst f9 g9
  refine lv_if_eq (tgt := 10) hx hb dX2_add_5 (by decide) (fun c5 => ?_) (fun c5 => ?_)
  · obtain ⟨hinj, j, hj, ej⟩ := inb10_t er1 c5
    subst ej
    refine lv_aload_n hx hb dX2_add_10 rfl (lv_at hl 0 rfl) ?_
    refine lv_iconst (v := 1) hx hb dX2_add_11 (by decide) ?_
    refine ow_puti mC E w 0 3 rfl (by decide) rfl rfl rfl q241 dX2_add_12 (fun f1 H locs ef1 w => ?_)
    refine lv_aload_n hx hb dX2_add_15 rfl (lv_at hl 0 rfl) ?_
    refine ow_geta mC E w 0 (by decide) q238 dX2_add_16 ?_
    refine lv_iload_n hx hb dX2_add_19 rfl (lv_at hl 1 rfl) ?_
    refine lv_dup2_11 hx hb dX2_add_20 rfl rfl ?_
    refine ow_iald mC E w 0 (by decide) (j) rfl (show _ < _ by first | omega | (simp only [xlen, mlen]; omega)) dX2_add_21 ?_
    refine ow_top (v := val j) (by rw [hP.1]) ?_
    refine lv_iload_n hx hb dX2_add_22 rfl (lv_at hl 2 rfl) ?_
    refine lv_iadd hx hb dX2_add_23 ?_
    refine ow_iast mC E w 0 (by decide) (j) rfl (show _ < _ by first | omega | (simp only [xlen, mlen]; omega)) dX2_add_24 (fun g1 H locs eg1 w => ?_)
    refine lv_aload_n hx hb dX2_add_25 rfl (lv_at hl 0 rfl) ?_
    refine ow_geta mC E w 0 (by decide) q238 dX2_add_26 ?_
    refine lv_iload_n hx hb dX2_add_29 rfl (lv_at hl 1 rfl) ?_
    refine ow_iald mC E w 0 (by decide) (j) rfl (show _ < _ by first | omega | (simp only [xlen, mlen]; omega)) dX2_add_30 ?_
    refine ow_top (v := val j + v) (by rw [eg1]; exact pk_us) ?_
    refine ret dX2_add_31 rfl ⟨?_, ?_⟩ w
    · simp only [hinj, ↓reduceIte, ixb_nI (show j < 2 ^ 31 by omega)]
    · simp only [hinj, ↓reduceIte, ixb_nI (show j < 2 ^ 31 by omega)]
      exact ⟨by rw [eg1, ← hP.1]; rfl, by rw [eg1]; exact hP.2.1, by rw [ef1]; rfl⟩
  · refine lv_iconst (v := 0) hx hb dX2_add_8 (by decide) ?_
    have hin := inb10_f er1 c5
    refine ret dX2_add_9 rfl ⟨?_, ?_⟩ w
    · simp only [hin, Bool.false_eq_true, ↓reduceIte]
    · simp only [hin, Bool.false_eq_true, ↓reduceIte]
      exact hP
set_option maxHeartbeats 4000000 in
set_option maxRecDepth 100000 in
theorem c2_exchange (l : Launch) (D : va_G) (h : Nat) (ad : Nat → Nat) (dA : Nat → ClassId) (f : Nat → Int32) (g : Nat → Nat → Int32) (b d : Int32) (val snap : Nat → Int32) (u : Int32) (hP : PM f g val snap u) : ow_MI 1 3 1 mlen l yX2_exchange cX2_exchange 4 .int (rmD 1) D h ad dA [.int b, .int d] f g (fun r f1 g1 => r = (if inb b = true ∧ inb d = true then 0 else -1) ∧ PM f1 g1 (if inb b = true ∧ inb d = true then upd (upd val (ixb b) (val (ixb d))) (ixb d) (val (ixb b)) else val) snap (if inb b = true ∧ inb d = true then 1 else u)) := by
  refine ow_ofI (by decide) (Nat.le_of_ble_eq_true rfl) ?_
  intro p e s m args below meth c A Q ls E w hl ret
  have E : ow_E 3 p m meth c cX2_exchange 4 (some .int) s args RX2 D A dA := E
  have hx := E.1.1
  have hb := E.1.2.1
  have hl : lv_has ls 4 [(0, .ref h), (1, .int b), (2, .int d)] := hl
  refine lv_aload_n hx hb dX2_exchange_0 rfl (lv_at hl 0 rfl) ?_
  refine lv_iload_n hx hb dX2_exchange_1 rfl (lv_at hl 1 rfl) ?_
  refine k2_bad E w hl.1 (Nat.le_of_ble_eq_true rfl) dX2_exchange_2 (by decide) ⟨Nat.zero_le _, Nat.zero_le _⟩  (fun r1 f9 g9 H locs hp w => ?_)
  obtain ⟨er1, ef9, eg9⟩ := hp
  subst f9 g9
  refine lv_if_ne (tgt := 16) hx hb dX2_exchange_5 (by decide) (fun c5 => ?_) (fun c5 => ?_)
  · refine lv_iconst (v := (-1)) hx hb dX2_exchange_16 (by decide) ?_
    have hin := inb10_f er1 c5
    refine ret dX2_exchange_17 rfl ⟨?_, ?_⟩ w
    · simp only [hin, false_and, Bool.false_eq_true, ↓reduceIte]
    · simp only [hin, false_and, Bool.false_eq_true, ↓reduceIte]
      exact hP
  · obtain ⟨hinj, j, hj, ej⟩ := inb10_t er1 c5
    subst ej
    refine lv_aload_n hx hb dX2_exchange_8 rfl (lv_at hl 0 rfl) ?_
    refine lv_iload_n hx hb dX2_exchange_9 rfl (lv_at hl 2 rfl) ?_
    refine k2_bad E w hl.1 (Nat.le_of_ble_eq_true rfl) dX2_exchange_10 (by decide) ⟨Nat.zero_le _, Nat.zero_le _⟩  (fun r2 f9 g9 H locs hp w => ?_)
    obtain ⟨er2, ef9, eg9⟩ := hp
    subst f9 g9
    refine lv_if_eq (tgt := 18) hx hb dX2_exchange_13 (by decide) (fun c13 => ?_) (fun c13 => ?_)
    · obtain ⟨hink, k, hk, ek⟩ := inb10_t er2 c13
      subst ek
      refine lv_aload_n hx hb dX2_exchange_18 rfl (lv_at hl 0 rfl) ?_
      refine lv_iconst (v := 1) hx hb dX2_exchange_19 (by decide) ?_
      refine ow_puti mC E w 0 3 rfl (by decide) rfl rfl rfl q241 dX2_exchange_20 (fun f1 H locs ef1 w => ?_)
      refine lv_aload_n hx hb dX2_exchange_23 rfl (lv_at hl 0 rfl) ?_
      refine ow_geta mC E w 0 (by decide) q238 dX2_exchange_24 ?_
      refine lv_iload_n hx hb dX2_exchange_27 rfl (lv_at hl 1 rfl) ?_
      refine ow_iald mC E w 0 (by decide) (j) rfl (show _ < _ by first | omega | (simp only [xlen, mlen]; omega)) dX2_exchange_28 ?_
      refine ow_top (v := val j) (by rw [hP.1]) ?_
      refine lv_istore_n (lv' := [(3, .int (val j)), (0, .ref h), (1, .int (nI j)), (2, .int (nI k))]) hx hb dX2_exchange_29 rfl hl (by decide) rfl (fun ls hl => ?_)
      refine lv_aload_n hx hb dX2_exchange_30 rfl (lv_at hl 1 rfl) ?_
      refine ow_geta mC E w 0 (by decide) q238 dX2_exchange_31 ?_
      refine lv_iload_n hx hb dX2_exchange_34 rfl (lv_at hl 2 rfl) ?_
      refine lv_aload_n hx hb dX2_exchange_35 rfl (lv_at hl 1 rfl) ?_
      refine ow_geta mC E w 0 (by decide) q238 dX2_exchange_36 ?_
      refine lv_iload_n hx hb dX2_exchange_39 rfl (lv_at hl 3 rfl) ?_
      refine ow_iald mC E w 0 (by decide) (k) rfl (show _ < _ by first | omega | (simp only [xlen, mlen]; omega)) dX2_exchange_40 ?_
      refine ow_top (v := val k) (by rw [hP.1]) ?_
      refine ow_iast mC E w 0 (by decide) (j) rfl (show _ < _ by first | omega | (simp only [xlen, mlen]; omega)) dX2_exchange_41 (fun g1 H locs eg1 w => ?_)
      refine lv_aload_n hx hb dX2_exchange_42 rfl (lv_at hl 1 rfl) ?_
      refine ow_geta mC E w 0 (by decide) q238 dX2_exchange_43 ?_
      refine lv_iload_n hx hb dX2_exchange_46 rfl (lv_at hl 3 rfl) ?_
      refine lv_iload_n hx hb dX2_exchange_47 rfl (lv_at hl 0 rfl) ?_
      refine ow_iast mC E w 0 (by decide) (k) rfl (show _ < _ by first | omega | (simp only [xlen, mlen]; omega)) dX2_exchange_48 (fun g2 H locs eg2 w => ?_)
      refine lv_iconst (v := 0) hx hb dX2_exchange_49 (by decide) ?_
      refine ret dX2_exchange_50 rfl ⟨?_, ?_⟩ w
      · simp only [hinj, hink, and_self, ↓reduceIte, ixb_nI (show j < 2 ^ 31 by omega), ixb_nI (show k < 2 ^ 31 by omega)]
      · simp only [hinj, hink, and_self, ↓reduceIte, ixb_nI (show j < 2 ^ 31 by omega), ixb_nI (show k < 2 ^ 31 by omega)]
        exact ⟨by rw [eg2, eg1, ← hP.1]; rfl, by rw [eg2, eg1]; exact hP.2.1, by rw [ef1]; rfl⟩
    · refine lv_iconst (v := (-1)) hx hb dX2_exchange_16 (by decide) ?_
      have hin := inb10_f er2 c13
      refine ret dX2_exchange_17 rfl ⟨?_, ?_⟩ w
      · simp only [hin, and_false, Bool.false_eq_true, ↓reduceIte]
      · simp only [hin, and_false, Bool.false_eq_true, ↓reduceIte]
        exact hP
set_option maxHeartbeats 4000000 in
set_option maxRecDepth 100000 in
theorem c2_copy (l : Launch) (D : va_G) (h : Nat) (ad : Nat → Nat) (dA : Nat → ClassId) (f : Nat → Int32) (g : Nat → Nat → Int32) (b d : Int32) (val snap : Nat → Int32) (u : Int32) (hP : PM f g val snap u) : ow_MI 1 3 1 mlen l yX2_copy cX2_copy 3 .int (rmD 1) D h ad dA [.int b, .int d] f g (fun r f1 g1 => r = (if inb b = true ∧ inb d = true then 0 else -1) ∧ PM f1 g1 (if inb b = true ∧ inb d = true then upd val (ixb d) (val (ixb b)) else val) snap (if inb b = true ∧ inb d = true then 1 else u)) := by
  refine ow_ofI (by decide) (Nat.le_of_ble_eq_true rfl) ?_
  intro p e s m args below meth c A Q ls E w hl ret
  have E : ow_E 3 p m meth c cX2_copy 3 (some .int) s args RX2 D A dA := E
  have hx := E.1.1
  have hb := E.1.2.1
  have hl : lv_has ls 3 [(0, .ref h), (1, .int b), (2, .int d)] := hl
  refine lv_aload_n hx hb dX2_copy_0 rfl (lv_at hl 0 rfl) ?_
  refine lv_iload_n hx hb dX2_copy_1 rfl (lv_at hl 1 rfl) ?_
  refine k2_bad E w hl.1 (Nat.le_of_ble_eq_true rfl) dX2_copy_2 (by decide) ⟨Nat.zero_le _, Nat.zero_le _⟩  (fun r1 f9 g9 H locs hp w => ?_)
  obtain ⟨er1, ef9, eg9⟩ := hp
  subst f9 g9
  refine lv_if_ne (tgt := 16) hx hb dX2_copy_5 (by decide) (fun c5 => ?_) (fun c5 => ?_)
  · refine lv_iconst (v := (-1)) hx hb dX2_copy_16 (by decide) ?_
    have hin := inb10_f er1 c5
    refine ret dX2_copy_17 rfl ⟨?_, ?_⟩ w
    · simp only [hin, false_and, Bool.false_eq_true, ↓reduceIte]
    · simp only [hin, false_and, Bool.false_eq_true, ↓reduceIte]
      exact hP
  · obtain ⟨hinj, j, hj, ej⟩ := inb10_t er1 c5
    subst ej
    refine lv_aload_n hx hb dX2_copy_8 rfl (lv_at hl 0 rfl) ?_
    refine lv_iload_n hx hb dX2_copy_9 rfl (lv_at hl 2 rfl) ?_
    refine k2_bad E w hl.1 (Nat.le_of_ble_eq_true rfl) dX2_copy_10 (by decide) ⟨Nat.zero_le _, Nat.zero_le _⟩  (fun r2 f9 g9 H locs hp w => ?_)
    obtain ⟨er2, ef9, eg9⟩ := hp
    subst f9 g9
    refine lv_if_eq (tgt := 18) hx hb dX2_copy_13 (by decide) (fun c13 => ?_) (fun c13 => ?_)
    · obtain ⟨hink, k, hk, ek⟩ := inb10_t er2 c13
      subst ek
      refine lv_aload_n hx hb dX2_copy_18 rfl (lv_at hl 0 rfl) ?_
      refine lv_iconst (v := 1) hx hb dX2_copy_19 (by decide) ?_
      refine ow_puti mC E w 0 3 rfl (by decide) rfl rfl rfl q241 dX2_copy_20 (fun f1 H locs ef1 w => ?_)
      refine lv_aload_n hx hb dX2_copy_23 rfl (lv_at hl 0 rfl) ?_
      refine ow_geta mC E w 0 (by decide) q238 dX2_copy_24 ?_
      refine lv_iload_n hx hb dX2_copy_27 rfl (lv_at hl 2 rfl) ?_
      refine lv_aload_n hx hb dX2_copy_28 rfl (lv_at hl 0 rfl) ?_
      refine ow_geta mC E w 0 (by decide) q238 dX2_copy_29 ?_
      refine lv_iload_n hx hb dX2_copy_32 rfl (lv_at hl 1 rfl) ?_
      refine ow_iald mC E w 0 (by decide) (j) rfl (show _ < _ by first | omega | (simp only [xlen, mlen]; omega)) dX2_copy_33 ?_
      refine ow_top (v := val j) (by rw [hP.1]) ?_
      refine ow_iast mC E w 0 (by decide) (k) rfl (show _ < _ by first | omega | (simp only [xlen, mlen]; omega)) dX2_copy_34 (fun g1 H locs eg1 w => ?_)
      refine lv_iconst (v := 0) hx hb dX2_copy_35 (by decide) ?_
      refine ret dX2_copy_36 rfl ⟨?_, ?_⟩ w
      · simp only [hinj, hink, and_self, ↓reduceIte, ixb_nI (show j < 2 ^ 31 by omega), ixb_nI (show k < 2 ^ 31 by omega)]
      · simp only [hinj, hink, and_self, ↓reduceIte, ixb_nI (show j < 2 ^ 31 by omega), ixb_nI (show k < 2 ^ 31 by omega)]
        exact ⟨by rw [eg1, ← hP.1]; rfl, by rw [eg1]; exact hP.2.1, by rw [ef1]; rfl⟩
    · refine lv_iconst (v := (-1)) hx hb dX2_copy_16 (by decide) ?_
      have hin := inb10_f er2 c13
      refine ret dX2_copy_17 rfl ⟨?_, ?_⟩ w
      · simp only [hin, and_false, Bool.false_eq_true, ↓reduceIte]
      · simp only [hin, and_false, Bool.false_eq_true, ↓reduceIte]
        exact hP
set_option maxHeartbeats 4000000 in
set_option maxRecDepth 100000 in
theorem c2_fill (l : Launch) (D : va_G) (h : Nat) (ad : Nat → Nat) (dA : Nat → ClassId) (f : Nat → Int32) (g : Nat → Nat → Int32) (b n v st : Int32) (val snap : Nat → Int32) (u : Int32) (hP : PM f g val snap u) : ow_MI 1 3 1 mlen l yX2_fill cX2_fill 6 .int (rmD 0) D h ad dA [.int b, .int n, .int v, .int st] f g (fun r f1 g1 => r = (if n < 1 ∨ ¬ n ≤ 16 then -1 else if b < 0 ∨ ¬ b ≤ 16 - n then -2 else 0) ∧ PM f1 g1 (if n < 1 ∨ ¬ n ≤ 16 then val else if b < 0 ∨ ¬ b ≤ 16 - n then val else fl val (ixb b) (ixb n) v st) snap (if ¬ (n < 1 ∨ ¬ n ≤ 16) ∧ ¬ (b < 0 ∨ ¬ b ≤ 16 - n) then 1 else u)) := by
  refine ow_ofI (by decide) (Nat.le_of_ble_eq_true rfl) ?_
  intro p e s m args below meth c A Q ls E w hl ret
  have E : ow_E 3 p m meth c cX2_fill 6 (some .int) s args RX2 D A dA := E
  have hx := E.1.1
  have hb := E.1.2.1
  have hl : lv_has ls 6 [(0, .ref h), (1, .int b), (2, .int n), (3, .int v), (4, .int st)] := hl
  refine lv_iload_n hx hb dX2_fill_0 rfl (lv_at hl 2 rfl) ?_
  refine lv_iconst (v := 1) hx hb dX2_fill_1 (by decide) ?_
  refine lv_icmp_lt (tgt := 11) hx hb dX2_fill_2 (by decide) (fun c2 => ?_) (fun c2 => ?_)
  · refine lv_iconst (v := (-1)) hx hb dX2_fill_11 (by decide) ?_
    refine ret dX2_fill_12 rfl ⟨?_, ?_⟩ w
    · simp only [c2, true_or, not_true_eq_false, false_and, ↓reduceIte]
    · simp only [c2, true_or, not_true_eq_false, false_and, ↓reduceIte]
      exact hP
  · refine lv_iload_n hx hb dX2_fill_5 rfl (lv_at hl 2 rfl) ?_
    refine lv_bipush (v := 16) hx hb dX2_fill_6 (by decide) ?_
    refine lv_icmp_le (tgt := 13) hx hb dX2_fill_8 (by decide) (fun c8 => ?_) (fun c8 => ?_)
    · refine lv_iload_n hx hb dX2_fill_13 rfl (lv_at hl 1 rfl) ?_
      refine lv_if_lt (tgt := 25) hx hb dX2_fill_14 (by decide) (fun c14 => ?_) (fun c14 => ?_)
      · refine lv_bipush (v := (-2)) hx hb dX2_fill_25 (by decide) ?_
        refine ret dX2_fill_27 rfl ⟨?_, ?_⟩ w
        · simp only [c2, c8, c14, true_or, not_true_eq_false, not_false_eq_true, or_false, or_self, and_false, ↓reduceIte]
        · simp only [c2, c8, c14, true_or, not_true_eq_false, not_false_eq_true, or_false, or_self, and_false, ↓reduceIte]
          exact hP
      · refine lv_iload_n hx hb dX2_fill_17 rfl (lv_at hl 1 rfl) ?_
        refine lv_bipush (v := 16) hx hb dX2_fill_18 (by decide) ?_
        refine lv_iload_n hx hb dX2_fill_20 rfl (lv_at hl 2 rfl) ?_
        refine lv_isub hx hb dX2_fill_21 ?_
        refine lv_icmp_le (tgt := 28) hx hb dX2_fill_22 (by decide) (fun c22 => ?_) (fun c22 => ?_)
        · have cc2 := c2
          have cc8 := c8
          have cc14 := c14
          have cc22 := c22
          obtain ⟨j, n', hn1, hjn, ej, en⟩ := fill_ok c2 c8 c14 c22
          subst ej
          subst en
          refine lv_aload_n hx hb dX2_fill_28 rfl (lv_at hl 0 rfl) ?_
          refine lv_iconst (v := 1) hx hb dX2_fill_29 (by decide) ?_
          refine ow_puti mC E w 0 3 rfl (by decide) rfl rfl rfl q241 dX2_fill_30 (fun f1 H locs ef1 w => ?_)
          refine lv_iconst (v := nI 0) hx hb dX2_fill_33 (by decide) ?_
          refine lv_istore (lv' := [(5, .int (nI 0)), (0, .ref h), (1, .int (nI j)), (2, .int (nI n')), (3, .int v), (4, .int st)]) hx hb dX2_fill_34 hl (by decide) rfl (fun ls hl => ?_)
          have loop : ∀ (q k : Nat), k ≤ n' → n' < k + q → ∀ (g2 : Nat → Nat → Int32), g2 0 = fl val j k v st → g2 2 = snap → ∀ (H : Heap) (locs : List Loc) (ls : Array Slot), ow_W 1 3 1 mlen D A h ad dA f1 g2 s H locs → lv_has ls 6 [(0, .ref h), (1, .int (nI j)), (2, .int (nI n')), (3, .int v), (4, .int st), (5, .int (nI k))] → W p l e (rmD 0) s m args below meth c H locs 0 0 Q (F0 m 36 ls []) := by
            intro q
            induction q with
            | zero => intro k hk hq; exact absurd hq (by omega)
            | succ q ih =>
              intro k hk hq g2 h0 h2 H locs ls w hl
              refine lv_iload hx hb dX2_fill_36 (lv_at hl 5 rfl) ?_
              refine lv_iload_n hx hb dX2_fill_38 rfl (lv_at hl 2 rfl) ?_
              refine ow_ge (k) (n') (by omega) (by omega) (tgt := 64) hx hb dX2_fill_39 (by decide) (fun c39 => ?_) (fun c39 => ?_)
              · have ek : k = n' := by omega
                subst ek
                refine lv_iconst (v := 0) hx hb dX2_fill_64 (by decide) ?_
                refine ret dX2_fill_65 rfl ⟨?_, ?_⟩ w
                · simp only [cc2, cc8, cc14, cc22, or_self, not_true_eq_false, not_false_eq_true, and_self, ↓reduceIte, ixb_nI (show j < 2 ^ 31 by omega), ixb_nI (show k < 2 ^ 31 by omega)]
                · simp only [cc2, cc8, cc14, cc22, or_self, not_true_eq_false, not_false_eq_true, and_self, ↓reduceIte, ixb_nI (show j < 2 ^ 31 by omega), ixb_nI (show k < 2 ^ 31 by omega)]
                  exact ⟨h0, h2, by rw [ef1]; rfl⟩
              · refine lv_aload_n hx hb dX2_fill_42 rfl (lv_at hl 0 rfl) ?_
                refine ow_geta mC E w 0 (by decide) q238 dX2_fill_43 ?_
                refine lv_iload_n hx hb dX2_fill_46 rfl (lv_at hl 1 rfl) ?_
                refine lv_iload hx hb dX2_fill_47 (lv_at hl 5 rfl) ?_
                refine lv_iadd hx hb dX2_fill_49 ?_
                refine ow_top (v := nI (j + k)) (nI_add _ _) ?_
                refine lv_iload_n hx hb dX2_fill_50 rfl (lv_at hl 3 rfl) ?_
                refine lv_iload hx hb dX2_fill_51 (lv_at hl 5 rfl) ?_
                refine lv_iload hx hb dX2_fill_53 (lv_at hl 4 rfl) ?_
                refine lv_imul hx hb dX2_fill_55 ?_
                refine lv_iadd hx hb dX2_fill_56 ?_
                refine ow_iast mC E w 0 (by decide) (j + k) rfl (show _ < _ by first | omega | (simp only [xlen, mlen]; omega)) dX2_fill_57 (fun g3 H locs eg3 w => ?_)
                refine lv_iinc (v := nI (k + 1)) (lv' := [(5, .int (nI (k + 1))), (0, .ref h), (1, .int (nI j)), (2, .int (nI n')), (3, .int v), (4, .int st)]) hx hb dX2_fill_58 hl (k := 5) rfl (nI_1 _) (by decide) rfl (fun ls hl => ?_)
                refine lv_goto (tgt := 36) hx hb dX2_fill_61 (by decide) ?_
                refine ih (k + 1) (by omega) (by omega) g3 ?_ ?_ H locs ls w (lv_sub hl [1, 2, 3, 4, 5, 0] rfl)
                · rw [eg3]
                  show upd (g2 0) (j + k) (v + nI k * st) = _
                  rw [h0, fl_s]
                · rw [eg3]; exact h2
          exact loop (n' + 1) 0 (by omega) (by omega) g (by rw [fl_0]; exact hP.1) hP.2.1 _ _ ls w (lv_sub hl [1, 2, 3, 4, 5, 0] rfl)
        · refine lv_bipush (v := (-2)) hx hb dX2_fill_25 (by decide) ?_
          refine ret dX2_fill_27 rfl ⟨?_, ?_⟩ w
          · simp only [c2, c8, c14, c22, not_false_eq_true, not_true_eq_false, or_true, or_self, false_or, and_false, ↓reduceIte]
          · simp only [c2, c8, c14, c22, not_false_eq_true, not_true_eq_false, or_true, or_self, false_or, and_false, ↓reduceIte]
            exact hP
    · refine lv_iconst (v := (-1)) hx hb dX2_fill_11 (by decide) ?_
      refine ret dX2_fill_12 rfl ⟨?_, ?_⟩ w
      · simp only [c2, c8, not_false_eq_true, not_true_eq_false, or_true, false_and, ↓reduceIte]
      · simp only [c2, c8, not_false_eq_true, not_true_eq_false, or_true, false_and, ↓reduceIte]
        exact hP
set_option maxHeartbeats 4000000 in
set_option maxRecDepth 100000 in
theorem c2_rotate (l : Launch) (D : va_G) (h : Nat) (ad : Nat → Nat) (dA : Nat → ClassId) (f : Nat → Int32) (g : Nat → Nat → Int32) (sh : Int32) (val snap : Nat → Int32) (u : Int32) (hP : PM f g val snap u) : ow_MI 1 3 1 mlen l yX2_rotate cX2_rotate 3 .int (rmD 0) D h ad dA [.int sh] f g (fun r f1 g1 => r = 0 ∧ PM f1 g1 (rtt val sh 16) snap (if True then 1 else u)) := by
  refine ow_ofI (by decide) (Nat.le_of_ble_eq_true rfl) ?_
  intro p e s m args below meth c A Q ls E w hl ret
  have E : ow_E 3 p m meth c cX2_rotate 3 (some .int) s args RX2 D A dA := E
  have hx := E.1.1
  have hb := E.1.2.1
  have hl : lv_has ls 3 [(0, .ref h), (1, .int sh)] := hl
  refine lv_aload_n hx hb dX2_rotate_0 rfl (lv_at hl 0 rfl) ?_
  refine lv_iconst (v := 1) hx hb dX2_rotate_1 (by decide) ?_
  refine ow_puti mC E w 0 3 rfl (by decide) rfl rfl rfl q241 dX2_rotate_2 (fun f1 H locs ef1 w => ?_)
  refine lv_iconst (v := nI 0) hx hb dX2_rotate_5 (by decide) ?_
  refine lv_istore_n (lv' := [(2, .int (nI 0)), (0, .ref h), (1, .int sh)]) hx hb dX2_rotate_6 rfl hl (by decide) rfl (fun ls hl => ?_)
  have loop2 : ∀ (q k : Nat), k ≤ 16 → 16 < k + q → ∀ (g3 : Nat → Nat → Int32), g3 0 = rtt val sh k → g3 2 = snap → (∀ j, j < 16 → g3 1 j = val j) → ∀ (H : Heap) (locs : List Loc) (ls : Array Slot), ow_W 1 3 1 mlen D A h ad dA f1 g3 s H locs → lv_has ls 3 [(0, .ref h), (1, .int sh), (2, .int (nI k))] → W p l e (rmD 0) s m args below meth c H locs 0 0 Q (F0 m 33 ls []) := by
    intro q
    induction q with
    | zero => intro k hk hq; exact absurd hq (by omega)
    | succ q ih =>
      intro k hk hq g3 h0 h2 h1 H locs ls w hl
      refine lv_iload_n hx hb dX2_rotate_33 rfl (lv_at hl 2 rfl) ?_
      refine lv_bipush (v := nI 16) hx hb dX2_rotate_34 (by decide) ?_
      refine ow_ge (k) (16) (by omega) (by omega) (tgt := 62) hx hb dX2_rotate_36 (by decide) (fun c36 => ?_) (fun c36 => ?_)
      · have ek : k = 16 := by omega
        subst ek
        refine lv_iconst (v := 0) hx hb dX2_rotate_62 (by decide) ?_
        refine ret dX2_rotate_63 rfl ⟨?_, ?_⟩ w
        · exact rfl
        · simp only [↓reduceIte]
          exact ⟨h0, h2, by rw [ef1]; rfl⟩
      · obtain ⟨i, hi, ei⟩ := pk_andE (nI k + sh) (m := nI 15) 4 (by decide)
        have er : rix k sh = i := by unfold rix; rw [ei]; exact ixb_nI (by omega)
        refine lv_aload_n hx hb dX2_rotate_39 rfl (lv_at hl 0 rfl) ?_
        refine ow_geta mC E w 0 (by decide) q238 dX2_rotate_40 ?_
        refine lv_iload_n hx hb dX2_rotate_43 rfl (lv_at hl 2 rfl) ?_
        refine lv_aload_n hx hb dX2_rotate_44 rfl (lv_at hl 0 rfl) ?_
        refine ow_geta mC E w 1 (by decide) q239 dX2_rotate_45 ?_
        refine lv_iload_n hx hb dX2_rotate_48 rfl (lv_at hl 2 rfl) ?_
        refine lv_iload_n hx hb dX2_rotate_49 rfl (lv_at hl 1 rfl) ?_
        refine lv_iadd hx hb dX2_rotate_50 ?_
        refine lv_bipush (v := nI 15) hx hb dX2_rotate_51 (by decide) ?_
        refine lv_iand hx hb dX2_rotate_53 ?_
        refine ow_top (v := nI i) ei ?_
        refine ow_iald mC E w 1 (by decide) (i) rfl (show _ < _ by first | omega | (simp only [xlen, mlen]; omega)) dX2_rotate_54 ?_
        refine ow_top (v := val i) (h1 i hi) ?_
        refine ow_iast mC E w 0 (by decide) (k) rfl (show _ < _ by first | omega | (simp only [xlen, mlen]; omega)) dX2_rotate_55 (fun g4 H locs eg4 w => ?_)
        refine lv_iinc (v := nI (k + 1)) (lv' := [(2, .int (nI (k + 1))), (0, .ref h), (1, .int sh)]) hx hb dX2_rotate_56 hl (k := 2) rfl (nI_1 _) (by decide) rfl (fun ls hl => ?_)
        refine lv_goto (tgt := 33) hx hb dX2_rotate_59 (by decide) ?_
        refine ih (k + 1) (by omega) (by omega) g4 ?_ ?_ ?_ H locs ls w (lv_sub hl [1, 2, 0] rfl)
        · rw [eg4]
          show upd (g3 0) k (val i) = _
          rw [h0, ← er, rtt_s]
        · rw [eg4]; exact h2
        · rw [eg4]; exact h1
  have loop : ∀ (q k : Nat), k ≤ 16 → 16 < k + q → ∀ (g3 : Nat → Nat → Int32), g3 0 = val → g3 2 = snap → (∀ j, j < k → g3 1 j = val j) → ∀ (H : Heap) (locs : List Loc) (ls : Array Slot), ow_W 1 3 1 mlen D A h ad dA f1 g3 s H locs → lv_has ls 3 [(0, .ref h), (1, .int sh), (2, .int (nI k))] → W p l e (rmD 0) s m args below meth c H locs 0 0 Q (F0 m 7 ls []) := by
    intro q
    induction q with
    | zero => intro k hk hq; exact absurd hq (by omega)
    | succ q ih =>
      intro k hk hq g3 h0 h2 h1 H locs ls w hl
      refine lv_iload_n hx hb dX2_rotate_7 rfl (lv_at hl 2 rfl) ?_
      refine lv_bipush (v := nI 16) hx hb dX2_rotate_8 (by decide) ?_
      refine ow_ge (k) (16) (by omega) (by omega) (tgt := 31) hx hb dX2_rotate_10 (by decide) (fun c10 => ?_) (fun c10 => ?_)
      · have ek : k = 16 := by omega
        subst ek
        refine lv_iconst (v := nI 0) hx hb dX2_rotate_31 (by decide) ?_
        refine lv_istore_n (lv' := [(2, .int (nI 0)), (0, .ref h), (1, .int sh)]) hx hb dX2_rotate_32 rfl hl (by decide) rfl (fun ls hl => ?_)
        exact loop2 17 0 (by omega) (by omega) g3 (by rw [rtt_0]; exact h0) h2 h1 _ _ ls w (lv_sub hl [1, 2, 0] rfl)
      · refine lv_aload_n hx hb dX2_rotate_13 rfl (lv_at hl 0 rfl) ?_
        refine ow_geta mC E w 1 (by decide) q239 dX2_rotate_14 ?_
        refine lv_iload_n hx hb dX2_rotate_17 rfl (lv_at hl 2 rfl) ?_
        refine lv_aload_n hx hb dX2_rotate_18 rfl (lv_at hl 0 rfl) ?_
        refine ow_geta mC E w 0 (by decide) q238 dX2_rotate_19 ?_
        refine lv_iload_n hx hb dX2_rotate_22 rfl (lv_at hl 2 rfl) ?_
        refine ow_iald mC E w 0 (by decide) (k) rfl (show _ < _ by first | omega | (simp only [xlen, mlen]; omega)) dX2_rotate_23 ?_
        refine ow_top (v := val k) (by rw [h0]) ?_
        refine ow_iast mC E w 1 (by decide) (k) rfl (show _ < _ by first | omega | (simp only [xlen, mlen]; omega)) dX2_rotate_24 (fun g4 H locs eg4 w => ?_)
        refine lv_iinc (v := nI (k + 1)) (lv' := [(2, .int (nI (k + 1))), (0, .ref h), (1, .int sh)]) hx hb dX2_rotate_25 hl (k := 2) rfl (nI_1 _) (by decide) rfl (fun ls hl => ?_)
        refine lv_goto (tgt := 7) hx hb dX2_rotate_28 (by decide) ?_
        refine ih (k + 1) (by omega) (by omega) g4 ?_ ?_ (fun j hj => ?_) H locs ls w (lv_sub hl [1, 2, 0] rfl)
        · rw [eg4]; exact h0
        · rw [eg4]; exact h2
        · rw [eg4]
          show upd (g3 1) k (val k) j = val j
          by_cases q : j = k
          · rw [q, pk_us]
          · rw [pk_un q]; exact h1 j (by omega)
  exact loop 17 0 (by omega) (by omega) g hP.1 hP.2.1 (fun j hj => absurd hj (by omega)) _ _ ls w (lv_sub hl [1, 2, 0] rfl)
set_option maxHeartbeats 4000000 in
set_option maxRecDepth 100000 in
theorem c2_sum (l : Launch) (D : va_G) (h : Nat) (ad : Nat → Nat) (dA : Nat → ClassId) (f : Nat → Int32) (g : Nat → Nat → Int32) (val snap : Nat → Int32) (u : Int32) (hP : PM f g val snap u) : ow_MI 1 3 1 mlen l yX2_sum cX2_sum 3 .int (rmD 0) D h ad dA [] f g (fun r f1 g1 => r = (sm val 16) ∧ PM f1 g1 val snap (if True then 1 else u)) := by
  refine ow_ofI (by decide) (Nat.le_of_ble_eq_true rfl) ?_
  intro p e s m args below meth c A Q ls E w hl ret
  have E : ow_E 3 p m meth c cX2_sum 3 (some .int) s args RX2 D A dA := E
  have hx := E.1.1
  have hb := E.1.2.1
  have hl : lv_has ls 3 [(0, .ref h)] := hl
  refine lv_aload_n hx hb dX2_sum_0 rfl (lv_at hl 0 rfl) ?_
  refine lv_iconst (v := 1) hx hb dX2_sum_1 (by decide) ?_
  refine ow_puti mC E w 0 3 rfl (by decide) rfl rfl rfl q241 dX2_sum_2 (fun f1 H locs ef1 w => ?_)
  refine lv_iconst (v := 0) hx hb dX2_sum_5 (by decide) ?_
  refine lv_istore_n (lv' := [(1, .int 0), (0, .ref h)]) hx hb dX2_sum_6 rfl hl (by decide) rfl (fun ls hl => ?_)
  refine lv_iconst (v := nI 0) hx hb dX2_sum_7 (by decide) ?_
  refine lv_istore_n (lv' := [(2, .int (nI 0)), (1, .int 0), (0, .ref h)]) hx hb dX2_sum_8 rfl hl (by decide) rfl (fun ls hl => ?_)
  have loop : ∀ (q k : Nat), k ≤ 16 → 16 < k + q → ∀ (H : Heap) (locs : List Loc) (ls : Array Slot), ow_W 1 3 1 mlen D A h ad dA f1 g s H locs → lv_has ls 3 [(0, .ref h), (1, .int (sm val k)), (2, .int (nI k))] → W p l e (rmD 0) s m args below meth c H locs 0 0 Q (F0 m 9 ls []) := by
    intro q
    induction q with
    | zero => intro k hk hq; exact absurd hq (by omega)
    | succ q ih =>
      intro k hk hq  H locs ls w hl
      refine lv_iload_n hx hb dX2_sum_9 rfl (lv_at hl 2 rfl) ?_
      refine lv_bipush (v := nI 16) hx hb dX2_sum_10 (by decide) ?_
      refine ow_ge (k) (16) (by omega) (by omega) (tgt := 30) hx hb dX2_sum_12 (by decide) (fun c12 => ?_) (fun c12 => ?_)
      · have ek : k = 16 := by omega
        subst ek
        refine lv_iload_n hx hb dX2_sum_30 rfl (lv_at hl 1 rfl) ?_
        refine ret dX2_sum_31 rfl ⟨?_, ?_⟩ w
        · exact rfl
        · simp only [↓reduceIte]
          exact ⟨hP.1, hP.2.1, by rw [ef1]; rfl⟩
      · refine lv_iload_n hx hb dX2_sum_15 rfl (lv_at hl 1 rfl) ?_
        refine lv_aload_n hx hb dX2_sum_16 rfl (lv_at hl 0 rfl) ?_
        refine ow_geta mC E w 0 (by decide) q238 dX2_sum_17 ?_
        refine lv_iload_n hx hb dX2_sum_20 rfl (lv_at hl 2 rfl) ?_
        refine ow_iald mC E w 0 (by decide) (k) rfl (show _ < _ by first | omega | (simp only [xlen, mlen]; omega)) dX2_sum_21 ?_
        refine ow_top (v := val k) (by rw [hP.1]) ?_
        refine lv_iadd hx hb dX2_sum_22 ?_
        refine ow_top (v := sm val (k + 1)) rfl ?_
        refine lv_istore_n (lv' := [(1, .int (sm val (k + 1))), (0, .ref h), (2, .int (nI k))]) hx hb dX2_sum_23 rfl hl (by decide) rfl (fun ls hl => ?_)
        refine lv_iinc (v := nI (k + 1)) (lv' := [(2, .int (nI (k + 1))), (1, .int (sm val (k + 1))), (0, .ref h)]) hx hb dX2_sum_24 hl (k := 2) rfl (nI_1 _) (by decide) rfl (fun ls hl => ?_)
        refine lv_goto (tgt := 9) hx hb dX2_sum_27 (by decide) ?_
        exact ih (k + 1) (by omega) (by omega) H locs ls w (lv_sub hl [2, 1, 0] rfl)
  exact loop 17 0 (by omega) (by omega) _ _ ls w (lv_sub hl [2, 1, 0] rfl)
set_option maxHeartbeats 4000000 in
set_option maxRecDepth 100000 in
theorem c2_find (l : Launch) (D : va_G) (h : Nat) (ad : Nat → Nat) (dA : Nat → ClassId) (f : Nat → Int32) (g : Nat → Nat → Int32) (v b : Int32) (val snap : Nat → Int32) (u : Int32) (hP : PM f g val snap u) : ow_MI 1 3 1 mlen l yX2_find cX2_find 4 .int (rmD 1) D h ad dA [.int v, .int b] f g (fun r f1 g1 => r = (if inb b = true then fd val v (ixb b) (16 - ixb b) else -1) ∧ PM f1 g1 val snap (if inb b = true then 1 else u)) := by
  refine ow_ofI (by decide) (Nat.le_of_ble_eq_true rfl) ?_
  intro p e s m args below meth c A Q ls E w hl ret
  have E : ow_E 3 p m meth c cX2_find 4 (some .int) s args RX2 D A dA := E
  have hx := E.1.1
  have hb := E.1.2.1
  have hl : lv_has ls 4 [(0, .ref h), (1, .int v), (2, .int b)] := hl
  refine lv_aload_n hx hb dX2_find_0 rfl (lv_at hl 0 rfl) ?_
  refine lv_iload_n hx hb dX2_find_1 rfl (lv_at hl 2 rfl) ?_
  refine k2_bad E w hl.1 (Nat.le_of_ble_eq_true rfl) dX2_find_2 (by decide) ⟨Nat.zero_le _, Nat.zero_le _⟩  (fun r1 f9 g9 H locs hp w => ?_)
  obtain ⟨er1, ef9, eg9⟩ := hp
  subst f9 g9
  refine lv_if_eq (tgt := 10) hx hb dX2_find_5 (by decide) (fun c5 => ?_) (fun c5 => ?_)
  · obtain ⟨hinj, j, hj, ej⟩ := inb10_t er1 c5
    subst ej
    refine lv_aload_n hx hb dX2_find_10 rfl (lv_at hl 0 rfl) ?_
    refine lv_iconst (v := 1) hx hb dX2_find_11 (by decide) ?_
    refine ow_puti mC E w 0 3 rfl (by decide) rfl rfl rfl q241 dX2_find_12 (fun f1 H locs ef1 w => ?_)
    refine lv_iload_n hx hb dX2_find_15 rfl (lv_at hl 2 rfl) ?_
    refine lv_istore_n (lv' := [(3, .int (nI j)), (0, .ref h), (1, .int v), (2, .int (nI j))]) hx hb dX2_find_16 rfl hl (by decide) rfl (fun ls hl => ?_)
    have loop : ∀ (q k : Nat), k ≤ 16 → 16 < k + q → fd val v j (16 - j) = fd val v k (16 - k) → ∀ (H : Heap) (locs : List Loc) (ls : Array Slot), ow_W 1 3 1 mlen D A h ad dA f1 g s H locs → lv_has ls 4 [(0, .ref h), (1, .int v), (2, .int (nI j)), (3, .int (nI k))] → W p l e (rmD 1) s m args below meth c H locs 0 0 Q (F0 m 17 ls []) := by
      intro q
      induction q with
      | zero => intro k hk hq; exact absurd hq (by omega)
      | succ q ih =>
        intro k hk hq hfd H locs ls w hl
        refine lv_iload_n hx hb dX2_find_17 rfl (lv_at hl 3 rfl) ?_
        refine lv_bipush (v := nI 16) hx hb dX2_find_18 (by decide) ?_
        refine ow_ge (k) (16) (by omega) (by omega) (tgt := 41) hx hb dX2_find_20 (by decide) (fun c20 => ?_) (fun c20 => ?_)
        · have ek : k = 16 := by omega
          subst ek
          refine lv_bipush (v := (-2)) hx hb dX2_find_41 (by decide) ?_
          refine ret dX2_find_43 rfl ⟨?_, ?_⟩ w
          · exact by simp only [hinj, ↓reduceIte, ixb_nI (show j < 2 ^ 31 by omega)]; exact hfd.symm
          · simp only [hinj, ↓reduceIte, ixb_nI (show j < 2 ^ 31 by omega)]
            exact ⟨hP.1, hP.2.1, by rw [ef1]; rfl⟩
        · have e1 : 16 - k = (16 - (k + 1)) + 1 := by omega
          refine lv_aload_n hx hb dX2_find_23 rfl (lv_at hl 0 rfl) ?_
          refine ow_geta mC E w 0 (by decide) q238 dX2_find_24 ?_
          refine lv_iload_n hx hb dX2_find_27 rfl (lv_at hl 3 rfl) ?_
          refine ow_iald mC E w 0 (by decide) (k) rfl (show _ < _ by first | omega | (simp only [xlen, mlen]; omega)) dX2_find_28 ?_
          refine ow_top (v := val k) (by rw [hP.1]) ?_
          refine lv_iload_n hx hb dX2_find_29 rfl (lv_at hl 1 rfl) ?_
          refine lv_icmp_ne (tgt := 35) hx hb dX2_find_30 (by decide) (fun c30 => ?_) (fun c30 => ?_)
          · refine lv_iinc (v := nI (k + 1)) (lv' := [(3, .int (nI (k + 1))), (0, .ref h), (1, .int v), (2, .int (nI j))]) hx hb dX2_find_35 hl (k := 3) rfl (nI_1 _) (by decide) rfl (fun ls hl => ?_)
            refine lv_goto (tgt := 17) hx hb dX2_find_38 (by decide) ?_
            refine ih (k + 1) (by omega) (by omega) ?_ H locs ls w (lv_sub hl [1, 2, 3, 0] rfl)
            rw [hfd, e1]
            exact if_neg c30
          · refine lv_iload_n hx hb dX2_find_33 rfl (lv_at hl 3 rfl) ?_
            refine ret dX2_find_34 rfl ⟨?_, ?_⟩ w
            · exact by simp only [hinj, ↓reduceIte, ixb_nI (show j < 2 ^ 31 by omega)]; rw [hfd, e1]; exact (if_pos c30).symm
            · simp only [hinj, ↓reduceIte, ixb_nI (show j < 2 ^ 31 by omega)]
              exact ⟨hP.1, hP.2.1, by rw [ef1]; rfl⟩
    exact loop 17 j (by omega) (by omega) rfl _ _ ls w (lv_sub hl [1, 2, 3, 0] rfl)
  · refine lv_iconst (v := (-1)) hx hb dX2_find_8 (by decide) ?_
    have hin := inb10_f er1 c5
    refine ret dX2_find_9 rfl ⟨?_, ?_⟩ w
    · simp only [hin, Bool.false_eq_true, ↓reduceIte]
    · simp only [hin, Bool.false_eq_true, ↓reduceIte]
      exact hP
set_option maxHeartbeats 4000000 in
set_option maxRecDepth 100000 in
theorem c2_below (l : Launch) (D : va_G) (h : Nat) (ad : Nat → Nat) (dA : Nat → ClassId) (f : Nat → Int32) (g : Nat → Nat → Int32) (v : Int32) (val snap : Nat → Int32) (u : Int32) (hP : PM f g val snap u) : ow_MI 1 3 1 mlen l yX2_below cX2_below 2 .int (rmD 1) D h ad dA [.int v] f g (fun r f1 g1 => r = (nI (cl val v 16)) ∧ PM f1 g1 val snap (if True then 1 else u)) := by
  refine ow_ofI (by decide) (Nat.le_of_ble_eq_true rfl) ?_
  intro p e s m args below meth c A Q ls E w hl ret
  have E : ow_E 3 p m meth c cX2_below 2 (some .int) s args RX2 D A dA := E
  have hx := E.1.1
  have hb := E.1.2.1
  have hl : lv_has ls 2 [(0, .ref h), (1, .int v)] := hl
  refine lv_aload_n hx hb dX2_below_0 rfl (lv_at hl 0 rfl) ?_
  refine lv_iconst (v := 1) hx hb dX2_below_1 (by decide) ?_
  refine ow_puti mC E w 0 3 rfl (by decide) rfl rfl rfl q241 dX2_below_2 (fun f1 H locs ef1 w => ?_)
  refine lv_aload_n hx hb dX2_below_5 rfl (lv_at hl 0 rfl) ?_
  refine lv_iload_n hx hb dX2_below_6 rfl (lv_at hl 1 rfl) ?_
  refine k2_less E w hl.1 (Nat.le_of_ble_eq_true rfl) dX2_below_7 (by decide) ⟨Nat.zero_le _, Nat.zero_le _⟩ hP.1 (fun r1 f9 g9 H locs hp w => ?_)
  obtain ⟨er1, ef9, eg9⟩ := hp
  subst f9 g9
  refine ret dX2_below_10 rfl ⟨?_, ?_⟩ w
  · exact er1
  · simp only [↓reduceIte]
    exact ⟨hP.1, hP.2.1, by rw [ef1]; rfl⟩
set_option maxHeartbeats 4000000 in
set_option maxRecDepth 100000 in
theorem c2_ranked (l : Launch) (D : va_G) (h : Nat) (ad : Nat → Nat) (dA : Nat → ClassId) (f : Nat → Int32) (g : Nat → Nat → Int32) (b : Int32) (val snap : Nat → Int32) (u : Int32) (hP : PM f g val snap u) (hR : inb b = true → ∃ i, i < 16 ∧ Rk val (ixb b) (val i)) : ow_MI 1 3 1 mlen l yX2_ranked cX2_ranked 5 .int (rmD 1) D h ad dA [.int b] f g (fun r f1 g1 => ((inb b = true → Rk val (ixb b) r) ∧ (inb b = false → r = 0)) ∧ PM f1 g1 val snap (if inb b = true then 1 else u)) := by
  refine ow_ofI (by decide) (Nat.le_of_ble_eq_true rfl) ?_
  intro p e s m args below meth c A Q ls E w hl ret
  have E : ow_E 3 p m meth c cX2_ranked 5 (some .int) s args RX2 D A dA := E
  have hx := E.1.1
  have hb := E.1.2.1
  have hl : lv_has ls 5 [(0, .ref h), (1, .int b)] := hl
  refine lv_aload_n hx hb dX2_ranked_0 rfl (lv_at hl 0 rfl) ?_
  refine lv_iload_n hx hb dX2_ranked_1 rfl (lv_at hl 1 rfl) ?_
  refine k2_bad E w hl.1 (Nat.le_of_ble_eq_true rfl) dX2_ranked_2 (by decide) ⟨Nat.zero_le _, Nat.zero_le _⟩  (fun r1 f9 g9 H locs hp w => ?_)
  obtain ⟨er1, ef9, eg9⟩ := hp
  subst f9 g9
  refine lv_if_eq (tgt := 10) hx hb dX2_ranked_5 (by decide) (fun c5 => ?_) (fun c5 => ?_)
  · obtain ⟨hinkk, kk, hkk, ekk⟩ := inb10_t er1 c5
    subst ekk
    obtain ⟨i0, hi0, hRk⟩ := hR hinkk
    rw [ixb_nI (by omega)] at hRk
    refine lv_aload_n hx hb dX2_ranked_10 rfl (lv_at hl 0 rfl) ?_
    refine lv_iconst (v := 1) hx hb dX2_ranked_11 (by decide) ?_
    refine ow_puti mC E w 0 3 rfl (by decide) rfl rfl rfl q241 dX2_ranked_12 (fun f1 H locs ef1 w => ?_)
    refine lv_iconst (v := nI 0) hx hb dX2_ranked_15 (by decide) ?_
    refine lv_istore_n (lv' := [(2, .int (nI 0)), (0, .ref h), (1, .int (nI kk))]) hx hb dX2_ranked_16 rfl hl (by decide) rfl (fun ls hl => ?_)
    have loop : ∀ (q i : Nat), i ≤ 16 → 16 < i + q → (∀ x, x < i → ¬ Rk val kk (val x)) → ∀ (H : Heap) (locs : List Loc) (ls : Array Slot), ow_W 1 3 1 mlen D A h ad dA f1 g s H locs → lv_has ls 5 [(0, .ref h), (1, .int (nI kk)), (2, .int (nI i))] → W p l e (rmD 1) s m args below meth c H locs 0 0 Q (F0 m 17 ls []) := by
      intro q
      induction q with
      | zero => intro i hk hq; exact absurd hq (by omega)
      | succ q ih =>
        intro i hk hq hno H locs ls w hl
        refine lv_iload_n hx hb dX2_ranked_17 rfl (lv_at hl 2 rfl) ?_
        refine lv_bipush (v := nI 16) hx hb dX2_ranked_18 (by decide) ?_
        refine ow_ge (i) (16) (by omega) (by omega) (tgt := 72) hx hb dX2_ranked_20 (by decide) (fun c20 => ?_) (fun c20 => ?_)
        · exact absurd hRk (hno i0 (by omega))
        · refine lv_aload_n hx hb dX2_ranked_23 rfl (lv_at hl 0 rfl) ?_
          refine lv_aload_n hx hb dX2_ranked_24 rfl (lv_at hl 0 rfl) ?_
          refine ow_geta mC E w 0 (by decide) q238 dX2_ranked_25 ?_
          refine lv_iload_n hx hb dX2_ranked_28 rfl (lv_at hl 2 rfl) ?_
          refine ow_iald mC E w 0 (by decide) (i) rfl (show _ < _ by first | omega | (simp only [xlen, mlen]; omega)) dX2_ranked_29 ?_
          refine ow_top (v := val i) (by rw [hP.1]) ?_
          refine k2_less E w hl.1 (Nat.le_of_ble_eq_true rfl) dX2_ranked_30 (by decide) ⟨Nat.zero_le _, Nat.zero_le _⟩ hP.1 (fun r1 f9 g9 H locs hp w => ?_)
          obtain ⟨er1, ef9, eg9⟩ := hp
          subst f9 g9
          have q1 : cl val (val i) 16 ≤ 16 := cl_le
          have q2 : cn val (val i) 16 ≤ 16 := cn_le
          refine ow_top (v := nI (cl val (val i) 16)) er1 ?_
          refine lv_istore_n (lv' := [(3, .int (nI (cl val (val i) 16))), (0, .ref h), (1, .int (nI kk)), (2, .int (nI i))]) hx hb dX2_ranked_33 rfl hl (by decide) rfl (fun ls hl => ?_)
          refine lv_aload_n hx hb dX2_ranked_34 rfl (lv_at hl 1 rfl) ?_
          refine lv_aload_n hx hb dX2_ranked_35 rfl (lv_at hl 1 rfl) ?_
          refine ow_geta mC E w 0 (by decide) q238 dX2_ranked_36 ?_
          refine lv_iload_n hx hb dX2_ranked_39 rfl (lv_at hl 3 rfl) ?_
          refine ow_iald mC E w 0 (by decide) (i) rfl (show _ < _ by first | omega | (simp only [xlen, mlen]; omega)) dX2_ranked_40 ?_
          refine ow_top (v := val i) (by rw [hP.1]) ?_
          refine k2_same E w hl.1 (Nat.le_of_ble_eq_true rfl) dX2_ranked_41 (by decide) ⟨Nat.zero_le _, Nat.zero_le _⟩ hP.1 (fun r2 f9 g9 H locs hp w => ?_)
          obtain ⟨er2, ef9, eg9⟩ := hp
          subst f9 g9
          refine ow_top (v := nI (cn val (val i) 16)) er2 ?_
          refine lv_istore (lv' := [(4, .int (nI (cn val (val i) 16))), (3, .int (nI (cl val (val i) 16))), (0, .ref h), (1, .int (nI kk)), (2, .int (nI i))]) hx hb dX2_ranked_44 hl (by decide) rfl (fun ls hl => ?_)
          refine lv_iload_n hx hb dX2_ranked_46 rfl (lv_at hl 1 rfl) ?_
          refine lv_iload_n hx hb dX2_ranked_47 rfl (lv_at hl 3 rfl) ?_
          refine ow_gt (cl val (val i) 16) (kk) (by omega) (by omega) (tgt := 66) hx hb dX2_ranked_48 (by decide) (fun c48 => ?_) (fun c48 => ?_)
          · refine lv_iinc (v := nI (i + 1)) (lv' := [(2, .int (nI (i + 1))), (4, .int (nI (cn val (val i) 16))), (3, .int (nI (cl val (val i) 16))), (0, .ref h), (1, .int (nI kk))]) hx hb dX2_ranked_66 hl (k := 4) rfl (nI_1 _) (by decide) rfl (fun ls hl => ?_)
            refine lv_goto (tgt := 17) hx hb dX2_ranked_69 (by decide) ?_
            refine ih (i + 1) (by omega) (by omega) (fun x hx => ?_) H locs ls w (lv_sub hl [3, 4, 0] rfl)
            by_cases z : x = i
            · rw [z]; intro hr; have := hr.1; omega
            · exact hno x (by omega)
          · refine lv_iload_n hx hb dX2_ranked_51 rfl (lv_at hl 3 rfl) ?_
            refine lv_iload_n hx hb dX2_ranked_52 rfl (lv_at hl 1 rfl) ?_
            refine lv_iload hx hb dX2_ranked_53 (lv_at hl 0 rfl) ?_
            refine lv_iadd hx hb dX2_ranked_55 ?_
            refine ow_top (v := nI (cl val (val i) 16 + (cn val (val i) 16))) (nI_add _ _) ?_
            refine ow_ge (kk) (cl val (val i) 16 + (cn val (val i) 16)) (by omega) (by omega) (tgt := 66) hx hb dX2_ranked_56 (by decide) (fun c56 => ?_) (fun c56 => ?_)
            · refine lv_iinc (v := nI (i + 1)) (lv' := [(2, .int (nI (i + 1))), (4, .int (nI (cn val (val i) 16))), (3, .int (nI (cl val (val i) 16))), (0, .ref h), (1, .int (nI kk))]) hx hb dX2_ranked_66 hl (k := 4) rfl (nI_1 _) (by decide) rfl (fun ls hl => ?_)
              refine lv_goto (tgt := 17) hx hb dX2_ranked_69 (by decide) ?_
              refine ih (i + 1) (by omega) (by omega) (fun x hx => ?_) H locs ls w (lv_sub hl [3, 4, 0] rfl)
              by_cases z : x = i
              · rw [z]; intro hr; have := hr.2; omega
              · exact hno x (by omega)
            · refine lv_aload_n hx hb dX2_ranked_59 rfl (lv_at hl 2 rfl) ?_
              refine ow_geta mC E w 0 (by decide) q238 dX2_ranked_60 ?_
              refine lv_iload_n hx hb dX2_ranked_63 rfl (lv_at hl 4 rfl) ?_
              refine ow_iald mC E w 0 (by decide) (i) rfl (show _ < _ by first | omega | (simp only [xlen, mlen]; omega)) dX2_ranked_64 ?_
              refine ow_top (v := val i) (by rw [hP.1]) ?_
              refine ret dX2_ranked_65 rfl ⟨⟨fun _ => ?_, fun q => ?_⟩, ?_⟩ w
              · rw [ixb_nI (by omega)]
                exact ⟨by omega, by omega⟩
              · rw [hinkk] at q; exact absurd q (by decide)
              · simp only [hinkk, ↓reduceIte]
                exact ⟨hP.1, hP.2.1, by rw [ef1]; rfl⟩
    exact loop 17 0 (by omega) (by omega) (fun x hx => absurd hx (by omega)) _ _ ls w (lv_sub hl [1, 2, 0] rfl)
  · refine lv_iconst (v := 0) hx hb dX2_ranked_8 (by decide) ?_
    have hin := inb10_f er1 c5
    refine ret dX2_ranked_9 rfl ⟨⟨fun q => ?_, fun _ => rfl⟩, ?_⟩ w
    · rw [hin] at q; exact absurd q (by decide)
    · simp only [hin, Bool.false_eq_true, ↓reduceIte]
      exact hP
set_option maxHeartbeats 4000000 in
set_option maxRecDepth 100000 in
theorem c2_save (l : Launch) (D : va_G) (h : Nat) (ad : Nat → Nat) (dA : Nat → ClassId) (f : Nat → Int32) (g : Nat → Nat → Int32) (x : Int32) (val snap : Nat → Int32) (u : Int32) (hP : PM f g val snap u) : ow_MI 1 3 1 mlen l yX2_save cX2_save 3 .int (rmD 1) D h ad dA [.int x] f g (fun r f1 g1 => r = (if shot x = true then 0 else -1) ∧ PM f1 g1 val (if shot x = true then svv snap val (16 * ixb x) 16 else snap) (if shot x = true then 1 else u)) := by
  refine ow_ofI (by decide) (Nat.le_of_ble_eq_true rfl) ?_
  intro p e s m args below meth c A Q ls E w hl ret
  have E : ow_E 3 p m meth c cX2_save 3 (some .int) s args RX2 D A dA := E
  have hx := E.1.1
  have hb := E.1.2.1
  have hl : lv_has ls 3 [(0, .ref h), (1, .int x)] := hl
  refine lv_aload_n hx hb dX2_save_0 rfl (lv_at hl 0 rfl) ?_
  refine lv_iload_n hx hb dX2_save_1 rfl (lv_at hl 1 rfl) ?_
  refine k2_badShot E w hl.1 (Nat.le_of_ble_eq_true rfl) dX2_save_2 (by decide) ⟨Nat.zero_le _, Nat.zero_le _⟩  (fun r1 f9 g9 H locs hp w => ?_)
  obtain ⟨er1, ef9, eg9⟩ := hp
  subst f9 g9
  refine lv_if_eq (tgt := 10) hx hb dX2_save_5 (by decide) (fun c5 => ?_) (fun c5 => ?_)
  · obtain ⟨hsh, sn, hsn, esn⟩ := shot10_t er1 c5
    subst esn
    refine lv_aload_n hx hb dX2_save_10 rfl (lv_at hl 0 rfl) ?_
    refine lv_iconst (v := 1) hx hb dX2_save_11 (by decide) ?_
    refine ow_puti mC E w 0 3 rfl (by decide) rfl rfl rfl q241 dX2_save_12 (fun f1 H locs ef1 w => ?_)
    refine lv_iconst (v := nI 0) hx hb dX2_save_15 (by decide) ?_
    refine lv_istore_n (lv' := [(2, .int (nI 0)), (0, .ref h), (1, .int (nI sn))]) hx hb dX2_save_16 rfl hl (by decide) rfl (fun ls hl => ?_)
    have loop : ∀ (q k : Nat), k ≤ 16 → 16 < k + q → ∀ (g3 : Nat → Nat → Int32), g3 0 = val → g3 2 = svv snap val (16 * sn) k → ∀ (H : Heap) (locs : List Loc) (ls : Array Slot), ow_W 1 3 1 mlen D A h ad dA f1 g3 s H locs → lv_has ls 3 [(0, .ref h), (1, .int (nI sn)), (2, .int (nI k))] → W p l e (rmD 1) s m args below meth c H locs 0 0 Q (F0 m 17 ls []) := by
      intro q
      induction q with
      | zero => intro k hk hq; exact absurd hq (by omega)
      | succ q ih =>
        intro k hk hq g3 h0 h2 H locs ls w hl
        refine lv_iload_n hx hb dX2_save_17 rfl (lv_at hl 2 rfl) ?_
        refine lv_bipush (v := nI 16) hx hb dX2_save_18 (by decide) ?_
        refine ow_ge (k) (16) (by omega) (by omega) (tgt := 46) hx hb dX2_save_20 (by decide) (fun c20 => ?_) (fun c20 => ?_)
        · have ek : k = 16 := by omega
          subst ek
          refine lv_iconst (v := 0) hx hb dX2_save_46 (by decide) ?_
          refine ret dX2_save_47 rfl ⟨?_, ?_⟩ w
          · simp only [hsh, ↓reduceIte, ixb_nI (show sn < 2 ^ 31 by omega)]
          · simp only [hsh, ↓reduceIte, ixb_nI (show sn < 2 ^ 31 by omega)]
            exact ⟨h0, h2, by rw [ef1]; rfl⟩
        · refine lv_aload_n hx hb dX2_save_23 rfl (lv_at hl 0 rfl) ?_
          refine ow_geta mC E w 2 (by decide) q240 dX2_save_24 ?_
          refine lv_bipush (v := nI 16) hx hb dX2_save_27 (by decide) ?_
          refine lv_iload_n hx hb dX2_save_29 rfl (lv_at hl 1 rfl) ?_
          refine lv_imul hx hb dX2_save_30 ?_
          refine ow_top (v := nI (16 * sn)) (pk_mul _ _) ?_
          refine lv_iload_n hx hb dX2_save_31 rfl (lv_at hl 2 rfl) ?_
          refine lv_iadd hx hb dX2_save_32 ?_
          refine ow_top (v := nI (16 * sn + k)) (nI_add _ _) ?_
          refine lv_aload_n hx hb dX2_save_33 rfl (lv_at hl 0 rfl) ?_
          refine ow_geta mC E w 0 (by decide) q238 dX2_save_34 ?_
          refine lv_iload_n hx hb dX2_save_37 rfl (lv_at hl 2 rfl) ?_
          refine ow_iald mC E w 0 (by decide) (k) rfl (show _ < _ by first | omega | (simp only [xlen, mlen]; omega)) dX2_save_38 ?_
          refine ow_top (v := val k) (by rw [h0]) ?_
          refine ow_iast mC E w 2 (by decide) (16 * sn + k) rfl (show _ < _ by first | omega | (simp only [xlen, mlen]; omega)) dX2_save_39 (fun g4 H locs eg4 w => ?_)
          refine lv_iinc (v := nI (k + 1)) (lv' := [(2, .int (nI (k + 1))), (0, .ref h), (1, .int (nI sn))]) hx hb dX2_save_40 hl (k := 2) rfl (nI_1 _) (by decide) rfl (fun ls hl => ?_)
          refine lv_goto (tgt := 17) hx hb dX2_save_43 (by decide) ?_
          refine ih (k + 1) (by omega) (by omega) g4 ?_ ?_ H locs ls w (lv_sub hl [1, 2, 0] rfl)
          · rw [eg4]; exact h0
          · rw [eg4]
            show upd (g3 2) (16 * sn + k) (val k) = _
            rw [h2, svv_s]
    exact loop 17 0 (by omega) (by omega) g hP.1 (by rw [svv_0]; exact hP.2.1) _ _ ls w (lv_sub hl [1, 2, 0] rfl)
  · refine lv_iconst (v := (-1)) hx hb dX2_save_8 (by decide) ?_
    have hsh := shot10_f er1 c5
    refine ret dX2_save_9 rfl ⟨?_, ?_⟩ w
    · simp only [hsh, Bool.false_eq_true, ↓reduceIte]
    · simp only [hsh, Bool.false_eq_true, ↓reduceIte]
      exact hP
set_option maxHeartbeats 4000000 in
set_option maxRecDepth 100000 in
theorem c2_differing (l : Launch) (D : va_G) (h : Nat) (ad : Nat → Nat) (dA : Nat → ClassId) (f : Nat → Int32) (g : Nat → Nat → Int32) (x : Int32) (val snap : Nat → Int32) (u : Int32) (hP : PM f g val snap u) : ow_MI 1 3 1 mlen l yX2_differing cX2_differing 4 .int (rmD 1) D h ad dA [.int x] f g (fun r f1 g1 => r = (if shot x = true then nI (df val snap (16 * ixb x) 16) else -1) ∧ PM f1 g1 val snap (if shot x = true then 1 else u)) := by
  refine ow_ofI (by decide) (Nat.le_of_ble_eq_true rfl) ?_
  intro p e s m args below meth c A Q ls E w hl ret
  have E : ow_E 3 p m meth c cX2_differing 4 (some .int) s args RX2 D A dA := E
  have hx := E.1.1
  have hb := E.1.2.1
  have hl : lv_has ls 4 [(0, .ref h), (1, .int x)] := hl
  refine lv_aload_n hx hb dX2_differing_0 rfl (lv_at hl 0 rfl) ?_
  refine lv_iload_n hx hb dX2_differing_1 rfl (lv_at hl 1 rfl) ?_
  refine k2_badShot E w hl.1 (Nat.le_of_ble_eq_true rfl) dX2_differing_2 (by decide) ⟨Nat.zero_le _, Nat.zero_le _⟩  (fun r1 f9 g9 H locs hp w => ?_)
  obtain ⟨er1, ef9, eg9⟩ := hp
  subst f9 g9
  refine lv_if_eq (tgt := 10) hx hb dX2_differing_5 (by decide) (fun c5 => ?_) (fun c5 => ?_)
  · obtain ⟨hsh, sn, hsn, esn⟩ := shot10_t er1 c5
    subst esn
    refine lv_aload_n hx hb dX2_differing_10 rfl (lv_at hl 0 rfl) ?_
    refine lv_iconst (v := 1) hx hb dX2_differing_11 (by decide) ?_
    refine ow_puti mC E w 0 3 rfl (by decide) rfl rfl rfl q241 dX2_differing_12 (fun f1 H locs ef1 w => ?_)
    refine lv_iconst (v := nI 0) hx hb dX2_differing_15 (by decide) ?_
    refine lv_istore_n (lv' := [(2, .int (nI 0)), (0, .ref h), (1, .int (nI sn))]) hx hb dX2_differing_16 rfl hl (by decide) rfl (fun ls hl => ?_)
    refine lv_iconst (v := nI 0) hx hb dX2_differing_17 (by decide) ?_
    refine lv_istore_n (lv' := [(3, .int (nI 0)), (2, .int (nI 0)), (0, .ref h), (1, .int (nI sn))]) hx hb dX2_differing_18 rfl hl (by decide) rfl (fun ls hl => ?_)
    have loop : ∀ (q k : Nat), k ≤ 16 → 16 < k + q → ∀ (H : Heap) (locs : List Loc) (ls : Array Slot), ow_W 1 3 1 mlen D A h ad dA f1 g s H locs → lv_has ls 4 [(0, .ref h), (1, .int (nI sn)), (2, .int (nI (df val snap (16 * sn) k))), (3, .int (nI k))] → W p l e (rmD 1) s m args below meth c H locs 0 0 Q (F0 m 19 ls []) := by
      intro q
      induction q with
      | zero => intro k hk hq; exact absurd hq (by omega)
      | succ q ih =>
        intro k hk hq  H locs ls w hl
        refine lv_iload_n hx hb dX2_differing_19 rfl (lv_at hl 3 rfl) ?_
        refine lv_bipush (v := nI 16) hx hb dX2_differing_20 (by decide) ?_
        refine ow_ge (k) (16) (by omega) (by omega) (tgt := 54) hx hb dX2_differing_22 (by decide) (fun c22 => ?_) (fun c22 => ?_)
        · have ek : k = 16 := by omega
          subst ek
          refine lv_iload_n hx hb dX2_differing_54 rfl (lv_at hl 2 rfl) ?_
          refine ret dX2_differing_55 rfl ⟨?_, ?_⟩ w
          · simp only [hsh, ↓reduceIte, ixb_nI (show sn < 2 ^ 31 by omega)]
          · simp only [hsh, ↓reduceIte, ixb_nI (show sn < 2 ^ 31 by omega)]
            exact ⟨hP.1, hP.2.1, by rw [ef1]; rfl⟩
        · refine lv_aload_n hx hb dX2_differing_25 rfl (lv_at hl 0 rfl) ?_
          refine ow_geta mC E w 0 (by decide) q238 dX2_differing_26 ?_
          refine lv_iload_n hx hb dX2_differing_29 rfl (lv_at hl 3 rfl) ?_
          refine ow_iald mC E w 0 (by decide) (k) rfl (show _ < _ by first | omega | (simp only [xlen, mlen]; omega)) dX2_differing_30 ?_
          refine ow_top (v := val k) (by rw [hP.1]) ?_
          refine lv_aload_n hx hb dX2_differing_31 rfl (lv_at hl 0 rfl) ?_
          refine ow_geta mC E w 2 (by decide) q240 dX2_differing_32 ?_
          refine lv_bipush (v := nI 16) hx hb dX2_differing_35 (by decide) ?_
          refine lv_iload_n hx hb dX2_differing_37 rfl (lv_at hl 1 rfl) ?_
          refine lv_imul hx hb dX2_differing_38 ?_
          refine ow_top (v := nI (16 * sn)) (pk_mul _ _) ?_
          refine lv_iload_n hx hb dX2_differing_39 rfl (lv_at hl 3 rfl) ?_
          refine lv_iadd hx hb dX2_differing_40 ?_
          refine ow_top (v := nI (16 * sn + k)) (nI_add _ _) ?_
          refine ow_iald mC E w 2 (by decide) (16 * sn + k) rfl (show _ < _ by first | omega | (simp only [xlen, mlen]; omega)) dX2_differing_41 ?_
          refine ow_top (v := snap (16 * sn + k)) (by rw [hP.2.1]) ?_
          refine lv_icmp_eq (tgt := 48) hx hb dX2_differing_42 (by decide) (fun c42 => ?_) (fun c42 => ?_)
          · refine lv_iinc (v := nI (k + 1)) (lv' := [(3, .int (nI (k + 1))), (0, .ref h), (1, .int (nI sn)), (2, .int (nI (df val snap (16 * sn) k)))]) hx hb dX2_differing_48 hl (k := 3) rfl (nI_1 _) (by decide) rfl (fun ls hl => ?_)
            refine lv_goto (tgt := 19) hx hb dX2_differing_51 (by decide) ?_
            have e : df val snap (16 * sn) (k + 1) = df val snap (16 * sn) k := by
              show df val snap (16 * sn) k + _ = _
              rw [if_pos c42, Nat.add_zero]
            refine ih (k + 1) (by omega) (by omega) H locs ls w ?_
            rw [e]
            exact (lv_sub hl [1, 2, 3, 0] rfl)
          · refine lv_iinc (v := nI (df val snap (16 * sn) k + 1)) (lv' := [(2, .int (nI (df val snap (16 * sn) k + 1))), (0, .ref h), (1, .int (nI sn)), (3, .int (nI k))]) hx hb dX2_differing_45 hl (k := 2) rfl (nI_1 _) (by decide) rfl (fun ls hl => ?_)
            refine lv_iinc (v := nI (k + 1)) (lv' := [(3, .int (nI (k + 1))), (2, .int (nI (df val snap (16 * sn) k + 1))), (0, .ref h), (1, .int (nI sn))]) hx hb dX2_differing_48 hl (k := 3) rfl (nI_1 _) (by decide) rfl (fun ls hl => ?_)
            refine lv_goto (tgt := 19) hx hb dX2_differing_51 (by decide) ?_
            have e : df val snap (16 * sn) (k + 1) = df val snap (16 * sn) k + 1 := by
              show df val snap (16 * sn) k + _ = _
              rw [if_neg c42]
            refine ih (k + 1) (by omega) (by omega) H locs ls w ?_
            rw [e]
            exact (lv_sub hl [2, 3, 1, 0] rfl)
    exact loop 17 0 (by omega) (by omega) _ _ ls w (lv_sub hl [2, 3, 1, 0] rfl)
  · refine lv_iconst (v := (-1)) hx hb dX2_differing_8 (by decide) ?_
    have hsh := shot10_f er1 c5
    refine ret dX2_differing_9 rfl ⟨?_, ?_⟩ w
    · simp only [hsh, Bool.false_eq_true, ↓reduceIte]
    · simp only [hsh, Bool.false_eq_true, ↓reduceIte]
      exact hP
section KM1
variable {p : Program} {l : Launch} {e : Env} {R : Room} {s : State} {m : MethodId} {args : Array Value} {below : List Frame} {meth : Method} {c : Code} {H : Heap} {locs : List Loc} {cells slots : Nat} {Q : State → Prop}
variable {pc : Nat} {ls : Array Slot} {rest : List Value} {cc : ByteArray} {nL : Nat} {rt : Option FieldType} {D : va_G} {A : Nat → Prop} {h : Nat} {ad : Nat → Nat} {dA : Nat → ClassId} {f : Nat → Int32} {g : Nat → Nat → Int32}
theorem k2_differing {x : Int32} {val snap : Nat → Int32} {u : Int32} (E : ow_E 3 p m meth c cc nL rt s args RX2 D A dA) (w : ow_W 1 3 1 mlen D A h ad dA f g s H locs) (hls : ls.size = nL) (hW : (rest.map fun v => v.category).sum ≤ 8) (hdg : decode cc pc = .ok (.invokevirtual 37, 3)) (hR : (rmD 1).frames + 1 ≤ R.frames ∧ 8 + (4 + 11) + (rmD 1).locals ≤ R.locals) (hcs : cells ≤ R.cells ∧ slots ≤ R.slots) (hP : PM f g val snap u) (kk : ∀ (r : Int32) (f1 : Nat → Int32) (g1 : Nat → Nat → Int32) (H1 : Heap) (locs1 : List Loc), (fun r f1 g1 => r = (if shot x = true then nI (df val snap (16 * ixb x) 16) else -1) ∧ PM f1 g1 val snap (if shot x = true then 1 else u)) r f1 g1 → ow_W 1 3 1 mlen D A h ad dA f1 g1 s H1 locs1 → W p l e R s m args below meth c H1 locs1 cells slots Q (F0 m (pc + 3) ls (.int r :: rest))) : W p l e R s m args below meth c H locs cells slots Q (F0 m pc ls (.int x :: .ref h :: rest)) :=
  ow_calli mC E w (c2_differing l D h ad dA f g x val snap u hP) (cwV 1 E.1.2.2.2.2 (lw_V q323 q324 q325 q19 q326) rfl rfl rfl (by decide +kernel) hR) rfl hls rfl hW hdg hcs kk
end KM1
set_option maxHeartbeats 4000000 in
set_option maxRecDepth 100000 in
theorem c2_load (l : Launch) (D : va_G) (h : Nat) (ad : Nat → Nat) (dA : Nat → ClassId) (f : Nat → Int32) (g : Nat → Nat → Int32) (x : Int32) (val snap : Nat → Int32) (u : Int32) (hP : PM f g val snap u) : ow_MI 1 3 1 mlen l yX2_load cX2_load 4 .int (rmD 2) D h ad dA [.int x] f g (fun r f1 g1 => r = (if shot x = true then nI (df val snap (16 * ixb x) 16) else -1) ∧ PM f1 g1 (if shot x = true then ldd val snap (16 * ixb x) 16 else val) snap (if shot x = true then 1 else u)) := by
  refine ow_ofI (by decide) (Nat.le_of_ble_eq_true rfl) ?_
  intro p e s m args below meth c A Q ls E w hl ret
  have E : ow_E 3 p m meth c cX2_load 4 (some .int) s args RX2 D A dA := E
  have hx := E.1.1
  have hb := E.1.2.1
  have hl : lv_has ls 4 [(0, .ref h), (1, .int x)] := hl
  refine lv_aload_n hx hb dX2_load_0 rfl (lv_at hl 0 rfl) ?_
  refine lv_iload_n hx hb dX2_load_1 rfl (lv_at hl 1 rfl) ?_
  refine k2_badShot E w hl.1 (Nat.le_of_ble_eq_true rfl) dX2_load_2 (by decide) ⟨Nat.zero_le _, Nat.zero_le _⟩  (fun r1 f9 g9 H locs hp w => ?_)
  obtain ⟨er1, ef9, eg9⟩ := hp
  subst f9 g9
  refine lv_if_eq (tgt := 10) hx hb dX2_load_5 (by decide) (fun c5 => ?_) (fun c5 => ?_)
  · obtain ⟨hsh, sn, hsn, esn⟩ := shot10_t er1 c5
    subst esn
    refine lv_aload_n hx hb dX2_load_10 rfl (lv_at hl 0 rfl) ?_
    refine lv_iload_n hx hb dX2_load_11 rfl (lv_at hl 1 rfl) ?_
    refine k2_differing E w hl.1 (Nat.le_of_ble_eq_true rfl) dX2_load_12 (by decide) ⟨Nat.zero_le _, Nat.zero_le _⟩ hP (fun r2 f2 g2 H locs hp w => ?_)
    obtain ⟨er2, hP2⟩ := hp
    simp only [hsh, ↓reduceIte, ixb_nI (show sn < 2 ^ 31 by omega)] at er2 hP2
    refine ow_top (v := nI (df val snap (16 * sn) 16)) er2 ?_
    refine lv_istore_n (lv' := [(2, .int (nI (df val snap (16 * sn) 16))), (0, .ref h), (1, .int (nI sn))]) hx hb dX2_load_15 rfl hl (by decide) rfl (fun ls hl => ?_)
    refine lv_iconst (v := nI 0) hx hb dX2_load_16 (by decide) ?_
    refine lv_istore_n (lv' := [(3, .int (nI 0)), (2, .int (nI (df val snap (16 * sn) 16))), (0, .ref h), (1, .int (nI sn))]) hx hb dX2_load_17 rfl hl (by decide) rfl (fun ls hl => ?_)
    have loop : ∀ (q k : Nat), k ≤ 16 → 16 < k + q → ∀ (g3 : Nat → Nat → Int32), g3 0 = ldd val snap (16 * sn) k → g3 2 = snap → ∀ (H : Heap) (locs : List Loc) (ls : Array Slot), ow_W 1 3 1 mlen D A h ad dA f2 g3 s H locs → lv_has ls 4 [(0, .ref h), (1, .int (nI sn)), (2, .int (nI (df val snap (16 * sn) 16))), (3, .int (nI k))] → W p l e (rmD 2) s m args below meth c H locs 0 0 Q (F0 m 18 ls []) := by
      intro q
      induction q with
      | zero => intro k hk hq; exact absurd hq (by omega)
      | succ q ih =>
        intro k hk hq g3 h0 h2 H locs ls w hl
        refine lv_iload_n hx hb dX2_load_18 rfl (lv_at hl 3 rfl) ?_
        refine lv_bipush (v := nI 16) hx hb dX2_load_19 (by decide) ?_
        refine ow_ge (k) (16) (by omega) (by omega) (tgt := 47) hx hb dX2_load_21 (by decide) (fun c21 => ?_) (fun c21 => ?_)
        · have ek : k = 16 := by omega
          subst ek
          refine lv_iload_n hx hb dX2_load_47 rfl (lv_at hl 2 rfl) ?_
          refine ret dX2_load_48 rfl ⟨?_, ?_⟩ w
          · simp only [hsh, ↓reduceIte, ixb_nI (show sn < 2 ^ 31 by omega)]
          · simp only [hsh, ↓reduceIte, ixb_nI (show sn < 2 ^ 31 by omega)]
            exact ⟨h0, h2, hP2.2.2⟩
        · refine lv_aload_n hx hb dX2_load_24 rfl (lv_at hl 0 rfl) ?_
          refine ow_geta mC E w 0 (by decide) q238 dX2_load_25 ?_
          refine lv_iload_n hx hb dX2_load_28 rfl (lv_at hl 3 rfl) ?_
          refine lv_aload_n hx hb dX2_load_29 rfl (lv_at hl 0 rfl) ?_
          refine ow_geta mC E w 2 (by decide) q240 dX2_load_30 ?_
          refine lv_bipush (v := nI 16) hx hb dX2_load_33 (by decide) ?_
          refine lv_iload_n hx hb dX2_load_35 rfl (lv_at hl 1 rfl) ?_
          refine lv_imul hx hb dX2_load_36 ?_
          refine ow_top (v := nI (16 * sn)) (pk_mul _ _) ?_
          refine lv_iload_n hx hb dX2_load_37 rfl (lv_at hl 3 rfl) ?_
          refine lv_iadd hx hb dX2_load_38 ?_
          refine ow_top (v := nI (16 * sn + k)) (nI_add _ _) ?_
          refine ow_iald mC E w 2 (by decide) (16 * sn + k) rfl (show _ < _ by first | omega | (simp only [xlen, mlen]; omega)) dX2_load_39 ?_
          refine ow_top (v := snap (16 * sn + k)) (by rw [h2]) ?_
          refine ow_iast mC E w 0 (by decide) (k) rfl (show _ < _ by first | omega | (simp only [xlen, mlen]; omega)) dX2_load_40 (fun g4 H locs eg4 w => ?_)
          refine lv_iinc (v := nI (k + 1)) (lv' := [(3, .int (nI (k + 1))), (0, .ref h), (1, .int (nI sn)), (2, .int (nI (df val snap (16 * sn) 16)))]) hx hb dX2_load_41 hl (k := 3) rfl (nI_1 _) (by decide) rfl (fun ls hl => ?_)
          refine lv_goto (tgt := 18) hx hb dX2_load_44 (by decide) ?_
          refine ih (k + 1) (by omega) (by omega) g4 ?_ ?_ H locs ls w (lv_sub hl [1, 2, 3, 0] rfl)
          · rw [eg4]
            show upd (g3 0) k (snap (16 * sn + k)) = _
            rw [h0, ldd_s]
          · rw [eg4]; exact h2
    exact loop 17 0 (by omega) (by omega) g2 (by rw [ldd_0]; exact hP2.1) hP2.2.1 _ _ ls w (lv_sub hl [2, 3, 1, 0] rfl)
  · refine lv_iconst (v := (-1)) hx hb dX2_load_8 (by decide) ?_
    have hsh := shot10_f er1 c5
    refine ret dX2_load_9 rfl ⟨?_, ?_⟩ w
    · simp only [hsh, Bool.false_eq_true, ↓reduceIte]
    · simp only [hsh, Bool.false_eq_true, ↓reduceIte]
      exact hP
set_option maxHeartbeats 4000000 in
set_option maxRecDepth 100000 in
theorem c2_audit (l : Launch) (D : va_G) (h : Nat) (ad : Nat → Nat) (dA : Nat → ClassId) (f : Nat → Int32) (g : Nat → Nat → Int32) (val snap : Nat → Int32) (u : Int32) (hP : PM f g val snap u) : ow_MI 1 3 1 mlen l yX2_audit cX2_audit 1 .int (rmD 0) D h ad dA [] f g (fun r f1 g1 => r = 0 ∧ PM f1 g1 val snap (if False then 1 else u)) := by
  refine ow_ofI (by decide) (Nat.le_of_ble_eq_true rfl) ?_
  intro p e s m args below meth c A Q ls E w hl ret
  have E : ow_E 3 p m meth c cX2_audit 1 (some .int) s args RX2 D A dA := E
  have hx := E.1.1
  have hb := E.1.2.1
  have hl : lv_has ls 1 [(0, .ref h)] := hl
  refine lv_iconst (v := 0) hx hb dX2_audit_0 (by decide) ?_
  refine ret dX2_audit_1 rfl ⟨?_, ?_⟩ w
  · exact rfl
  · simp only [↓reduceIte]
    exact hP
set_option maxHeartbeats 4000000 in
set_option maxRecDepth 100000 in
theorem c2_touched (l : Launch) (D : va_G) (h : Nat) (ad : Nat → Nat) (dA : Nat → ClassId) (f : Nat → Int32) (g : Nat → Nat → Int32) (val snap : Nat → Int32) (u : Int32) (hP : PM f g val snap u) : ow_MI 1 3 1 mlen l yX2_touched cX2_touched 1 .int (rmD 0) D h ad dA [] f g (fun r f1 g1 => r = (if u = 0 then 0 else nI 4) ∧ f1 = f ∧ g1 = g) := by
  refine ow_ofI (by decide) (Nat.le_of_ble_eq_true rfl) ?_
  intro p e s m args below meth c A Q ls E w hl ret
  have E : ow_E 3 p m meth c cX2_touched 1 (some .int) s args RX2 D A dA := E
  have hx := E.1.1
  have hb := E.1.2.1
  have hl : lv_has ls 1 [(0, .ref h)] := hl
  refine lv_aload_n hx hb dX2_touched_0 rfl (lv_at hl 0 rfl) ?_
  refine ow_geti mC E w 0 3 rfl (by decide) q241 dX2_touched_1 ?_
  refine ow_top (v := u) (hP.2.2) ?_
  refine lv_if_eq (tgt := 11) hx hb dX2_touched_4 (by decide) (fun c4 => ?_) (fun c4 => ?_)
  · refine lv_iconst (v := 0) hx hb dX2_touched_11 (by decide) ?_
    exact ret dX2_touched_12 rfl (⟨(if_pos c4).symm, rfl, rfl⟩) w
  · refine lv_iconst (v := nI 4) hx hb dX2_touched_7 (by decide) ?_
    refine lv_goto (tgt := 12) hx hb dX2_touched_8 (by decide) ?_
    exact ret dX2_touched_12 rfl (⟨(if_neg c4).symm, rfl, rfl⟩) w
set_option maxHeartbeats 4000000 in
set_option maxRecDepth 100000 in
theorem c2_stir (l : Launch) (D : va_G) (h : Nat) (ad : Nat → Nat) (dA : Nat → ClassId) (f : Nat → Int32) (g : Nat → Nat → Int32) (x : Int32) : ow_MV 1 3 1 mlen l yX2_stir cX2_stir 2 (rmD 0) D h ad dA [.int x] f g (fun f1 g1 => f1 = f ∧ g1 = g) := by
  refine ow_ofV (by decide) (Nat.le_of_ble_eq_true rfl) ?_
  intro p e s m args below meth c A Q ls E w hl ret
  have E : ow_E 3 p m meth c cX2_stir 2 (none) s args RX2 D A dA := E
  have hx := E.1.1
  have hb := E.1.2.1
  have hl : lv_has ls 2 [(0, .ref h), (1, .int x)] := hl
  exact ret dX2_stir_0 (⟨rfl, rfl⟩) w
end
section
set_option maxHeartbeats 4000000 in
set_option maxRecDepth 100000 in
theorem c1_initB {p : Program} {l : Launch} {e : Env} {s : State} {m : MethodId} {args : Array Value} {below : List Frame} {meth : Method} {c : Code} {H : Heap} {locs : List Loc} {Q : State → Prop} {D : va_G} {A : Nat → Prop} {h : Nat} {ad : Nat → Nat} {dA : Nat → ClassId} {ls : Array Slot} {x : Int32} (E : ow_E 16 p m meth c cX1_init 4 none s args RX1 D A dA) (w : ow_W 0 16 5 xlen D A h ad dA (fun _ => 0) (fun _ _ => 0) s H locs) (hl : lv_has ls 4 [(0, .ref h), (1, .int x)])
    (ret : ∀ {pc : Nat} {f1 : Nat → Int32} {g1 : Nat → Nat → Int32} {H : Heap} {locs : List Loc} {ls : Array Slot}, decode cX1_init pc = .ok (.return_, 1) → PX f1 g1 (fun _ => 0) (fun _ => 0) 0 → ow_W 0 16 5 xlen D A h ad dA f1 g1 s H locs → W p l e rmI s m args below meth c H locs 16 368 Q (F0 m pc ls [])) : W p l e rmI s m args below meth c H locs 16 368 Q (F0 m 128 ls []) := by
  have hx := E.1.1
  have hb := E.1.2.1
  refine lv_aload_n hx hb dX1_init_128 rfl (lv_at hl 0 rfl) ?_
  refine lv_iload_n hx hb dX1_init_129 rfl (lv_at hl 1 rfl) ?_
  refine k1_stir E w hl.1 (Nat.le_of_ble_eq_true rfl) dX1_init_130 (by decide) ⟨by decide, by decide⟩  (fun f0 g0 H locs hp w => ?_)
  obtain ⟨⟨x0, ef0⟩, eg0⟩ := hp
  refine lv_aload_n hx hb dX1_init_133 rfl (lv_at hl 0 rfl) ?_
  refine lv_aload_n hx hb dX1_init_134 rfl (lv_at hl 0 rfl) ?_
  refine k1_next E w hl.1 (Nat.le_of_ble_eq_true rfl) dX1_init_135 (by decide) ⟨by decide, by decide⟩  (fun r1 f1 g1 H locs hp w => ?_)
  obtain ⟨⟨x1, ef1⟩, eg1⟩ := hp
  rw [eg0] at eg1
  refine ow_puti xC E w 3 19 rfl (by decide) rfl rfl rfl q99 dX1_init_138 (fun f2 H locs ef2 w => ?_)
  refine lv_iconst (v := nI 0) hx hb dX1_init_141 (by decide) ?_
  refine lv_istore_n (lv' := [(2, .int (nI 0)), (0, .ref h), (1, .int x)]) hx hb dX1_init_142 rfl hl (by decide) rfl (fun ls hl => ?_)
  clear ef0 eg0 ef1 ef2
  have lpF : ∀ (q k : Nat), k ≤ 4 → 4 < k + q → ∀ (f : Nat → Int32) (g : Nat → Nat → Int32) (n n2 : Nat) (lf wl : Nat → Nat) (wv : Nat → Int32), tX f g n (fun _ => 0) lf → tM f g n2 wv wl → (∀ w, w < 4 → g 13 w = nI (wl w)) → lfW wv lf → g 14 = (fun _ => 0) → ∀ (H : Heap) (locs : List Loc) (ls : Array Slot), ow_W 0 16 5 xlen D A h ad dA f g s H locs → lv_has ls 4 [(0, .ref h), (1, .int x), (2, .int (nI k))] → W p l e (rmI) s m args below meth c H locs 16 368 Q (F0 m 336 ls []) := by
    intro q
    induction q with
    | zero => intro k hk hq; exact absurd hq (by omega)
    | succ q ih =>
      intro k hk hq f g n n2 lf wl wv hX hM h13 hlf h14 H locs ls w hl
      refine lv_iload_n hx hb dX1_init_336 rfl (lv_at hl 2 rfl) ?_
      refine lv_iconst (v := nI 4) hx hb dX1_init_337 (by decide) ?_
      refine ow_ge (k) (4) (by omega) (by omega) (tgt := 357) hx hb dX1_init_338 (by decide) (fun c338 => ?_) (fun c338 => ?_)
      · refine lv_aload_n hx hb dX1_init_357 rfl (lv_at hl 0 rfl) ?_
        refine lv_iconst (v := 0) hx hb dX1_init_358 (by decide) ?_
        refine ow_puti xC E w 4 20 rfl (by decide) rfl rfl rfl q100 dX1_init_359 (fun f3 H locs ef3 w => ?_)
        exact ret dX1_init_362 (⟨⟨n, lf, hX.cg (by rw [ef3]; rfl) (by rw [ef3]; rfl) (fun _ _ => rfl), ⟨n2, wv, wl, hM.cg (by rw [ef3]; rfl) (fun _ _ _ => rfl), h13, hlf⟩⟩, h14, by rw [ef3]; rfl⟩) w
      · refine lv_aload_n hx hb dX1_init_341 rfl (lv_at hl 0 rfl) ?_
        refine lv_iload_n hx hb dX1_init_342 rfl (lv_at hl 2 rfl) ?_
        refine k1_readMapPath E w hl.1 (Nat.le_of_ble_eq_true rfl) dX1_init_343 (by decide) ⟨by decide, by decide⟩ hM c338 (fun f3 g3 H locs hp w => ?_)
        obtain ⟨n3, hM3, -, hF3, hf3⟩ := hp
        refine lv_aload_n hx hb dX1_init_346 rfl (lv_at hl 0 rfl) ?_
        refine lv_iload_n hx hb dX1_init_347 rfl (lv_at hl 2 rfl) ?_
        refine k1_writeMapPath E w hl.1 (Nat.le_of_ble_eq_true rfl) dX1_init_348 (by decide) ⟨by decide, by decide⟩ hM3 c338 (fun f4 g4 H locs hp w => ?_)
        obtain ⟨n4, hM4, hF4, hf4⟩ := hp
        refine lv_iinc (v := nI (k + 1)) (lv' := [(2, .int (nI (k + 1))), (0, .ref h), (1, .int x)]) hx hb dX1_init_351 hl (k := 2) rfl (nI_1 _) (by decide) rfl (fun ls hl => ?_)
        refine lv_goto (tgt := 336) hx hb dX1_init_354 (by decide) ?_
        have hk1 : ∀ i, i < 7 ∨ 13 ≤ i → g4 i = g i := fun i hi => by rw [hF4 i hi, hF3 i (by omega) (by omega) (by omega) (by omega)]
        exact ih (k + 1) (by omega) (by omega) f4 g4 n n4 lf wl wv (hX.cg (by rw [hf4.1, hf3.1]) (by rw [hf4.2.2.1, hf3.2.2.1]) (fun i hi => hk1 i (by omega))) hM4 (by rw [hk1 13 (by omega)]; exact h13) hlf (by rw [hk1 14 (by omega)]; exact h14) H locs ls w (lv_sub hl [1, 2, 0] rfl)
  have lpE : ∀ (q k : Nat), k ≤ 8 → 8 < k + q → ∀ (f : Nat → Int32) (g : Nat → Nat → Int32) (n n2 : Nat) (lf wl : Nat → Nat) (wv : Nat → Int32), tX f g n (fun _ => 0) lf → tM f g n2 wv wl → (∀ w, w < 4 → g 13 w = nI (wl w)) → lfW wv lf → g 14 = (fun _ => 0) → ∀ (H : Heap) (locs : List Loc) (ls : Array Slot), ow_W 0 16 5 xlen D A h ad dA f g s H locs → lv_has ls 4 [(0, .ref h), (1, .int x), (2, .int (nI k))] → W p l e (rmI) s m args below meth c H locs 16 368 Q (F0 m 312 ls []) := by
    intro q
    induction q with
    | zero => intro k hk hq; exact absurd hq (by omega)
    | succ q ih =>
      intro k hk hq f g n n2 lf wl wv hX hM h13 hlf h14 H locs ls w hl
      refine lv_iload_n hx hb dX1_init_312 rfl (lv_at hl 2 rfl) ?_
      refine lv_bipush (v := nI 8) hx hb dX1_init_313 (by decide) ?_
      refine ow_ge (k) (8) (by omega) (by omega) (tgt := 334) hx hb dX1_init_315 (by decide) (fun c315 => ?_) (fun c315 => ?_)
      · refine lv_iconst (v := nI 0) hx hb dX1_init_334 (by decide) ?_
        refine lv_istore_n (lv' := [(2, .int (nI 0)), (0, .ref h), (1, .int x)]) hx hb dX1_init_335 rfl hl (by decide) rfl (fun ls hl => ?_)
        exact lpF 5 0 (by omega) (by omega) f g n n2 lf wl wv hX hM h13 hlf h14 _ _ ls w (lv_sub hl [1, 2, 0] rfl)
      · refine lv_aload_n hx hb dX1_init_318 rfl (lv_at hl 0 rfl) ?_
        refine lv_iload_n hx hb dX1_init_319 rfl (lv_at hl 2 rfl) ?_
        refine k1_readPath E w hl.1 (Nat.le_of_ble_eq_true rfl) dX1_init_320 (by decide) ⟨by decide, by decide⟩ hX c315 (fun f3 g3 H locs hp w => ?_)
        obtain ⟨n3, hX3, hE3, hF3, hf3⟩ := hp
        refine lv_aload_n hx hb dX1_init_323 rfl (lv_at hl 0 rfl) ?_
        refine lv_iload_n hx hb dX1_init_324 rfl (lv_at hl 2 rfl) ?_
        refine k1_writePath E w hl.1 (Nat.le_of_ble_eq_true rfl) dX1_init_325 (by decide) ⟨by decide, by decide⟩ hX3 c315 hE3 (fun f4 g4 H locs hp w => ?_)
        obtain ⟨n4, hX4, hF4, hf4⟩ := hp
        refine lv_iinc (v := nI (k + 1)) (lv' := [(2, .int (nI (k + 1))), (0, .ref h), (1, .int x)]) hx hb dX1_init_328 hl (k := 2) rfl (nI_1 _) (by decide) rfl (fun ls hl => ?_)
        refine lv_goto (tgt := 312) hx hb dX1_init_331 (by decide) ?_
        have hk1 : ∀ i, 7 ≤ i → g4 i = g i := fun i hi => by rw [hF4 i hi, hF3 i (by omega) (by omega) (by omega) (by omega)]
        exact ih (k + 1) (by omega) (by omega) f4 g4 n4 n2 lf wl wv hX4 (hM.cg (by rw [hf4.1, hf3.1]) (fun i hi _ => hk1 i hi)) (by rw [hk1 13 (by omega)]; exact h13) hlf (by rw [hk1 14 (by omega)]; exact h14) H locs ls w (lv_sub hl [1, 2, 0] rfl)
  have lpD : ∀ (q k : Nat), k ≤ 4 → 4 < k + q → ∀ (f : Nat → Int32) (g : Nat → Nat → Int32) (lf wl : Nat → Nat), (∀ s, s < 64 → g 0 s = -1) → (∀ s, s < 16 → g 7 s = -1) → g 5 = (fun _ => 0) → g 14 = (fun _ => 0) → (∀ j, j < 16 → g 4 j = nI j ∧ g 6 j = nI (lf j) ∧ lf j < 8) → lfW (g 15) lf → f 0 = nI 16 → (∀ j, j < k → g 13 j = nI (wl j) ∧ wl j < 4 ∧ g 10 j = nI j ∧ g 11 j = g 15 j ∧ g 12 j = nI (wl j)) → ∀ (H : Heap) (locs : List Loc) (ls : Array Slot), ow_W 0 16 5 xlen D A h ad dA f g s H locs → lv_has ls 4 [(0, .ref h), (1, .int x), (2, .int (nI k))] → W p l e (rmI) s m args below meth c H locs 16 368 Q (F0 m 251 ls []) := by
    intro q
    induction q with
    | zero => intro k hk hq; exact absurd hq (by omega)
    | succ q ih =>
      intro k hk hq f g lf wl h0 h7 h5 h14 h46 hlf hf0 hw H locs ls w hl
      refine lv_iload_n hx hb dX1_init_251 rfl (lv_at hl 2 rfl) ?_
      refine lv_iconst (v := nI 4) hx hb dX1_init_252 (by decide) ?_
      refine ow_ge (k) (4) (by omega) (by omega) (tgt := 305) hx hb dX1_init_253 (by decide) (fun c253 => ?_) (fun c253 => ?_)
      · have ek : k = 4 := by omega
        subst ek
        refine lv_aload_n hx hb dX1_init_305 rfl (lv_at hl 0 rfl) ?_
        refine lv_iconst (v := nI 4) hx hb dX1_init_306 (by decide) ?_
        refine ow_puti xC E w 1 17 rfl (by decide) rfl rfl rfl q97 dX1_init_307 (fun f3 H locs ef3 w => ?_)
        refine lv_iconst (v := nI 0) hx hb dX1_init_310 (by decide) ?_
        refine lv_istore_n (lv' := [(2, .int (nI 0)), (0, .ref h), (1, .int x)]) hx hb dX1_init_311 rfl hl (by decide) rfl (fun ls hl => ?_)
        have hX : tX f3 g 16 (fun _ => 0) lf := tX_init (by rw [ef3]; exact hf0) h0 (fun j hj => (h46 j hj).1) (fun j _ => by rw [h5]) (fun j hj => (h46 j hj).2.1) (fun j hj => (h46 j hj).2.2)
        have hM : tM f3 g 4 (g 15) wl := tM_init (by rw [ef3]; rfl) h7 (fun j hj => (hw j hj).2.2.1) (fun j hj => (hw j hj).2.2.2.1) (fun j hj => (hw j hj).2.2.2.2) (fun j hj => (hw j hj).2.1)
        exact lpE 9 0 (by omega) (by omega) f3 g 16 4 lf wl (g 15) hX hM (fun j hj => (hw j hj).1) hlf h14 _ _ ls w (lv_sub hl [1, 2, 0] rfl)
      · refine lv_aload_n hx hb dX1_init_256 rfl (lv_at hl 0 rfl) ?_
        refine ow_geta xC E w 13 (by decide) q93 dX1_init_257 ?_
        refine lv_iload_n hx hb dX1_init_260 rfl (lv_at hl 2 rfl) ?_
        refine lv_aload_n hx hb dX1_init_261 rfl (lv_at hl 0 rfl) ?_
        refine k1_next E w hl.1 (Nat.le_of_ble_eq_true rfl) dX1_init_262 (by decide) ⟨by decide, by decide⟩  (fun r1 f3 g9 H locs hp w => ?_)
        obtain ⟨⟨x3, ef3⟩, eg9⟩ := hp
        subst g9
        obtain ⟨nw, hnw, enw⟩ := pk_andE r1 (m := nI 3) 2 (by decide)
        refine lv_iconst (v := nI 3) hx hb dX1_init_265 (by decide) ?_
        refine lv_iand hx hb dX1_init_266 ?_
        refine ow_top (v := nI nw) enw ?_
        refine ow_iast xC E w 13 (by decide) (k) rfl (show _ < _ by first | omega | (simp only [xlen, mlen]; omega)) dX1_init_267 (fun g3 H locs eg3 w => ?_)
        refine lv_aload_n hx hb dX1_init_268 rfl (lv_at hl 0 rfl) ?_
        refine ow_geta xC E w 10 (by decide) q90 dX1_init_269 ?_
        refine lv_iload_n hx hb dX1_init_272 rfl (lv_at hl 2 rfl) ?_
        refine lv_iload_n hx hb dX1_init_273 rfl (lv_at hl 2 rfl) ?_
        refine ow_iast xC E w 10 (by decide) (k) rfl (show _ < _ by first | omega | (simp only [xlen, mlen]; omega)) dX1_init_274 (fun g4 H locs eg4 w => ?_)
        refine lv_aload_n hx hb dX1_init_275 rfl (lv_at hl 0 rfl) ?_
        refine ow_geta xC E w 11 (by decide) q91 dX1_init_276 ?_
        refine lv_iload_n hx hb dX1_init_279 rfl (lv_at hl 2 rfl) ?_
        refine lv_aload_n hx hb dX1_init_280 rfl (lv_at hl 0 rfl) ?_
        refine ow_geta xC E w 15 (by decide) q95 dX1_init_281 ?_
        refine lv_iload_n hx hb dX1_init_284 rfl (lv_at hl 2 rfl) ?_
        refine ow_iald xC E w 15 (by decide) (k) rfl (show _ < _ by first | omega | (simp only [xlen, mlen]; omega)) dX1_init_285 ?_
        refine ow_iast xC E w 11 (by decide) (k) rfl (show _ < _ by first | omega | (simp only [xlen, mlen]; omega)) dX1_init_286 (fun g5 H locs eg5 w => ?_)
        refine lv_aload_n hx hb dX1_init_287 rfl (lv_at hl 0 rfl) ?_
        refine ow_geta xC E w 12 (by decide) q92 dX1_init_288 ?_
        refine lv_iload_n hx hb dX1_init_291 rfl (lv_at hl 2 rfl) ?_
        refine lv_aload_n hx hb dX1_init_292 rfl (lv_at hl 0 rfl) ?_
        refine ow_geta xC E w 13 (by decide) q93 dX1_init_293 ?_
        refine lv_iload_n hx hb dX1_init_296 rfl (lv_at hl 2 rfl) ?_
        refine ow_iald xC E w 13 (by decide) (k) rfl (show _ < _ by first | omega | (simp only [xlen, mlen]; omega)) dX1_init_297 ?_
        refine ow_top (v := nI nw) (by rw [eg5, eg4, eg3]; exact pk_us) ?_
        refine ow_iast xC E w 12 (by decide) (k) rfl (show _ < _ by first | omega | (simp only [xlen, mlen]; omega)) dX1_init_298 (fun g6 H locs eg6 w => ?_)
        refine lv_iinc (v := nI (k + 1)) (lv' := [(2, .int (nI (k + 1))), (0, .ref h), (1, .int x)]) hx hb dX1_init_299 hl (k := 2) rfl (nI_1 _) (by decide) rfl (fun ls hl => ?_)
        refine lv_goto (tgt := 251) hx hb dX1_init_302 (by decide) ?_
        have eg : g6 = va_up (va_up (va_up (va_up g 13 (upd (g 13) k (nI nw))) 10 (upd (g 10) k (nI k))) 11 (upd (g 11) k (g 15 k))) 12 (upd (g 12) k (nI nw)) := by
          rw [eg6, eg5, eg4, eg3]; rfl
        refine ih (k + 1) (by omega) (by omega) f3 g6 lf (va_up wl k nw) ?_ ?_ ?_ ?_ ?_ ?_ ?_ (fun j hj => ?_) H locs ls w (lv_sub hl [1, 2, 0] rfl)
        · rw [eg]; exact h0
        · rw [eg]; exact h7
        · rw [eg]; exact h5
        · rw [eg]; exact h14
        · rw [eg]; exact h46
        · rw [eg]; exact hlf
        · rw [ef3]; exact hf0
        · rw [eg]
          show upd (g 13) k (nI nw) j = nI (if j = k then nw else wl j) ∧ (if j = k then nw else wl j) < 4 ∧ upd (g 10) k (nI k) j = nI j ∧ upd (g 11) k (g 15 k) j = g 15 j ∧ upd (g 12) k (nI nw) j = nI (if j = k then nw else wl j)
          by_cases z : j = k
          · rw [z, pk_us, pk_us, pk_us, pk_us, if_pos rfl]
            exact ⟨rfl, hnw, rfl, rfl, rfl⟩
          · rw [pk_un z, pk_un z, pk_un z, pk_un z, if_neg z]
            exact hw j (by omega)
  have lpC : ∀ (q k : Nat), k ≤ 16 → 16 < k + q → ∀ (f : Nat → Int32) (g : Nat → Nat → Int32) (lf : Nat → Nat), (∀ s, s < 64 → g 0 s = -1) → (∀ s, s < 16 → g 7 s = -1) → g 5 = (fun _ => 0) → g 14 = (fun _ => 0) → (∀ j, j < k → g 4 j = nI j ∧ g 6 j = nI (lf j) ∧ lf j < 8) → lfP (g 15) lf k → ∀ (H : Heap) (locs : List Loc) (ls : Array Slot), ow_W 0 16 5 xlen D A h ad dA f g s H locs → lv_has ls 4 [(0, .ref h), (1, .int x), (2, .int (nI k))] → W p l e (rmI) s m args below meth c H locs 16 368 Q (F0 m 185 ls []) := by
    intro q
    induction q with
    | zero => intro k hk hq; exact absurd hq (by omega)
    | succ q ih =>
      intro k hk hq f g lf h0 h7 h5 h14 h46 hlf H locs ls w hl
      refine lv_iload_n hx hb dX1_init_185 rfl (lv_at hl 2 rfl) ?_
      refine lv_bipush (v := nI 16) hx hb dX1_init_186 (by decide) ?_
      refine ow_ge (k) (16) (by omega) (by omega) (tgt := 243) hx hb dX1_init_188 (by decide) (fun c188 => ?_) (fun c188 => ?_)
      · have ek : k = 16 := by omega
        subst ek
        refine lv_aload_n hx hb dX1_init_243 rfl (lv_at hl 0 rfl) ?_
        refine lv_bipush (v := nI 16) hx hb dX1_init_244 (by decide) ?_
        refine ow_puti xC E w 0 16 rfl (by decide) rfl rfl rfl q96 dX1_init_246 (fun f3 H locs ef3 w => ?_)
        refine lv_iconst (v := nI 0) hx hb dX1_init_249 (by decide) ?_
        refine lv_istore_n (lv' := [(2, .int (nI 0)), (0, .ref h), (1, .int x)]) hx hb dX1_init_250 rfl hl (by decide) rfl (fun ls hl => ?_)
        exact lpD 5 0 (by omega) (by omega) f3 g lf lf h0 h7 h5 h14 h46 (fun j hj => by rw [hlf j hj, if_pos hj]) (by rw [ef3]; rfl) (fun j hj => absurd hj (by omega)) _ _ ls w (lv_sub hl [1, 2, 0] rfl)
      · refine lv_aload_n hx hb dX1_init_191 rfl (lv_at hl 0 rfl) ?_
        refine k1_next E w hl.1 (Nat.le_of_ble_eq_true rfl) dX1_init_192 (by decide) ⟨by decide, by decide⟩  (fun r1 f3 g9 H locs hp w => ?_)
        obtain ⟨⟨x3, ef3⟩, eg9⟩ := hp
        subst g9
        obtain ⟨nl, hnl, enl⟩ := pk_andE r1 (m := nI 7) 3 (by decide)
        refine lv_bipush (v := nI 7) hx hb dX1_init_195 (by decide) ?_
        refine lv_iand hx hb dX1_init_197 ?_
        refine ow_top (v := nI nl) enl ?_
        refine lv_istore_n (lv' := [(3, .int (nI nl)), (0, .ref h), (1, .int x), (2, .int (nI k))]) hx hb dX1_init_198 rfl hl (by decide) rfl (fun ls hl => ?_)
        refine lv_aload_n hx hb dX1_init_199 rfl (lv_at hl 1 rfl) ?_
        refine ow_geta xC E w 4 (by decide) q84 dX1_init_200 ?_
        refine lv_iload_n hx hb dX1_init_203 rfl (lv_at hl 3 rfl) ?_
        refine lv_iload_n hx hb dX1_init_204 rfl (lv_at hl 3 rfl) ?_
        refine ow_iast xC E w 4 (by decide) (k) rfl (show _ < _ by first | omega | (simp only [xlen, mlen]; omega)) dX1_init_205 (fun g3 H locs eg3 w => ?_)
        refine lv_aload_n hx hb dX1_init_206 rfl (lv_at hl 1 rfl) ?_
        refine ow_geta xC E w 6 (by decide) q86 dX1_init_207 ?_
        refine lv_iload_n hx hb dX1_init_210 rfl (lv_at hl 3 rfl) ?_
        refine lv_iload_n hx hb dX1_init_211 rfl (lv_at hl 0 rfl) ?_
        refine ow_iast xC E w 6 (by decide) (k) rfl (show _ < _ by first | omega | (simp only [xlen, mlen]; omega)) dX1_init_212 (fun g4 H locs eg4 w => ?_)
        refine lv_aload_n hx hb dX1_init_213 rfl (lv_at hl 1 rfl) ?_
        refine ow_geta xC E w 15 (by decide) q95 dX1_init_214 ?_
        refine lv_iload_n hx hb dX1_init_217 rfl (lv_at hl 3 rfl) ?_
        refine lv_iconst (v := nI 2) hx hb dX1_init_218 (by decide) ?_
        refine lv_ishr hx hb dX1_init_219 ?_
        refine ow_top (v := nI (k / 4)) (pk_shrN (by omega) _ 2 (sh_ok 2 (by omega))) ?_
        refine lv_aload_n hx hb dX1_init_220 rfl (lv_at hl 1 rfl) ?_
        refine ow_geta xC E w 15 (by decide) q95 dX1_init_221 ?_
        refine lv_iload_n hx hb dX1_init_224 rfl (lv_at hl 3 rfl) ?_
        refine lv_iconst (v := nI 2) hx hb dX1_init_225 (by decide) ?_
        refine lv_ishr hx hb dX1_init_226 ?_
        refine ow_top (v := nI (k / 4)) (pk_shrN (by omega) _ 2 (sh_ok 2 (by omega))) ?_
        refine ow_iald xC E w 15 (by decide) (k / 4) rfl (show _ < _ by first | omega | (simp only [xlen, mlen]; omega)) dX1_init_227 ?_
        refine lv_iload_n hx hb dX1_init_228 rfl (lv_at hl 0 rfl) ?_
        refine lv_iconst (v := nI 3) hx hb dX1_init_229 (by decide) ?_
        refine lv_iload_n hx hb dX1_init_230 rfl (lv_at hl 3 rfl) ?_
        refine lv_iconst (v := nI 3) hx hb dX1_init_231 (by decide) ?_
        refine lv_iand hx hb dX1_init_232 ?_
        refine ow_top (v := nI (k % 4)) (pk_andN (by omega) 2 (by decide)) ?_
        refine lv_imul hx hb dX1_init_233 ?_
        refine ow_top (v := nI (3 * (k % 4))) (pk_mul _ _) ?_
        refine lv_ishl hx hb dX1_init_234 ?_
        refine lv_ior hx hb dX1_init_235 ?_
        refine ow_iast xC E w 15 (by decide) (k / 4) rfl (show _ < _ by first | omega | (simp only [xlen, mlen]; omega)) dX1_init_236 (fun g5 H locs eg5 w => ?_)
        refine lv_iinc (v := nI (k + 1)) (lv' := [(2, .int (nI (k + 1))), (3, .int (nI nl)), (0, .ref h), (1, .int x)]) hx hb dX1_init_237 hl (k := 3) rfl (nI_1 _) (by decide) rfl (fun ls hl => ?_)
        refine lv_goto (tgt := 185) hx hb dX1_init_240 (by decide) ?_
        have eg : g5 = va_up (va_up (va_up g 4 (upd (g 4) k (nI k))) 6 (upd (g 6) k (nI nl))) 15 (upd (g 15) (k / 4) (g 15 (k / 4) ||| (nI nl <<< (nI (3 * (k % 4)) &&& 31)))) := by
          rw [eg5, eg4, eg3]; rfl
        refine ih (k + 1) (by omega) (by omega) f3 g5 (va_up lf k nl) ?_ ?_ ?_ ?_ (fun j hj => ?_) ?_ H locs ls w (lv_sub hl [2, 3, 0] rfl)
        · rw [eg]; exact h0
        · rw [eg]; exact h7
        · rw [eg]; exact h5
        · rw [eg]; exact h14
        · rw [eg]
          show upd (g 4) k (nI k) j = nI j ∧ upd (g 6) k (nI nl) j = nI (if j = k then nl else lf j) ∧ (if j = k then nl else lf j) < 8
          by_cases z : j = k
          · rw [z, pk_us, pk_us, if_pos rfl]
            exact ⟨rfl, rfl, hnl⟩
          · rw [pk_un z, pk_un z, if_neg z]
            exact h46 j (by omega)
        · rw [eg]
          exact lfP_s hlf c188 hnl
  have lpB : ∀ (q k : Nat), k ≤ 16 → 16 < k + q → ∀ (f : Nat → Int32) (g : Nat → Nat → Int32), (∀ s, s < 64 → g 0 s = -1) → (∀ s, s < k → g 7 s = -1) → (∀ i, i ≠ 0 → i ≠ 7 → g i = fun _ => 0) → ∀ (H : Heap) (locs : List Loc) (ls : Array Slot), ow_W 0 16 5 xlen D A h ad dA f g s H locs → lv_has ls 4 [(0, .ref h), (1, .int x), (2, .int (nI k))] → W p l e (rmI) s m args below meth c H locs 16 368 Q (F0 m 164 ls []) := by
    intro q
    induction q with
    | zero => intro k hk hq; exact absurd hq (by omega)
    | succ q ih =>
      intro k hk hq f g h0 h7 hz H locs ls w hl
      refine lv_iload_n hx hb dX1_init_164 rfl (lv_at hl 2 rfl) ?_
      refine lv_bipush (v := nI 16) hx hb dX1_init_165 (by decide) ?_
      refine ow_ge (k) (16) (by omega) (by omega) (tgt := 183) hx hb dX1_init_167 (by decide) (fun c167 => ?_) (fun c167 => ?_)
      · have ek : k = 16 := by omega
        subst ek
        refine lv_iconst (v := nI 0) hx hb dX1_init_183 (by decide) ?_
        refine lv_istore_n (lv' := [(2, .int (nI 0)), (0, .ref h), (1, .int x)]) hx hb dX1_init_184 rfl hl (by decide) rfl (fun ls hl => ?_)
        exact lpC 17 0 (by omega) (by omega) f g (fun _ => 0) h0 h7 (hz 5 (by decide) (by decide)) (hz 14 (by decide) (by decide)) (fun j hj => absurd hj (by omega)) (by rw [hz 15 (by decide) (by decide)]; exact lfP_0) _ _ ls w (lv_sub hl [1, 2, 0] rfl)
      · refine lv_aload_n hx hb dX1_init_170 rfl (lv_at hl 0 rfl) ?_
        refine ow_geta xC E w 7 (by decide) q87 dX1_init_171 ?_
        refine lv_iload_n hx hb dX1_init_174 rfl (lv_at hl 2 rfl) ?_
        refine lv_iconst (v := (-1)) hx hb dX1_init_175 (by decide) ?_
        refine ow_iast xC E w 7 (by decide) (k) rfl (show _ < _ by first | omega | (simp only [xlen, mlen]; omega)) dX1_init_176 (fun g3 H locs eg3 w => ?_)
        refine lv_iinc (v := nI (k + 1)) (lv' := [(2, .int (nI (k + 1))), (0, .ref h), (1, .int x)]) hx hb dX1_init_177 hl (k := 2) rfl (nI_1 _) (by decide) rfl (fun ls hl => ?_)
        refine lv_goto (tgt := 164) hx hb dX1_init_180 (by decide) ?_
        refine ih (k + 1) (by omega) (by omega) f g3 ?_ (fun j hj => ?_) (fun i i0 i7 => ?_) H locs ls w (lv_sub hl [1, 2, 0] rfl)
        · rw [eg3]; exact h0
        · rw [eg3]
          show upd (g 7) k (-1) j = -1
          by_cases z : j = k
          · rw [z, pk_us]
          · rw [pk_un z]; exact h7 j (by omega)
        · rw [eg3]
          simp only [va_up, if_neg i7]
          exact hz i i0 i7
  have lpA : ∀ (q k : Nat), k ≤ 64 → 64 < k + q → ∀ (f : Nat → Int32) (g : Nat → Nat → Int32), (∀ s, s < k → g 0 s = -1) → (∀ i, i ≠ 0 → g i = fun _ => 0) → ∀ (H : Heap) (locs : List Loc) (ls : Array Slot), ow_W 0 16 5 xlen D A h ad dA f g s H locs → lv_has ls 4 [(0, .ref h), (1, .int x), (2, .int (nI k))] → W p l e (rmI) s m args below meth c H locs 16 368 Q (F0 m 143 ls []) := by
    intro q
    induction q with
    | zero => intro k hk hq; exact absurd hq (by omega)
    | succ q ih =>
      intro k hk hq f g h0 hz H locs ls w hl
      refine lv_iload_n hx hb dX1_init_143 rfl (lv_at hl 2 rfl) ?_
      refine lv_bipush (v := nI 64) hx hb dX1_init_144 (by decide) ?_
      refine ow_ge (k) (64) (by omega) (by omega) (tgt := 162) hx hb dX1_init_146 (by decide) (fun c146 => ?_) (fun c146 => ?_)
      · have ek : k = 64 := by omega
        subst ek
        refine lv_iconst (v := nI 0) hx hb dX1_init_162 (by decide) ?_
        refine lv_istore_n (lv' := [(2, .int (nI 0)), (0, .ref h), (1, .int x)]) hx hb dX1_init_163 rfl hl (by decide) rfl (fun ls hl => ?_)
        exact lpB 17 0 (by omega) (by omega) f g h0 (fun j hj => absurd hj (by omega)) (fun i i0 _ => hz i i0) _ _ ls w (lv_sub hl [1, 2, 0] rfl)
      · refine lv_aload_n hx hb dX1_init_149 rfl (lv_at hl 0 rfl) ?_
        refine ow_geta xC E w 0 (by decide) q80 dX1_init_150 ?_
        refine lv_iload_n hx hb dX1_init_153 rfl (lv_at hl 2 rfl) ?_
        refine lv_iconst (v := (-1)) hx hb dX1_init_154 (by decide) ?_
        refine ow_iast xC E w 0 (by decide) (k) rfl (show _ < _ by first | omega | (simp only [xlen, mlen]; omega)) dX1_init_155 (fun g3 H locs eg3 w => ?_)
        refine lv_iinc (v := nI (k + 1)) (lv' := [(2, .int (nI (k + 1))), (0, .ref h), (1, .int x)]) hx hb dX1_init_156 hl (k := 2) rfl (nI_1 _) (by decide) rfl (fun ls hl => ?_)
        refine lv_goto (tgt := 143) hx hb dX1_init_159 (by decide) ?_
        refine ih (k + 1) (by omega) (by omega) f g3 (fun j hj => ?_) (fun i i0 => ?_) H locs ls w (lv_sub hl [1, 2, 0] rfl)
        · rw [eg3]
          show upd (g 0) k (-1) j = -1
          by_cases z : j = k
          · rw [z, pk_us]
          · rw [pk_un z]; exact h0 j (by omega)
        · rw [eg3]
          simp only [va_up, if_neg i0]
          exact hz i i0
  exact lpA 65 0 (by omega) (by omega) f2 g1 (fun j hj => absurd hj (by omega)) (fun i _ => by rw [eg1]) _ _ ls w (lv_sub hl [1, 2, 0] rfl)
end
section
abbrev fsX1 : List Value := [.null, .null, .null, .null, .null, .null, .null, .null, .null, .null, .null, .null, .null, .null, .null, .null, .int 0, .int 0, .int 0, .int 0, .int 0]
set_option maxHeartbeats 4000000 in
set_option maxRecDepth 100000 in
theorem c1_init (l : Launch) (D : va_G) (h sz : Nat) (x : Int32) : Met l yX1_init (ws_ yX1_init cX1_init 4 none) rmI (va_Pc [.ref h, .int x] (fun U => U.heap.size = sz ∧ va_P D vwCl [(h, .inr (0, fsX1))] U.heap ∧ va_K D vwCl [] U ∧ va_D (fun _ => True) [(h, .inr (0, fsX1))]))
    (va_Qv (fun (u : (Nat → Nat) × (Nat → ClassId) × (Nat → Int32) × (Nat → Nat → Int32)) => PX u.2.2.1 u.2.2.2 (fun _ => 0) (fun _ => 0) 0) (fun u t => va_P D vwCl (ow_w 0 16 5 xlen h u.1 u.2.1 u.2.2.1 u.2.2.2) t.heap ∧ va_K D vwCl (ow_t 16 u.2.1) t ∧ va_D (va_A [(h, .inr (0, fsX1))] sz) (ow_w 0 16 5 xlen h u.1 u.2.1 u.2.2.1 u.2.2.2)) (va_A [(h, .inr (0, fsX1))] sz)) 16 368 (va_A [(h, .inr (0, fsX1))] sz) := by
  refine Met.ofW (cc := cX1_init) (maxL := 4) (ret := none) (by decide) rfl ?_
  intro p e s m args below meth c s₁ B hml hv
  obtain ⟨rfl, hsz, hP, hK, hD0⟩ := hv
  have hx := B.exec
  have hb := B.bytes
  have hr := B.returns
  have hts := atoms_spec (ws := ws_ yX1_init cX1_init 4 none) B.pre
  have hts : ∀ w ∈ lw_all, w.before _ s = true := fun w h => hts w (List.mem_cons_of_mem _ h)
  have hown : s.vm.findClass RX1 = some m.cls := findClass_of_methodNamed B.named
  have hlocks := B.notSynchronized
  have hin : meth.name = "<init>" := (name_of_methodNamed B.named B.method).1
  subst hsz
  have hD := hD0.self (sz := s.heap.size)
  generalize hAe : va_A [(h, .inr (0, fsX1))] s.heap.size = A at hD ⊢
  have hA : ∀ q : Nat, s.heap.size ≤ q → A q := fun q h => by rw [← hAe]; exact Or.inr h
  have hS : va_S A s.heap s.heap [] := va_S.rf
  have hl := lv_entry ([.ref h, .int x]) (n := 4) (Nat.le_of_ble_eq_true rfl)
  rw [lg_entry_eq]
  generalize (lg_sl ([.ref h, .int x]) ++ List.replicate (4 - (lg_sl ([.ref h, .int x])).length) Slot.unset).toArray = ls at hl ⊢
  have hl : lv_has ls 4 [(0, .ref h), (1, .int x)] := hl
  have fin : ∀ {pc : Nat} {ad : Nat → Nat} {dA : Nat → ClassId} {f1 : Nat → Int32} {g1 : Nat → Nat → Int32} {H : Heap} {locs : List Loc} {ls : Array Slot}, va_K D vwCl (ow_t 16 dA) s → decode cX1_init pc = .ok (.return_, 1) → PX f1 g1 (fun _ => 0) (fun _ => 0) 0 → ow_W 0 16 5 xlen D A h ad dA f1 g1 s H locs → W p l e rmI s m ([.ref h, .int x] : List Value).toArray below meth c H locs 16 368 (MQ below (va_Qv (fun (u : (Nat → Nat) × (Nat → ClassId) × (Nat → Int32) × (Nat → Nat → Int32)) => PX u.2.2.1 u.2.2.2 (fun _ => 0) (fun _ => 0) 0) (fun u t => va_P D vwCl (ow_w 0 16 5 xlen h u.1 u.2.1 u.2.2.1 u.2.2.2) t.heap ∧ va_K D vwCl (ow_t 16 u.2.1) t ∧ va_D A (ow_w 0 16 5 xlen h u.1 u.2.1 u.2.2.1 u.2.2.2)) A) ([.ref h, .int x] : List Value).toArray s 16 368 A) (F0 m pc ls []) := by
    intro pc ad dA f1 g1 H locs ls hK1 hd hp w
    exact W.vret hx hb hr (fun t ht hW => ⟨⟨(ad, dA, f1, g1), rfl, hp, by subst ht; exact w.1, va_K.moved hW.alike hK1, w.2.1⟩, w.2.2.F ht⟩) w.2.2.2.2 hd
  generalize (MQ below (va_Qv (fun (u : (Nat → Nat) × (Nat → ClassId) × (Nat → Int32) × (Nat → Nat → Int32)) => PX u.2.2.1 u.2.2.2 (fun _ => 0) (fun _ => 0) 0) (fun u t => va_P D vwCl (ow_w 0 16 5 xlen h u.1 u.2.1 u.2.2.1 u.2.2.2) t.heap ∧ va_K D vwCl (ow_t 16 u.2.1) t ∧ va_D A (ow_w 0 16 5 xlen h u.1 u.2.1 u.2.2.1 u.2.2.2)) A) ([.ref h, .int x] : List Value).toArray s 16 368 A) = Q at fin ⊢
  generalize ([.ref h, .int x] : List Value).toArray = args at hts fin ⊢
  show W p l e rmI s m args below meth c s.heap [] 0 0 Q (F0 m 0 ls [])
  refine lv_aload_n hx hb dX1_init_0 rfl (lv_at hl 0 rfl) ?_
  refine W.objInit hx hb hown (hts _ q25) (hts _ q26) (hts _ q27) rfl (by rw [hml]; exact hl.1) rfl dX1_init_1 (Nat.le_of_ble_eq_true rfl) (Nat.le_of_ble_eq_true rfl) ?_
  refine W.eq (g2 := F0 m 4 ls []) rfl ?_
  refine lv_aload_n hx hb dX1_init_4 rfl (lv_at hl 0 rfl) ?_
  refine lv_bipush (v := 64) hx hb dX1_init_5 (by decide) ?_
  refine va_newa (atype := .int) (ty := .int) (N' := 64) (a0 := (64, .inl (fun _ => 0))) hx hb (hts _ q144) rfl hK hP hD hS hA (fun cA => rfl) (by decide) (by decide) (by decide) (Nat.le_of_ble_eq_true rfl) (Nat.le_of_ble_eq_true rfl) dX1_init_7 (fun a0 c0 H hK hP hD hS => ?_)
  have hP : va_P D vwCl [(h, .inr (0, [.null, .null, .null, .null, .null, .null, .null, .null, .null, .null, .null, .null, .null, .null, .null, .null, .int 0, .int 0, .int 0, .int 0, .int 0])), (a0, .inl (c0, 64, .inl (fun _ => 0)))] H := hP
  have hD : va_D A [(h, .inr (0, [.null, .null, .null, .null, .null, .null, .null, .null, .null, .null, .null, .null, .null, .null, .null, .null, .int 0, .int 0, .int 0, .int 0, .int 0])), (a0, .inl (c0, 64, .inl (fun _ => 0)))] := hD
  have hK : va_K D vwCl [(c0, .int)] s := hK
  refine W.widen (k := 1) (n := 64) (Nat.le_of_ble_eq_true rfl) (Nat.le_of_ble_eq_true rfl) ?_
  refine va_putF (D := D) (ci := 0) (v := .ref a0) (ty := .array .int) (C := RX1) (T := TX1) (N := 21) hx hb hts in_X1 tyX1 tyX1_ok nmX1 hown hK hP hD hS 0 rfl rfl 0 (by decide) (hts _ q80) (fun _ h9 => h9) rfl hin rfl (by decide +kernel) rfl rfl (Nat.le_of_ble_eq_true rfl) dX1_init_9 (fun H locs hP hD hS => ?_)
  have hP : va_P D vwCl [(h, .inr (0, [.ref a0, .null, .null, .null, .null, .null, .null, .null, .null, .null, .null, .null, .null, .null, .null, .null, .int 0, .int 0, .int 0, .int 0, .int 0])), (a0, .inl (c0, 64, .inl (fun _ => 0)))] H := hP
  have hD : va_D A [(h, .inr (0, [.ref a0, .null, .null, .null, .null, .null, .null, .null, .null, .null, .null, .null, .null, .null, .null, .null, .int 0, .int 0, .int 0, .int 0, .int 0])), (a0, .inl (c0, 64, .inl (fun _ => 0)))] := hD
  refine lv_aload_n hx hb dX1_init_12 rfl (lv_at hl 0 rfl) ?_
  refine lv_bipush (v := 64) hx hb dX1_init_13 (by decide) ?_
  refine va_newa (atype := .int) (ty := .int) (N' := 64) (a0 := (64, .inl (fun _ => 0))) hx hb (hts _ q144) rfl hK hP hD hS hA (fun cA => rfl) (by decide) (by decide) (by decide) (Nat.le_of_ble_eq_true rfl) (Nat.le_of_ble_eq_true rfl) dX1_init_15 (fun a1 c1 H hK hP hD hS => ?_)
  have hP : va_P D vwCl [(h, .inr (0, [.ref a0, .null, .null, .null, .null, .null, .null, .null, .null, .null, .null, .null, .null, .null, .null, .null, .int 0, .int 0, .int 0, .int 0, .int 0])), (a0, .inl (c0, 64, .inl (fun _ => 0))), (a1, .inl (c1, 64, .inl (fun _ => 0)))] H := hP
  have hD : va_D A [(h, .inr (0, [.ref a0, .null, .null, .null, .null, .null, .null, .null, .null, .null, .null, .null, .null, .null, .null, .null, .int 0, .int 0, .int 0, .int 0, .int 0])), (a0, .inl (c0, 64, .inl (fun _ => 0))), (a1, .inl (c1, 64, .inl (fun _ => 0)))] := hD
  have hK : va_K D vwCl [(c0, .int), (c1, .int)] s := hK
  refine W.widen (k := 2) (n := 128) (Nat.le_of_ble_eq_true rfl) (Nat.le_of_ble_eq_true rfl) ?_
  refine va_putF (D := D) (ci := 0) (v := .ref a1) (ty := .array .int) (C := RX1) (T := TX1) (N := 21) hx hb hts in_X1 tyX1 tyX1_ok nmX1 hown hK hP hD hS 0 rfl rfl 1 (by decide) (hts _ q81) (fun _ h9 => h9) rfl hin rfl (by decide +kernel) rfl rfl (Nat.le_of_ble_eq_true rfl) dX1_init_17 (fun H locs hP hD hS => ?_)
  have hP : va_P D vwCl [(h, .inr (0, [.ref a0, .ref a1, .null, .null, .null, .null, .null, .null, .null, .null, .null, .null, .null, .null, .null, .null, .int 0, .int 0, .int 0, .int 0, .int 0])), (a0, .inl (c0, 64, .inl (fun _ => 0))), (a1, .inl (c1, 64, .inl (fun _ => 0)))] H := hP
  have hD : va_D A [(h, .inr (0, [.ref a0, .ref a1, .null, .null, .null, .null, .null, .null, .null, .null, .null, .null, .null, .null, .null, .null, .int 0, .int 0, .int 0, .int 0, .int 0])), (a0, .inl (c0, 64, .inl (fun _ => 0))), (a1, .inl (c1, 64, .inl (fun _ => 0)))] := hD
  refine lv_aload_n hx hb dX1_init_20 rfl (lv_at hl 0 rfl) ?_
  refine lv_bipush (v := 64) hx hb dX1_init_21 (by decide) ?_
  refine va_newa (atype := .int) (ty := .int) (N' := 64) (a0 := (64, .inl (fun _ => 0))) hx hb (hts _ q144) rfl hK hP hD hS hA (fun cA => rfl) (by decide) (by decide) (by decide) (Nat.le_of_ble_eq_true rfl) (Nat.le_of_ble_eq_true rfl) dX1_init_23 (fun a2 c2 H hK hP hD hS => ?_)
  have hP : va_P D vwCl [(h, .inr (0, [.ref a0, .ref a1, .null, .null, .null, .null, .null, .null, .null, .null, .null, .null, .null, .null, .null, .null, .int 0, .int 0, .int 0, .int 0, .int 0])), (a0, .inl (c0, 64, .inl (fun _ => 0))), (a1, .inl (c1, 64, .inl (fun _ => 0))), (a2, .inl (c2, 64, .inl (fun _ => 0)))] H := hP
  have hD : va_D A [(h, .inr (0, [.ref a0, .ref a1, .null, .null, .null, .null, .null, .null, .null, .null, .null, .null, .null, .null, .null, .null, .int 0, .int 0, .int 0, .int 0, .int 0])), (a0, .inl (c0, 64, .inl (fun _ => 0))), (a1, .inl (c1, 64, .inl (fun _ => 0))), (a2, .inl (c2, 64, .inl (fun _ => 0)))] := hD
  have hK : va_K D vwCl [(c0, .int), (c1, .int), (c2, .int)] s := hK
  refine W.widen (k := 3) (n := 192) (Nat.le_of_ble_eq_true rfl) (Nat.le_of_ble_eq_true rfl) ?_
  refine va_putF (D := D) (ci := 0) (v := .ref a2) (ty := .array .int) (C := RX1) (T := TX1) (N := 21) hx hb hts in_X1 tyX1 tyX1_ok nmX1 hown hK hP hD hS 0 rfl rfl 2 (by decide) (hts _ q82) (fun _ h9 => h9) rfl hin rfl (by decide +kernel) rfl rfl (Nat.le_of_ble_eq_true rfl) dX1_init_25 (fun H locs hP hD hS => ?_)
  have hP : va_P D vwCl [(h, .inr (0, [.ref a0, .ref a1, .ref a2, .null, .null, .null, .null, .null, .null, .null, .null, .null, .null, .null, .null, .null, .int 0, .int 0, .int 0, .int 0, .int 0])), (a0, .inl (c0, 64, .inl (fun _ => 0))), (a1, .inl (c1, 64, .inl (fun _ => 0))), (a2, .inl (c2, 64, .inl (fun _ => 0)))] H := hP
  have hD : va_D A [(h, .inr (0, [.ref a0, .ref a1, .ref a2, .null, .null, .null, .null, .null, .null, .null, .null, .null, .null, .null, .null, .null, .int 0, .int 0, .int 0, .int 0, .int 0])), (a0, .inl (c0, 64, .inl (fun _ => 0))), (a1, .inl (c1, 64, .inl (fun _ => 0))), (a2, .inl (c2, 64, .inl (fun _ => 0)))] := hD
  refine lv_aload_n hx hb dX1_init_28 rfl (lv_at hl 0 rfl) ?_
  refine lv_bipush (v := 16) hx hb dX1_init_29 (by decide) ?_
  refine va_newa (atype := .int) (ty := .int) (N' := 16) (a0 := (16, .inl (fun _ => 0))) hx hb (hts _ q144) rfl hK hP hD hS hA (fun cA => rfl) (by decide) (by decide) (by decide) (Nat.le_of_ble_eq_true rfl) (Nat.le_of_ble_eq_true rfl) dX1_init_31 (fun a3 c3 H hK hP hD hS => ?_)
  have hP : va_P D vwCl [(h, .inr (0, [.ref a0, .ref a1, .ref a2, .null, .null, .null, .null, .null, .null, .null, .null, .null, .null, .null, .null, .null, .int 0, .int 0, .int 0, .int 0, .int 0])), (a0, .inl (c0, 64, .inl (fun _ => 0))), (a1, .inl (c1, 64, .inl (fun _ => 0))), (a2, .inl (c2, 64, .inl (fun _ => 0))), (a3, .inl (c3, 16, .inl (fun _ => 0)))] H := hP
  have hD : va_D A [(h, .inr (0, [.ref a0, .ref a1, .ref a2, .null, .null, .null, .null, .null, .null, .null, .null, .null, .null, .null, .null, .null, .int 0, .int 0, .int 0, .int 0, .int 0])), (a0, .inl (c0, 64, .inl (fun _ => 0))), (a1, .inl (c1, 64, .inl (fun _ => 0))), (a2, .inl (c2, 64, .inl (fun _ => 0))), (a3, .inl (c3, 16, .inl (fun _ => 0)))] := hD
  have hK : va_K D vwCl [(c0, .int), (c1, .int), (c2, .int), (c3, .int)] s := hK
  refine W.widen (k := 4) (n := 208) (Nat.le_of_ble_eq_true rfl) (Nat.le_of_ble_eq_true rfl) ?_
  refine va_putF (D := D) (ci := 0) (v := .ref a3) (ty := .array .int) (C := RX1) (T := TX1) (N := 21) hx hb hts in_X1 tyX1 tyX1_ok nmX1 hown hK hP hD hS 0 rfl rfl 3 (by decide) (hts _ q83) (fun _ h9 => h9) rfl hin rfl (by decide +kernel) rfl rfl (Nat.le_of_ble_eq_true rfl) dX1_init_33 (fun H locs hP hD hS => ?_)
  have hP : va_P D vwCl [(h, .inr (0, [.ref a0, .ref a1, .ref a2, .ref a3, .null, .null, .null, .null, .null, .null, .null, .null, .null, .null, .null, .null, .int 0, .int 0, .int 0, .int 0, .int 0])), (a0, .inl (c0, 64, .inl (fun _ => 0))), (a1, .inl (c1, 64, .inl (fun _ => 0))), (a2, .inl (c2, 64, .inl (fun _ => 0))), (a3, .inl (c3, 16, .inl (fun _ => 0)))] H := hP
  have hD : va_D A [(h, .inr (0, [.ref a0, .ref a1, .ref a2, .ref a3, .null, .null, .null, .null, .null, .null, .null, .null, .null, .null, .null, .null, .int 0, .int 0, .int 0, .int 0, .int 0])), (a0, .inl (c0, 64, .inl (fun _ => 0))), (a1, .inl (c1, 64, .inl (fun _ => 0))), (a2, .inl (c2, 64, .inl (fun _ => 0))), (a3, .inl (c3, 16, .inl (fun _ => 0)))] := hD
  refine lv_aload_n hx hb dX1_init_36 rfl (lv_at hl 0 rfl) ?_
  refine lv_bipush (v := 16) hx hb dX1_init_37 (by decide) ?_
  refine va_newa (atype := .int) (ty := .int) (N' := 16) (a0 := (16, .inl (fun _ => 0))) hx hb (hts _ q144) rfl hK hP hD hS hA (fun cA => rfl) (by decide) (by decide) (by decide) (Nat.le_of_ble_eq_true rfl) (Nat.le_of_ble_eq_true rfl) dX1_init_39 (fun a4 c4 H hK hP hD hS => ?_)
  have hP : va_P D vwCl [(h, .inr (0, [.ref a0, .ref a1, .ref a2, .ref a3, .null, .null, .null, .null, .null, .null, .null, .null, .null, .null, .null, .null, .int 0, .int 0, .int 0, .int 0, .int 0])), (a0, .inl (c0, 64, .inl (fun _ => 0))), (a1, .inl (c1, 64, .inl (fun _ => 0))), (a2, .inl (c2, 64, .inl (fun _ => 0))), (a3, .inl (c3, 16, .inl (fun _ => 0))), (a4, .inl (c4, 16, .inl (fun _ => 0)))] H := hP
  have hD : va_D A [(h, .inr (0, [.ref a0, .ref a1, .ref a2, .ref a3, .null, .null, .null, .null, .null, .null, .null, .null, .null, .null, .null, .null, .int 0, .int 0, .int 0, .int 0, .int 0])), (a0, .inl (c0, 64, .inl (fun _ => 0))), (a1, .inl (c1, 64, .inl (fun _ => 0))), (a2, .inl (c2, 64, .inl (fun _ => 0))), (a3, .inl (c3, 16, .inl (fun _ => 0))), (a4, .inl (c4, 16, .inl (fun _ => 0)))] := hD
  have hK : va_K D vwCl [(c0, .int), (c1, .int), (c2, .int), (c3, .int), (c4, .int)] s := hK
  refine W.widen (k := 5) (n := 224) (Nat.le_of_ble_eq_true rfl) (Nat.le_of_ble_eq_true rfl) ?_
  refine va_putF (D := D) (ci := 0) (v := .ref a4) (ty := .array .int) (C := RX1) (T := TX1) (N := 21) hx hb hts in_X1 tyX1 tyX1_ok nmX1 hown hK hP hD hS 0 rfl rfl 4 (by decide) (hts _ q84) (fun _ h9 => h9) rfl hin rfl (by decide +kernel) rfl rfl (Nat.le_of_ble_eq_true rfl) dX1_init_41 (fun H locs hP hD hS => ?_)
  have hP : va_P D vwCl [(h, .inr (0, [.ref a0, .ref a1, .ref a2, .ref a3, .ref a4, .null, .null, .null, .null, .null, .null, .null, .null, .null, .null, .null, .int 0, .int 0, .int 0, .int 0, .int 0])), (a0, .inl (c0, 64, .inl (fun _ => 0))), (a1, .inl (c1, 64, .inl (fun _ => 0))), (a2, .inl (c2, 64, .inl (fun _ => 0))), (a3, .inl (c3, 16, .inl (fun _ => 0))), (a4, .inl (c4, 16, .inl (fun _ => 0)))] H := hP
  have hD : va_D A [(h, .inr (0, [.ref a0, .ref a1, .ref a2, .ref a3, .ref a4, .null, .null, .null, .null, .null, .null, .null, .null, .null, .null, .null, .int 0, .int 0, .int 0, .int 0, .int 0])), (a0, .inl (c0, 64, .inl (fun _ => 0))), (a1, .inl (c1, 64, .inl (fun _ => 0))), (a2, .inl (c2, 64, .inl (fun _ => 0))), (a3, .inl (c3, 16, .inl (fun _ => 0))), (a4, .inl (c4, 16, .inl (fun _ => 0)))] := hD
  refine lv_aload_n hx hb dX1_init_44 rfl (lv_at hl 0 rfl) ?_
  refine lv_bipush (v := 16) hx hb dX1_init_45 (by decide) ?_
  refine va_newa (atype := .int) (ty := .int) (N' := 16) (a0 := (16, .inl (fun _ => 0))) hx hb (hts _ q144) rfl hK hP hD hS hA (fun cA => rfl) (by decide) (by decide) (by decide) (Nat.le_of_ble_eq_true rfl) (Nat.le_of_ble_eq_true rfl) dX1_init_47 (fun a5 c5 H hK hP hD hS => ?_)
  have hP : va_P D vwCl [(h, .inr (0, [.ref a0, .ref a1, .ref a2, .ref a3, .ref a4, .null, .null, .null, .null, .null, .null, .null, .null, .null, .null, .null, .int 0, .int 0, .int 0, .int 0, .int 0])), (a0, .inl (c0, 64, .inl (fun _ => 0))), (a1, .inl (c1, 64, .inl (fun _ => 0))), (a2, .inl (c2, 64, .inl (fun _ => 0))), (a3, .inl (c3, 16, .inl (fun _ => 0))), (a4, .inl (c4, 16, .inl (fun _ => 0))), (a5, .inl (c5, 16, .inl (fun _ => 0)))] H := hP
  have hD : va_D A [(h, .inr (0, [.ref a0, .ref a1, .ref a2, .ref a3, .ref a4, .null, .null, .null, .null, .null, .null, .null, .null, .null, .null, .null, .int 0, .int 0, .int 0, .int 0, .int 0])), (a0, .inl (c0, 64, .inl (fun _ => 0))), (a1, .inl (c1, 64, .inl (fun _ => 0))), (a2, .inl (c2, 64, .inl (fun _ => 0))), (a3, .inl (c3, 16, .inl (fun _ => 0))), (a4, .inl (c4, 16, .inl (fun _ => 0))), (a5, .inl (c5, 16, .inl (fun _ => 0)))] := hD
  have hK : va_K D vwCl [(c0, .int), (c1, .int), (c2, .int), (c3, .int), (c4, .int), (c5, .int)] s := hK
  refine W.widen (k := 6) (n := 240) (Nat.le_of_ble_eq_true rfl) (Nat.le_of_ble_eq_true rfl) ?_
  refine va_putF (D := D) (ci := 0) (v := .ref a5) (ty := .array .int) (C := RX1) (T := TX1) (N := 21) hx hb hts in_X1 tyX1 tyX1_ok nmX1 hown hK hP hD hS 0 rfl rfl 5 (by decide) (hts _ q85) (fun _ h9 => h9) rfl hin rfl (by decide +kernel) rfl rfl (Nat.le_of_ble_eq_true rfl) dX1_init_49 (fun H locs hP hD hS => ?_)
  have hP : va_P D vwCl [(h, .inr (0, [.ref a0, .ref a1, .ref a2, .ref a3, .ref a4, .ref a5, .null, .null, .null, .null, .null, .null, .null, .null, .null, .null, .int 0, .int 0, .int 0, .int 0, .int 0])), (a0, .inl (c0, 64, .inl (fun _ => 0))), (a1, .inl (c1, 64, .inl (fun _ => 0))), (a2, .inl (c2, 64, .inl (fun _ => 0))), (a3, .inl (c3, 16, .inl (fun _ => 0))), (a4, .inl (c4, 16, .inl (fun _ => 0))), (a5, .inl (c5, 16, .inl (fun _ => 0)))] H := hP
  have hD : va_D A [(h, .inr (0, [.ref a0, .ref a1, .ref a2, .ref a3, .ref a4, .ref a5, .null, .null, .null, .null, .null, .null, .null, .null, .null, .null, .int 0, .int 0, .int 0, .int 0, .int 0])), (a0, .inl (c0, 64, .inl (fun _ => 0))), (a1, .inl (c1, 64, .inl (fun _ => 0))), (a2, .inl (c2, 64, .inl (fun _ => 0))), (a3, .inl (c3, 16, .inl (fun _ => 0))), (a4, .inl (c4, 16, .inl (fun _ => 0))), (a5, .inl (c5, 16, .inl (fun _ => 0)))] := hD
  refine lv_aload_n hx hb dX1_init_52 rfl (lv_at hl 0 rfl) ?_
  refine lv_bipush (v := 16) hx hb dX1_init_53 (by decide) ?_
  refine va_newa (atype := .int) (ty := .int) (N' := 16) (a0 := (16, .inl (fun _ => 0))) hx hb (hts _ q144) rfl hK hP hD hS hA (fun cA => rfl) (by decide) (by decide) (by decide) (Nat.le_of_ble_eq_true rfl) (Nat.le_of_ble_eq_true rfl) dX1_init_55 (fun a6 c6 H hK hP hD hS => ?_)
  have hP : va_P D vwCl [(h, .inr (0, [.ref a0, .ref a1, .ref a2, .ref a3, .ref a4, .ref a5, .null, .null, .null, .null, .null, .null, .null, .null, .null, .null, .int 0, .int 0, .int 0, .int 0, .int 0])), (a0, .inl (c0, 64, .inl (fun _ => 0))), (a1, .inl (c1, 64, .inl (fun _ => 0))), (a2, .inl (c2, 64, .inl (fun _ => 0))), (a3, .inl (c3, 16, .inl (fun _ => 0))), (a4, .inl (c4, 16, .inl (fun _ => 0))), (a5, .inl (c5, 16, .inl (fun _ => 0))), (a6, .inl (c6, 16, .inl (fun _ => 0)))] H := hP
  have hD : va_D A [(h, .inr (0, [.ref a0, .ref a1, .ref a2, .ref a3, .ref a4, .ref a5, .null, .null, .null, .null, .null, .null, .null, .null, .null, .null, .int 0, .int 0, .int 0, .int 0, .int 0])), (a0, .inl (c0, 64, .inl (fun _ => 0))), (a1, .inl (c1, 64, .inl (fun _ => 0))), (a2, .inl (c2, 64, .inl (fun _ => 0))), (a3, .inl (c3, 16, .inl (fun _ => 0))), (a4, .inl (c4, 16, .inl (fun _ => 0))), (a5, .inl (c5, 16, .inl (fun _ => 0))), (a6, .inl (c6, 16, .inl (fun _ => 0)))] := hD
  have hK : va_K D vwCl [(c0, .int), (c1, .int), (c2, .int), (c3, .int), (c4, .int), (c5, .int), (c6, .int)] s := hK
  refine W.widen (k := 7) (n := 256) (Nat.le_of_ble_eq_true rfl) (Nat.le_of_ble_eq_true rfl) ?_
  refine va_putF (D := D) (ci := 0) (v := .ref a6) (ty := .array .int) (C := RX1) (T := TX1) (N := 21) hx hb hts in_X1 tyX1 tyX1_ok nmX1 hown hK hP hD hS 0 rfl rfl 6 (by decide) (hts _ q86) (fun _ h9 => h9) rfl hin rfl (by decide +kernel) rfl rfl (Nat.le_of_ble_eq_true rfl) dX1_init_57 (fun H locs hP hD hS => ?_)
  have hP : va_P D vwCl [(h, .inr (0, [.ref a0, .ref a1, .ref a2, .ref a3, .ref a4, .ref a5, .ref a6, .null, .null, .null, .null, .null, .null, .null, .null, .null, .int 0, .int 0, .int 0, .int 0, .int 0])), (a0, .inl (c0, 64, .inl (fun _ => 0))), (a1, .inl (c1, 64, .inl (fun _ => 0))), (a2, .inl (c2, 64, .inl (fun _ => 0))), (a3, .inl (c3, 16, .inl (fun _ => 0))), (a4, .inl (c4, 16, .inl (fun _ => 0))), (a5, .inl (c5, 16, .inl (fun _ => 0))), (a6, .inl (c6, 16, .inl (fun _ => 0)))] H := hP
  have hD : va_D A [(h, .inr (0, [.ref a0, .ref a1, .ref a2, .ref a3, .ref a4, .ref a5, .ref a6, .null, .null, .null, .null, .null, .null, .null, .null, .null, .int 0, .int 0, .int 0, .int 0, .int 0])), (a0, .inl (c0, 64, .inl (fun _ => 0))), (a1, .inl (c1, 64, .inl (fun _ => 0))), (a2, .inl (c2, 64, .inl (fun _ => 0))), (a3, .inl (c3, 16, .inl (fun _ => 0))), (a4, .inl (c4, 16, .inl (fun _ => 0))), (a5, .inl (c5, 16, .inl (fun _ => 0))), (a6, .inl (c6, 16, .inl (fun _ => 0)))] := hD
  refine lv_aload_n hx hb dX1_init_60 rfl (lv_at hl 0 rfl) ?_
  refine lv_bipush (v := 16) hx hb dX1_init_61 (by decide) ?_
  refine va_newa (atype := .int) (ty := .int) (N' := 16) (a0 := (16, .inl (fun _ => 0))) hx hb (hts _ q144) rfl hK hP hD hS hA (fun cA => rfl) (by decide) (by decide) (by decide) (Nat.le_of_ble_eq_true rfl) (Nat.le_of_ble_eq_true rfl) dX1_init_63 (fun a7 c7 H hK hP hD hS => ?_)
  have hP : va_P D vwCl [(h, .inr (0, [.ref a0, .ref a1, .ref a2, .ref a3, .ref a4, .ref a5, .ref a6, .null, .null, .null, .null, .null, .null, .null, .null, .null, .int 0, .int 0, .int 0, .int 0, .int 0])), (a0, .inl (c0, 64, .inl (fun _ => 0))), (a1, .inl (c1, 64, .inl (fun _ => 0))), (a2, .inl (c2, 64, .inl (fun _ => 0))), (a3, .inl (c3, 16, .inl (fun _ => 0))), (a4, .inl (c4, 16, .inl (fun _ => 0))), (a5, .inl (c5, 16, .inl (fun _ => 0))), (a6, .inl (c6, 16, .inl (fun _ => 0))), (a7, .inl (c7, 16, .inl (fun _ => 0)))] H := hP
  have hD : va_D A [(h, .inr (0, [.ref a0, .ref a1, .ref a2, .ref a3, .ref a4, .ref a5, .ref a6, .null, .null, .null, .null, .null, .null, .null, .null, .null, .int 0, .int 0, .int 0, .int 0, .int 0])), (a0, .inl (c0, 64, .inl (fun _ => 0))), (a1, .inl (c1, 64, .inl (fun _ => 0))), (a2, .inl (c2, 64, .inl (fun _ => 0))), (a3, .inl (c3, 16, .inl (fun _ => 0))), (a4, .inl (c4, 16, .inl (fun _ => 0))), (a5, .inl (c5, 16, .inl (fun _ => 0))), (a6, .inl (c6, 16, .inl (fun _ => 0))), (a7, .inl (c7, 16, .inl (fun _ => 0)))] := hD
  have hK : va_K D vwCl [(c0, .int), (c1, .int), (c2, .int), (c3, .int), (c4, .int), (c5, .int), (c6, .int), (c7, .int)] s := hK
  refine W.widen (k := 8) (n := 272) (Nat.le_of_ble_eq_true rfl) (Nat.le_of_ble_eq_true rfl) ?_
  refine va_putF (D := D) (ci := 0) (v := .ref a7) (ty := .array .int) (C := RX1) (T := TX1) (N := 21) hx hb hts in_X1 tyX1 tyX1_ok nmX1 hown hK hP hD hS 0 rfl rfl 7 (by decide) (hts _ q87) (fun _ h9 => h9) rfl hin rfl (by decide +kernel) rfl rfl (Nat.le_of_ble_eq_true rfl) dX1_init_65 (fun H locs hP hD hS => ?_)
  have hP : va_P D vwCl [(h, .inr (0, [.ref a0, .ref a1, .ref a2, .ref a3, .ref a4, .ref a5, .ref a6, .ref a7, .null, .null, .null, .null, .null, .null, .null, .null, .int 0, .int 0, .int 0, .int 0, .int 0])), (a0, .inl (c0, 64, .inl (fun _ => 0))), (a1, .inl (c1, 64, .inl (fun _ => 0))), (a2, .inl (c2, 64, .inl (fun _ => 0))), (a3, .inl (c3, 16, .inl (fun _ => 0))), (a4, .inl (c4, 16, .inl (fun _ => 0))), (a5, .inl (c5, 16, .inl (fun _ => 0))), (a6, .inl (c6, 16, .inl (fun _ => 0))), (a7, .inl (c7, 16, .inl (fun _ => 0)))] H := hP
  have hD : va_D A [(h, .inr (0, [.ref a0, .ref a1, .ref a2, .ref a3, .ref a4, .ref a5, .ref a6, .ref a7, .null, .null, .null, .null, .null, .null, .null, .null, .int 0, .int 0, .int 0, .int 0, .int 0])), (a0, .inl (c0, 64, .inl (fun _ => 0))), (a1, .inl (c1, 64, .inl (fun _ => 0))), (a2, .inl (c2, 64, .inl (fun _ => 0))), (a3, .inl (c3, 16, .inl (fun _ => 0))), (a4, .inl (c4, 16, .inl (fun _ => 0))), (a5, .inl (c5, 16, .inl (fun _ => 0))), (a6, .inl (c6, 16, .inl (fun _ => 0))), (a7, .inl (c7, 16, .inl (fun _ => 0)))] := hD
  refine lv_aload_n hx hb dX1_init_68 rfl (lv_at hl 0 rfl) ?_
  refine lv_bipush (v := 16) hx hb dX1_init_69 (by decide) ?_
  refine va_newa (atype := .int) (ty := .int) (N' := 16) (a0 := (16, .inl (fun _ => 0))) hx hb (hts _ q144) rfl hK hP hD hS hA (fun cA => rfl) (by decide) (by decide) (by decide) (Nat.le_of_ble_eq_true rfl) (Nat.le_of_ble_eq_true rfl) dX1_init_71 (fun a8 c8 H hK hP hD hS => ?_)
  have hP : va_P D vwCl [(h, .inr (0, [.ref a0, .ref a1, .ref a2, .ref a3, .ref a4, .ref a5, .ref a6, .ref a7, .null, .null, .null, .null, .null, .null, .null, .null, .int 0, .int 0, .int 0, .int 0, .int 0])), (a0, .inl (c0, 64, .inl (fun _ => 0))), (a1, .inl (c1, 64, .inl (fun _ => 0))), (a2, .inl (c2, 64, .inl (fun _ => 0))), (a3, .inl (c3, 16, .inl (fun _ => 0))), (a4, .inl (c4, 16, .inl (fun _ => 0))), (a5, .inl (c5, 16, .inl (fun _ => 0))), (a6, .inl (c6, 16, .inl (fun _ => 0))), (a7, .inl (c7, 16, .inl (fun _ => 0))), (a8, .inl (c8, 16, .inl (fun _ => 0)))] H := hP
  have hD : va_D A [(h, .inr (0, [.ref a0, .ref a1, .ref a2, .ref a3, .ref a4, .ref a5, .ref a6, .ref a7, .null, .null, .null, .null, .null, .null, .null, .null, .int 0, .int 0, .int 0, .int 0, .int 0])), (a0, .inl (c0, 64, .inl (fun _ => 0))), (a1, .inl (c1, 64, .inl (fun _ => 0))), (a2, .inl (c2, 64, .inl (fun _ => 0))), (a3, .inl (c3, 16, .inl (fun _ => 0))), (a4, .inl (c4, 16, .inl (fun _ => 0))), (a5, .inl (c5, 16, .inl (fun _ => 0))), (a6, .inl (c6, 16, .inl (fun _ => 0))), (a7, .inl (c7, 16, .inl (fun _ => 0))), (a8, .inl (c8, 16, .inl (fun _ => 0)))] := hD
  have hK : va_K D vwCl [(c0, .int), (c1, .int), (c2, .int), (c3, .int), (c4, .int), (c5, .int), (c6, .int), (c7, .int), (c8, .int)] s := hK
  refine W.widen (k := 9) (n := 288) (Nat.le_of_ble_eq_true rfl) (Nat.le_of_ble_eq_true rfl) ?_
  refine va_putF (D := D) (ci := 0) (v := .ref a8) (ty := .array .int) (C := RX1) (T := TX1) (N := 21) hx hb hts in_X1 tyX1 tyX1_ok nmX1 hown hK hP hD hS 0 rfl rfl 8 (by decide) (hts _ q88) (fun _ h9 => h9) rfl hin rfl (by decide +kernel) rfl rfl (Nat.le_of_ble_eq_true rfl) dX1_init_73 (fun H locs hP hD hS => ?_)
  have hP : va_P D vwCl [(h, .inr (0, [.ref a0, .ref a1, .ref a2, .ref a3, .ref a4, .ref a5, .ref a6, .ref a7, .ref a8, .null, .null, .null, .null, .null, .null, .null, .int 0, .int 0, .int 0, .int 0, .int 0])), (a0, .inl (c0, 64, .inl (fun _ => 0))), (a1, .inl (c1, 64, .inl (fun _ => 0))), (a2, .inl (c2, 64, .inl (fun _ => 0))), (a3, .inl (c3, 16, .inl (fun _ => 0))), (a4, .inl (c4, 16, .inl (fun _ => 0))), (a5, .inl (c5, 16, .inl (fun _ => 0))), (a6, .inl (c6, 16, .inl (fun _ => 0))), (a7, .inl (c7, 16, .inl (fun _ => 0))), (a8, .inl (c8, 16, .inl (fun _ => 0)))] H := hP
  have hD : va_D A [(h, .inr (0, [.ref a0, .ref a1, .ref a2, .ref a3, .ref a4, .ref a5, .ref a6, .ref a7, .ref a8, .null, .null, .null, .null, .null, .null, .null, .int 0, .int 0, .int 0, .int 0, .int 0])), (a0, .inl (c0, 64, .inl (fun _ => 0))), (a1, .inl (c1, 64, .inl (fun _ => 0))), (a2, .inl (c2, 64, .inl (fun _ => 0))), (a3, .inl (c3, 16, .inl (fun _ => 0))), (a4, .inl (c4, 16, .inl (fun _ => 0))), (a5, .inl (c5, 16, .inl (fun _ => 0))), (a6, .inl (c6, 16, .inl (fun _ => 0))), (a7, .inl (c7, 16, .inl (fun _ => 0))), (a8, .inl (c8, 16, .inl (fun _ => 0)))] := hD
  refine lv_aload_n hx hb dX1_init_76 rfl (lv_at hl 0 rfl) ?_
  refine lv_bipush (v := 16) hx hb dX1_init_77 (by decide) ?_
  refine va_newa (atype := .int) (ty := .int) (N' := 16) (a0 := (16, .inl (fun _ => 0))) hx hb (hts _ q144) rfl hK hP hD hS hA (fun cA => rfl) (by decide) (by decide) (by decide) (Nat.le_of_ble_eq_true rfl) (Nat.le_of_ble_eq_true rfl) dX1_init_79 (fun a9 c9 H hK hP hD hS => ?_)
  have hP : va_P D vwCl [(h, .inr (0, [.ref a0, .ref a1, .ref a2, .ref a3, .ref a4, .ref a5, .ref a6, .ref a7, .ref a8, .null, .null, .null, .null, .null, .null, .null, .int 0, .int 0, .int 0, .int 0, .int 0])), (a0, .inl (c0, 64, .inl (fun _ => 0))), (a1, .inl (c1, 64, .inl (fun _ => 0))), (a2, .inl (c2, 64, .inl (fun _ => 0))), (a3, .inl (c3, 16, .inl (fun _ => 0))), (a4, .inl (c4, 16, .inl (fun _ => 0))), (a5, .inl (c5, 16, .inl (fun _ => 0))), (a6, .inl (c6, 16, .inl (fun _ => 0))), (a7, .inl (c7, 16, .inl (fun _ => 0))), (a8, .inl (c8, 16, .inl (fun _ => 0))), (a9, .inl (c9, 16, .inl (fun _ => 0)))] H := hP
  have hD : va_D A [(h, .inr (0, [.ref a0, .ref a1, .ref a2, .ref a3, .ref a4, .ref a5, .ref a6, .ref a7, .ref a8, .null, .null, .null, .null, .null, .null, .null, .int 0, .int 0, .int 0, .int 0, .int 0])), (a0, .inl (c0, 64, .inl (fun _ => 0))), (a1, .inl (c1, 64, .inl (fun _ => 0))), (a2, .inl (c2, 64, .inl (fun _ => 0))), (a3, .inl (c3, 16, .inl (fun _ => 0))), (a4, .inl (c4, 16, .inl (fun _ => 0))), (a5, .inl (c5, 16, .inl (fun _ => 0))), (a6, .inl (c6, 16, .inl (fun _ => 0))), (a7, .inl (c7, 16, .inl (fun _ => 0))), (a8, .inl (c8, 16, .inl (fun _ => 0))), (a9, .inl (c9, 16, .inl (fun _ => 0)))] := hD
  have hK : va_K D vwCl [(c0, .int), (c1, .int), (c2, .int), (c3, .int), (c4, .int), (c5, .int), (c6, .int), (c7, .int), (c8, .int), (c9, .int)] s := hK
  refine W.widen (k := 10) (n := 304) (Nat.le_of_ble_eq_true rfl) (Nat.le_of_ble_eq_true rfl) ?_
  refine va_putF (D := D) (ci := 0) (v := .ref a9) (ty := .array .int) (C := RX1) (T := TX1) (N := 21) hx hb hts in_X1 tyX1 tyX1_ok nmX1 hown hK hP hD hS 0 rfl rfl 9 (by decide) (hts _ q89) (fun _ h9 => h9) rfl hin rfl (by decide +kernel) rfl rfl (Nat.le_of_ble_eq_true rfl) dX1_init_81 (fun H locs hP hD hS => ?_)
  have hP : va_P D vwCl [(h, .inr (0, [.ref a0, .ref a1, .ref a2, .ref a3, .ref a4, .ref a5, .ref a6, .ref a7, .ref a8, .ref a9, .null, .null, .null, .null, .null, .null, .int 0, .int 0, .int 0, .int 0, .int 0])), (a0, .inl (c0, 64, .inl (fun _ => 0))), (a1, .inl (c1, 64, .inl (fun _ => 0))), (a2, .inl (c2, 64, .inl (fun _ => 0))), (a3, .inl (c3, 16, .inl (fun _ => 0))), (a4, .inl (c4, 16, .inl (fun _ => 0))), (a5, .inl (c5, 16, .inl (fun _ => 0))), (a6, .inl (c6, 16, .inl (fun _ => 0))), (a7, .inl (c7, 16, .inl (fun _ => 0))), (a8, .inl (c8, 16, .inl (fun _ => 0))), (a9, .inl (c9, 16, .inl (fun _ => 0)))] H := hP
  have hD : va_D A [(h, .inr (0, [.ref a0, .ref a1, .ref a2, .ref a3, .ref a4, .ref a5, .ref a6, .ref a7, .ref a8, .ref a9, .null, .null, .null, .null, .null, .null, .int 0, .int 0, .int 0, .int 0, .int 0])), (a0, .inl (c0, 64, .inl (fun _ => 0))), (a1, .inl (c1, 64, .inl (fun _ => 0))), (a2, .inl (c2, 64, .inl (fun _ => 0))), (a3, .inl (c3, 16, .inl (fun _ => 0))), (a4, .inl (c4, 16, .inl (fun _ => 0))), (a5, .inl (c5, 16, .inl (fun _ => 0))), (a6, .inl (c6, 16, .inl (fun _ => 0))), (a7, .inl (c7, 16, .inl (fun _ => 0))), (a8, .inl (c8, 16, .inl (fun _ => 0))), (a9, .inl (c9, 16, .inl (fun _ => 0)))] := hD
  refine lv_aload_n hx hb dX1_init_84 rfl (lv_at hl 0 rfl) ?_
  refine lv_iconst (v := 4) hx hb dX1_init_85 (by decide) ?_
  refine va_newa (atype := .int) (ty := .int) (N' := 4) (a0 := (4, .inl (fun _ => 0))) hx hb (hts _ q144) rfl hK hP hD hS hA (fun cA => rfl) (by decide) (by decide) (by decide) (Nat.le_of_ble_eq_true rfl) (Nat.le_of_ble_eq_true rfl) dX1_init_86 (fun a10 c10 H hK hP hD hS => ?_)
  have hP : va_P D vwCl [(h, .inr (0, [.ref a0, .ref a1, .ref a2, .ref a3, .ref a4, .ref a5, .ref a6, .ref a7, .ref a8, .ref a9, .null, .null, .null, .null, .null, .null, .int 0, .int 0, .int 0, .int 0, .int 0])), (a0, .inl (c0, 64, .inl (fun _ => 0))), (a1, .inl (c1, 64, .inl (fun _ => 0))), (a2, .inl (c2, 64, .inl (fun _ => 0))), (a3, .inl (c3, 16, .inl (fun _ => 0))), (a4, .inl (c4, 16, .inl (fun _ => 0))), (a5, .inl (c5, 16, .inl (fun _ => 0))), (a6, .inl (c6, 16, .inl (fun _ => 0))), (a7, .inl (c7, 16, .inl (fun _ => 0))), (a8, .inl (c8, 16, .inl (fun _ => 0))), (a9, .inl (c9, 16, .inl (fun _ => 0))), (a10, .inl (c10, 4, .inl (fun _ => 0)))] H := hP
  have hD : va_D A [(h, .inr (0, [.ref a0, .ref a1, .ref a2, .ref a3, .ref a4, .ref a5, .ref a6, .ref a7, .ref a8, .ref a9, .null, .null, .null, .null, .null, .null, .int 0, .int 0, .int 0, .int 0, .int 0])), (a0, .inl (c0, 64, .inl (fun _ => 0))), (a1, .inl (c1, 64, .inl (fun _ => 0))), (a2, .inl (c2, 64, .inl (fun _ => 0))), (a3, .inl (c3, 16, .inl (fun _ => 0))), (a4, .inl (c4, 16, .inl (fun _ => 0))), (a5, .inl (c5, 16, .inl (fun _ => 0))), (a6, .inl (c6, 16, .inl (fun _ => 0))), (a7, .inl (c7, 16, .inl (fun _ => 0))), (a8, .inl (c8, 16, .inl (fun _ => 0))), (a9, .inl (c9, 16, .inl (fun _ => 0))), (a10, .inl (c10, 4, .inl (fun _ => 0)))] := hD
  have hK : va_K D vwCl [(c0, .int), (c1, .int), (c2, .int), (c3, .int), (c4, .int), (c5, .int), (c6, .int), (c7, .int), (c8, .int), (c9, .int), (c10, .int)] s := hK
  refine W.widen (k := 11) (n := 308) (Nat.le_of_ble_eq_true rfl) (Nat.le_of_ble_eq_true rfl) ?_
  refine va_putF (D := D) (ci := 0) (v := .ref a10) (ty := .array .int) (C := RX1) (T := TX1) (N := 21) hx hb hts in_X1 tyX1 tyX1_ok nmX1 hown hK hP hD hS 0 rfl rfl 10 (by decide) (hts _ q90) (fun _ h9 => h9) rfl hin rfl (by decide +kernel) rfl rfl (Nat.le_of_ble_eq_true rfl) dX1_init_88 (fun H locs hP hD hS => ?_)
  have hP : va_P D vwCl [(h, .inr (0, [.ref a0, .ref a1, .ref a2, .ref a3, .ref a4, .ref a5, .ref a6, .ref a7, .ref a8, .ref a9, .ref a10, .null, .null, .null, .null, .null, .int 0, .int 0, .int 0, .int 0, .int 0])), (a0, .inl (c0, 64, .inl (fun _ => 0))), (a1, .inl (c1, 64, .inl (fun _ => 0))), (a2, .inl (c2, 64, .inl (fun _ => 0))), (a3, .inl (c3, 16, .inl (fun _ => 0))), (a4, .inl (c4, 16, .inl (fun _ => 0))), (a5, .inl (c5, 16, .inl (fun _ => 0))), (a6, .inl (c6, 16, .inl (fun _ => 0))), (a7, .inl (c7, 16, .inl (fun _ => 0))), (a8, .inl (c8, 16, .inl (fun _ => 0))), (a9, .inl (c9, 16, .inl (fun _ => 0))), (a10, .inl (c10, 4, .inl (fun _ => 0)))] H := hP
  have hD : va_D A [(h, .inr (0, [.ref a0, .ref a1, .ref a2, .ref a3, .ref a4, .ref a5, .ref a6, .ref a7, .ref a8, .ref a9, .ref a10, .null, .null, .null, .null, .null, .int 0, .int 0, .int 0, .int 0, .int 0])), (a0, .inl (c0, 64, .inl (fun _ => 0))), (a1, .inl (c1, 64, .inl (fun _ => 0))), (a2, .inl (c2, 64, .inl (fun _ => 0))), (a3, .inl (c3, 16, .inl (fun _ => 0))), (a4, .inl (c4, 16, .inl (fun _ => 0))), (a5, .inl (c5, 16, .inl (fun _ => 0))), (a6, .inl (c6, 16, .inl (fun _ => 0))), (a7, .inl (c7, 16, .inl (fun _ => 0))), (a8, .inl (c8, 16, .inl (fun _ => 0))), (a9, .inl (c9, 16, .inl (fun _ => 0))), (a10, .inl (c10, 4, .inl (fun _ => 0)))] := hD
  refine lv_aload_n hx hb dX1_init_91 rfl (lv_at hl 0 rfl) ?_
  refine lv_iconst (v := 4) hx hb dX1_init_92 (by decide) ?_
  refine va_newa (atype := .int) (ty := .int) (N' := 4) (a0 := (4, .inl (fun _ => 0))) hx hb (hts _ q144) rfl hK hP hD hS hA (fun cA => rfl) (by decide) (by decide) (by decide) (Nat.le_of_ble_eq_true rfl) (Nat.le_of_ble_eq_true rfl) dX1_init_93 (fun a11 c11 H hK hP hD hS => ?_)
  have hP : va_P D vwCl [(h, .inr (0, [.ref a0, .ref a1, .ref a2, .ref a3, .ref a4, .ref a5, .ref a6, .ref a7, .ref a8, .ref a9, .ref a10, .null, .null, .null, .null, .null, .int 0, .int 0, .int 0, .int 0, .int 0])), (a0, .inl (c0, 64, .inl (fun _ => 0))), (a1, .inl (c1, 64, .inl (fun _ => 0))), (a2, .inl (c2, 64, .inl (fun _ => 0))), (a3, .inl (c3, 16, .inl (fun _ => 0))), (a4, .inl (c4, 16, .inl (fun _ => 0))), (a5, .inl (c5, 16, .inl (fun _ => 0))), (a6, .inl (c6, 16, .inl (fun _ => 0))), (a7, .inl (c7, 16, .inl (fun _ => 0))), (a8, .inl (c8, 16, .inl (fun _ => 0))), (a9, .inl (c9, 16, .inl (fun _ => 0))), (a10, .inl (c10, 4, .inl (fun _ => 0))), (a11, .inl (c11, 4, .inl (fun _ => 0)))] H := hP
  have hD : va_D A [(h, .inr (0, [.ref a0, .ref a1, .ref a2, .ref a3, .ref a4, .ref a5, .ref a6, .ref a7, .ref a8, .ref a9, .ref a10, .null, .null, .null, .null, .null, .int 0, .int 0, .int 0, .int 0, .int 0])), (a0, .inl (c0, 64, .inl (fun _ => 0))), (a1, .inl (c1, 64, .inl (fun _ => 0))), (a2, .inl (c2, 64, .inl (fun _ => 0))), (a3, .inl (c3, 16, .inl (fun _ => 0))), (a4, .inl (c4, 16, .inl (fun _ => 0))), (a5, .inl (c5, 16, .inl (fun _ => 0))), (a6, .inl (c6, 16, .inl (fun _ => 0))), (a7, .inl (c7, 16, .inl (fun _ => 0))), (a8, .inl (c8, 16, .inl (fun _ => 0))), (a9, .inl (c9, 16, .inl (fun _ => 0))), (a10, .inl (c10, 4, .inl (fun _ => 0))), (a11, .inl (c11, 4, .inl (fun _ => 0)))] := hD
  have hK : va_K D vwCl [(c0, .int), (c1, .int), (c2, .int), (c3, .int), (c4, .int), (c5, .int), (c6, .int), (c7, .int), (c8, .int), (c9, .int), (c10, .int), (c11, .int)] s := hK
  refine W.widen (k := 12) (n := 312) (Nat.le_of_ble_eq_true rfl) (Nat.le_of_ble_eq_true rfl) ?_
  refine va_putF (D := D) (ci := 0) (v := .ref a11) (ty := .array .int) (C := RX1) (T := TX1) (N := 21) hx hb hts in_X1 tyX1 tyX1_ok nmX1 hown hK hP hD hS 0 rfl rfl 11 (by decide) (hts _ q91) (fun _ h9 => h9) rfl hin rfl (by decide +kernel) rfl rfl (Nat.le_of_ble_eq_true rfl) dX1_init_95 (fun H locs hP hD hS => ?_)
  have hP : va_P D vwCl [(h, .inr (0, [.ref a0, .ref a1, .ref a2, .ref a3, .ref a4, .ref a5, .ref a6, .ref a7, .ref a8, .ref a9, .ref a10, .ref a11, .null, .null, .null, .null, .int 0, .int 0, .int 0, .int 0, .int 0])), (a0, .inl (c0, 64, .inl (fun _ => 0))), (a1, .inl (c1, 64, .inl (fun _ => 0))), (a2, .inl (c2, 64, .inl (fun _ => 0))), (a3, .inl (c3, 16, .inl (fun _ => 0))), (a4, .inl (c4, 16, .inl (fun _ => 0))), (a5, .inl (c5, 16, .inl (fun _ => 0))), (a6, .inl (c6, 16, .inl (fun _ => 0))), (a7, .inl (c7, 16, .inl (fun _ => 0))), (a8, .inl (c8, 16, .inl (fun _ => 0))), (a9, .inl (c9, 16, .inl (fun _ => 0))), (a10, .inl (c10, 4, .inl (fun _ => 0))), (a11, .inl (c11, 4, .inl (fun _ => 0)))] H := hP
  have hD : va_D A [(h, .inr (0, [.ref a0, .ref a1, .ref a2, .ref a3, .ref a4, .ref a5, .ref a6, .ref a7, .ref a8, .ref a9, .ref a10, .ref a11, .null, .null, .null, .null, .int 0, .int 0, .int 0, .int 0, .int 0])), (a0, .inl (c0, 64, .inl (fun _ => 0))), (a1, .inl (c1, 64, .inl (fun _ => 0))), (a2, .inl (c2, 64, .inl (fun _ => 0))), (a3, .inl (c3, 16, .inl (fun _ => 0))), (a4, .inl (c4, 16, .inl (fun _ => 0))), (a5, .inl (c5, 16, .inl (fun _ => 0))), (a6, .inl (c6, 16, .inl (fun _ => 0))), (a7, .inl (c7, 16, .inl (fun _ => 0))), (a8, .inl (c8, 16, .inl (fun _ => 0))), (a9, .inl (c9, 16, .inl (fun _ => 0))), (a10, .inl (c10, 4, .inl (fun _ => 0))), (a11, .inl (c11, 4, .inl (fun _ => 0)))] := hD
  refine lv_aload_n hx hb dX1_init_98 rfl (lv_at hl 0 rfl) ?_
  refine lv_iconst (v := 4) hx hb dX1_init_99 (by decide) ?_
  refine va_newa (atype := .int) (ty := .int) (N' := 4) (a0 := (4, .inl (fun _ => 0))) hx hb (hts _ q144) rfl hK hP hD hS hA (fun cA => rfl) (by decide) (by decide) (by decide) (Nat.le_of_ble_eq_true rfl) (Nat.le_of_ble_eq_true rfl) dX1_init_100 (fun a12 c12 H hK hP hD hS => ?_)
  have hP : va_P D vwCl [(h, .inr (0, [.ref a0, .ref a1, .ref a2, .ref a3, .ref a4, .ref a5, .ref a6, .ref a7, .ref a8, .ref a9, .ref a10, .ref a11, .null, .null, .null, .null, .int 0, .int 0, .int 0, .int 0, .int 0])), (a0, .inl (c0, 64, .inl (fun _ => 0))), (a1, .inl (c1, 64, .inl (fun _ => 0))), (a2, .inl (c2, 64, .inl (fun _ => 0))), (a3, .inl (c3, 16, .inl (fun _ => 0))), (a4, .inl (c4, 16, .inl (fun _ => 0))), (a5, .inl (c5, 16, .inl (fun _ => 0))), (a6, .inl (c6, 16, .inl (fun _ => 0))), (a7, .inl (c7, 16, .inl (fun _ => 0))), (a8, .inl (c8, 16, .inl (fun _ => 0))), (a9, .inl (c9, 16, .inl (fun _ => 0))), (a10, .inl (c10, 4, .inl (fun _ => 0))), (a11, .inl (c11, 4, .inl (fun _ => 0))), (a12, .inl (c12, 4, .inl (fun _ => 0)))] H := hP
  have hD : va_D A [(h, .inr (0, [.ref a0, .ref a1, .ref a2, .ref a3, .ref a4, .ref a5, .ref a6, .ref a7, .ref a8, .ref a9, .ref a10, .ref a11, .null, .null, .null, .null, .int 0, .int 0, .int 0, .int 0, .int 0])), (a0, .inl (c0, 64, .inl (fun _ => 0))), (a1, .inl (c1, 64, .inl (fun _ => 0))), (a2, .inl (c2, 64, .inl (fun _ => 0))), (a3, .inl (c3, 16, .inl (fun _ => 0))), (a4, .inl (c4, 16, .inl (fun _ => 0))), (a5, .inl (c5, 16, .inl (fun _ => 0))), (a6, .inl (c6, 16, .inl (fun _ => 0))), (a7, .inl (c7, 16, .inl (fun _ => 0))), (a8, .inl (c8, 16, .inl (fun _ => 0))), (a9, .inl (c9, 16, .inl (fun _ => 0))), (a10, .inl (c10, 4, .inl (fun _ => 0))), (a11, .inl (c11, 4, .inl (fun _ => 0))), (a12, .inl (c12, 4, .inl (fun _ => 0)))] := hD
  have hK : va_K D vwCl [(c0, .int), (c1, .int), (c2, .int), (c3, .int), (c4, .int), (c5, .int), (c6, .int), (c7, .int), (c8, .int), (c9, .int), (c10, .int), (c11, .int), (c12, .int)] s := hK
  refine W.widen (k := 13) (n := 316) (Nat.le_of_ble_eq_true rfl) (Nat.le_of_ble_eq_true rfl) ?_
  refine va_putF (D := D) (ci := 0) (v := .ref a12) (ty := .array .int) (C := RX1) (T := TX1) (N := 21) hx hb hts in_X1 tyX1 tyX1_ok nmX1 hown hK hP hD hS 0 rfl rfl 12 (by decide) (hts _ q92) (fun _ h9 => h9) rfl hin rfl (by decide +kernel) rfl rfl (Nat.le_of_ble_eq_true rfl) dX1_init_102 (fun H locs hP hD hS => ?_)
  have hP : va_P D vwCl [(h, .inr (0, [.ref a0, .ref a1, .ref a2, .ref a3, .ref a4, .ref a5, .ref a6, .ref a7, .ref a8, .ref a9, .ref a10, .ref a11, .ref a12, .null, .null, .null, .int 0, .int 0, .int 0, .int 0, .int 0])), (a0, .inl (c0, 64, .inl (fun _ => 0))), (a1, .inl (c1, 64, .inl (fun _ => 0))), (a2, .inl (c2, 64, .inl (fun _ => 0))), (a3, .inl (c3, 16, .inl (fun _ => 0))), (a4, .inl (c4, 16, .inl (fun _ => 0))), (a5, .inl (c5, 16, .inl (fun _ => 0))), (a6, .inl (c6, 16, .inl (fun _ => 0))), (a7, .inl (c7, 16, .inl (fun _ => 0))), (a8, .inl (c8, 16, .inl (fun _ => 0))), (a9, .inl (c9, 16, .inl (fun _ => 0))), (a10, .inl (c10, 4, .inl (fun _ => 0))), (a11, .inl (c11, 4, .inl (fun _ => 0))), (a12, .inl (c12, 4, .inl (fun _ => 0)))] H := hP
  have hD : va_D A [(h, .inr (0, [.ref a0, .ref a1, .ref a2, .ref a3, .ref a4, .ref a5, .ref a6, .ref a7, .ref a8, .ref a9, .ref a10, .ref a11, .ref a12, .null, .null, .null, .int 0, .int 0, .int 0, .int 0, .int 0])), (a0, .inl (c0, 64, .inl (fun _ => 0))), (a1, .inl (c1, 64, .inl (fun _ => 0))), (a2, .inl (c2, 64, .inl (fun _ => 0))), (a3, .inl (c3, 16, .inl (fun _ => 0))), (a4, .inl (c4, 16, .inl (fun _ => 0))), (a5, .inl (c5, 16, .inl (fun _ => 0))), (a6, .inl (c6, 16, .inl (fun _ => 0))), (a7, .inl (c7, 16, .inl (fun _ => 0))), (a8, .inl (c8, 16, .inl (fun _ => 0))), (a9, .inl (c9, 16, .inl (fun _ => 0))), (a10, .inl (c10, 4, .inl (fun _ => 0))), (a11, .inl (c11, 4, .inl (fun _ => 0))), (a12, .inl (c12, 4, .inl (fun _ => 0)))] := hD
  refine lv_aload_n hx hb dX1_init_105 rfl (lv_at hl 0 rfl) ?_
  refine lv_iconst (v := 4) hx hb dX1_init_106 (by decide) ?_
  refine va_newa (atype := .int) (ty := .int) (N' := 4) (a0 := (4, .inl (fun _ => 0))) hx hb (hts _ q144) rfl hK hP hD hS hA (fun cA => rfl) (by decide) (by decide) (by decide) (Nat.le_of_ble_eq_true rfl) (Nat.le_of_ble_eq_true rfl) dX1_init_107 (fun a13 c13 H hK hP hD hS => ?_)
  have hP : va_P D vwCl [(h, .inr (0, [.ref a0, .ref a1, .ref a2, .ref a3, .ref a4, .ref a5, .ref a6, .ref a7, .ref a8, .ref a9, .ref a10, .ref a11, .ref a12, .null, .null, .null, .int 0, .int 0, .int 0, .int 0, .int 0])), (a0, .inl (c0, 64, .inl (fun _ => 0))), (a1, .inl (c1, 64, .inl (fun _ => 0))), (a2, .inl (c2, 64, .inl (fun _ => 0))), (a3, .inl (c3, 16, .inl (fun _ => 0))), (a4, .inl (c4, 16, .inl (fun _ => 0))), (a5, .inl (c5, 16, .inl (fun _ => 0))), (a6, .inl (c6, 16, .inl (fun _ => 0))), (a7, .inl (c7, 16, .inl (fun _ => 0))), (a8, .inl (c8, 16, .inl (fun _ => 0))), (a9, .inl (c9, 16, .inl (fun _ => 0))), (a10, .inl (c10, 4, .inl (fun _ => 0))), (a11, .inl (c11, 4, .inl (fun _ => 0))), (a12, .inl (c12, 4, .inl (fun _ => 0))), (a13, .inl (c13, 4, .inl (fun _ => 0)))] H := hP
  have hD : va_D A [(h, .inr (0, [.ref a0, .ref a1, .ref a2, .ref a3, .ref a4, .ref a5, .ref a6, .ref a7, .ref a8, .ref a9, .ref a10, .ref a11, .ref a12, .null, .null, .null, .int 0, .int 0, .int 0, .int 0, .int 0])), (a0, .inl (c0, 64, .inl (fun _ => 0))), (a1, .inl (c1, 64, .inl (fun _ => 0))), (a2, .inl (c2, 64, .inl (fun _ => 0))), (a3, .inl (c3, 16, .inl (fun _ => 0))), (a4, .inl (c4, 16, .inl (fun _ => 0))), (a5, .inl (c5, 16, .inl (fun _ => 0))), (a6, .inl (c6, 16, .inl (fun _ => 0))), (a7, .inl (c7, 16, .inl (fun _ => 0))), (a8, .inl (c8, 16, .inl (fun _ => 0))), (a9, .inl (c9, 16, .inl (fun _ => 0))), (a10, .inl (c10, 4, .inl (fun _ => 0))), (a11, .inl (c11, 4, .inl (fun _ => 0))), (a12, .inl (c12, 4, .inl (fun _ => 0))), (a13, .inl (c13, 4, .inl (fun _ => 0)))] := hD
  have hK : va_K D vwCl [(c0, .int), (c1, .int), (c2, .int), (c3, .int), (c4, .int), (c5, .int), (c6, .int), (c7, .int), (c8, .int), (c9, .int), (c10, .int), (c11, .int), (c12, .int), (c13, .int)] s := hK
  refine W.widen (k := 14) (n := 320) (Nat.le_of_ble_eq_true rfl) (Nat.le_of_ble_eq_true rfl) ?_
  refine va_putF (D := D) (ci := 0) (v := .ref a13) (ty := .array .int) (C := RX1) (T := TX1) (N := 21) hx hb hts in_X1 tyX1 tyX1_ok nmX1 hown hK hP hD hS 0 rfl rfl 13 (by decide) (hts _ q93) (fun _ h9 => h9) rfl hin rfl (by decide +kernel) rfl rfl (Nat.le_of_ble_eq_true rfl) dX1_init_109 (fun H locs hP hD hS => ?_)
  have hP : va_P D vwCl [(h, .inr (0, [.ref a0, .ref a1, .ref a2, .ref a3, .ref a4, .ref a5, .ref a6, .ref a7, .ref a8, .ref a9, .ref a10, .ref a11, .ref a12, .ref a13, .null, .null, .int 0, .int 0, .int 0, .int 0, .int 0])), (a0, .inl (c0, 64, .inl (fun _ => 0))), (a1, .inl (c1, 64, .inl (fun _ => 0))), (a2, .inl (c2, 64, .inl (fun _ => 0))), (a3, .inl (c3, 16, .inl (fun _ => 0))), (a4, .inl (c4, 16, .inl (fun _ => 0))), (a5, .inl (c5, 16, .inl (fun _ => 0))), (a6, .inl (c6, 16, .inl (fun _ => 0))), (a7, .inl (c7, 16, .inl (fun _ => 0))), (a8, .inl (c8, 16, .inl (fun _ => 0))), (a9, .inl (c9, 16, .inl (fun _ => 0))), (a10, .inl (c10, 4, .inl (fun _ => 0))), (a11, .inl (c11, 4, .inl (fun _ => 0))), (a12, .inl (c12, 4, .inl (fun _ => 0))), (a13, .inl (c13, 4, .inl (fun _ => 0)))] H := hP
  have hD : va_D A [(h, .inr (0, [.ref a0, .ref a1, .ref a2, .ref a3, .ref a4, .ref a5, .ref a6, .ref a7, .ref a8, .ref a9, .ref a10, .ref a11, .ref a12, .ref a13, .null, .null, .int 0, .int 0, .int 0, .int 0, .int 0])), (a0, .inl (c0, 64, .inl (fun _ => 0))), (a1, .inl (c1, 64, .inl (fun _ => 0))), (a2, .inl (c2, 64, .inl (fun _ => 0))), (a3, .inl (c3, 16, .inl (fun _ => 0))), (a4, .inl (c4, 16, .inl (fun _ => 0))), (a5, .inl (c5, 16, .inl (fun _ => 0))), (a6, .inl (c6, 16, .inl (fun _ => 0))), (a7, .inl (c7, 16, .inl (fun _ => 0))), (a8, .inl (c8, 16, .inl (fun _ => 0))), (a9, .inl (c9, 16, .inl (fun _ => 0))), (a10, .inl (c10, 4, .inl (fun _ => 0))), (a11, .inl (c11, 4, .inl (fun _ => 0))), (a12, .inl (c12, 4, .inl (fun _ => 0))), (a13, .inl (c13, 4, .inl (fun _ => 0)))] := hD
  refine lv_aload_n hx hb dX1_init_112 rfl (lv_at hl 0 rfl) ?_
  refine lv_bipush (v := 32) hx hb dX1_init_113 (by decide) ?_
  refine va_newa (atype := .int) (ty := .int) (N' := 32) (a0 := (32, .inl (fun _ => 0))) hx hb (hts _ q144) rfl hK hP hD hS hA (fun cA => rfl) (by decide) (by decide) (by decide) (Nat.le_of_ble_eq_true rfl) (Nat.le_of_ble_eq_true rfl) dX1_init_115 (fun a14 c14 H hK hP hD hS => ?_)
  have hP : va_P D vwCl [(h, .inr (0, [.ref a0, .ref a1, .ref a2, .ref a3, .ref a4, .ref a5, .ref a6, .ref a7, .ref a8, .ref a9, .ref a10, .ref a11, .ref a12, .ref a13, .null, .null, .int 0, .int 0, .int 0, .int 0, .int 0])), (a0, .inl (c0, 64, .inl (fun _ => 0))), (a1, .inl (c1, 64, .inl (fun _ => 0))), (a2, .inl (c2, 64, .inl (fun _ => 0))), (a3, .inl (c3, 16, .inl (fun _ => 0))), (a4, .inl (c4, 16, .inl (fun _ => 0))), (a5, .inl (c5, 16, .inl (fun _ => 0))), (a6, .inl (c6, 16, .inl (fun _ => 0))), (a7, .inl (c7, 16, .inl (fun _ => 0))), (a8, .inl (c8, 16, .inl (fun _ => 0))), (a9, .inl (c9, 16, .inl (fun _ => 0))), (a10, .inl (c10, 4, .inl (fun _ => 0))), (a11, .inl (c11, 4, .inl (fun _ => 0))), (a12, .inl (c12, 4, .inl (fun _ => 0))), (a13, .inl (c13, 4, .inl (fun _ => 0))), (a14, .inl (c14, 32, .inl (fun _ => 0)))] H := hP
  have hD : va_D A [(h, .inr (0, [.ref a0, .ref a1, .ref a2, .ref a3, .ref a4, .ref a5, .ref a6, .ref a7, .ref a8, .ref a9, .ref a10, .ref a11, .ref a12, .ref a13, .null, .null, .int 0, .int 0, .int 0, .int 0, .int 0])), (a0, .inl (c0, 64, .inl (fun _ => 0))), (a1, .inl (c1, 64, .inl (fun _ => 0))), (a2, .inl (c2, 64, .inl (fun _ => 0))), (a3, .inl (c3, 16, .inl (fun _ => 0))), (a4, .inl (c4, 16, .inl (fun _ => 0))), (a5, .inl (c5, 16, .inl (fun _ => 0))), (a6, .inl (c6, 16, .inl (fun _ => 0))), (a7, .inl (c7, 16, .inl (fun _ => 0))), (a8, .inl (c8, 16, .inl (fun _ => 0))), (a9, .inl (c9, 16, .inl (fun _ => 0))), (a10, .inl (c10, 4, .inl (fun _ => 0))), (a11, .inl (c11, 4, .inl (fun _ => 0))), (a12, .inl (c12, 4, .inl (fun _ => 0))), (a13, .inl (c13, 4, .inl (fun _ => 0))), (a14, .inl (c14, 32, .inl (fun _ => 0)))] := hD
  have hK : va_K D vwCl [(c0, .int), (c1, .int), (c2, .int), (c3, .int), (c4, .int), (c5, .int), (c6, .int), (c7, .int), (c8, .int), (c9, .int), (c10, .int), (c11, .int), (c12, .int), (c13, .int), (c14, .int)] s := hK
  refine W.widen (k := 15) (n := 352) (Nat.le_of_ble_eq_true rfl) (Nat.le_of_ble_eq_true rfl) ?_
  refine va_putF (D := D) (ci := 0) (v := .ref a14) (ty := .array .int) (C := RX1) (T := TX1) (N := 21) hx hb hts in_X1 tyX1 tyX1_ok nmX1 hown hK hP hD hS 0 rfl rfl 14 (by decide) (hts _ q94) (fun _ h9 => h9) rfl hin rfl (by decide +kernel) rfl rfl (Nat.le_of_ble_eq_true rfl) dX1_init_117 (fun H locs hP hD hS => ?_)
  have hP : va_P D vwCl [(h, .inr (0, [.ref a0, .ref a1, .ref a2, .ref a3, .ref a4, .ref a5, .ref a6, .ref a7, .ref a8, .ref a9, .ref a10, .ref a11, .ref a12, .ref a13, .ref a14, .null, .int 0, .int 0, .int 0, .int 0, .int 0])), (a0, .inl (c0, 64, .inl (fun _ => 0))), (a1, .inl (c1, 64, .inl (fun _ => 0))), (a2, .inl (c2, 64, .inl (fun _ => 0))), (a3, .inl (c3, 16, .inl (fun _ => 0))), (a4, .inl (c4, 16, .inl (fun _ => 0))), (a5, .inl (c5, 16, .inl (fun _ => 0))), (a6, .inl (c6, 16, .inl (fun _ => 0))), (a7, .inl (c7, 16, .inl (fun _ => 0))), (a8, .inl (c8, 16, .inl (fun _ => 0))), (a9, .inl (c9, 16, .inl (fun _ => 0))), (a10, .inl (c10, 4, .inl (fun _ => 0))), (a11, .inl (c11, 4, .inl (fun _ => 0))), (a12, .inl (c12, 4, .inl (fun _ => 0))), (a13, .inl (c13, 4, .inl (fun _ => 0))), (a14, .inl (c14, 32, .inl (fun _ => 0)))] H := hP
  have hD : va_D A [(h, .inr (0, [.ref a0, .ref a1, .ref a2, .ref a3, .ref a4, .ref a5, .ref a6, .ref a7, .ref a8, .ref a9, .ref a10, .ref a11, .ref a12, .ref a13, .ref a14, .null, .int 0, .int 0, .int 0, .int 0, .int 0])), (a0, .inl (c0, 64, .inl (fun _ => 0))), (a1, .inl (c1, 64, .inl (fun _ => 0))), (a2, .inl (c2, 64, .inl (fun _ => 0))), (a3, .inl (c3, 16, .inl (fun _ => 0))), (a4, .inl (c4, 16, .inl (fun _ => 0))), (a5, .inl (c5, 16, .inl (fun _ => 0))), (a6, .inl (c6, 16, .inl (fun _ => 0))), (a7, .inl (c7, 16, .inl (fun _ => 0))), (a8, .inl (c8, 16, .inl (fun _ => 0))), (a9, .inl (c9, 16, .inl (fun _ => 0))), (a10, .inl (c10, 4, .inl (fun _ => 0))), (a11, .inl (c11, 4, .inl (fun _ => 0))), (a12, .inl (c12, 4, .inl (fun _ => 0))), (a13, .inl (c13, 4, .inl (fun _ => 0))), (a14, .inl (c14, 32, .inl (fun _ => 0)))] := hD
  refine lv_aload_n hx hb dX1_init_120 rfl (lv_at hl 0 rfl) ?_
  refine lv_bipush (v := 16) hx hb dX1_init_121 (by decide) ?_
  refine va_newa (atype := .int) (ty := .int) (N' := 16) (a0 := (16, .inl (fun _ => 0))) hx hb (hts _ q144) rfl hK hP hD hS hA (fun cA => rfl) (by decide) (by decide) (by decide) (Nat.le_of_ble_eq_true rfl) (Nat.le_of_ble_eq_true rfl) dX1_init_123 (fun a15 c15 H hK hP hD hS => ?_)
  have hP : va_P D vwCl [(h, .inr (0, [.ref a0, .ref a1, .ref a2, .ref a3, .ref a4, .ref a5, .ref a6, .ref a7, .ref a8, .ref a9, .ref a10, .ref a11, .ref a12, .ref a13, .ref a14, .null, .int 0, .int 0, .int 0, .int 0, .int 0])), (a0, .inl (c0, 64, .inl (fun _ => 0))), (a1, .inl (c1, 64, .inl (fun _ => 0))), (a2, .inl (c2, 64, .inl (fun _ => 0))), (a3, .inl (c3, 16, .inl (fun _ => 0))), (a4, .inl (c4, 16, .inl (fun _ => 0))), (a5, .inl (c5, 16, .inl (fun _ => 0))), (a6, .inl (c6, 16, .inl (fun _ => 0))), (a7, .inl (c7, 16, .inl (fun _ => 0))), (a8, .inl (c8, 16, .inl (fun _ => 0))), (a9, .inl (c9, 16, .inl (fun _ => 0))), (a10, .inl (c10, 4, .inl (fun _ => 0))), (a11, .inl (c11, 4, .inl (fun _ => 0))), (a12, .inl (c12, 4, .inl (fun _ => 0))), (a13, .inl (c13, 4, .inl (fun _ => 0))), (a14, .inl (c14, 32, .inl (fun _ => 0))), (a15, .inl (c15, 16, .inl (fun _ => 0)))] H := hP
  have hD : va_D A [(h, .inr (0, [.ref a0, .ref a1, .ref a2, .ref a3, .ref a4, .ref a5, .ref a6, .ref a7, .ref a8, .ref a9, .ref a10, .ref a11, .ref a12, .ref a13, .ref a14, .null, .int 0, .int 0, .int 0, .int 0, .int 0])), (a0, .inl (c0, 64, .inl (fun _ => 0))), (a1, .inl (c1, 64, .inl (fun _ => 0))), (a2, .inl (c2, 64, .inl (fun _ => 0))), (a3, .inl (c3, 16, .inl (fun _ => 0))), (a4, .inl (c4, 16, .inl (fun _ => 0))), (a5, .inl (c5, 16, .inl (fun _ => 0))), (a6, .inl (c6, 16, .inl (fun _ => 0))), (a7, .inl (c7, 16, .inl (fun _ => 0))), (a8, .inl (c8, 16, .inl (fun _ => 0))), (a9, .inl (c9, 16, .inl (fun _ => 0))), (a10, .inl (c10, 4, .inl (fun _ => 0))), (a11, .inl (c11, 4, .inl (fun _ => 0))), (a12, .inl (c12, 4, .inl (fun _ => 0))), (a13, .inl (c13, 4, .inl (fun _ => 0))), (a14, .inl (c14, 32, .inl (fun _ => 0))), (a15, .inl (c15, 16, .inl (fun _ => 0)))] := hD
  have hK : va_K D vwCl [(c0, .int), (c1, .int), (c2, .int), (c3, .int), (c4, .int), (c5, .int), (c6, .int), (c7, .int), (c8, .int), (c9, .int), (c10, .int), (c11, .int), (c12, .int), (c13, .int), (c14, .int), (c15, .int)] s := hK
  refine W.widen (k := 16) (n := 368) (Nat.le_of_ble_eq_true rfl) (Nat.le_of_ble_eq_true rfl) ?_
  refine va_putF (D := D) (ci := 0) (v := .ref a15) (ty := .array .int) (C := RX1) (T := TX1) (N := 21) hx hb hts in_X1 tyX1 tyX1_ok nmX1 hown hK hP hD hS 0 rfl rfl 15 (by decide) (hts _ q95) (fun _ h9 => h9) rfl hin rfl (by decide +kernel) rfl rfl (Nat.le_of_ble_eq_true rfl) dX1_init_125 (fun H locs hP hD hS => ?_)
  have hP : va_P D vwCl [(h, .inr (0, [.ref a0, .ref a1, .ref a2, .ref a3, .ref a4, .ref a5, .ref a6, .ref a7, .ref a8, .ref a9, .ref a10, .ref a11, .ref a12, .ref a13, .ref a14, .ref a15, .int 0, .int 0, .int 0, .int 0, .int 0])), (a0, .inl (c0, 64, .inl (fun _ => 0))), (a1, .inl (c1, 64, .inl (fun _ => 0))), (a2, .inl (c2, 64, .inl (fun _ => 0))), (a3, .inl (c3, 16, .inl (fun _ => 0))), (a4, .inl (c4, 16, .inl (fun _ => 0))), (a5, .inl (c5, 16, .inl (fun _ => 0))), (a6, .inl (c6, 16, .inl (fun _ => 0))), (a7, .inl (c7, 16, .inl (fun _ => 0))), (a8, .inl (c8, 16, .inl (fun _ => 0))), (a9, .inl (c9, 16, .inl (fun _ => 0))), (a10, .inl (c10, 4, .inl (fun _ => 0))), (a11, .inl (c11, 4, .inl (fun _ => 0))), (a12, .inl (c12, 4, .inl (fun _ => 0))), (a13, .inl (c13, 4, .inl (fun _ => 0))), (a14, .inl (c14, 32, .inl (fun _ => 0))), (a15, .inl (c15, 16, .inl (fun _ => 0)))] H := hP
  have hD : va_D A [(h, .inr (0, [.ref a0, .ref a1, .ref a2, .ref a3, .ref a4, .ref a5, .ref a6, .ref a7, .ref a8, .ref a9, .ref a10, .ref a11, .ref a12, .ref a13, .ref a14, .ref a15, .int 0, .int 0, .int 0, .int 0, .int 0])), (a0, .inl (c0, 64, .inl (fun _ => 0))), (a1, .inl (c1, 64, .inl (fun _ => 0))), (a2, .inl (c2, 64, .inl (fun _ => 0))), (a3, .inl (c3, 16, .inl (fun _ => 0))), (a4, .inl (c4, 16, .inl (fun _ => 0))), (a5, .inl (c5, 16, .inl (fun _ => 0))), (a6, .inl (c6, 16, .inl (fun _ => 0))), (a7, .inl (c7, 16, .inl (fun _ => 0))), (a8, .inl (c8, 16, .inl (fun _ => 0))), (a9, .inl (c9, 16, .inl (fun _ => 0))), (a10, .inl (c10, 4, .inl (fun _ => 0))), (a11, .inl (c11, 4, .inl (fun _ => 0))), (a12, .inl (c12, 4, .inl (fun _ => 0))), (a13, .inl (c13, 4, .inl (fun _ => 0))), (a14, .inl (c14, 32, .inl (fun _ => 0))), (a15, .inl (c15, 16, .inl (fun _ => 0)))] := hD
  have hK2 : va_K D vwCl (ow_t 16 (fun k => match k with | 0 => c0 | 1 => c1 | 2 => c2 | 3 => c3 | 4 => c4 | 5 => c5 | 6 => c6 | 7 => c7 | 8 => c8 | 9 => c9 | 10 => c10 | 11 => c11 | 12 => c12 | 13 => c13 | 14 => c14 | _ => c15)) s := hK
  have w : ow_W 0 16 5 xlen D A h (fun k => match k with | 0 => a0 | 1 => a1 | 2 => a2 | 3 => a3 | 4 => a4 | 5 => a5 | 6 => a6 | 7 => a7 | 8 => a8 | 9 => a9 | 10 => a10 | 11 => a11 | 12 => a12 | 13 => a13 | 14 => a14 | _ => a15) (fun k => match k with | 0 => c0 | 1 => c1 | 2 => c2 | 3 => c3 | 4 => c4 | 5 => c5 | 6 => c6 | 7 => c7 | 8 => c8 | 9 => c9 | 10 => c10 | 11 => c11 | 12 => c12 | 13 => c13 | 14 => c14 | _ => c15) (fun _ => 0) (fun _ _ => 0) s H locs := ⟨hP, hD, hS⟩
  exact c1_initB ⟨⟨hx, hb, hml, hown, hts⟩, hK2, hA, hr, hlocks⟩ w hl (fun hd hp w => fin hK2 hd hp w)
abbrev fsX2 : List Value := [.null, .null, .null, .int 0]
set_option maxHeartbeats 4000000 in
set_option maxRecDepth 100000 in
theorem c2_init (l : Launch) (D : va_G) (h sz : Nat) (x : Int32) : Met l yX2_init (ws_ yX2_init cX2_init 2 none) rmJ (va_Pc [.ref h, .int x] (fun U => U.heap.size = sz ∧ va_P D vwCl [(h, .inr (1, fsX2))] U.heap ∧ va_K D vwCl [] U ∧ va_D (fun _ => True) [(h, .inr (1, fsX2))]))
    (va_Qv (fun (u : (Nat → Nat) × (Nat → ClassId) × (Nat → Int32) × (Nat → Nat → Int32)) => PM u.2.2.1 u.2.2.2 (fun _ => 0) (fun _ => 0) 0) (fun u t => va_P D vwCl (ow_w 1 3 1 mlen h u.1 u.2.1 u.2.2.1 u.2.2.2) t.heap ∧ va_K D vwCl (ow_t 3 u.2.1) t ∧ va_D (va_A [(h, .inr (1, fsX2))] sz) (ow_w 1 3 1 mlen h u.1 u.2.1 u.2.2.1 u.2.2.2)) (va_A [(h, .inr (1, fsX2))] sz)) 3 64 (va_A [(h, .inr (1, fsX2))] sz) := by
  refine Met.ofW (cc := cX2_init) (maxL := 2) (ret := none) (by decide) rfl ?_
  intro p e s m args below meth c s₁ B hml hv
  obtain ⟨rfl, hsz, hP, hK, hD0⟩ := hv
  have hx := B.exec
  have hb := B.bytes
  have hr := B.returns
  have hts := atoms_spec (ws := ws_ yX2_init cX2_init 2 none) B.pre
  have hts : ∀ w ∈ lw_all, w.before _ s = true := fun w h => hts w (List.mem_cons_of_mem _ h)
  have hown : s.vm.findClass RX2 = some m.cls := findClass_of_methodNamed B.named
  have hlocks := B.notSynchronized
  have hin : meth.name = "<init>" := (name_of_methodNamed B.named B.method).1
  subst hsz
  have hD := hD0.self (sz := s.heap.size)
  generalize hAe : va_A [(h, .inr (1, fsX2))] s.heap.size = A at hD ⊢
  have hA : ∀ q : Nat, s.heap.size ≤ q → A q := fun q h => by rw [← hAe]; exact Or.inr h
  have hS : va_S A s.heap s.heap [] := va_S.rf
  have hl := lv_entry ([.ref h, .int x]) (n := 2) (Nat.le_of_ble_eq_true rfl)
  rw [lg_entry_eq]
  generalize (lg_sl ([.ref h, .int x]) ++ List.replicate (2 - (lg_sl ([.ref h, .int x])).length) Slot.unset).toArray = ls at hl ⊢
  have hl : lv_has ls 2 [(0, .ref h), (1, .int x)] := hl
  have fin : ∀ {pc : Nat} {ad : Nat → Nat} {dA : Nat → ClassId} {f1 : Nat → Int32} {g1 : Nat → Nat → Int32} {H : Heap} {locs : List Loc} {ls : Array Slot}, va_K D vwCl (ow_t 3 dA) s → decode cX2_init pc = .ok (.return_, 1) → PM f1 g1 (fun _ => 0) (fun _ => 0) 0 → ow_W 1 3 1 mlen D A h ad dA f1 g1 s H locs → W p l e rmJ s m ([.ref h, .int x] : List Value).toArray below meth c H locs 3 64 (MQ below (va_Qv (fun (u : (Nat → Nat) × (Nat → ClassId) × (Nat → Int32) × (Nat → Nat → Int32)) => PM u.2.2.1 u.2.2.2 (fun _ => 0) (fun _ => 0) 0) (fun u t => va_P D vwCl (ow_w 1 3 1 mlen h u.1 u.2.1 u.2.2.1 u.2.2.2) t.heap ∧ va_K D vwCl (ow_t 3 u.2.1) t ∧ va_D A (ow_w 1 3 1 mlen h u.1 u.2.1 u.2.2.1 u.2.2.2)) A) ([.ref h, .int x] : List Value).toArray s 3 64 A) (F0 m pc ls []) := by
    intro pc ad dA f1 g1 H locs ls hK1 hd hp w
    exact W.vret hx hb hr (fun t ht hW => ⟨⟨(ad, dA, f1, g1), rfl, hp, by subst ht; exact w.1, va_K.moved hW.alike hK1, w.2.1⟩, w.2.2.F ht⟩) w.2.2.2.2 hd
  generalize (MQ below (va_Qv (fun (u : (Nat → Nat) × (Nat → ClassId) × (Nat → Int32) × (Nat → Nat → Int32)) => PM u.2.2.1 u.2.2.2 (fun _ => 0) (fun _ => 0) 0) (fun u t => va_P D vwCl (ow_w 1 3 1 mlen h u.1 u.2.1 u.2.2.1 u.2.2.2) t.heap ∧ va_K D vwCl (ow_t 3 u.2.1) t ∧ va_D A (ow_w 1 3 1 mlen h u.1 u.2.1 u.2.2.1 u.2.2.2)) A) ([.ref h, .int x] : List Value).toArray s 3 64 A) = Q at fin ⊢
  generalize ([.ref h, .int x] : List Value).toArray = args at hts fin ⊢
  show W p l e rmJ s m args below meth c s.heap [] 0 0 Q (F0 m 0 ls [])
  refine lv_aload_n hx hb dX2_init_0 rfl (lv_at hl 0 rfl) ?_
  refine W.objInit hx hb hown (hts _ q237) (hts _ q26) (hts _ q27) rfl (by rw [hml]; exact hl.1) rfl dX2_init_1 (Nat.le_of_ble_eq_true rfl) (Nat.le_of_ble_eq_true rfl) ?_
  refine W.eq (g2 := F0 m 4 ls []) rfl ?_
  refine lv_aload_n hx hb dX2_init_4 rfl (lv_at hl 0 rfl) ?_
  refine lv_bipush (v := 16) hx hb dX2_init_5 (by decide) ?_
  refine va_newa (atype := .int) (ty := .int) (N' := 16) (a0 := (16, .inl (fun _ => 0))) hx hb (hts _ q144) rfl hK hP hD hS hA (fun cA => rfl) (by decide) (by decide) (by decide) (Nat.le_of_ble_eq_true rfl) (Nat.le_of_ble_eq_true rfl) dX2_init_7 (fun a0 c0 H hK hP hD hS => ?_)
  have hP : va_P D vwCl [(h, .inr (1, [.null, .null, .null, .int 0])), (a0, .inl (c0, 16, .inl (fun _ => 0)))] H := hP
  have hD : va_D A [(h, .inr (1, [.null, .null, .null, .int 0])), (a0, .inl (c0, 16, .inl (fun _ => 0)))] := hD
  have hK : va_K D vwCl [(c0, .int)] s := hK
  refine W.widen (k := 1) (n := 16) (Nat.le_of_ble_eq_true rfl) (Nat.le_of_ble_eq_true rfl) ?_
  refine va_put (D := D) (ci := 1) (v := .ref a0) (ty := .array .int) (C := RX2) (T := TX2) (N := 4) hx hb hts in_X2 tyX2 tyX2_ok nmX2 hown hK hP hD hS 0 rfl rfl 0 (by decide) (hts _ q238) (fun _ h9 => h9) rfl (by decide +kernel) rfl rfl (Nat.le_of_ble_eq_true rfl) dX2_init_9 (fun H locs hP hD hS => ?_)
  have hP : va_P D vwCl [(h, .inr (1, [.ref a0, .null, .null, .int 0])), (a0, .inl (c0, 16, .inl (fun _ => 0)))] H := hP
  have hD : va_D A [(h, .inr (1, [.ref a0, .null, .null, .int 0])), (a0, .inl (c0, 16, .inl (fun _ => 0)))] := hD
  refine lv_aload_n hx hb dX2_init_12 rfl (lv_at hl 0 rfl) ?_
  refine lv_bipush (v := 16) hx hb dX2_init_13 (by decide) ?_
  refine va_newa (atype := .int) (ty := .int) (N' := 16) (a0 := (16, .inl (fun _ => 0))) hx hb (hts _ q144) rfl hK hP hD hS hA (fun cA => rfl) (by decide) (by decide) (by decide) (Nat.le_of_ble_eq_true rfl) (Nat.le_of_ble_eq_true rfl) dX2_init_15 (fun a1 c1 H hK hP hD hS => ?_)
  have hP : va_P D vwCl [(h, .inr (1, [.ref a0, .null, .null, .int 0])), (a0, .inl (c0, 16, .inl (fun _ => 0))), (a1, .inl (c1, 16, .inl (fun _ => 0)))] H := hP
  have hD : va_D A [(h, .inr (1, [.ref a0, .null, .null, .int 0])), (a0, .inl (c0, 16, .inl (fun _ => 0))), (a1, .inl (c1, 16, .inl (fun _ => 0)))] := hD
  have hK : va_K D vwCl [(c0, .int), (c1, .int)] s := hK
  refine W.widen (k := 2) (n := 32) (Nat.le_of_ble_eq_true rfl) (Nat.le_of_ble_eq_true rfl) ?_
  refine va_put (D := D) (ci := 1) (v := .ref a1) (ty := .array .int) (C := RX2) (T := TX2) (N := 4) hx hb hts in_X2 tyX2 tyX2_ok nmX2 hown hK hP hD hS 0 rfl rfl 1 (by decide) (hts _ q239) (fun _ h9 => h9) rfl (by decide +kernel) rfl rfl (Nat.le_of_ble_eq_true rfl) dX2_init_17 (fun H locs hP hD hS => ?_)
  have hP : va_P D vwCl [(h, .inr (1, [.ref a0, .ref a1, .null, .int 0])), (a0, .inl (c0, 16, .inl (fun _ => 0))), (a1, .inl (c1, 16, .inl (fun _ => 0)))] H := hP
  have hD : va_D A [(h, .inr (1, [.ref a0, .ref a1, .null, .int 0])), (a0, .inl (c0, 16, .inl (fun _ => 0))), (a1, .inl (c1, 16, .inl (fun _ => 0)))] := hD
  refine lv_aload_n hx hb dX2_init_20 rfl (lv_at hl 0 rfl) ?_
  refine lv_bipush (v := 32) hx hb dX2_init_21 (by decide) ?_
  refine va_newa (atype := .int) (ty := .int) (N' := 32) (a0 := (32, .inl (fun _ => 0))) hx hb (hts _ q144) rfl hK hP hD hS hA (fun cA => rfl) (by decide) (by decide) (by decide) (Nat.le_of_ble_eq_true rfl) (Nat.le_of_ble_eq_true rfl) dX2_init_23 (fun a2 c2 H hK hP hD hS => ?_)
  have hP : va_P D vwCl [(h, .inr (1, [.ref a0, .ref a1, .null, .int 0])), (a0, .inl (c0, 16, .inl (fun _ => 0))), (a1, .inl (c1, 16, .inl (fun _ => 0))), (a2, .inl (c2, 32, .inl (fun _ => 0)))] H := hP
  have hD : va_D A [(h, .inr (1, [.ref a0, .ref a1, .null, .int 0])), (a0, .inl (c0, 16, .inl (fun _ => 0))), (a1, .inl (c1, 16, .inl (fun _ => 0))), (a2, .inl (c2, 32, .inl (fun _ => 0)))] := hD
  have hK : va_K D vwCl [(c0, .int), (c1, .int), (c2, .int)] s := hK
  refine W.widen (k := 3) (n := 64) (Nat.le_of_ble_eq_true rfl) (Nat.le_of_ble_eq_true rfl) ?_
  refine va_put (D := D) (ci := 1) (v := .ref a2) (ty := .array .int) (C := RX2) (T := TX2) (N := 4) hx hb hts in_X2 tyX2 tyX2_ok nmX2 hown hK hP hD hS 0 rfl rfl 2 (by decide) (hts _ q240) (fun _ h9 => h9) rfl (by decide +kernel) rfl rfl (Nat.le_of_ble_eq_true rfl) dX2_init_25 (fun H locs hP hD hS => ?_)
  have hP : va_P D vwCl [(h, .inr (1, [.ref a0, .ref a1, .ref a2, .int 0])), (a0, .inl (c0, 16, .inl (fun _ => 0))), (a1, .inl (c1, 16, .inl (fun _ => 0))), (a2, .inl (c2, 32, .inl (fun _ => 0)))] H := hP
  have hD : va_D A [(h, .inr (1, [.ref a0, .ref a1, .ref a2, .int 0])), (a0, .inl (c0, 16, .inl (fun _ => 0))), (a1, .inl (c1, 16, .inl (fun _ => 0))), (a2, .inl (c2, 32, .inl (fun _ => 0)))] := hD
  have hK2 : va_K D vwCl (ow_t 3 (fun k => match k with | 0 => c0 | 1 => c1 | _ => c2)) s := hK
  have w : ow_W 1 3 1 mlen D A h (fun k => match k with | 0 => a0 | 1 => a1 | _ => a2) (fun k => match k with | 0 => c0 | 1 => c1 | _ => c2) (fun _ => 0) (fun _ _ => 0) s H locs := ⟨hP, hD, hS⟩
  exact fin hK2 dX2_init_28 ⟨rfl, rfl, rfl⟩ w
end
section
/-! THE CLAIM OUT OF ONE WALK OF THE LAW'S BODY. Your part is whole_start (and what it stands on); all else here is the same for every law, but numbers. -/
def R_law : String := "PathOramLaw"
def lw_P (b : Addr) (xs : List Int32) (args : Array Value) (s : State) : Prop := args = #[.ref b] ∧ s.IntsAt b xs ∧ xs.length ≤ 321 ∧ (Jvm.Cond.and given_1 narrow_1).before args s = true
def lw_Q (_ : Array Value) (s : State) (o : Outcome) (t : State) : Prop := o = .returned (some (.int 1)) ∧ Framed s o t [] 600000 7290000
def lw_Z (below : List Frame) (a : Array Value) (s : State) : State → Prop := fun t => ∃ o, t.status = .running ∧ Ended t below o ∧ lw_Q a s o t
/-- the law's own end, with 1 on the stack, nothing written that was there before, its room as the claim has it -/
theorem lw_ret {p : Program} {l : Launch} {e : Env} {s : State} {m : MethodId} {below : List Frame} {meth : Method} {c : Code} {b : Nat} (hx : p.tables.exec = Jvm.exec) (hb : c.code = code) (hr : meth.sig.returnType = ret) (hlocks : meth.locks = false) {pc : Nat} {H : Heap} {ls : Array Slot} (hdg : decode code pc = .ok (.ireturn, 1)) : W p l e room_1 s m #[Value.ref b] below meth c H [] 600000 7290000 (lw_Z below #[Value.ref b] s) (F0 m pc ls [.int 1]) := by
  intro T hT X
  obtain ⟨fs, hret, hrun, hended, hW, hframe⟩ := X.leave (v := some (.int 1)) (hlocks := hlocks) (fun h => by rw [hr] at h; cases h)
  have hmeth' : T.vm.method? m = some meth := X.method'
  refine ⟨T.setFrames fs, ?_, .returned (some (.int 1)), hrun, hended, rfl, ⟨_, rfl⟩, hW, hframe⟩
  jvm_step X.here [X.here.top, hx, hb, hdg, hmeth', hr, ret, narrow_b1]
  (try refine ⟨rfl, ?_⟩); (try refine ⟨rfl, ?_⟩)
  first | (intro acts; rw [hret _ acts rfl rfl rfl]) | rw [hret _ _ rfl rfl rfl]
  exact Steps.refl _
/-- what holds at the law's entry: the machine, the code, the tables' words (any of lw_tbl by 'hts w (by decide +kernel)'), the script of L ints xs at the cell b, what the Statement gives of the start (any of its parts by flat_of_before) -/
def lw_At (p : Program) (s : State) (m : MethodId) (meth : Method) (c : Code) (b L : Nat) (xs : Nat → Int32) : Prop :=
  p.tables.exec = Jvm.exec ∧ c.code = code ∧ meth.sig.returnType = ret ∧ c.maxLocals = 4 ∧ s.vm.findClass R_law = some m.cls ∧ (∀ w ∈ lw_tbl, w.before #[Value.ref b] s = true) ∧ va_X b L xs s s.heap ∧ b < s.heap.size ∧ meth.locks = false ∧ (Jvm.Cond.and given_1 narrow_1).before #[Value.ref b] s = true
/-! two worlds side by side: a call of one object's method leaves the other alone -/
def ow_is (h : Nat) (ad : Nat → Nat) (nA : Nat) (a : Nat) : Prop := a = h ∨ ∃ j, j < nA ∧ a = ad j
theorem ow_isOf {ci nA nF k : Nat} {len : Nat → Nat} {h : Nat} {ad : Nat → Nat} {dA : Nat → ClassId} {f : Nat → Int32} {g : Nat → Nat → Int32} {q : Nat × va_E} (hq : (ow_w ci nA nF len h ad dA f g)[k]? = some q) : ow_is h ad nA q.1 := by
  rcases ow_ad hq with ⟨-, e⟩ | ⟨j, hj, -, e⟩
  · exact Or.inl e
  · exact Or.inr ⟨j, hj, e⟩
def ow_ap (h : Nat) (ad : Nat → Nat) (nA : Nat) (h2 : Nat) (ad2 : Nat → Nat) (nA2 : Nat) : Prop := ∀ a, ow_is h ad nA a → ow_is h2 ad2 nA2 a → False
section OW2
variable {p : Program} {l : Launch} {e : Env} {R : Room} {s : State} {m : MethodId} {args : Array Value} {below : List Frame} {meth : Method} {c : Code} {H : Heap} {locs : List Loc} {cells slots : Nat} {Q : State → Prop}
variable {pc : Nat} {ls : Array Slot} {rest st0 : List Value} {cc : ByteArray} {nL : Nat} {rt : Option FieldType} {own C : String} {T : u_T} {ty : Nat → FieldType} {ci nA nF : Nat} {len : Nat → Nat} {D : va_G} {A : Nat → Prop} {h : Nat} {ad : Nat → Nat} {dA : Nat → ClassId} {f : Nat → Int32} {g : Nat → Nat → Int32}
variable {ci2 nA2 nF2 : Nat} {len2 : Nat → Nat} {h2 : Nat} {ad2 : Nat → Nat} {dA2 : Nat → ClassId} {f2 : Nat → Int32} {g2 : Nat → Nat → Int32}
theorem ow_kept {H1 : Heap} (w2 : ow_W ci2 nA2 nF2 len2 D A h2 ad2 dA2 f2 g2 s H locs) (ap : ow_ap h ad nA h2 ad2 nA2) (hk : ∀ q : Nat, q < H.size → ¬ va_A (ow_w ci nA nF len h ad dA f g) H.size q → H1[q]? = H[q]?) : va_P D vwCl (ow_w ci2 nA2 nF2 len2 h2 ad2 dA2 f2 g2) H1 := by
  refine w2.1.kept (fun k q hq => ?_)
  have hlt := (w2.1 k q hq).lt
  refine hk q.1 hlt (fun hA1 => ?_)
  rcases hA1 with ⟨k', e, hk'⟩ | hk'
  · exact ap q.1 (ow_isOf (q := (q.1, e)) hk') (ow_isOf hq)
  · omega
theorem ow_calli2 {y : MethodName} {b : ByteArray} {L n index : Nat} {rt' : FieldType} {rm : Room} {As : List Value} {post : Int32 → (Nat → Int32) → (Nat → Nat → Int32) → Prop} (KC : ow_C ci C T ty nA nF len) (E : ow_E nA p m meth c cc nL rt s args own D A dA) (w : ow_W ci nA nF len D A h ad dA f g s H locs) (w2 : ow_W ci2 nA2 nF2 len2 D A h2 ad2 dA2 f2 g2 s H locs) (ap : ow_ap h ad nA h2 ad2 nA2) (hM : ow_MI ci nA nF len l y b L rt' rm D h ad dA As f g post) (cw : CallW R s args own C index y b L (some rt') (ws_ y b L (some rt')) rm 0 0 n) (hn : As.length = n) (hls : ls.size = nL) (hst : st0 = As.reverse ++ .ref h :: rest) (hW : (rest.map fun v => v.category).sum ≤ 8) (hdg : decode cc pc = .ok (.invokevirtual index, 3)) (hcs : cells ≤ R.cells ∧ slots ≤ R.slots)
    (kk : ∀ (r : Int32) (f1 : Nat → Int32) (g1 : Nat → Nat → Int32) (H1 : Heap) (locs1 : List Loc), post r f1 g1 → ow_W ci nA nF len D A h ad dA f1 g1 s H1 locs1 → ow_W ci2 nA2 nF2 len2 D A h2 ad2 dA2 f2 g2 s H1 locs1 → W p l e R s m args below meth c H1 locs1 cells slots Q (F0 m (pc + 3) ls (.int r :: rest))) : W p l e R s m args below meth c H locs cells slots Q (F0 m pc ls st0) := by
  have hF := ow_free E w
  refine va_calli (va_runV E.1 (hM H.size) cw ⟨ow_pre, va_recv E.2.1 w.1 KC.1 ow_o, fun U hU hW => ⟨rfl, by rw [hU], by rw [hU]; exact w.1, va_K.moved hW.alike E.2.1, w.2.1.weaken (fun _ _ _ _ => trivial)⟩⟩ rfl hn hls hst (lv_room hW) hdg hcs) w.2.2 (fun q _ h => hF q h) hF (fun r u t H1 locs1 ht hvm hp hB hz hk hS => ?_)
  rw [ht] at hB
  exact kk r u.1 u.2 H1 locs1 hp ⟨hB, ow_D w.2.1, hS⟩ ⟨ow_kept w2 ap hk, w2.2.1, hS⟩
theorem ow_callv2 {y : MethodName} {b : ByteArray} {L n index : Nat} {rm : Room} {As : List Value} {post : (Nat → Int32) → (Nat → Nat → Int32) → Prop} (KC : ow_C ci C T ty nA nF len) (E : ow_E nA p m meth c cc nL rt s args own D A dA) (w : ow_W ci nA nF len D A h ad dA f g s H locs) (w2 : ow_W ci2 nA2 nF2 len2 D A h2 ad2 dA2 f2 g2 s H locs) (ap : ow_ap h ad nA h2 ad2 nA2) (hM : ow_MV ci nA nF len l y b L rm D h ad dA As f g post) (cw : CallW R s args own C index y b L none (ws_ y b L none) rm 0 0 n) (hn : As.length = n) (hls : ls.size = nL) (hst : st0 = As.reverse ++ .ref h :: rest) (hW : (rest.map fun v => v.category).sum ≤ 8) (hdg : decode cc pc = .ok (.invokevirtual index, 3)) (hcs : cells ≤ R.cells ∧ slots ≤ R.slots)
    (kk : ∀ (f1 : Nat → Int32) (g1 : Nat → Nat → Int32) (H1 : Heap) (locs1 : List Loc), post f1 g1 → ow_W ci nA nF len D A h ad dA f1 g1 s H1 locs1 → ow_W ci2 nA2 nF2 len2 D A h2 ad2 dA2 f2 g2 s H1 locs1 → W p l e R s m args below meth c H1 locs1 cells slots Q (F0 m (pc + 3) ls rest)) : W p l e R s m args below meth c H locs cells slots Q (F0 m pc ls st0) := by
  have hF := ow_free E w
  refine va_callv (va_runV E.1 (hM H.size) cw ⟨ow_pre, va_recv E.2.1 w.1 KC.1 ow_o, fun U hU hW => ⟨rfl, by rw [hU], by rw [hU]; exact w.1, va_K.moved hW.alike E.2.1, w.2.1.weaken (fun _ _ _ _ => trivial)⟩⟩ rfl hn hls hst (lv_room hW) hdg hcs) w.2.2 (fun q _ h => hF q h) hF (fun u t H1 locs1 ht hvm hp hB hz hk hS => ?_)
  rw [ht] at hB
  exact kk u.1 u.2 H1 locs1 hp ⟨hB, ow_D w.2.1, hS⟩ ⟨ow_kept w2 ap hk, w2.2.1, hS⟩
/-- the script's int at the place i -/
theorem l_sld {b L : Nat} {xs : Nat → Int32} (hexec : p.tables.exec = Jvm.exec) (hb : c.code = cc) (hX : va_X b L xs s s.heap) (hbl : b < s.heap.size) (hbA : ¬ A b) (hS : va_S A s.heap H locs) (i : Nat) (hi : i < L) (hL : L < 2 ^ 31) (hdg : decode cc pc = .ok (.iaload, 1)) (kk : W p l e R s m args below meth c H locs cells slots Q (F0 m (pc + 1) ls (.int (xs i) :: rest))) : W p l e R s m args below meth c H locs cells slots Q (F0 m pc ls (.int (nI i) :: .ref b :: rest)) := by
  refine va_sld hexec hb hX hbl hbA hS (vp_in_nI hi hL) hdg ?_
  rw [nI_clamp (by omega)]
  exact kk
end OW2
/-- the two sides' flags: touched or not yet -/
def TU (t u : Int32) : Prop := (t = 0 ∧ u = 0) ∨ (t = nI 4 ∧ u = 1)
theorem TU.ite {P : Prop} {d : Decidable P} {t u : Int32} (h : TU t u) : TU (@ite _ P d (nI 4) t) (@ite _ P d 1 u) := by
  by_cases q : P
  · rw [if_pos q, if_pos q]
    exact Or.inr ⟨rfl, rfl⟩
  · rw [if_neg q, if_neg q]
    exact h
theorem PX.stir {f f1 : Nat → Int32} {g : Nat → Nat → Int32} {val snap : Nat → Int32} {t : Int32} (h : PX f g val snap t) (h1 : ∃ x, f1 = va_up f 2 x) : PX f1 g val snap t := by
  obtain ⟨x, e⟩ := h1
  obtain ⟨⟨n, lf, a1, a2⟩, h2, h3⟩ := h
  subst e
  exact ⟨⟨n, lf, a1.cg rfl rfl (fun _ _ => rfl), a2.cg rfl (fun _ _ _ => rfl)⟩, h2, h3⟩
section LROWS
variable {p : Program} {l : Launch} {e : Env} {R : Room} {s : State} {m : MethodId} {args : Array Value} {below : List Frame} {meth : Method} {c : Code} {H : Heap} {locs : List Loc} {cells slots : Nat} {Q : State → Prop}
variable {pc : Nat} {ls : Array Slot} {rest : List Value} {cc : ByteArray} {nL : Nat} {rt : Option FieldType} {D : va_G} {A : Nat → Prop} {h : Nat} {ad : Nat → Nat} {dA : Nat → ClassId} {f : Nat → Int32} {g : Nat → Nat → Int32}
variable {h2 : Nat} {ad2 : Nat → Nat} {dA2 : Nat → ClassId} {f2 : Nat → Int32} {g2 : Nat → Nat → Int32}
theorem l1_read {b : Int32} {val snap : Nat → Int32} {t : Int32} (E : ow_E 16 p m meth c cc nL rt s args R_law D A dA) (w : ow_W 0 16 5 xlen D A h ad dA f g s H locs) (w2 : ow_W 1 3 1 mlen D A h2 ad2 dA2 f2 g2 s H locs) (ap : ow_ap h ad 16 h2 ad2 3) (hls : ls.size = nL) (hW : (rest.map fun v => v.category).sum ≤ 8) (hdg : decode cc pc = .ok (.invokevirtual 25, 3)) (hR : (rmD 5).frames + 1 ≤ R.frames ∧ 8 + (2 + 11) + (rmD 5).locals ≤ R.locals) (hcs : cells ≤ R.cells ∧ slots ≤ R.slots) (hP : PX f g val snap t) (kk : ∀ (r : Int32) (f1 : Nat → Int32) (g1 : Nat → Nat → Int32) (H1 : Heap) (locs1 : List Loc), (fun r f1 g1 => r = (if inb b = true then val (ixb b) else 0) ∧ PX f1 g1 val snap (if inb b = true then nI 4 else t)) r f1 g1 → ow_W 0 16 5 xlen D A h ad dA f1 g1 s H1 locs1 → ow_W 1 3 1 mlen D A h2 ad2 dA2 f2 g2 s H1 locs1 → W p l e R s m args below meth c H1 locs1 cells slots Q (F0 m (pc + 3) ls (.int r :: rest))) : W p l e R s m args below meth c H locs cells slots Q (F0 m pc ls (.int b :: .ref h :: rest)) :=
  ow_calli2 xC E w w2 ap (c1_read l D h ad dA f g b val snap t hP) (cwV 1 E.1.2.2.2.2 (lw_V q146 q147 q148 q18 q149) rfl rfl rfl (by decide +kernel) hR) rfl hls rfl hW hdg hcs kk
theorem l2_read {b : Int32} {val snap : Nat → Int32} {u : Int32} (E : ow_E 3 p m meth c cc nL rt s args R_law D A dA) (w : ow_W 1 3 1 mlen D A h ad dA f g s H locs) (w2 : ow_W 0 16 5 xlen D A h2 ad2 dA2 f2 g2 s H locs) (ap : ow_ap h ad 3 h2 ad2 16) (hls : ls.size = nL) (hW : (rest.map fun v => v.category).sum ≤ 8) (hdg : decode cc pc = .ok (.invokevirtual 29, 3)) (hR : (rmD 1).frames + 1 ≤ R.frames ∧ 8 + (2 + 11) + (rmD 1).locals ≤ R.locals) (hcs : cells ≤ R.cells ∧ slots ≤ R.slots) (hP : PM f g val snap u) (kk : ∀ (r : Int32) (f1 : Nat → Int32) (g1 : Nat → Nat → Int32) (H1 : Heap) (locs1 : List Loc), (fun r f1 g1 => r = (if inb b = true then val (ixb b) else 0) ∧ PM f1 g1 val snap (if inb b = true then 1 else u)) r f1 g1 → ow_W 1 3 1 mlen D A h ad dA f1 g1 s H1 locs1 → ow_W 0 16 5 xlen D A h2 ad2 dA2 f2 g2 s H1 locs1 → W p l e R s m args below meth c H1 locs1 cells slots Q (F0 m (pc + 3) ls (.int r :: rest))) : W p l e R s m args below meth c H locs cells slots Q (F0 m pc ls (.int b :: .ref h :: rest)) :=
  ow_calli2 mC E w w2 ap (c2_read l D h ad dA f g b val snap u hP) (cwV 1 E.1.2.2.2.2 (lw_V q255 q256 q257 q19 q258) rfl rfl rfl (by decide +kernel) hR) rfl hls rfl hW hdg hcs kk
theorem l1_write {b v : Int32} {val snap : Nat → Int32} {t : Int32} (E : ow_E 16 p m meth c cc nL rt s args R_law D A dA) (w : ow_W 0 16 5 xlen D A h ad dA f g s H locs) (w2 : ow_W 1 3 1 mlen D A h2 ad2 dA2 f2 g2 s H locs) (ap : ow_ap h ad 16 h2 ad2 3) (hls : ls.size = nL) (hW : (rest.map fun v => v.category).sum ≤ 8) (hdg : decode cc pc = .ok (.invokevirtual 30, 3)) (hR : (rmD 5).frames + 1 ≤ R.frames ∧ 8 + (3 + 11) + (rmD 5).locals ≤ R.locals) (hcs : cells ≤ R.cells ∧ slots ≤ R.slots) (hP : PX f g val snap t) (kk : ∀ (r : Int32) (f1 : Nat → Int32) (g1 : Nat → Nat → Int32) (H1 : Heap) (locs1 : List Loc), (fun r f1 g1 => r = (if inb b = true then 0 else -1) ∧ PX f1 g1 (if inb b = true then upd val (ixb b) v else val) snap (if inb b = true then nI 4 else t)) r f1 g1 → ow_W 0 16 5 xlen D A h ad dA f1 g1 s H1 locs1 → ow_W 1 3 1 mlen D A h2 ad2 dA2 f2 g2 s H1 locs1 → W p l e R s m args below meth c H1 locs1 cells slots Q (F0 m (pc + 3) ls (.int r :: rest))) : W p l e R s m args below meth c H locs cells slots Q (F0 m pc ls (.int v :: .int b :: .ref h :: rest)) :=
  ow_calli2 xC E w w2 ap (c1_write l D h ad dA f g b v val snap t hP) (cwV 2 E.1.2.2.2.2 (lw_V q161 q162 q163 q18 q164) rfl rfl rfl (by decide +kernel) hR) rfl hls rfl hW hdg hcs kk
theorem l2_write {b v : Int32} {val snap : Nat → Int32} {u : Int32} (E : ow_E 3 p m meth c cc nL rt s args R_law D A dA) (w : ow_W 1 3 1 mlen D A h ad dA f g s H locs) (w2 : ow_W 0 16 5 xlen D A h2 ad2 dA2 f2 g2 s H locs) (ap : ow_ap h ad 3 h2 ad2 16) (hls : ls.size = nL) (hW : (rest.map fun v => v.category).sum ≤ 8) (hdg : decode cc pc = .ok (.invokevirtual 34, 3)) (hR : (rmD 1).frames + 1 ≤ R.frames ∧ 8 + (3 + 11) + (rmD 1).locals ≤ R.locals) (hcs : cells ≤ R.cells ∧ slots ≤ R.slots) (hP : PM f g val snap u) (kk : ∀ (r : Int32) (f1 : Nat → Int32) (g1 : Nat → Nat → Int32) (H1 : Heap) (locs1 : List Loc), (fun r f1 g1 => r = (if inb b = true then 0 else -1) ∧ PM f1 g1 (if inb b = true then upd val (ixb b) v else val) snap (if inb b = true then 1 else u)) r f1 g1 → ow_W 1 3 1 mlen D A h ad dA f1 g1 s H1 locs1 → ow_W 0 16 5 xlen D A h2 ad2 dA2 f2 g2 s H1 locs1 → W p l e R s m args below meth c H1 locs1 cells slots Q (F0 m (pc + 3) ls (.int r :: rest))) : W p l e R s m args below meth c H locs cells slots Q (F0 m pc ls (.int v :: .int b :: .ref h :: rest)) :=
  ow_calli2 mC E w w2 ap (c2_write l D h ad dA f g b v val snap u hP) (cwV 2 E.1.2.2.2.2 (lw_V q263 q264 q265 q19 q266) rfl rfl rfl (by decide +kernel) hR) rfl hls rfl hW hdg hcs kk
theorem l1_add {b v : Int32} {val snap : Nat → Int32} {t : Int32} (E : ow_E 16 p m meth c cc nL rt s args R_law D A dA) (w : ow_W 0 16 5 xlen D A h ad dA f g s H locs) (w2 : ow_W 1 3 1 mlen D A h2 ad2 dA2 f2 g2 s H locs) (ap : ow_ap h ad 16 h2 ad2 3) (hls : ls.size = nL) (hW : (rest.map fun v => v.category).sum ≤ 8) (hdg : decode cc pc = .ok (.invokevirtual 35, 3)) (hR : (rmD 5).frames + 1 ≤ R.frames ∧ 8 + (4 + 11) + (rmD 5).locals ≤ R.locals) (hcs : cells ≤ R.cells ∧ slots ≤ R.slots) (hP : PX f g val snap t) (kk : ∀ (r : Int32) (f1 : Nat → Int32) (g1 : Nat → Nat → Int32) (H1 : Heap) (locs1 : List Loc), (fun r f1 g1 => r = (if inb b = true then val (ixb b) + v else 0) ∧ PX f1 g1 (if inb b = true then upd val (ixb b) (val (ixb b) + v) else val) snap (if inb b = true then nI 4 else t)) r f1 g1 → ow_W 0 16 5 xlen D A h ad dA f1 g1 s H1 locs1 → ow_W 1 3 1 mlen D A h2 ad2 dA2 f2 g2 s H1 locs1 → W p l e R s m args below meth c H1 locs1 cells slots Q (F0 m (pc + 3) ls (.int r :: rest))) : W p l e R s m args below meth c H locs cells slots Q (F0 m pc ls (.int v :: .int b :: .ref h :: rest)) :=
  ow_calli2 xC E w w2 ap (c1_add l D h ad dA f g b v val snap t hP) (cwV 2 E.1.2.2.2.2 (lw_V q165 q166 q167 q18 q168) rfl rfl rfl (by decide +kernel) hR) rfl hls rfl hW hdg hcs kk
theorem l2_add {b v : Int32} {val snap : Nat → Int32} {u : Int32} (E : ow_E 3 p m meth c cc nL rt s args R_law D A dA) (w : ow_W 1 3 1 mlen D A h ad dA f g s H locs) (w2 : ow_W 0 16 5 xlen D A h2 ad2 dA2 f2 g2 s H locs) (ap : ow_ap h ad 3 h2 ad2 16) (hls : ls.size = nL) (hW : (rest.map fun v => v.category).sum ≤ 8) (hdg : decode cc pc = .ok (.invokevirtual 38, 3)) (hR : (rmD 1).frames + 1 ≤ R.frames ∧ 8 + (3 + 11) + (rmD 1).locals ≤ R.locals) (hcs : cells ≤ R.cells ∧ slots ≤ R.slots) (hP : PM f g val snap u) (kk : ∀ (r : Int32) (f1 : Nat → Int32) (g1 : Nat → Nat → Int32) (H1 : Heap) (locs1 : List Loc), (fun r f1 g1 => r = (if inb b = true then val (ixb b) + v else 0) ∧ PM f1 g1 (if inb b = true then upd val (ixb b) (val (ixb b) + v) else val) snap (if inb b = true then 1 else u)) r f1 g1 → ow_W 1 3 1 mlen D A h ad dA f1 g1 s H1 locs1 → ow_W 0 16 5 xlen D A h2 ad2 dA2 f2 g2 s H1 locs1 → W p l e R s m args below meth c H1 locs1 cells slots Q (F0 m (pc + 3) ls (.int r :: rest))) : W p l e R s m args below meth c H locs cells slots Q (F0 m pc ls (.int v :: .int b :: .ref h :: rest)) :=
  ow_calli2 mC E w w2 ap (c2_add l D h ad dA f g b v val snap u hP) (cwV 2 E.1.2.2.2.2 (lw_V q267 q268 q269 q19 q270) rfl rfl rfl (by decide +kernel) hR) rfl hls rfl hW hdg hcs kk
theorem l1_exchange {b d : Int32} {val snap : Nat → Int32} {t : Int32} (E : ow_E 16 p m meth c cc nL rt s args R_law D A dA) (w : ow_W 0 16 5 xlen D A h ad dA f g s H locs) (w2 : ow_W 1 3 1 mlen D A h2 ad2 dA2 f2 g2 s H locs) (ap : ow_ap h ad 16 h2 ad2 3) (hls : ls.size = nL) (hW : (rest.map fun v => v.category).sum ≤ 8) (hdg : decode cc pc = .ok (.invokevirtual 39, 3)) (hR : (rmD 5).frames + 1 ≤ R.frames ∧ 8 + (5 + 11) + (rmD 5).locals ≤ R.locals) (hcs : cells ≤ R.cells ∧ slots ≤ R.slots) (hP : PX f g val snap t) (kk : ∀ (r : Int32) (f1 : Nat → Int32) (g1 : Nat → Nat → Int32) (H1 : Heap) (locs1 : List Loc), (fun r f1 g1 => r = (if inb b = true ∧ inb d = true then 0 else -1) ∧ PX f1 g1 (if inb b = true ∧ inb d = true then upd (upd val (ixb b) (val (ixb d))) (ixb d) (val (ixb b)) else val) snap (if inb b = true ∧ inb d = true then nI 4 else t)) r f1 g1 → ow_W 0 16 5 xlen D A h ad dA f1 g1 s H1 locs1 → ow_W 1 3 1 mlen D A h2 ad2 dA2 f2 g2 s H1 locs1 → W p l e R s m args below meth c H1 locs1 cells slots Q (F0 m (pc + 3) ls (.int r :: rest))) : W p l e R s m args below meth c H locs cells slots Q (F0 m pc ls (.int d :: .int b :: .ref h :: rest)) :=
  ow_calli2 xC E w w2 ap (c1_exchange l D h ad dA f g b d val snap t hP) (cwV 2 E.1.2.2.2.2 (lw_V q169 q170 q171 q18 q172) rfl rfl rfl (by decide +kernel) hR) rfl hls rfl hW hdg hcs kk
theorem l2_exchange {b d : Int32} {val snap : Nat → Int32} {u : Int32} (E : ow_E 3 p m meth c cc nL rt s args R_law D A dA) (w : ow_W 1 3 1 mlen D A h ad dA f g s H locs) (w2 : ow_W 0 16 5 xlen D A h2 ad2 dA2 f2 g2 s H locs) (ap : ow_ap h ad 3 h2 ad2 16) (hls : ls.size = nL) (hW : (rest.map fun v => v.category).sum ≤ 8) (hdg : decode cc pc = .ok (.invokevirtual 42, 3)) (hR : (rmD 1).frames + 1 ≤ R.frames ∧ 8 + (4 + 11) + (rmD 1).locals ≤ R.locals) (hcs : cells ≤ R.cells ∧ slots ≤ R.slots) (hP : PM f g val snap u) (kk : ∀ (r : Int32) (f1 : Nat → Int32) (g1 : Nat → Nat → Int32) (H1 : Heap) (locs1 : List Loc), (fun r f1 g1 => r = (if inb b = true ∧ inb d = true then 0 else -1) ∧ PM f1 g1 (if inb b = true ∧ inb d = true then upd (upd val (ixb b) (val (ixb d))) (ixb d) (val (ixb b)) else val) snap (if inb b = true ∧ inb d = true then 1 else u)) r f1 g1 → ow_W 1 3 1 mlen D A h ad dA f1 g1 s H1 locs1 → ow_W 0 16 5 xlen D A h2 ad2 dA2 f2 g2 s H1 locs1 → W p l e R s m args below meth c H1 locs1 cells slots Q (F0 m (pc + 3) ls (.int r :: rest))) : W p l e R s m args below meth c H locs cells slots Q (F0 m pc ls (.int d :: .int b :: .ref h :: rest)) :=
  ow_calli2 mC E w w2 ap (c2_exchange l D h ad dA f g b d val snap u hP) (cwV 2 E.1.2.2.2.2 (lw_V q271 q272 q273 q19 q274) rfl rfl rfl (by decide +kernel) hR) rfl hls rfl hW hdg hcs kk
theorem l1_copy {b d : Int32} {val snap : Nat → Int32} {t : Int32} (E : ow_E 16 p m meth c cc nL rt s args R_law D A dA) (w : ow_W 0 16 5 xlen D A h ad dA f g s H locs) (w2 : ow_W 1 3 1 mlen D A h2 ad2 dA2 f2 g2 s H locs) (ap : ow_ap h ad 16 h2 ad2 3) (hls : ls.size = nL) (hW : (rest.map fun v => v.category).sum ≤ 8) (hdg : decode cc pc = .ok (.invokevirtual 43, 3)) (hR : (rmD 5).frames + 1 ≤ R.frames ∧ 8 + (4 + 11) + (rmD 5).locals ≤ R.locals) (hcs : cells ≤ R.cells ∧ slots ≤ R.slots) (hP : PX f g val snap t) (kk : ∀ (r : Int32) (f1 : Nat → Int32) (g1 : Nat → Nat → Int32) (H1 : Heap) (locs1 : List Loc), (fun r f1 g1 => r = (if inb b = true ∧ inb d = true then 0 else -1) ∧ PX f1 g1 (if inb b = true ∧ inb d = true then upd val (ixb d) (val (ixb b)) else val) snap (if inb b = true ∧ inb d = true then nI 4 else t)) r f1 g1 → ow_W 0 16 5 xlen D A h ad dA f1 g1 s H1 locs1 → ow_W 1 3 1 mlen D A h2 ad2 dA2 f2 g2 s H1 locs1 → W p l e R s m args below meth c H1 locs1 cells slots Q (F0 m (pc + 3) ls (.int r :: rest))) : W p l e R s m args below meth c H locs cells slots Q (F0 m pc ls (.int d :: .int b :: .ref h :: rest)) :=
  ow_calli2 xC E w w2 ap (c1_copy l D h ad dA f g b d val snap t hP) (cwV 2 E.1.2.2.2.2 (lw_V q173 q174 q175 q18 q176) rfl rfl rfl (by decide +kernel) hR) rfl hls rfl hW hdg hcs kk
theorem l2_copy {b d : Int32} {val snap : Nat → Int32} {u : Int32} (E : ow_E 3 p m meth c cc nL rt s args R_law D A dA) (w : ow_W 1 3 1 mlen D A h ad dA f g s H locs) (w2 : ow_W 0 16 5 xlen D A h2 ad2 dA2 f2 g2 s H locs) (ap : ow_ap h ad 3 h2 ad2 16) (hls : ls.size = nL) (hW : (rest.map fun v => v.category).sum ≤ 8) (hdg : decode cc pc = .ok (.invokevirtual 46, 3)) (hR : (rmD 1).frames + 1 ≤ R.frames ∧ 8 + (3 + 11) + (rmD 1).locals ≤ R.locals) (hcs : cells ≤ R.cells ∧ slots ≤ R.slots) (hP : PM f g val snap u) (kk : ∀ (r : Int32) (f1 : Nat → Int32) (g1 : Nat → Nat → Int32) (H1 : Heap) (locs1 : List Loc), (fun r f1 g1 => r = (if inb b = true ∧ inb d = true then 0 else -1) ∧ PM f1 g1 (if inb b = true ∧ inb d = true then upd val (ixb d) (val (ixb b)) else val) snap (if inb b = true ∧ inb d = true then 1 else u)) r f1 g1 → ow_W 1 3 1 mlen D A h ad dA f1 g1 s H1 locs1 → ow_W 0 16 5 xlen D A h2 ad2 dA2 f2 g2 s H1 locs1 → W p l e R s m args below meth c H1 locs1 cells slots Q (F0 m (pc + 3) ls (.int r :: rest))) : W p l e R s m args below meth c H locs cells slots Q (F0 m pc ls (.int d :: .int b :: .ref h :: rest)) :=
  ow_calli2 mC E w w2 ap (c2_copy l D h ad dA f g b d val snap u hP) (cwV 2 E.1.2.2.2.2 (lw_V q275 q276 q277 q19 q278) rfl rfl rfl (by decide +kernel) hR) rfl hls rfl hW hdg hcs kk
theorem l1_fill {b n v st : Int32} {val snap : Nat → Int32} {t : Int32} (E : ow_E 16 p m meth c cc nL rt s args R_law D A dA) (w : ow_W 0 16 5 xlen D A h ad dA f g s H locs) (w2 : ow_W 1 3 1 mlen D A h2 ad2 dA2 f2 g2 s H locs) (ap : ow_ap h ad 16 h2 ad2 3) (hls : ls.size = nL) (hW : (rest.map fun v => v.category).sum ≤ 8) (hdg : decode cc pc = .ok (.invokevirtual 47, 3)) (hR : (rmD 5).frames + 1 ≤ R.frames ∧ 8 + (6 + 11) + (rmD 5).locals ≤ R.locals) (hcs : cells ≤ R.cells ∧ slots ≤ R.slots) (hP : PX f g val snap t) (kk : ∀ (r : Int32) (f1 : Nat → Int32) (g1 : Nat → Nat → Int32) (H1 : Heap) (locs1 : List Loc), (fun r f1 g1 => r = (if n < 1 ∨ ¬ n ≤ 16 then -1 else if b < 0 ∨ ¬ b ≤ 16 - n then -2 else 0) ∧ PX f1 g1 (if n < 1 ∨ ¬ n ≤ 16 then val else if b < 0 ∨ ¬ b ≤ 16 - n then val else fl val (ixb b) (ixb n) v st) snap (if ¬ (n < 1 ∨ ¬ n ≤ 16) ∧ ¬ (b < 0 ∨ ¬ b ≤ 16 - n) then nI 4 else t)) r f1 g1 → ow_W 0 16 5 xlen D A h ad dA f1 g1 s H1 locs1 → ow_W 1 3 1 mlen D A h2 ad2 dA2 f2 g2 s H1 locs1 → W p l e R s m args below meth c H1 locs1 cells slots Q (F0 m (pc + 3) ls (.int r :: rest))) : W p l e R s m args below meth c H locs cells slots Q (F0 m pc ls (.int st :: .int v :: .int n :: .int b :: .ref h :: rest)) :=
  ow_calli2 xC E w w2 ap (c1_fill l D h ad dA f g b n v st val snap t hP) (cwV 4 E.1.2.2.2.2 (lw_V q177 q178 q179 q18 q180) rfl rfl rfl (by decide +kernel) hR) rfl hls rfl hW hdg hcs kk
theorem l2_fill {b n v st : Int32} {val snap : Nat → Int32} {u : Int32} (E : ow_E 3 p m meth c cc nL rt s args R_law D A dA) (w : ow_W 1 3 1 mlen D A h ad dA f g s H locs) (w2 : ow_W 0 16 5 xlen D A h2 ad2 dA2 f2 g2 s H locs) (ap : ow_ap h ad 3 h2 ad2 16) (hls : ls.size = nL) (hW : (rest.map fun v => v.category).sum ≤ 8) (hdg : decode cc pc = .ok (.invokevirtual 51, 3)) (hR : (rmD 0).frames + 1 ≤ R.frames ∧ 8 + (6 + 11) + (rmD 0).locals ≤ R.locals) (hcs : cells ≤ R.cells ∧ slots ≤ R.slots) (hP : PM f g val snap u) (kk : ∀ (r : Int32) (f1 : Nat → Int32) (g1 : Nat → Nat → Int32) (H1 : Heap) (locs1 : List Loc), (fun r f1 g1 => r = (if n < 1 ∨ ¬ n ≤ 16 then -1 else if b < 0 ∨ ¬ b ≤ 16 - n then -2 else 0) ∧ PM f1 g1 (if n < 1 ∨ ¬ n ≤ 16 then val else if b < 0 ∨ ¬ b ≤ 16 - n then val else fl val (ixb b) (ixb n) v st) snap (if ¬ (n < 1 ∨ ¬ n ≤ 16) ∧ ¬ (b < 0 ∨ ¬ b ≤ 16 - n) then 1 else u)) r f1 g1 → ow_W 1 3 1 mlen D A h ad dA f1 g1 s H1 locs1 → ow_W 0 16 5 xlen D A h2 ad2 dA2 f2 g2 s H1 locs1 → W p l e R s m args below meth c H1 locs1 cells slots Q (F0 m (pc + 3) ls (.int r :: rest))) : W p l e R s m args below meth c H locs cells slots Q (F0 m pc ls (.int st :: .int v :: .int n :: .int b :: .ref h :: rest)) :=
  ow_calli2 mC E w w2 ap (c2_fill l D h ad dA f g b n v st val snap u hP) (cwV 4 E.1.2.2.2.2 (lw_V q279 q280 q281 q19 q282) rfl rfl rfl (by decide +kernel) hR) rfl hls rfl hW hdg hcs kk
theorem l1_rotate {sh : Int32} {val snap : Nat → Int32} {t : Int32} (E : ow_E 16 p m meth c cc nL rt s args R_law D A dA) (w : ow_W 0 16 5 xlen D A h ad dA f g s H locs) (w2 : ow_W 1 3 1 mlen D A h2 ad2 dA2 f2 g2 s H locs) (ap : ow_ap h ad 16 h2 ad2 3) (hls : ls.size = nL) (hW : (rest.map fun v => v.category).sum ≤ 8) (hdg : decode cc pc = .ok (.invokevirtual 52, 3)) (hR : (rmD 6).frames + 1 ≤ R.frames ∧ 8 + (3 + 11) + (rmD 6).locals ≤ R.locals) (hcs : cells ≤ R.cells ∧ slots ≤ R.slots) (hP : PX f g val snap t) (kk : ∀ (r : Int32) (f1 : Nat → Int32) (g1 : Nat → Nat → Int32) (H1 : Heap) (locs1 : List Loc), (fun r f1 g1 => r = 0 ∧ PX f1 g1 (rtt val sh 16) snap (if True then nI 4 else t)) r f1 g1 → ow_W 0 16 5 xlen D A h ad dA f1 g1 s H1 locs1 → ow_W 1 3 1 mlen D A h2 ad2 dA2 f2 g2 s H1 locs1 → W p l e R s m args below meth c H1 locs1 cells slots Q (F0 m (pc + 3) ls (.int r :: rest))) : W p l e R s m args below meth c H locs cells slots Q (F0 m pc ls (.int sh :: .ref h :: rest)) :=
  ow_calli2 xC E w w2 ap (c1_rotate l D h ad dA f g sh val snap t hP) (cwV 1 E.1.2.2.2.2 (lw_V q181 q182 q183 q18 q184) rfl rfl rfl (by decide +kernel) hR) rfl hls rfl hW hdg hcs kk
theorem l2_rotate {sh : Int32} {val snap : Nat → Int32} {u : Int32} (E : ow_E 3 p m meth c cc nL rt s args R_law D A dA) (w : ow_W 1 3 1 mlen D A h ad dA f g s H locs) (w2 : ow_W 0 16 5 xlen D A h2 ad2 dA2 f2 g2 s H locs) (ap : ow_ap h ad 3 h2 ad2 16) (hls : ls.size = nL) (hW : (rest.map fun v => v.category).sum ≤ 8) (hdg : decode cc pc = .ok (.invokevirtual 55, 3)) (hR : (rmD 0).frames + 1 ≤ R.frames ∧ 8 + (3 + 11) + (rmD 0).locals ≤ R.locals) (hcs : cells ≤ R.cells ∧ slots ≤ R.slots) (hP : PM f g val snap u) (kk : ∀ (r : Int32) (f1 : Nat → Int32) (g1 : Nat → Nat → Int32) (H1 : Heap) (locs1 : List Loc), (fun r f1 g1 => r = 0 ∧ PM f1 g1 (rtt val sh 16) snap (if True then 1 else u)) r f1 g1 → ow_W 1 3 1 mlen D A h ad dA f1 g1 s H1 locs1 → ow_W 0 16 5 xlen D A h2 ad2 dA2 f2 g2 s H1 locs1 → W p l e R s m args below meth c H1 locs1 cells slots Q (F0 m (pc + 3) ls (.int r :: rest))) : W p l e R s m args below meth c H locs cells slots Q (F0 m pc ls (.int sh :: .ref h :: rest)) :=
  ow_calli2 mC E w w2 ap (c2_rotate l D h ad dA f g sh val snap u hP) (cwV 1 E.1.2.2.2.2 (lw_V q283 q284 q285 q19 q286) rfl rfl rfl (by decide +kernel) hR) rfl hls rfl hW hdg hcs kk
theorem l1_sum {val snap : Nat → Int32} {t : Int32} (E : ow_E 16 p m meth c cc nL rt s args R_law D A dA) (w : ow_W 0 16 5 xlen D A h ad dA f g s H locs) (w2 : ow_W 1 3 1 mlen D A h2 ad2 dA2 f2 g2 s H locs) (ap : ow_ap h ad 16 h2 ad2 3) (hls : ls.size = nL) (hW : (rest.map fun v => v.category).sum ≤ 8) (hdg : decode cc pc = .ok (.invokevirtual 56, 3)) (hR : (rmD 6).frames + 1 ≤ R.frames ∧ 8 + (3 + 11) + (rmD 6).locals ≤ R.locals) (hcs : cells ≤ R.cells ∧ slots ≤ R.slots) (hP : PX f g val snap t) (kk : ∀ (r : Int32) (f1 : Nat → Int32) (g1 : Nat → Nat → Int32) (H1 : Heap) (locs1 : List Loc), (fun r f1 g1 => r = (sm val 16) ∧ PX f1 g1 val snap (if True then nI 4 else t)) r f1 g1 → ow_W 0 16 5 xlen D A h ad dA f1 g1 s H1 locs1 → ow_W 1 3 1 mlen D A h2 ad2 dA2 f2 g2 s H1 locs1 → W p l e R s m args below meth c H1 locs1 cells slots Q (F0 m (pc + 3) ls (.int r :: rest))) : W p l e R s m args below meth c H locs cells slots Q (F0 m pc ls (.ref h :: rest)) :=
  ow_calli2 xC E w w2 ap (c1_sum l D h ad dA f g  val snap t hP) (cwV 0 E.1.2.2.2.2 (lw_V q189 q190 q191 q18 q192) rfl rfl rfl (by decide +kernel) hR) rfl hls rfl hW hdg hcs kk
theorem l2_sum {val snap : Nat → Int32} {u : Int32} (E : ow_E 3 p m meth c cc nL rt s args R_law D A dA) (w : ow_W 1 3 1 mlen D A h ad dA f g s H locs) (w2 : ow_W 0 16 5 xlen D A h2 ad2 dA2 f2 g2 s H locs) (ap : ow_ap h ad 3 h2 ad2 16) (hls : ls.size = nL) (hW : (rest.map fun v => v.category).sum ≤ 8) (hdg : decode cc pc = .ok (.invokevirtual 60, 3)) (hR : (rmD 0).frames + 1 ≤ R.frames ∧ 8 + (3 + 11) + (rmD 0).locals ≤ R.locals) (hcs : cells ≤ R.cells ∧ slots ≤ R.slots) (hP : PM f g val snap u) (kk : ∀ (r : Int32) (f1 : Nat → Int32) (g1 : Nat → Nat → Int32) (H1 : Heap) (locs1 : List Loc), (fun r f1 g1 => r = (sm val 16) ∧ PM f1 g1 val snap (if True then 1 else u)) r f1 g1 → ow_W 1 3 1 mlen D A h ad dA f1 g1 s H1 locs1 → ow_W 0 16 5 xlen D A h2 ad2 dA2 f2 g2 s H1 locs1 → W p l e R s m args below meth c H1 locs1 cells slots Q (F0 m (pc + 3) ls (.int r :: rest))) : W p l e R s m args below meth c H locs cells slots Q (F0 m pc ls (.ref h :: rest)) :=
  ow_calli2 mC E w w2 ap (c2_sum l D h ad dA f g  val snap u hP) (cwV 0 E.1.2.2.2.2 (lw_V q287 q288 q289 q19 q290) rfl rfl rfl (by decide +kernel) hR) rfl hls rfl hW hdg hcs kk
theorem l1_find {v b : Int32} {val snap : Nat → Int32} {t : Int32} (E : ow_E 16 p m meth c cc nL rt s args R_law D A dA) (w : ow_W 0 16 5 xlen D A h ad dA f g s H locs) (w2 : ow_W 1 3 1 mlen D A h2 ad2 dA2 f2 g2 s H locs) (ap : ow_ap h ad 16 h2 ad2 3) (hls : ls.size = nL) (hW : (rest.map fun v => v.category).sum ≤ 8) (hdg : decode cc pc = .ok (.invokevirtual 61, 3)) (hR : (rmD 5).frames + 1 ≤ R.frames ∧ 8 + (5 + 11) + (rmD 5).locals ≤ R.locals) (hcs : cells ≤ R.cells ∧ slots ≤ R.slots) (hP : PX f g val snap t) (kk : ∀ (r : Int32) (f1 : Nat → Int32) (g1 : Nat → Nat → Int32) (H1 : Heap) (locs1 : List Loc), (fun r f1 g1 => r = (if inb b = true then fd val v (ixb b) (16 - ixb b) else -1) ∧ PX f1 g1 val snap (if inb b = true then nI 4 else t)) r f1 g1 → ow_W 0 16 5 xlen D A h ad dA f1 g1 s H1 locs1 → ow_W 1 3 1 mlen D A h2 ad2 dA2 f2 g2 s H1 locs1 → W p l e R s m args below meth c H1 locs1 cells slots Q (F0 m (pc + 3) ls (.int r :: rest))) : W p l e R s m args below meth c H locs cells slots Q (F0 m pc ls (.int b :: .int v :: .ref h :: rest)) :=
  ow_calli2 xC E w w2 ap (c1_find l D h ad dA f g v b val snap t hP) (cwV 2 E.1.2.2.2.2 (lw_V q193 q194 q195 q18 q196) rfl rfl rfl (by decide +kernel) hR) rfl hls rfl hW hdg hcs kk
theorem l2_find {v b : Int32} {val snap : Nat → Int32} {u : Int32} (E : ow_E 3 p m meth c cc nL rt s args R_law D A dA) (w : ow_W 1 3 1 mlen D A h ad dA f g s H locs) (w2 : ow_W 0 16 5 xlen D A h2 ad2 dA2 f2 g2 s H locs) (ap : ow_ap h ad 3 h2 ad2 16) (hls : ls.size = nL) (hW : (rest.map fun v => v.category).sum ≤ 8) (hdg : decode cc pc = .ok (.invokevirtual 64, 3)) (hR : (rmD 1).frames + 1 ≤ R.frames ∧ 8 + (4 + 11) + (rmD 1).locals ≤ R.locals) (hcs : cells ≤ R.cells ∧ slots ≤ R.slots) (hP : PM f g val snap u) (kk : ∀ (r : Int32) (f1 : Nat → Int32) (g1 : Nat → Nat → Int32) (H1 : Heap) (locs1 : List Loc), (fun r f1 g1 => r = (if inb b = true then fd val v (ixb b) (16 - ixb b) else -1) ∧ PM f1 g1 val snap (if inb b = true then 1 else u)) r f1 g1 → ow_W 1 3 1 mlen D A h ad dA f1 g1 s H1 locs1 → ow_W 0 16 5 xlen D A h2 ad2 dA2 f2 g2 s H1 locs1 → W p l e R s m args below meth c H1 locs1 cells slots Q (F0 m (pc + 3) ls (.int r :: rest))) : W p l e R s m args below meth c H locs cells slots Q (F0 m pc ls (.int b :: .int v :: .ref h :: rest)) :=
  ow_calli2 mC E w w2 ap (c2_find l D h ad dA f g v b val snap u hP) (cwV 2 E.1.2.2.2.2 (lw_V q291 q292 q293 q19 q294) rfl rfl rfl (by decide +kernel) hR) rfl hls rfl hW hdg hcs kk
theorem l1_below {v : Int32} {val snap : Nat → Int32} {t : Int32} (E : ow_E 16 p m meth c cc nL rt s args R_law D A dA) (w : ow_W 0 16 5 xlen D A h ad dA f g s H locs) (w2 : ow_W 1 3 1 mlen D A h2 ad2 dA2 f2 g2 s H locs) (ap : ow_ap h ad 16 h2 ad2 3) (hls : ls.size = nL) (hW : (rest.map fun v => v.category).sum ≤ 8) (hdg : decode cc pc = .ok (.invokevirtual 65, 3)) (hR : (rmD 6).frames + 1 ≤ R.frames ∧ 8 + (4 + 11) + (rmD 6).locals ≤ R.locals) (hcs : cells ≤ R.cells ∧ slots ≤ R.slots) (hP : PX f g val snap t) (kk : ∀ (r : Int32) (f1 : Nat → Int32) (g1 : Nat → Nat → Int32) (H1 : Heap) (locs1 : List Loc), (fun r f1 g1 => r = (nI (cl val v 16)) ∧ PX f1 g1 val snap (if True then nI 4 else t)) r f1 g1 → ow_W 0 16 5 xlen D A h ad dA f1 g1 s H1 locs1 → ow_W 1 3 1 mlen D A h2 ad2 dA2 f2 g2 s H1 locs1 → W p l e R s m args below meth c H1 locs1 cells slots Q (F0 m (pc + 3) ls (.int r :: rest))) : W p l e R s m args below meth c H locs cells slots Q (F0 m pc ls (.int v :: .ref h :: rest)) :=
  ow_calli2 xC E w w2 ap (c1_below l D h ad dA f g v val snap t hP) (cwV 1 E.1.2.2.2.2 (lw_V q197 q198 q199 q18 q200) rfl rfl rfl (by decide +kernel) hR) rfl hls rfl hW hdg hcs kk
theorem l2_below {v : Int32} {val snap : Nat → Int32} {u : Int32} (E : ow_E 3 p m meth c cc nL rt s args R_law D A dA) (w : ow_W 1 3 1 mlen D A h ad dA f g s H locs) (w2 : ow_W 0 16 5 xlen D A h2 ad2 dA2 f2 g2 s H locs) (ap : ow_ap h ad 3 h2 ad2 16) (hls : ls.size = nL) (hW : (rest.map fun v => v.category).sum ≤ 8) (hdg : decode cc pc = .ok (.invokevirtual 68, 3)) (hR : (rmD 1).frames + 1 ≤ R.frames ∧ 8 + (2 + 11) + (rmD 1).locals ≤ R.locals) (hcs : cells ≤ R.cells ∧ slots ≤ R.slots) (hP : PM f g val snap u) (kk : ∀ (r : Int32) (f1 : Nat → Int32) (g1 : Nat → Nat → Int32) (H1 : Heap) (locs1 : List Loc), (fun r f1 g1 => r = (nI (cl val v 16)) ∧ PM f1 g1 val snap (if True then 1 else u)) r f1 g1 → ow_W 1 3 1 mlen D A h ad dA f1 g1 s H1 locs1 → ow_W 0 16 5 xlen D A h2 ad2 dA2 f2 g2 s H1 locs1 → W p l e R s m args below meth c H1 locs1 cells slots Q (F0 m (pc + 3) ls (.int r :: rest))) : W p l e R s m args below meth c H locs cells slots Q (F0 m pc ls (.int v :: .ref h :: rest)) :=
  ow_calli2 mC E w w2 ap (c2_below l D h ad dA f g v val snap u hP) (cwV 1 E.1.2.2.2.2 (lw_V q295 q296 q297 q19 q298) rfl rfl rfl (by decide +kernel) hR) rfl hls rfl hW hdg hcs kk
theorem l1_save {x : Int32} {val snap : Nat → Int32} {t : Int32} (E : ow_E 16 p m meth c cc nL rt s args R_law D A dA) (w : ow_W 0 16 5 xlen D A h ad dA f g s H locs) (w2 : ow_W 1 3 1 mlen D A h2 ad2 dA2 f2 g2 s H locs) (ap : ow_ap h ad 16 h2 ad2 3) (hls : ls.size = nL) (hW : (rest.map fun v => v.category).sum ≤ 8) (hdg : decode cc pc = .ok (.invokevirtual 73, 3)) (hR : (rmD 6).frames + 1 ≤ R.frames ∧ 8 + (3 + 11) + (rmD 6).locals ≤ R.locals) (hcs : cells ≤ R.cells ∧ slots ≤ R.slots) (hP : PX f g val snap t) (kk : ∀ (r : Int32) (f1 : Nat → Int32) (g1 : Nat → Nat → Int32) (H1 : Heap) (locs1 : List Loc), (fun r f1 g1 => r = (if shot x = true then 0 else -1) ∧ PX f1 g1 val (if shot x = true then svv snap val (16 * ixb x) 16 else snap) (if shot x = true then nI 4 else t)) r f1 g1 → ow_W 0 16 5 xlen D A h ad dA f1 g1 s H1 locs1 → ow_W 1 3 1 mlen D A h2 ad2 dA2 f2 g2 s H1 locs1 → W p l e R s m args below meth c H1 locs1 cells slots Q (F0 m (pc + 3) ls (.int r :: rest))) : W p l e R s m args below meth c H locs cells slots Q (F0 m pc ls (.int x :: .ref h :: rest)) :=
  ow_calli2 xC E w w2 ap (c1_save l D h ad dA f g x val snap t hP) (cwV 1 E.1.2.2.2.2 (lw_V q205 q206 q207 q18 q208) rfl rfl rfl (by decide +kernel) hR) rfl hls rfl hW hdg hcs kk
theorem l2_save {x : Int32} {val snap : Nat → Int32} {u : Int32} (E : ow_E 3 p m meth c cc nL rt s args R_law D A dA) (w : ow_W 1 3 1 mlen D A h ad dA f g s H locs) (w2 : ow_W 0 16 5 xlen D A h2 ad2 dA2 f2 g2 s H locs) (ap : ow_ap h ad 3 h2 ad2 16) (hls : ls.size = nL) (hW : (rest.map fun v => v.category).sum ≤ 8) (hdg : decode cc pc = .ok (.invokevirtual 76, 3)) (hR : (rmD 1).frames + 1 ≤ R.frames ∧ 8 + (3 + 11) + (rmD 1).locals ≤ R.locals) (hcs : cells ≤ R.cells ∧ slots ≤ R.slots) (hP : PM f g val snap u) (kk : ∀ (r : Int32) (f1 : Nat → Int32) (g1 : Nat → Nat → Int32) (H1 : Heap) (locs1 : List Loc), (fun r f1 g1 => r = (if shot x = true then 0 else -1) ∧ PM f1 g1 val (if shot x = true then svv snap val (16 * ixb x) 16 else snap) (if shot x = true then 1 else u)) r f1 g1 → ow_W 1 3 1 mlen D A h ad dA f1 g1 s H1 locs1 → ow_W 0 16 5 xlen D A h2 ad2 dA2 f2 g2 s H1 locs1 → W p l e R s m args below meth c H1 locs1 cells slots Q (F0 m (pc + 3) ls (.int r :: rest))) : W p l e R s m args below meth c H locs cells slots Q (F0 m pc ls (.int x :: .ref h :: rest)) :=
  ow_calli2 mC E w w2 ap (c2_save l D h ad dA f g x val snap u hP) (cwV 1 E.1.2.2.2.2 (lw_V q311 q312 q313 q19 q314) rfl rfl rfl (by decide +kernel) hR) rfl hls rfl hW hdg hcs kk
theorem l1_load {x : Int32} {val snap : Nat → Int32} {t : Int32} (E : ow_E 16 p m meth c cc nL rt s args R_law D A dA) (w : ow_W 0 16 5 xlen D A h ad dA f g s H locs) (w2 : ow_W 1 3 1 mlen D A h2 ad2 dA2 f2 g2 s H locs) (ap : ow_ap h ad 16 h2 ad2 3) (hls : ls.size = nL) (hW : (rest.map fun v => v.category).sum ≤ 8) (hdg : decode cc pc = .ok (.invokevirtual 77, 3)) (hR : (rmD 5).frames + 1 ≤ R.frames ∧ 8 + (6 + 11) + (rmD 5).locals ≤ R.locals) (hcs : cells ≤ R.cells ∧ slots ≤ R.slots) (hP : PX f g val snap t) (kk : ∀ (r : Int32) (f1 : Nat → Int32) (g1 : Nat → Nat → Int32) (H1 : Heap) (locs1 : List Loc), (fun r f1 g1 => r = (if shot x = true then nI (df val snap (16 * ixb x) 16) else -1) ∧ PX f1 g1 (if shot x = true then ldd val snap (16 * ixb x) 16 else val) snap (if shot x = true then nI 4 else t)) r f1 g1 → ow_W 0 16 5 xlen D A h ad dA f1 g1 s H1 locs1 → ow_W 1 3 1 mlen D A h2 ad2 dA2 f2 g2 s H1 locs1 → W p l e R s m args below meth c H1 locs1 cells slots Q (F0 m (pc + 3) ls (.int r :: rest))) : W p l e R s m args below meth c H locs cells slots Q (F0 m pc ls (.int x :: .ref h :: rest)) :=
  ow_calli2 xC E w w2 ap (c1_load l D h ad dA f g x val snap t hP) (cwV 1 E.1.2.2.2.2 (lw_V q209 q210 q211 q18 q212) rfl rfl rfl (by decide +kernel) hR) rfl hls rfl hW hdg hcs kk
theorem l2_load {x : Int32} {val snap : Nat → Int32} {u : Int32} (E : ow_E 3 p m meth c cc nL rt s args R_law D A dA) (w : ow_W 1 3 1 mlen D A h ad dA f g s H locs) (w2 : ow_W 0 16 5 xlen D A h2 ad2 dA2 f2 g2 s H locs) (ap : ow_ap h ad 3 h2 ad2 16) (hls : ls.size = nL) (hW : (rest.map fun v => v.category).sum ≤ 8) (hdg : decode cc pc = .ok (.invokevirtual 80, 3)) (hR : (rmD 2).frames + 1 ≤ R.frames ∧ 8 + (4 + 11) + (rmD 2).locals ≤ R.locals) (hcs : cells ≤ R.cells ∧ slots ≤ R.slots) (hP : PM f g val snap u) (kk : ∀ (r : Int32) (f1 : Nat → Int32) (g1 : Nat → Nat → Int32) (H1 : Heap) (locs1 : List Loc), (fun r f1 g1 => r = (if shot x = true then nI (df val snap (16 * ixb x) 16) else -1) ∧ PM f1 g1 (if shot x = true then ldd val snap (16 * ixb x) 16 else val) snap (if shot x = true then 1 else u)) r f1 g1 → ow_W 1 3 1 mlen D A h ad dA f1 g1 s H1 locs1 → ow_W 0 16 5 xlen D A h2 ad2 dA2 f2 g2 s H1 locs1 → W p l e R s m args below meth c H1 locs1 cells slots Q (F0 m (pc + 3) ls (.int r :: rest))) : W p l e R s m args below meth c H locs cells slots Q (F0 m pc ls (.int x :: .ref h :: rest)) :=
  ow_calli2 mC E w w2 ap (c2_load l D h ad dA f g x val snap u hP) (cwV 1 E.1.2.2.2.2 (lw_V q319 q320 q321 q19 q322) rfl rfl rfl (by decide +kernel) hR) rfl hls rfl hW hdg hcs kk
theorem l1_differing {x : Int32} {val snap : Nat → Int32} {t : Int32} (E : ow_E 16 p m meth c cc nL rt s args R_law D A dA) (w : ow_W 0 16 5 xlen D A h ad dA f g s H locs) (w2 : ow_W 1 3 1 mlen D A h2 ad2 dA2 f2 g2 s H locs) (ap : ow_ap h ad 16 h2 ad2 3) (hls : ls.size = nL) (hW : (rest.map fun v => v.category).sum ≤ 8) (hdg : decode cc pc = .ok (.invokevirtual 81, 3)) (hR : (rmD 6).frames + 1 ≤ R.frames ∧ 8 + (4 + 11) + (rmD 6).locals ≤ R.locals) (hcs : cells ≤ R.cells ∧ slots ≤ R.slots) (hP : PX f g val snap t) (kk : ∀ (r : Int32) (f1 : Nat → Int32) (g1 : Nat → Nat → Int32) (H1 : Heap) (locs1 : List Loc), (fun r f1 g1 => r = (if shot x = true then nI (df val snap (16 * ixb x) 16) else -1) ∧ PX f1 g1 val snap (if shot x = true then nI 4 else t)) r f1 g1 → ow_W 0 16 5 xlen D A h ad dA f1 g1 s H1 locs1 → ow_W 1 3 1 mlen D A h2 ad2 dA2 f2 g2 s H1 locs1 → W p l e R s m args below meth c H1 locs1 cells slots Q (F0 m (pc + 3) ls (.int r :: rest))) : W p l e R s m args below meth c H locs cells slots Q (F0 m pc ls (.int x :: .ref h :: rest)) :=
  ow_calli2 xC E w w2 ap (c1_differing l D h ad dA f g x val snap t hP) (cwV 1 E.1.2.2.2.2 (lw_V q213 q214 q215 q18 q216) rfl rfl rfl (by decide +kernel) hR) rfl hls rfl hW hdg hcs kk
theorem l2_differing {x : Int32} {val snap : Nat → Int32} {u : Int32} (E : ow_E 3 p m meth c cc nL rt s args R_law D A dA) (w : ow_W 1 3 1 mlen D A h ad dA f g s H locs) (w2 : ow_W 0 16 5 xlen D A h2 ad2 dA2 f2 g2 s H locs) (ap : ow_ap h ad 3 h2 ad2 16) (hls : ls.size = nL) (hW : (rest.map fun v => v.category).sum ≤ 8) (hdg : decode cc pc = .ok (.invokevirtual 84, 3)) (hR : (rmD 1).frames + 1 ≤ R.frames ∧ 8 + (4 + 11) + (rmD 1).locals ≤ R.locals) (hcs : cells ≤ R.cells ∧ slots ≤ R.slots) (hP : PM f g val snap u) (kk : ∀ (r : Int32) (f1 : Nat → Int32) (g1 : Nat → Nat → Int32) (H1 : Heap) (locs1 : List Loc), (fun r f1 g1 => r = (if shot x = true then nI (df val snap (16 * ixb x) 16) else -1) ∧ PM f1 g1 val snap (if shot x = true then 1 else u)) r f1 g1 → ow_W 1 3 1 mlen D A h ad dA f1 g1 s H1 locs1 → ow_W 0 16 5 xlen D A h2 ad2 dA2 f2 g2 s H1 locs1 → W p l e R s m args below meth c H1 locs1 cells slots Q (F0 m (pc + 3) ls (.int r :: rest))) : W p l e R s m args below meth c H locs cells slots Q (F0 m pc ls (.int x :: .ref h :: rest)) :=
  ow_calli2 mC E w w2 ap (c2_differing l D h ad dA f g x val snap u hP) (cwV 1 E.1.2.2.2.2 (lw_V q327 q324 q325 q19 q326) rfl rfl rfl (by decide +kernel) hR) rfl hls rfl hW hdg hcs kk
theorem l1_audit {val snap : Nat → Int32} {t : Int32} (E : ow_E 16 p m meth c cc nL rt s args R_law D A dA) (w : ow_W 0 16 5 xlen D A h ad dA f g s H locs) (w2 : ow_W 1 3 1 mlen D A h2 ad2 dA2 f2 g2 s H locs) (ap : ow_ap h ad 16 h2 ad2 3) (hls : ls.size = nL) (hW : (rest.map fun v => v.category).sum ≤ 8) (hdg : decode cc pc = .ok (.invokevirtual 85, 3)) (hR : (rmD 4).frames + 1 ≤ R.frames ∧ 8 + (5 + 11) + (rmD 4).locals ≤ R.locals) (hcs : cells ≤ R.cells ∧ slots ≤ R.slots) (hP : PX f g val snap t) (kk : ∀ (r : Int32) (f1 : Nat → Int32) (g1 : Nat → Nat → Int32) (H1 : Heap) (locs1 : List Loc), (fun r f1 g1 => r = 0 ∧ PX f1 g1 val snap (if False then nI 4 else t)) r f1 g1 → ow_W 0 16 5 xlen D A h ad dA f1 g1 s H1 locs1 → ow_W 1 3 1 mlen D A h2 ad2 dA2 f2 g2 s H1 locs1 → W p l e R s m args below meth c H1 locs1 cells slots Q (F0 m (pc + 3) ls (.int r :: rest))) : W p l e R s m args below meth c H locs cells slots Q (F0 m pc ls (.ref h :: rest)) :=
  ow_calli2 xC E w w2 ap (c1_audit l D h ad dA f g  val snap t hP) (cwV 0 E.1.2.2.2.2 (lw_V q217 q218 q219 q18 q220) rfl rfl rfl (by decide +kernel) hR) rfl hls rfl hW hdg hcs kk
theorem l2_audit {val snap : Nat → Int32} {u : Int32} (E : ow_E 3 p m meth c cc nL rt s args R_law D A dA) (w : ow_W 1 3 1 mlen D A h ad dA f g s H locs) (w2 : ow_W 0 16 5 xlen D A h2 ad2 dA2 f2 g2 s H locs) (ap : ow_ap h ad 3 h2 ad2 16) (hls : ls.size = nL) (hW : (rest.map fun v => v.category).sum ≤ 8) (hdg : decode cc pc = .ok (.invokevirtual 88, 3)) (hR : (rmD 0).frames + 1 ≤ R.frames ∧ 8 + (1 + 11) + (rmD 0).locals ≤ R.locals) (hcs : cells ≤ R.cells ∧ slots ≤ R.slots) (hP : PM f g val snap u) (kk : ∀ (r : Int32) (f1 : Nat → Int32) (g1 : Nat → Nat → Int32) (H1 : Heap) (locs1 : List Loc), (fun r f1 g1 => r = 0 ∧ PM f1 g1 val snap (if False then 1 else u)) r f1 g1 → ow_W 1 3 1 mlen D A h ad dA f1 g1 s H1 locs1 → ow_W 0 16 5 xlen D A h2 ad2 dA2 f2 g2 s H1 locs1 → W p l e R s m args below meth c H1 locs1 cells slots Q (F0 m (pc + 3) ls (.int r :: rest))) : W p l e R s m args below meth c H locs cells slots Q (F0 m pc ls (.ref h :: rest)) :=
  ow_calli2 mC E w w2 ap (c2_audit l D h ad dA f g  val snap u hP) (cwV 0 E.1.2.2.2.2 (lw_V q328 q329 q330 q19 q331) rfl rfl rfl (by decide +kernel) hR) rfl hls rfl hW hdg hcs kk
theorem l1_ranked {b : Int32} {val snap : Nat → Int32} {t : Int32} (E : ow_E 16 p m meth c cc nL rt s args R_law D A dA) (w : ow_W 0 16 5 xlen D A h ad dA f g s H locs) (w2 : ow_W 1 3 1 mlen D A h2 ad2 dA2 f2 g2 s H locs) (ap : ow_ap h ad 16 h2 ad2 3) (hls : ls.size = nL) (hW : (rest.map fun v => v.category).sum ≤ 8) (hdg : decode cc pc = .ok (.invokevirtual 69, 3)) (hR : (rmD 6).frames + 1 ≤ R.frames ∧ 8 + (5 + 11) + (rmD 6).locals ≤ R.locals) (hcs : cells ≤ R.cells ∧ slots ≤ R.slots) (hP : PX f g val snap t) (kk : ∀ (r : Int32) (f1 : Nat → Int32) (g1 : Nat → Nat → Int32) (H1 : Heap) (locs1 : List Loc), (fun r f1 g1 => ((inb b = true → Rk val (ixb b) r) ∧ (inb b = false → r = 0)) ∧ PX f1 g1 val snap (if inb b = true then nI 4 else t)) r f1 g1 → ow_W 0 16 5 xlen D A h ad dA f1 g1 s H1 locs1 → ow_W 1 3 1 mlen D A h2 ad2 dA2 f2 g2 s H1 locs1 → W p l e R s m args below meth c H1 locs1 cells slots Q (F0 m (pc + 3) ls (.int r :: rest))) : W p l e R s m args below meth c H locs cells slots Q (F0 m pc ls (.int b :: .ref h :: rest)) :=
  ow_calli2 xC E w w2 ap (c1_ranked l D h ad dA f g b val snap t hP) (cwV 1 E.1.2.2.2.2 (lw_V q201 q202 q203 q18 q204) rfl rfl rfl (by decide +kernel) hR) rfl hls rfl hW hdg hcs kk
theorem l2_ranked {b : Int32} {val snap : Nat → Int32} {u : Int32} (E : ow_E 3 p m meth c cc nL rt s args R_law D A dA) (w : ow_W 1 3 1 mlen D A h ad dA f g s H locs) (w2 : ow_W 0 16 5 xlen D A h2 ad2 dA2 f2 g2 s H locs) (ap : ow_ap h ad 3 h2 ad2 16) (hls : ls.size = nL) (hW : (rest.map fun v => v.category).sum ≤ 8) (hdg : decode cc pc = .ok (.invokevirtual 72, 3)) (hR : (rmD 1).frames + 1 ≤ R.frames ∧ 8 + (5 + 11) + (rmD 1).locals ≤ R.locals) (hcs : cells ≤ R.cells ∧ slots ≤ R.slots) (hP : PM f g val snap u) (hRk : inb b = true → ∃ i, i < 16 ∧ Rk val (ixb b) (val i)) (kk : ∀ (r : Int32) (f1 : Nat → Int32) (g1 : Nat → Nat → Int32) (H1 : Heap) (locs1 : List Loc), (fun r f1 g1 => ((inb b = true → Rk val (ixb b) r) ∧ (inb b = false → r = 0)) ∧ PM f1 g1 val snap (if inb b = true then 1 else u)) r f1 g1 → ow_W 1 3 1 mlen D A h ad dA f1 g1 s H1 locs1 → ow_W 0 16 5 xlen D A h2 ad2 dA2 f2 g2 s H1 locs1 → W p l e R s m args below meth c H1 locs1 cells slots Q (F0 m (pc + 3) ls (.int r :: rest))) : W p l e R s m args below meth c H locs cells slots Q (F0 m pc ls (.int b :: .ref h :: rest)) :=
  ow_calli2 mC E w w2 ap (c2_ranked l D h ad dA f g b val snap u hP hRk) (cwV 1 E.1.2.2.2.2 (lw_V q303 q304 q305 q19 q306) rfl rfl rfl (by decide +kernel) hR) rfl hls rfl hW hdg hcs kk
theorem l1_touched  (E : ow_E 16 p m meth c cc nL rt s args R_law D A dA) (w : ow_W 0 16 5 xlen D A h ad dA f g s H locs) (w2 : ow_W 1 3 1 mlen D A h2 ad2 dA2 f2 g2 s H locs) (ap : ow_ap h ad 16 h2 ad2 3) (hls : ls.size = nL) (hW : (rest.map fun v => v.category).sum ≤ 8) (hdg : decode cc pc = .ok (.invokevirtual 89, 3)) (hR : (rmD 0).frames + 1 ≤ R.frames ∧ 8 + (1 + 11) + (rmD 0).locals ≤ R.locals) (hcs : cells ≤ R.cells ∧ slots ≤ R.slots)  (kk : ∀ (r : Int32) (f1 : Nat → Int32) (g1 : Nat → Nat → Int32) (H1 : Heap) (locs1 : List Loc), (fun r f1 g1 => r = f 4 ∧ f1 = f ∧ g1 = g) r f1 g1 → ow_W 0 16 5 xlen D A h ad dA f1 g1 s H1 locs1 → ow_W 1 3 1 mlen D A h2 ad2 dA2 f2 g2 s H1 locs1 → W p l e R s m args below meth c H1 locs1 cells slots Q (F0 m (pc + 3) ls (.int r :: rest))) : W p l e R s m args below meth c H locs cells slots Q (F0 m pc ls (.ref h :: rest)) :=
  ow_calli2 xC E w w2 ap (c1_touched l D h ad dA f g) (cwV 0 E.1.2.2.2.2 (lw_V q225 q226 q227 q18 q228) rfl rfl rfl (by decide +kernel) hR) rfl hls rfl hW hdg hcs kk
theorem l2_touched {val snap : Nat → Int32} {u : Int32} (E : ow_E 3 p m meth c cc nL rt s args R_law D A dA) (w : ow_W 1 3 1 mlen D A h ad dA f g s H locs) (w2 : ow_W 0 16 5 xlen D A h2 ad2 dA2 f2 g2 s H locs) (ap : ow_ap h ad 3 h2 ad2 16) (hls : ls.size = nL) (hW : (rest.map fun v => v.category).sum ≤ 8) (hdg : decode cc pc = .ok (.invokevirtual 92, 3)) (hR : (rmD 0).frames + 1 ≤ R.frames ∧ 8 + (1 + 11) + (rmD 0).locals ≤ R.locals) (hcs : cells ≤ R.cells ∧ slots ≤ R.slots) (hP : PM f g val snap u) (kk : ∀ (r : Int32) (f1 : Nat → Int32) (g1 : Nat → Nat → Int32) (H1 : Heap) (locs1 : List Loc), (fun r f1 g1 => r = (if u = 0 then 0 else nI 4) ∧ f1 = f ∧ g1 = g) r f1 g1 → ow_W 1 3 1 mlen D A h ad dA f1 g1 s H1 locs1 → ow_W 0 16 5 xlen D A h2 ad2 dA2 f2 g2 s H1 locs1 → W p l e R s m args below meth c H1 locs1 cells slots Q (F0 m (pc + 3) ls (.int r :: rest))) : W p l e R s m args below meth c H locs cells slots Q (F0 m pc ls (.ref h :: rest)) :=
  ow_calli2 mC E w w2 ap (c2_touched l D h ad dA f g val snap u hP) (cwV 0 E.1.2.2.2.2 (lw_V q332 q333 q334 q19 q335) rfl rfl rfl (by decide +kernel) hR) rfl hls rfl hW hdg hcs kk
theorem l1_stir {x : Int32} (E : ow_E 16 p m meth c cc nL rt s args R_law D A dA) (w : ow_W 0 16 5 xlen D A h ad dA f g s H locs) (w2 : ow_W 1 3 1 mlen D A h2 ad2 dA2 f2 g2 s H locs) (ap : ow_ap h ad 16 h2 ad2 3) (hls : ls.size = nL) (hW : (rest.map fun v => v.category).sum ≤ 8) (hdg : decode cc pc = .ok (.invokevirtual 21, 3)) (hR : (rmD 0).frames + 1 ≤ R.frames ∧ 8 + (2 + 11) + (rmD 0).locals ≤ R.locals) (hcs : cells ≤ R.cells ∧ slots ≤ R.slots)  (kk : ∀ (f1 : Nat → Int32) (g1 : Nat → Nat → Int32) (H1 : Heap) (locs1 : List Loc), (fun f1 g1 => (∃ x, f1 = va_up f 2 x) ∧ g1 = g) f1 g1 → ow_W 0 16 5 xlen D A h ad dA f1 g1 s H1 locs1 → ow_W 1 3 1 mlen D A h2 ad2 dA2 f2 g2 s H1 locs1 → W p l e R s m args below meth c H1 locs1 cells slots Q (F0 m (pc + 3) ls (rest))) : W p l e R s m args below meth c H locs cells slots Q (F0 m pc ls (.int x :: .ref h :: rest)) :=
  ow_callv2 xC E w w2 ap (c1_stir l D h ad dA f g x) (cwV 1 E.1.2.2.2.2 (lw_V q145 q29 q30 q18 q31) rfl rfl rfl (by decide +kernel) hR) rfl hls rfl hW hdg hcs kk
theorem l2_stir {x : Int32} (E : ow_E 3 p m meth c cc nL rt s args R_law D A dA) (w : ow_W 1 3 1 mlen D A h ad dA f g s H locs) (w2 : ow_W 0 16 5 xlen D A h2 ad2 dA2 f2 g2 s H locs) (ap : ow_ap h ad 3 h2 ad2 16) (hls : ls.size = nL) (hW : (rest.map fun v => v.category).sum ≤ 8) (hdg : decode cc pc = .ok (.invokevirtual 24, 3)) (hR : (rmD 0).frames + 1 ≤ R.frames ∧ 8 + (2 + 11) + (rmD 0).locals ≤ R.locals) (hcs : cells ≤ R.cells ∧ slots ≤ R.slots)  (kk : ∀ (f1 : Nat → Int32) (g1 : Nat → Nat → Int32) (H1 : Heap) (locs1 : List Loc), (fun f1 g1 => f1 = f ∧ g1 = g) f1 g1 → ow_W 1 3 1 mlen D A h ad dA f1 g1 s H1 locs1 → ow_W 0 16 5 xlen D A h2 ad2 dA2 f2 g2 s H1 locs1 → W p l e R s m args below meth c H1 locs1 cells slots Q (F0 m (pc + 3) ls (rest))) : W p l e R s m args below meth c H locs cells slots Q (F0 m pc ls (.int x :: .ref h :: rest)) :=
  ow_callv2 mC E w w2 ap (c2_stir l D h ad dA f g x) (cwV 1 E.1.2.2.2.2 (lw_V q251 q252 q253 q19 q254) rfl rfl rfl (by decide +kernel) hR) rfl hls rfl hW hdg hcs kk
end LROWS
set_option maxHeartbeats 4000000 in
set_option maxRecDepth 100000 in
theorem c0_cell (l : Launch) (b L : Nat) (xs : Nat → Int32) (hL : L < 2 ^ 31) : Met l yX0_cell (ws_ yX0_cell cX0_cell 2 (some .int)) (rmD 0) (fun v U => v = ([.ref b, .int (nI 0)] : List Value).toArray ∧ va_X b L xs U U.heap) (vp_Si (fun _ => True)) 0 0 (fun _ => False) := by
  refine Met.ofW (cc := cX0_cell) (maxL := 2) (ret := some .int) (by decide) rfl ?_
  intro p e s m args below meth c s₁ B hml hv
  obtain ⟨rfl, hX⟩ := hv
  have hx := B.exec
  have hb := B.bytes
  have hr := B.returns
  have hlocks := B.notSynchronized
  have hbl : b < s.heap.size := by
    obtain ⟨scr, h1, -⟩ := hX
    exact (Array.getElem?_eq_some_iff.mp h1).1
  have hS : va_S (fun _ => False) s.heap s.heap [] := va_S.rf
  have hl := lv_entry ([.ref b, .int (nI 0)]) (n := 2) (Nat.le_of_ble_eq_true rfl)
  rw [lg_entry_eq]
  generalize (lg_sl ([.ref b, .int (nI 0)]) ++ List.replicate (2 - (lg_sl ([.ref b, .int (nI 0)])).length) Slot.unset).toArray = ls at hl ⊢
  have hl : lv_has ls 2 [(0, .ref b), (1, .int (nI 0))] := hl
  have fin : ∀ {r : Int32} {ls : Array Slot}, W p l e (rmD 0) s m ([.ref b, .int (nI 0)] : List Value).toArray below meth c s.heap [] 0 0 (MQ below (vp_Si (fun _ => True)) ([.ref b, .int (nI 0)] : List Value).toArray s 0 0 (fun _ => False)) (F0 m 13 ls [.int r]) := by
    intro r ls
    exact W.iret hx hb hr (fun t ht hW => ⟨r, rfl, trivial, ht⟩) (fun _ h => by cases h) dX0_cell_13
  show W p l e (rmD 0) s m ([.ref b, .int (nI 0)] : List Value).toArray below meth c s.heap [] 0 0 _ (F0 m 0 ls [])
  refine lv_iload_n hx hb dX0_cell_0 rfl (lv_at hl 1 rfl) ?_
  refine lv_aload_n hx hb dX0_cell_1 rfl (lv_at hl 0 rfl) ?_
  refine va_slen hx hb hX hbl (fun h => h) hS dX0_cell_2 ?_
  refine ow_ge (tgt := 12) 0 L (by omega) hL hx hb dX0_cell_3 (by decide) (fun c3 => ?_) (fun c3 => ?_)
  · refine lv_iconst (v := 0) hx hb dX0_cell_12 (by decide) ?_
    exact fin
  · refine lv_aload_n hx hb dX0_cell_6 rfl (lv_at hl 0 rfl) ?_
    refine lv_iload_n hx hb dX0_cell_7 rfl (lv_at hl 1 rfl) ?_
    refine l_sld (A := fun _ => False) hx hb hX hbl (fun h => h) hS 0 c3 hL dX0_cell_8 ?_
    refine lv_goto (tgt := 13) hx hb dX0_cell_9 (by decide) ?_
    exact fin
end
section
set_option maxHeartbeats 4000000 in
set_option maxRecDepth 100000 in
theorem law_loop {p : Program} {l : Launch} {e : Env} {s : State} {m : MethodId} {below : List Frame} {meth : Method} {c : Code} {b L : Nat} {xs : Nat → Int32} {D : va_G} {h : Nat} {ad : Nat → Nat} {dA : Nat → ClassId} {h2 : Nat} {ad2 : Nat → Nat} {dA2 : Nat → ClassId} (hL : L ≤ 321) (hX : va_X b L xs s s.heap) (hbl : b < s.heap.size) (E : ow_E 16 p m meth c code 4 ret s #[Value.ref b] R_law D (fun q : Nat => s.heap.size ≤ q) dA) (E2 : ow_E 3 p m meth c code 4 ret s #[Value.ref b] R_law D (fun q : Nat => s.heap.size ≤ q) dA2) (ap : ow_ap h ad 16 h2 ad2 3) :
    ∀ (q k : Nat), k ≤ L + 5 → L + 5 < k + q → ∀ (f : Nat → Int32) (g : Nat → Nat → Int32) (f2 : Nat → Int32) (g2 : Nat → Nat → Int32) (val snap : Nat → Int32) (t u : Int32), PX f g val snap t → PM f2 g2 val snap u → TU t u → ∀ (H : Heap) (locs : List Loc) (ls : Array Slot), ow_W 0 16 5 xlen D (fun q : Nat => s.heap.size ≤ q) h ad dA f g s H locs → ow_W 1 3 1 mlen D (fun q : Nat => s.heap.size ≤ q) h2 ad2 dA2 f2 g2 s H locs → lv_has ls 4 [(0, .ref b), (1, .ref h), (2, .ref h2), (3, .int (nI k))] → W p l e room_1 s m #[Value.ref b] below meth c H locs 600000 7290000 (lw_Z below #[Value.ref b] s) (F0 m 28 ls []) := by
  have hx := E.1.1
  have hb := E.1.2.1
  have ap2 : ow_ap h2 ad2 3 h ad 16 := fun a h1 h2 => ap a h2 h1
  have hbA : ¬ (fun q : Nat => s.heap.size ≤ q) b := Nat.not_le.mpr hbl
  have hcs : 600000 ≤ room_1.cells ∧ 7290000 ≤ room_1.slots := ⟨Nat.le_refl _, Nat.le_refl _⟩
  intro q
  induction q with
  | zero => intro k hk hq; exact absurd hq (by omega)
  | succ q ih =>
    intro k hk hq f g f2 g2 val snap t u hPX hPM hTU H locs ls w w2 hl
    have next : ∀ (f : Nat → Int32) (g : Nat → Nat → Int32) (f2 : Nat → Int32) (g2 : Nat → Nat → Int32) (val snap : Nat → Int32) (t u : Int32) (H : Heap) (locs : List Loc), k + 5 ≤ L → PX f g val snap t → PM f2 g2 val snap u → TU t u → ow_W 0 16 5 xlen D (fun q : Nat => s.heap.size ≤ q) h ad dA f g s H locs → ow_W 1 3 1 mlen D (fun q : Nat => s.heap.size ≤ q) h2 ad2 dA2 f2 g2 s H locs → W p l e room_1 s m #[Value.ref b] below meth c H locs 600000 7290000 (lw_Z below #[Value.ref b] s) (F0 m 563 ls []) := by
      intro f g f2 g2 val snap t u H locs hk5 hPX hPM hTU w w2
      refine lv_iinc (v := nI (k + 5)) (lv' := [(3, .int (nI (k + 5))), (0, .ref b), (1, .ref h), (2, .ref h2)]) hx hb dL_law_563 hl (k := 3) rfl (nI_add _ _) (by decide) rfl (fun ls hl => ?_)
      refine lv_goto (tgt := 28) hx hb dL_law_566 (by decide) ?_
      exact ih (k + 5) (by omega) (by omega) f g f2 g2 val snap t u hPX hPM hTU H locs ls w w2 (lv_sub hl [1, 2, 3, 0] rfl)
    refine lv_iload_n hx hb dL_law_28 rfl (lv_at hl 3 rfl) ?_
    refine lv_aload_n hx hb dL_law_29 rfl (lv_at hl 0 rfl) ?_
    refine va_slen hx hb hX hbl hbA w.2.2 dL_law_30 ?_
    refine lv_iconst (v := nI 5) hx hb dL_law_31 (by decide) ?_
    refine lv_isub hx hb dL_law_32 ?_
    refine lv_icmp_gt (tgt := 569) hx hb dL_law_33 (by decide) (fun c33 => ?_) (fun c33 => ?_)
    · refine lv_iconst (v := 1) hx hb dL_law_569 (by decide) ?_
      refine va_forget (fun q hq => w.2.2.2.2 q hq) ?_
      exact lw_ret hx hb E.2.2.2.1 E.2.2.2.2 dL_law_570
    · have hk5 : k + 5 ≤ L := by
        have e1 := pk_sub_toInt (a := L) (b := 5) (by omega) (by omega)
        rcases Nat.lt_or_ge L (k + 5) with z | z
        · exfalso
          apply c33
          show Int32.ofNat L - nI 5 < nI k
          rw [Int32.lt_iff_toInt_lt, show (Int32.ofNat L - nI 5).toInt = _ from e1, nI_toInt (by omega)]
          omega
        · exact z
      refine lv_aload_n hx hb dL_law_36 rfl (lv_at hl 0 rfl) ?_
      refine lv_iload_n hx hb dL_law_37 rfl (lv_at hl 3 rfl) ?_
      refine l_sld hx hb hX hbl hbA w.2.2 (k) (by omega) (by omega) dL_law_38 ?_
      refine lv_bipush (v := nI 31) hx hb dL_law_39 (by decide) ?_
      refine lv_iand hx hb dL_law_41 ?_
      obtain ⟨j, hj, ej⟩ := pk_andE (xs k) (m := nI 31) 5 (by decide)
      refine ow_top (v := nI j) ej ?_
      by_cases hj17 : j < 17
      · have hjj : j = 0 ∨ j = 1 ∨ j = 2 ∨ j = 3 ∨ j = 4 ∨ j = 5 ∨ j = 6 ∨ j = 7 ∨ j = 8 ∨ j = 9 ∨ j = 10 ∨ j = 11 ∨ j = 12 ∨ j = 13 ∨ j = 14 ∨ j = 15 ∨ j = 16 := by omega
        rcases hjj with rfl | rfl | rfl | rfl | rfl | rfl | rfl | rfl | rfl | rfl | rfl | rfl | rfl | rfl | rfl | rfl | rfl
        · refine lv_tableIn (tgt := 124) (off := 82) hx hb dL_law_42 (by decide) (by decide) rfl (by decide) ?_
          refine lv_aload_n hx hb dL_law_124 rfl (lv_at hl 1 rfl) ?_
          refine lv_aload_n hx hb dL_law_125 rfl (lv_at hl 0 rfl) ?_
          refine lv_iload_n hx hb dL_law_126 rfl (lv_at hl 3 rfl) ?_
          refine lv_iconst (v := nI 1) hx hb dL_law_127 (by decide) ?_
          refine lv_iadd hx hb dL_law_128 ?_
          refine ow_top (v := nI (k + 1)) (nI_add _ _) ?_
          refine l_sld hx hb hX hbl hbA w.2.2 (k + 1) (by omega) (by omega) dL_law_129 ?_
          refine l1_stir E w w2 ap hl.1 (Nat.le_of_ble_eq_true rfl) dL_law_130 (by decide) hcs  (fun f1 g1 H locs hp1 w w2 => ?_)
          refine lv_aload_n hx hb dL_law_133 rfl (lv_at hl 2 rfl) ?_
          refine lv_aload_n hx hb dL_law_134 rfl (lv_at hl 0 rfl) ?_
          refine lv_iload_n hx hb dL_law_135 rfl (lv_at hl 3 rfl) ?_
          refine lv_iconst (v := nI 1) hx hb dL_law_136 (by decide) ?_
          refine lv_iadd hx hb dL_law_137 ?_
          refine ow_top (v := nI (k + 1)) (nI_add _ _) ?_
          refine l_sld hx hb hX hbl hbA w.2.2 (k + 1) (by omega) (by omega) dL_law_138 ?_
          refine l2_stir E2 w2 w ap2 hl.1 (Nat.le_of_ble_eq_true rfl) dL_law_139 (by decide) hcs  (fun f3 g3 H locs hp2 w2 w => ?_)
          obtain ⟨h1, h2'⟩ := hp1
          obtain ⟨h3, h4⟩ := hp2
          subst g1 f3 g3
          refine lv_goto (tgt := 563) hx hb dL_law_142 (by decide) ?_
          exact next f1 g f2 g2 val snap t u H locs hk5 (hPX.stir h1) hPM hTU w w2
        · refine lv_tableIn (tgt := 145) (off := 103) hx hb dL_law_42 (by decide) (by decide) rfl (by decide) ?_
          refine lv_aload_n hx hb dL_law_145 rfl (lv_at hl 1 rfl) ?_
          refine lv_aload_n hx hb dL_law_146 rfl (lv_at hl 0 rfl) ?_
          refine lv_iload_n hx hb dL_law_147 rfl (lv_at hl 3 rfl) ?_
          refine lv_iconst (v := nI 1) hx hb dL_law_148 (by decide) ?_
          refine lv_iadd hx hb dL_law_149 ?_
          refine ow_top (v := nI (k + 1)) (nI_add _ _) ?_
          refine l_sld hx hb hX hbl hbA w.2.2 (k + 1) (by omega) (by omega) dL_law_150 ?_
          refine l1_read E w w2 ap hl.1 (Nat.le_of_ble_eq_true rfl) dL_law_151 (by decide) hcs hPX (fun r1 f1 g1 H locs hp1 w w2 => ?_)
          refine lv_aload_n hx hb dL_law_154 rfl (lv_at hl 2 rfl) ?_
          refine lv_aload_n hx hb dL_law_155 rfl (lv_at hl 0 rfl) ?_
          refine lv_iload_n hx hb dL_law_156 rfl (lv_at hl 3 rfl) ?_
          refine lv_iconst (v := nI 1) hx hb dL_law_157 (by decide) ?_
          refine lv_iadd hx hb dL_law_158 ?_
          refine ow_top (v := nI (k + 1)) (nI_add _ _) ?_
          refine l_sld hx hb hX hbl hbA w.2.2 (k + 1) (by omega) (by omega) dL_law_159 ?_
          refine l2_read E2 w2 w ap2 hl.1 (Nat.le_of_ble_eq_true rfl) dL_law_160 (by decide) hcs hPM (fun r2 f3 g3 H locs hp2 w2 w => ?_)
          refine lv_icmp_eq (tgt := 563) hx hb dL_law_163 (by decide) (fun cc => ?_) (fun cc => ?_)
          · exact next f1 g1 f3 g3 _ _ _ _ H locs hk5 hp1.2 hp2.2 hTU.ite w w2
          · exact absurd (hp1.1.trans hp2.1.symm) cc
        · refine lv_tableIn (tgt := 168) (off := 126) hx hb dL_law_42 (by decide) (by decide) rfl (by decide) ?_
          refine lv_aload_n hx hb dL_law_168 rfl (lv_at hl 1 rfl) ?_
          refine lv_aload_n hx hb dL_law_169 rfl (lv_at hl 0 rfl) ?_
          refine lv_iload_n hx hb dL_law_170 rfl (lv_at hl 3 rfl) ?_
          refine lv_iconst (v := nI 1) hx hb dL_law_171 (by decide) ?_
          refine lv_iadd hx hb dL_law_172 ?_
          refine ow_top (v := nI (k + 1)) (nI_add _ _) ?_
          refine l_sld hx hb hX hbl hbA w.2.2 (k + 1) (by omega) (by omega) dL_law_173 ?_
          refine lv_aload_n hx hb dL_law_174 rfl (lv_at hl 0 rfl) ?_
          refine lv_iload_n hx hb dL_law_175 rfl (lv_at hl 3 rfl) ?_
          refine lv_iconst (v := nI 2) hx hb dL_law_176 (by decide) ?_
          refine lv_iadd hx hb dL_law_177 ?_
          refine ow_top (v := nI (k + 2)) (nI_add _ _) ?_
          refine l_sld hx hb hX hbl hbA w.2.2 (k + 2) (by omega) (by omega) dL_law_178 ?_
          refine l1_write E w w2 ap hl.1 (Nat.le_of_ble_eq_true rfl) dL_law_179 (by decide) hcs hPX (fun r1 f1 g1 H locs hp1 w w2 => ?_)
          refine lv_aload_n hx hb dL_law_182 rfl (lv_at hl 2 rfl) ?_
          refine lv_aload_n hx hb dL_law_183 rfl (lv_at hl 0 rfl) ?_
          refine lv_iload_n hx hb dL_law_184 rfl (lv_at hl 3 rfl) ?_
          refine lv_iconst (v := nI 1) hx hb dL_law_185 (by decide) ?_
          refine lv_iadd hx hb dL_law_186 ?_
          refine ow_top (v := nI (k + 1)) (nI_add _ _) ?_
          refine l_sld hx hb hX hbl hbA w.2.2 (k + 1) (by omega) (by omega) dL_law_187 ?_
          refine lv_aload_n hx hb dL_law_188 rfl (lv_at hl 0 rfl) ?_
          refine lv_iload_n hx hb dL_law_189 rfl (lv_at hl 3 rfl) ?_
          refine lv_iconst (v := nI 2) hx hb dL_law_190 (by decide) ?_
          refine lv_iadd hx hb dL_law_191 ?_
          refine ow_top (v := nI (k + 2)) (nI_add _ _) ?_
          refine l_sld hx hb hX hbl hbA w.2.2 (k + 2) (by omega) (by omega) dL_law_192 ?_
          refine l2_write E2 w2 w ap2 hl.1 (Nat.le_of_ble_eq_true rfl) dL_law_193 (by decide) hcs hPM (fun r2 f3 g3 H locs hp2 w2 w => ?_)
          refine lv_icmp_eq (tgt := 563) hx hb dL_law_196 (by decide) (fun cc => ?_) (fun cc => ?_)
          · exact next f1 g1 f3 g3 _ _ _ _ H locs hk5 hp1.2 hp2.2 hTU.ite w w2
          · exact absurd (hp1.1.trans hp2.1.symm) cc
        · refine lv_tableIn (tgt := 201) (off := 159) hx hb dL_law_42 (by decide) (by decide) rfl (by decide) ?_
          refine lv_aload_n hx hb dL_law_201 rfl (lv_at hl 1 rfl) ?_
          refine lv_aload_n hx hb dL_law_202 rfl (lv_at hl 0 rfl) ?_
          refine lv_iload_n hx hb dL_law_203 rfl (lv_at hl 3 rfl) ?_
          refine lv_iconst (v := nI 1) hx hb dL_law_204 (by decide) ?_
          refine lv_iadd hx hb dL_law_205 ?_
          refine ow_top (v := nI (k + 1)) (nI_add _ _) ?_
          refine l_sld hx hb hX hbl hbA w.2.2 (k + 1) (by omega) (by omega) dL_law_206 ?_
          refine lv_aload_n hx hb dL_law_207 rfl (lv_at hl 0 rfl) ?_
          refine lv_iload_n hx hb dL_law_208 rfl (lv_at hl 3 rfl) ?_
          refine lv_iconst (v := nI 2) hx hb dL_law_209 (by decide) ?_
          refine lv_iadd hx hb dL_law_210 ?_
          refine ow_top (v := nI (k + 2)) (nI_add _ _) ?_
          refine l_sld hx hb hX hbl hbA w.2.2 (k + 2) (by omega) (by omega) dL_law_211 ?_
          refine l1_add E w w2 ap hl.1 (Nat.le_of_ble_eq_true rfl) dL_law_212 (by decide) hcs hPX (fun r1 f1 g1 H locs hp1 w w2 => ?_)
          refine lv_aload_n hx hb dL_law_215 rfl (lv_at hl 2 rfl) ?_
          refine lv_aload_n hx hb dL_law_216 rfl (lv_at hl 0 rfl) ?_
          refine lv_iload_n hx hb dL_law_217 rfl (lv_at hl 3 rfl) ?_
          refine lv_iconst (v := nI 1) hx hb dL_law_218 (by decide) ?_
          refine lv_iadd hx hb dL_law_219 ?_
          refine ow_top (v := nI (k + 1)) (nI_add _ _) ?_
          refine l_sld hx hb hX hbl hbA w.2.2 (k + 1) (by omega) (by omega) dL_law_220 ?_
          refine lv_aload_n hx hb dL_law_221 rfl (lv_at hl 0 rfl) ?_
          refine lv_iload_n hx hb dL_law_222 rfl (lv_at hl 3 rfl) ?_
          refine lv_iconst (v := nI 2) hx hb dL_law_223 (by decide) ?_
          refine lv_iadd hx hb dL_law_224 ?_
          refine ow_top (v := nI (k + 2)) (nI_add _ _) ?_
          refine l_sld hx hb hX hbl hbA w.2.2 (k + 2) (by omega) (by omega) dL_law_225 ?_
          refine l2_add E2 w2 w ap2 hl.1 (Nat.le_of_ble_eq_true rfl) dL_law_226 (by decide) hcs hPM (fun r2 f3 g3 H locs hp2 w2 w => ?_)
          refine lv_icmp_eq (tgt := 563) hx hb dL_law_229 (by decide) (fun cc => ?_) (fun cc => ?_)
          · exact next f1 g1 f3 g3 _ _ _ _ H locs hk5 hp1.2 hp2.2 hTU.ite w w2
          · exact absurd (hp1.1.trans hp2.1.symm) cc
        · refine lv_tableIn (tgt := 234) (off := 192) hx hb dL_law_42 (by decide) (by decide) rfl (by decide) ?_
          refine lv_aload_n hx hb dL_law_234 rfl (lv_at hl 1 rfl) ?_
          refine lv_aload_n hx hb dL_law_235 rfl (lv_at hl 0 rfl) ?_
          refine lv_iload_n hx hb dL_law_236 rfl (lv_at hl 3 rfl) ?_
          refine lv_iconst (v := nI 1) hx hb dL_law_237 (by decide) ?_
          refine lv_iadd hx hb dL_law_238 ?_
          refine ow_top (v := nI (k + 1)) (nI_add _ _) ?_
          refine l_sld hx hb hX hbl hbA w.2.2 (k + 1) (by omega) (by omega) dL_law_239 ?_
          refine lv_aload_n hx hb dL_law_240 rfl (lv_at hl 0 rfl) ?_
          refine lv_iload_n hx hb dL_law_241 rfl (lv_at hl 3 rfl) ?_
          refine lv_iconst (v := nI 2) hx hb dL_law_242 (by decide) ?_
          refine lv_iadd hx hb dL_law_243 ?_
          refine ow_top (v := nI (k + 2)) (nI_add _ _) ?_
          refine l_sld hx hb hX hbl hbA w.2.2 (k + 2) (by omega) (by omega) dL_law_244 ?_
          refine l1_exchange E w w2 ap hl.1 (Nat.le_of_ble_eq_true rfl) dL_law_245 (by decide) hcs hPX (fun r1 f1 g1 H locs hp1 w w2 => ?_)
          refine lv_aload_n hx hb dL_law_248 rfl (lv_at hl 2 rfl) ?_
          refine lv_aload_n hx hb dL_law_249 rfl (lv_at hl 0 rfl) ?_
          refine lv_iload_n hx hb dL_law_250 rfl (lv_at hl 3 rfl) ?_
          refine lv_iconst (v := nI 1) hx hb dL_law_251 (by decide) ?_
          refine lv_iadd hx hb dL_law_252 ?_
          refine ow_top (v := nI (k + 1)) (nI_add _ _) ?_
          refine l_sld hx hb hX hbl hbA w.2.2 (k + 1) (by omega) (by omega) dL_law_253 ?_
          refine lv_aload_n hx hb dL_law_254 rfl (lv_at hl 0 rfl) ?_
          refine lv_iload_n hx hb dL_law_255 rfl (lv_at hl 3 rfl) ?_
          refine lv_iconst (v := nI 2) hx hb dL_law_256 (by decide) ?_
          refine lv_iadd hx hb dL_law_257 ?_
          refine ow_top (v := nI (k + 2)) (nI_add _ _) ?_
          refine l_sld hx hb hX hbl hbA w.2.2 (k + 2) (by omega) (by omega) dL_law_258 ?_
          refine l2_exchange E2 w2 w ap2 hl.1 (Nat.le_of_ble_eq_true rfl) dL_law_259 (by decide) hcs hPM (fun r2 f3 g3 H locs hp2 w2 w => ?_)
          refine lv_icmp_eq (tgt := 563) hx hb dL_law_262 (by decide) (fun cc => ?_) (fun cc => ?_)
          · exact next f1 g1 f3 g3 _ _ _ _ H locs hk5 hp1.2 hp2.2 hTU.ite w w2
          · exact absurd (hp1.1.trans hp2.1.symm) cc
        · refine lv_tableIn (tgt := 267) (off := 225) hx hb dL_law_42 (by decide) (by decide) rfl (by decide) ?_
          refine lv_aload_n hx hb dL_law_267 rfl (lv_at hl 1 rfl) ?_
          refine lv_aload_n hx hb dL_law_268 rfl (lv_at hl 0 rfl) ?_
          refine lv_iload_n hx hb dL_law_269 rfl (lv_at hl 3 rfl) ?_
          refine lv_iconst (v := nI 1) hx hb dL_law_270 (by decide) ?_
          refine lv_iadd hx hb dL_law_271 ?_
          refine ow_top (v := nI (k + 1)) (nI_add _ _) ?_
          refine l_sld hx hb hX hbl hbA w.2.2 (k + 1) (by omega) (by omega) dL_law_272 ?_
          refine lv_aload_n hx hb dL_law_273 rfl (lv_at hl 0 rfl) ?_
          refine lv_iload_n hx hb dL_law_274 rfl (lv_at hl 3 rfl) ?_
          refine lv_iconst (v := nI 2) hx hb dL_law_275 (by decide) ?_
          refine lv_iadd hx hb dL_law_276 ?_
          refine ow_top (v := nI (k + 2)) (nI_add _ _) ?_
          refine l_sld hx hb hX hbl hbA w.2.2 (k + 2) (by omega) (by omega) dL_law_277 ?_
          refine l1_copy E w w2 ap hl.1 (Nat.le_of_ble_eq_true rfl) dL_law_278 (by decide) hcs hPX (fun r1 f1 g1 H locs hp1 w w2 => ?_)
          refine lv_aload_n hx hb dL_law_281 rfl (lv_at hl 2 rfl) ?_
          refine lv_aload_n hx hb dL_law_282 rfl (lv_at hl 0 rfl) ?_
          refine lv_iload_n hx hb dL_law_283 rfl (lv_at hl 3 rfl) ?_
          refine lv_iconst (v := nI 1) hx hb dL_law_284 (by decide) ?_
          refine lv_iadd hx hb dL_law_285 ?_
          refine ow_top (v := nI (k + 1)) (nI_add _ _) ?_
          refine l_sld hx hb hX hbl hbA w.2.2 (k + 1) (by omega) (by omega) dL_law_286 ?_
          refine lv_aload_n hx hb dL_law_287 rfl (lv_at hl 0 rfl) ?_
          refine lv_iload_n hx hb dL_law_288 rfl (lv_at hl 3 rfl) ?_
          refine lv_iconst (v := nI 2) hx hb dL_law_289 (by decide) ?_
          refine lv_iadd hx hb dL_law_290 ?_
          refine ow_top (v := nI (k + 2)) (nI_add _ _) ?_
          refine l_sld hx hb hX hbl hbA w.2.2 (k + 2) (by omega) (by omega) dL_law_291 ?_
          refine l2_copy E2 w2 w ap2 hl.1 (Nat.le_of_ble_eq_true rfl) dL_law_292 (by decide) hcs hPM (fun r2 f3 g3 H locs hp2 w2 w => ?_)
          refine lv_icmp_eq (tgt := 563) hx hb dL_law_295 (by decide) (fun cc => ?_) (fun cc => ?_)
          · exact next f1 g1 f3 g3 _ _ _ _ H locs hk5 hp1.2 hp2.2 hTU.ite w w2
          · exact absurd (hp1.1.trans hp2.1.symm) cc
        · refine lv_tableIn (tgt := 300) (off := 258) hx hb dL_law_42 (by decide) (by decide) rfl (by decide) ?_
          refine lv_aload_n hx hb dL_law_300 rfl (lv_at hl 1 rfl) ?_
          refine lv_aload_n hx hb dL_law_301 rfl (lv_at hl 0 rfl) ?_
          refine lv_iload_n hx hb dL_law_302 rfl (lv_at hl 3 rfl) ?_
          refine lv_iconst (v := nI 1) hx hb dL_law_303 (by decide) ?_
          refine lv_iadd hx hb dL_law_304 ?_
          refine ow_top (v := nI (k + 1)) (nI_add _ _) ?_
          refine l_sld hx hb hX hbl hbA w.2.2 (k + 1) (by omega) (by omega) dL_law_305 ?_
          refine lv_aload_n hx hb dL_law_306 rfl (lv_at hl 0 rfl) ?_
          refine lv_iload_n hx hb dL_law_307 rfl (lv_at hl 3 rfl) ?_
          refine lv_iconst (v := nI 2) hx hb dL_law_308 (by decide) ?_
          refine lv_iadd hx hb dL_law_309 ?_
          refine ow_top (v := nI (k + 2)) (nI_add _ _) ?_
          refine l_sld hx hb hX hbl hbA w.2.2 (k + 2) (by omega) (by omega) dL_law_310 ?_
          refine lv_aload_n hx hb dL_law_311 rfl (lv_at hl 0 rfl) ?_
          refine lv_iload_n hx hb dL_law_312 rfl (lv_at hl 3 rfl) ?_
          refine lv_iconst (v := nI 3) hx hb dL_law_313 (by decide) ?_
          refine lv_iadd hx hb dL_law_314 ?_
          refine ow_top (v := nI (k + 3)) (nI_add _ _) ?_
          refine l_sld hx hb hX hbl hbA w.2.2 (k + 3) (by omega) (by omega) dL_law_315 ?_
          refine lv_aload_n hx hb dL_law_316 rfl (lv_at hl 0 rfl) ?_
          refine lv_iload_n hx hb dL_law_317 rfl (lv_at hl 3 rfl) ?_
          refine lv_iconst (v := nI 4) hx hb dL_law_318 (by decide) ?_
          refine lv_iadd hx hb dL_law_319 ?_
          refine ow_top (v := nI (k + 4)) (nI_add _ _) ?_
          refine l_sld hx hb hX hbl hbA w.2.2 (k + 4) (by omega) (by omega) dL_law_320 ?_
          refine l1_fill E w w2 ap hl.1 (Nat.le_of_ble_eq_true rfl) dL_law_321 (by decide) hcs hPX (fun r1 f1 g1 H locs hp1 w w2 => ?_)
          refine lv_aload_n hx hb dL_law_324 rfl (lv_at hl 2 rfl) ?_
          refine lv_aload_n hx hb dL_law_325 rfl (lv_at hl 0 rfl) ?_
          refine lv_iload_n hx hb dL_law_326 rfl (lv_at hl 3 rfl) ?_
          refine lv_iconst (v := nI 1) hx hb dL_law_327 (by decide) ?_
          refine lv_iadd hx hb dL_law_328 ?_
          refine ow_top (v := nI (k + 1)) (nI_add _ _) ?_
          refine l_sld hx hb hX hbl hbA w.2.2 (k + 1) (by omega) (by omega) dL_law_329 ?_
          refine lv_aload_n hx hb dL_law_330 rfl (lv_at hl 0 rfl) ?_
          refine lv_iload_n hx hb dL_law_331 rfl (lv_at hl 3 rfl) ?_
          refine lv_iconst (v := nI 2) hx hb dL_law_332 (by decide) ?_
          refine lv_iadd hx hb dL_law_333 ?_
          refine ow_top (v := nI (k + 2)) (nI_add _ _) ?_
          refine l_sld hx hb hX hbl hbA w.2.2 (k + 2) (by omega) (by omega) dL_law_334 ?_
          refine lv_aload_n hx hb dL_law_335 rfl (lv_at hl 0 rfl) ?_
          refine lv_iload_n hx hb dL_law_336 rfl (lv_at hl 3 rfl) ?_
          refine lv_iconst (v := nI 3) hx hb dL_law_337 (by decide) ?_
          refine lv_iadd hx hb dL_law_338 ?_
          refine ow_top (v := nI (k + 3)) (nI_add _ _) ?_
          refine l_sld hx hb hX hbl hbA w.2.2 (k + 3) (by omega) (by omega) dL_law_339 ?_
          refine lv_aload_n hx hb dL_law_340 rfl (lv_at hl 0 rfl) ?_
          refine lv_iload_n hx hb dL_law_341 rfl (lv_at hl 3 rfl) ?_
          refine lv_iconst (v := nI 4) hx hb dL_law_342 (by decide) ?_
          refine lv_iadd hx hb dL_law_343 ?_
          refine ow_top (v := nI (k + 4)) (nI_add _ _) ?_
          refine l_sld hx hb hX hbl hbA w.2.2 (k + 4) (by omega) (by omega) dL_law_344 ?_
          refine l2_fill E2 w2 w ap2 hl.1 (Nat.le_of_ble_eq_true rfl) dL_law_345 (by decide) hcs hPM (fun r2 f3 g3 H locs hp2 w2 w => ?_)
          refine lv_icmp_eq (tgt := 563) hx hb dL_law_348 (by decide) (fun cc => ?_) (fun cc => ?_)
          · exact next f1 g1 f3 g3 _ _ _ _ H locs hk5 hp1.2 hp2.2 hTU.ite w w2
          · exact absurd (hp1.1.trans hp2.1.symm) cc
        · refine lv_tableIn (tgt := 353) (off := 311) hx hb dL_law_42 (by decide) (by decide) rfl (by decide) ?_
          refine lv_aload_n hx hb dL_law_353 rfl (lv_at hl 1 rfl) ?_
          refine lv_aload_n hx hb dL_law_354 rfl (lv_at hl 0 rfl) ?_
          refine lv_iload_n hx hb dL_law_355 rfl (lv_at hl 3 rfl) ?_
          refine lv_iconst (v := nI 1) hx hb dL_law_356 (by decide) ?_
          refine lv_iadd hx hb dL_law_357 ?_
          refine ow_top (v := nI (k + 1)) (nI_add _ _) ?_
          refine l_sld hx hb hX hbl hbA w.2.2 (k + 1) (by omega) (by omega) dL_law_358 ?_
          refine l1_rotate E w w2 ap hl.1 (Nat.le_of_ble_eq_true rfl) dL_law_359 (by decide) hcs hPX (fun r1 f1 g1 H locs hp1 w w2 => ?_)
          refine lv_aload_n hx hb dL_law_362 rfl (lv_at hl 2 rfl) ?_
          refine lv_aload_n hx hb dL_law_363 rfl (lv_at hl 0 rfl) ?_
          refine lv_iload_n hx hb dL_law_364 rfl (lv_at hl 3 rfl) ?_
          refine lv_iconst (v := nI 1) hx hb dL_law_365 (by decide) ?_
          refine lv_iadd hx hb dL_law_366 ?_
          refine ow_top (v := nI (k + 1)) (nI_add _ _) ?_
          refine l_sld hx hb hX hbl hbA w.2.2 (k + 1) (by omega) (by omega) dL_law_367 ?_
          refine l2_rotate E2 w2 w ap2 hl.1 (Nat.le_of_ble_eq_true rfl) dL_law_368 (by decide) hcs hPM (fun r2 f3 g3 H locs hp2 w2 w => ?_)
          refine lv_icmp_eq (tgt := 563) hx hb dL_law_371 (by decide) (fun cc => ?_) (fun cc => ?_)
          · exact next f1 g1 f3 g3 _ _ _ _ H locs hk5 hp1.2 hp2.2 hTU.ite w w2
          · exact absurd (hp1.1.trans hp2.1.symm) cc
        · refine lv_tableIn (tgt := 376) (off := 334) hx hb dL_law_42 (by decide) (by decide) rfl (by decide) ?_
          refine lv_aload_n hx hb dL_law_376 rfl (lv_at hl 1 rfl) ?_
          refine l1_sum E w w2 ap hl.1 (Nat.le_of_ble_eq_true rfl) dL_law_377 (by decide) hcs hPX (fun r1 f1 g1 H locs hp1 w w2 => ?_)
          refine lv_aload_n hx hb dL_law_380 rfl (lv_at hl 2 rfl) ?_
          refine l2_sum E2 w2 w ap2 hl.1 (Nat.le_of_ble_eq_true rfl) dL_law_381 (by decide) hcs hPM (fun r2 f3 g3 H locs hp2 w2 w => ?_)
          refine lv_icmp_eq (tgt := 563) hx hb dL_law_384 (by decide) (fun cc => ?_) (fun cc => ?_)
          · exact next f1 g1 f3 g3 _ _ _ _ H locs hk5 hp1.2 hp2.2 hTU.ite w w2
          · exact absurd (hp1.1.trans hp2.1.symm) cc
        · refine lv_tableIn (tgt := 389) (off := 347) hx hb dL_law_42 (by decide) (by decide) rfl (by decide) ?_
          refine lv_aload_n hx hb dL_law_389 rfl (lv_at hl 1 rfl) ?_
          refine lv_aload_n hx hb dL_law_390 rfl (lv_at hl 0 rfl) ?_
          refine lv_iload_n hx hb dL_law_391 rfl (lv_at hl 3 rfl) ?_
          refine lv_iconst (v := nI 1) hx hb dL_law_392 (by decide) ?_
          refine lv_iadd hx hb dL_law_393 ?_
          refine ow_top (v := nI (k + 1)) (nI_add _ _) ?_
          refine l_sld hx hb hX hbl hbA w.2.2 (k + 1) (by omega) (by omega) dL_law_394 ?_
          refine lv_aload_n hx hb dL_law_395 rfl (lv_at hl 0 rfl) ?_
          refine lv_iload_n hx hb dL_law_396 rfl (lv_at hl 3 rfl) ?_
          refine lv_iconst (v := nI 2) hx hb dL_law_397 (by decide) ?_
          refine lv_iadd hx hb dL_law_398 ?_
          refine ow_top (v := nI (k + 2)) (nI_add _ _) ?_
          refine l_sld hx hb hX hbl hbA w.2.2 (k + 2) (by omega) (by omega) dL_law_399 ?_
          refine l1_find E w w2 ap hl.1 (Nat.le_of_ble_eq_true rfl) dL_law_400 (by decide) hcs hPX (fun r1 f1 g1 H locs hp1 w w2 => ?_)
          refine lv_aload_n hx hb dL_law_403 rfl (lv_at hl 2 rfl) ?_
          refine lv_aload_n hx hb dL_law_404 rfl (lv_at hl 0 rfl) ?_
          refine lv_iload_n hx hb dL_law_405 rfl (lv_at hl 3 rfl) ?_
          refine lv_iconst (v := nI 1) hx hb dL_law_406 (by decide) ?_
          refine lv_iadd hx hb dL_law_407 ?_
          refine ow_top (v := nI (k + 1)) (nI_add _ _) ?_
          refine l_sld hx hb hX hbl hbA w.2.2 (k + 1) (by omega) (by omega) dL_law_408 ?_
          refine lv_aload_n hx hb dL_law_409 rfl (lv_at hl 0 rfl) ?_
          refine lv_iload_n hx hb dL_law_410 rfl (lv_at hl 3 rfl) ?_
          refine lv_iconst (v := nI 2) hx hb dL_law_411 (by decide) ?_
          refine lv_iadd hx hb dL_law_412 ?_
          refine ow_top (v := nI (k + 2)) (nI_add _ _) ?_
          refine l_sld hx hb hX hbl hbA w.2.2 (k + 2) (by omega) (by omega) dL_law_413 ?_
          refine l2_find E2 w2 w ap2 hl.1 (Nat.le_of_ble_eq_true rfl) dL_law_414 (by decide) hcs hPM (fun r2 f3 g3 H locs hp2 w2 w => ?_)
          refine lv_icmp_eq (tgt := 563) hx hb dL_law_417 (by decide) (fun cc => ?_) (fun cc => ?_)
          · exact next f1 g1 f3 g3 _ _ _ _ H locs hk5 hp1.2 hp2.2 hTU.ite w w2
          · exact absurd (hp1.1.trans hp2.1.symm) cc
        · refine lv_tableIn (tgt := 422) (off := 380) hx hb dL_law_42 (by decide) (by decide) rfl (by decide) ?_
          refine lv_aload_n hx hb dL_law_422 rfl (lv_at hl 1 rfl) ?_
          refine lv_aload_n hx hb dL_law_423 rfl (lv_at hl 0 rfl) ?_
          refine lv_iload_n hx hb dL_law_424 rfl (lv_at hl 3 rfl) ?_
          refine lv_iconst (v := nI 1) hx hb dL_law_425 (by decide) ?_
          refine lv_iadd hx hb dL_law_426 ?_
          refine ow_top (v := nI (k + 1)) (nI_add _ _) ?_
          refine l_sld hx hb hX hbl hbA w.2.2 (k + 1) (by omega) (by omega) dL_law_427 ?_
          refine l1_below E w w2 ap hl.1 (Nat.le_of_ble_eq_true rfl) dL_law_428 (by decide) hcs hPX (fun r1 f1 g1 H locs hp1 w w2 => ?_)
          refine lv_aload_n hx hb dL_law_431 rfl (lv_at hl 2 rfl) ?_
          refine lv_aload_n hx hb dL_law_432 rfl (lv_at hl 0 rfl) ?_
          refine lv_iload_n hx hb dL_law_433 rfl (lv_at hl 3 rfl) ?_
          refine lv_iconst (v := nI 1) hx hb dL_law_434 (by decide) ?_
          refine lv_iadd hx hb dL_law_435 ?_
          refine ow_top (v := nI (k + 1)) (nI_add _ _) ?_
          refine l_sld hx hb hX hbl hbA w.2.2 (k + 1) (by omega) (by omega) dL_law_436 ?_
          refine l2_below E2 w2 w ap2 hl.1 (Nat.le_of_ble_eq_true rfl) dL_law_437 (by decide) hcs hPM (fun r2 f3 g3 H locs hp2 w2 w => ?_)
          refine lv_icmp_eq (tgt := 563) hx hb dL_law_440 (by decide) (fun cc => ?_) (fun cc => ?_)
          · exact next f1 g1 f3 g3 _ _ _ _ H locs hk5 hp1.2 hp2.2 hTU.ite w w2
          · exact absurd (hp1.1.trans hp2.1.symm) cc
        · refine lv_tableIn (tgt := 445) (off := 403) hx hb dL_law_42 (by decide) (by decide) rfl (by decide) ?_
          refine lv_aload_n hx hb dL_law_445 rfl (lv_at hl 1 rfl) ?_
          refine lv_aload_n hx hb dL_law_446 rfl (lv_at hl 0 rfl) ?_
          refine lv_iload_n hx hb dL_law_447 rfl (lv_at hl 3 rfl) ?_
          refine lv_iconst (v := nI 1) hx hb dL_law_448 (by decide) ?_
          refine lv_iadd hx hb dL_law_449 ?_
          refine ow_top (v := nI (k + 1)) (nI_add _ _) ?_
          refine l_sld hx hb hX hbl hbA w.2.2 (k + 1) (by omega) (by omega) dL_law_450 ?_
          refine l1_ranked E w w2 ap hl.1 (Nat.le_of_ble_eq_true rfl) dL_law_451 (by decide) hcs hPX (fun r1 f1 g1 H locs hp1 w w2 => ?_)
          refine lv_aload_n hx hb dL_law_454 rfl (lv_at hl 2 rfl) ?_
          refine lv_aload_n hx hb dL_law_455 rfl (lv_at hl 0 rfl) ?_
          refine lv_iload_n hx hb dL_law_456 rfl (lv_at hl 3 rfl) ?_
          refine lv_iconst (v := nI 1) hx hb dL_law_457 (by decide) ?_
          refine lv_iadd hx hb dL_law_458 ?_
          refine ow_top (v := nI (k + 1)) (nI_add _ _) ?_
          refine l_sld hx hb hX hbl hbA w.2.2 (k + 1) (by omega) (by omega) dL_law_459 ?_
          refine l2_ranked E2 w2 w ap2 hl.1 (Nat.le_of_ble_eq_true rfl) dL_law_460 (by decide) hcs hPM (fun z => (hp1.1.1 z).ex) (fun r2 f3 g3 H locs hp2 w2 w => ?_)
          refine lv_icmp_eq (tgt := 563) hx hb dL_law_463 (by decide) (fun cc => ?_) (fun cc => ?_)
          · exact next f1 g1 f3 g3 _ _ _ _ H locs hk5 hp1.2 hp2.2 hTU.ite w w2
          · exfalso
            apply cc
            cases z : inb (xs (k + 1)) with
            | true => exact (hp1.1.1 z).one (hp2.1.1 z)
            | false => rw [hp1.1.2 z, hp2.1.2 z]
        · refine lv_tableIn (tgt := 468) (off := 426) hx hb dL_law_42 (by decide) (by decide) rfl (by decide) ?_
          refine lv_aload_n hx hb dL_law_468 rfl (lv_at hl 1 rfl) ?_
          refine lv_aload_n hx hb dL_law_469 rfl (lv_at hl 0 rfl) ?_
          refine lv_iload_n hx hb dL_law_470 rfl (lv_at hl 3 rfl) ?_
          refine lv_iconst (v := nI 1) hx hb dL_law_471 (by decide) ?_
          refine lv_iadd hx hb dL_law_472 ?_
          refine ow_top (v := nI (k + 1)) (nI_add _ _) ?_
          refine l_sld hx hb hX hbl hbA w.2.2 (k + 1) (by omega) (by omega) dL_law_473 ?_
          refine l1_save E w w2 ap hl.1 (Nat.le_of_ble_eq_true rfl) dL_law_474 (by decide) hcs hPX (fun r1 f1 g1 H locs hp1 w w2 => ?_)
          refine lv_aload_n hx hb dL_law_477 rfl (lv_at hl 2 rfl) ?_
          refine lv_aload_n hx hb dL_law_478 rfl (lv_at hl 0 rfl) ?_
          refine lv_iload_n hx hb dL_law_479 rfl (lv_at hl 3 rfl) ?_
          refine lv_iconst (v := nI 1) hx hb dL_law_480 (by decide) ?_
          refine lv_iadd hx hb dL_law_481 ?_
          refine ow_top (v := nI (k + 1)) (nI_add _ _) ?_
          refine l_sld hx hb hX hbl hbA w.2.2 (k + 1) (by omega) (by omega) dL_law_482 ?_
          refine l2_save E2 w2 w ap2 hl.1 (Nat.le_of_ble_eq_true rfl) dL_law_483 (by decide) hcs hPM (fun r2 f3 g3 H locs hp2 w2 w => ?_)
          refine lv_icmp_eq (tgt := 563) hx hb dL_law_486 (by decide) (fun cc => ?_) (fun cc => ?_)
          · exact next f1 g1 f3 g3 _ _ _ _ H locs hk5 hp1.2 hp2.2 hTU.ite w w2
          · exact absurd (hp1.1.trans hp2.1.symm) cc
        · refine lv_tableIn (tgt := 491) (off := 449) hx hb dL_law_42 (by decide) (by decide) rfl (by decide) ?_
          refine lv_aload_n hx hb dL_law_491 rfl (lv_at hl 1 rfl) ?_
          refine lv_aload_n hx hb dL_law_492 rfl (lv_at hl 0 rfl) ?_
          refine lv_iload_n hx hb dL_law_493 rfl (lv_at hl 3 rfl) ?_
          refine lv_iconst (v := nI 1) hx hb dL_law_494 (by decide) ?_
          refine lv_iadd hx hb dL_law_495 ?_
          refine ow_top (v := nI (k + 1)) (nI_add _ _) ?_
          refine l_sld hx hb hX hbl hbA w.2.2 (k + 1) (by omega) (by omega) dL_law_496 ?_
          refine l1_load E w w2 ap hl.1 (Nat.le_of_ble_eq_true rfl) dL_law_497 (by decide) hcs hPX (fun r1 f1 g1 H locs hp1 w w2 => ?_)
          refine lv_aload_n hx hb dL_law_500 rfl (lv_at hl 2 rfl) ?_
          refine lv_aload_n hx hb dL_law_501 rfl (lv_at hl 0 rfl) ?_
          refine lv_iload_n hx hb dL_law_502 rfl (lv_at hl 3 rfl) ?_
          refine lv_iconst (v := nI 1) hx hb dL_law_503 (by decide) ?_
          refine lv_iadd hx hb dL_law_504 ?_
          refine ow_top (v := nI (k + 1)) (nI_add _ _) ?_
          refine l_sld hx hb hX hbl hbA w.2.2 (k + 1) (by omega) (by omega) dL_law_505 ?_
          refine l2_load E2 w2 w ap2 hl.1 (Nat.le_of_ble_eq_true rfl) dL_law_506 (by decide) hcs hPM (fun r2 f3 g3 H locs hp2 w2 w => ?_)
          refine lv_icmp_eq (tgt := 563) hx hb dL_law_509 (by decide) (fun cc => ?_) (fun cc => ?_)
          · exact next f1 g1 f3 g3 _ _ _ _ H locs hk5 hp1.2 hp2.2 hTU.ite w w2
          · exact absurd (hp1.1.trans hp2.1.symm) cc
        · refine lv_tableIn (tgt := 514) (off := 472) hx hb dL_law_42 (by decide) (by decide) rfl (by decide) ?_
          refine lv_aload_n hx hb dL_law_514 rfl (lv_at hl 1 rfl) ?_
          refine lv_aload_n hx hb dL_law_515 rfl (lv_at hl 0 rfl) ?_
          refine lv_iload_n hx hb dL_law_516 rfl (lv_at hl 3 rfl) ?_
          refine lv_iconst (v := nI 1) hx hb dL_law_517 (by decide) ?_
          refine lv_iadd hx hb dL_law_518 ?_
          refine ow_top (v := nI (k + 1)) (nI_add _ _) ?_
          refine l_sld hx hb hX hbl hbA w.2.2 (k + 1) (by omega) (by omega) dL_law_519 ?_
          refine l1_differing E w w2 ap hl.1 (Nat.le_of_ble_eq_true rfl) dL_law_520 (by decide) hcs hPX (fun r1 f1 g1 H locs hp1 w w2 => ?_)
          refine lv_aload_n hx hb dL_law_523 rfl (lv_at hl 2 rfl) ?_
          refine lv_aload_n hx hb dL_law_524 rfl (lv_at hl 0 rfl) ?_
          refine lv_iload_n hx hb dL_law_525 rfl (lv_at hl 3 rfl) ?_
          refine lv_iconst (v := nI 1) hx hb dL_law_526 (by decide) ?_
          refine lv_iadd hx hb dL_law_527 ?_
          refine ow_top (v := nI (k + 1)) (nI_add _ _) ?_
          refine l_sld hx hb hX hbl hbA w.2.2 (k + 1) (by omega) (by omega) dL_law_528 ?_
          refine l2_differing E2 w2 w ap2 hl.1 (Nat.le_of_ble_eq_true rfl) dL_law_529 (by decide) hcs hPM (fun r2 f3 g3 H locs hp2 w2 w => ?_)
          refine lv_icmp_eq (tgt := 563) hx hb dL_law_532 (by decide) (fun cc => ?_) (fun cc => ?_)
          · exact next f1 g1 f3 g3 _ _ _ _ H locs hk5 hp1.2 hp2.2 hTU.ite w w2
          · exact absurd (hp1.1.trans hp2.1.symm) cc
        · refine lv_tableIn (tgt := 537) (off := 495) hx hb dL_law_42 (by decide) (by decide) rfl (by decide) ?_
          refine lv_aload_n hx hb dL_law_537 rfl (lv_at hl 1 rfl) ?_
          refine l1_audit E w w2 ap hl.1 (Nat.le_of_ble_eq_true rfl) dL_law_538 (by decide) hcs hPX (fun r1 f1 g1 H locs hp1 w w2 => ?_)
          refine lv_aload_n hx hb dL_law_541 rfl (lv_at hl 2 rfl) ?_
          refine l2_audit E2 w2 w ap2 hl.1 (Nat.le_of_ble_eq_true rfl) dL_law_542 (by decide) hcs hPM (fun r2 f3 g3 H locs hp2 w2 w => ?_)
          refine lv_icmp_eq (tgt := 563) hx hb dL_law_545 (by decide) (fun cc => ?_) (fun cc => ?_)
          · exact next f1 g1 f3 g3 _ _ _ _ H locs hk5 hp1.2 hp2.2 hTU.ite w w2
          · exact absurd (hp1.1.trans hp2.1.symm) cc
        · refine lv_tableIn (tgt := 550) (off := 508) hx hb dL_law_42 (by decide) (by decide) rfl (by decide) ?_
          refine lv_aload_n hx hb dL_law_550 rfl (lv_at hl 1 rfl) ?_
          refine l1_touched E w w2 ap hl.1 (Nat.le_of_ble_eq_true rfl) dL_law_551 (by decide) hcs  (fun r1 f1 g1 H locs hp1 w w2 => ?_)
          refine lv_aload_n hx hb dL_law_554 rfl (lv_at hl 2 rfl) ?_
          refine l2_touched E2 w2 w ap2 hl.1 (Nat.le_of_ble_eq_true rfl) dL_law_555 (by decide) hcs hPM (fun r2 f3 g3 H locs hp2 w2 w => ?_)
          refine lv_icmp_eq (tgt := 563) hx hb dL_law_558 (by decide) (fun cc => ?_) (fun cc => ?_)
          · obtain ⟨-, h3, h4⟩ := hp1
            obtain ⟨-, h5, h6⟩ := hp2
            subst f1 g1 f3 g3
            exact next f g f2 g2 val snap t u H locs hk5 hPX hPM hTU w w2
          · exfalso
            apply cc
            rw [hp1.1, hp2.1, hPX.2.2]
            rcases hTU with ⟨e1, e2⟩ | ⟨e1, e2⟩
            · rw [e1, e2]; rfl
            · rw [e1, e2]; rfl
      · refine lv_tableOut (tgt := 563) hx hb dL_law_42 (Or.inr (by rw [nI_toInt (by omega)]; omega)) (by decide) ?_
        exact next f g f2 g2 val snap t u H locs hk5 hPX hPM hTU w w2
end
section
theorem ow_isTo {ci nA nF : Nat} {len : Nat → Nat} {h : Nat} {ad : Nat → Nat} {dA : Nat → ClassId} {f : Nat → Int32} {g : Nat → Nat → Int32} {a : Nat} (ha : ow_is h ad nA a) : ∃ (k : Nat) (q : Nat × va_E), (ow_w ci nA nF len h ad dA f g)[k]? = some q ∧ q.1 = a := by
  rcases ha with e | ⟨j, hj, e⟩
  · exact ⟨0, _, ow_o, e.symm⟩
  · exact ⟨j + 1, _, ow_a hj, e.symm⟩
theorem fsX1_ok : ∀ j, j < 21 → defaultValue (tyX1 j) = vp_V fsX1 j := by
  intro j hj
  rcases (show j = 0 ∨ j = 1 ∨ j = 2 ∨ j = 3 ∨ j = 4 ∨ j = 5 ∨ j = 6 ∨ j = 7 ∨ j = 8 ∨ j = 9 ∨ j = 10 ∨ j = 11 ∨ j = 12 ∨ j = 13 ∨ j = 14 ∨ j = 15 ∨ j = 16 ∨ j = 17 ∨ j = 18 ∨ j = 19 ∨ j = 20 by omega) with rfl | rfl | rfl | rfl | rfl | rfl | rfl | rfl | rfl | rfl | rfl | rfl | rfl | rfl | rfl | rfl | rfl | rfl | rfl | rfl | rfl <;> rfl
theorem fsX2_ok : ∀ j, j < 4 → defaultValue (tyX2 j) = vp_V fsX2 j := by
  intro j hj
  rcases (show j = 0 ∨ j = 1 ∨ j = 2 ∨ j = 3 by omega) with rfl | rfl | rfl | rfl <;> rfl
set_option maxHeartbeats 4000000 in
set_option maxRecDepth 100000 in
theorem whole_start {p : Program} {e : Env} {s : State} {m : MethodId} {below : List Frame} {meth : Method} {c : Code} (l : Launch) {b L : Nat} {xs : Nat → Int32} (hL : L ≤ 321) (C0 : lw_At p s m meth c b L xs) : W p l e room_1 s m #[Value.ref b] below meth c s.heap [] 0 0 (lw_Z below #[Value.ref b] s) (entryFrame m ([Value.ref b] : List Value).toArray 4) := by
  obtain ⟨hx, hb, hr, hml, hown, hts0, hX, hbl, hlocks, hgv⟩ := C0
  have hts : ∀ w ∈ lw_all, w.before #[Value.ref b] s = true := fun w h => hts0 w (lw_all_tbl h)
  have hA : ∀ q : Nat, s.heap.size ≤ q → (fun q : Nat => s.heap.size ≤ q) q := fun _ h => h
  have hbA : ¬ (fun q : Nat => s.heap.size ≤ q) b := Nat.not_le.mpr hbl
  obtain ⟨c0, iS0, hKn0⟩ := u_known (C := RX1) (T := TX1) (N := 21) (n := 21) hts0 (fun w h => lw_all_tbl (in_X1 w h)) (hts _ q21)
  obtain ⟨c1, iS1, hKn1⟩ := u_known (C := RX2) (T := TX2) (N := 4) (n := 4) hts0 (fun w h => lw_all_tbl (in_X2 w h)) (hts _ q233)
  obtain ⟨D, hKc⟩ : ∃ (D : va_G), ∀ (k : Nat) (q : vw_C), vwCl[k]? = some q → u_Kn s q.1 q.2.1 q.2.2 (D.1 k) (D.2 k) := by
    refine ⟨(fun k => if k = 0 then c0 else c1, fun k => if k = 0 then iS0 else iS1), ?_⟩
    intro k q hq
    match k, hq with
    | 0, hq => cases hq; exact hKn0
    | 1, hq => cases hq; exact hKn1
    | k + 2, hq => simp [vwCl] at hq
  have hS : va_S (fun q : Nat => s.heap.size ≤ q) s.heap s.heap [] := va_S.rf
  have hK : va_K D vwCl [] s := ⟨hKc, fun k q h => by simp at h⟩
  have hP : va_P D vwCl [] s.heap := fun k q h => by simp at h
  have hD : va_D (fun q : Nat => s.heap.size ≤ q) [] := ⟨fun i j p q h => by simp at h, fun k q h => by simp at h⟩
  have hL31 : L < 2 ^ 31 := by omega
  have blind : FrameBlind (fun v U => v = ([.ref b, .int (nI 0)] : List Value).toArray ∧ va_X b L xs U U.heap) := fun a U g mk q => ⟨q.1, va_X.moved (u := U) (U := U.calling g mk a) (Vm.Alike.refl U.vm) q.2⟩
  have pre0 : ∀ {H : Heap} {locs : List Loc}, va_S (fun q : Nat => s.heap.size ≤ q) s.heap H locs → PreS s H (fun v U => v = ([.ref b, .int (nI 0)] : List Value).toArray ∧ va_X b L xs U U.heap) [.ref b, .int (nI 0)] :=
    fun hS => ⟨blind, fun U hU hW => ⟨rfl, by rw [hU]; exact (hX.kept (hS.2.1 b hbl hbA)).moved hW.alike⟩⟩
  have hl := lv_entry ([.ref b]) (n := 4) (Nat.le_of_ble_eq_true rfl)
  rw [lg_entry_eq]
  generalize (lg_sl ([.ref b]) ++ List.replicate (4 - (lg_sl ([.ref b])).length) Slot.unset).toArray = ls at hl ⊢
  have hl : lv_has ls 4 [(0, .ref b)] := hl
  refine va_new (ci := 0) (fs := fsX1) (C := RX1) (T := TX1) (N := 21) hx hb hts in_X1 tyX1 tyX1_ok hown (hts _ q20) (hts _ q21) (hts _ q18) hK hP hD hS hA rfl fsX1_ok (Nat.le_of_ble_eq_true rfl) (Nat.le_of_ble_eq_true rfl) dL_law_0 (fun h H hP hD hS => ?_)
  have hP : va_P D vwCl [(h, .inr (0, fsX1))] H := hP
  have hD : va_D (fun q : Nat => s.heap.size ≤ q) [(h, .inr (0, fsX1))] := hD
  refine W.widen (k := 1) (n := 21) (Nat.le_of_ble_eq_true rfl) (Nat.le_of_ble_eq_true rfl) ?_
  refine lv_dup hx hb dL_law_3 rfl ?_
  refine lv_aload_n hx hb dL_law_4 rfl (lv_at hl 0 rfl) ?_
  refine lv_iconst (v := nI 0) hx hb dL_law_5 (by decide) ?_
  refine vp_callSi (W.runS (As := [.ref b, .int (nI 0)]) (rest := [.ref h, .ref h]) ⟨hx, hb, hml, hown, hts⟩ (c0_cell l b L xs hL31) (va_cwS 2 hts (lw_S q229 q230 q17 q231) rfl rfl rfl (by decide +kernel) ⟨Nat.le_of_ble_eq_true rfl, Nat.le_of_ble_eq_true rfl⟩) (pre0 hS) rfl rfl hl.1 rfl (lv_room (Nat.le_of_ble_eq_true rfl)) dL_law_6 ⟨Nat.le_of_ble_eq_true rfl, Nat.le_of_ble_eq_true rfl⟩) (fun r1 _ => ?_)
  have hFc : ∀ q, va_A [(h, .inr (0, fsX1))] H.size q → s.heap.size ≤ q := va_free (wc := [(h, .inr (0, fsX1))]) hD hS hA [0] rfl
  refine va_callv (va_runI (As := [.int r1]) (rest := [.ref h]) ⟨hx, hb, hml, hown, hts⟩ (c1_init l D h H.size r1) (cwI 1 hts (lw_meth q24) rfl rfl rfl (hts _ q18) (hts _ q22) (hts _ q23) rfl (by decide +kernel) ⟨Nat.le_of_ble_eq_true rfl, Nat.le_of_ble_eq_true rfl⟩) ⟨fun a U g mk q => by obtain ⟨q0, q1, qP, qK, qD⟩ := q; exact ⟨q0, q1, qP, va_K.moved (u := U) (U := U.calling g mk a) (Vm.Alike.refl U.vm) qK, qD⟩, fun U hU hW => ⟨rfl, by rw [hU], by rw [hU]; exact hP, va_K.moved hW.alike hK, hD.weaken (fun _ _ _ _ => trivial)⟩⟩ rfl rfl hl.1 rfl (lv_room (Nat.le_of_ble_eq_true rfl)) dL_law_9 ⟨Nat.le_of_ble_eq_true rfl, Nat.le_of_ble_eq_true rfl⟩) hS (fun q _ h => hFc q h) hFc (fun u t H1 locs ht hvm hw1 hB hz1 hk1 hS => ?_)
  obtain ⟨ad, dA, f, g⟩ := u
  obtain ⟨hP1, hK1, hD1⟩ := hB
  rw [ht] at hP1
  have hK1 := va_K.moved hvm.symm hK1
  have hP : va_P D vwCl (ow_w 0 16 5 xlen h ad dA f g) H1 := hP1
  have hK1 : va_K D vwCl (ow_t 16 dA) s := hK1
  have hD : va_D (fun q : Nat => s.heap.size ≤ q) (ow_w 0 16 5 xlen h ad dA f g) := hD1.weaken (fun k q _ hq => hFc q.1 hq)
  have hPX : PX f g (fun _ => 0) (fun _ => 0) 0 := hw1
  refine W.widen (k := 17) (n := 389) (Nat.le_of_ble_eq_true rfl) (Nat.le_of_ble_eq_true rfl) ?_
  refine lv_astore_n (lv' := [(1, .ref h), (0, .ref b)]) hx hb dL_law_12 rfl hl (by decide) rfl (fun ls hl => ?_)
  refine va_new (ci := 1) (fs := fsX2) (C := RX2) (T := TX2) (N := 4) hx hb hts in_X2 tyX2 tyX2_ok hown (hts _ q232) (hts _ q233) (hts _ q19) hK1 hP hD hS hA rfl fsX2_ok (Nat.le_of_ble_eq_true rfl) (Nat.le_of_ble_eq_true rfl) dL_law_13 (fun h2 H2 hP2 hD2 hS => ?_)
  have hPX2 : va_P D vwCl (ow_w 0 16 5 xlen h ad dA f g) H2 := fun k q hq => hP2 k q (by rw [List.getElem?_append_left (List.getElem?_eq_some_iff.mp hq).1]; exact hq)
  have hne : ∀ a, ow_is h ad 16 a → a < H2.size ∧ a ≠ h2 := by
    intro a ha
    obtain ⟨k, q, hq, e⟩ := ow_isTo (ci := 0) (nF := 5) (len := xlen) (dA := dA) (f := f) (g := g) ha
    have hkl := (List.getElem?_eq_some_iff.mp hq).1
    refine ⟨by rw [← e]; exact (hPX2 k q hq).lt, fun z => ?_⟩
    have e2 := hD2.1 k (ow_w 0 16 5 xlen h ad dA f g).length q (h2, .inr (1, fsX2)) (by rw [List.getElem?_append_left hkl]; exact hq) (by rw [List.getElem?_append_right (Nat.le_refl _), Nat.sub_self]; rfl) (by rw [e, z])
    omega
  have hPM : va_P D vwCl [(h2, .inr (1, fsX2))] H2 := fun k q hq => hP2 ((ow_w 0 16 5 xlen h ad dA f g).length + k) q (by rw [List.getElem?_append_right (Nat.le_add_right _ _), Nat.add_sub_cancel_left]; exact hq)
  have hDM : va_D (fun q : Nat => s.heap.size ≤ q) [(h2, .inr (1, fsX2))] := by
    refine ⟨fun i j p q hi hj _ => ?_, fun k q hq => ?_⟩
    · have a1 := (List.getElem?_eq_some_iff.mp hi).1
      have a2 := (List.getElem?_eq_some_iff.mp hj).1
      simp only [List.length_cons, List.length_nil] at a1 a2
      omega
    · exact hD2.2 ((ow_w 0 16 5 xlen h ad dA f g).length + k) q (by rw [List.getElem?_append_right (Nat.le_add_right _ _), Nat.add_sub_cancel_left]; exact hq)
  refine W.widen (k := 18) (n := 393) (Nat.le_of_ble_eq_true rfl) (Nat.le_of_ble_eq_true rfl) ?_
  refine lv_dup hx hb dL_law_16 rfl ?_
  refine lv_aload_n hx hb dL_law_17 rfl (lv_at hl 1 rfl) ?_
  refine lv_iconst (v := nI 0) hx hb dL_law_18 (by decide) ?_
  refine vp_callSi (W.runS (As := [.ref b, .int (nI 0)]) (rest := [.ref h2, .ref h2]) ⟨hx, hb, hml, hown, hts⟩ (c0_cell l b L xs hL31) (va_cwS 2 hts (lw_S q229 q230 q17 q231) rfl rfl rfl (by decide +kernel) ⟨Nat.le_of_ble_eq_true rfl, Nat.le_of_ble_eq_true rfl⟩) (pre0 hS) rfl rfl hl.1 rfl (lv_room (Nat.le_of_ble_eq_true rfl)) dL_law_19 ⟨Nat.le_of_ble_eq_true rfl, Nat.le_of_ble_eq_true rfl⟩) (fun r2 _ => ?_)
  have hFc2 : ∀ q, va_A [(h2, .inr (1, fsX2))] H2.size q → s.heap.size ≤ q := va_free (wc := [(h2, .inr (1, fsX2))]) hDM hS hA [0] rfl
  refine va_callv (va_runI (As := [.int r2]) (rest := [.ref h2]) ⟨hx, hb, hml, hown, hts⟩ (c2_init l D h2 H2.size r2) (cwI 1 hts (lw_meth q236) rfl rfl rfl (hts _ q19) (hts _ q234) (hts _ q235) rfl (by decide +kernel) ⟨Nat.le_of_ble_eq_true rfl, Nat.le_of_ble_eq_true rfl⟩) ⟨fun a U g mk q => by obtain ⟨q0, q1, qP, qK, qD⟩ := q; exact ⟨q0, q1, qP, va_K.moved (u := U) (U := U.calling g mk a) (Vm.Alike.refl U.vm) qK, qD⟩, fun U hU hW => ⟨rfl, by rw [hU], by rw [hU]; exact hPM, va_K.moved hW.alike hK, hDM.weaken (fun _ _ _ _ => trivial)⟩⟩ rfl rfl hl.1 rfl (lv_room (Nat.le_of_ble_eq_true rfl)) dL_law_22 ⟨Nat.le_of_ble_eq_true rfl, Nat.le_of_ble_eq_true rfl⟩) hS (fun q _ h => hFc2 q h) hFc2 (fun u t H3 locs ht hvm hw2 hB hz2 hk2 hS => ?_)
  obtain ⟨ad2, dA2, f2, g2⟩ := u
  obtain ⟨hP3, hK3, hD3⟩ := hB
  rw [ht] at hP3
  have hK3 := va_K.moved hvm.symm hK3
  have hP3 : va_P D vwCl (ow_w 1 3 1 mlen h2 ad2 dA2 f2 g2) H3 := hP3
  have hK3 : va_K D vwCl (ow_t 3 dA2) s := hK3
  have hD3 : va_D (va_A [(h2, .inr (1, fsX2))] H2.size) (ow_w 1 3 1 mlen h2 ad2 dA2 f2 g2) := hD3
  have hPM2 : PM f2 g2 (fun _ => 0) (fun _ => 0) 0 := hw2
  have hnA : ∀ a, a < H2.size → a ≠ h2 → ¬ va_A [(h2, .inr (1, fsX2))] H2.size a := by
    intro a a1 a2 hq
    rcases hq with ⟨k, e, hk⟩ | hk
    · cases k with
      | zero => cases hk; exact a2 rfl
      | succ k => simp at hk
    · omega
  have ap : ow_ap h ad 16 h2 ad2 3 := by
    intro a ha ha2
    obtain ⟨k, q, hq, e⟩ := ow_isTo (ci := 1) (nF := 1) (len := mlen) (dA := dA2) (f := f2) (g := g2) ha2
    have := hD3.2 k q hq
    rw [e] at this
    exact hnA a (hne a ha).1 (hne a ha).2 this
  have w : ow_W 0 16 5 xlen D (fun q : Nat => s.heap.size ≤ q) h ad dA f g s H3 locs := by
    refine ⟨hPX2.kept (fun k q hq => ?_), hD, hS⟩
    have z := hne q.1 (ow_isOf hq)
    exact hk2 q.1 z.1 (hnA q.1 z.1 z.2)
  have w2 : ow_W 1 3 1 mlen D (fun q : Nat => s.heap.size ≤ q) h2 ad2 dA2 f2 g2 s H3 locs := ⟨hP3, hD3.weaken (fun k q _ hq => hFc2 q.1 hq), hS⟩
  refine W.widen (k := 600000) (n := 7290000) (Nat.le_of_ble_eq_true rfl) (Nat.le_of_ble_eq_true rfl) ?_
  refine lv_astore_n (lv' := [(2, .ref h2), (1, .ref h), (0, .ref b)]) hx hb dL_law_25 rfl hl (by decide) rfl (fun ls hl => ?_)
  refine lv_iconst (v := nI 1) hx hb dL_law_26 (by decide) ?_
  refine lv_istore_n (lv' := [(3, .int (nI 1)), (2, .ref h2), (1, .ref h), (0, .ref b)]) hx hb dL_law_27 rfl hl (by decide) rfl (fun ls hl => ?_)
  exact law_loop hL hX hbl ⟨⟨hx, hb, hml, hown, hts⟩, hK1, hA, hr, hlocks⟩ ⟨⟨hx, hb, hml, hown, hts⟩, hK3, hA, hr, hlocks⟩ ap (L + 6) 1 (by omega) (by omega) f g f2 g2 _ _ 0 0 hPX hPM2 (Or.inl ⟨rfl, rfl⟩) H3 locs ls w w2 (lv_sub hl [3, 2, 1, 0] rfl)
end
section
set_option maxHeartbeats 4000000 in
theorem lw_walk (l : Launch) (b : Addr) (xs : List Int32) : MetFree l x (headSpec (Jvm.Cond.code x code maxLocals ret :: tables_1) room_1) (lw_P b xs) (fun _ _ _ _ _ => True) lw_Q := by
  refine MetFree.of_bodyS (code := code) (maxLocals := maxLocals) (ret := ret) (by decide) ?_ ?_
  · intro args s m h hn
    obtain ⟨meth, c, h1, h2, h3, h4, h5, h6, -, -⟩ := Cond.code_spec hn (atoms_spec (ws := Jvm.Cond.code x code maxLocals ret :: tables_1) h _ List.mem_cons_self)
    exact ⟨meth, c, h1, h2, h3, h4, h5, h6⟩
  · intro p e s m args below meth c s₁ B hml0 hP _
    obtain ⟨rfl, hx, hbd, hgv⟩ := hP
    obtain ⟨scr, harrAt, hlist, hof, hsmall⟩ := hx
    obtain ⟨hcb, hkn, -, -⟩ := State.arrayAt?_spec harrAt
    have hown : s.vm.findClass R_law = some m.cls := findClass_of_methodNamed B.named
    have hts0 : ∀ c ∈ (Jvm.Cond.code x code maxLocals ret :: tables_1), c.before #[Value.ref b] s = true := atoms_spec (ws := Jvm.Cond.code x code maxLocals ret :: tables_1) B.pre
    have hts : ∀ w ∈ lw_tbl, w.before #[Value.ref b] s = true := k2_hts_sels lw_privs (fun w hw => hts0 w (List.mem_cons_of_mem _ hw)) lw_privs_ok
    have hml : c.maxLocals = 4 := B.maxLocals_eq (hts0 _ List.mem_cons_self)
    have X₀ : Stand p l e room_1 s m #[Value.ref b] below meth c s₁ [] 0 0 := Stand.of_body B
    have hh0 : s₁.heap = s.heap := by rw [B.state]; rfl
    have hsz : scr.slots.size = xs.length := by rw [← Array.length_toList, hlist, List.length_map]
    have hval : ∀ j : Nat, j < xs.length → scr.slots[j]? = some (.int (xs.getD j 0)) := fun j hj => by
      rw [← Array.getElem?_toList, hlist]
      simp [hj]
    have hbl : b < s.heap.size := (Array.getElem?_eq_some_iff.mp hcb).1
    have hX : va_X b xs.length (fun j => xs.getD j 0) s s.heap := ⟨scr, hcb, hof, hkn, hsz, hval⟩
    have K : W p l e room_1 s m #[Value.ref b] below meth c s₁.heap [] 0 0 (lw_Z below #[Value.ref b] s) (entryFrame m ([Value.ref b] : List Value).toArray 4) := by
      rw [hh0]
      exact whole_start l hbd ⟨B.exec, B.bytes, B.returns, hml, hown, hts, hX, hbl, B.notSynchronized, hgv⟩
    obtain ⟨t, a1, o, b1, b2, b3⟩ := K s₁ rfl X₀
    exact ⟨t, o, a1, b1, b2, b3⟩
theorem lw_pre_spec {args : Array Value} {s : State} (h : (Jvm.Cond.and given_1 narrow_1).before args s = true) (hr : rest_1_c.before args s = true) : ∃ (b : Addr) (xs : List Int32), lw_P b xs args s := by
  have hs := flat_of_before _ h
  have hq := flat_of_before _ hr
  have hc : (Cond.count 1).before args s = true := hs _ (by decide +kernel)
  have harr : (Cond.arrayOf (.arg 0) .int).before args s = true := hs _ (by decide +kernel)
  have hle : (Cond.le (.length (.arg 0)) (.int 321)).before args s = true := hs _ (by decide +kernel)
  have hlen : (Cond.isInt (.length (.arg 0))).before args s = true := hq _ (by decide +kernel)
  have hall : (Cond.all (.arg 0) (.isInt (.elem (.arg 0) (.index 0)))).before args s = true := hq _ (by decide +kernel)
  obtain ⟨b, xs, hb, hx⟩ := State.ints_of_pre rfl harr hlen hall
  have hsm : xs.length < 2 ^ 31 := hx.choose_spec.2.2.2
  have hev : (Term.length (.arg 0)).eval args s none [] s = some (.int xs.length.toInt32) := hx.length_eval hb
  have hv := Cond.le_ints hev (show (Term.int 321).eval args s none [] s = some (.int 321) from rfl)
  have hd : xs.length.toInt32 ≤ 321 := by
    simpa [Cond.before, Cond.holds, hv] using hle
  have hN : xs.length ≤ 321 := (Int32.ofNat_le_ofNat hsm (by decide)).mp (show Int32.ofNat xs.length ≤ Int32.ofNat 321 from hd)
  exact ⟨b, xs, Cond.one_arg hc (show args[0]? = some (.ref b) from hb), hx, hN, h⟩
theorem lw_comes (l : Launch) : Comes l x (Jvm.Cond.code x code maxLocals ret :: tables_1) room_1 (fun tb e args s => Calls_1 tb e args s ∧ rest_1 tb e args s ∧ Pre_1 tb e args s)
    (fun _ _ args s o t => lw_Q args s o t) := by
  intro p e ha hc hk s m args below hf hfit hheap happ hpre
  obtain ⟨b, xs, hP⟩ := lw_pre_spec hpre.2.2 hpre.2.1
  obtain ⟨k, o, h1, h2, h3, hQ⟩ := lw_walk l b xs p e ha hc hk s m args below hf ((Spec.applies_iff_loose hf).mp happ).1 hP trivial
  exact ⟨k, o, h1, h2, h3, hQ⟩
theorem lw_frame {s t : State} {o : Outcome} {args : Array Value} (h : Framed s o t [] 600000 7290000) :
    Framed s o t (fieldLocs frame_1_writes args s ++ arrayLocs frame_1_arrays args s ++ staticLocs frame_1_statics s) 600000 7290000 := h
theorem lw_limb (L : Cond) (hL : ∀ (args : Array Value) (s t : State), L.after args s (.returned (some (.int 1))) t = true) :
    ArmFor flags0 classFile x code maxLocals ret World_1 tables_1 room_1 Calls_1 rest_1 Pre_1
      (fun tb e a s o t => postC L tb e a s o t ∧ Framed s o t (fieldLocs frame_1_writes a s ++ arrayLocs frame_1_arrays a s ++ staticLocs frame_1_statics s) 600000 7290000) := by
  intro l _ _ _ p e ha hc hk s m args below hf hfit hheap happ hpre
  obtain ⟨k, o, h1, h2, h3, rfl, hF⟩ := lw_comes l p e ha hc hk s m args below hf hfit hheap happ hpre
  exact ⟨k, _, h1, h2, h3, hL args s _, lw_frame hF⟩
theorem i_vc : Claimed_1_1 ∧ Claimed_1_2 := ⟨lw_limb limb_1_1 (fun args s t => by simp [limb_1_1, Cond.after, Cond.holds, Cond.value]), lw_limb limb_1_2 (fun args s t => Cond.after_iff.mpr (by
  first | (rw [show limb_1_2 = Cond.eq .result (.int 1) from rfl, Cond.eq_ints (x := 1) (y := 1) rfl rfl]; simp; done) | (simp [limb_1_2, Cond.value, Term.eval]; done)))⟩
end
