section
-- ===== PART A: goes FIRST, ahead of the names: the tables' words, and 'selects' of the private methods out of them =====
/-- a private method of a class that the tables say can be made, by its rows of tables_1 -/
def lw_okq (q : MethodName × Nat) : Prop := (q.1.cls ≠ "java/lang/invoke/MethodHandle" ∧ q.1.cls ≠ "java/lang/invoke/VarHandle") ∧ Cond.instantiable q.1.cls q.2 ∈ tables_1 ∧ Cond.privateMethod q.1 ∈ tables_1 ∧ Cond.instanceMethod q.1 ∈ tables_1
set_option maxRecDepth 100000
theorem lw_t1 {w : Cond} (h : w ∈ tables_1_1) : w ∈ tables_1 := List.mem_append_left _ h
theorem lw_t2 {w : Cond} (h : w ∈ tables_1_2) : w ∈ tables_1 := List.mem_append_right _ h
theorem lw_p0 : lw_okq (⟨"ChunkArray", "change", "(IIII)I"⟩, 15) := ⟨⟨by decide +kernel, by decide +kernel⟩, lw_t1 (List.mem_of_getElem? (i := 4) rfl), lw_t1 (List.mem_of_getElem? (i := 64) rfl), lw_t1 (List.mem_of_getElem? (i := 65) rfl)⟩
theorem lw_p1 : lw_okq (⟨"ChunkArray", "setRegion", "(II)V"⟩, 15) := ⟨⟨by decide +kernel, by decide +kernel⟩, lw_t1 (List.mem_of_getElem? (i := 4) rfl), lw_t1 (List.mem_of_getElem? (i := 71) rfl), lw_t1 (List.mem_of_getElem? (i := 72) rfl)⟩
theorem lw_p2 : lw_okq (⟨"ChunkArray", "covers", "(I)Z"⟩, 15) := ⟨⟨by decide +kernel, by decide +kernel⟩, lw_t1 (List.mem_of_getElem? (i := 4) rfl), lw_t1 (List.mem_of_getElem? (i := 75) rfl), lw_t1 (List.mem_of_getElem? (i := 76) rfl)⟩
theorem lw_p3 : lw_okq (⟨"ChunkArray", "touches", "(I)Z"⟩, 15) := ⟨⟨by decide +kernel, by decide +kernel⟩, lw_t1 (List.mem_of_getElem? (i := 4) rfl), lw_t1 (List.mem_of_getElem? (i := 79) rfl), lw_t1 (List.mem_of_getElem? (i := 80) rfl)⟩
theorem lw_p4 : lw_okq (⟨"ChunkArray", "changeWhole", "(III)V"⟩, 15) := ⟨⟨by decide +kernel, by decide +kernel⟩, lw_t1 (List.mem_of_getElem? (i := 4) rfl), lw_t1 (List.mem_of_getElem? (i := 83) rfl), lw_t1 (List.mem_of_getElem? (i := 84) rfl)⟩
theorem lw_p5 : lw_okq (⟨"ChunkArray", "own", "(I)I"⟩, 15) := ⟨⟨by decide +kernel, by decide +kernel⟩, lw_t1 (List.mem_of_getElem? (i := 4) rfl), lw_t1 (List.mem_of_getElem? (i := 87) rfl), lw_t1 (List.mem_of_getElem? (i := 88) rfl)⟩
theorem lw_p6 : lw_okq (⟨"ChunkArray", "freeSlot", "()I"⟩, 15) := ⟨⟨by decide +kernel, by decide +kernel⟩, lw_t1 (List.mem_of_getElem? (i := 4) rfl), lw_t1 (List.mem_of_getElem? (i := 91) rfl), lw_t1 (List.mem_of_getElem? (i := 92) rfl)⟩
theorem lw_p7 : lw_okq (⟨"ChunkArray", "changePart", "(III)V"⟩, 15) := ⟨⟨by decide +kernel, by decide +kernel⟩, lw_t1 (List.mem_of_getElem? (i := 4) rfl), lw_t1 (List.mem_of_getElem? (i := 95) rfl), lw_t1 (List.mem_of_getElem? (i := 96) rfl)⟩
theorem lw_p8 : lw_okq (⟨"ChunkArray", "inRegion", "(II)Z"⟩, 15) := ⟨⟨by decide +kernel, by decide +kernel⟩, lw_t1 (List.mem_of_getElem? (i := 4) rfl), lw_t1 (List.mem_of_getElem? (i := 99) rfl), lw_t1 (List.mem_of_getElem? (i := 100) rfl)⟩
theorem lw_p9 : lw_okq (⟨"ChunkArray", "read", "(III)I"⟩, 15) := ⟨⟨by decide +kernel, by decide +kernel⟩, lw_t1 (List.mem_of_getElem? (i := 4) rfl), lw_t1 (List.mem_of_getElem? (i := 103) rfl), lw_t1 (List.mem_of_getElem? (i := 104) rfl)⟩
theorem lw_p10 : lw_okq (⟨"ChunkArray", "writeCell", "(III)V"⟩, 15) := ⟨⟨by decide +kernel, by decide +kernel⟩, lw_t1 (List.mem_of_getElem? (i := 4) rfl), lw_t1 (List.mem_of_getElem? (i := 116) rfl), lw_t1 (List.mem_of_getElem? (i := 117) rfl)⟩
theorem lw_p11 : lw_okq (⟨"ChunkArray", "settle", "(I)V"⟩, 15) := ⟨⟨by decide +kernel, by decide +kernel⟩, lw_t1 (List.mem_of_getElem? (i := 4) rfl), lw_t1 (List.mem_of_getElem? (i := 120) rfl), lw_t1 (List.mem_of_getElem? (i := 121) rfl)⟩
theorem lw_p12 : lw_okq (⟨"ChunkArray", "regionSize", "()I"⟩, 15) := ⟨⟨by decide +kernel, by decide +kernel⟩, lw_t1 (List.mem_of_getElem? (i := 4) rfl), lw_t1 (List.mem_of_getElem? (i := 124) rfl), lw_t1 (List.mem_of_getElem? (i := 125) rfl)⟩
theorem lw_p13 : lw_okq (⟨"ChunkArray", "noVersion", "(I)Z"⟩, 15) := ⟨⟨by decide +kernel, by decide +kernel⟩, lw_t1 (List.mem_of_getElem? (i := 4) rfl), lw_t1 (List.mem_of_getElem? (i := 148) rfl), lw_t1 (List.mem_of_getElem? (i := 149) rfl)⟩
theorem lw_p14 : lw_okq (⟨"ChunkArray", "differences", "(I)I"⟩, 15) := ⟨⟨by decide +kernel, by decide +kernel⟩, lw_t1 (List.mem_of_getElem? (i := 4) rfl), lw_t1 (List.mem_of_getElem? (i := 152) rfl), lw_t1 (List.mem_of_getElem? (i := 153) rfl)⟩
theorem lw_p15 : lw_okq (⟨"ChunkArray", "differAt", "(II)I"⟩, 15) := ⟨⟨by decide +kernel, by decide +kernel⟩, lw_t1 (List.mem_of_getElem? (i := 4) rfl), lw_t1 (List.mem_of_getElem? (i := 156) rfl), lw_t1 (List.mem_of_getElem? (i := 157) rfl)⟩
def lw_privs_1 : List (MethodName × Nat) := [(⟨"ChunkArray", "change", "(IIII)I"⟩, 15), (⟨"ChunkArray", "setRegion", "(II)V"⟩, 15), (⟨"ChunkArray", "covers", "(I)Z"⟩, 15), (⟨"ChunkArray", "touches", "(I)Z"⟩, 15), (⟨"ChunkArray", "changeWhole", "(III)V"⟩, 15), (⟨"ChunkArray", "own", "(I)I"⟩, 15), (⟨"ChunkArray", "freeSlot", "()I"⟩, 15), (⟨"ChunkArray", "changePart", "(III)V"⟩, 15), (⟨"ChunkArray", "inRegion", "(II)Z"⟩, 15), (⟨"ChunkArray", "read", "(III)I"⟩, 15), (⟨"ChunkArray", "writeCell", "(III)V"⟩, 15), (⟨"ChunkArray", "settle", "(I)V"⟩, 15), (⟨"ChunkArray", "regionSize", "()I"⟩, 15), (⟨"ChunkArray", "noVersion", "(I)Z"⟩, 15), (⟨"ChunkArray", "differences", "(I)I"⟩, 15), (⟨"ChunkArray", "differAt", "(II)I"⟩, 15)]
theorem lw_r1 : ∀ q ∈ lw_privs_1, lw_okq q := List.forall_mem_cons.mpr ⟨lw_p0, List.forall_mem_cons.mpr ⟨lw_p1, List.forall_mem_cons.mpr ⟨lw_p2, List.forall_mem_cons.mpr ⟨lw_p3, List.forall_mem_cons.mpr ⟨lw_p4, List.forall_mem_cons.mpr ⟨lw_p5, List.forall_mem_cons.mpr ⟨lw_p6, List.forall_mem_cons.mpr ⟨lw_p7, List.forall_mem_cons.mpr ⟨lw_p8, List.forall_mem_cons.mpr ⟨lw_p9, List.forall_mem_cons.mpr ⟨lw_p10, List.forall_mem_cons.mpr ⟨lw_p11, List.forall_mem_cons.mpr ⟨lw_p12, List.forall_mem_cons.mpr ⟨lw_p13, List.forall_mem_cons.mpr ⟨lw_p14, List.forall_mem_cons.mpr ⟨lw_p15, fun _ h => absurd h List.not_mem_nil⟩⟩⟩⟩⟩⟩⟩⟩⟩⟩⟩⟩⟩⟩⟩⟩
theorem lw_p16 : lw_okq (⟨"ChunkArray", "wholeSum", "(I)I"⟩, 15) := ⟨⟨by decide +kernel, by decide +kernel⟩, lw_t1 (List.mem_of_getElem? (i := 4) rfl), lw_t1 (List.mem_of_getElem? (i := 176) rfl), lw_t1 (List.mem_of_getElem? (i := 177) rfl)⟩
theorem lw_p17 : lw_okq (⟨"ChunkArray", "partSum", "(I)I"⟩, 15) := ⟨⟨by decide +kernel, by decide +kernel⟩, lw_t1 (List.mem_of_getElem? (i := 4) rfl), lw_t1 (List.mem_of_getElem? (i := 180) rfl), lw_t1 (List.mem_of_getElem? (i := 181) rfl)⟩
theorem lw_p18 : lw_okq (⟨"ChunkArray", "wholeGreatest", "(I)I"⟩, 15) := ⟨⟨by decide +kernel, by decide +kernel⟩, lw_t1 (List.mem_of_getElem? (i := 4) rfl), lw_t1 (List.mem_of_getElem? (i := 188) rfl), lw_t1 (List.mem_of_getElem? (i := 189) rfl)⟩
theorem lw_p19 : lw_okq (⟨"ChunkArray", "partGreatest", "(II)I"⟩, 15) := ⟨⟨by decide +kernel, by decide +kernel⟩, lw_t1 (List.mem_of_getElem? (i := 4) rfl), lw_t1 (List.mem_of_getElem? (i := 192) rfl), lw_t1 (List.mem_of_getElem? (i := 193) rfl)⟩
theorem lw_p20 : lw_okq (⟨"ChunkArrayModel", "change", "(IIII)I"⟩, 4) := ⟨⟨by decide +kernel, by decide +kernel⟩, lw_t1 (List.mem_of_getElem? (i := 204) rfl), lw_t1 (List.mem_of_getElem? (i := 227) rfl), lw_t1 (List.mem_of_getElem? (i := 228) rfl)⟩
theorem lw_p21 : lw_okq (⟨"ChunkArrayModel", "isCell", "(I)Z"⟩, 4) := ⟨⟨by decide +kernel, by decide +kernel⟩, lw_t1 (List.mem_of_getElem? (i := 204) rfl), lw_t1 (List.mem_of_getElem? (i := 231) rfl), lw_t1 (List.mem_of_getElem? (i := 232) rfl)⟩
theorem lw_p22 : lw_okq (⟨"ChunkArrayModel", "inside", "(III)Z"⟩, 4) := ⟨⟨by decide +kernel, by decide +kernel⟩, lw_t1 (List.mem_of_getElem? (i := 204) rfl), lw_t1 (List.mem_of_getElem? (i := 235) rfl), lw_t1 (List.mem_of_getElem? (i := 236) rfl)⟩
theorem lw_p23 : lw_okq (⟨"ChunkArrayModel", "between", "(III)Z"⟩, 4) := ⟨⟨by decide +kernel, by decide +kernel⟩, lw_t1 (List.mem_of_getElem? (i := 204) rfl), lw_t1 (List.mem_of_getElem? (i := 239) rfl), lw_t2 (List.mem_of_getElem? (i := 0) rfl)⟩
theorem lw_p24 : lw_okq (⟨"ChunkArrayModel", "isVersion", "(I)Z"⟩, 4) := ⟨⟨by decide +kernel, by decide +kernel⟩, lw_t1 (List.mem_of_getElem? (i := 204) rfl), lw_t2 (List.mem_of_getElem? (i := 27) rfl), lw_t2 (List.mem_of_getElem? (i := 28) rfl)⟩
def lw_privs_2 : List (MethodName × Nat) := [(⟨"ChunkArray", "wholeSum", "(I)I"⟩, 15), (⟨"ChunkArray", "partSum", "(I)I"⟩, 15), (⟨"ChunkArray", "wholeGreatest", "(I)I"⟩, 15), (⟨"ChunkArray", "partGreatest", "(II)I"⟩, 15), (⟨"ChunkArrayModel", "change", "(IIII)I"⟩, 4), (⟨"ChunkArrayModel", "isCell", "(I)Z"⟩, 4), (⟨"ChunkArrayModel", "inside", "(III)Z"⟩, 4), (⟨"ChunkArrayModel", "between", "(III)Z"⟩, 4), (⟨"ChunkArrayModel", "isVersion", "(I)Z"⟩, 4)]
theorem lw_r2 : ∀ q ∈ lw_privs_2, lw_okq q := List.forall_mem_cons.mpr ⟨lw_p16, List.forall_mem_cons.mpr ⟨lw_p17, List.forall_mem_cons.mpr ⟨lw_p18, List.forall_mem_cons.mpr ⟨lw_p19, List.forall_mem_cons.mpr ⟨lw_p20, List.forall_mem_cons.mpr ⟨lw_p21, List.forall_mem_cons.mpr ⟨lw_p22, List.forall_mem_cons.mpr ⟨lw_p23, List.forall_mem_cons.mpr ⟨lw_p24, fun _ h => absurd h List.not_mem_nil⟩⟩⟩⟩⟩⟩⟩⟩⟩
def lw_privs : List (MethodName × Nat) := lw_privs_1 ++ (lw_privs_2)
def lw_tbl : List Cond := k2_sels lw_privs ++ tables_1
theorem lw_privs_ok : ∀ q ∈ lw_privs, lw_okq q := by
  show ∀ q ∈ lw_privs_1 ++ (lw_privs_2), lw_okq q
  exact List.forall_mem_append.mpr ⟨lw_r1, lw_r2⟩
-- ===== ONE list of words for every method: the tables' words that hold all through a run =====
def lw_all : List Cond := lw_tbl.filter goodWord
/-- a word of the tables by its place: claim/WORDS.tsv -/
theorem lw_w {w : Cond} (i : Nat) (h : lw_tbl[i]? = some w) (g : goodWord w = true) : w ∈ lw_all := List.mem_filter.mpr ⟨List.mem_of_getElem? h, g⟩
theorem lw_all_tbl {w : Cond} (h : w ∈ lw_all) : w ∈ lw_tbl := (List.mem_filter.mp h).1
theorem lw_self : GoodIn lw_all lw_all := fun w h => ⟨h, good_of_word (List.mem_filter.mp h).2⟩
/-- a class's field words, by their places -/
theorem lw_in (ws : List Cond) (ps : List Nat) (hp : ws = ps.filterMap (fun i => lw_tbl[i]?)) (hg : ws.all goodWord = true) : ∀ w ∈ ws, w ∈ lw_all := by
  intro w h
  have h1 := List.all_eq_true.mp hg w h
  rw [hp] at h
  obtain ⟨i, -, hi⟩ := List.mem_filterMap.mp h
  exact lw_w i hi h1
/-- the words of a contract for the method y with code b, L locals, answer r -/
abbrev ws_ (y : MethodName) (b : ByteArray) (L : Nat) (r : Option FieldType) : List Cond := Cond.code y b L r :: lw_all
theorem lw_meth {y : MethodName} {b : ByteArray} {L : Nat} {r : Option FieldType} (h : Cond.code y b L r ∈ lw_all) : GoodIn lw_all (ws_ y b L r) := by
  intro w hw
  rcases List.mem_cons.mp hw with e | e
  · rw [e]
    exact lw_self _ h
  · exact lw_self _ e
theorem lw_app {a c : List Cond} (ha : ∀ w ∈ a, w ∈ lw_all) (hc : GoodIn lw_all c) : GoodIn lw_all (a ++ c) := by
  intro w hw
  rcases List.mem_append.mp hw with e | e
  · exact lw_self w (ha w e)
  · exact hc w e
/-- what a call through an object asks: cwV n hts (lw_V ..) -/
theorem lw_V {own : String} {idx : Nat} {C : String} {y : MethodName} {b : ByteArray} {L : Nat} {r : Option FieldType} (h1 : Cond.methodLink own idx y ∈ lw_all) (h2 : Cond.instanceMethod y ∈ lw_all) (h3 : Cond.selects C y y ∈ lw_all) (h4 : Cond.initialized C ∈ lw_all) (h5 : Cond.code y b L r ∈ lw_all) : GoodIn lw_all (wsV own idx C y (ws_ y b L r)) := by
  refine lw_app ?_ (lw_meth h5)
  intro w hw
  simp only [List.mem_cons, List.not_mem_nil, or_false] at hw
  rcases hw with e | e | e | e
  · rw [e]; exact h1
  · rw [e]; exact h2
  · rw [e]; exact h3
  · rw [e]; exact h4
/-- what a static call asks: va_cwS n hts (lw_S ..) -/
theorem lw_S {own : String} {idx : Nat} {y : MethodName} {b : ByteArray} {L : Nat} {r : Option FieldType} (h1 : Cond.methodLink own idx y ∈ lw_all) (h2 : Cond.static y ∈ lw_all) (h3 : Cond.initialized y.cls ∈ lw_all) (h4 : Cond.code y b L r ∈ lw_all) : GoodIn lw_all (va_wsS own idx y (ws_ y b L r)) := by
  refine lw_app ?_ (lw_meth h4)
  intro w hw
  simp only [List.mem_cons, List.not_mem_nil, or_false] at hw
  rcases hw with e | e | e
  · rw [e]; exact h1
  · rw [e]; exact h2
  · rw [e]; exact h3
/-- the words of a contract for a method WITH HANDLERS (hh: its table) -/
abbrev wsW_ (y : MethodName) (b : ByteArray) (L : Nat) (r : Option FieldType) (hh : List (Nat × Nat × Nat × Nat)) : List Cond := Cond.codeWith y b L r hh :: lw_all
theorem lw_methW {y : MethodName} {b : ByteArray} {L : Nat} {r : Option FieldType} {hh : List (Nat × Nat × Nat × Nat)} (h : Cond.codeWith y b L r hh ∈ lw_all) : GoodIn lw_all (wsW_ y b L r hh) := by
  intro w hw
  rcases List.mem_cons.mp hw with e | e
  · rw [e]
    exact lw_self _ h
  · exact lw_self _ e
/-- any list of words by their places (lw_in), good -/
theorem lw_good {ws : List Cond} (h : ∀ w ∈ ws, w ∈ lw_all) : GoodIn lw_all ws := fun w hw => lw_self w (h w hw)
/-- what a call of a method with handlers asks: vx_cwVW n hts (lw_VW ..), vx_cwSW n hts (lw_SW ..) -/
theorem lw_VW {own : String} {idx : Nat} {C : String} {y : MethodName} {b : ByteArray} {L : Nat} {r : Option FieldType} {hh : List (Nat × Nat × Nat × Nat)} (h1 : Cond.methodLink own idx y ∈ lw_all) (h2 : Cond.instanceMethod y ∈ lw_all) (h3 : Cond.selects C y y ∈ lw_all) (h4 : Cond.initialized C ∈ lw_all) (h5 : Cond.codeWith y b L r hh ∈ lw_all) : GoodIn lw_all (wsV own idx C y (wsW_ y b L r hh)) := by
  refine lw_app ?_ (lw_methW h5)
  intro w hw
  simp only [List.mem_cons, List.not_mem_nil, or_false] at hw
  rcases hw with e | e | e | e
  · rw [e]; exact h1
  · rw [e]; exact h2
  · rw [e]; exact h3
  · rw [e]; exact h4
theorem lw_SW {own : String} {idx : Nat} {y : MethodName} {b : ByteArray} {L : Nat} {r : Option FieldType} {hh : List (Nat × Nat × Nat × Nat)} (h1 : Cond.methodLink own idx y ∈ lw_all) (h2 : Cond.static y ∈ lw_all) (h3 : Cond.initialized y.cls ∈ lw_all) (h4 : Cond.codeWith y b L r hh ∈ lw_all) : GoodIn lw_all (va_wsS own idx y (wsW_ y b L r hh)) := by
  refine lw_app ?_ (lw_methW h4)
  intro w hw
  simp only [List.mem_cons, List.not_mem_nil, or_false] at hw
  rcases hw with e | e | e
  · rw [e]; exact h1
  · rw [e]; exact h2
  · rw [e]; exact h3
/-- a word by its place in its run of the tables -/
theorem lw_at {r : List Cond} (hr : ∀ w ∈ r, w ∈ lw_tbl) {w : Cond} (i : Nat) (h : r[i]? = some w) : w ∈ lw_tbl := hr w (List.mem_of_getElem? h)
theorem lw_g {w : Cond} (h : w ∈ lw_tbl) (g : goodWord w = true) : w ∈ lw_all := List.mem_filter.mpr ⟨h, g⟩
theorem lw_ms : ∀ w ∈ k2_sels lw_privs, w ∈ lw_tbl := fun w h => show w ∈ k2_sels lw_privs ++ tables_1 from List.mem_append_left _ h
theorem lw_m1 : ∀ w ∈ tables_1_1, w ∈ lw_tbl := fun w h => show w ∈ k2_sels lw_privs ++ tables_1 from List.mem_append_right (k2_sels lw_privs) (show w ∈ tables_1 from List.mem_append_left _ h)
theorem lw_m2 : ∀ w ∈ tables_1_2, w ∈ lw_tbl := fun w h => show w ∈ k2_sels lw_privs ++ tables_1 from List.mem_append_right (k2_sels lw_privs) (show w ∈ tables_1 from List.mem_append_right _ h)
theorem qs0 : (Cond.selects "ChunkArray" ⟨"ChunkArray", "change", "(IIII)I"⟩ ⟨"ChunkArray", "change", "(IIII)I"⟩) ∈ lw_all := lw_g (lw_at lw_ms 0 rfl) rfl
theorem qs1 : (Cond.selects "ChunkArray" ⟨"ChunkArray", "setRegion", "(II)V"⟩ ⟨"ChunkArray", "setRegion", "(II)V"⟩) ∈ lw_all := lw_g (lw_at lw_ms 1 rfl) rfl
theorem qs2 : (Cond.selects "ChunkArray" ⟨"ChunkArray", "covers", "(I)Z"⟩ ⟨"ChunkArray", "covers", "(I)Z"⟩) ∈ lw_all := lw_g (lw_at lw_ms 2 rfl) rfl
theorem qs3 : (Cond.selects "ChunkArray" ⟨"ChunkArray", "touches", "(I)Z"⟩ ⟨"ChunkArray", "touches", "(I)Z"⟩) ∈ lw_all := lw_g (lw_at lw_ms 3 rfl) rfl
theorem qs4 : (Cond.selects "ChunkArray" ⟨"ChunkArray", "changeWhole", "(III)V"⟩ ⟨"ChunkArray", "changeWhole", "(III)V"⟩) ∈ lw_all := lw_g (lw_at lw_ms 4 rfl) rfl
theorem qs5 : (Cond.selects "ChunkArray" ⟨"ChunkArray", "own", "(I)I"⟩ ⟨"ChunkArray", "own", "(I)I"⟩) ∈ lw_all := lw_g (lw_at lw_ms 5 rfl) rfl
theorem qs6 : (Cond.selects "ChunkArray" ⟨"ChunkArray", "freeSlot", "()I"⟩ ⟨"ChunkArray", "freeSlot", "()I"⟩) ∈ lw_all := lw_g (lw_at lw_ms 6 rfl) rfl
theorem qs7 : (Cond.selects "ChunkArray" ⟨"ChunkArray", "changePart", "(III)V"⟩ ⟨"ChunkArray", "changePart", "(III)V"⟩) ∈ lw_all := lw_g (lw_at lw_ms 7 rfl) rfl
theorem qs8 : (Cond.selects "ChunkArray" ⟨"ChunkArray", "inRegion", "(II)Z"⟩ ⟨"ChunkArray", "inRegion", "(II)Z"⟩) ∈ lw_all := lw_g (lw_at lw_ms 8 rfl) rfl
theorem qs9 : (Cond.selects "ChunkArray" ⟨"ChunkArray", "read", "(III)I"⟩ ⟨"ChunkArray", "read", "(III)I"⟩) ∈ lw_all := lw_g (lw_at lw_ms 9 rfl) rfl
theorem qs10 : (Cond.selects "ChunkArray" ⟨"ChunkArray", "writeCell", "(III)V"⟩ ⟨"ChunkArray", "writeCell", "(III)V"⟩) ∈ lw_all := lw_g (lw_at lw_ms 10 rfl) rfl
theorem qs11 : (Cond.selects "ChunkArray" ⟨"ChunkArray", "settle", "(I)V"⟩ ⟨"ChunkArray", "settle", "(I)V"⟩) ∈ lw_all := lw_g (lw_at lw_ms 11 rfl) rfl
theorem qs12 : (Cond.selects "ChunkArray" ⟨"ChunkArray", "regionSize", "()I"⟩ ⟨"ChunkArray", "regionSize", "()I"⟩) ∈ lw_all := lw_g (lw_at lw_ms 12 rfl) rfl
theorem qs13 : (Cond.selects "ChunkArray" ⟨"ChunkArray", "noVersion", "(I)Z"⟩ ⟨"ChunkArray", "noVersion", "(I)Z"⟩) ∈ lw_all := lw_g (lw_at lw_ms 13 rfl) rfl
theorem qs14 : (Cond.selects "ChunkArray" ⟨"ChunkArray", "differences", "(I)I"⟩ ⟨"ChunkArray", "differences", "(I)I"⟩) ∈ lw_all := lw_g (lw_at lw_ms 14 rfl) rfl
theorem qs15 : (Cond.selects "ChunkArray" ⟨"ChunkArray", "differAt", "(II)I"⟩ ⟨"ChunkArray", "differAt", "(II)I"⟩) ∈ lw_all := lw_g (lw_at lw_ms 15 rfl) rfl
theorem qs16 : (Cond.selects "ChunkArray" ⟨"ChunkArray", "wholeSum", "(I)I"⟩ ⟨"ChunkArray", "wholeSum", "(I)I"⟩) ∈ lw_all := lw_g (lw_at lw_ms 16 rfl) rfl
theorem qs17 : (Cond.selects "ChunkArray" ⟨"ChunkArray", "partSum", "(I)I"⟩ ⟨"ChunkArray", "partSum", "(I)I"⟩) ∈ lw_all := lw_g (lw_at lw_ms 17 rfl) rfl
theorem qs18 : (Cond.selects "ChunkArray" ⟨"ChunkArray", "wholeGreatest", "(I)I"⟩ ⟨"ChunkArray", "wholeGreatest", "(I)I"⟩) ∈ lw_all := lw_g (lw_at lw_ms 18 rfl) rfl
theorem qs19 : (Cond.selects "ChunkArray" ⟨"ChunkArray", "partGreatest", "(II)I"⟩ ⟨"ChunkArray", "partGreatest", "(II)I"⟩) ∈ lw_all := lw_g (lw_at lw_ms 19 rfl) rfl
theorem qs20 : (Cond.selects "ChunkArrayModel" ⟨"ChunkArrayModel", "change", "(IIII)I"⟩ ⟨"ChunkArrayModel", "change", "(IIII)I"⟩) ∈ lw_all := lw_g (lw_at lw_ms 20 rfl) rfl
theorem qs21 : (Cond.selects "ChunkArrayModel" ⟨"ChunkArrayModel", "isCell", "(I)Z"⟩ ⟨"ChunkArrayModel", "isCell", "(I)Z"⟩) ∈ lw_all := lw_g (lw_at lw_ms 21 rfl) rfl
theorem qs22 : (Cond.selects "ChunkArrayModel" ⟨"ChunkArrayModel", "inside", "(III)Z"⟩ ⟨"ChunkArrayModel", "inside", "(III)Z"⟩) ∈ lw_all := lw_g (lw_at lw_ms 22 rfl) rfl
theorem qs23 : (Cond.selects "ChunkArrayModel" ⟨"ChunkArrayModel", "between", "(III)Z"⟩ ⟨"ChunkArrayModel", "between", "(III)Z"⟩) ∈ lw_all := lw_g (lw_at lw_ms 23 rfl) rfl
theorem qs24 : (Cond.selects "ChunkArrayModel" ⟨"ChunkArrayModel", "isVersion", "(I)Z"⟩ ⟨"ChunkArrayModel", "isVersion", "(I)Z"⟩) ∈ lw_all := lw_g (lw_at lw_ms 24 rfl) rfl
end
section
/-! ChunkArray -/
set_option maxRecDepth 100000
def RX0 : String := "ChunkArray"
def TX0 : u_T := fun k => match k with
  | 0 => ("ChunkArray", "exists", "[Z", true)
  | 1 => ("ChunkArray", "chunkOf", "[I", true)
  | 2 => ("ChunkArray", "holders", "[I", true)
  | 3 => ("ChunkArray", "cells", "[I", true)
  | 4 => ("ChunkArray", "factor", "[I", true)
  | 5 => ("ChunkArray", "summand", "[I", true)
  | 6 => ("ChunkArray", "sumKept", "[Z", true)
  | 7 => ("ChunkArray", "storedSum", "[I", true)
  | 8 => ("ChunkArray", "greatestKept", "[Z", true)
  | 9 => ("ChunkArray", "greatestOf", "[I", true)
  | 10 => ("ChunkArray", "row0", "I", false)
  | 11 => ("ChunkArray", "row1", "I", false)
  | 12 => ("ChunkArray", "column0", "I", false)
  | 13 => ("ChunkArray", "column1", "I", false)
  | _ => ("ChunkArray", "moved", "[I", true)
def tyX0 : Nat → FieldType := fun k => match k with
  | 0 => .array .boolean
  | 1 => .array .int
  | 2 => .array .int
  | 3 => .array .int
  | 4 => .array .int
  | 5 => .array .int
  | 6 => .array .boolean
  | 7 => .array .int
  | 8 => .array .boolean
  | 9 => .array .int
  | 10 => .int
  | 11 => .int
  | 12 => .int
  | 13 => .int
  | _ => .array .int
abbrev wsX00 : List Cond := u_ws RX0 TX0 15
set_option maxRecDepth 100000 in
theorem nmX0 : ∀ a, a < 15 → ∀ b, b < 15 → a ≠ b → (TX0 a).2.1 ≠ (TX0 b).2.1 := by decide +kernel
set_option maxRecDepth 100000 in
theorem tyX0_ok : ∀ k, k < 15 → parseFieldDescriptor (TX0 k).2.2.1 = some (tyX0 k) := by decide +kernel
abbrev cX0_init : ByteArray := prog_1_method_1_code
def yX0_init : MethodName := ⟨RX0, "<init>", "()V"⟩
abbrev cX0_fill : ByteArray := prog_1_method_20_code
def yX0_fill : MethodName := ⟨RX0, "fill", "(III)I"⟩
abbrev cX0_change : ByteArray := prog_1_method_19_code
def yX0_change : MethodName := ⟨RX0, "change", "(IIII)I"⟩
abbrev cX0_bad : ByteArray := prog_1_method_2_code
def yX0_bad : MethodName := ⟨RX0, "bad", "(I)Z"⟩
abbrev cX0_setRegion : ByteArray := prog_1_method_11_code
def yX0_setRegion : MethodName := ⟨RX0, "setRegion", "(II)V"⟩
abbrev cX0_covers : ByteArray := prog_1_method_13_code
def yX0_covers : MethodName := ⟨RX0, "covers", "(I)Z"⟩
abbrev cX0_touches : ByteArray := prog_1_method_14_code
def yX0_touches : MethodName := ⟨RX0, "touches", "(I)Z"⟩
abbrev cX0_changeWhole : ByteArray := prog_1_method_17_code
def yX0_changeWhole : MethodName := ⟨RX0, "changeWhole", "(III)V"⟩
abbrev cX0_own : ByteArray := prog_1_method_8_code
def yX0_own : MethodName := ⟨RX0, "own", "(I)I"⟩
abbrev cX0_freeSlot : ByteArray := prog_1_method_7_code
def yX0_freeSlot : MethodName := ⟨RX0, "freeSlot", "()I"⟩
abbrev cX0_changePart : ByteArray := prog_1_method_18_code
def yX0_changePart : MethodName := ⟨RX0, "changePart", "(III)V"⟩
abbrev cX0_inRegion : ByteArray := prog_1_method_15_code
def yX0_inRegion : MethodName := ⟨RX0, "inRegion", "(II)Z"⟩
abbrev cX0_read : ByteArray := prog_1_method_6_code
def yX0_read : MethodName := ⟨RX0, "read", "(III)I"⟩
abbrev cX0_placeOf : ByteArray := prog_1_method_4_code
def yX0_placeOf : MethodName := ⟨RX0, "placeOf", "(II)I"⟩
abbrev cX0_within : ByteArray := prog_1_method_5_code
def yX0_within : MethodName := ⟨RX0, "within", "(II)I"⟩
abbrev cX0_result : ByteArray := prog_1_method_16_code
def yX0_result : MethodName := ⟨RX0, "result", "(III)I"⟩
abbrev cX0_writeCell : ByteArray := prog_1_method_10_code
def yX0_writeCell : MethodName := ⟨RX0, "writeCell", "(III)V"⟩
abbrev cX0_settle : ByteArray := prog_1_method_9_code
def yX0_settle : MethodName := ⟨RX0, "settle", "(I)V"⟩
abbrev cX0_regionSize : ByteArray := prog_1_method_12_code
def yX0_regionSize : MethodName := ⟨RX0, "regionSize", "()I"⟩
abbrev cX0_add : ByteArray := prog_1_method_21_code
def yX0_add : MethodName := ⟨RX0, "add", "(III)I"⟩
abbrev cX0_scale : ByteArray := prog_1_method_22_code
def yX0_scale : MethodName := ⟨RX0, "scale", "(III)I"⟩
abbrev cX0_copy : ByteArray := prog_1_method_23_code
def yX0_copy : MethodName := ⟨RX0, "copy", "(III)I"⟩
abbrev cX0_keep : ByteArray := prog_1_method_24_code
def yX0_keep : MethodName := ⟨RX0, "keep", "(I)I"⟩
abbrev cX0_restore : ByteArray := prog_1_method_27_code
def yX0_restore : MethodName := ⟨RX0, "restore", "(I)I"⟩
abbrev cX0_noVersion : ByteArray := prog_1_method_3_code
def yX0_noVersion : MethodName := ⟨RX0, "noVersion", "(I)Z"⟩
abbrev cX0_differences : ByteArray := prog_1_method_26_code
def yX0_differences : MethodName := ⟨RX0, "differences", "(I)I"⟩
abbrev cX0_differAt : ByteArray := prog_1_method_25_code
def yX0_differAt : MethodName := ⟨RX0, "differAt", "(II)I"⟩
abbrev cX0_drop : ByteArray := prog_1_method_28_code
def yX0_drop : MethodName := ⟨RX0, "drop", "(I)I"⟩
abbrev cX0_get : ByteArray := prog_1_method_29_code
def yX0_get : MethodName := ⟨RX0, "get", "(I)I"⟩
abbrev cX0_getOf : ByteArray := prog_1_method_30_code
def yX0_getOf : MethodName := ⟨RX0, "getOf", "(II)I"⟩
abbrev cX0_sum : ByteArray := prog_1_method_33_code
def yX0_sum : MethodName := ⟨RX0, "sum", "(II)I"⟩
abbrev cX0_wholeSum : ByteArray := prog_1_method_31_code
def yX0_wholeSum : MethodName := ⟨RX0, "wholeSum", "(I)I"⟩
abbrev cX0_partSum : ByteArray := prog_1_method_32_code
def yX0_partSum : MethodName := ⟨RX0, "partSum", "(I)I"⟩
abbrev cX0_greatest : ByteArray := prog_1_method_36_code
def yX0_greatest : MethodName := ⟨RX0, "greatest", "(II)I"⟩
abbrev cX0_wholeGreatest : ByteArray := prog_1_method_34_code
def yX0_wholeGreatest : MethodName := ⟨RX0, "wholeGreatest", "(I)I"⟩
abbrev cX0_partGreatest : ByteArray := prog_1_method_35_code
def yX0_partGreatest : MethodName := ⟨RX0, "partGreatest", "(II)I"⟩
abbrev cX0_differ : ByteArray := prog_1_method_37_code
def yX0_differ : MethodName := ⟨RX0, "differ", "(I)I"⟩
abbrev cX0_count : ByteArray := prog_1_method_38_code
def yX0_count : MethodName := ⟨RX0, "count", "(III)I"⟩
theorem q26 : (Jvm.Cond.initialized "ChunkArray") ∈ lw_all := lw_g (lw_at lw_m1 1 rfl) rfl
theorem q29 : (Jvm.Cond.instantiable "ChunkArray" (15 : Nat)) ∈ lw_all := lw_g (lw_at lw_m1 4 rfl) rfl
theorem q31 : (Jvm.Cond.instanceMethod ({ cls := "ChunkArray", name := "<init>", desc := "()V" } : Jvm.MethodName)) ∈ lw_all := lw_g (lw_at lw_m1 6 rfl) rfl
theorem q32 : (Jvm.Cond.code ({ cls := "ChunkArray", name := "<init>", desc := "()V" } : Jvm.MethodName) prog_1_method_1_code (2 : Nat) (Option.none : Option Jvm.ClassFile.FieldType)) ∈ lw_all := lw_g (lw_at lw_m1 7 rfl) rfl
theorem q33 : (Jvm.Cond.methodLink "ChunkArray" (1 : Nat) ({ cls := "java/lang/Object", name := "<init>", desc := "()V" } : Jvm.MethodName)) ∈ lw_all := lw_g (lw_at lw_m1 8 rfl) rfl
theorem q36 : (Jvm.Cond.fieldLink "ChunkArray" (7 : Nat) "ChunkArray" "exists" "[Z") ∈ lw_all := lw_g (lw_at lw_m1 11 rfl) rfl
theorem q37 : (Jvm.Cond.fieldLink "ChunkArray" (13 : Nat) "ChunkArray" "chunkOf" "[I") ∈ lw_all := lw_g (lw_at lw_m1 12 rfl) rfl
theorem q38 : (Jvm.Cond.fieldLink "ChunkArray" (17 : Nat) "ChunkArray" "holders" "[I") ∈ lw_all := lw_g (lw_at lw_m1 13 rfl) rfl
theorem q39 : (Jvm.Cond.fieldLink "ChunkArray" (20 : Nat) "ChunkArray" "cells" "[I") ∈ lw_all := lw_g (lw_at lw_m1 14 rfl) rfl
theorem q40 : (Jvm.Cond.fieldLink "ChunkArray" (23 : Nat) "ChunkArray" "factor" "[I") ∈ lw_all := lw_g (lw_at lw_m1 15 rfl) rfl
theorem q41 : (Jvm.Cond.fieldLink "ChunkArray" (26 : Nat) "ChunkArray" "summand" "[I") ∈ lw_all := lw_g (lw_at lw_m1 16 rfl) rfl
theorem q42 : (Jvm.Cond.fieldLink "ChunkArray" (29 : Nat) "ChunkArray" "sumKept" "[Z") ∈ lw_all := lw_g (lw_at lw_m1 17 rfl) rfl
theorem q43 : (Jvm.Cond.fieldLink "ChunkArray" (32 : Nat) "ChunkArray" "storedSum" "[I") ∈ lw_all := lw_g (lw_at lw_m1 18 rfl) rfl
theorem q44 : (Jvm.Cond.fieldLink "ChunkArray" (35 : Nat) "ChunkArray" "greatestKept" "[Z") ∈ lw_all := lw_g (lw_at lw_m1 19 rfl) rfl
theorem q45 : (Jvm.Cond.fieldLink "ChunkArray" (38 : Nat) "ChunkArray" "greatestOf" "[I") ∈ lw_all := lw_g (lw_at lw_m1 20 rfl) rfl
theorem q46 : (Jvm.Cond.fieldLink "ChunkArray" (63 : Nat) "ChunkArray" "row0" "I") ∈ lw_all := lw_g (lw_at lw_m1 21 rfl) rfl
theorem q47 : (Jvm.Cond.fieldLink "ChunkArray" (67 : Nat) "ChunkArray" "row1" "I") ∈ lw_all := lw_g (lw_at lw_m1 22 rfl) rfl
theorem q48 : (Jvm.Cond.fieldLink "ChunkArray" (70 : Nat) "ChunkArray" "column0" "I") ∈ lw_all := lw_g (lw_at lw_m1 23 rfl) rfl
theorem q49 : (Jvm.Cond.fieldLink "ChunkArray" (73 : Nat) "ChunkArray" "column1" "I") ∈ lw_all := lw_g (lw_at lw_m1 24 rfl) rfl
theorem q50 : (Jvm.Cond.fieldLink "ChunkArray" (41 : Nat) "ChunkArray" "moved" "[I") ∈ lw_all := lw_g (lw_at lw_m1 25 rfl) rfl
theorem q51 : (Jvm.Cond.laysFinal "ChunkArray" "ChunkArray" "exists" "[Z") ∈ lw_all := lw_g (lw_at lw_m1 26 rfl) rfl
theorem q52 : (Jvm.Cond.soleField "ChunkArray" "exists") ∈ lw_all := lw_g (lw_at lw_m1 27 rfl) rfl
theorem q53 : (Jvm.Cond.laysFinal "ChunkArray" "ChunkArray" "chunkOf" "[I") ∈ lw_all := lw_g (lw_at lw_m1 28 rfl) rfl
theorem q54 : (Jvm.Cond.soleField "ChunkArray" "chunkOf") ∈ lw_all := lw_g (lw_at lw_m1 29 rfl) rfl
theorem q55 : (Jvm.Cond.laysFinal "ChunkArray" "ChunkArray" "holders" "[I") ∈ lw_all := lw_g (lw_at lw_m1 30 rfl) rfl
theorem q56 : (Jvm.Cond.soleField "ChunkArray" "holders") ∈ lw_all := lw_g (lw_at lw_m1 31 rfl) rfl
theorem q57 : (Jvm.Cond.laysFinal "ChunkArray" "ChunkArray" "cells" "[I") ∈ lw_all := lw_g (lw_at lw_m1 32 rfl) rfl
theorem q58 : (Jvm.Cond.soleField "ChunkArray" "cells") ∈ lw_all := lw_g (lw_at lw_m1 33 rfl) rfl
theorem q59 : (Jvm.Cond.laysFinal "ChunkArray" "ChunkArray" "factor" "[I") ∈ lw_all := lw_g (lw_at lw_m1 34 rfl) rfl
theorem q60 : (Jvm.Cond.soleField "ChunkArray" "factor") ∈ lw_all := lw_g (lw_at lw_m1 35 rfl) rfl
theorem q61 : (Jvm.Cond.laysFinal "ChunkArray" "ChunkArray" "summand" "[I") ∈ lw_all := lw_g (lw_at lw_m1 36 rfl) rfl
theorem q62 : (Jvm.Cond.soleField "ChunkArray" "summand") ∈ lw_all := lw_g (lw_at lw_m1 37 rfl) rfl
theorem q63 : (Jvm.Cond.laysFinal "ChunkArray" "ChunkArray" "sumKept" "[Z") ∈ lw_all := lw_g (lw_at lw_m1 38 rfl) rfl
theorem q64 : (Jvm.Cond.soleField "ChunkArray" "sumKept") ∈ lw_all := lw_g (lw_at lw_m1 39 rfl) rfl
theorem q65 : (Jvm.Cond.laysFinal "ChunkArray" "ChunkArray" "storedSum" "[I") ∈ lw_all := lw_g (lw_at lw_m1 40 rfl) rfl
theorem q66 : (Jvm.Cond.soleField "ChunkArray" "storedSum") ∈ lw_all := lw_g (lw_at lw_m1 41 rfl) rfl
theorem q67 : (Jvm.Cond.laysFinal "ChunkArray" "ChunkArray" "greatestKept" "[Z") ∈ lw_all := lw_g (lw_at lw_m1 42 rfl) rfl
theorem q68 : (Jvm.Cond.soleField "ChunkArray" "greatestKept") ∈ lw_all := lw_g (lw_at lw_m1 43 rfl) rfl
theorem q69 : (Jvm.Cond.laysFinal "ChunkArray" "ChunkArray" "greatestOf" "[I") ∈ lw_all := lw_g (lw_at lw_m1 44 rfl) rfl
theorem q70 : (Jvm.Cond.soleField "ChunkArray" "greatestOf") ∈ lw_all := lw_g (lw_at lw_m1 45 rfl) rfl
theorem q71 : (Jvm.Cond.lays "ChunkArray" "ChunkArray" "row0" "I") ∈ lw_all := lw_g (lw_at lw_m1 46 rfl) rfl
theorem q72 : (Jvm.Cond.soleField "ChunkArray" "row0") ∈ lw_all := lw_g (lw_at lw_m1 47 rfl) rfl
theorem q73 : (Jvm.Cond.lays "ChunkArray" "ChunkArray" "row1" "I") ∈ lw_all := lw_g (lw_at lw_m1 48 rfl) rfl
theorem q74 : (Jvm.Cond.soleField "ChunkArray" "row1") ∈ lw_all := lw_g (lw_at lw_m1 49 rfl) rfl
theorem q75 : (Jvm.Cond.lays "ChunkArray" "ChunkArray" "column0" "I") ∈ lw_all := lw_g (lw_at lw_m1 50 rfl) rfl
theorem q76 : (Jvm.Cond.soleField "ChunkArray" "column0") ∈ lw_all := lw_g (lw_at lw_m1 51 rfl) rfl
theorem q77 : (Jvm.Cond.lays "ChunkArray" "ChunkArray" "column1" "I") ∈ lw_all := lw_g (lw_at lw_m1 52 rfl) rfl
theorem q78 : (Jvm.Cond.soleField "ChunkArray" "column1") ∈ lw_all := lw_g (lw_at lw_m1 53 rfl) rfl
theorem q79 : (Jvm.Cond.laysFinal "ChunkArray" "ChunkArray" "moved" "[I") ∈ lw_all := lw_g (lw_at lw_m1 54 rfl) rfl
theorem q80 : (Jvm.Cond.soleField "ChunkArray" "moved") ∈ lw_all := lw_g (lw_at lw_m1 55 rfl) rfl
theorem q81 : (Jvm.Cond.superclass "ChunkArray" "java/lang/Object") ∈ lw_all := lw_g (lw_at lw_m1 56 rfl) rfl
theorem q85 : (Jvm.Cond.instanceMethod ({ cls := "ChunkArray", name := "fill", desc := "(III)I" } : Jvm.MethodName)) ∈ lw_all := lw_g (lw_at lw_m1 60 rfl) rfl
theorem q86 : (Jvm.Cond.selects "ChunkArray" ({ cls := "ChunkArray", name := "fill", desc := "(III)I" } : Jvm.MethodName) ({ cls := "ChunkArray", name := "fill", desc := "(III)I" } : Jvm.MethodName)) ∈ lw_all := lw_g (lw_at lw_m1 61 rfl) rfl
theorem q87 : (Jvm.Cond.code ({ cls := "ChunkArray", name := "fill", desc := "(III)I" } : Jvm.MethodName) prog_1_method_20_code (4 : Nat) (Option.some Jvm.ClassFile.FieldType.int)) ∈ lw_all := lw_g (lw_at lw_m1 62 rfl) rfl
theorem q88 : (Jvm.Cond.methodLink "ChunkArray" (114 : Nat) ({ cls := "ChunkArray", name := "change", desc := "(IIII)I" } : Jvm.MethodName)) ∈ lw_all := lw_g (lw_at lw_m1 63 rfl) rfl
theorem q89 : (Jvm.Cond.privateMethod ({ cls := "ChunkArray", name := "change", desc := "(IIII)I" } : Jvm.MethodName)) ∈ lw_tbl := lw_at lw_m1 64 rfl
theorem q90 : (Jvm.Cond.instanceMethod ({ cls := "ChunkArray", name := "change", desc := "(IIII)I" } : Jvm.MethodName)) ∈ lw_all := lw_g (lw_at lw_m1 65 rfl) rfl
theorem q91 : (Jvm.Cond.code ({ cls := "ChunkArray", name := "change", desc := "(IIII)I" } : Jvm.MethodName) prog_1_method_19_code (8 : Nat) (Option.some Jvm.ClassFile.FieldType.int)) ∈ lw_all := lw_g (lw_at lw_m1 66 rfl) rfl
theorem q92 : (Jvm.Cond.methodLink "ChunkArray" (91 : Nat) ({ cls := "ChunkArray", name := "bad", desc := "(I)Z" } : Jvm.MethodName)) ∈ lw_all := lw_g (lw_at lw_m1 67 rfl) rfl
theorem q93 : (Jvm.Cond.static ({ cls := "ChunkArray", name := "bad", desc := "(I)Z" } : Jvm.MethodName)) ∈ lw_all := lw_g (lw_at lw_m1 68 rfl) rfl
theorem q94 : (Jvm.Cond.code ({ cls := "ChunkArray", name := "bad", desc := "(I)Z" } : Jvm.MethodName) prog_1_method_2_code (1 : Nat) (Option.some Jvm.ClassFile.FieldType.boolean)) ∈ lw_all := lw_g (lw_at lw_m1 69 rfl) rfl
theorem q95 : (Jvm.Cond.methodLink "ChunkArray" (95 : Nat) ({ cls := "ChunkArray", name := "setRegion", desc := "(II)V" } : Jvm.MethodName)) ∈ lw_all := lw_g (lw_at lw_m1 70 rfl) rfl
theorem q96 : (Jvm.Cond.privateMethod ({ cls := "ChunkArray", name := "setRegion", desc := "(II)V" } : Jvm.MethodName)) ∈ lw_tbl := lw_at lw_m1 71 rfl
theorem q97 : (Jvm.Cond.instanceMethod ({ cls := "ChunkArray", name := "setRegion", desc := "(II)V" } : Jvm.MethodName)) ∈ lw_all := lw_g (lw_at lw_m1 72 rfl) rfl
theorem q98 : (Jvm.Cond.code ({ cls := "ChunkArray", name := "setRegion", desc := "(II)V" } : Jvm.MethodName) prog_1_method_11_code (7 : Nat) (Option.none : Option Jvm.ClassFile.FieldType)) ∈ lw_all := lw_g (lw_at lw_m1 73 rfl) rfl
theorem q99 : (Jvm.Cond.methodLink "ChunkArray" (99 : Nat) ({ cls := "ChunkArray", name := "covers", desc := "(I)Z" } : Jvm.MethodName)) ∈ lw_all := lw_g (lw_at lw_m1 74 rfl) rfl
theorem q100 : (Jvm.Cond.privateMethod ({ cls := "ChunkArray", name := "covers", desc := "(I)Z" } : Jvm.MethodName)) ∈ lw_tbl := lw_at lw_m1 75 rfl
theorem q101 : (Jvm.Cond.instanceMethod ({ cls := "ChunkArray", name := "covers", desc := "(I)Z" } : Jvm.MethodName)) ∈ lw_all := lw_g (lw_at lw_m1 76 rfl) rfl
theorem q102 : (Jvm.Cond.code ({ cls := "ChunkArray", name := "covers", desc := "(I)Z" } : Jvm.MethodName) prog_1_method_13_code (4 : Nat) (Option.some Jvm.ClassFile.FieldType.boolean)) ∈ lw_all := lw_g (lw_at lw_m1 77 rfl) rfl
theorem q103 : (Jvm.Cond.methodLink "ChunkArray" (102 : Nat) ({ cls := "ChunkArray", name := "touches", desc := "(I)Z" } : Jvm.MethodName)) ∈ lw_all := lw_g (lw_at lw_m1 78 rfl) rfl
theorem q104 : (Jvm.Cond.privateMethod ({ cls := "ChunkArray", name := "touches", desc := "(I)Z" } : Jvm.MethodName)) ∈ lw_tbl := lw_at lw_m1 79 rfl
theorem q105 : (Jvm.Cond.instanceMethod ({ cls := "ChunkArray", name := "touches", desc := "(I)Z" } : Jvm.MethodName)) ∈ lw_all := lw_g (lw_at lw_m1 80 rfl) rfl
theorem q106 : (Jvm.Cond.code ({ cls := "ChunkArray", name := "touches", desc := "(I)Z" } : Jvm.MethodName) prog_1_method_14_code (4 : Nat) (Option.some Jvm.ClassFile.FieldType.boolean)) ∈ lw_all := lw_g (lw_at lw_m1 81 rfl) rfl
theorem q107 : (Jvm.Cond.methodLink "ChunkArray" (105 : Nat) ({ cls := "ChunkArray", name := "changeWhole", desc := "(III)V" } : Jvm.MethodName)) ∈ lw_all := lw_g (lw_at lw_m1 82 rfl) rfl
theorem q108 : (Jvm.Cond.privateMethod ({ cls := "ChunkArray", name := "changeWhole", desc := "(III)V" } : Jvm.MethodName)) ∈ lw_tbl := lw_at lw_m1 83 rfl
theorem q109 : (Jvm.Cond.instanceMethod ({ cls := "ChunkArray", name := "changeWhole", desc := "(III)V" } : Jvm.MethodName)) ∈ lw_all := lw_g (lw_at lw_m1 84 rfl) rfl
theorem q110 : (Jvm.Cond.code ({ cls := "ChunkArray", name := "changeWhole", desc := "(III)V" } : Jvm.MethodName) prog_1_method_17_code (5 : Nat) (Option.none : Option Jvm.ClassFile.FieldType)) ∈ lw_all := lw_g (lw_at lw_m1 85 rfl) rfl
theorem q111 : (Jvm.Cond.methodLink "ChunkArray" (55 : Nat) ({ cls := "ChunkArray", name := "own", desc := "(I)I" } : Jvm.MethodName)) ∈ lw_all := lw_g (lw_at lw_m1 86 rfl) rfl
theorem q112 : (Jvm.Cond.privateMethod ({ cls := "ChunkArray", name := "own", desc := "(I)I" } : Jvm.MethodName)) ∈ lw_tbl := lw_at lw_m1 87 rfl
theorem q113 : (Jvm.Cond.instanceMethod ({ cls := "ChunkArray", name := "own", desc := "(I)I" } : Jvm.MethodName)) ∈ lw_all := lw_g (lw_at lw_m1 88 rfl) rfl
theorem q114 : (Jvm.Cond.code ({ cls := "ChunkArray", name := "own", desc := "(I)I" } : Jvm.MethodName) prog_1_method_8_code (5 : Nat) (Option.some Jvm.ClassFile.FieldType.int)) ∈ lw_all := lw_g (lw_at lw_m1 89 rfl) rfl
theorem q115 : (Jvm.Cond.methodLink "ChunkArray" (51 : Nat) ({ cls := "ChunkArray", name := "freeSlot", desc := "()I" } : Jvm.MethodName)) ∈ lw_all := lw_g (lw_at lw_m1 90 rfl) rfl
theorem q116 : (Jvm.Cond.privateMethod ({ cls := "ChunkArray", name := "freeSlot", desc := "()I" } : Jvm.MethodName)) ∈ lw_tbl := lw_at lw_m1 91 rfl
theorem q117 : (Jvm.Cond.instanceMethod ({ cls := "ChunkArray", name := "freeSlot", desc := "()I" } : Jvm.MethodName)) ∈ lw_all := lw_g (lw_at lw_m1 92 rfl) rfl
theorem q118 : (Jvm.Cond.code ({ cls := "ChunkArray", name := "freeSlot", desc := "()I" } : Jvm.MethodName) prog_1_method_7_code (2 : Nat) (Option.some Jvm.ClassFile.FieldType.int)) ∈ lw_all := lw_g (lw_at lw_m1 93 rfl) rfl
theorem q119 : (Jvm.Cond.methodLink "ChunkArray" (108 : Nat) ({ cls := "ChunkArray", name := "changePart", desc := "(III)V" } : Jvm.MethodName)) ∈ lw_all := lw_g (lw_at lw_m1 94 rfl) rfl
theorem q120 : (Jvm.Cond.privateMethod ({ cls := "ChunkArray", name := "changePart", desc := "(III)V" } : Jvm.MethodName)) ∈ lw_tbl := lw_at lw_m1 95 rfl
theorem q121 : (Jvm.Cond.instanceMethod ({ cls := "ChunkArray", name := "changePart", desc := "(III)V" } : Jvm.MethodName)) ∈ lw_all := lw_g (lw_at lw_m1 96 rfl) rfl
theorem q122 : (Jvm.Cond.code ({ cls := "ChunkArray", name := "changePart", desc := "(III)V" } : Jvm.MethodName) prog_1_method_18_code (10 : Nat) (Option.none : Option Jvm.ClassFile.FieldType)) ∈ lw_all := lw_g (lw_at lw_m1 97 rfl) rfl
theorem q123 : (Jvm.Cond.methodLink "ChunkArray" (76 : Nat) ({ cls := "ChunkArray", name := "inRegion", desc := "(II)Z" } : Jvm.MethodName)) ∈ lw_all := lw_g (lw_at lw_m1 98 rfl) rfl
theorem q124 : (Jvm.Cond.privateMethod ({ cls := "ChunkArray", name := "inRegion", desc := "(II)Z" } : Jvm.MethodName)) ∈ lw_tbl := lw_at lw_m1 99 rfl
theorem q125 : (Jvm.Cond.instanceMethod ({ cls := "ChunkArray", name := "inRegion", desc := "(II)Z" } : Jvm.MethodName)) ∈ lw_all := lw_g (lw_at lw_m1 100 rfl) rfl
theorem q126 : (Jvm.Cond.code ({ cls := "ChunkArray", name := "inRegion", desc := "(II)Z" } : Jvm.MethodName) prog_1_method_15_code (3 : Nat) (Option.some Jvm.ClassFile.FieldType.boolean)) ∈ lw_all := lw_g (lw_at lw_m1 101 rfl) rfl
theorem q127 : (Jvm.Cond.methodLink "ChunkArray" (80 : Nat) ({ cls := "ChunkArray", name := "read", desc := "(III)I" } : Jvm.MethodName)) ∈ lw_all := lw_g (lw_at lw_m1 102 rfl) rfl
theorem q128 : (Jvm.Cond.privateMethod ({ cls := "ChunkArray", name := "read", desc := "(III)I" } : Jvm.MethodName)) ∈ lw_tbl := lw_at lw_m1 103 rfl
theorem q129 : (Jvm.Cond.instanceMethod ({ cls := "ChunkArray", name := "read", desc := "(III)I" } : Jvm.MethodName)) ∈ lw_all := lw_g (lw_at lw_m1 104 rfl) rfl
theorem q130 : (Jvm.Cond.code ({ cls := "ChunkArray", name := "read", desc := "(III)I" } : Jvm.MethodName) prog_1_method_6_code (5 : Nat) (Option.some Jvm.ClassFile.FieldType.int)) ∈ lw_all := lw_g (lw_at lw_m1 105 rfl) rfl
theorem q131 : (Jvm.Cond.methodLink "ChunkArray" (44 : Nat) ({ cls := "ChunkArray", name := "placeOf", desc := "(II)I" } : Jvm.MethodName)) ∈ lw_all := lw_g (lw_at lw_m1 106 rfl) rfl
theorem q132 : (Jvm.Cond.static ({ cls := "ChunkArray", name := "placeOf", desc := "(II)I" } : Jvm.MethodName)) ∈ lw_all := lw_g (lw_at lw_m1 107 rfl) rfl
theorem q133 : (Jvm.Cond.code ({ cls := "ChunkArray", name := "placeOf", desc := "(II)I" } : Jvm.MethodName) prog_1_method_4_code (2 : Nat) (Option.some Jvm.ClassFile.FieldType.int)) ∈ lw_all := lw_g (lw_at lw_m1 108 rfl) rfl
theorem q134 : (Jvm.Cond.methodLink "ChunkArray" (48 : Nat) ({ cls := "ChunkArray", name := "within", desc := "(II)I" } : Jvm.MethodName)) ∈ lw_all := lw_g (lw_at lw_m1 109 rfl) rfl
theorem q135 : (Jvm.Cond.static ({ cls := "ChunkArray", name := "within", desc := "(II)I" } : Jvm.MethodName)) ∈ lw_all := lw_g (lw_at lw_m1 110 rfl) rfl
theorem q136 : (Jvm.Cond.code ({ cls := "ChunkArray", name := "within", desc := "(II)I" } : Jvm.MethodName) prog_1_method_5_code (2 : Nat) (Option.some Jvm.ClassFile.FieldType.int)) ∈ lw_all := lw_g (lw_at lw_m1 111 rfl) rfl
theorem q137 : (Jvm.Cond.methodLink "ChunkArray" (84 : Nat) ({ cls := "ChunkArray", name := "result", desc := "(III)I" } : Jvm.MethodName)) ∈ lw_all := lw_g (lw_at lw_m1 112 rfl) rfl
theorem q138 : (Jvm.Cond.static ({ cls := "ChunkArray", name := "result", desc := "(III)I" } : Jvm.MethodName)) ∈ lw_all := lw_g (lw_at lw_m1 113 rfl) rfl
theorem q139 : (Jvm.Cond.code ({ cls := "ChunkArray", name := "result", desc := "(III)I" } : Jvm.MethodName) prog_1_method_16_code (3 : Nat) (Option.some Jvm.ClassFile.FieldType.int)) ∈ lw_all := lw_g (lw_at lw_m1 114 rfl) rfl
theorem q140 : (Jvm.Cond.methodLink "ChunkArray" (87 : Nat) ({ cls := "ChunkArray", name := "writeCell", desc := "(III)V" } : Jvm.MethodName)) ∈ lw_all := lw_g (lw_at lw_m1 115 rfl) rfl
theorem q141 : (Jvm.Cond.privateMethod ({ cls := "ChunkArray", name := "writeCell", desc := "(III)V" } : Jvm.MethodName)) ∈ lw_tbl := lw_at lw_m1 116 rfl
theorem q142 : (Jvm.Cond.instanceMethod ({ cls := "ChunkArray", name := "writeCell", desc := "(III)V" } : Jvm.MethodName)) ∈ lw_all := lw_g (lw_at lw_m1 117 rfl) rfl
theorem q143 : (Jvm.Cond.code ({ cls := "ChunkArray", name := "writeCell", desc := "(III)V" } : Jvm.MethodName) prog_1_method_10_code (6 : Nat) (Option.none : Option Jvm.ClassFile.FieldType)) ∈ lw_all := lw_g (lw_at lw_m1 118 rfl) rfl
theorem q144 : (Jvm.Cond.methodLink "ChunkArray" (59 : Nat) ({ cls := "ChunkArray", name := "settle", desc := "(I)V" } : Jvm.MethodName)) ∈ lw_all := lw_g (lw_at lw_m1 119 rfl) rfl
theorem q145 : (Jvm.Cond.privateMethod ({ cls := "ChunkArray", name := "settle", desc := "(I)V" } : Jvm.MethodName)) ∈ lw_tbl := lw_at lw_m1 120 rfl
theorem q146 : (Jvm.Cond.instanceMethod ({ cls := "ChunkArray", name := "settle", desc := "(I)V" } : Jvm.MethodName)) ∈ lw_all := lw_g (lw_at lw_m1 121 rfl) rfl
theorem q147 : (Jvm.Cond.code ({ cls := "ChunkArray", name := "settle", desc := "(I)V" } : Jvm.MethodName) prog_1_method_9_code (3 : Nat) (Option.none : Option Jvm.ClassFile.FieldType)) ∈ lw_all := lw_g (lw_at lw_m1 122 rfl) rfl
theorem q148 : (Jvm.Cond.methodLink "ChunkArray" (111 : Nat) ({ cls := "ChunkArray", name := "regionSize", desc := "()I" } : Jvm.MethodName)) ∈ lw_all := lw_g (lw_at lw_m1 123 rfl) rfl
theorem q149 : (Jvm.Cond.privateMethod ({ cls := "ChunkArray", name := "regionSize", desc := "()I" } : Jvm.MethodName)) ∈ lw_tbl := lw_at lw_m1 124 rfl
theorem q150 : (Jvm.Cond.instanceMethod ({ cls := "ChunkArray", name := "regionSize", desc := "()I" } : Jvm.MethodName)) ∈ lw_all := lw_g (lw_at lw_m1 125 rfl) rfl
theorem q151 : (Jvm.Cond.code ({ cls := "ChunkArray", name := "regionSize", desc := "()I" } : Jvm.MethodName) prog_1_method_12_code (1 : Nat) (Option.some Jvm.ClassFile.FieldType.int)) ∈ lw_all := lw_g (lw_at lw_m1 126 rfl) rfl
theorem q153 : (Jvm.Cond.instanceMethod ({ cls := "ChunkArray", name := "add", desc := "(III)I" } : Jvm.MethodName)) ∈ lw_all := lw_g (lw_at lw_m1 128 rfl) rfl
theorem q154 : (Jvm.Cond.selects "ChunkArray" ({ cls := "ChunkArray", name := "add", desc := "(III)I" } : Jvm.MethodName) ({ cls := "ChunkArray", name := "add", desc := "(III)I" } : Jvm.MethodName)) ∈ lw_all := lw_g (lw_at lw_m1 129 rfl) rfl
theorem q155 : (Jvm.Cond.code ({ cls := "ChunkArray", name := "add", desc := "(III)I" } : Jvm.MethodName) prog_1_method_21_code (4 : Nat) (Option.some Jvm.ClassFile.FieldType.int)) ∈ lw_all := lw_g (lw_at lw_m1 130 rfl) rfl
theorem q157 : (Jvm.Cond.instanceMethod ({ cls := "ChunkArray", name := "scale", desc := "(III)I" } : Jvm.MethodName)) ∈ lw_all := lw_g (lw_at lw_m1 132 rfl) rfl
theorem q158 : (Jvm.Cond.selects "ChunkArray" ({ cls := "ChunkArray", name := "scale", desc := "(III)I" } : Jvm.MethodName) ({ cls := "ChunkArray", name := "scale", desc := "(III)I" } : Jvm.MethodName)) ∈ lw_all := lw_g (lw_at lw_m1 133 rfl) rfl
theorem q159 : (Jvm.Cond.code ({ cls := "ChunkArray", name := "scale", desc := "(III)I" } : Jvm.MethodName) prog_1_method_22_code (4 : Nat) (Option.some Jvm.ClassFile.FieldType.int)) ∈ lw_all := lw_g (lw_at lw_m1 134 rfl) rfl
theorem q161 : (Jvm.Cond.instanceMethod ({ cls := "ChunkArray", name := "copy", desc := "(III)I" } : Jvm.MethodName)) ∈ lw_all := lw_g (lw_at lw_m1 136 rfl) rfl
theorem q162 : (Jvm.Cond.selects "ChunkArray" ({ cls := "ChunkArray", name := "copy", desc := "(III)I" } : Jvm.MethodName) ({ cls := "ChunkArray", name := "copy", desc := "(III)I" } : Jvm.MethodName)) ∈ lw_all := lw_g (lw_at lw_m1 137 rfl) rfl
theorem q163 : (Jvm.Cond.code ({ cls := "ChunkArray", name := "copy", desc := "(III)I" } : Jvm.MethodName) prog_1_method_23_code (9 : Nat) (Option.some Jvm.ClassFile.FieldType.int)) ∈ lw_all := lw_g (lw_at lw_m1 138 rfl) rfl
theorem q165 : (Jvm.Cond.instanceMethod ({ cls := "ChunkArray", name := "keep", desc := "(I)I" } : Jvm.MethodName)) ∈ lw_all := lw_g (lw_at lw_m1 140 rfl) rfl
theorem q166 : (Jvm.Cond.selects "ChunkArray" ({ cls := "ChunkArray", name := "keep", desc := "(I)I" } : Jvm.MethodName) ({ cls := "ChunkArray", name := "keep", desc := "(I)I" } : Jvm.MethodName)) ∈ lw_all := lw_g (lw_at lw_m1 141 rfl) rfl
theorem q167 : (Jvm.Cond.code ({ cls := "ChunkArray", name := "keep", desc := "(I)I" } : Jvm.MethodName) prog_1_method_24_code (4 : Nat) (Option.some Jvm.ClassFile.FieldType.int)) ∈ lw_all := lw_g (lw_at lw_m1 142 rfl) rfl
theorem q169 : (Jvm.Cond.instanceMethod ({ cls := "ChunkArray", name := "restore", desc := "(I)I" } : Jvm.MethodName)) ∈ lw_all := lw_g (lw_at lw_m1 144 rfl) rfl
theorem q170 : (Jvm.Cond.selects "ChunkArray" ({ cls := "ChunkArray", name := "restore", desc := "(I)I" } : Jvm.MethodName) ({ cls := "ChunkArray", name := "restore", desc := "(I)I" } : Jvm.MethodName)) ∈ lw_all := lw_g (lw_at lw_m1 145 rfl) rfl
theorem q171 : (Jvm.Cond.code ({ cls := "ChunkArray", name := "restore", desc := "(I)I" } : Jvm.MethodName) prog_1_method_27_code (5 : Nat) (Option.some Jvm.ClassFile.FieldType.int)) ∈ lw_all := lw_g (lw_at lw_m1 146 rfl) rfl
theorem q172 : (Jvm.Cond.methodLink "ChunkArray" (121 : Nat) ({ cls := "ChunkArray", name := "noVersion", desc := "(I)Z" } : Jvm.MethodName)) ∈ lw_all := lw_g (lw_at lw_m1 147 rfl) rfl
theorem q173 : (Jvm.Cond.privateMethod ({ cls := "ChunkArray", name := "noVersion", desc := "(I)Z" } : Jvm.MethodName)) ∈ lw_tbl := lw_at lw_m1 148 rfl
theorem q174 : (Jvm.Cond.instanceMethod ({ cls := "ChunkArray", name := "noVersion", desc := "(I)Z" } : Jvm.MethodName)) ∈ lw_all := lw_g (lw_at lw_m1 149 rfl) rfl
theorem q175 : (Jvm.Cond.code ({ cls := "ChunkArray", name := "noVersion", desc := "(I)Z" } : Jvm.MethodName) prog_1_method_3_code (2 : Nat) (Option.some Jvm.ClassFile.FieldType.boolean)) ∈ lw_all := lw_g (lw_at lw_m1 150 rfl) rfl
theorem q176 : (Jvm.Cond.methodLink "ChunkArray" (124 : Nat) ({ cls := "ChunkArray", name := "differences", desc := "(I)I" } : Jvm.MethodName)) ∈ lw_all := lw_g (lw_at lw_m1 151 rfl) rfl
theorem q177 : (Jvm.Cond.privateMethod ({ cls := "ChunkArray", name := "differences", desc := "(I)I" } : Jvm.MethodName)) ∈ lw_tbl := lw_at lw_m1 152 rfl
theorem q178 : (Jvm.Cond.instanceMethod ({ cls := "ChunkArray", name := "differences", desc := "(I)I" } : Jvm.MethodName)) ∈ lw_all := lw_g (lw_at lw_m1 153 rfl) rfl
theorem q179 : (Jvm.Cond.code ({ cls := "ChunkArray", name := "differences", desc := "(I)I" } : Jvm.MethodName) prog_1_method_26_code (4 : Nat) (Option.some Jvm.ClassFile.FieldType.int)) ∈ lw_all := lw_g (lw_at lw_m1 154 rfl) rfl
theorem q180 : (Jvm.Cond.methodLink "ChunkArray" (118 : Nat) ({ cls := "ChunkArray", name := "differAt", desc := "(II)I" } : Jvm.MethodName)) ∈ lw_all := lw_g (lw_at lw_m1 155 rfl) rfl
theorem q181 : (Jvm.Cond.privateMethod ({ cls := "ChunkArray", name := "differAt", desc := "(II)I" } : Jvm.MethodName)) ∈ lw_tbl := lw_at lw_m1 156 rfl
theorem q182 : (Jvm.Cond.instanceMethod ({ cls := "ChunkArray", name := "differAt", desc := "(II)I" } : Jvm.MethodName)) ∈ lw_all := lw_g (lw_at lw_m1 157 rfl) rfl
theorem q183 : (Jvm.Cond.code ({ cls := "ChunkArray", name := "differAt", desc := "(II)I" } : Jvm.MethodName) prog_1_method_25_code (9 : Nat) (Option.some Jvm.ClassFile.FieldType.int)) ∈ lw_all := lw_g (lw_at lw_m1 158 rfl) rfl
theorem q185 : (Jvm.Cond.instanceMethod ({ cls := "ChunkArray", name := "drop", desc := "(I)I" } : Jvm.MethodName)) ∈ lw_all := lw_g (lw_at lw_m1 160 rfl) rfl
theorem q186 : (Jvm.Cond.selects "ChunkArray" ({ cls := "ChunkArray", name := "drop", desc := "(I)I" } : Jvm.MethodName) ({ cls := "ChunkArray", name := "drop", desc := "(I)I" } : Jvm.MethodName)) ∈ lw_all := lw_g (lw_at lw_m1 161 rfl) rfl
theorem q187 : (Jvm.Cond.code ({ cls := "ChunkArray", name := "drop", desc := "(I)I" } : Jvm.MethodName) prog_1_method_28_code (3 : Nat) (Option.some Jvm.ClassFile.FieldType.int)) ∈ lw_all := lw_g (lw_at lw_m1 162 rfl) rfl
theorem q189 : (Jvm.Cond.instanceMethod ({ cls := "ChunkArray", name := "get", desc := "(I)I" } : Jvm.MethodName)) ∈ lw_all := lw_g (lw_at lw_m1 164 rfl) rfl
theorem q190 : (Jvm.Cond.selects "ChunkArray" ({ cls := "ChunkArray", name := "get", desc := "(I)I" } : Jvm.MethodName) ({ cls := "ChunkArray", name := "get", desc := "(I)I" } : Jvm.MethodName)) ∈ lw_all := lw_g (lw_at lw_m1 165 rfl) rfl
theorem q191 : (Jvm.Cond.code ({ cls := "ChunkArray", name := "get", desc := "(I)I" } : Jvm.MethodName) prog_1_method_29_code (2 : Nat) (Option.some Jvm.ClassFile.FieldType.int)) ∈ lw_all := lw_g (lw_at lw_m1 166 rfl) rfl
theorem q193 : (Jvm.Cond.instanceMethod ({ cls := "ChunkArray", name := "getOf", desc := "(II)I" } : Jvm.MethodName)) ∈ lw_all := lw_g (lw_at lw_m1 168 rfl) rfl
theorem q194 : (Jvm.Cond.selects "ChunkArray" ({ cls := "ChunkArray", name := "getOf", desc := "(II)I" } : Jvm.MethodName) ({ cls := "ChunkArray", name := "getOf", desc := "(II)I" } : Jvm.MethodName)) ∈ lw_all := lw_g (lw_at lw_m1 169 rfl) rfl
theorem q195 : (Jvm.Cond.code ({ cls := "ChunkArray", name := "getOf", desc := "(II)I" } : Jvm.MethodName) prog_1_method_30_code (3 : Nat) (Option.some Jvm.ClassFile.FieldType.int)) ∈ lw_all := lw_g (lw_at lw_m1 170 rfl) rfl
theorem q197 : (Jvm.Cond.instanceMethod ({ cls := "ChunkArray", name := "sum", desc := "(II)I" } : Jvm.MethodName)) ∈ lw_all := lw_g (lw_at lw_m1 172 rfl) rfl
theorem q198 : (Jvm.Cond.selects "ChunkArray" ({ cls := "ChunkArray", name := "sum", desc := "(II)I" } : Jvm.MethodName) ({ cls := "ChunkArray", name := "sum", desc := "(II)I" } : Jvm.MethodName)) ∈ lw_all := lw_g (lw_at lw_m1 173 rfl) rfl
theorem q199 : (Jvm.Cond.code ({ cls := "ChunkArray", name := "sum", desc := "(II)I" } : Jvm.MethodName) prog_1_method_33_code (7 : Nat) (Option.some Jvm.ClassFile.FieldType.int)) ∈ lw_all := lw_g (lw_at lw_m1 174 rfl) rfl
theorem q200 : (Jvm.Cond.methodLink "ChunkArray" (127 : Nat) ({ cls := "ChunkArray", name := "wholeSum", desc := "(I)I" } : Jvm.MethodName)) ∈ lw_all := lw_g (lw_at lw_m1 175 rfl) rfl
theorem q201 : (Jvm.Cond.privateMethod ({ cls := "ChunkArray", name := "wholeSum", desc := "(I)I" } : Jvm.MethodName)) ∈ lw_tbl := lw_at lw_m1 176 rfl
theorem q202 : (Jvm.Cond.instanceMethod ({ cls := "ChunkArray", name := "wholeSum", desc := "(I)I" } : Jvm.MethodName)) ∈ lw_all := lw_g (lw_at lw_m1 177 rfl) rfl
theorem q203 : (Jvm.Cond.code ({ cls := "ChunkArray", name := "wholeSum", desc := "(I)I" } : Jvm.MethodName) prog_1_method_31_code (4 : Nat) (Option.some Jvm.ClassFile.FieldType.int)) ∈ lw_all := lw_g (lw_at lw_m1 178 rfl) rfl
theorem q204 : (Jvm.Cond.methodLink "ChunkArray" (130 : Nat) ({ cls := "ChunkArray", name := "partSum", desc := "(I)I" } : Jvm.MethodName)) ∈ lw_all := lw_g (lw_at lw_m1 179 rfl) rfl
theorem q205 : (Jvm.Cond.privateMethod ({ cls := "ChunkArray", name := "partSum", desc := "(I)I" } : Jvm.MethodName)) ∈ lw_tbl := lw_at lw_m1 180 rfl
theorem q206 : (Jvm.Cond.instanceMethod ({ cls := "ChunkArray", name := "partSum", desc := "(I)I" } : Jvm.MethodName)) ∈ lw_all := lw_g (lw_at lw_m1 181 rfl) rfl
theorem q207 : (Jvm.Cond.code ({ cls := "ChunkArray", name := "partSum", desc := "(I)I" } : Jvm.MethodName) prog_1_method_32_code (7 : Nat) (Option.some Jvm.ClassFile.FieldType.int)) ∈ lw_all := lw_g (lw_at lw_m1 182 rfl) rfl
theorem q209 : (Jvm.Cond.instanceMethod ({ cls := "ChunkArray", name := "greatest", desc := "(II)I" } : Jvm.MethodName)) ∈ lw_all := lw_g (lw_at lw_m1 184 rfl) rfl
theorem q210 : (Jvm.Cond.selects "ChunkArray" ({ cls := "ChunkArray", name := "greatest", desc := "(II)I" } : Jvm.MethodName) ({ cls := "ChunkArray", name := "greatest", desc := "(II)I" } : Jvm.MethodName)) ∈ lw_all := lw_g (lw_at lw_m1 185 rfl) rfl
theorem q211 : (Jvm.Cond.code ({ cls := "ChunkArray", name := "greatest", desc := "(II)I" } : Jvm.MethodName) prog_1_method_36_code (8 : Nat) (Option.some Jvm.ClassFile.FieldType.int)) ∈ lw_all := lw_g (lw_at lw_m1 186 rfl) rfl
theorem q212 : (Jvm.Cond.methodLink "ChunkArray" (133 : Nat) ({ cls := "ChunkArray", name := "wholeGreatest", desc := "(I)I" } : Jvm.MethodName)) ∈ lw_all := lw_g (lw_at lw_m1 187 rfl) rfl
theorem q213 : (Jvm.Cond.privateMethod ({ cls := "ChunkArray", name := "wholeGreatest", desc := "(I)I" } : Jvm.MethodName)) ∈ lw_tbl := lw_at lw_m1 188 rfl
theorem q214 : (Jvm.Cond.instanceMethod ({ cls := "ChunkArray", name := "wholeGreatest", desc := "(I)I" } : Jvm.MethodName)) ∈ lw_all := lw_g (lw_at lw_m1 189 rfl) rfl
theorem q215 : (Jvm.Cond.code ({ cls := "ChunkArray", name := "wholeGreatest", desc := "(I)I" } : Jvm.MethodName) prog_1_method_34_code (5 : Nat) (Option.some Jvm.ClassFile.FieldType.int)) ∈ lw_all := lw_g (lw_at lw_m1 190 rfl) rfl
theorem q216 : (Jvm.Cond.methodLink "ChunkArray" (136 : Nat) ({ cls := "ChunkArray", name := "partGreatest", desc := "(II)I" } : Jvm.MethodName)) ∈ lw_all := lw_g (lw_at lw_m1 191 rfl) rfl
theorem q217 : (Jvm.Cond.privateMethod ({ cls := "ChunkArray", name := "partGreatest", desc := "(II)I" } : Jvm.MethodName)) ∈ lw_tbl := lw_at lw_m1 192 rfl
theorem q218 : (Jvm.Cond.instanceMethod ({ cls := "ChunkArray", name := "partGreatest", desc := "(II)I" } : Jvm.MethodName)) ∈ lw_all := lw_g (lw_at lw_m1 193 rfl) rfl
theorem q219 : (Jvm.Cond.code ({ cls := "ChunkArray", name := "partGreatest", desc := "(II)I" } : Jvm.MethodName) prog_1_method_35_code (9 : Nat) (Option.some Jvm.ClassFile.FieldType.int)) ∈ lw_all := lw_g (lw_at lw_m1 194 rfl) rfl
theorem q221 : (Jvm.Cond.instanceMethod ({ cls := "ChunkArray", name := "differ", desc := "(I)I" } : Jvm.MethodName)) ∈ lw_all := lw_g (lw_at lw_m1 196 rfl) rfl
theorem q222 : (Jvm.Cond.selects "ChunkArray" ({ cls := "ChunkArray", name := "differ", desc := "(I)I" } : Jvm.MethodName) ({ cls := "ChunkArray", name := "differ", desc := "(I)I" } : Jvm.MethodName)) ∈ lw_all := lw_g (lw_at lw_m1 197 rfl) rfl
theorem q223 : (Jvm.Cond.code ({ cls := "ChunkArray", name := "differ", desc := "(I)I" } : Jvm.MethodName) prog_1_method_37_code (2 : Nat) (Option.some Jvm.ClassFile.FieldType.int)) ∈ lw_all := lw_g (lw_at lw_m1 198 rfl) rfl
theorem q225 : (Jvm.Cond.instanceMethod ({ cls := "ChunkArray", name := "count", desc := "(III)I" } : Jvm.MethodName)) ∈ lw_all := lw_g (lw_at lw_m1 200 rfl) rfl
theorem q226 : (Jvm.Cond.selects "ChunkArray" ({ cls := "ChunkArray", name := "count", desc := "(III)I" } : Jvm.MethodName) ({ cls := "ChunkArray", name := "count", desc := "(III)I" } : Jvm.MethodName)) ∈ lw_all := lw_g (lw_at lw_m1 201 rfl) rfl
theorem q227 : (Jvm.Cond.code ({ cls := "ChunkArray", name := "count", desc := "(III)I" } : Jvm.MethodName) prog_1_method_38_code (8 : Nat) (Option.some Jvm.ClassFile.FieldType.int)) ∈ lw_all := lw_g (lw_at lw_m1 202 rfl) rfl
theorem in_X0 : ∀ w ∈ wsX00, w ∈ lw_all := lw_in wsX00 [51, 53, 55, 57, 59, 61, 63, 65, 67, 69, 71, 73, 75, 77, 79] (by decide +kernel) (by decide +kernel)

/-! ChunkArrayModel -/
set_option maxRecDepth 100000
def RX1 : String := "ChunkArrayModel"
def TX1 : u_T := fun k => match k with
  | 0 => ("ChunkArrayModel", "cells", "[I", true)
  | 1 => ("ChunkArrayModel", "before", "[I", true)
  | 2 => ("ChunkArrayModel", "kept", "[I", true)
  | _ => ("ChunkArrayModel", "exists", "[Z", true)
def tyX1 : Nat → FieldType := fun k => match k with
  | 0 => .array .int
  | 1 => .array .int
  | 2 => .array .int
  | _ => .array .boolean
abbrev wsX10 : List Cond := u_ws RX1 TX1 4
theorem nmX1 : ∀ a, a < 4 → ∀ b, b < 4 → a ≠ b → (TX1 a).2.1 ≠ (TX1 b).2.1 := by decide +kernel
theorem tyX1_ok : ∀ k, k < 4 → parseFieldDescriptor (TX1 k).2.2.1 = some (tyX1 k) := by decide +kernel
abbrev cX1_init : ByteArray := prog_3_method_1_code
def yX1_init : MethodName := ⟨RX1, "<init>", "()V"⟩
abbrev cX1_fill : ByteArray := prog_3_method_6_code
def yX1_fill : MethodName := ⟨RX1, "fill", "(III)I"⟩
abbrev cX1_change : ByteArray := prog_3_method_5_code
def yX1_change : MethodName := ⟨RX1, "change", "(IIII)I"⟩
abbrev cX1_isCell : ByteArray := prog_3_method_2_code
def yX1_isCell : MethodName := ⟨RX1, "isCell", "(I)Z"⟩
abbrev cX1_inside : ByteArray := prog_3_method_4_code
def yX1_inside : MethodName := ⟨RX1, "inside", "(III)Z"⟩
abbrev cX1_between : ByteArray := prog_3_method_3_code
def yX1_between : MethodName := ⟨RX1, "between", "(III)Z"⟩
abbrev cX1_add : ByteArray := prog_3_method_7_code
def yX1_add : MethodName := ⟨RX1, "add", "(III)I"⟩
abbrev cX1_scale : ByteArray := prog_3_method_8_code
def yX1_scale : MethodName := ⟨RX1, "scale", "(III)I"⟩
abbrev cX1_copy : ByteArray := prog_3_method_9_code
def yX1_copy : MethodName := ⟨RX1, "copy", "(III)I"⟩
abbrev cX1_keep : ByteArray := prog_3_method_11_code
def yX1_keep : MethodName := ⟨RX1, "keep", "(I)I"⟩
abbrev cX1_restore : ByteArray := prog_3_method_12_code
def yX1_restore : MethodName := ⟨RX1, "restore", "(I)I"⟩
abbrev cX1_differ : ByteArray := prog_3_method_18_code
def yX1_differ : MethodName := ⟨RX1, "differ", "(I)I"⟩
abbrev cX1_isVersion : ByteArray := prog_3_method_10_code
def yX1_isVersion : MethodName := ⟨RX1, "isVersion", "(I)Z"⟩
abbrev cX1_drop : ByteArray := prog_3_method_13_code
def yX1_drop : MethodName := ⟨RX1, "drop", "(I)I"⟩
abbrev cX1_get : ByteArray := prog_3_method_14_code
def yX1_get : MethodName := ⟨RX1, "get", "(I)I"⟩
abbrev cX1_getOf : ByteArray := prog_3_method_15_code
def yX1_getOf : MethodName := ⟨RX1, "getOf", "(II)I"⟩
abbrev cX1_sum : ByteArray := prog_3_method_16_code
def yX1_sum : MethodName := ⟨RX1, "sum", "(II)I"⟩
abbrev cX1_greatest : ByteArray := prog_3_method_17_code
def yX1_greatest : MethodName := ⟨RX1, "greatest", "(II)I"⟩
abbrev cX1_count : ByteArray := prog_3_method_19_code
def yX1_count : MethodName := ⟨RX1, "count", "(III)I"⟩
theorem q27 : (Jvm.Cond.initialized "ChunkArrayModel") ∈ lw_all := lw_g (lw_at lw_m1 2 rfl) rfl
theorem q229 : (Jvm.Cond.instantiable "ChunkArrayModel" (4 : Nat)) ∈ lw_all := lw_g (lw_at lw_m1 204 rfl) rfl
theorem q231 : (Jvm.Cond.instanceMethod ({ cls := "ChunkArrayModel", name := "<init>", desc := "()V" } : Jvm.MethodName)) ∈ lw_all := lw_g (lw_at lw_m1 206 rfl) rfl
theorem q232 : (Jvm.Cond.code ({ cls := "ChunkArrayModel", name := "<init>", desc := "()V" } : Jvm.MethodName) prog_3_method_1_code (1 : Nat) (Option.none : Option Jvm.ClassFile.FieldType)) ∈ lw_all := lw_g (lw_at lw_m1 207 rfl) rfl
theorem q233 : (Jvm.Cond.methodLink "ChunkArrayModel" (1 : Nat) ({ cls := "java/lang/Object", name := "<init>", desc := "()V" } : Jvm.MethodName)) ∈ lw_all := lw_g (lw_at lw_m1 208 rfl) rfl
theorem q234 : (Jvm.Cond.fieldLink "ChunkArrayModel" (7 : Nat) "ChunkArrayModel" "cells" "[I") ∈ lw_all := lw_g (lw_at lw_m1 209 rfl) rfl
theorem q235 : (Jvm.Cond.fieldLink "ChunkArrayModel" (13 : Nat) "ChunkArrayModel" "before" "[I") ∈ lw_all := lw_g (lw_at lw_m1 210 rfl) rfl
theorem q236 : (Jvm.Cond.fieldLink "ChunkArrayModel" (16 : Nat) "ChunkArrayModel" "kept" "[I") ∈ lw_all := lw_g (lw_at lw_m1 211 rfl) rfl
theorem q237 : (Jvm.Cond.fieldLink "ChunkArrayModel" (19 : Nat) "ChunkArrayModel" "exists" "[Z") ∈ lw_all := lw_g (lw_at lw_m1 212 rfl) rfl
theorem q238 : (Jvm.Cond.laysFinal "ChunkArrayModel" "ChunkArrayModel" "cells" "[I") ∈ lw_all := lw_g (lw_at lw_m1 213 rfl) rfl
theorem q239 : (Jvm.Cond.soleField "ChunkArrayModel" "cells") ∈ lw_all := lw_g (lw_at lw_m1 214 rfl) rfl
theorem q240 : (Jvm.Cond.laysFinal "ChunkArrayModel" "ChunkArrayModel" "before" "[I") ∈ lw_all := lw_g (lw_at lw_m1 215 rfl) rfl
theorem q241 : (Jvm.Cond.soleField "ChunkArrayModel" "before") ∈ lw_all := lw_g (lw_at lw_m1 216 rfl) rfl
theorem q242 : (Jvm.Cond.laysFinal "ChunkArrayModel" "ChunkArrayModel" "kept" "[I") ∈ lw_all := lw_g (lw_at lw_m1 217 rfl) rfl
theorem q243 : (Jvm.Cond.soleField "ChunkArrayModel" "kept") ∈ lw_all := lw_g (lw_at lw_m1 218 rfl) rfl
theorem q244 : (Jvm.Cond.laysFinal "ChunkArrayModel" "ChunkArrayModel" "exists" "[Z") ∈ lw_all := lw_g (lw_at lw_m1 219 rfl) rfl
theorem q245 : (Jvm.Cond.soleField "ChunkArrayModel" "exists") ∈ lw_all := lw_g (lw_at lw_m1 220 rfl) rfl
theorem q246 : (Jvm.Cond.superclass "ChunkArrayModel" "java/lang/Object") ∈ lw_all := lw_g (lw_at lw_m1 221 rfl) rfl
theorem q248 : (Jvm.Cond.instanceMethod ({ cls := "ChunkArrayModel", name := "fill", desc := "(III)I" } : Jvm.MethodName)) ∈ lw_all := lw_g (lw_at lw_m1 223 rfl) rfl
theorem q249 : (Jvm.Cond.selects "ChunkArrayModel" ({ cls := "ChunkArrayModel", name := "fill", desc := "(III)I" } : Jvm.MethodName) ({ cls := "ChunkArrayModel", name := "fill", desc := "(III)I" } : Jvm.MethodName)) ∈ lw_all := lw_g (lw_at lw_m1 224 rfl) rfl
theorem q250 : (Jvm.Cond.code ({ cls := "ChunkArrayModel", name := "fill", desc := "(III)I" } : Jvm.MethodName) prog_3_method_6_code (4 : Nat) (Option.some Jvm.ClassFile.FieldType.int)) ∈ lw_all := lw_g (lw_at lw_m1 225 rfl) rfl
theorem q251 : (Jvm.Cond.methodLink "ChunkArrayModel" (34 : Nat) ({ cls := "ChunkArrayModel", name := "change", desc := "(IIII)I" } : Jvm.MethodName)) ∈ lw_all := lw_g (lw_at lw_m1 226 rfl) rfl
theorem q252 : (Jvm.Cond.privateMethod ({ cls := "ChunkArrayModel", name := "change", desc := "(IIII)I" } : Jvm.MethodName)) ∈ lw_tbl := lw_at lw_m1 227 rfl
theorem q253 : (Jvm.Cond.instanceMethod ({ cls := "ChunkArrayModel", name := "change", desc := "(IIII)I" } : Jvm.MethodName)) ∈ lw_all := lw_g (lw_at lw_m1 228 rfl) rfl
theorem q254 : (Jvm.Cond.code ({ cls := "ChunkArrayModel", name := "change", desc := "(IIII)I" } : Jvm.MethodName) prog_3_method_5_code (7 : Nat) (Option.some Jvm.ClassFile.FieldType.int)) ∈ lw_all := lw_g (lw_at lw_m1 229 rfl) rfl
theorem q255 : (Jvm.Cond.methodLink "ChunkArrayModel" (27 : Nat) ({ cls := "ChunkArrayModel", name := "isCell", desc := "(I)Z" } : Jvm.MethodName)) ∈ lw_all := lw_g (lw_at lw_m1 230 rfl) rfl
theorem q256 : (Jvm.Cond.privateMethod ({ cls := "ChunkArrayModel", name := "isCell", desc := "(I)Z" } : Jvm.MethodName)) ∈ lw_tbl := lw_at lw_m1 231 rfl
theorem q257 : (Jvm.Cond.instanceMethod ({ cls := "ChunkArrayModel", name := "isCell", desc := "(I)Z" } : Jvm.MethodName)) ∈ lw_all := lw_g (lw_at lw_m1 232 rfl) rfl
theorem q258 : (Jvm.Cond.code ({ cls := "ChunkArrayModel", name := "isCell", desc := "(I)Z" } : Jvm.MethodName) prog_3_method_2_code (2 : Nat) (Option.some Jvm.ClassFile.FieldType.boolean)) ∈ lw_all := lw_g (lw_at lw_m1 233 rfl) rfl
theorem q259 : (Jvm.Cond.methodLink "ChunkArrayModel" (31 : Nat) ({ cls := "ChunkArrayModel", name := "inside", desc := "(III)Z" } : Jvm.MethodName)) ∈ lw_all := lw_g (lw_at lw_m1 234 rfl) rfl
theorem q260 : (Jvm.Cond.privateMethod ({ cls := "ChunkArrayModel", name := "inside", desc := "(III)Z" } : Jvm.MethodName)) ∈ lw_tbl := lw_at lw_m1 235 rfl
theorem q261 : (Jvm.Cond.instanceMethod ({ cls := "ChunkArrayModel", name := "inside", desc := "(III)Z" } : Jvm.MethodName)) ∈ lw_all := lw_g (lw_at lw_m1 236 rfl) rfl
theorem q262 : (Jvm.Cond.code ({ cls := "ChunkArrayModel", name := "inside", desc := "(III)Z" } : Jvm.MethodName) prog_3_method_4_code (4 : Nat) (Option.some Jvm.ClassFile.FieldType.boolean)) ∈ lw_all := lw_g (lw_at lw_m1 237 rfl) rfl
theorem q263 : (Jvm.Cond.methodLink "ChunkArrayModel" (23 : Nat) ({ cls := "ChunkArrayModel", name := "between", desc := "(III)Z" } : Jvm.MethodName)) ∈ lw_all := lw_g (lw_at lw_m1 238 rfl) rfl
theorem q264 : (Jvm.Cond.privateMethod ({ cls := "ChunkArrayModel", name := "between", desc := "(III)Z" } : Jvm.MethodName)) ∈ lw_tbl := lw_at lw_m1 239 rfl
theorem q265 : (Jvm.Cond.instanceMethod ({ cls := "ChunkArrayModel", name := "between", desc := "(III)Z" } : Jvm.MethodName)) ∈ lw_all := lw_g (lw_at lw_m2 0 rfl) rfl
theorem q266 : (Jvm.Cond.code ({ cls := "ChunkArrayModel", name := "between", desc := "(III)Z" } : Jvm.MethodName) prog_3_method_3_code (4 : Nat) (Option.some Jvm.ClassFile.FieldType.boolean)) ∈ lw_all := lw_g (lw_at lw_m2 1 rfl) rfl
theorem q268 : (Jvm.Cond.instanceMethod ({ cls := "ChunkArrayModel", name := "add", desc := "(III)I" } : Jvm.MethodName)) ∈ lw_all := lw_g (lw_at lw_m2 3 rfl) rfl
theorem q269 : (Jvm.Cond.selects "ChunkArrayModel" ({ cls := "ChunkArrayModel", name := "add", desc := "(III)I" } : Jvm.MethodName) ({ cls := "ChunkArrayModel", name := "add", desc := "(III)I" } : Jvm.MethodName)) ∈ lw_all := lw_g (lw_at lw_m2 4 rfl) rfl
theorem q270 : (Jvm.Cond.code ({ cls := "ChunkArrayModel", name := "add", desc := "(III)I" } : Jvm.MethodName) prog_3_method_7_code (4 : Nat) (Option.some Jvm.ClassFile.FieldType.int)) ∈ lw_all := lw_g (lw_at lw_m2 5 rfl) rfl
theorem q272 : (Jvm.Cond.instanceMethod ({ cls := "ChunkArrayModel", name := "scale", desc := "(III)I" } : Jvm.MethodName)) ∈ lw_all := lw_g (lw_at lw_m2 7 rfl) rfl
theorem q273 : (Jvm.Cond.selects "ChunkArrayModel" ({ cls := "ChunkArrayModel", name := "scale", desc := "(III)I" } : Jvm.MethodName) ({ cls := "ChunkArrayModel", name := "scale", desc := "(III)I" } : Jvm.MethodName)) ∈ lw_all := lw_g (lw_at lw_m2 8 rfl) rfl
theorem q274 : (Jvm.Cond.code ({ cls := "ChunkArrayModel", name := "scale", desc := "(III)I" } : Jvm.MethodName) prog_3_method_8_code (4 : Nat) (Option.some Jvm.ClassFile.FieldType.int)) ∈ lw_all := lw_g (lw_at lw_m2 9 rfl) rfl
theorem q276 : (Jvm.Cond.instanceMethod ({ cls := "ChunkArrayModel", name := "copy", desc := "(III)I" } : Jvm.MethodName)) ∈ lw_all := lw_g (lw_at lw_m2 11 rfl) rfl
theorem q277 : (Jvm.Cond.selects "ChunkArrayModel" ({ cls := "ChunkArrayModel", name := "copy", desc := "(III)I" } : Jvm.MethodName) ({ cls := "ChunkArrayModel", name := "copy", desc := "(III)I" } : Jvm.MethodName)) ∈ lw_all := lw_g (lw_at lw_m2 12 rfl) rfl
theorem q278 : (Jvm.Cond.code ({ cls := "ChunkArrayModel", name := "copy", desc := "(III)I" } : Jvm.MethodName) prog_3_method_9_code (10 : Nat) (Option.some Jvm.ClassFile.FieldType.int)) ∈ lw_all := lw_g (lw_at lw_m2 13 rfl) rfl
theorem q280 : (Jvm.Cond.instanceMethod ({ cls := "ChunkArrayModel", name := "keep", desc := "(I)I" } : Jvm.MethodName)) ∈ lw_all := lw_g (lw_at lw_m2 15 rfl) rfl
theorem q281 : (Jvm.Cond.selects "ChunkArrayModel" ({ cls := "ChunkArrayModel", name := "keep", desc := "(I)I" } : Jvm.MethodName) ({ cls := "ChunkArrayModel", name := "keep", desc := "(I)I" } : Jvm.MethodName)) ∈ lw_all := lw_g (lw_at lw_m2 16 rfl) rfl
theorem q282 : (Jvm.Cond.code ({ cls := "ChunkArrayModel", name := "keep", desc := "(I)I" } : Jvm.MethodName) prog_3_method_11_code (3 : Nat) (Option.some Jvm.ClassFile.FieldType.int)) ∈ lw_all := lw_g (lw_at lw_m2 17 rfl) rfl
theorem q284 : (Jvm.Cond.instanceMethod ({ cls := "ChunkArrayModel", name := "restore", desc := "(I)I" } : Jvm.MethodName)) ∈ lw_all := lw_g (lw_at lw_m2 19 rfl) rfl
theorem q285 : (Jvm.Cond.selects "ChunkArrayModel" ({ cls := "ChunkArrayModel", name := "restore", desc := "(I)I" } : Jvm.MethodName) ({ cls := "ChunkArrayModel", name := "restore", desc := "(I)I" } : Jvm.MethodName)) ∈ lw_all := lw_g (lw_at lw_m2 20 rfl) rfl
theorem q286 : (Jvm.Cond.code ({ cls := "ChunkArrayModel", name := "restore", desc := "(I)I" } : Jvm.MethodName) prog_3_method_12_code (4 : Nat) (Option.some Jvm.ClassFile.FieldType.int)) ∈ lw_all := lw_g (lw_at lw_m2 21 rfl) rfl
theorem q287 : (Jvm.Cond.methodLink "ChunkArrayModel" (38 : Nat) ({ cls := "ChunkArrayModel", name := "differ", desc := "(I)I" } : Jvm.MethodName)) ∈ lw_all := lw_g (lw_at lw_m2 22 rfl) rfl
theorem q288 : (Jvm.Cond.instanceMethod ({ cls := "ChunkArrayModel", name := "differ", desc := "(I)I" } : Jvm.MethodName)) ∈ lw_all := lw_g (lw_at lw_m2 23 rfl) rfl
theorem q289 : (Jvm.Cond.selects "ChunkArrayModel" ({ cls := "ChunkArrayModel", name := "differ", desc := "(I)I" } : Jvm.MethodName) ({ cls := "ChunkArrayModel", name := "differ", desc := "(I)I" } : Jvm.MethodName)) ∈ lw_all := lw_g (lw_at lw_m2 24 rfl) rfl
theorem q290 : (Jvm.Cond.code ({ cls := "ChunkArrayModel", name := "differ", desc := "(I)I" } : Jvm.MethodName) prog_3_method_18_code (4 : Nat) (Option.some Jvm.ClassFile.FieldType.int)) ∈ lw_all := lw_g (lw_at lw_m2 25 rfl) rfl
theorem q291 : (Jvm.Cond.methodLink "ChunkArrayModel" (42 : Nat) ({ cls := "ChunkArrayModel", name := "isVersion", desc := "(I)Z" } : Jvm.MethodName)) ∈ lw_all := lw_g (lw_at lw_m2 26 rfl) rfl
theorem q292 : (Jvm.Cond.privateMethod ({ cls := "ChunkArrayModel", name := "isVersion", desc := "(I)Z" } : Jvm.MethodName)) ∈ lw_tbl := lw_at lw_m2 27 rfl
theorem q293 : (Jvm.Cond.instanceMethod ({ cls := "ChunkArrayModel", name := "isVersion", desc := "(I)Z" } : Jvm.MethodName)) ∈ lw_all := lw_g (lw_at lw_m2 28 rfl) rfl
theorem q294 : (Jvm.Cond.code ({ cls := "ChunkArrayModel", name := "isVersion", desc := "(I)Z" } : Jvm.MethodName) prog_3_method_10_code (2 : Nat) (Option.some Jvm.ClassFile.FieldType.boolean)) ∈ lw_all := lw_g (lw_at lw_m2 29 rfl) rfl
theorem q296 : (Jvm.Cond.instanceMethod ({ cls := "ChunkArrayModel", name := "drop", desc := "(I)I" } : Jvm.MethodName)) ∈ lw_all := lw_g (lw_at lw_m2 31 rfl) rfl
theorem q297 : (Jvm.Cond.selects "ChunkArrayModel" ({ cls := "ChunkArrayModel", name := "drop", desc := "(I)I" } : Jvm.MethodName) ({ cls := "ChunkArrayModel", name := "drop", desc := "(I)I" } : Jvm.MethodName)) ∈ lw_all := lw_g (lw_at lw_m2 32 rfl) rfl
theorem q298 : (Jvm.Cond.code ({ cls := "ChunkArrayModel", name := "drop", desc := "(I)I" } : Jvm.MethodName) prog_3_method_13_code (2 : Nat) (Option.some Jvm.ClassFile.FieldType.int)) ∈ lw_all := lw_g (lw_at lw_m2 33 rfl) rfl
theorem q300 : (Jvm.Cond.instanceMethod ({ cls := "ChunkArrayModel", name := "get", desc := "(I)I" } : Jvm.MethodName)) ∈ lw_all := lw_g (lw_at lw_m2 35 rfl) rfl
theorem q301 : (Jvm.Cond.selects "ChunkArrayModel" ({ cls := "ChunkArrayModel", name := "get", desc := "(I)I" } : Jvm.MethodName) ({ cls := "ChunkArrayModel", name := "get", desc := "(I)I" } : Jvm.MethodName)) ∈ lw_all := lw_g (lw_at lw_m2 36 rfl) rfl
theorem q302 : (Jvm.Cond.code ({ cls := "ChunkArrayModel", name := "get", desc := "(I)I" } : Jvm.MethodName) prog_3_method_14_code (2 : Nat) (Option.some Jvm.ClassFile.FieldType.int)) ∈ lw_all := lw_g (lw_at lw_m2 37 rfl) rfl
theorem q304 : (Jvm.Cond.instanceMethod ({ cls := "ChunkArrayModel", name := "getOf", desc := "(II)I" } : Jvm.MethodName)) ∈ lw_all := lw_g (lw_at lw_m2 39 rfl) rfl
theorem q305 : (Jvm.Cond.selects "ChunkArrayModel" ({ cls := "ChunkArrayModel", name := "getOf", desc := "(II)I" } : Jvm.MethodName) ({ cls := "ChunkArrayModel", name := "getOf", desc := "(II)I" } : Jvm.MethodName)) ∈ lw_all := lw_g (lw_at lw_m2 40 rfl) rfl
theorem q306 : (Jvm.Cond.code ({ cls := "ChunkArrayModel", name := "getOf", desc := "(II)I" } : Jvm.MethodName) prog_3_method_15_code (3 : Nat) (Option.some Jvm.ClassFile.FieldType.int)) ∈ lw_all := lw_g (lw_at lw_m2 41 rfl) rfl
theorem q308 : (Jvm.Cond.instanceMethod ({ cls := "ChunkArrayModel", name := "sum", desc := "(II)I" } : Jvm.MethodName)) ∈ lw_all := lw_g (lw_at lw_m2 43 rfl) rfl
theorem q309 : (Jvm.Cond.selects "ChunkArrayModel" ({ cls := "ChunkArrayModel", name := "sum", desc := "(II)I" } : Jvm.MethodName) ({ cls := "ChunkArrayModel", name := "sum", desc := "(II)I" } : Jvm.MethodName)) ∈ lw_all := lw_g (lw_at lw_m2 44 rfl) rfl
theorem q310 : (Jvm.Cond.code ({ cls := "ChunkArrayModel", name := "sum", desc := "(II)I" } : Jvm.MethodName) prog_3_method_16_code (5 : Nat) (Option.some Jvm.ClassFile.FieldType.int)) ∈ lw_all := lw_g (lw_at lw_m2 45 rfl) rfl
theorem q312 : (Jvm.Cond.instanceMethod ({ cls := "ChunkArrayModel", name := "greatest", desc := "(II)I" } : Jvm.MethodName)) ∈ lw_all := lw_g (lw_at lw_m2 47 rfl) rfl
theorem q313 : (Jvm.Cond.selects "ChunkArrayModel" ({ cls := "ChunkArrayModel", name := "greatest", desc := "(II)I" } : Jvm.MethodName) ({ cls := "ChunkArrayModel", name := "greatest", desc := "(II)I" } : Jvm.MethodName)) ∈ lw_all := lw_g (lw_at lw_m2 48 rfl) rfl
theorem q314 : (Jvm.Cond.code ({ cls := "ChunkArrayModel", name := "greatest", desc := "(II)I" } : Jvm.MethodName) prog_3_method_17_code (5 : Nat) (Option.some Jvm.ClassFile.FieldType.int)) ∈ lw_all := lw_g (lw_at lw_m2 49 rfl) rfl
theorem q317 : (Jvm.Cond.instanceMethod ({ cls := "ChunkArrayModel", name := "count", desc := "(III)I" } : Jvm.MethodName)) ∈ lw_all := lw_g (lw_at lw_m2 52 rfl) rfl
theorem q318 : (Jvm.Cond.selects "ChunkArrayModel" ({ cls := "ChunkArrayModel", name := "count", desc := "(III)I" } : Jvm.MethodName) ({ cls := "ChunkArrayModel", name := "count", desc := "(III)I" } : Jvm.MethodName)) ∈ lw_all := lw_g (lw_at lw_m2 53 rfl) rfl
theorem q319 : (Jvm.Cond.code ({ cls := "ChunkArrayModel", name := "count", desc := "(III)I" } : Jvm.MethodName) prog_3_method_19_code (6 : Nat) (Option.some Jvm.ClassFile.FieldType.int)) ∈ lw_all := lw_g (lw_at lw_m2 54 rfl) rfl
theorem in_X1 : ∀ w ∈ wsX10, w ∈ lw_all := lw_in wsX10 [238, 240, 242, 244] (by decide +kernel) (by decide +kernel)

/-! java/lang/Object -/
set_option maxRecDepth 100000
def RJ0 : String := "java/lang/Object"
abbrev cJ0_init : ByteArray := object_method_1_code
def yJ0_init : MethodName := ⟨RJ0, "<init>", "()V"⟩
theorem q34 : (Jvm.Cond.instanceMethod ({ cls := "java/lang/Object", name := "<init>", desc := "()V" } : Jvm.MethodName)) ∈ lw_all := lw_g (lw_at lw_m1 9 rfl) rfl
theorem q35 : (Jvm.Cond.code ({ cls := "java/lang/Object", name := "<init>", desc := "()V" } : Jvm.MethodName) object_method_1_code (1 : Nat) (Option.none : Option Jvm.ClassFile.FieldType)) ∈ lw_all := lw_g (lw_at lw_m1 10 rfl) rfl

theorem q25 : (Jvm.Cond.initialized "ChunkArrayLaw") ∈ lw_all := lw_g (lw_at lw_m1 0 rfl) rfl
set_option maxRecDepth 100000
theorem q28 : (Jvm.Cond.classLink "ChunkArrayLaw" (7 : Nat) "ChunkArray") ∈ lw_all := lw_g (lw_at lw_m1 3 rfl) rfl
theorem q30 : (Jvm.Cond.methodLink "ChunkArrayLaw" (9 : Nat) ({ cls := "ChunkArray", name := "<init>", desc := "()V" } : Jvm.MethodName)) ∈ lw_all := lw_g (lw_at lw_m1 5 rfl) rfl
theorem q84 : (Jvm.Cond.methodLink "ChunkArrayLaw" (13 : Nat) ({ cls := "ChunkArray", name := "fill", desc := "(III)I" } : Jvm.MethodName)) ∈ lw_all := lw_g (lw_at lw_m1 59 rfl) rfl
theorem q152 : (Jvm.Cond.methodLink "ChunkArrayLaw" (18 : Nat) ({ cls := "ChunkArray", name := "add", desc := "(III)I" } : Jvm.MethodName)) ∈ lw_all := lw_g (lw_at lw_m1 127 rfl) rfl
theorem q156 : (Jvm.Cond.methodLink "ChunkArrayLaw" (22 : Nat) ({ cls := "ChunkArray", name := "scale", desc := "(III)I" } : Jvm.MethodName)) ∈ lw_all := lw_g (lw_at lw_m1 131 rfl) rfl
theorem q160 : (Jvm.Cond.methodLink "ChunkArrayLaw" (26 : Nat) ({ cls := "ChunkArray", name := "copy", desc := "(III)I" } : Jvm.MethodName)) ∈ lw_all := lw_g (lw_at lw_m1 135 rfl) rfl
theorem q164 : (Jvm.Cond.methodLink "ChunkArrayLaw" (30 : Nat) ({ cls := "ChunkArray", name := "keep", desc := "(I)I" } : Jvm.MethodName)) ∈ lw_all := lw_g (lw_at lw_m1 139 rfl) rfl
theorem q168 : (Jvm.Cond.methodLink "ChunkArrayLaw" (35 : Nat) ({ cls := "ChunkArray", name := "restore", desc := "(I)I" } : Jvm.MethodName)) ∈ lw_all := lw_g (lw_at lw_m1 143 rfl) rfl
theorem q184 : (Jvm.Cond.methodLink "ChunkArrayLaw" (39 : Nat) ({ cls := "ChunkArray", name := "drop", desc := "(I)I" } : Jvm.MethodName)) ∈ lw_all := lw_g (lw_at lw_m1 159 rfl) rfl
theorem q188 : (Jvm.Cond.methodLink "ChunkArrayLaw" (43 : Nat) ({ cls := "ChunkArray", name := "get", desc := "(I)I" } : Jvm.MethodName)) ∈ lw_all := lw_g (lw_at lw_m1 163 rfl) rfl
theorem q192 : (Jvm.Cond.methodLink "ChunkArrayLaw" (47 : Nat) ({ cls := "ChunkArray", name := "getOf", desc := "(II)I" } : Jvm.MethodName)) ∈ lw_all := lw_g (lw_at lw_m1 167 rfl) rfl
theorem q196 : (Jvm.Cond.methodLink "ChunkArrayLaw" (52 : Nat) ({ cls := "ChunkArray", name := "sum", desc := "(II)I" } : Jvm.MethodName)) ∈ lw_all := lw_g (lw_at lw_m1 171 rfl) rfl
theorem q208 : (Jvm.Cond.methodLink "ChunkArrayLaw" (56 : Nat) ({ cls := "ChunkArray", name := "greatest", desc := "(II)I" } : Jvm.MethodName)) ∈ lw_all := lw_g (lw_at lw_m1 183 rfl) rfl
theorem q220 : (Jvm.Cond.methodLink "ChunkArrayLaw" (60 : Nat) ({ cls := "ChunkArray", name := "differ", desc := "(I)I" } : Jvm.MethodName)) ∈ lw_all := lw_g (lw_at lw_m1 195 rfl) rfl
theorem q224 : (Jvm.Cond.methodLink "ChunkArrayLaw" (64 : Nat) ({ cls := "ChunkArray", name := "count", desc := "(III)I" } : Jvm.MethodName)) ∈ lw_all := lw_g (lw_at lw_m1 199 rfl) rfl
theorem q228 : (Jvm.Cond.classLink "ChunkArrayLaw" (10 : Nat) "ChunkArrayModel") ∈ lw_all := lw_g (lw_at lw_m1 203 rfl) rfl
theorem q230 : (Jvm.Cond.methodLink "ChunkArrayLaw" (12 : Nat) ({ cls := "ChunkArrayModel", name := "<init>", desc := "()V" } : Jvm.MethodName)) ∈ lw_all := lw_g (lw_at lw_m1 205 rfl) rfl
theorem q247 : (Jvm.Cond.methodLink "ChunkArrayLaw" (17 : Nat) ({ cls := "ChunkArrayModel", name := "fill", desc := "(III)I" } : Jvm.MethodName)) ∈ lw_all := lw_g (lw_at lw_m1 222 rfl) rfl
theorem q267 : (Jvm.Cond.methodLink "ChunkArrayLaw" (21 : Nat) ({ cls := "ChunkArrayModel", name := "add", desc := "(III)I" } : Jvm.MethodName)) ∈ lw_all := lw_g (lw_at lw_m2 2 rfl) rfl
theorem q271 : (Jvm.Cond.methodLink "ChunkArrayLaw" (25 : Nat) ({ cls := "ChunkArrayModel", name := "scale", desc := "(III)I" } : Jvm.MethodName)) ∈ lw_all := lw_g (lw_at lw_m2 6 rfl) rfl
theorem q275 : (Jvm.Cond.methodLink "ChunkArrayLaw" (29 : Nat) ({ cls := "ChunkArrayModel", name := "copy", desc := "(III)I" } : Jvm.MethodName)) ∈ lw_all := lw_g (lw_at lw_m2 10 rfl) rfl
theorem q279 : (Jvm.Cond.methodLink "ChunkArrayLaw" (34 : Nat) ({ cls := "ChunkArrayModel", name := "keep", desc := "(I)I" } : Jvm.MethodName)) ∈ lw_all := lw_g (lw_at lw_m2 14 rfl) rfl
theorem q283 : (Jvm.Cond.methodLink "ChunkArrayLaw" (38 : Nat) ({ cls := "ChunkArrayModel", name := "restore", desc := "(I)I" } : Jvm.MethodName)) ∈ lw_all := lw_g (lw_at lw_m2 18 rfl) rfl
theorem q295 : (Jvm.Cond.methodLink "ChunkArrayLaw" (42 : Nat) ({ cls := "ChunkArrayModel", name := "drop", desc := "(I)I" } : Jvm.MethodName)) ∈ lw_all := lw_g (lw_at lw_m2 30 rfl) rfl
theorem q299 : (Jvm.Cond.methodLink "ChunkArrayLaw" (46 : Nat) ({ cls := "ChunkArrayModel", name := "get", desc := "(I)I" } : Jvm.MethodName)) ∈ lw_all := lw_g (lw_at lw_m2 34 rfl) rfl
theorem q303 : (Jvm.Cond.methodLink "ChunkArrayLaw" (51 : Nat) ({ cls := "ChunkArrayModel", name := "getOf", desc := "(II)I" } : Jvm.MethodName)) ∈ lw_all := lw_g (lw_at lw_m2 38 rfl) rfl
theorem q307 : (Jvm.Cond.methodLink "ChunkArrayLaw" (55 : Nat) ({ cls := "ChunkArrayModel", name := "sum", desc := "(II)I" } : Jvm.MethodName)) ∈ lw_all := lw_g (lw_at lw_m2 42 rfl) rfl
theorem q311 : (Jvm.Cond.methodLink "ChunkArrayLaw" (59 : Nat) ({ cls := "ChunkArrayModel", name := "greatest", desc := "(II)I" } : Jvm.MethodName)) ∈ lw_all := lw_g (lw_at lw_m2 46 rfl) rfl
theorem q315 : (Jvm.Cond.methodLink "ChunkArrayLaw" (63 : Nat) ({ cls := "ChunkArrayModel", name := "differ", desc := "(I)I" } : Jvm.MethodName)) ∈ lw_all := lw_g (lw_at lw_m2 50 rfl) rfl
theorem q316 : (Jvm.Cond.methodLink "ChunkArrayLaw" (67 : Nat) ({ cls := "ChunkArrayModel", name := "count", desc := "(III)I" } : Jvm.MethodName)) ∈ lw_all := lw_g (lw_at lw_m2 51 rfl) rfl

theorem q82 : (Jvm.Cond.arrayClass Jvm.ClassFile.FieldType.boolean) ∈ lw_all := lw_g (lw_at lw_m1 57 rfl) rfl
set_option maxRecDepth 100000
theorem q83 : (Jvm.Cond.arrayClass Jvm.ClassFile.FieldType.int) ∈ lw_all := lw_g (lw_at lw_m1 58 rfl) rfl
end
section
set_option maxRecDepth 100000
theorem dX0_init_0 : decode cX0_init 0 = .ok (.aload_n 0, 1) := by decide +kernel
theorem dX0_init_1 : decode cX0_init 1 = .ok (.invokespecial 1, 3) := by decide +kernel
theorem dX0_init_4 : decode cX0_init 4 = .ok (.aload_n 0, 1) := by decide +kernel
theorem dX0_init_5 : decode cX0_init 5 = .ok (.iconst 5, 1) := by decide +kernel
theorem dX0_init_6 : decode cX0_init 6 = .ok (.newarray .boolean, 2) := by decide +kernel
theorem dX0_init_8 : decode cX0_init 8 = .ok (.putfield 7, 3) := by decide +kernel
theorem dX0_init_11 : decode cX0_init 11 = .ok (.aload_n 0, 1) := by decide +kernel
theorem dX0_init_12 : decode cX0_init 12 = .ok (.bipush 80, 2) := by decide +kernel
theorem dX0_init_14 : decode cX0_init 14 = .ok (.newarray .int, 2) := by decide +kernel
theorem dX0_init_16 : decode cX0_init 16 = .ok (.putfield 13, 3) := by decide +kernel
theorem dX0_init_19 : decode cX0_init 19 = .ok (.aload_n 0, 1) := by decide +kernel
theorem dX0_init_20 : decode cX0_init 20 = .ok (.bipush 80, 2) := by decide +kernel
theorem dX0_init_22 : decode cX0_init 22 = .ok (.newarray .int, 2) := by decide +kernel
theorem dX0_init_24 : decode cX0_init 24 = .ok (.putfield 17, 3) := by decide +kernel
theorem dX0_init_27 : decode cX0_init 27 = .ok (.aload_n 0, 1) := by decide +kernel
theorem dX0_init_28 : decode cX0_init 28 = .ok (.sipush 1280, 3) := by decide +kernel
theorem dX0_init_31 : decode cX0_init 31 = .ok (.newarray .int, 2) := by decide +kernel
theorem dX0_init_33 : decode cX0_init 33 = .ok (.putfield 20, 3) := by decide +kernel
theorem dX0_init_36 : decode cX0_init 36 = .ok (.aload_n 0, 1) := by decide +kernel
theorem dX0_init_37 : decode cX0_init 37 = .ok (.bipush 80, 2) := by decide +kernel
theorem dX0_init_39 : decode cX0_init 39 = .ok (.newarray .int, 2) := by decide +kernel
theorem dX0_init_41 : decode cX0_init 41 = .ok (.putfield 23, 3) := by decide +kernel
theorem dX0_init_44 : decode cX0_init 44 = .ok (.aload_n 0, 1) := by decide +kernel
theorem dX0_init_45 : decode cX0_init 45 = .ok (.bipush 80, 2) := by decide +kernel
theorem dX0_init_47 : decode cX0_init 47 = .ok (.newarray .int, 2) := by decide +kernel
theorem dX0_init_49 : decode cX0_init 49 = .ok (.putfield 26, 3) := by decide +kernel
theorem dX0_init_52 : decode cX0_init 52 = .ok (.aload_n 0, 1) := by decide +kernel
theorem dX0_init_53 : decode cX0_init 53 = .ok (.bipush 80, 2) := by decide +kernel
theorem dX0_init_55 : decode cX0_init 55 = .ok (.newarray .boolean, 2) := by decide +kernel
theorem dX0_init_57 : decode cX0_init 57 = .ok (.putfield 29, 3) := by decide +kernel
theorem dX0_init_60 : decode cX0_init 60 = .ok (.aload_n 0, 1) := by decide +kernel
theorem dX0_init_61 : decode cX0_init 61 = .ok (.bipush 80, 2) := by decide +kernel
theorem dX0_init_63 : decode cX0_init 63 = .ok (.newarray .int, 2) := by decide +kernel
theorem dX0_init_65 : decode cX0_init 65 = .ok (.putfield 32, 3) := by decide +kernel
theorem dX0_init_68 : decode cX0_init 68 = .ok (.aload_n 0, 1) := by decide +kernel
theorem dX0_init_69 : decode cX0_init 69 = .ok (.bipush 80, 2) := by decide +kernel
theorem dX0_init_71 : decode cX0_init 71 = .ok (.newarray .boolean, 2) := by decide +kernel
theorem dX0_init_73 : decode cX0_init 73 = .ok (.putfield 35, 3) := by decide +kernel
theorem dX0_init_76 : decode cX0_init 76 = .ok (.aload_n 0, 1) := by decide +kernel
theorem dX0_init_77 : decode cX0_init 77 = .ok (.bipush 80, 2) := by decide +kernel
theorem dX0_init_79 : decode cX0_init 79 = .ok (.newarray .int, 2) := by decide +kernel
theorem dX0_init_81 : decode cX0_init 81 = .ok (.putfield 38, 3) := by decide +kernel
theorem dX0_init_84 : decode cX0_init 84 = .ok (.aload_n 0, 1) := by decide +kernel
theorem dX0_init_85 : decode cX0_init 85 = .ok (.sipush 256, 3) := by decide +kernel
theorem dX0_init_88 : decode cX0_init 88 = .ok (.newarray .int, 2) := by decide +kernel
theorem dX0_init_90 : decode cX0_init 90 = .ok (.putfield 41, 3) := by decide +kernel
theorem dX0_init_93 : decode cX0_init 93 = .ok (.aload_n 0, 1) := by decide +kernel
theorem dX0_init_94 : decode cX0_init 94 = .ok (.getfield 7, 3) := by decide +kernel
theorem dX0_init_97 : decode cX0_init 97 = .ok (.iconst 4, 1) := by decide +kernel
theorem dX0_init_98 : decode cX0_init 98 = .ok (.iconst 1, 1) := by decide +kernel
theorem dX0_init_99 : decode cX0_init 99 = .ok (.bastore, 1) := by decide +kernel
theorem dX0_init_100 : decode cX0_init 100 = .ok (.iconst 0, 1) := by decide +kernel
theorem dX0_init_101 : decode cX0_init 101 = .ok (.istore_n 1, 1) := by decide +kernel
theorem dX0_init_102 : decode cX0_init 102 = .ok (.iload_n 1, 1) := by decide +kernel
theorem dX0_init_103 : decode cX0_init 103 = .ok (.bipush 16, 2) := by decide +kernel
theorem dX0_init_105 : decode cX0_init 105 = .ok (.if_icmp .ge 33, 3) := by decide +kernel
theorem dX0_init_108 : decode cX0_init 108 = .ok (.aload_n 0, 1) := by decide +kernel
theorem dX0_init_109 : decode cX0_init 109 = .ok (.getfield 13, 3) := by decide +kernel
theorem dX0_init_112 : decode cX0_init 112 = .ok (.bipush 64, 2) := by decide +kernel
theorem dX0_init_114 : decode cX0_init 114 = .ok (.iload_n 1, 1) := by decide +kernel
theorem dX0_init_115 : decode cX0_init 115 = .ok (.iadd, 1) := by decide +kernel
theorem dX0_init_116 : decode cX0_init 116 = .ok (.iload_n 1, 1) := by decide +kernel
theorem dX0_init_117 : decode cX0_init 117 = .ok (.iastore, 1) := by decide +kernel
theorem dX0_init_118 : decode cX0_init 118 = .ok (.aload_n 0, 1) := by decide +kernel
theorem dX0_init_119 : decode cX0_init 119 = .ok (.getfield 17, 3) := by decide +kernel
theorem dX0_init_122 : decode cX0_init 122 = .ok (.iload_n 1, 1) := by decide +kernel
theorem dX0_init_123 : decode cX0_init 123 = .ok (.iconst 1, 1) := by decide +kernel
theorem dX0_init_124 : decode cX0_init 124 = .ok (.iastore, 1) := by decide +kernel
theorem dX0_init_125 : decode cX0_init 125 = .ok (.aload_n 0, 1) := by decide +kernel
theorem dX0_init_126 : decode cX0_init 126 = .ok (.getfield 23, 3) := by decide +kernel
theorem dX0_init_129 : decode cX0_init 129 = .ok (.iload_n 1, 1) := by decide +kernel
theorem dX0_init_130 : decode cX0_init 130 = .ok (.iconst 1, 1) := by decide +kernel
theorem dX0_init_131 : decode cX0_init 131 = .ok (.iastore, 1) := by decide +kernel
theorem dX0_init_132 : decode cX0_init 132 = .ok (.iinc 1 1, 3) := by decide +kernel
theorem dX0_init_135 : decode cX0_init 135 = .ok (.goto (-33), 3) := by decide +kernel
theorem dX0_init_138 : decode cX0_init 138 = .ok (.return_, 1) := by decide +kernel
theorem dX0_fill_0 : decode cX0_fill 0 = .ok (.aload_n 0, 1) := by decide +kernel
theorem dX0_fill_1 : decode cX0_fill 1 = .ok (.iload_n 1, 1) := by decide +kernel
theorem dX0_fill_2 : decode cX0_fill 2 = .ok (.iload_n 2, 1) := by decide +kernel
theorem dX0_fill_3 : decode cX0_fill 3 = .ok (.iconst 0, 1) := by decide +kernel
theorem dX0_fill_4 : decode cX0_fill 4 = .ok (.iload_n 3, 1) := by decide +kernel
theorem dX0_fill_5 : decode cX0_fill 5 = .ok (.invokevirtual 114, 3) := by decide +kernel
theorem dX0_fill_8 : decode cX0_fill 8 = .ok (.ireturn, 1) := by decide +kernel
theorem dX0_change_0 : decode cX0_change 0 = .ok (.iload_n 1, 1) := by decide +kernel
theorem dX0_change_1 : decode cX0_change 1 = .ok (.invokestatic 91, 3) := by decide +kernel
theorem dX0_change_4 : decode cX0_change 4 = .ok (.ifCond .ne 10, 3) := by decide +kernel
theorem dX0_change_7 : decode cX0_change 7 = .ok (.iload_n 2, 1) := by decide +kernel
theorem dX0_change_8 : decode cX0_change 8 = .ok (.invokestatic 91, 3) := by decide +kernel
theorem dX0_change_11 : decode cX0_change 11 = .ok (.ifCond .eq 5, 3) := by decide +kernel
theorem dX0_change_14 : decode cX0_change 14 = .ok (.iconst (-1), 1) := by decide +kernel
theorem dX0_change_15 : decode cX0_change 15 = .ok (.ireturn, 1) := by decide +kernel
theorem dX0_change_16 : decode cX0_change 16 = .ok (.aload_n 0, 1) := by decide +kernel
theorem dX0_change_17 : decode cX0_change 17 = .ok (.iload_n 1, 1) := by decide +kernel
theorem dX0_change_18 : decode cX0_change 18 = .ok (.iload_n 2, 1) := by decide +kernel
theorem dX0_change_19 : decode cX0_change 19 = .ok (.invokevirtual 95, 3) := by decide +kernel
theorem dX0_change_22 : decode cX0_change 22 = .ok (.iconst 0, 1) := by decide +kernel
theorem dX0_change_23 : decode cX0_change 23 = .ok (.istore 5, 2) := by decide +kernel
theorem dX0_change_25 : decode cX0_change 25 = .ok (.iload 5, 2) := by decide +kernel
theorem dX0_change_27 : decode cX0_change 27 = .ok (.bipush 16, 2) := by decide +kernel
theorem dX0_change_29 : decode cX0_change 29 = .ok (.if_icmp .ge 56, 3) := by decide +kernel
theorem dX0_change_32 : decode cX0_change 32 = .ok (.aload_n 0, 1) := by decide +kernel
theorem dX0_change_33 : decode cX0_change 33 = .ok (.iload 5, 2) := by decide +kernel
theorem dX0_change_35 : decode cX0_change 35 = .ok (.invokevirtual 99, 3) := by decide +kernel
theorem dX0_change_38 : decode cX0_change 38 = .ok (.istore 6, 2) := by decide +kernel
theorem dX0_change_40 : decode cX0_change 40 = .ok (.aload_n 0, 1) := by decide +kernel
theorem dX0_change_41 : decode cX0_change 41 = .ok (.iload 5, 2) := by decide +kernel
theorem dX0_change_43 : decode cX0_change 43 = .ok (.invokevirtual 102, 3) := by decide +kernel
theorem dX0_change_46 : decode cX0_change 46 = .ok (.istore 7, 2) := by decide +kernel
theorem dX0_change_48 : decode cX0_change 48 = .ok (.iload 6, 2) := by decide +kernel
theorem dX0_change_50 : decode cX0_change 50 = .ok (.ifCond .eq 15, 3) := by decide +kernel
theorem dX0_change_53 : decode cX0_change 53 = .ok (.aload_n 0, 1) := by decide +kernel
theorem dX0_change_54 : decode cX0_change 54 = .ok (.iload 5, 2) := by decide +kernel
theorem dX0_change_56 : decode cX0_change 56 = .ok (.iload_n 3, 1) := by decide +kernel
theorem dX0_change_57 : decode cX0_change 57 = .ok (.iload 4, 2) := by decide +kernel
theorem dX0_change_59 : decode cX0_change 59 = .ok (.invokevirtual 105, 3) := by decide +kernel
theorem dX0_change_62 : decode cX0_change 62 = .ok (.goto 17, 3) := by decide +kernel
theorem dX0_change_65 : decode cX0_change 65 = .ok (.iload 7, 2) := by decide +kernel
theorem dX0_change_67 : decode cX0_change 67 = .ok (.ifCond .eq 12, 3) := by decide +kernel
theorem dX0_change_70 : decode cX0_change 70 = .ok (.aload_n 0, 1) := by decide +kernel
theorem dX0_change_71 : decode cX0_change 71 = .ok (.iload 5, 2) := by decide +kernel
theorem dX0_change_73 : decode cX0_change 73 = .ok (.iload_n 3, 1) := by decide +kernel
theorem dX0_change_74 : decode cX0_change 74 = .ok (.iload 4, 2) := by decide +kernel
theorem dX0_change_76 : decode cX0_change 76 = .ok (.invokevirtual 108, 3) := by decide +kernel
theorem dX0_change_79 : decode cX0_change 79 = .ok (.iinc 5 1, 3) := by decide +kernel
theorem dX0_change_82 : decode cX0_change 82 = .ok (.goto (-57), 3) := by decide +kernel
theorem dX0_change_85 : decode cX0_change 85 = .ok (.aload_n 0, 1) := by decide +kernel
theorem dX0_change_86 : decode cX0_change 86 = .ok (.invokevirtual 111, 3) := by decide +kernel
theorem dX0_change_89 : decode cX0_change 89 = .ok (.ireturn, 1) := by decide +kernel
theorem dX0_bad_0 : decode cX0_bad 0 = .ok (.iload_n 0, 1) := by decide +kernel
theorem dX0_bad_1 : decode cX0_bad 1 = .ok (.ifCond .lt 10, 3) := by decide +kernel
theorem dX0_bad_4 : decode cX0_bad 4 = .ok (.iload_n 0, 1) := by decide +kernel
theorem dX0_bad_5 : decode cX0_bad 5 = .ok (.sipush 255, 3) := by decide +kernel
theorem dX0_bad_8 : decode cX0_bad 8 = .ok (.if_icmp .le 7, 3) := by decide +kernel
theorem dX0_bad_11 : decode cX0_bad 11 = .ok (.iconst 1, 1) := by decide +kernel
theorem dX0_bad_12 : decode cX0_bad 12 = .ok (.goto 4, 3) := by decide +kernel
theorem dX0_bad_15 : decode cX0_bad 15 = .ok (.iconst 0, 1) := by decide +kernel
theorem dX0_bad_16 : decode cX0_bad 16 = .ok (.ireturn, 1) := by decide +kernel
theorem dX0_setRegion_0 : decode cX0_setRegion 0 = .ok (.iload_n 1, 1) := by decide +kernel
theorem dX0_setRegion_1 : decode cX0_setRegion 1 = .ok (.bipush 15, 2) := by decide +kernel
theorem dX0_setRegion_3 : decode cX0_setRegion 3 = .ok (.iand, 1) := by decide +kernel
theorem dX0_setRegion_4 : decode cX0_setRegion 4 = .ok (.istore_n 3, 1) := by decide +kernel
theorem dX0_setRegion_5 : decode cX0_setRegion 5 = .ok (.iload_n 2, 1) := by decide +kernel
theorem dX0_setRegion_6 : decode cX0_setRegion 6 = .ok (.bipush 15, 2) := by decide +kernel
theorem dX0_setRegion_8 : decode cX0_setRegion 8 = .ok (.iand, 1) := by decide +kernel
theorem dX0_setRegion_9 : decode cX0_setRegion 9 = .ok (.istore 4, 2) := by decide +kernel
theorem dX0_setRegion_11 : decode cX0_setRegion 11 = .ok (.iload_n 1, 1) := by decide +kernel
theorem dX0_setRegion_12 : decode cX0_setRegion 12 = .ok (.iconst 4, 1) := by decide +kernel
theorem dX0_setRegion_13 : decode cX0_setRegion 13 = .ok (.ishr, 1) := by decide +kernel
theorem dX0_setRegion_14 : decode cX0_setRegion 14 = .ok (.istore 5, 2) := by decide +kernel
theorem dX0_setRegion_16 : decode cX0_setRegion 16 = .ok (.iload_n 2, 1) := by decide +kernel
theorem dX0_setRegion_17 : decode cX0_setRegion 17 = .ok (.iconst 4, 1) := by decide +kernel
theorem dX0_setRegion_18 : decode cX0_setRegion 18 = .ok (.ishr, 1) := by decide +kernel
theorem dX0_setRegion_19 : decode cX0_setRegion 19 = .ok (.istore 6, 2) := by decide +kernel
theorem dX0_setRegion_21 : decode cX0_setRegion 21 = .ok (.aload_n 0, 1) := by decide +kernel
theorem dX0_setRegion_22 : decode cX0_setRegion 22 = .ok (.iload_n 3, 1) := by decide +kernel
theorem dX0_setRegion_23 : decode cX0_setRegion 23 = .ok (.iload 4, 2) := by decide +kernel
theorem dX0_setRegion_25 : decode cX0_setRegion 25 = .ok (.if_icmp .ge 7, 3) := by decide +kernel
theorem dX0_setRegion_28 : decode cX0_setRegion 28 = .ok (.iload_n 3, 1) := by decide +kernel
theorem dX0_setRegion_29 : decode cX0_setRegion 29 = .ok (.goto 5, 3) := by decide +kernel
theorem dX0_setRegion_32 : decode cX0_setRegion 32 = .ok (.iload 4, 2) := by decide +kernel
theorem dX0_setRegion_34 : decode cX0_setRegion 34 = .ok (.putfield 63, 3) := by decide +kernel
theorem dX0_setRegion_37 : decode cX0_setRegion 37 = .ok (.aload_n 0, 1) := by decide +kernel
theorem dX0_setRegion_38 : decode cX0_setRegion 38 = .ok (.iload_n 3, 1) := by decide +kernel
theorem dX0_setRegion_39 : decode cX0_setRegion 39 = .ok (.iload 4, 2) := by decide +kernel
theorem dX0_setRegion_41 : decode cX0_setRegion 41 = .ok (.if_icmp .ge 8, 3) := by decide +kernel
theorem dX0_setRegion_44 : decode cX0_setRegion 44 = .ok (.iload 4, 2) := by decide +kernel
theorem dX0_setRegion_46 : decode cX0_setRegion 46 = .ok (.goto 4, 3) := by decide +kernel
theorem dX0_setRegion_49 : decode cX0_setRegion 49 = .ok (.iload_n 3, 1) := by decide +kernel
theorem dX0_setRegion_50 : decode cX0_setRegion 50 = .ok (.putfield 67, 3) := by decide +kernel
theorem dX0_setRegion_53 : decode cX0_setRegion 53 = .ok (.aload_n 0, 1) := by decide +kernel
theorem dX0_setRegion_54 : decode cX0_setRegion 54 = .ok (.iload 5, 2) := by decide +kernel
theorem dX0_setRegion_56 : decode cX0_setRegion 56 = .ok (.iload 6, 2) := by decide +kernel
theorem dX0_setRegion_58 : decode cX0_setRegion 58 = .ok (.if_icmp .ge 8, 3) := by decide +kernel
theorem dX0_setRegion_61 : decode cX0_setRegion 61 = .ok (.iload 5, 2) := by decide +kernel
theorem dX0_setRegion_63 : decode cX0_setRegion 63 = .ok (.goto 5, 3) := by decide +kernel
theorem dX0_setRegion_66 : decode cX0_setRegion 66 = .ok (.iload 6, 2) := by decide +kernel
theorem dX0_setRegion_68 : decode cX0_setRegion 68 = .ok (.putfield 70, 3) := by decide +kernel
theorem dX0_setRegion_71 : decode cX0_setRegion 71 = .ok (.aload_n 0, 1) := by decide +kernel
theorem dX0_setRegion_72 : decode cX0_setRegion 72 = .ok (.iload 5, 2) := by decide +kernel
theorem dX0_setRegion_74 : decode cX0_setRegion 74 = .ok (.iload 6, 2) := by decide +kernel
theorem dX0_setRegion_76 : decode cX0_setRegion 76 = .ok (.if_icmp .ge 8, 3) := by decide +kernel
theorem dX0_setRegion_79 : decode cX0_setRegion 79 = .ok (.iload 6, 2) := by decide +kernel
theorem dX0_setRegion_81 : decode cX0_setRegion 81 = .ok (.goto 5, 3) := by decide +kernel
theorem dX0_setRegion_84 : decode cX0_setRegion 84 = .ok (.iload 5, 2) := by decide +kernel
theorem dX0_setRegion_86 : decode cX0_setRegion 86 = .ok (.putfield 73, 3) := by decide +kernel
theorem dX0_setRegion_89 : decode cX0_setRegion 89 = .ok (.return_, 1) := by decide +kernel
theorem dX0_covers_0 : decode cX0_covers 0 = .ok (.iload_n 1, 1) := by decide +kernel
theorem dX0_covers_1 : decode cX0_covers 1 = .ok (.iconst 4, 1) := by decide +kernel
theorem dX0_covers_2 : decode cX0_covers 2 = .ok (.idiv, 1) := by decide +kernel
theorem dX0_covers_3 : decode cX0_covers 3 = .ok (.iconst 4, 1) := by decide +kernel
theorem dX0_covers_4 : decode cX0_covers 4 = .ok (.imul, 1) := by decide +kernel
theorem dX0_covers_5 : decode cX0_covers 5 = .ok (.istore_n 2, 1) := by decide +kernel
theorem dX0_covers_6 : decode cX0_covers 6 = .ok (.iload_n 1, 1) := by decide +kernel
theorem dX0_covers_7 : decode cX0_covers 7 = .ok (.iconst 4, 1) := by decide +kernel
theorem dX0_covers_8 : decode cX0_covers 8 = .ok (.irem, 1) := by decide +kernel
theorem dX0_covers_9 : decode cX0_covers 9 = .ok (.iconst 4, 1) := by decide +kernel
theorem dX0_covers_10 : decode cX0_covers 10 = .ok (.imul, 1) := by decide +kernel
theorem dX0_covers_11 : decode cX0_covers 11 = .ok (.istore_n 3, 1) := by decide +kernel
theorem dX0_covers_12 : decode cX0_covers 12 = .ok (.aload_n 0, 1) := by decide +kernel
theorem dX0_covers_13 : decode cX0_covers 13 = .ok (.getfield 63, 3) := by decide +kernel
theorem dX0_covers_16 : decode cX0_covers 16 = .ok (.iload_n 2, 1) := by decide +kernel
theorem dX0_covers_17 : decode cX0_covers 17 = .ok (.if_icmp .gt 35, 3) := by decide +kernel
theorem dX0_covers_20 : decode cX0_covers 20 = .ok (.iload_n 2, 1) := by decide +kernel
theorem dX0_covers_21 : decode cX0_covers 21 = .ok (.iconst 3, 1) := by decide +kernel
theorem dX0_covers_22 : decode cX0_covers 22 = .ok (.iadd, 1) := by decide +kernel
theorem dX0_covers_23 : decode cX0_covers 23 = .ok (.aload_n 0, 1) := by decide +kernel
theorem dX0_covers_24 : decode cX0_covers 24 = .ok (.getfield 67, 3) := by decide +kernel
theorem dX0_covers_27 : decode cX0_covers 27 = .ok (.if_icmp .gt 25, 3) := by decide +kernel
theorem dX0_covers_30 : decode cX0_covers 30 = .ok (.aload_n 0, 1) := by decide +kernel
theorem dX0_covers_31 : decode cX0_covers 31 = .ok (.getfield 70, 3) := by decide +kernel
theorem dX0_covers_34 : decode cX0_covers 34 = .ok (.iload_n 3, 1) := by decide +kernel
theorem dX0_covers_35 : decode cX0_covers 35 = .ok (.if_icmp .gt 17, 3) := by decide +kernel
theorem dX0_covers_38 : decode cX0_covers 38 = .ok (.iload_n 3, 1) := by decide +kernel
theorem dX0_covers_39 : decode cX0_covers 39 = .ok (.iconst 3, 1) := by decide +kernel
theorem dX0_covers_40 : decode cX0_covers 40 = .ok (.iadd, 1) := by decide +kernel
theorem dX0_covers_41 : decode cX0_covers 41 = .ok (.aload_n 0, 1) := by decide +kernel
theorem dX0_covers_42 : decode cX0_covers 42 = .ok (.getfield 73, 3) := by decide +kernel
theorem dX0_covers_45 : decode cX0_covers 45 = .ok (.if_icmp .gt 7, 3) := by decide +kernel
theorem dX0_covers_48 : decode cX0_covers 48 = .ok (.iconst 1, 1) := by decide +kernel
theorem dX0_covers_49 : decode cX0_covers 49 = .ok (.goto 4, 3) := by decide +kernel
theorem dX0_covers_52 : decode cX0_covers 52 = .ok (.iconst 0, 1) := by decide +kernel
theorem dX0_covers_53 : decode cX0_covers 53 = .ok (.ireturn, 1) := by decide +kernel
theorem dX0_touches_0 : decode cX0_touches 0 = .ok (.iload_n 1, 1) := by decide +kernel
theorem dX0_touches_1 : decode cX0_touches 1 = .ok (.iconst 4, 1) := by decide +kernel
theorem dX0_touches_2 : decode cX0_touches 2 = .ok (.idiv, 1) := by decide +kernel
theorem dX0_touches_3 : decode cX0_touches 3 = .ok (.iconst 4, 1) := by decide +kernel
theorem dX0_touches_4 : decode cX0_touches 4 = .ok (.imul, 1) := by decide +kernel
theorem dX0_touches_5 : decode cX0_touches 5 = .ok (.istore_n 2, 1) := by decide +kernel
theorem dX0_touches_6 : decode cX0_touches 6 = .ok (.iload_n 1, 1) := by decide +kernel
theorem dX0_touches_7 : decode cX0_touches 7 = .ok (.iconst 4, 1) := by decide +kernel
theorem dX0_touches_8 : decode cX0_touches 8 = .ok (.irem, 1) := by decide +kernel
theorem dX0_touches_9 : decode cX0_touches 9 = .ok (.iconst 4, 1) := by decide +kernel
theorem dX0_touches_10 : decode cX0_touches 10 = .ok (.imul, 1) := by decide +kernel
theorem dX0_touches_11 : decode cX0_touches 11 = .ok (.istore_n 3, 1) := by decide +kernel
theorem dX0_touches_12 : decode cX0_touches 12 = .ok (.aload_n 0, 1) := by decide +kernel
theorem dX0_touches_13 : decode cX0_touches 13 = .ok (.getfield 63, 3) := by decide +kernel
theorem dX0_touches_16 : decode cX0_touches 16 = .ok (.iload_n 2, 1) := by decide +kernel
theorem dX0_touches_17 : decode cX0_touches 17 = .ok (.iconst 3, 1) := by decide +kernel
theorem dX0_touches_18 : decode cX0_touches 18 = .ok (.iadd, 1) := by decide +kernel
theorem dX0_touches_19 : decode cX0_touches 19 = .ok (.if_icmp .gt 33, 3) := by decide +kernel
theorem dX0_touches_22 : decode cX0_touches 22 = .ok (.iload_n 2, 1) := by decide +kernel
theorem dX0_touches_23 : decode cX0_touches 23 = .ok (.aload_n 0, 1) := by decide +kernel
theorem dX0_touches_24 : decode cX0_touches 24 = .ok (.getfield 67, 3) := by decide +kernel
theorem dX0_touches_27 : decode cX0_touches 27 = .ok (.if_icmp .gt 25, 3) := by decide +kernel
theorem dX0_touches_30 : decode cX0_touches 30 = .ok (.aload_n 0, 1) := by decide +kernel
theorem dX0_touches_31 : decode cX0_touches 31 = .ok (.getfield 70, 3) := by decide +kernel
theorem dX0_touches_34 : decode cX0_touches 34 = .ok (.iload_n 3, 1) := by decide +kernel
theorem dX0_touches_35 : decode cX0_touches 35 = .ok (.iconst 3, 1) := by decide +kernel
theorem dX0_touches_36 : decode cX0_touches 36 = .ok (.iadd, 1) := by decide +kernel
theorem dX0_touches_37 : decode cX0_touches 37 = .ok (.if_icmp .gt 15, 3) := by decide +kernel
theorem dX0_touches_40 : decode cX0_touches 40 = .ok (.iload_n 3, 1) := by decide +kernel
theorem dX0_touches_41 : decode cX0_touches 41 = .ok (.aload_n 0, 1) := by decide +kernel
theorem dX0_touches_42 : decode cX0_touches 42 = .ok (.getfield 73, 3) := by decide +kernel
theorem dX0_touches_45 : decode cX0_touches 45 = .ok (.if_icmp .gt 7, 3) := by decide +kernel
theorem dX0_touches_48 : decode cX0_touches 48 = .ok (.iconst 1, 1) := by decide +kernel
theorem dX0_touches_49 : decode cX0_touches 49 = .ok (.goto 4, 3) := by decide +kernel
theorem dX0_touches_52 : decode cX0_touches 52 = .ok (.iconst 0, 1) := by decide +kernel
theorem dX0_touches_53 : decode cX0_touches 53 = .ok (.ireturn, 1) := by decide +kernel
theorem dX0_changeWhole_0 : decode cX0_changeWhole 0 = .ok (.aload_n 0, 1) := by decide +kernel
theorem dX0_changeWhole_1 : decode cX0_changeWhole 1 = .ok (.iload_n 1, 1) := by decide +kernel
theorem dX0_changeWhole_2 : decode cX0_changeWhole 2 = .ok (.invokevirtual 55, 3) := by decide +kernel
theorem dX0_changeWhole_5 : decode cX0_changeWhole 5 = .ok (.istore 4, 2) := by decide +kernel
theorem dX0_changeWhole_7 : decode cX0_changeWhole 7 = .ok (.iload_n 2, 1) := by decide +kernel
theorem dX0_changeWhole_8 : decode cX0_changeWhole 8 = .ok (.ifCond .ne 22, 3) := by decide +kernel
theorem dX0_changeWhole_11 : decode cX0_changeWhole 11 = .ok (.aload_n 0, 1) := by decide +kernel
theorem dX0_changeWhole_12 : decode cX0_changeWhole 12 = .ok (.getfield 23, 3) := by decide +kernel
theorem dX0_changeWhole_15 : decode cX0_changeWhole 15 = .ok (.iload 4, 2) := by decide +kernel
theorem dX0_changeWhole_17 : decode cX0_changeWhole 17 = .ok (.iconst 0, 1) := by decide +kernel
theorem dX0_changeWhole_18 : decode cX0_changeWhole 18 = .ok (.iastore, 1) := by decide +kernel
theorem dX0_changeWhole_19 : decode cX0_changeWhole 19 = .ok (.aload_n 0, 1) := by decide +kernel
theorem dX0_changeWhole_20 : decode cX0_changeWhole 20 = .ok (.getfield 26, 3) := by decide +kernel
theorem dX0_changeWhole_23 : decode cX0_changeWhole 23 = .ok (.iload 4, 2) := by decide +kernel
theorem dX0_changeWhole_25 : decode cX0_changeWhole 25 = .ok (.iload_n 3, 1) := by decide +kernel
theorem dX0_changeWhole_26 : decode cX0_changeWhole 26 = .ok (.iastore, 1) := by decide +kernel
theorem dX0_changeWhole_27 : decode cX0_changeWhole 27 = .ok (.goto 44, 3) := by decide +kernel
theorem dX0_changeWhole_30 : decode cX0_changeWhole 30 = .ok (.iload_n 2, 1) := by decide +kernel
theorem dX0_changeWhole_31 : decode cX0_changeWhole 31 = .ok (.iconst 1, 1) := by decide +kernel
theorem dX0_changeWhole_32 : decode cX0_changeWhole 32 = .ok (.if_icmp .ne 17, 3) := by decide +kernel
theorem dX0_changeWhole_35 : decode cX0_changeWhole 35 = .ok (.aload_n 0, 1) := by decide +kernel
theorem dX0_changeWhole_36 : decode cX0_changeWhole 36 = .ok (.getfield 26, 3) := by decide +kernel
theorem dX0_changeWhole_39 : decode cX0_changeWhole 39 = .ok (.iload 4, 2) := by decide +kernel
theorem dX0_changeWhole_41 : decode cX0_changeWhole 41 = .ok (.dup2, 1) := by decide +kernel
theorem dX0_changeWhole_42 : decode cX0_changeWhole 42 = .ok (.iaload, 1) := by decide +kernel
theorem dX0_changeWhole_43 : decode cX0_changeWhole 43 = .ok (.iload_n 3, 1) := by decide +kernel
theorem dX0_changeWhole_44 : decode cX0_changeWhole 44 = .ok (.iadd, 1) := by decide +kernel
theorem dX0_changeWhole_45 : decode cX0_changeWhole 45 = .ok (.iastore, 1) := by decide +kernel
theorem dX0_changeWhole_46 : decode cX0_changeWhole 46 = .ok (.goto 25, 3) := by decide +kernel
theorem dX0_changeWhole_49 : decode cX0_changeWhole 49 = .ok (.aload_n 0, 1) := by decide +kernel
theorem dX0_changeWhole_50 : decode cX0_changeWhole 50 = .ok (.getfield 23, 3) := by decide +kernel
theorem dX0_changeWhole_53 : decode cX0_changeWhole 53 = .ok (.iload 4, 2) := by decide +kernel
theorem dX0_changeWhole_55 : decode cX0_changeWhole 55 = .ok (.dup2, 1) := by decide +kernel
theorem dX0_changeWhole_56 : decode cX0_changeWhole 56 = .ok (.iaload, 1) := by decide +kernel
theorem dX0_changeWhole_57 : decode cX0_changeWhole 57 = .ok (.iload_n 3, 1) := by decide +kernel
theorem dX0_changeWhole_58 : decode cX0_changeWhole 58 = .ok (.imul, 1) := by decide +kernel
theorem dX0_changeWhole_59 : decode cX0_changeWhole 59 = .ok (.iastore, 1) := by decide +kernel
theorem dX0_changeWhole_60 : decode cX0_changeWhole 60 = .ok (.aload_n 0, 1) := by decide +kernel
theorem dX0_changeWhole_61 : decode cX0_changeWhole 61 = .ok (.getfield 26, 3) := by decide +kernel
theorem dX0_changeWhole_64 : decode cX0_changeWhole 64 = .ok (.iload 4, 2) := by decide +kernel
theorem dX0_changeWhole_66 : decode cX0_changeWhole 66 = .ok (.dup2, 1) := by decide +kernel
theorem dX0_changeWhole_67 : decode cX0_changeWhole 67 = .ok (.iaload, 1) := by decide +kernel
theorem dX0_changeWhole_68 : decode cX0_changeWhole 68 = .ok (.iload_n 3, 1) := by decide +kernel
theorem dX0_changeWhole_69 : decode cX0_changeWhole 69 = .ok (.imul, 1) := by decide +kernel
theorem dX0_changeWhole_70 : decode cX0_changeWhole 70 = .ok (.iastore, 1) := by decide +kernel
theorem dX0_changeWhole_71 : decode cX0_changeWhole 71 = .ok (.aload_n 0, 1) := by decide +kernel
theorem dX0_changeWhole_72 : decode cX0_changeWhole 72 = .ok (.getfield 35, 3) := by decide +kernel
theorem dX0_changeWhole_75 : decode cX0_changeWhole 75 = .ok (.iload 4, 2) := by decide +kernel
theorem dX0_changeWhole_77 : decode cX0_changeWhole 77 = .ok (.iconst 0, 1) := by decide +kernel
theorem dX0_changeWhole_78 : decode cX0_changeWhole 78 = .ok (.bastore, 1) := by decide +kernel
theorem dX0_changeWhole_79 : decode cX0_changeWhole 79 = .ok (.return_, 1) := by decide +kernel
theorem dX0_own_0 : decode cX0_own 0 = .ok (.aload_n 0, 1) := by decide +kernel
theorem dX0_own_1 : decode cX0_own 1 = .ok (.getfield 13, 3) := by decide +kernel
theorem dX0_own_4 : decode cX0_own 4 = .ok (.bipush 64, 2) := by decide +kernel
theorem dX0_own_6 : decode cX0_own 6 = .ok (.iload_n 1, 1) := by decide +kernel
theorem dX0_own_7 : decode cX0_own 7 = .ok (.iadd, 1) := by decide +kernel
theorem dX0_own_8 : decode cX0_own 8 = .ok (.iaload, 1) := by decide +kernel
theorem dX0_own_9 : decode cX0_own 9 = .ok (.istore_n 2, 1) := by decide +kernel
theorem dX0_own_10 : decode cX0_own 10 = .ok (.aload_n 0, 1) := by decide +kernel
theorem dX0_own_11 : decode cX0_own 11 = .ok (.getfield 17, 3) := by decide +kernel
theorem dX0_own_14 : decode cX0_own 14 = .ok (.iload_n 2, 1) := by decide +kernel
theorem dX0_own_15 : decode cX0_own 15 = .ok (.iaload, 1) := by decide +kernel
theorem dX0_own_16 : decode cX0_own 16 = .ok (.iconst 1, 1) := by decide +kernel
theorem dX0_own_17 : decode cX0_own 17 = .ok (.if_icmp .ne 5, 3) := by decide +kernel
theorem dX0_own_20 : decode cX0_own 20 = .ok (.iload_n 2, 1) := by decide +kernel
theorem dX0_own_21 : decode cX0_own 21 = .ok (.ireturn, 1) := by decide +kernel
theorem dX0_own_22 : decode cX0_own 22 = .ok (.aload_n 0, 1) := by decide +kernel
theorem dX0_own_23 : decode cX0_own 23 = .ok (.invokevirtual 51, 3) := by decide +kernel
theorem dX0_own_26 : decode cX0_own 26 = .ok (.istore_n 3, 1) := by decide +kernel
theorem dX0_own_27 : decode cX0_own 27 = .ok (.iconst 0, 1) := by decide +kernel
theorem dX0_own_28 : decode cX0_own 28 = .ok (.istore 4, 2) := by decide +kernel
theorem dX0_own_30 : decode cX0_own 30 = .ok (.iload 4, 2) := by decide +kernel
theorem dX0_own_32 : decode cX0_own 32 = .ok (.bipush 16, 2) := by decide +kernel
theorem dX0_own_34 : decode cX0_own 34 = .ok (.if_icmp .ge 33, 3) := by decide +kernel
theorem dX0_own_37 : decode cX0_own 37 = .ok (.aload_n 0, 1) := by decide +kernel
theorem dX0_own_38 : decode cX0_own 38 = .ok (.getfield 20, 3) := by decide +kernel
theorem dX0_own_41 : decode cX0_own 41 = .ok (.iload_n 3, 1) := by decide +kernel
theorem dX0_own_42 : decode cX0_own 42 = .ok (.bipush 16, 2) := by decide +kernel
theorem dX0_own_44 : decode cX0_own 44 = .ok (.imul, 1) := by decide +kernel
theorem dX0_own_45 : decode cX0_own 45 = .ok (.iload 4, 2) := by decide +kernel
theorem dX0_own_47 : decode cX0_own 47 = .ok (.iadd, 1) := by decide +kernel
theorem dX0_own_48 : decode cX0_own 48 = .ok (.aload_n 0, 1) := by decide +kernel
theorem dX0_own_49 : decode cX0_own 49 = .ok (.getfield 20, 3) := by decide +kernel
theorem dX0_own_52 : decode cX0_own 52 = .ok (.iload_n 2, 1) := by decide +kernel
theorem dX0_own_53 : decode cX0_own 53 = .ok (.bipush 16, 2) := by decide +kernel
theorem dX0_own_55 : decode cX0_own 55 = .ok (.imul, 1) := by decide +kernel
theorem dX0_own_56 : decode cX0_own 56 = .ok (.iload 4, 2) := by decide +kernel
theorem dX0_own_58 : decode cX0_own 58 = .ok (.iadd, 1) := by decide +kernel
theorem dX0_own_59 : decode cX0_own 59 = .ok (.iaload, 1) := by decide +kernel
theorem dX0_own_60 : decode cX0_own 60 = .ok (.iastore, 1) := by decide +kernel
theorem dX0_own_61 : decode cX0_own 61 = .ok (.iinc 4 1, 3) := by decide +kernel
theorem dX0_own_64 : decode cX0_own 64 = .ok (.goto (-34), 3) := by decide +kernel
theorem dX0_own_67 : decode cX0_own 67 = .ok (.aload_n 0, 1) := by decide +kernel
theorem dX0_own_68 : decode cX0_own 68 = .ok (.getfield 23, 3) := by decide +kernel
theorem dX0_own_71 : decode cX0_own 71 = .ok (.iload_n 3, 1) := by decide +kernel
theorem dX0_own_72 : decode cX0_own 72 = .ok (.aload_n 0, 1) := by decide +kernel
theorem dX0_own_73 : decode cX0_own 73 = .ok (.getfield 23, 3) := by decide +kernel
theorem dX0_own_76 : decode cX0_own 76 = .ok (.iload_n 2, 1) := by decide +kernel
theorem dX0_own_77 : decode cX0_own 77 = .ok (.iaload, 1) := by decide +kernel
theorem dX0_own_78 : decode cX0_own 78 = .ok (.iastore, 1) := by decide +kernel
theorem dX0_own_79 : decode cX0_own 79 = .ok (.aload_n 0, 1) := by decide +kernel
theorem dX0_own_80 : decode cX0_own 80 = .ok (.getfield 26, 3) := by decide +kernel
theorem dX0_own_83 : decode cX0_own 83 = .ok (.iload_n 3, 1) := by decide +kernel
theorem dX0_own_84 : decode cX0_own 84 = .ok (.aload_n 0, 1) := by decide +kernel
theorem dX0_own_85 : decode cX0_own 85 = .ok (.getfield 26, 3) := by decide +kernel
theorem dX0_own_88 : decode cX0_own 88 = .ok (.iload_n 2, 1) := by decide +kernel
theorem dX0_own_89 : decode cX0_own 89 = .ok (.iaload, 1) := by decide +kernel
theorem dX0_own_90 : decode cX0_own 90 = .ok (.iastore, 1) := by decide +kernel
theorem dX0_own_91 : decode cX0_own 91 = .ok (.aload_n 0, 1) := by decide +kernel
theorem dX0_own_92 : decode cX0_own 92 = .ok (.getfield 29, 3) := by decide +kernel
theorem dX0_own_95 : decode cX0_own 95 = .ok (.iload_n 3, 1) := by decide +kernel
theorem dX0_own_96 : decode cX0_own 96 = .ok (.aload_n 0, 1) := by decide +kernel
theorem dX0_own_97 : decode cX0_own 97 = .ok (.getfield 29, 3) := by decide +kernel
theorem dX0_own_100 : decode cX0_own 100 = .ok (.iload_n 2, 1) := by decide +kernel
theorem dX0_own_101 : decode cX0_own 101 = .ok (.baload, 1) := by decide +kernel
theorem dX0_own_102 : decode cX0_own 102 = .ok (.bastore, 1) := by decide +kernel
theorem dX0_own_103 : decode cX0_own 103 = .ok (.aload_n 0, 1) := by decide +kernel
theorem dX0_own_104 : decode cX0_own 104 = .ok (.getfield 32, 3) := by decide +kernel
theorem dX0_own_107 : decode cX0_own 107 = .ok (.iload_n 3, 1) := by decide +kernel
theorem dX0_own_108 : decode cX0_own 108 = .ok (.aload_n 0, 1) := by decide +kernel
theorem dX0_own_109 : decode cX0_own 109 = .ok (.getfield 32, 3) := by decide +kernel
theorem dX0_own_112 : decode cX0_own 112 = .ok (.iload_n 2, 1) := by decide +kernel
end
section
set_option maxRecDepth 100000
theorem dX0_own_113 : decode cX0_own 113 = .ok (.iaload, 1) := by decide +kernel
theorem dX0_own_114 : decode cX0_own 114 = .ok (.iastore, 1) := by decide +kernel
theorem dX0_own_115 : decode cX0_own 115 = .ok (.aload_n 0, 1) := by decide +kernel
theorem dX0_own_116 : decode cX0_own 116 = .ok (.getfield 35, 3) := by decide +kernel
theorem dX0_own_119 : decode cX0_own 119 = .ok (.iload_n 3, 1) := by decide +kernel
theorem dX0_own_120 : decode cX0_own 120 = .ok (.aload_n 0, 1) := by decide +kernel
theorem dX0_own_121 : decode cX0_own 121 = .ok (.getfield 35, 3) := by decide +kernel
theorem dX0_own_124 : decode cX0_own 124 = .ok (.iload_n 2, 1) := by decide +kernel
theorem dX0_own_125 : decode cX0_own 125 = .ok (.baload, 1) := by decide +kernel
theorem dX0_own_126 : decode cX0_own 126 = .ok (.bastore, 1) := by decide +kernel
theorem dX0_own_127 : decode cX0_own 127 = .ok (.aload_n 0, 1) := by decide +kernel
theorem dX0_own_128 : decode cX0_own 128 = .ok (.getfield 38, 3) := by decide +kernel
theorem dX0_own_131 : decode cX0_own 131 = .ok (.iload_n 3, 1) := by decide +kernel
theorem dX0_own_132 : decode cX0_own 132 = .ok (.aload_n 0, 1) := by decide +kernel
theorem dX0_own_133 : decode cX0_own 133 = .ok (.getfield 38, 3) := by decide +kernel
theorem dX0_own_136 : decode cX0_own 136 = .ok (.iload_n 2, 1) := by decide +kernel
theorem dX0_own_137 : decode cX0_own 137 = .ok (.iaload, 1) := by decide +kernel
theorem dX0_own_138 : decode cX0_own 138 = .ok (.iastore, 1) := by decide +kernel
theorem dX0_own_139 : decode cX0_own 139 = .ok (.aload_n 0, 1) := by decide +kernel
theorem dX0_own_140 : decode cX0_own 140 = .ok (.getfield 17, 3) := by decide +kernel
theorem dX0_own_143 : decode cX0_own 143 = .ok (.iload_n 2, 1) := by decide +kernel
theorem dX0_own_144 : decode cX0_own 144 = .ok (.dup2, 1) := by decide +kernel
theorem dX0_own_145 : decode cX0_own 145 = .ok (.iaload, 1) := by decide +kernel
theorem dX0_own_146 : decode cX0_own 146 = .ok (.iconst 1, 1) := by decide +kernel
theorem dX0_own_147 : decode cX0_own 147 = .ok (.isub, 1) := by decide +kernel
theorem dX0_own_148 : decode cX0_own 148 = .ok (.iastore, 1) := by decide +kernel
theorem dX0_own_149 : decode cX0_own 149 = .ok (.aload_n 0, 1) := by decide +kernel
theorem dX0_own_150 : decode cX0_own 150 = .ok (.getfield 17, 3) := by decide +kernel
theorem dX0_own_153 : decode cX0_own 153 = .ok (.iload_n 3, 1) := by decide +kernel
theorem dX0_own_154 : decode cX0_own 154 = .ok (.iconst 1, 1) := by decide +kernel
theorem dX0_own_155 : decode cX0_own 155 = .ok (.iastore, 1) := by decide +kernel
theorem dX0_own_156 : decode cX0_own 156 = .ok (.aload_n 0, 1) := by decide +kernel
theorem dX0_own_157 : decode cX0_own 157 = .ok (.getfield 13, 3) := by decide +kernel
theorem dX0_own_160 : decode cX0_own 160 = .ok (.bipush 64, 2) := by decide +kernel
theorem dX0_own_162 : decode cX0_own 162 = .ok (.iload_n 1, 1) := by decide +kernel
theorem dX0_own_163 : decode cX0_own 163 = .ok (.iadd, 1) := by decide +kernel
theorem dX0_own_164 : decode cX0_own 164 = .ok (.iload_n 3, 1) := by decide +kernel
theorem dX0_own_165 : decode cX0_own 165 = .ok (.iastore, 1) := by decide +kernel
theorem dX0_own_166 : decode cX0_own 166 = .ok (.iload_n 3, 1) := by decide +kernel
theorem dX0_own_167 : decode cX0_own 167 = .ok (.ireturn, 1) := by decide +kernel
theorem dX0_freeSlot_0 : decode cX0_freeSlot 0 = .ok (.iconst 0, 1) := by decide +kernel
theorem dX0_freeSlot_1 : decode cX0_freeSlot 1 = .ok (.istore_n 1, 1) := by decide +kernel
theorem dX0_freeSlot_2 : decode cX0_freeSlot 2 = .ok (.iload_n 1, 1) := by decide +kernel
theorem dX0_freeSlot_3 : decode cX0_freeSlot 3 = .ok (.bipush 79, 2) := by decide +kernel
theorem dX0_freeSlot_5 : decode cX0_freeSlot 5 = .ok (.if_icmp .ge 18, 3) := by decide +kernel
theorem dX0_freeSlot_8 : decode cX0_freeSlot 8 = .ok (.aload_n 0, 1) := by decide +kernel
theorem dX0_freeSlot_9 : decode cX0_freeSlot 9 = .ok (.getfield 17, 3) := by decide +kernel
theorem dX0_freeSlot_12 : decode cX0_freeSlot 12 = .ok (.iload_n 1, 1) := by decide +kernel
theorem dX0_freeSlot_13 : decode cX0_freeSlot 13 = .ok (.iaload, 1) := by decide +kernel
theorem dX0_freeSlot_14 : decode cX0_freeSlot 14 = .ok (.ifCond .le 9, 3) := by decide +kernel
theorem dX0_freeSlot_17 : decode cX0_freeSlot 17 = .ok (.iinc 1 1, 3) := by decide +kernel
theorem dX0_freeSlot_20 : decode cX0_freeSlot 20 = .ok (.goto (-18), 3) := by decide +kernel
theorem dX0_freeSlot_23 : decode cX0_freeSlot 23 = .ok (.iload_n 1, 1) := by decide +kernel
theorem dX0_freeSlot_24 : decode cX0_freeSlot 24 = .ok (.ireturn, 1) := by decide +kernel
theorem dX0_changePart_0 : decode cX0_changePart 0 = .ok (.iconst 0, 1) := by decide +kernel
theorem dX0_changePart_1 : decode cX0_changePart 1 = .ok (.istore 4, 2) := by decide +kernel
theorem dX0_changePart_3 : decode cX0_changePart 3 = .ok (.iload 4, 2) := by decide +kernel
theorem dX0_changePart_5 : decode cX0_changePart 5 = .ok (.bipush 16, 2) := by decide +kernel
theorem dX0_changePart_7 : decode cX0_changePart 7 = .ok (.if_icmp .ge 78, 3) := by decide +kernel
theorem dX0_changePart_10 : decode cX0_changePart 10 = .ok (.iload_n 1, 1) := by decide +kernel
theorem dX0_changePart_11 : decode cX0_changePart 11 = .ok (.iconst 4, 1) := by decide +kernel
theorem dX0_changePart_12 : decode cX0_changePart 12 = .ok (.idiv, 1) := by decide +kernel
theorem dX0_changePart_13 : decode cX0_changePart 13 = .ok (.iconst 4, 1) := by decide +kernel
theorem dX0_changePart_14 : decode cX0_changePart 14 = .ok (.imul, 1) := by decide +kernel
theorem dX0_changePart_15 : decode cX0_changePart 15 = .ok (.iload 4, 2) := by decide +kernel
theorem dX0_changePart_17 : decode cX0_changePart 17 = .ok (.iconst 4, 1) := by decide +kernel
theorem dX0_changePart_18 : decode cX0_changePart 18 = .ok (.idiv, 1) := by decide +kernel
theorem dX0_changePart_19 : decode cX0_changePart 19 = .ok (.iadd, 1) := by decide +kernel
theorem dX0_changePart_20 : decode cX0_changePart 20 = .ok (.istore 5, 2) := by decide +kernel
theorem dX0_changePart_22 : decode cX0_changePart 22 = .ok (.iload_n 1, 1) := by decide +kernel
theorem dX0_changePart_23 : decode cX0_changePart 23 = .ok (.iconst 4, 1) := by decide +kernel
theorem dX0_changePart_24 : decode cX0_changePart 24 = .ok (.irem, 1) := by decide +kernel
theorem dX0_changePart_25 : decode cX0_changePart 25 = .ok (.iconst 4, 1) := by decide +kernel
theorem dX0_changePart_26 : decode cX0_changePart 26 = .ok (.imul, 1) := by decide +kernel
theorem dX0_changePart_27 : decode cX0_changePart 27 = .ok (.iload 4, 2) := by decide +kernel
theorem dX0_changePart_29 : decode cX0_changePart 29 = .ok (.iconst 4, 1) := by decide +kernel
theorem dX0_changePart_30 : decode cX0_changePart 30 = .ok (.irem, 1) := by decide +kernel
theorem dX0_changePart_31 : decode cX0_changePart 31 = .ok (.iadd, 1) := by decide +kernel
theorem dX0_changePart_32 : decode cX0_changePart 32 = .ok (.istore 6, 2) := by decide +kernel
theorem dX0_changePart_34 : decode cX0_changePart 34 = .ok (.aload_n 0, 1) := by decide +kernel
theorem dX0_changePart_35 : decode cX0_changePart 35 = .ok (.iload 5, 2) := by decide +kernel
theorem dX0_changePart_37 : decode cX0_changePart 37 = .ok (.iload 6, 2) := by decide +kernel
theorem dX0_changePart_39 : decode cX0_changePart 39 = .ok (.invokevirtual 76, 3) := by decide +kernel
theorem dX0_changePart_42 : decode cX0_changePart 42 = .ok (.istore 7, 2) := by decide +kernel
theorem dX0_changePart_44 : decode cX0_changePart 44 = .ok (.iload 7, 2) := by decide +kernel
theorem dX0_changePart_46 : decode cX0_changePart 46 = .ok (.ifCond .eq 33, 3) := by decide +kernel
theorem dX0_changePart_49 : decode cX0_changePart 49 = .ok (.aload_n 0, 1) := by decide +kernel
theorem dX0_changePart_50 : decode cX0_changePart 50 = .ok (.iconst 4, 1) := by decide +kernel
theorem dX0_changePart_51 : decode cX0_changePart 51 = .ok (.iload 5, 2) := by decide +kernel
theorem dX0_changePart_53 : decode cX0_changePart 53 = .ok (.iload 6, 2) := by decide +kernel
theorem dX0_changePart_55 : decode cX0_changePart 55 = .ok (.invokevirtual 80, 3) := by decide +kernel
theorem dX0_changePart_58 : decode cX0_changePart 58 = .ok (.istore 8, 2) := by decide +kernel
theorem dX0_changePart_60 : decode cX0_changePart 60 = .ok (.iload_n 2, 1) := by decide +kernel
theorem dX0_changePart_61 : decode cX0_changePart 61 = .ok (.iload 8, 2) := by decide +kernel
theorem dX0_changePart_63 : decode cX0_changePart 63 = .ok (.iload_n 3, 1) := by decide +kernel
theorem dX0_changePart_64 : decode cX0_changePart 64 = .ok (.invokestatic 84, 3) := by decide +kernel
theorem dX0_changePart_67 : decode cX0_changePart 67 = .ok (.istore 9, 2) := by decide +kernel
theorem dX0_changePart_69 : decode cX0_changePart 69 = .ok (.aload_n 0, 1) := by decide +kernel
theorem dX0_changePart_70 : decode cX0_changePart 70 = .ok (.iload 5, 2) := by decide +kernel
theorem dX0_changePart_72 : decode cX0_changePart 72 = .ok (.iload 6, 2) := by decide +kernel
theorem dX0_changePart_74 : decode cX0_changePart 74 = .ok (.iload 9, 2) := by decide +kernel
theorem dX0_changePart_76 : decode cX0_changePart 76 = .ok (.invokevirtual 87, 3) := by decide +kernel
theorem dX0_changePart_79 : decode cX0_changePart 79 = .ok (.iinc 4 1, 3) := by decide +kernel
theorem dX0_changePart_82 : decode cX0_changePart 82 = .ok (.goto (-79), 3) := by decide +kernel
theorem dX0_changePart_85 : decode cX0_changePart 85 = .ok (.return_, 1) := by decide +kernel
theorem dX0_inRegion_0 : decode cX0_inRegion 0 = .ok (.aload_n 0, 1) := by decide +kernel
theorem dX0_inRegion_1 : decode cX0_inRegion 1 = .ok (.getfield 63, 3) := by decide +kernel
theorem dX0_inRegion_4 : decode cX0_inRegion 4 = .ok (.iload_n 1, 1) := by decide +kernel
theorem dX0_inRegion_5 : decode cX0_inRegion 5 = .ok (.if_icmp .gt 31, 3) := by decide +kernel
theorem dX0_inRegion_8 : decode cX0_inRegion 8 = .ok (.iload_n 1, 1) := by decide +kernel
theorem dX0_inRegion_9 : decode cX0_inRegion 9 = .ok (.aload_n 0, 1) := by decide +kernel
theorem dX0_inRegion_10 : decode cX0_inRegion 10 = .ok (.getfield 67, 3) := by decide +kernel
theorem dX0_inRegion_13 : decode cX0_inRegion 13 = .ok (.if_icmp .gt 23, 3) := by decide +kernel
theorem dX0_inRegion_16 : decode cX0_inRegion 16 = .ok (.aload_n 0, 1) := by decide +kernel
theorem dX0_inRegion_17 : decode cX0_inRegion 17 = .ok (.getfield 70, 3) := by decide +kernel
theorem dX0_inRegion_20 : decode cX0_inRegion 20 = .ok (.iload_n 2, 1) := by decide +kernel
theorem dX0_inRegion_21 : decode cX0_inRegion 21 = .ok (.if_icmp .gt 15, 3) := by decide +kernel
theorem dX0_inRegion_24 : decode cX0_inRegion 24 = .ok (.iload_n 2, 1) := by decide +kernel
theorem dX0_inRegion_25 : decode cX0_inRegion 25 = .ok (.aload_n 0, 1) := by decide +kernel
theorem dX0_inRegion_26 : decode cX0_inRegion 26 = .ok (.getfield 73, 3) := by decide +kernel
theorem dX0_inRegion_29 : decode cX0_inRegion 29 = .ok (.if_icmp .gt 7, 3) := by decide +kernel
theorem dX0_inRegion_32 : decode cX0_inRegion 32 = .ok (.iconst 1, 1) := by decide +kernel
theorem dX0_inRegion_33 : decode cX0_inRegion 33 = .ok (.goto 4, 3) := by decide +kernel
theorem dX0_inRegion_36 : decode cX0_inRegion 36 = .ok (.iconst 0, 1) := by decide +kernel
theorem dX0_inRegion_37 : decode cX0_inRegion 37 = .ok (.ireturn, 1) := by decide +kernel
theorem dX0_read_0 : decode cX0_read 0 = .ok (.aload_n 0, 1) := by decide +kernel
theorem dX0_read_1 : decode cX0_read 1 = .ok (.getfield 13, 3) := by decide +kernel
theorem dX0_read_4 : decode cX0_read 4 = .ok (.iload_n 1, 1) := by decide +kernel
theorem dX0_read_5 : decode cX0_read 5 = .ok (.bipush 16, 2) := by decide +kernel
theorem dX0_read_7 : decode cX0_read 7 = .ok (.imul, 1) := by decide +kernel
theorem dX0_read_8 : decode cX0_read 8 = .ok (.iload_n 2, 1) := by decide +kernel
theorem dX0_read_9 : decode cX0_read 9 = .ok (.iload_n 3, 1) := by decide +kernel
theorem dX0_read_10 : decode cX0_read 10 = .ok (.invokestatic 44, 3) := by decide +kernel
theorem dX0_read_13 : decode cX0_read 13 = .ok (.iadd, 1) := by decide +kernel
theorem dX0_read_14 : decode cX0_read 14 = .ok (.iaload, 1) := by decide +kernel
theorem dX0_read_15 : decode cX0_read 15 = .ok (.istore 4, 2) := by decide +kernel
theorem dX0_read_17 : decode cX0_read 17 = .ok (.aload_n 0, 1) := by decide +kernel
theorem dX0_read_18 : decode cX0_read 18 = .ok (.getfield 20, 3) := by decide +kernel
theorem dX0_read_21 : decode cX0_read 21 = .ok (.iload 4, 2) := by decide +kernel
theorem dX0_read_23 : decode cX0_read 23 = .ok (.bipush 16, 2) := by decide +kernel
theorem dX0_read_25 : decode cX0_read 25 = .ok (.imul, 1) := by decide +kernel
theorem dX0_read_26 : decode cX0_read 26 = .ok (.iload_n 2, 1) := by decide +kernel
theorem dX0_read_27 : decode cX0_read 27 = .ok (.iload_n 3, 1) := by decide +kernel
theorem dX0_read_28 : decode cX0_read 28 = .ok (.invokestatic 48, 3) := by decide +kernel
theorem dX0_read_31 : decode cX0_read 31 = .ok (.iadd, 1) := by decide +kernel
theorem dX0_read_32 : decode cX0_read 32 = .ok (.iaload, 1) := by decide +kernel
theorem dX0_read_33 : decode cX0_read 33 = .ok (.aload_n 0, 1) := by decide +kernel
theorem dX0_read_34 : decode cX0_read 34 = .ok (.getfield 23, 3) := by decide +kernel
theorem dX0_read_37 : decode cX0_read 37 = .ok (.iload 4, 2) := by decide +kernel
theorem dX0_read_39 : decode cX0_read 39 = .ok (.iaload, 1) := by decide +kernel
theorem dX0_read_40 : decode cX0_read 40 = .ok (.imul, 1) := by decide +kernel
theorem dX0_read_41 : decode cX0_read 41 = .ok (.aload_n 0, 1) := by decide +kernel
theorem dX0_read_42 : decode cX0_read 42 = .ok (.getfield 26, 3) := by decide +kernel
theorem dX0_read_45 : decode cX0_read 45 = .ok (.iload 4, 2) := by decide +kernel
theorem dX0_read_47 : decode cX0_read 47 = .ok (.iaload, 1) := by decide +kernel
theorem dX0_read_48 : decode cX0_read 48 = .ok (.iadd, 1) := by decide +kernel
theorem dX0_read_49 : decode cX0_read 49 = .ok (.ireturn, 1) := by decide +kernel
theorem dX0_placeOf_0 : decode cX0_placeOf 0 = .ok (.iload_n 0, 1) := by decide +kernel
theorem dX0_placeOf_1 : decode cX0_placeOf 1 = .ok (.iconst 2, 1) := by decide +kernel
theorem dX0_placeOf_2 : decode cX0_placeOf 2 = .ok (.ishr, 1) := by decide +kernel
theorem dX0_placeOf_3 : decode cX0_placeOf 3 = .ok (.iconst 4, 1) := by decide +kernel
theorem dX0_placeOf_4 : decode cX0_placeOf 4 = .ok (.imul, 1) := by decide +kernel
theorem dX0_placeOf_5 : decode cX0_placeOf 5 = .ok (.iload_n 1, 1) := by decide +kernel
theorem dX0_placeOf_6 : decode cX0_placeOf 6 = .ok (.iconst 2, 1) := by decide +kernel
theorem dX0_placeOf_7 : decode cX0_placeOf 7 = .ok (.ishr, 1) := by decide +kernel
theorem dX0_placeOf_8 : decode cX0_placeOf 8 = .ok (.iadd, 1) := by decide +kernel
theorem dX0_placeOf_9 : decode cX0_placeOf 9 = .ok (.ireturn, 1) := by decide +kernel
theorem dX0_within_0 : decode cX0_within 0 = .ok (.iload_n 0, 1) := by decide +kernel
theorem dX0_within_1 : decode cX0_within 1 = .ok (.iconst 3, 1) := by decide +kernel
theorem dX0_within_2 : decode cX0_within 2 = .ok (.iand, 1) := by decide +kernel
theorem dX0_within_3 : decode cX0_within 3 = .ok (.iconst 4, 1) := by decide +kernel
theorem dX0_within_4 : decode cX0_within 4 = .ok (.imul, 1) := by decide +kernel
theorem dX0_within_5 : decode cX0_within 5 = .ok (.iload_n 1, 1) := by decide +kernel
theorem dX0_within_6 : decode cX0_within 6 = .ok (.iconst 3, 1) := by decide +kernel
theorem dX0_within_7 : decode cX0_within 7 = .ok (.iand, 1) := by decide +kernel
theorem dX0_within_8 : decode cX0_within 8 = .ok (.iadd, 1) := by decide +kernel
theorem dX0_within_9 : decode cX0_within 9 = .ok (.ireturn, 1) := by decide +kernel
theorem dX0_result_0 : decode cX0_result 0 = .ok (.iload_n 0, 1) := by decide +kernel
theorem dX0_result_1 : decode cX0_result 1 = .ok (.ifCond .ne 5, 3) := by decide +kernel
theorem dX0_result_4 : decode cX0_result 4 = .ok (.iload_n 2, 1) := by decide +kernel
theorem dX0_result_5 : decode cX0_result 5 = .ok (.ireturn, 1) := by decide +kernel
theorem dX0_result_6 : decode cX0_result 6 = .ok (.iload_n 0, 1) := by decide +kernel
theorem dX0_result_7 : decode cX0_result 7 = .ok (.iconst 1, 1) := by decide +kernel
theorem dX0_result_8 : decode cX0_result 8 = .ok (.if_icmp .ne 9, 3) := by decide +kernel
theorem dX0_result_11 : decode cX0_result 11 = .ok (.iload_n 1, 1) := by decide +kernel
theorem dX0_result_12 : decode cX0_result 12 = .ok (.iload_n 2, 1) := by decide +kernel
theorem dX0_result_13 : decode cX0_result 13 = .ok (.iadd, 1) := by decide +kernel
theorem dX0_result_14 : decode cX0_result 14 = .ok (.goto 6, 3) := by decide +kernel
theorem dX0_result_17 : decode cX0_result 17 = .ok (.iload_n 1, 1) := by decide +kernel
theorem dX0_result_18 : decode cX0_result 18 = .ok (.iload_n 2, 1) := by decide +kernel
theorem dX0_result_19 : decode cX0_result 19 = .ok (.imul, 1) := by decide +kernel
theorem dX0_result_20 : decode cX0_result 20 = .ok (.ireturn, 1) := by decide +kernel
theorem dX0_writeCell_0 : decode cX0_writeCell 0 = .ok (.iload_n 1, 1) := by decide +kernel
theorem dX0_writeCell_1 : decode cX0_writeCell 1 = .ok (.iload_n 2, 1) := by decide +kernel
theorem dX0_writeCell_2 : decode cX0_writeCell 2 = .ok (.invokestatic 44, 3) := by decide +kernel
theorem dX0_writeCell_5 : decode cX0_writeCell 5 = .ok (.istore 4, 2) := by decide +kernel
theorem dX0_writeCell_7 : decode cX0_writeCell 7 = .ok (.aload_n 0, 1) := by decide +kernel
theorem dX0_writeCell_8 : decode cX0_writeCell 8 = .ok (.iload 4, 2) := by decide +kernel
theorem dX0_writeCell_10 : decode cX0_writeCell 10 = .ok (.invokevirtual 55, 3) := by decide +kernel
theorem dX0_writeCell_13 : decode cX0_writeCell 13 = .ok (.istore 5, 2) := by decide +kernel
theorem dX0_writeCell_15 : decode cX0_writeCell 15 = .ok (.aload_n 0, 1) := by decide +kernel
theorem dX0_writeCell_16 : decode cX0_writeCell 16 = .ok (.getfield 23, 3) := by decide +kernel
theorem dX0_writeCell_19 : decode cX0_writeCell 19 = .ok (.iload 5, 2) := by decide +kernel
theorem dX0_writeCell_21 : decode cX0_writeCell 21 = .ok (.iaload, 1) := by decide +kernel
theorem dX0_writeCell_22 : decode cX0_writeCell 22 = .ok (.iconst 1, 1) := by decide +kernel
theorem dX0_writeCell_23 : decode cX0_writeCell 23 = .ok (.if_icmp .ne 13, 3) := by decide +kernel
theorem dX0_writeCell_26 : decode cX0_writeCell 26 = .ok (.aload_n 0, 1) := by decide +kernel
theorem dX0_writeCell_27 : decode cX0_writeCell 27 = .ok (.getfield 26, 3) := by decide +kernel
theorem dX0_writeCell_30 : decode cX0_writeCell 30 = .ok (.iload 5, 2) := by decide +kernel
theorem dX0_writeCell_32 : decode cX0_writeCell 32 = .ok (.iaload, 1) := by decide +kernel
theorem dX0_writeCell_33 : decode cX0_writeCell 33 = .ok (.ifCond .eq 9, 3) := by decide +kernel
theorem dX0_writeCell_36 : decode cX0_writeCell 36 = .ok (.aload_n 0, 1) := by decide +kernel
theorem dX0_writeCell_37 : decode cX0_writeCell 37 = .ok (.iload 5, 2) := by decide +kernel
theorem dX0_writeCell_39 : decode cX0_writeCell 39 = .ok (.invokevirtual 59, 3) := by decide +kernel
theorem dX0_writeCell_42 : decode cX0_writeCell 42 = .ok (.aload_n 0, 1) := by decide +kernel
theorem dX0_writeCell_43 : decode cX0_writeCell 43 = .ok (.getfield 20, 3) := by decide +kernel
theorem dX0_writeCell_46 : decode cX0_writeCell 46 = .ok (.iload 5, 2) := by decide +kernel
theorem dX0_writeCell_48 : decode cX0_writeCell 48 = .ok (.bipush 16, 2) := by decide +kernel
theorem dX0_writeCell_50 : decode cX0_writeCell 50 = .ok (.imul, 1) := by decide +kernel
theorem dX0_writeCell_51 : decode cX0_writeCell 51 = .ok (.iload_n 1, 1) := by decide +kernel
theorem dX0_writeCell_52 : decode cX0_writeCell 52 = .ok (.iload_n 2, 1) := by decide +kernel
theorem dX0_writeCell_53 : decode cX0_writeCell 53 = .ok (.invokestatic 48, 3) := by decide +kernel
theorem dX0_writeCell_56 : decode cX0_writeCell 56 = .ok (.iadd, 1) := by decide +kernel
theorem dX0_writeCell_57 : decode cX0_writeCell 57 = .ok (.iload_n 3, 1) := by decide +kernel
theorem dX0_writeCell_58 : decode cX0_writeCell 58 = .ok (.iastore, 1) := by decide +kernel
theorem dX0_writeCell_59 : decode cX0_writeCell 59 = .ok (.aload_n 0, 1) := by decide +kernel
theorem dX0_writeCell_60 : decode cX0_writeCell 60 = .ok (.getfield 29, 3) := by decide +kernel
theorem dX0_writeCell_63 : decode cX0_writeCell 63 = .ok (.iload 5, 2) := by decide +kernel
theorem dX0_writeCell_65 : decode cX0_writeCell 65 = .ok (.iconst 0, 1) := by decide +kernel
theorem dX0_writeCell_66 : decode cX0_writeCell 66 = .ok (.bastore, 1) := by decide +kernel
theorem dX0_writeCell_67 : decode cX0_writeCell 67 = .ok (.aload_n 0, 1) := by decide +kernel
theorem dX0_writeCell_68 : decode cX0_writeCell 68 = .ok (.getfield 35, 3) := by decide +kernel
theorem dX0_writeCell_71 : decode cX0_writeCell 71 = .ok (.iload 5, 2) := by decide +kernel
theorem dX0_writeCell_73 : decode cX0_writeCell 73 = .ok (.iconst 0, 1) := by decide +kernel
theorem dX0_writeCell_74 : decode cX0_writeCell 74 = .ok (.bastore, 1) := by decide +kernel
theorem dX0_writeCell_75 : decode cX0_writeCell 75 = .ok (.return_, 1) := by decide +kernel
theorem dX0_settle_0 : decode cX0_settle 0 = .ok (.iconst 0, 1) := by decide +kernel
theorem dX0_settle_1 : decode cX0_settle 1 = .ok (.istore_n 2, 1) := by decide +kernel
theorem dX0_settle_2 : decode cX0_settle 2 = .ok (.iload_n 2, 1) := by decide +kernel
theorem dX0_settle_3 : decode cX0_settle 3 = .ok (.bipush 16, 2) := by decide +kernel
theorem dX0_settle_5 : decode cX0_settle 5 = .ok (.if_icmp .ge 45, 3) := by decide +kernel
theorem dX0_settle_8 : decode cX0_settle 8 = .ok (.aload_n 0, 1) := by decide +kernel
theorem dX0_settle_9 : decode cX0_settle 9 = .ok (.getfield 20, 3) := by decide +kernel
theorem dX0_settle_12 : decode cX0_settle 12 = .ok (.iload_n 1, 1) := by decide +kernel
theorem dX0_settle_13 : decode cX0_settle 13 = .ok (.bipush 16, 2) := by decide +kernel
theorem dX0_settle_15 : decode cX0_settle 15 = .ok (.imul, 1) := by decide +kernel
theorem dX0_settle_16 : decode cX0_settle 16 = .ok (.iload_n 2, 1) := by decide +kernel
theorem dX0_settle_17 : decode cX0_settle 17 = .ok (.iadd, 1) := by decide +kernel
theorem dX0_settle_18 : decode cX0_settle 18 = .ok (.aload_n 0, 1) := by decide +kernel
theorem dX0_settle_19 : decode cX0_settle 19 = .ok (.getfield 20, 3) := by decide +kernel
theorem dX0_settle_22 : decode cX0_settle 22 = .ok (.iload_n 1, 1) := by decide +kernel
theorem dX0_settle_23 : decode cX0_settle 23 = .ok (.bipush 16, 2) := by decide +kernel
theorem dX0_settle_25 : decode cX0_settle 25 = .ok (.imul, 1) := by decide +kernel
theorem dX0_settle_26 : decode cX0_settle 26 = .ok (.iload_n 2, 1) := by decide +kernel
theorem dX0_settle_27 : decode cX0_settle 27 = .ok (.iadd, 1) := by decide +kernel
theorem dX0_settle_28 : decode cX0_settle 28 = .ok (.iaload, 1) := by decide +kernel
theorem dX0_settle_29 : decode cX0_settle 29 = .ok (.aload_n 0, 1) := by decide +kernel
theorem dX0_settle_30 : decode cX0_settle 30 = .ok (.getfield 23, 3) := by decide +kernel
theorem dX0_settle_33 : decode cX0_settle 33 = .ok (.iload_n 1, 1) := by decide +kernel
theorem dX0_settle_34 : decode cX0_settle 34 = .ok (.iaload, 1) := by decide +kernel
theorem dX0_settle_35 : decode cX0_settle 35 = .ok (.imul, 1) := by decide +kernel
theorem dX0_settle_36 : decode cX0_settle 36 = .ok (.aload_n 0, 1) := by decide +kernel
theorem dX0_settle_37 : decode cX0_settle 37 = .ok (.getfield 26, 3) := by decide +kernel
theorem dX0_settle_40 : decode cX0_settle 40 = .ok (.iload_n 1, 1) := by decide +kernel
theorem dX0_settle_41 : decode cX0_settle 41 = .ok (.iaload, 1) := by decide +kernel
theorem dX0_settle_42 : decode cX0_settle 42 = .ok (.iadd, 1) := by decide +kernel
theorem dX0_settle_43 : decode cX0_settle 43 = .ok (.iastore, 1) := by decide +kernel
theorem dX0_settle_44 : decode cX0_settle 44 = .ok (.iinc 2 1, 3) := by decide +kernel
theorem dX0_settle_47 : decode cX0_settle 47 = .ok (.goto (-45), 3) := by decide +kernel
theorem dX0_settle_50 : decode cX0_settle 50 = .ok (.aload_n 0, 1) := by decide +kernel
theorem dX0_settle_51 : decode cX0_settle 51 = .ok (.getfield 23, 3) := by decide +kernel
theorem dX0_settle_54 : decode cX0_settle 54 = .ok (.iload_n 1, 1) := by decide +kernel
theorem dX0_settle_55 : decode cX0_settle 55 = .ok (.iconst 1, 1) := by decide +kernel
theorem dX0_settle_56 : decode cX0_settle 56 = .ok (.iastore, 1) := by decide +kernel
theorem dX0_settle_57 : decode cX0_settle 57 = .ok (.aload_n 0, 1) := by decide +kernel
theorem dX0_settle_58 : decode cX0_settle 58 = .ok (.getfield 26, 3) := by decide +kernel
theorem dX0_settle_61 : decode cX0_settle 61 = .ok (.iload_n 1, 1) := by decide +kernel
theorem dX0_settle_62 : decode cX0_settle 62 = .ok (.iconst 0, 1) := by decide +kernel
theorem dX0_settle_63 : decode cX0_settle 63 = .ok (.iastore, 1) := by decide +kernel
theorem dX0_settle_64 : decode cX0_settle 64 = .ok (.aload_n 0, 1) := by decide +kernel
theorem dX0_settle_65 : decode cX0_settle 65 = .ok (.getfield 29, 3) := by decide +kernel
theorem dX0_settle_68 : decode cX0_settle 68 = .ok (.iload_n 1, 1) := by decide +kernel
theorem dX0_settle_69 : decode cX0_settle 69 = .ok (.iconst 0, 1) := by decide +kernel
theorem dX0_settle_70 : decode cX0_settle 70 = .ok (.bastore, 1) := by decide +kernel
theorem dX0_settle_71 : decode cX0_settle 71 = .ok (.return_, 1) := by decide +kernel
theorem dX0_regionSize_0 : decode cX0_regionSize 0 = .ok (.aload_n 0, 1) := by decide +kernel
theorem dX0_regionSize_1 : decode cX0_regionSize 1 = .ok (.getfield 67, 3) := by decide +kernel
theorem dX0_regionSize_4 : decode cX0_regionSize 4 = .ok (.aload_n 0, 1) := by decide +kernel
theorem dX0_regionSize_5 : decode cX0_regionSize 5 = .ok (.getfield 63, 3) := by decide +kernel
theorem dX0_regionSize_8 : decode cX0_regionSize 8 = .ok (.isub, 1) := by decide +kernel
theorem dX0_regionSize_9 : decode cX0_regionSize 9 = .ok (.iconst 1, 1) := by decide +kernel
theorem dX0_regionSize_10 : decode cX0_regionSize 10 = .ok (.iadd, 1) := by decide +kernel
theorem dX0_regionSize_11 : decode cX0_regionSize 11 = .ok (.aload_n 0, 1) := by decide +kernel
theorem dX0_regionSize_12 : decode cX0_regionSize 12 = .ok (.getfield 73, 3) := by decide +kernel
theorem dX0_regionSize_15 : decode cX0_regionSize 15 = .ok (.aload_n 0, 1) := by decide +kernel
theorem dX0_regionSize_16 : decode cX0_regionSize 16 = .ok (.getfield 70, 3) := by decide +kernel
theorem dX0_regionSize_19 : decode cX0_regionSize 19 = .ok (.isub, 1) := by decide +kernel
theorem dX0_regionSize_20 : decode cX0_regionSize 20 = .ok (.iconst 1, 1) := by decide +kernel
theorem dX0_regionSize_21 : decode cX0_regionSize 21 = .ok (.iadd, 1) := by decide +kernel
theorem dX0_regionSize_22 : decode cX0_regionSize 22 = .ok (.imul, 1) := by decide +kernel
theorem dX0_regionSize_23 : decode cX0_regionSize 23 = .ok (.ireturn, 1) := by decide +kernel
theorem dX0_add_0 : decode cX0_add 0 = .ok (.aload_n 0, 1) := by decide +kernel
theorem dX0_add_1 : decode cX0_add 1 = .ok (.iload_n 1, 1) := by decide +kernel
theorem dX0_add_2 : decode cX0_add 2 = .ok (.iload_n 2, 1) := by decide +kernel
theorem dX0_add_3 : decode cX0_add 3 = .ok (.iconst 1, 1) := by decide +kernel
theorem dX0_add_4 : decode cX0_add 4 = .ok (.iload_n 3, 1) := by decide +kernel
theorem dX0_add_5 : decode cX0_add 5 = .ok (.invokevirtual 114, 3) := by decide +kernel
theorem dX0_add_8 : decode cX0_add 8 = .ok (.ireturn, 1) := by decide +kernel
theorem dX0_scale_0 : decode cX0_scale 0 = .ok (.aload_n 0, 1) := by decide +kernel
theorem dX0_scale_1 : decode cX0_scale 1 = .ok (.iload_n 1, 1) := by decide +kernel
theorem dX0_scale_2 : decode cX0_scale 2 = .ok (.iload_n 2, 1) := by decide +kernel
theorem dX0_scale_3 : decode cX0_scale 3 = .ok (.iconst 2, 1) := by decide +kernel
theorem dX0_scale_4 : decode cX0_scale 4 = .ok (.iload_n 3, 1) := by decide +kernel
theorem dX0_scale_5 : decode cX0_scale 5 = .ok (.invokevirtual 114, 3) := by decide +kernel
theorem dX0_scale_8 : decode cX0_scale 8 = .ok (.ireturn, 1) := by decide +kernel
theorem dX0_copy_0 : decode cX0_copy 0 = .ok (.iload_n 1, 1) := by decide +kernel
theorem dX0_copy_1 : decode cX0_copy 1 = .ok (.invokestatic 91, 3) := by decide +kernel
theorem dX0_copy_4 : decode cX0_copy 4 = .ok (.ifCond .ne 17, 3) := by decide +kernel
theorem dX0_copy_7 : decode cX0_copy 7 = .ok (.iload_n 2, 1) := by decide +kernel
theorem dX0_copy_8 : decode cX0_copy 8 = .ok (.invokestatic 91, 3) := by decide +kernel
theorem dX0_copy_11 : decode cX0_copy 11 = .ok (.ifCond .ne 10, 3) := by decide +kernel
theorem dX0_copy_14 : decode cX0_copy 14 = .ok (.iload_n 3, 1) := by decide +kernel
theorem dX0_copy_15 : decode cX0_copy 15 = .ok (.invokestatic 91, 3) := by decide +kernel
theorem dX0_copy_18 : decode cX0_copy 18 = .ok (.ifCond .eq 5, 3) := by decide +kernel
theorem dX0_copy_21 : decode cX0_copy 21 = .ok (.iconst (-1), 1) := by decide +kernel
theorem dX0_copy_22 : decode cX0_copy 22 = .ok (.ireturn, 1) := by decide +kernel
theorem dX0_copy_23 : decode cX0_copy 23 = .ok (.aload_n 0, 1) := by decide +kernel
theorem dX0_copy_24 : decode cX0_copy 24 = .ok (.iload_n 1, 1) := by decide +kernel
theorem dX0_copy_25 : decode cX0_copy 25 = .ok (.iload_n 2, 1) := by decide +kernel
theorem dX0_copy_26 : decode cX0_copy 26 = .ok (.invokevirtual 95, 3) := by decide +kernel
theorem dX0_copy_29 : decode cX0_copy 29 = .ok (.iload_n 3, 1) := by decide +kernel
theorem dX0_copy_30 : decode cX0_copy 30 = .ok (.bipush 15, 2) := by decide +kernel
theorem dX0_copy_32 : decode cX0_copy 32 = .ok (.iand, 1) := by decide +kernel
theorem dX0_copy_33 : decode cX0_copy 33 = .ok (.aload_n 0, 1) := by decide +kernel
theorem dX0_copy_34 : decode cX0_copy 34 = .ok (.getfield 63, 3) := by decide +kernel
theorem dX0_copy_37 : decode cX0_copy 37 = .ok (.isub, 1) := by decide +kernel
theorem dX0_copy_38 : decode cX0_copy 38 = .ok (.istore 4, 2) := by decide +kernel
theorem dX0_copy_40 : decode cX0_copy 40 = .ok (.iload_n 3, 1) := by decide +kernel
theorem dX0_copy_41 : decode cX0_copy 41 = .ok (.iconst 4, 1) := by decide +kernel
theorem dX0_copy_42 : decode cX0_copy 42 = .ok (.ishr, 1) := by decide +kernel
theorem dX0_copy_43 : decode cX0_copy 43 = .ok (.aload_n 0, 1) := by decide +kernel
theorem dX0_copy_44 : decode cX0_copy 44 = .ok (.getfield 70, 3) := by decide +kernel
theorem dX0_copy_47 : decode cX0_copy 47 = .ok (.isub, 1) := by decide +kernel
theorem dX0_copy_48 : decode cX0_copy 48 = .ok (.istore 5, 2) := by decide +kernel
theorem dX0_copy_50 : decode cX0_copy 50 = .ok (.aload_n 0, 1) := by decide +kernel
theorem dX0_copy_51 : decode cX0_copy 51 = .ok (.getfield 63, 3) := by decide +kernel
theorem dX0_copy_54 : decode cX0_copy 54 = .ok (.istore 6, 2) := by decide +kernel
theorem dX0_copy_56 : decode cX0_copy 56 = .ok (.iload 6, 2) := by decide +kernel
theorem dX0_copy_58 : decode cX0_copy 58 = .ok (.aload_n 0, 1) := by decide +kernel
theorem dX0_copy_59 : decode cX0_copy 59 = .ok (.getfield 67, 3) := by decide +kernel
theorem dX0_copy_62 : decode cX0_copy 62 = .ok (.if_icmp .gt 52, 3) := by decide +kernel
theorem dX0_copy_65 : decode cX0_copy 65 = .ok (.aload_n 0, 1) := by decide +kernel
theorem dX0_copy_66 : decode cX0_copy 66 = .ok (.getfield 70, 3) := by decide +kernel
theorem dX0_copy_69 : decode cX0_copy 69 = .ok (.istore 7, 2) := by decide +kernel
theorem dX0_copy_71 : decode cX0_copy 71 = .ok (.iload 7, 2) := by decide +kernel
theorem dX0_copy_73 : decode cX0_copy 73 = .ok (.aload_n 0, 1) := by decide +kernel
theorem dX0_copy_74 : decode cX0_copy 74 = .ok (.getfield 73, 3) := by decide +kernel
theorem dX0_copy_77 : decode cX0_copy 77 = .ok (.if_icmp .gt 31, 3) := by decide +kernel
theorem dX0_copy_80 : decode cX0_copy 80 = .ok (.aload_n 0, 1) := by decide +kernel
theorem dX0_copy_81 : decode cX0_copy 81 = .ok (.getfield 41, 3) := by decide +kernel
theorem dX0_copy_84 : decode cX0_copy 84 = .ok (.iload 6, 2) := by decide +kernel
theorem dX0_copy_86 : decode cX0_copy 86 = .ok (.bipush 16, 2) := by decide +kernel
theorem dX0_copy_88 : decode cX0_copy 88 = .ok (.imul, 1) := by decide +kernel
theorem dX0_copy_89 : decode cX0_copy 89 = .ok (.iload 7, 2) := by decide +kernel
theorem dX0_copy_91 : decode cX0_copy 91 = .ok (.iadd, 1) := by decide +kernel
theorem dX0_copy_92 : decode cX0_copy 92 = .ok (.aload_n 0, 1) := by decide +kernel
theorem dX0_copy_93 : decode cX0_copy 93 = .ok (.iconst 4, 1) := by decide +kernel
theorem dX0_copy_94 : decode cX0_copy 94 = .ok (.iload 6, 2) := by decide +kernel
theorem dX0_copy_96 : decode cX0_copy 96 = .ok (.iload 7, 2) := by decide +kernel
theorem dX0_copy_98 : decode cX0_copy 98 = .ok (.invokevirtual 80, 3) := by decide +kernel
theorem dX0_copy_101 : decode cX0_copy 101 = .ok (.iastore, 1) := by decide +kernel
theorem dX0_copy_102 : decode cX0_copy 102 = .ok (.iinc 7 1, 3) := by decide +kernel
theorem dX0_copy_105 : decode cX0_copy 105 = .ok (.goto (-34), 3) := by decide +kernel
theorem dX0_copy_108 : decode cX0_copy 108 = .ok (.iinc 6 1, 3) := by decide +kernel
theorem dX0_copy_111 : decode cX0_copy 111 = .ok (.goto (-55), 3) := by decide +kernel
theorem dX0_copy_114 : decode cX0_copy 114 = .ok (.iconst 0, 1) := by decide +kernel
theorem dX0_copy_115 : decode cX0_copy 115 = .ok (.istore 6, 2) := by decide +kernel
theorem dX0_copy_117 : decode cX0_copy 117 = .ok (.aload_n 0, 1) := by decide +kernel
theorem dX0_copy_118 : decode cX0_copy 118 = .ok (.getfield 63, 3) := by decide +kernel
theorem dX0_copy_121 : decode cX0_copy 121 = .ok (.istore 7, 2) := by decide +kernel
end
section
set_option maxRecDepth 100000
theorem dX0_copy_123 : decode cX0_copy 123 = .ok (.iload 7, 2) := by decide +kernel
theorem dX0_copy_125 : decode cX0_copy 125 = .ok (.aload_n 0, 1) := by decide +kernel
theorem dX0_copy_126 : decode cX0_copy 126 = .ok (.getfield 67, 3) := by decide +kernel
theorem dX0_copy_129 : decode cX0_copy 129 = .ok (.if_icmp .gt 80, 3) := by decide +kernel
theorem dX0_copy_132 : decode cX0_copy 132 = .ok (.iload 7, 2) := by decide +kernel
theorem dX0_copy_134 : decode cX0_copy 134 = .ok (.iload 4, 2) := by decide +kernel
theorem dX0_copy_136 : decode cX0_copy 136 = .ok (.iadd, 1) := by decide +kernel
theorem dX0_copy_137 : decode cX0_copy 137 = .ok (.bipush 16, 2) := by decide +kernel
theorem dX0_copy_139 : decode cX0_copy 139 = .ok (.if_icmp .ge 70, 3) := by decide +kernel
theorem dX0_copy_142 : decode cX0_copy 142 = .ok (.aload_n 0, 1) := by decide +kernel
theorem dX0_copy_143 : decode cX0_copy 143 = .ok (.getfield 70, 3) := by decide +kernel
theorem dX0_copy_146 : decode cX0_copy 146 = .ok (.istore 8, 2) := by decide +kernel
theorem dX0_copy_148 : decode cX0_copy 148 = .ok (.iload 8, 2) := by decide +kernel
theorem dX0_copy_150 : decode cX0_copy 150 = .ok (.aload_n 0, 1) := by decide +kernel
theorem dX0_copy_151 : decode cX0_copy 151 = .ok (.getfield 73, 3) := by decide +kernel
theorem dX0_copy_154 : decode cX0_copy 154 = .ok (.if_icmp .gt 49, 3) := by decide +kernel
theorem dX0_copy_157 : decode cX0_copy 157 = .ok (.iload 8, 2) := by decide +kernel
theorem dX0_copy_159 : decode cX0_copy 159 = .ok (.iload 5, 2) := by decide +kernel
theorem dX0_copy_161 : decode cX0_copy 161 = .ok (.iadd, 1) := by decide +kernel
theorem dX0_copy_162 : decode cX0_copy 162 = .ok (.bipush 16, 2) := by decide +kernel
theorem dX0_copy_164 : decode cX0_copy 164 = .ok (.if_icmp .ge 39, 3) := by decide +kernel
theorem dX0_copy_167 : decode cX0_copy 167 = .ok (.aload_n 0, 1) := by decide +kernel
theorem dX0_copy_168 : decode cX0_copy 168 = .ok (.iload 7, 2) := by decide +kernel
theorem dX0_copy_170 : decode cX0_copy 170 = .ok (.iload 4, 2) := by decide +kernel
theorem dX0_copy_172 : decode cX0_copy 172 = .ok (.iadd, 1) := by decide +kernel
theorem dX0_copy_173 : decode cX0_copy 173 = .ok (.iload 8, 2) := by decide +kernel
theorem dX0_copy_175 : decode cX0_copy 175 = .ok (.iload 5, 2) := by decide +kernel
theorem dX0_copy_177 : decode cX0_copy 177 = .ok (.iadd, 1) := by decide +kernel
theorem dX0_copy_178 : decode cX0_copy 178 = .ok (.aload_n 0, 1) := by decide +kernel
theorem dX0_copy_179 : decode cX0_copy 179 = .ok (.getfield 41, 3) := by decide +kernel
theorem dX0_copy_182 : decode cX0_copy 182 = .ok (.iload 7, 2) := by decide +kernel
theorem dX0_copy_184 : decode cX0_copy 184 = .ok (.bipush 16, 2) := by decide +kernel
theorem dX0_copy_186 : decode cX0_copy 186 = .ok (.imul, 1) := by decide +kernel
theorem dX0_copy_187 : decode cX0_copy 187 = .ok (.iload 8, 2) := by decide +kernel
theorem dX0_copy_189 : decode cX0_copy 189 = .ok (.iadd, 1) := by decide +kernel
theorem dX0_copy_190 : decode cX0_copy 190 = .ok (.iaload, 1) := by decide +kernel
theorem dX0_copy_191 : decode cX0_copy 191 = .ok (.invokevirtual 87, 3) := by decide +kernel
theorem dX0_copy_194 : decode cX0_copy 194 = .ok (.iinc 6 1, 3) := by decide +kernel
theorem dX0_copy_197 : decode cX0_copy 197 = .ok (.iinc 8 1, 3) := by decide +kernel
theorem dX0_copy_200 : decode cX0_copy 200 = .ok (.goto (-52), 3) := by decide +kernel
theorem dX0_copy_203 : decode cX0_copy 203 = .ok (.iinc 7 1, 3) := by decide +kernel
theorem dX0_copy_206 : decode cX0_copy 206 = .ok (.goto (-83), 3) := by decide +kernel
theorem dX0_copy_209 : decode cX0_copy 209 = .ok (.iload 6, 2) := by decide +kernel
theorem dX0_copy_211 : decode cX0_copy 211 = .ok (.ireturn, 1) := by decide +kernel
theorem dX0_keep_0 : decode cX0_keep 0 = .ok (.iload_n 1, 1) := by decide +kernel
theorem dX0_keep_1 : decode cX0_keep 1 = .ok (.ifCond .lt 8, 3) := by decide +kernel
theorem dX0_keep_4 : decode cX0_keep 4 = .ok (.iload_n 1, 1) := by decide +kernel
theorem dX0_keep_5 : decode cX0_keep 5 = .ok (.iconst 3, 1) := by decide +kernel
theorem dX0_keep_6 : decode cX0_keep 6 = .ok (.if_icmp .le 6, 3) := by decide +kernel
theorem dX0_keep_9 : decode cX0_keep 9 = .ok (.bipush (-2), 2) := by decide +kernel
theorem dX0_keep_11 : decode cX0_keep 11 = .ok (.ireturn, 1) := by decide +kernel
theorem dX0_keep_12 : decode cX0_keep 12 = .ok (.aload_n 0, 1) := by decide +kernel
theorem dX0_keep_13 : decode cX0_keep 13 = .ok (.getfield 7, 3) := by decide +kernel
theorem dX0_keep_16 : decode cX0_keep 16 = .ok (.iload_n 1, 1) := by decide +kernel
theorem dX0_keep_17 : decode cX0_keep 17 = .ok (.baload, 1) := by decide +kernel
theorem dX0_keep_18 : decode cX0_keep 18 = .ok (.ifCond .eq 6, 3) := by decide +kernel
theorem dX0_keep_21 : decode cX0_keep 21 = .ok (.bipush (-3), 2) := by decide +kernel
theorem dX0_keep_23 : decode cX0_keep 23 = .ok (.ireturn, 1) := by decide +kernel
theorem dX0_keep_24 : decode cX0_keep 24 = .ok (.aload_n 0, 1) := by decide +kernel
theorem dX0_keep_25 : decode cX0_keep 25 = .ok (.getfield 7, 3) := by decide +kernel
theorem dX0_keep_28 : decode cX0_keep 28 = .ok (.iload_n 1, 1) := by decide +kernel
theorem dX0_keep_29 : decode cX0_keep 29 = .ok (.iconst 1, 1) := by decide +kernel
theorem dX0_keep_30 : decode cX0_keep 30 = .ok (.bastore, 1) := by decide +kernel
theorem dX0_keep_31 : decode cX0_keep 31 = .ok (.iconst 0, 1) := by decide +kernel
theorem dX0_keep_32 : decode cX0_keep 32 = .ok (.istore_n 2, 1) := by decide +kernel
theorem dX0_keep_33 : decode cX0_keep 33 = .ok (.iload_n 2, 1) := by decide +kernel
theorem dX0_keep_34 : decode cX0_keep 34 = .ok (.bipush 16, 2) := by decide +kernel
theorem dX0_keep_36 : decode cX0_keep 36 = .ok (.if_icmp .ge 41, 3) := by decide +kernel
theorem dX0_keep_39 : decode cX0_keep 39 = .ok (.aload_n 0, 1) := by decide +kernel
theorem dX0_keep_40 : decode cX0_keep 40 = .ok (.getfield 13, 3) := by decide +kernel
theorem dX0_keep_43 : decode cX0_keep 43 = .ok (.bipush 64, 2) := by decide +kernel
theorem dX0_keep_45 : decode cX0_keep 45 = .ok (.iload_n 2, 1) := by decide +kernel
theorem dX0_keep_46 : decode cX0_keep 46 = .ok (.iadd, 1) := by decide +kernel
theorem dX0_keep_47 : decode cX0_keep 47 = .ok (.iaload, 1) := by decide +kernel
theorem dX0_keep_48 : decode cX0_keep 48 = .ok (.istore_n 3, 1) := by decide +kernel
theorem dX0_keep_49 : decode cX0_keep 49 = .ok (.aload_n 0, 1) := by decide +kernel
theorem dX0_keep_50 : decode cX0_keep 50 = .ok (.getfield 13, 3) := by decide +kernel
theorem dX0_keep_53 : decode cX0_keep 53 = .ok (.iload_n 1, 1) := by decide +kernel
theorem dX0_keep_54 : decode cX0_keep 54 = .ok (.bipush 16, 2) := by decide +kernel
theorem dX0_keep_56 : decode cX0_keep 56 = .ok (.imul, 1) := by decide +kernel
theorem dX0_keep_57 : decode cX0_keep 57 = .ok (.iload_n 2, 1) := by decide +kernel
theorem dX0_keep_58 : decode cX0_keep 58 = .ok (.iadd, 1) := by decide +kernel
theorem dX0_keep_59 : decode cX0_keep 59 = .ok (.iload_n 3, 1) := by decide +kernel
theorem dX0_keep_60 : decode cX0_keep 60 = .ok (.iastore, 1) := by decide +kernel
theorem dX0_keep_61 : decode cX0_keep 61 = .ok (.aload_n 0, 1) := by decide +kernel
theorem dX0_keep_62 : decode cX0_keep 62 = .ok (.getfield 17, 3) := by decide +kernel
theorem dX0_keep_65 : decode cX0_keep 65 = .ok (.iload_n 3, 1) := by decide +kernel
theorem dX0_keep_66 : decode cX0_keep 66 = .ok (.dup2, 1) := by decide +kernel
theorem dX0_keep_67 : decode cX0_keep 67 = .ok (.iaload, 1) := by decide +kernel
theorem dX0_keep_68 : decode cX0_keep 68 = .ok (.iconst 1, 1) := by decide +kernel
theorem dX0_keep_69 : decode cX0_keep 69 = .ok (.iadd, 1) := by decide +kernel
theorem dX0_keep_70 : decode cX0_keep 70 = .ok (.iastore, 1) := by decide +kernel
theorem dX0_keep_71 : decode cX0_keep 71 = .ok (.iinc 2 1, 3) := by decide +kernel
theorem dX0_keep_74 : decode cX0_keep 74 = .ok (.goto (-41), 3) := by decide +kernel
theorem dX0_keep_77 : decode cX0_keep 77 = .ok (.iconst 0, 1) := by decide +kernel
theorem dX0_keep_78 : decode cX0_keep 78 = .ok (.ireturn, 1) := by decide +kernel
theorem dX0_restore_0 : decode cX0_restore 0 = .ok (.aload_n 0, 1) := by decide +kernel
theorem dX0_restore_1 : decode cX0_restore 1 = .ok (.iload_n 1, 1) := by decide +kernel
theorem dX0_restore_2 : decode cX0_restore 2 = .ok (.invokevirtual 121, 3) := by decide +kernel
theorem dX0_restore_5 : decode cX0_restore 5 = .ok (.ifCond .eq 6, 3) := by decide +kernel
theorem dX0_restore_8 : decode cX0_restore 8 = .ok (.bipush (-2), 2) := by decide +kernel
theorem dX0_restore_10 : decode cX0_restore 10 = .ok (.ireturn, 1) := by decide +kernel
theorem dX0_restore_11 : decode cX0_restore 11 = .ok (.aload_n 0, 1) := by decide +kernel
theorem dX0_restore_12 : decode cX0_restore 12 = .ok (.iload_n 1, 1) := by decide +kernel
theorem dX0_restore_13 : decode cX0_restore 13 = .ok (.invokevirtual 124, 3) := by decide +kernel
theorem dX0_restore_16 : decode cX0_restore 16 = .ok (.istore_n 2, 1) := by decide +kernel
theorem dX0_restore_17 : decode cX0_restore 17 = .ok (.iconst 0, 1) := by decide +kernel
theorem dX0_restore_18 : decode cX0_restore 18 = .ok (.istore_n 3, 1) := by decide +kernel
theorem dX0_restore_19 : decode cX0_restore 19 = .ok (.iload_n 3, 1) := by decide +kernel
theorem dX0_restore_20 : decode cX0_restore 20 = .ok (.bipush 16, 2) := by decide +kernel
theorem dX0_restore_22 : decode cX0_restore 22 = .ok (.if_icmp .ge 62, 3) := by decide +kernel
theorem dX0_restore_25 : decode cX0_restore 25 = .ok (.aload_n 0, 1) := by decide +kernel
theorem dX0_restore_26 : decode cX0_restore 26 = .ok (.getfield 13, 3) := by decide +kernel
theorem dX0_restore_29 : decode cX0_restore 29 = .ok (.iload_n 1, 1) := by decide +kernel
theorem dX0_restore_30 : decode cX0_restore 30 = .ok (.bipush 16, 2) := by decide +kernel
theorem dX0_restore_32 : decode cX0_restore 32 = .ok (.imul, 1) := by decide +kernel
theorem dX0_restore_33 : decode cX0_restore 33 = .ok (.iload_n 3, 1) := by decide +kernel
theorem dX0_restore_34 : decode cX0_restore 34 = .ok (.iadd, 1) := by decide +kernel
theorem dX0_restore_35 : decode cX0_restore 35 = .ok (.iaload, 1) := by decide +kernel
theorem dX0_restore_36 : decode cX0_restore 36 = .ok (.istore 4, 2) := by decide +kernel
theorem dX0_restore_38 : decode cX0_restore 38 = .ok (.aload_n 0, 1) := by decide +kernel
theorem dX0_restore_39 : decode cX0_restore 39 = .ok (.getfield 17, 3) := by decide +kernel
theorem dX0_restore_42 : decode cX0_restore 42 = .ok (.aload_n 0, 1) := by decide +kernel
theorem dX0_restore_43 : decode cX0_restore 43 = .ok (.getfield 13, 3) := by decide +kernel
theorem dX0_restore_46 : decode cX0_restore 46 = .ok (.bipush 64, 2) := by decide +kernel
theorem dX0_restore_48 : decode cX0_restore 48 = .ok (.iload_n 3, 1) := by decide +kernel
theorem dX0_restore_49 : decode cX0_restore 49 = .ok (.iadd, 1) := by decide +kernel
theorem dX0_restore_50 : decode cX0_restore 50 = .ok (.iaload, 1) := by decide +kernel
theorem dX0_restore_51 : decode cX0_restore 51 = .ok (.dup2, 1) := by decide +kernel
theorem dX0_restore_52 : decode cX0_restore 52 = .ok (.iaload, 1) := by decide +kernel
theorem dX0_restore_53 : decode cX0_restore 53 = .ok (.iconst 1, 1) := by decide +kernel
theorem dX0_restore_54 : decode cX0_restore 54 = .ok (.isub, 1) := by decide +kernel
theorem dX0_restore_55 : decode cX0_restore 55 = .ok (.iastore, 1) := by decide +kernel
theorem dX0_restore_56 : decode cX0_restore 56 = .ok (.aload_n 0, 1) := by decide +kernel
theorem dX0_restore_57 : decode cX0_restore 57 = .ok (.getfield 17, 3) := by decide +kernel
theorem dX0_restore_60 : decode cX0_restore 60 = .ok (.iload 4, 2) := by decide +kernel
theorem dX0_restore_62 : decode cX0_restore 62 = .ok (.dup2, 1) := by decide +kernel
theorem dX0_restore_63 : decode cX0_restore 63 = .ok (.iaload, 1) := by decide +kernel
theorem dX0_restore_64 : decode cX0_restore 64 = .ok (.iconst 1, 1) := by decide +kernel
theorem dX0_restore_65 : decode cX0_restore 65 = .ok (.iadd, 1) := by decide +kernel
theorem dX0_restore_66 : decode cX0_restore 66 = .ok (.iastore, 1) := by decide +kernel
theorem dX0_restore_67 : decode cX0_restore 67 = .ok (.aload_n 0, 1) := by decide +kernel
theorem dX0_restore_68 : decode cX0_restore 68 = .ok (.getfield 13, 3) := by decide +kernel
theorem dX0_restore_71 : decode cX0_restore 71 = .ok (.bipush 64, 2) := by decide +kernel
theorem dX0_restore_73 : decode cX0_restore 73 = .ok (.iload_n 3, 1) := by decide +kernel
theorem dX0_restore_74 : decode cX0_restore 74 = .ok (.iadd, 1) := by decide +kernel
theorem dX0_restore_75 : decode cX0_restore 75 = .ok (.iload 4, 2) := by decide +kernel
theorem dX0_restore_77 : decode cX0_restore 77 = .ok (.iastore, 1) := by decide +kernel
theorem dX0_restore_78 : decode cX0_restore 78 = .ok (.iinc 3 1, 3) := by decide +kernel
theorem dX0_restore_81 : decode cX0_restore 81 = .ok (.goto (-62), 3) := by decide +kernel
theorem dX0_restore_84 : decode cX0_restore 84 = .ok (.iload_n 2, 1) := by decide +kernel
theorem dX0_restore_85 : decode cX0_restore 85 = .ok (.ireturn, 1) := by decide +kernel
theorem dX0_noVersion_0 : decode cX0_noVersion 0 = .ok (.iload_n 1, 1) := by decide +kernel
theorem dX0_noVersion_1 : decode cX0_noVersion 1 = .ok (.ifCond .lt 17, 3) := by decide +kernel
theorem dX0_noVersion_4 : decode cX0_noVersion 4 = .ok (.iload_n 1, 1) := by decide +kernel
theorem dX0_noVersion_5 : decode cX0_noVersion 5 = .ok (.iconst 3, 1) := by decide +kernel
theorem dX0_noVersion_6 : decode cX0_noVersion 6 = .ok (.if_icmp .gt 12, 3) := by decide +kernel
theorem dX0_noVersion_9 : decode cX0_noVersion 9 = .ok (.aload_n 0, 1) := by decide +kernel
theorem dX0_noVersion_10 : decode cX0_noVersion 10 = .ok (.getfield 7, 3) := by decide +kernel
theorem dX0_noVersion_13 : decode cX0_noVersion 13 = .ok (.iload_n 1, 1) := by decide +kernel
theorem dX0_noVersion_14 : decode cX0_noVersion 14 = .ok (.baload, 1) := by decide +kernel
theorem dX0_noVersion_15 : decode cX0_noVersion 15 = .ok (.ifCond .ne 7, 3) := by decide +kernel
theorem dX0_noVersion_18 : decode cX0_noVersion 18 = .ok (.iconst 1, 1) := by decide +kernel
theorem dX0_noVersion_19 : decode cX0_noVersion 19 = .ok (.goto 4, 3) := by decide +kernel
theorem dX0_noVersion_22 : decode cX0_noVersion 22 = .ok (.iconst 0, 1) := by decide +kernel
theorem dX0_noVersion_23 : decode cX0_noVersion 23 = .ok (.ireturn, 1) := by decide +kernel
theorem dX0_differences_0 : decode cX0_differences 0 = .ok (.iconst 0, 1) := by decide +kernel
theorem dX0_differences_1 : decode cX0_differences 1 = .ok (.istore_n 2, 1) := by decide +kernel
theorem dX0_differences_2 : decode cX0_differences 2 = .ok (.iconst 0, 1) := by decide +kernel
theorem dX0_differences_3 : decode cX0_differences 3 = .ok (.istore_n 3, 1) := by decide +kernel
theorem dX0_differences_4 : decode cX0_differences 4 = .ok (.iload_n 3, 1) := by decide +kernel
theorem dX0_differences_5 : decode cX0_differences 5 = .ok (.bipush 16, 2) := by decide +kernel
theorem dX0_differences_7 : decode cX0_differences 7 = .ok (.if_icmp .ge 18, 3) := by decide +kernel
theorem dX0_differences_10 : decode cX0_differences 10 = .ok (.iload_n 2, 1) := by decide +kernel
theorem dX0_differences_11 : decode cX0_differences 11 = .ok (.aload_n 0, 1) := by decide +kernel
theorem dX0_differences_12 : decode cX0_differences 12 = .ok (.iload_n 1, 1) := by decide +kernel
theorem dX0_differences_13 : decode cX0_differences 13 = .ok (.iload_n 3, 1) := by decide +kernel
theorem dX0_differences_14 : decode cX0_differences 14 = .ok (.invokevirtual 118, 3) := by decide +kernel
theorem dX0_differences_17 : decode cX0_differences 17 = .ok (.iadd, 1) := by decide +kernel
theorem dX0_differences_18 : decode cX0_differences 18 = .ok (.istore_n 2, 1) := by decide +kernel
theorem dX0_differences_19 : decode cX0_differences 19 = .ok (.iinc 3 1, 3) := by decide +kernel
theorem dX0_differences_22 : decode cX0_differences 22 = .ok (.goto (-18), 3) := by decide +kernel
theorem dX0_differences_25 : decode cX0_differences 25 = .ok (.iload_n 2, 1) := by decide +kernel
theorem dX0_differences_26 : decode cX0_differences 26 = .ok (.ireturn, 1) := by decide +kernel
theorem dX0_differAt_0 : decode cX0_differAt 0 = .ok (.aload_n 0, 1) := by decide +kernel
theorem dX0_differAt_1 : decode cX0_differAt 1 = .ok (.getfield 13, 3) := by decide +kernel
theorem dX0_differAt_4 : decode cX0_differAt 4 = .ok (.iload_n 1, 1) := by decide +kernel
theorem dX0_differAt_5 : decode cX0_differAt 5 = .ok (.bipush 16, 2) := by decide +kernel
theorem dX0_differAt_7 : decode cX0_differAt 7 = .ok (.imul, 1) := by decide +kernel
theorem dX0_differAt_8 : decode cX0_differAt 8 = .ok (.iload_n 2, 1) := by decide +kernel
theorem dX0_differAt_9 : decode cX0_differAt 9 = .ok (.iadd, 1) := by decide +kernel
theorem dX0_differAt_10 : decode cX0_differAt 10 = .ok (.iaload, 1) := by decide +kernel
theorem dX0_differAt_11 : decode cX0_differAt 11 = .ok (.aload_n 0, 1) := by decide +kernel
theorem dX0_differAt_12 : decode cX0_differAt 12 = .ok (.getfield 13, 3) := by decide +kernel
theorem dX0_differAt_15 : decode cX0_differAt 15 = .ok (.bipush 64, 2) := by decide +kernel
theorem dX0_differAt_17 : decode cX0_differAt 17 = .ok (.iload_n 2, 1) := by decide +kernel
theorem dX0_differAt_18 : decode cX0_differAt 18 = .ok (.iadd, 1) := by decide +kernel
theorem dX0_differAt_19 : decode cX0_differAt 19 = .ok (.iaload, 1) := by decide +kernel
theorem dX0_differAt_20 : decode cX0_differAt 20 = .ok (.if_icmp .ne 5, 3) := by decide +kernel
theorem dX0_differAt_23 : decode cX0_differAt 23 = .ok (.iconst 0, 1) := by decide +kernel
theorem dX0_differAt_24 : decode cX0_differAt 24 = .ok (.ireturn, 1) := by decide +kernel
theorem dX0_differAt_25 : decode cX0_differAt 25 = .ok (.iconst 0, 1) := by decide +kernel
theorem dX0_differAt_26 : decode cX0_differAt 26 = .ok (.istore_n 3, 1) := by decide +kernel
theorem dX0_differAt_27 : decode cX0_differAt 27 = .ok (.iconst 0, 1) := by decide +kernel
theorem dX0_differAt_28 : decode cX0_differAt 28 = .ok (.istore 4, 2) := by decide +kernel
theorem dX0_differAt_30 : decode cX0_differAt 30 = .ok (.iload 4, 2) := by decide +kernel
theorem dX0_differAt_32 : decode cX0_differAt 32 = .ok (.bipush 16, 2) := by decide +kernel
theorem dX0_differAt_34 : decode cX0_differAt 34 = .ok (.if_icmp .ge 65, 3) := by decide +kernel
theorem dX0_differAt_37 : decode cX0_differAt 37 = .ok (.iload_n 2, 1) := by decide +kernel
theorem dX0_differAt_38 : decode cX0_differAt 38 = .ok (.iconst 4, 1) := by decide +kernel
theorem dX0_differAt_39 : decode cX0_differAt 39 = .ok (.idiv, 1) := by decide +kernel
theorem dX0_differAt_40 : decode cX0_differAt 40 = .ok (.iconst 4, 1) := by decide +kernel
theorem dX0_differAt_41 : decode cX0_differAt 41 = .ok (.imul, 1) := by decide +kernel
theorem dX0_differAt_42 : decode cX0_differAt 42 = .ok (.iload 4, 2) := by decide +kernel
theorem dX0_differAt_44 : decode cX0_differAt 44 = .ok (.iconst 4, 1) := by decide +kernel
theorem dX0_differAt_45 : decode cX0_differAt 45 = .ok (.idiv, 1) := by decide +kernel
theorem dX0_differAt_46 : decode cX0_differAt 46 = .ok (.iadd, 1) := by decide +kernel
theorem dX0_differAt_47 : decode cX0_differAt 47 = .ok (.istore 5, 2) := by decide +kernel
theorem dX0_differAt_49 : decode cX0_differAt 49 = .ok (.iload_n 2, 1) := by decide +kernel
theorem dX0_differAt_50 : decode cX0_differAt 50 = .ok (.iconst 4, 1) := by decide +kernel
theorem dX0_differAt_51 : decode cX0_differAt 51 = .ok (.irem, 1) := by decide +kernel
theorem dX0_differAt_52 : decode cX0_differAt 52 = .ok (.iconst 4, 1) := by decide +kernel
theorem dX0_differAt_53 : decode cX0_differAt 53 = .ok (.imul, 1) := by decide +kernel
theorem dX0_differAt_54 : decode cX0_differAt 54 = .ok (.iload 4, 2) := by decide +kernel
theorem dX0_differAt_56 : decode cX0_differAt 56 = .ok (.iconst 4, 1) := by decide +kernel
theorem dX0_differAt_57 : decode cX0_differAt 57 = .ok (.irem, 1) := by decide +kernel
theorem dX0_differAt_58 : decode cX0_differAt 58 = .ok (.iadd, 1) := by decide +kernel
theorem dX0_differAt_59 : decode cX0_differAt 59 = .ok (.istore 6, 2) := by decide +kernel
theorem dX0_differAt_61 : decode cX0_differAt 61 = .ok (.aload_n 0, 1) := by decide +kernel
theorem dX0_differAt_62 : decode cX0_differAt 62 = .ok (.iload_n 1, 1) := by decide +kernel
theorem dX0_differAt_63 : decode cX0_differAt 63 = .ok (.iload 5, 2) := by decide +kernel
theorem dX0_differAt_65 : decode cX0_differAt 65 = .ok (.iload 6, 2) := by decide +kernel
theorem dX0_differAt_67 : decode cX0_differAt 67 = .ok (.invokevirtual 80, 3) := by decide +kernel
theorem dX0_differAt_70 : decode cX0_differAt 70 = .ok (.istore 7, 2) := by decide +kernel
theorem dX0_differAt_72 : decode cX0_differAt 72 = .ok (.aload_n 0, 1) := by decide +kernel
theorem dX0_differAt_73 : decode cX0_differAt 73 = .ok (.iconst 4, 1) := by decide +kernel
theorem dX0_differAt_74 : decode cX0_differAt 74 = .ok (.iload 5, 2) := by decide +kernel
theorem dX0_differAt_76 : decode cX0_differAt 76 = .ok (.iload 6, 2) := by decide +kernel
theorem dX0_differAt_78 : decode cX0_differAt 78 = .ok (.invokevirtual 80, 3) := by decide +kernel
theorem dX0_differAt_81 : decode cX0_differAt 81 = .ok (.istore 8, 2) := by decide +kernel
theorem dX0_differAt_83 : decode cX0_differAt 83 = .ok (.iload 7, 2) := by decide +kernel
theorem dX0_differAt_85 : decode cX0_differAt 85 = .ok (.iload 8, 2) := by decide +kernel
theorem dX0_differAt_87 : decode cX0_differAt 87 = .ok (.if_icmp .eq 6, 3) := by decide +kernel
theorem dX0_differAt_90 : decode cX0_differAt 90 = .ok (.iinc 3 1, 3) := by decide +kernel
theorem dX0_differAt_93 : decode cX0_differAt 93 = .ok (.iinc 4 1, 3) := by decide +kernel
theorem dX0_differAt_96 : decode cX0_differAt 96 = .ok (.goto (-66), 3) := by decide +kernel
theorem dX0_differAt_99 : decode cX0_differAt 99 = .ok (.iload_n 3, 1) := by decide +kernel
theorem dX0_differAt_100 : decode cX0_differAt 100 = .ok (.ireturn, 1) := by decide +kernel
theorem dX0_drop_0 : decode cX0_drop 0 = .ok (.aload_n 0, 1) := by decide +kernel
theorem dX0_drop_1 : decode cX0_drop 1 = .ok (.iload_n 1, 1) := by decide +kernel
theorem dX0_drop_2 : decode cX0_drop 2 = .ok (.invokevirtual 121, 3) := by decide +kernel
theorem dX0_drop_5 : decode cX0_drop 5 = .ok (.ifCond .eq 6, 3) := by decide +kernel
theorem dX0_drop_8 : decode cX0_drop 8 = .ok (.bipush (-2), 2) := by decide +kernel
theorem dX0_drop_10 : decode cX0_drop 10 = .ok (.ireturn, 1) := by decide +kernel
theorem dX0_drop_11 : decode cX0_drop 11 = .ok (.aload_n 0, 1) := by decide +kernel
theorem dX0_drop_12 : decode cX0_drop 12 = .ok (.getfield 7, 3) := by decide +kernel
theorem dX0_drop_15 : decode cX0_drop 15 = .ok (.iload_n 1, 1) := by decide +kernel
theorem dX0_drop_16 : decode cX0_drop 16 = .ok (.iconst 0, 1) := by decide +kernel
theorem dX0_drop_17 : decode cX0_drop 17 = .ok (.bastore, 1) := by decide +kernel
theorem dX0_drop_18 : decode cX0_drop 18 = .ok (.iconst 0, 1) := by decide +kernel
theorem dX0_drop_19 : decode cX0_drop 19 = .ok (.istore_n 2, 1) := by decide +kernel
theorem dX0_drop_20 : decode cX0_drop 20 = .ok (.iload_n 2, 1) := by decide +kernel
theorem dX0_drop_21 : decode cX0_drop 21 = .ok (.bipush 16, 2) := by decide +kernel
theorem dX0_drop_23 : decode cX0_drop 23 = .ok (.if_icmp .ge 29, 3) := by decide +kernel
theorem dX0_drop_26 : decode cX0_drop 26 = .ok (.aload_n 0, 1) := by decide +kernel
theorem dX0_drop_27 : decode cX0_drop 27 = .ok (.getfield 17, 3) := by decide +kernel
theorem dX0_drop_30 : decode cX0_drop 30 = .ok (.aload_n 0, 1) := by decide +kernel
theorem dX0_drop_31 : decode cX0_drop 31 = .ok (.getfield 13, 3) := by decide +kernel
theorem dX0_drop_34 : decode cX0_drop 34 = .ok (.iload_n 1, 1) := by decide +kernel
theorem dX0_drop_35 : decode cX0_drop 35 = .ok (.bipush 16, 2) := by decide +kernel
theorem dX0_drop_37 : decode cX0_drop 37 = .ok (.imul, 1) := by decide +kernel
theorem dX0_drop_38 : decode cX0_drop 38 = .ok (.iload_n 2, 1) := by decide +kernel
theorem dX0_drop_39 : decode cX0_drop 39 = .ok (.iadd, 1) := by decide +kernel
theorem dX0_drop_40 : decode cX0_drop 40 = .ok (.iaload, 1) := by decide +kernel
theorem dX0_drop_41 : decode cX0_drop 41 = .ok (.dup2, 1) := by decide +kernel
theorem dX0_drop_42 : decode cX0_drop 42 = .ok (.iaload, 1) := by decide +kernel
theorem dX0_drop_43 : decode cX0_drop 43 = .ok (.iconst 1, 1) := by decide +kernel
theorem dX0_drop_44 : decode cX0_drop 44 = .ok (.isub, 1) := by decide +kernel
theorem dX0_drop_45 : decode cX0_drop 45 = .ok (.iastore, 1) := by decide +kernel
theorem dX0_drop_46 : decode cX0_drop 46 = .ok (.iinc 2 1, 3) := by decide +kernel
theorem dX0_drop_49 : decode cX0_drop 49 = .ok (.goto (-29), 3) := by decide +kernel
theorem dX0_drop_52 : decode cX0_drop 52 = .ok (.iconst 0, 1) := by decide +kernel
theorem dX0_drop_53 : decode cX0_drop 53 = .ok (.ireturn, 1) := by decide +kernel
theorem dX0_get_0 : decode cX0_get 0 = .ok (.iload_n 1, 1) := by decide +kernel
theorem dX0_get_1 : decode cX0_get 1 = .ok (.invokestatic 91, 3) := by decide +kernel
theorem dX0_get_4 : decode cX0_get 4 = .ok (.ifCond .eq 7, 3) := by decide +kernel
theorem dX0_get_7 : decode cX0_get 7 = .ok (.iconst (-1), 1) := by decide +kernel
theorem dX0_get_8 : decode cX0_get 8 = .ok (.goto 15, 3) := by decide +kernel
theorem dX0_get_11 : decode cX0_get 11 = .ok (.aload_n 0, 1) := by decide +kernel
theorem dX0_get_12 : decode cX0_get 12 = .ok (.iconst 4, 1) := by decide +kernel
theorem dX0_get_13 : decode cX0_get 13 = .ok (.iload_n 1, 1) := by decide +kernel
theorem dX0_get_14 : decode cX0_get 14 = .ok (.bipush 15, 2) := by decide +kernel
theorem dX0_get_16 : decode cX0_get 16 = .ok (.iand, 1) := by decide +kernel
theorem dX0_get_17 : decode cX0_get 17 = .ok (.iload_n 1, 1) := by decide +kernel
theorem dX0_get_18 : decode cX0_get 18 = .ok (.iconst 4, 1) := by decide +kernel
theorem dX0_get_19 : decode cX0_get 19 = .ok (.ishr, 1) := by decide +kernel
theorem dX0_get_20 : decode cX0_get 20 = .ok (.invokevirtual 80, 3) := by decide +kernel
theorem dX0_get_23 : decode cX0_get 23 = .ok (.ireturn, 1) := by decide +kernel
theorem dX0_getOf_0 : decode cX0_getOf 0 = .ok (.iload_n 2, 1) := by decide +kernel
theorem dX0_getOf_1 : decode cX0_getOf 1 = .ok (.invokestatic 91, 3) := by decide +kernel
theorem dX0_getOf_4 : decode cX0_getOf 4 = .ok (.ifCond .eq 5, 3) := by decide +kernel
theorem dX0_getOf_7 : decode cX0_getOf 7 = .ok (.iconst (-1), 1) := by decide +kernel
theorem dX0_getOf_8 : decode cX0_getOf 8 = .ok (.ireturn, 1) := by decide +kernel
theorem dX0_getOf_9 : decode cX0_getOf 9 = .ok (.aload_n 0, 1) := by decide +kernel
theorem dX0_getOf_10 : decode cX0_getOf 10 = .ok (.iload_n 1, 1) := by decide +kernel
theorem dX0_getOf_11 : decode cX0_getOf 11 = .ok (.invokevirtual 121, 3) := by decide +kernel
theorem dX0_getOf_14 : decode cX0_getOf 14 = .ok (.ifCond .eq 6, 3) := by decide +kernel
theorem dX0_getOf_17 : decode cX0_getOf 17 = .ok (.bipush (-2), 2) := by decide +kernel
theorem dX0_getOf_19 : decode cX0_getOf 19 = .ok (.ireturn, 1) := by decide +kernel
theorem dX0_getOf_20 : decode cX0_getOf 20 = .ok (.aload_n 0, 1) := by decide +kernel
theorem dX0_getOf_21 : decode cX0_getOf 21 = .ok (.iload_n 1, 1) := by decide +kernel
theorem dX0_getOf_22 : decode cX0_getOf 22 = .ok (.iload_n 2, 1) := by decide +kernel
theorem dX0_getOf_23 : decode cX0_getOf 23 = .ok (.bipush 15, 2) := by decide +kernel
theorem dX0_getOf_25 : decode cX0_getOf 25 = .ok (.iand, 1) := by decide +kernel
theorem dX0_getOf_26 : decode cX0_getOf 26 = .ok (.iload_n 2, 1) := by decide +kernel
theorem dX0_getOf_27 : decode cX0_getOf 27 = .ok (.iconst 4, 1) := by decide +kernel
theorem dX0_getOf_28 : decode cX0_getOf 28 = .ok (.ishr, 1) := by decide +kernel
theorem dX0_getOf_29 : decode cX0_getOf 29 = .ok (.invokevirtual 80, 3) := by decide +kernel
theorem dX0_getOf_32 : decode cX0_getOf 32 = .ok (.ireturn, 1) := by decide +kernel
theorem dX0_sum_0 : decode cX0_sum 0 = .ok (.iload_n 1, 1) := by decide +kernel
theorem dX0_sum_1 : decode cX0_sum 1 = .ok (.invokestatic 91, 3) := by decide +kernel
theorem dX0_sum_4 : decode cX0_sum 4 = .ok (.ifCond .ne 10, 3) := by decide +kernel
theorem dX0_sum_7 : decode cX0_sum 7 = .ok (.iload_n 2, 1) := by decide +kernel
theorem dX0_sum_8 : decode cX0_sum 8 = .ok (.invokestatic 91, 3) := by decide +kernel
theorem dX0_sum_11 : decode cX0_sum 11 = .ok (.ifCond .eq 5, 3) := by decide +kernel
theorem dX0_sum_14 : decode cX0_sum 14 = .ok (.iconst (-1), 1) := by decide +kernel
theorem dX0_sum_15 : decode cX0_sum 15 = .ok (.ireturn, 1) := by decide +kernel
theorem dX0_sum_16 : decode cX0_sum 16 = .ok (.aload_n 0, 1) := by decide +kernel
theorem dX0_sum_17 : decode cX0_sum 17 = .ok (.iload_n 1, 1) := by decide +kernel
theorem dX0_sum_18 : decode cX0_sum 18 = .ok (.iload_n 2, 1) := by decide +kernel
theorem dX0_sum_19 : decode cX0_sum 19 = .ok (.invokevirtual 95, 3) := by decide +kernel
theorem dX0_sum_22 : decode cX0_sum 22 = .ok (.iconst 0, 1) := by decide +kernel
theorem dX0_sum_23 : decode cX0_sum 23 = .ok (.istore_n 3, 1) := by decide +kernel
theorem dX0_sum_24 : decode cX0_sum 24 = .ok (.iconst 0, 1) := by decide +kernel
theorem dX0_sum_25 : decode cX0_sum 25 = .ok (.istore 4, 2) := by decide +kernel
theorem dX0_sum_27 : decode cX0_sum 27 = .ok (.iload 4, 2) := by decide +kernel
theorem dX0_sum_29 : decode cX0_sum 29 = .ok (.bipush 16, 2) := by decide +kernel
theorem dX0_sum_31 : decode cX0_sum 31 = .ok (.if_icmp .ge 64, 3) := by decide +kernel
theorem dX0_sum_34 : decode cX0_sum 34 = .ok (.aload_n 0, 1) := by decide +kernel
theorem dX0_sum_35 : decode cX0_sum 35 = .ok (.iload 4, 2) := by decide +kernel
theorem dX0_sum_37 : decode cX0_sum 37 = .ok (.invokevirtual 99, 3) := by decide +kernel
theorem dX0_sum_40 : decode cX0_sum 40 = .ok (.istore 5, 2) := by decide +kernel
theorem dX0_sum_42 : decode cX0_sum 42 = .ok (.aload_n 0, 1) := by decide +kernel
theorem dX0_sum_43 : decode cX0_sum 43 = .ok (.iload 4, 2) := by decide +kernel
theorem dX0_sum_45 : decode cX0_sum 45 = .ok (.invokevirtual 102, 3) := by decide +kernel
theorem dX0_sum_48 : decode cX0_sum 48 = .ok (.istore 6, 2) := by decide +kernel
theorem dX0_sum_50 : decode cX0_sum 50 = .ok (.iload 5, 2) := by decide +kernel
theorem dX0_sum_52 : decode cX0_sum 52 = .ok (.ifCond .eq 23, 3) := by decide +kernel
theorem dX0_sum_55 : decode cX0_sum 55 = .ok (.iload_n 3, 1) := by decide +kernel
theorem dX0_sum_56 : decode cX0_sum 56 = .ok (.aload_n 0, 1) := by decide +kernel
theorem dX0_sum_57 : decode cX0_sum 57 = .ok (.aload_n 0, 1) := by decide +kernel
theorem dX0_sum_58 : decode cX0_sum 58 = .ok (.getfield 13, 3) := by decide +kernel
theorem dX0_sum_61 : decode cX0_sum 61 = .ok (.bipush 64, 2) := by decide +kernel
theorem dX0_sum_63 : decode cX0_sum 63 = .ok (.iload 4, 2) := by decide +kernel
theorem dX0_sum_65 : decode cX0_sum 65 = .ok (.iadd, 1) := by decide +kernel
theorem dX0_sum_66 : decode cX0_sum 66 = .ok (.iaload, 1) := by decide +kernel
theorem dX0_sum_67 : decode cX0_sum 67 = .ok (.invokevirtual 127, 3) := by decide +kernel
theorem dX0_sum_70 : decode cX0_sum 70 = .ok (.iadd, 1) := by decide +kernel
theorem dX0_sum_71 : decode cX0_sum 71 = .ok (.istore_n 3, 1) := by decide +kernel
theorem dX0_sum_72 : decode cX0_sum 72 = .ok (.goto 17, 3) := by decide +kernel
theorem dX0_sum_75 : decode cX0_sum 75 = .ok (.iload 6, 2) := by decide +kernel
theorem dX0_sum_77 : decode cX0_sum 77 = .ok (.ifCond .eq 12, 3) := by decide +kernel
theorem dX0_sum_80 : decode cX0_sum 80 = .ok (.iload_n 3, 1) := by decide +kernel
theorem dX0_sum_81 : decode cX0_sum 81 = .ok (.aload_n 0, 1) := by decide +kernel
theorem dX0_sum_82 : decode cX0_sum 82 = .ok (.iload 4, 2) := by decide +kernel
theorem dX0_sum_84 : decode cX0_sum 84 = .ok (.invokevirtual 130, 3) := by decide +kernel
theorem dX0_sum_87 : decode cX0_sum 87 = .ok (.iadd, 1) := by decide +kernel
theorem dX0_sum_88 : decode cX0_sum 88 = .ok (.istore_n 3, 1) := by decide +kernel
theorem dX0_sum_89 : decode cX0_sum 89 = .ok (.iinc 4 1, 3) := by decide +kernel
theorem dX0_sum_92 : decode cX0_sum 92 = .ok (.goto (-65), 3) := by decide +kernel
theorem dX0_sum_95 : decode cX0_sum 95 = .ok (.iload_n 3, 1) := by decide +kernel
theorem dX0_sum_96 : decode cX0_sum 96 = .ok (.ireturn, 1) := by decide +kernel
theorem dX0_wholeSum_0 : decode cX0_wholeSum 0 = .ok (.aload_n 0, 1) := by decide +kernel
theorem dX0_wholeSum_1 : decode cX0_wholeSum 1 = .ok (.getfield 29, 3) := by decide +kernel
theorem dX0_wholeSum_4 : decode cX0_wholeSum 4 = .ok (.iload_n 1, 1) := by decide +kernel
theorem dX0_wholeSum_5 : decode cX0_wholeSum 5 = .ok (.baload, 1) := by decide +kernel
theorem dX0_wholeSum_6 : decode cX0_wholeSum 6 = .ok (.ifCond .ne 47, 3) := by decide +kernel
theorem dX0_wholeSum_9 : decode cX0_wholeSum 9 = .ok (.iconst 0, 1) := by decide +kernel
theorem dX0_wholeSum_10 : decode cX0_wholeSum 10 = .ok (.istore_n 2, 1) := by decide +kernel
theorem dX0_wholeSum_11 : decode cX0_wholeSum 11 = .ok (.iconst 0, 1) := by decide +kernel
end
section
set_option maxRecDepth 100000
theorem dX0_wholeSum_12 : decode cX0_wholeSum 12 = .ok (.istore_n 3, 1) := by decide +kernel
theorem dX0_wholeSum_13 : decode cX0_wholeSum 13 = .ok (.iload_n 3, 1) := by decide +kernel
theorem dX0_wholeSum_14 : decode cX0_wholeSum 14 = .ok (.bipush 16, 2) := by decide +kernel
theorem dX0_wholeSum_16 : decode cX0_wholeSum 16 = .ok (.if_icmp .ge 23, 3) := by decide +kernel
theorem dX0_wholeSum_19 : decode cX0_wholeSum 19 = .ok (.iload_n 2, 1) := by decide +kernel
theorem dX0_wholeSum_20 : decode cX0_wholeSum 20 = .ok (.aload_n 0, 1) := by decide +kernel
theorem dX0_wholeSum_21 : decode cX0_wholeSum 21 = .ok (.getfield 20, 3) := by decide +kernel
theorem dX0_wholeSum_24 : decode cX0_wholeSum 24 = .ok (.iload_n 1, 1) := by decide +kernel
theorem dX0_wholeSum_25 : decode cX0_wholeSum 25 = .ok (.bipush 16, 2) := by decide +kernel
theorem dX0_wholeSum_27 : decode cX0_wholeSum 27 = .ok (.imul, 1) := by decide +kernel
theorem dX0_wholeSum_28 : decode cX0_wholeSum 28 = .ok (.iload_n 3, 1) := by decide +kernel
theorem dX0_wholeSum_29 : decode cX0_wholeSum 29 = .ok (.iadd, 1) := by decide +kernel
theorem dX0_wholeSum_30 : decode cX0_wholeSum 30 = .ok (.iaload, 1) := by decide +kernel
theorem dX0_wholeSum_31 : decode cX0_wholeSum 31 = .ok (.iadd, 1) := by decide +kernel
theorem dX0_wholeSum_32 : decode cX0_wholeSum 32 = .ok (.istore_n 2, 1) := by decide +kernel
theorem dX0_wholeSum_33 : decode cX0_wholeSum 33 = .ok (.iinc 3 1, 3) := by decide +kernel
theorem dX0_wholeSum_36 : decode cX0_wholeSum 36 = .ok (.goto (-23), 3) := by decide +kernel
theorem dX0_wholeSum_39 : decode cX0_wholeSum 39 = .ok (.aload_n 0, 1) := by decide +kernel
theorem dX0_wholeSum_40 : decode cX0_wholeSum 40 = .ok (.getfield 32, 3) := by decide +kernel
theorem dX0_wholeSum_43 : decode cX0_wholeSum 43 = .ok (.iload_n 1, 1) := by decide +kernel
theorem dX0_wholeSum_44 : decode cX0_wholeSum 44 = .ok (.iload_n 2, 1) := by decide +kernel
theorem dX0_wholeSum_45 : decode cX0_wholeSum 45 = .ok (.iastore, 1) := by decide +kernel
theorem dX0_wholeSum_46 : decode cX0_wholeSum 46 = .ok (.aload_n 0, 1) := by decide +kernel
theorem dX0_wholeSum_47 : decode cX0_wholeSum 47 = .ok (.getfield 29, 3) := by decide +kernel
theorem dX0_wholeSum_50 : decode cX0_wholeSum 50 = .ok (.iload_n 1, 1) := by decide +kernel
theorem dX0_wholeSum_51 : decode cX0_wholeSum 51 = .ok (.iconst 1, 1) := by decide +kernel
theorem dX0_wholeSum_52 : decode cX0_wholeSum 52 = .ok (.bastore, 1) := by decide +kernel
theorem dX0_wholeSum_53 : decode cX0_wholeSum 53 = .ok (.aload_n 0, 1) := by decide +kernel
theorem dX0_wholeSum_54 : decode cX0_wholeSum 54 = .ok (.getfield 32, 3) := by decide +kernel
theorem dX0_wholeSum_57 : decode cX0_wholeSum 57 = .ok (.iload_n 1, 1) := by decide +kernel
theorem dX0_wholeSum_58 : decode cX0_wholeSum 58 = .ok (.iaload, 1) := by decide +kernel
theorem dX0_wholeSum_59 : decode cX0_wholeSum 59 = .ok (.aload_n 0, 1) := by decide +kernel
theorem dX0_wholeSum_60 : decode cX0_wholeSum 60 = .ok (.getfield 23, 3) := by decide +kernel
theorem dX0_wholeSum_63 : decode cX0_wholeSum 63 = .ok (.iload_n 1, 1) := by decide +kernel
theorem dX0_wholeSum_64 : decode cX0_wholeSum 64 = .ok (.iaload, 1) := by decide +kernel
theorem dX0_wholeSum_65 : decode cX0_wholeSum 65 = .ok (.imul, 1) := by decide +kernel
theorem dX0_wholeSum_66 : decode cX0_wholeSum 66 = .ok (.bipush 16, 2) := by decide +kernel
theorem dX0_wholeSum_68 : decode cX0_wholeSum 68 = .ok (.aload_n 0, 1) := by decide +kernel
theorem dX0_wholeSum_69 : decode cX0_wholeSum 69 = .ok (.getfield 26, 3) := by decide +kernel
theorem dX0_wholeSum_72 : decode cX0_wholeSum 72 = .ok (.iload_n 1, 1) := by decide +kernel
theorem dX0_wholeSum_73 : decode cX0_wholeSum 73 = .ok (.iaload, 1) := by decide +kernel
theorem dX0_wholeSum_74 : decode cX0_wholeSum 74 = .ok (.imul, 1) := by decide +kernel
theorem dX0_wholeSum_75 : decode cX0_wholeSum 75 = .ok (.iadd, 1) := by decide +kernel
theorem dX0_wholeSum_76 : decode cX0_wholeSum 76 = .ok (.ireturn, 1) := by decide +kernel
theorem dX0_partSum_0 : decode cX0_partSum 0 = .ok (.iconst 0, 1) := by decide +kernel
theorem dX0_partSum_1 : decode cX0_partSum 1 = .ok (.istore_n 2, 1) := by decide +kernel
theorem dX0_partSum_2 : decode cX0_partSum 2 = .ok (.iconst 0, 1) := by decide +kernel
theorem dX0_partSum_3 : decode cX0_partSum 3 = .ok (.istore_n 3, 1) := by decide +kernel
theorem dX0_partSum_4 : decode cX0_partSum 4 = .ok (.iload_n 3, 1) := by decide +kernel
theorem dX0_partSum_5 : decode cX0_partSum 5 = .ok (.bipush 16, 2) := by decide +kernel
theorem dX0_partSum_7 : decode cX0_partSum 7 = .ok (.if_icmp .ge 58, 3) := by decide +kernel
theorem dX0_partSum_10 : decode cX0_partSum 10 = .ok (.iload_n 1, 1) := by decide +kernel
theorem dX0_partSum_11 : decode cX0_partSum 11 = .ok (.iconst 4, 1) := by decide +kernel
theorem dX0_partSum_12 : decode cX0_partSum 12 = .ok (.idiv, 1) := by decide +kernel
theorem dX0_partSum_13 : decode cX0_partSum 13 = .ok (.iconst 4, 1) := by decide +kernel
theorem dX0_partSum_14 : decode cX0_partSum 14 = .ok (.imul, 1) := by decide +kernel
theorem dX0_partSum_15 : decode cX0_partSum 15 = .ok (.iload_n 3, 1) := by decide +kernel
theorem dX0_partSum_16 : decode cX0_partSum 16 = .ok (.iconst 4, 1) := by decide +kernel
theorem dX0_partSum_17 : decode cX0_partSum 17 = .ok (.idiv, 1) := by decide +kernel
theorem dX0_partSum_18 : decode cX0_partSum 18 = .ok (.iadd, 1) := by decide +kernel
theorem dX0_partSum_19 : decode cX0_partSum 19 = .ok (.istore 4, 2) := by decide +kernel
theorem dX0_partSum_21 : decode cX0_partSum 21 = .ok (.iload_n 1, 1) := by decide +kernel
theorem dX0_partSum_22 : decode cX0_partSum 22 = .ok (.iconst 4, 1) := by decide +kernel
theorem dX0_partSum_23 : decode cX0_partSum 23 = .ok (.irem, 1) := by decide +kernel
theorem dX0_partSum_24 : decode cX0_partSum 24 = .ok (.iconst 4, 1) := by decide +kernel
theorem dX0_partSum_25 : decode cX0_partSum 25 = .ok (.imul, 1) := by decide +kernel
theorem dX0_partSum_26 : decode cX0_partSum 26 = .ok (.iload_n 3, 1) := by decide +kernel
theorem dX0_partSum_27 : decode cX0_partSum 27 = .ok (.iconst 4, 1) := by decide +kernel
theorem dX0_partSum_28 : decode cX0_partSum 28 = .ok (.irem, 1) := by decide +kernel
theorem dX0_partSum_29 : decode cX0_partSum 29 = .ok (.iadd, 1) := by decide +kernel
theorem dX0_partSum_30 : decode cX0_partSum 30 = .ok (.istore 5, 2) := by decide +kernel
theorem dX0_partSum_32 : decode cX0_partSum 32 = .ok (.aload_n 0, 1) := by decide +kernel
theorem dX0_partSum_33 : decode cX0_partSum 33 = .ok (.iload 4, 2) := by decide +kernel
theorem dX0_partSum_35 : decode cX0_partSum 35 = .ok (.iload 5, 2) := by decide +kernel
theorem dX0_partSum_37 : decode cX0_partSum 37 = .ok (.invokevirtual 76, 3) := by decide +kernel
theorem dX0_partSum_40 : decode cX0_partSum 40 = .ok (.istore 6, 2) := by decide +kernel
theorem dX0_partSum_42 : decode cX0_partSum 42 = .ok (.iload 6, 2) := by decide +kernel
theorem dX0_partSum_44 : decode cX0_partSum 44 = .ok (.ifCond .eq 15, 3) := by decide +kernel
theorem dX0_partSum_47 : decode cX0_partSum 47 = .ok (.iload_n 2, 1) := by decide +kernel
theorem dX0_partSum_48 : decode cX0_partSum 48 = .ok (.aload_n 0, 1) := by decide +kernel
theorem dX0_partSum_49 : decode cX0_partSum 49 = .ok (.iconst 4, 1) := by decide +kernel
theorem dX0_partSum_50 : decode cX0_partSum 50 = .ok (.iload 4, 2) := by decide +kernel
theorem dX0_partSum_52 : decode cX0_partSum 52 = .ok (.iload 5, 2) := by decide +kernel
theorem dX0_partSum_54 : decode cX0_partSum 54 = .ok (.invokevirtual 80, 3) := by decide +kernel
theorem dX0_partSum_57 : decode cX0_partSum 57 = .ok (.iadd, 1) := by decide +kernel
theorem dX0_partSum_58 : decode cX0_partSum 58 = .ok (.istore_n 2, 1) := by decide +kernel
theorem dX0_partSum_59 : decode cX0_partSum 59 = .ok (.iinc 3 1, 3) := by decide +kernel
theorem dX0_partSum_62 : decode cX0_partSum 62 = .ok (.goto (-58), 3) := by decide +kernel
theorem dX0_partSum_65 : decode cX0_partSum 65 = .ok (.iload_n 2, 1) := by decide +kernel
theorem dX0_partSum_66 : decode cX0_partSum 66 = .ok (.ireturn, 1) := by decide +kernel
theorem dX0_greatest_0 : decode cX0_greatest 0 = .ok (.iload_n 1, 1) := by decide +kernel
theorem dX0_greatest_1 : decode cX0_greatest 1 = .ok (.invokestatic 91, 3) := by decide +kernel
theorem dX0_greatest_4 : decode cX0_greatest 4 = .ok (.ifCond .ne 10, 3) := by decide +kernel
theorem dX0_greatest_7 : decode cX0_greatest 7 = .ok (.iload_n 2, 1) := by decide +kernel
theorem dX0_greatest_8 : decode cX0_greatest 8 = .ok (.invokestatic 91, 3) := by decide +kernel
theorem dX0_greatest_11 : decode cX0_greatest 11 = .ok (.ifCond .eq 5, 3) := by decide +kernel
theorem dX0_greatest_14 : decode cX0_greatest 14 = .ok (.iconst (-1), 1) := by decide +kernel
theorem dX0_greatest_15 : decode cX0_greatest 15 = .ok (.ireturn, 1) := by decide +kernel
theorem dX0_greatest_16 : decode cX0_greatest 16 = .ok (.aload_n 0, 1) := by decide +kernel
theorem dX0_greatest_17 : decode cX0_greatest 17 = .ok (.iload_n 1, 1) := by decide +kernel
theorem dX0_greatest_18 : decode cX0_greatest 18 = .ok (.iload_n 2, 1) := by decide +kernel
theorem dX0_greatest_19 : decode cX0_greatest 19 = .ok (.invokevirtual 95, 3) := by decide +kernel
theorem dX0_greatest_22 : decode cX0_greatest 22 = .ok (.aload_n 0, 1) := by decide +kernel
theorem dX0_greatest_23 : decode cX0_greatest 23 = .ok (.iconst 4, 1) := by decide +kernel
theorem dX0_greatest_24 : decode cX0_greatest 24 = .ok (.aload_n 0, 1) := by decide +kernel
theorem dX0_greatest_25 : decode cX0_greatest 25 = .ok (.getfield 63, 3) := by decide +kernel
theorem dX0_greatest_28 : decode cX0_greatest 28 = .ok (.aload_n 0, 1) := by decide +kernel
theorem dX0_greatest_29 : decode cX0_greatest 29 = .ok (.getfield 70, 3) := by decide +kernel
theorem dX0_greatest_32 : decode cX0_greatest 32 = .ok (.invokevirtual 80, 3) := by decide +kernel
theorem dX0_greatest_35 : decode cX0_greatest 35 = .ok (.istore_n 3, 1) := by decide +kernel
theorem dX0_greatest_36 : decode cX0_greatest 36 = .ok (.iconst 0, 1) := by decide +kernel
theorem dX0_greatest_37 : decode cX0_greatest 37 = .ok (.istore 4, 2) := by decide +kernel
theorem dX0_greatest_39 : decode cX0_greatest 39 = .ok (.iload 4, 2) := by decide +kernel
theorem dX0_greatest_41 : decode cX0_greatest 41 = .ok (.bipush 16, 2) := by decide +kernel
theorem dX0_greatest_43 : decode cX0_greatest 43 = .ok (.if_icmp .ge 71, 3) := by decide +kernel
theorem dX0_greatest_46 : decode cX0_greatest 46 = .ok (.aload_n 0, 1) := by decide +kernel
theorem dX0_greatest_47 : decode cX0_greatest 47 = .ok (.iload 4, 2) := by decide +kernel
theorem dX0_greatest_49 : decode cX0_greatest 49 = .ok (.invokevirtual 99, 3) := by decide +kernel
theorem dX0_greatest_52 : decode cX0_greatest 52 = .ok (.istore 5, 2) := by decide +kernel
theorem dX0_greatest_54 : decode cX0_greatest 54 = .ok (.aload_n 0, 1) := by decide +kernel
theorem dX0_greatest_55 : decode cX0_greatest 55 = .ok (.iload 4, 2) := by decide +kernel
theorem dX0_greatest_57 : decode cX0_greatest 57 = .ok (.invokevirtual 102, 3) := by decide +kernel
theorem dX0_greatest_60 : decode cX0_greatest 60 = .ok (.istore 6, 2) := by decide +kernel
theorem dX0_greatest_62 : decode cX0_greatest 62 = .ok (.iload 5, 2) := by decide +kernel
theorem dX0_greatest_64 : decode cX0_greatest 64 = .ok (.ifCond .eq 31, 3) := by decide +kernel
theorem dX0_greatest_67 : decode cX0_greatest 67 = .ok (.aload_n 0, 1) := by decide +kernel
theorem dX0_greatest_68 : decode cX0_greatest 68 = .ok (.aload_n 0, 1) := by decide +kernel
theorem dX0_greatest_69 : decode cX0_greatest 69 = .ok (.getfield 13, 3) := by decide +kernel
theorem dX0_greatest_72 : decode cX0_greatest 72 = .ok (.bipush 64, 2) := by decide +kernel
theorem dX0_greatest_74 : decode cX0_greatest 74 = .ok (.iload 4, 2) := by decide +kernel
theorem dX0_greatest_76 : decode cX0_greatest 76 = .ok (.iadd, 1) := by decide +kernel
theorem dX0_greatest_77 : decode cX0_greatest 77 = .ok (.iaload, 1) := by decide +kernel
theorem dX0_greatest_78 : decode cX0_greatest 78 = .ok (.invokevirtual 133, 3) := by decide +kernel
theorem dX0_greatest_81 : decode cX0_greatest 81 = .ok (.istore 7, 2) := by decide +kernel
theorem dX0_greatest_83 : decode cX0_greatest 83 = .ok (.iload 7, 2) := by decide +kernel
theorem dX0_greatest_85 : decode cX0_greatest 85 = .ok (.iload_n 3, 1) := by decide +kernel
theorem dX0_greatest_86 : decode cX0_greatest 86 = .ok (.if_icmp .le 6, 3) := by decide +kernel
theorem dX0_greatest_89 : decode cX0_greatest 89 = .ok (.iload 7, 2) := by decide +kernel
theorem dX0_greatest_91 : decode cX0_greatest 91 = .ok (.istore_n 3, 1) := by decide +kernel
theorem dX0_greatest_92 : decode cX0_greatest 92 = .ok (.goto 16, 3) := by decide +kernel
theorem dX0_greatest_95 : decode cX0_greatest 95 = .ok (.iload 6, 2) := by decide +kernel
theorem dX0_greatest_97 : decode cX0_greatest 97 = .ok (.ifCond .eq 11, 3) := by decide +kernel
theorem dX0_greatest_100 : decode cX0_greatest 100 = .ok (.aload_n 0, 1) := by decide +kernel
theorem dX0_greatest_101 : decode cX0_greatest 101 = .ok (.iload 4, 2) := by decide +kernel
theorem dX0_greatest_103 : decode cX0_greatest 103 = .ok (.iload_n 3, 1) := by decide +kernel
theorem dX0_greatest_104 : decode cX0_greatest 104 = .ok (.invokevirtual 136, 3) := by decide +kernel
theorem dX0_greatest_107 : decode cX0_greatest 107 = .ok (.istore_n 3, 1) := by decide +kernel
theorem dX0_greatest_108 : decode cX0_greatest 108 = .ok (.iinc 4 1, 3) := by decide +kernel
theorem dX0_greatest_111 : decode cX0_greatest 111 = .ok (.goto (-72), 3) := by decide +kernel
theorem dX0_greatest_114 : decode cX0_greatest 114 = .ok (.iload_n 3, 1) := by decide +kernel
theorem dX0_greatest_115 : decode cX0_greatest 115 = .ok (.ireturn, 1) := by decide +kernel
theorem dX0_wholeGreatest_0 : decode cX0_wholeGreatest 0 = .ok (.aload_n 0, 1) := by decide +kernel
theorem dX0_wholeGreatest_1 : decode cX0_wholeGreatest 1 = .ok (.getfield 35, 3) := by decide +kernel
theorem dX0_wholeGreatest_4 : decode cX0_wholeGreatest 4 = .ok (.iload_n 1, 1) := by decide +kernel
theorem dX0_wholeGreatest_5 : decode cX0_wholeGreatest 5 = .ok (.baload, 1) := by decide +kernel
theorem dX0_wholeGreatest_6 : decode cX0_wholeGreatest 6 = .ok (.ifCond .ne 91, 3) := by decide +kernel
theorem dX0_wholeGreatest_9 : decode cX0_wholeGreatest 9 = .ok (.aload_n 0, 1) := by decide +kernel
theorem dX0_wholeGreatest_10 : decode cX0_wholeGreatest 10 = .ok (.getfield 20, 3) := by decide +kernel
theorem dX0_wholeGreatest_13 : decode cX0_wholeGreatest 13 = .ok (.iload_n 1, 1) := by decide +kernel
theorem dX0_wholeGreatest_14 : decode cX0_wholeGreatest 14 = .ok (.bipush 16, 2) := by decide +kernel
theorem dX0_wholeGreatest_16 : decode cX0_wholeGreatest 16 = .ok (.imul, 1) := by decide +kernel
theorem dX0_wholeGreatest_17 : decode cX0_wholeGreatest 17 = .ok (.iaload, 1) := by decide +kernel
theorem dX0_wholeGreatest_18 : decode cX0_wholeGreatest 18 = .ok (.aload_n 0, 1) := by decide +kernel
theorem dX0_wholeGreatest_19 : decode cX0_wholeGreatest 19 = .ok (.getfield 23, 3) := by decide +kernel
theorem dX0_wholeGreatest_22 : decode cX0_wholeGreatest 22 = .ok (.iload_n 1, 1) := by decide +kernel
theorem dX0_wholeGreatest_23 : decode cX0_wholeGreatest 23 = .ok (.iaload, 1) := by decide +kernel
theorem dX0_wholeGreatest_24 : decode cX0_wholeGreatest 24 = .ok (.imul, 1) := by decide +kernel
theorem dX0_wholeGreatest_25 : decode cX0_wholeGreatest 25 = .ok (.aload_n 0, 1) := by decide +kernel
theorem dX0_wholeGreatest_26 : decode cX0_wholeGreatest 26 = .ok (.getfield 26, 3) := by decide +kernel
theorem dX0_wholeGreatest_29 : decode cX0_wholeGreatest 29 = .ok (.iload_n 1, 1) := by decide +kernel
theorem dX0_wholeGreatest_30 : decode cX0_wholeGreatest 30 = .ok (.iaload, 1) := by decide +kernel
theorem dX0_wholeGreatest_31 : decode cX0_wholeGreatest 31 = .ok (.iadd, 1) := by decide +kernel
theorem dX0_wholeGreatest_32 : decode cX0_wholeGreatest 32 = .ok (.istore_n 2, 1) := by decide +kernel
theorem dX0_wholeGreatest_33 : decode cX0_wholeGreatest 33 = .ok (.iconst 1, 1) := by decide +kernel
theorem dX0_wholeGreatest_34 : decode cX0_wholeGreatest 34 = .ok (.istore_n 3, 1) := by decide +kernel
theorem dX0_wholeGreatest_35 : decode cX0_wholeGreatest 35 = .ok (.iload_n 3, 1) := by decide +kernel
theorem dX0_wholeGreatest_36 : decode cX0_wholeGreatest 36 = .ok (.bipush 16, 2) := by decide +kernel
theorem dX0_wholeGreatest_38 : decode cX0_wholeGreatest 38 = .ok (.if_icmp .ge 45, 3) := by decide +kernel
theorem dX0_wholeGreatest_41 : decode cX0_wholeGreatest 41 = .ok (.aload_n 0, 1) := by decide +kernel
theorem dX0_wholeGreatest_42 : decode cX0_wholeGreatest 42 = .ok (.getfield 20, 3) := by decide +kernel
theorem dX0_wholeGreatest_45 : decode cX0_wholeGreatest 45 = .ok (.iload_n 1, 1) := by decide +kernel
theorem dX0_wholeGreatest_46 : decode cX0_wholeGreatest 46 = .ok (.bipush 16, 2) := by decide +kernel
theorem dX0_wholeGreatest_48 : decode cX0_wholeGreatest 48 = .ok (.imul, 1) := by decide +kernel
theorem dX0_wholeGreatest_49 : decode cX0_wholeGreatest 49 = .ok (.iload_n 3, 1) := by decide +kernel
theorem dX0_wholeGreatest_50 : decode cX0_wholeGreatest 50 = .ok (.iadd, 1) := by decide +kernel
theorem dX0_wholeGreatest_51 : decode cX0_wholeGreatest 51 = .ok (.iaload, 1) := by decide +kernel
theorem dX0_wholeGreatest_52 : decode cX0_wholeGreatest 52 = .ok (.aload_n 0, 1) := by decide +kernel
theorem dX0_wholeGreatest_53 : decode cX0_wholeGreatest 53 = .ok (.getfield 23, 3) := by decide +kernel
theorem dX0_wholeGreatest_56 : decode cX0_wholeGreatest 56 = .ok (.iload_n 1, 1) := by decide +kernel
theorem dX0_wholeGreatest_57 : decode cX0_wholeGreatest 57 = .ok (.iaload, 1) := by decide +kernel
theorem dX0_wholeGreatest_58 : decode cX0_wholeGreatest 58 = .ok (.imul, 1) := by decide +kernel
theorem dX0_wholeGreatest_59 : decode cX0_wholeGreatest 59 = .ok (.aload_n 0, 1) := by decide +kernel
theorem dX0_wholeGreatest_60 : decode cX0_wholeGreatest 60 = .ok (.getfield 26, 3) := by decide +kernel
theorem dX0_wholeGreatest_63 : decode cX0_wholeGreatest 63 = .ok (.iload_n 1, 1) := by decide +kernel
theorem dX0_wholeGreatest_64 : decode cX0_wholeGreatest 64 = .ok (.iaload, 1) := by decide +kernel
theorem dX0_wholeGreatest_65 : decode cX0_wholeGreatest 65 = .ok (.iadd, 1) := by decide +kernel
theorem dX0_wholeGreatest_66 : decode cX0_wholeGreatest 66 = .ok (.istore 4, 2) := by decide +kernel
theorem dX0_wholeGreatest_68 : decode cX0_wholeGreatest 68 = .ok (.iload 4, 2) := by decide +kernel
theorem dX0_wholeGreatest_70 : decode cX0_wholeGreatest 70 = .ok (.iload_n 2, 1) := by decide +kernel
theorem dX0_wholeGreatest_71 : decode cX0_wholeGreatest 71 = .ok (.if_icmp .le 6, 3) := by decide +kernel
theorem dX0_wholeGreatest_74 : decode cX0_wholeGreatest 74 = .ok (.iload 4, 2) := by decide +kernel
theorem dX0_wholeGreatest_76 : decode cX0_wholeGreatest 76 = .ok (.istore_n 2, 1) := by decide +kernel
theorem dX0_wholeGreatest_77 : decode cX0_wholeGreatest 77 = .ok (.iinc 3 1, 3) := by decide +kernel
theorem dX0_wholeGreatest_80 : decode cX0_wholeGreatest 80 = .ok (.goto (-45), 3) := by decide +kernel
theorem dX0_wholeGreatest_83 : decode cX0_wholeGreatest 83 = .ok (.aload_n 0, 1) := by decide +kernel
theorem dX0_wholeGreatest_84 : decode cX0_wholeGreatest 84 = .ok (.getfield 38, 3) := by decide +kernel
theorem dX0_wholeGreatest_87 : decode cX0_wholeGreatest 87 = .ok (.iload_n 1, 1) := by decide +kernel
theorem dX0_wholeGreatest_88 : decode cX0_wholeGreatest 88 = .ok (.iload_n 2, 1) := by decide +kernel
theorem dX0_wholeGreatest_89 : decode cX0_wholeGreatest 89 = .ok (.iastore, 1) := by decide +kernel
theorem dX0_wholeGreatest_90 : decode cX0_wholeGreatest 90 = .ok (.aload_n 0, 1) := by decide +kernel
theorem dX0_wholeGreatest_91 : decode cX0_wholeGreatest 91 = .ok (.getfield 35, 3) := by decide +kernel
theorem dX0_wholeGreatest_94 : decode cX0_wholeGreatest 94 = .ok (.iload_n 1, 1) := by decide +kernel
theorem dX0_wholeGreatest_95 : decode cX0_wholeGreatest 95 = .ok (.iconst 1, 1) := by decide +kernel
theorem dX0_wholeGreatest_96 : decode cX0_wholeGreatest 96 = .ok (.bastore, 1) := by decide +kernel
theorem dX0_wholeGreatest_97 : decode cX0_wholeGreatest 97 = .ok (.aload_n 0, 1) := by decide +kernel
theorem dX0_wholeGreatest_98 : decode cX0_wholeGreatest 98 = .ok (.getfield 38, 3) := by decide +kernel
theorem dX0_wholeGreatest_101 : decode cX0_wholeGreatest 101 = .ok (.iload_n 1, 1) := by decide +kernel
theorem dX0_wholeGreatest_102 : decode cX0_wholeGreatest 102 = .ok (.iaload, 1) := by decide +kernel
theorem dX0_wholeGreatest_103 : decode cX0_wholeGreatest 103 = .ok (.ireturn, 1) := by decide +kernel
theorem dX0_partGreatest_0 : decode cX0_partGreatest 0 = .ok (.iload_n 2, 1) := by decide +kernel
theorem dX0_partGreatest_1 : decode cX0_partGreatest 1 = .ok (.istore_n 3, 1) := by decide +kernel
theorem dX0_partGreatest_2 : decode cX0_partGreatest 2 = .ok (.iconst 0, 1) := by decide +kernel
theorem dX0_partGreatest_3 : decode cX0_partGreatest 3 = .ok (.istore 4, 2) := by decide +kernel
theorem dX0_partGreatest_5 : decode cX0_partGreatest 5 = .ok (.iload 4, 2) := by decide +kernel
theorem dX0_partGreatest_7 : decode cX0_partGreatest 7 = .ok (.bipush 16, 2) := by decide +kernel
theorem dX0_partGreatest_9 : decode cX0_partGreatest 9 = .ok (.if_icmp .ge 68, 3) := by decide +kernel
theorem dX0_partGreatest_12 : decode cX0_partGreatest 12 = .ok (.iload_n 1, 1) := by decide +kernel
theorem dX0_partGreatest_13 : decode cX0_partGreatest 13 = .ok (.iconst 4, 1) := by decide +kernel
theorem dX0_partGreatest_14 : decode cX0_partGreatest 14 = .ok (.idiv, 1) := by decide +kernel
theorem dX0_partGreatest_15 : decode cX0_partGreatest 15 = .ok (.iconst 4, 1) := by decide +kernel
theorem dX0_partGreatest_16 : decode cX0_partGreatest 16 = .ok (.imul, 1) := by decide +kernel
theorem dX0_partGreatest_17 : decode cX0_partGreatest 17 = .ok (.iload 4, 2) := by decide +kernel
theorem dX0_partGreatest_19 : decode cX0_partGreatest 19 = .ok (.iconst 4, 1) := by decide +kernel
theorem dX0_partGreatest_20 : decode cX0_partGreatest 20 = .ok (.idiv, 1) := by decide +kernel
theorem dX0_partGreatest_21 : decode cX0_partGreatest 21 = .ok (.iadd, 1) := by decide +kernel
theorem dX0_partGreatest_22 : decode cX0_partGreatest 22 = .ok (.istore 5, 2) := by decide +kernel
theorem dX0_partGreatest_24 : decode cX0_partGreatest 24 = .ok (.iload_n 1, 1) := by decide +kernel
theorem dX0_partGreatest_25 : decode cX0_partGreatest 25 = .ok (.iconst 4, 1) := by decide +kernel
theorem dX0_partGreatest_26 : decode cX0_partGreatest 26 = .ok (.irem, 1) := by decide +kernel
theorem dX0_partGreatest_27 : decode cX0_partGreatest 27 = .ok (.iconst 4, 1) := by decide +kernel
theorem dX0_partGreatest_28 : decode cX0_partGreatest 28 = .ok (.imul, 1) := by decide +kernel
theorem dX0_partGreatest_29 : decode cX0_partGreatest 29 = .ok (.iload 4, 2) := by decide +kernel
theorem dX0_partGreatest_31 : decode cX0_partGreatest 31 = .ok (.iconst 4, 1) := by decide +kernel
theorem dX0_partGreatest_32 : decode cX0_partGreatest 32 = .ok (.irem, 1) := by decide +kernel
theorem dX0_partGreatest_33 : decode cX0_partGreatest 33 = .ok (.iadd, 1) := by decide +kernel
theorem dX0_partGreatest_34 : decode cX0_partGreatest 34 = .ok (.istore 6, 2) := by decide +kernel
theorem dX0_partGreatest_36 : decode cX0_partGreatest 36 = .ok (.aload_n 0, 1) := by decide +kernel
theorem dX0_partGreatest_37 : decode cX0_partGreatest 37 = .ok (.iload 5, 2) := by decide +kernel
theorem dX0_partGreatest_39 : decode cX0_partGreatest 39 = .ok (.iload 6, 2) := by decide +kernel
theorem dX0_partGreatest_41 : decode cX0_partGreatest 41 = .ok (.invokevirtual 76, 3) := by decide +kernel
theorem dX0_partGreatest_44 : decode cX0_partGreatest 44 = .ok (.istore 7, 2) := by decide +kernel
theorem dX0_partGreatest_46 : decode cX0_partGreatest 46 = .ok (.aload_n 0, 1) := by decide +kernel
theorem dX0_partGreatest_47 : decode cX0_partGreatest 47 = .ok (.iconst 4, 1) := by decide +kernel
theorem dX0_partGreatest_48 : decode cX0_partGreatest 48 = .ok (.iload 5, 2) := by decide +kernel
theorem dX0_partGreatest_50 : decode cX0_partGreatest 50 = .ok (.iload 6, 2) := by decide +kernel
theorem dX0_partGreatest_52 : decode cX0_partGreatest 52 = .ok (.invokevirtual 80, 3) := by decide +kernel
theorem dX0_partGreatest_55 : decode cX0_partGreatest 55 = .ok (.istore 8, 2) := by decide +kernel
theorem dX0_partGreatest_57 : decode cX0_partGreatest 57 = .ok (.iload 7, 2) := by decide +kernel
theorem dX0_partGreatest_59 : decode cX0_partGreatest 59 = .ok (.ifCond .eq 12, 3) := by decide +kernel
theorem dX0_partGreatest_62 : decode cX0_partGreatest 62 = .ok (.iload 8, 2) := by decide +kernel
theorem dX0_partGreatest_64 : decode cX0_partGreatest 64 = .ok (.iload_n 3, 1) := by decide +kernel
theorem dX0_partGreatest_65 : decode cX0_partGreatest 65 = .ok (.if_icmp .le 6, 3) := by decide +kernel
theorem dX0_partGreatest_68 : decode cX0_partGreatest 68 = .ok (.iload 8, 2) := by decide +kernel
theorem dX0_partGreatest_70 : decode cX0_partGreatest 70 = .ok (.istore_n 3, 1) := by decide +kernel
theorem dX0_partGreatest_71 : decode cX0_partGreatest 71 = .ok (.iinc 4 1, 3) := by decide +kernel
theorem dX0_partGreatest_74 : decode cX0_partGreatest 74 = .ok (.goto (-69), 3) := by decide +kernel
theorem dX0_partGreatest_77 : decode cX0_partGreatest 77 = .ok (.iload_n 3, 1) := by decide +kernel
theorem dX0_partGreatest_78 : decode cX0_partGreatest 78 = .ok (.ireturn, 1) := by decide +kernel
theorem dX0_differ_0 : decode cX0_differ 0 = .ok (.aload_n 0, 1) := by decide +kernel
theorem dX0_differ_1 : decode cX0_differ 1 = .ok (.iload_n 1, 1) := by decide +kernel
theorem dX0_differ_2 : decode cX0_differ 2 = .ok (.invokevirtual 121, 3) := by decide +kernel
theorem dX0_differ_5 : decode cX0_differ 5 = .ok (.ifCond .eq 8, 3) := by decide +kernel
theorem dX0_differ_8 : decode cX0_differ 8 = .ok (.bipush (-2), 2) := by decide +kernel
theorem dX0_differ_10 : decode cX0_differ 10 = .ok (.goto 8, 3) := by decide +kernel
theorem dX0_differ_13 : decode cX0_differ 13 = .ok (.aload_n 0, 1) := by decide +kernel
theorem dX0_differ_14 : decode cX0_differ 14 = .ok (.iload_n 1, 1) := by decide +kernel
theorem dX0_differ_15 : decode cX0_differ 15 = .ok (.invokevirtual 124, 3) := by decide +kernel
theorem dX0_differ_18 : decode cX0_differ 18 = .ok (.ireturn, 1) := by decide +kernel
theorem dX0_count_0 : decode cX0_count 0 = .ok (.iload_n 1, 1) := by decide +kernel
theorem dX0_count_1 : decode cX0_count 1 = .ok (.invokestatic 91, 3) := by decide +kernel
theorem dX0_count_4 : decode cX0_count 4 = .ok (.ifCond .ne 10, 3) := by decide +kernel
theorem dX0_count_7 : decode cX0_count 7 = .ok (.iload_n 2, 1) := by decide +kernel
theorem dX0_count_8 : decode cX0_count 8 = .ok (.invokestatic 91, 3) := by decide +kernel
theorem dX0_count_11 : decode cX0_count 11 = .ok (.ifCond .eq 5, 3) := by decide +kernel
theorem dX0_count_14 : decode cX0_count 14 = .ok (.iconst (-1), 1) := by decide +kernel
theorem dX0_count_15 : decode cX0_count 15 = .ok (.ireturn, 1) := by decide +kernel
theorem dX0_count_16 : decode cX0_count 16 = .ok (.aload_n 0, 1) := by decide +kernel
theorem dX0_count_17 : decode cX0_count 17 = .ok (.iload_n 1, 1) := by decide +kernel
theorem dX0_count_18 : decode cX0_count 18 = .ok (.iload_n 2, 1) := by decide +kernel
theorem dX0_count_19 : decode cX0_count 19 = .ok (.invokevirtual 95, 3) := by decide +kernel
theorem dX0_count_22 : decode cX0_count 22 = .ok (.iconst 0, 1) := by decide +kernel
theorem dX0_count_23 : decode cX0_count 23 = .ok (.istore 4, 2) := by decide +kernel
theorem dX0_count_25 : decode cX0_count 25 = .ok (.aload_n 0, 1) := by decide +kernel
theorem dX0_count_26 : decode cX0_count 26 = .ok (.getfield 63, 3) := by decide +kernel
theorem dX0_count_29 : decode cX0_count 29 = .ok (.istore 5, 2) := by decide +kernel
theorem dX0_count_31 : decode cX0_count 31 = .ok (.iload 5, 2) := by decide +kernel
theorem dX0_count_33 : decode cX0_count 33 = .ok (.aload_n 0, 1) := by decide +kernel
theorem dX0_count_34 : decode cX0_count 34 = .ok (.getfield 67, 3) := by decide +kernel
theorem dX0_count_37 : decode cX0_count 37 = .ok (.if_icmp .gt 50, 3) := by decide +kernel
theorem dX0_count_40 : decode cX0_count 40 = .ok (.aload_n 0, 1) := by decide +kernel
theorem dX0_count_41 : decode cX0_count 41 = .ok (.getfield 70, 3) := by decide +kernel
theorem dX0_count_44 : decode cX0_count 44 = .ok (.istore 6, 2) := by decide +kernel
theorem dX0_count_46 : decode cX0_count 46 = .ok (.iload 6, 2) := by decide +kernel
theorem dX0_count_48 : decode cX0_count 48 = .ok (.aload_n 0, 1) := by decide +kernel
theorem dX0_count_49 : decode cX0_count 49 = .ok (.getfield 73, 3) := by decide +kernel
theorem dX0_count_52 : decode cX0_count 52 = .ok (.if_icmp .gt 29, 3) := by decide +kernel
theorem dX0_count_55 : decode cX0_count 55 = .ok (.aload_n 0, 1) := by decide +kernel
theorem dX0_count_56 : decode cX0_count 56 = .ok (.iconst 4, 1) := by decide +kernel
theorem dX0_count_57 : decode cX0_count 57 = .ok (.iload 5, 2) := by decide +kernel
theorem dX0_count_59 : decode cX0_count 59 = .ok (.iload 6, 2) := by decide +kernel
theorem dX0_count_61 : decode cX0_count 61 = .ok (.invokevirtual 80, 3) := by decide +kernel
theorem dX0_count_64 : decode cX0_count 64 = .ok (.istore 7, 2) := by decide +kernel
theorem dX0_count_66 : decode cX0_count 66 = .ok (.iload 7, 2) := by decide +kernel
theorem dX0_count_68 : decode cX0_count 68 = .ok (.iload_n 3, 1) := by decide +kernel
theorem dX0_count_69 : decode cX0_count 69 = .ok (.if_icmp .ne 6, 3) := by decide +kernel
theorem dX0_count_72 : decode cX0_count 72 = .ok (.iinc 4 1, 3) := by decide +kernel
theorem dX0_count_75 : decode cX0_count 75 = .ok (.iinc 6 1, 3) := by decide +kernel
theorem dX0_count_78 : decode cX0_count 78 = .ok (.goto (-32), 3) := by decide +kernel
theorem dX0_count_81 : decode cX0_count 81 = .ok (.iinc 5 1, 3) := by decide +kernel
theorem dX0_count_84 : decode cX0_count 84 = .ok (.goto (-53), 3) := by decide +kernel
theorem dX0_count_87 : decode cX0_count 87 = .ok (.iload 4, 2) := by decide +kernel
theorem dX0_count_89 : decode cX0_count 89 = .ok (.ireturn, 1) := by decide +kernel
end
section
set_option maxRecDepth 100000
theorem dX1_init_0 : decode cX1_init 0 = .ok (.aload_n 0, 1) := by decide +kernel
theorem dX1_init_1 : decode cX1_init 1 = .ok (.invokespecial 1, 3) := by decide +kernel
theorem dX1_init_4 : decode cX1_init 4 = .ok (.aload_n 0, 1) := by decide +kernel
theorem dX1_init_5 : decode cX1_init 5 = .ok (.sipush 256, 3) := by decide +kernel
theorem dX1_init_8 : decode cX1_init 8 = .ok (.newarray .int, 2) := by decide +kernel
theorem dX1_init_10 : decode cX1_init 10 = .ok (.putfield 7, 3) := by decide +kernel
theorem dX1_init_13 : decode cX1_init 13 = .ok (.aload_n 0, 1) := by decide +kernel
theorem dX1_init_14 : decode cX1_init 14 = .ok (.sipush 256, 3) := by decide +kernel
theorem dX1_init_17 : decode cX1_init 17 = .ok (.newarray .int, 2) := by decide +kernel
theorem dX1_init_19 : decode cX1_init 19 = .ok (.putfield 13, 3) := by decide +kernel
theorem dX1_init_22 : decode cX1_init 22 = .ok (.aload_n 0, 1) := by decide +kernel
theorem dX1_init_23 : decode cX1_init 23 = .ok (.sipush 1024, 3) := by decide +kernel
theorem dX1_init_26 : decode cX1_init 26 = .ok (.newarray .int, 2) := by decide +kernel
theorem dX1_init_28 : decode cX1_init 28 = .ok (.putfield 16, 3) := by decide +kernel
theorem dX1_init_31 : decode cX1_init 31 = .ok (.aload_n 0, 1) := by decide +kernel
theorem dX1_init_32 : decode cX1_init 32 = .ok (.iconst 4, 1) := by decide +kernel
theorem dX1_init_33 : decode cX1_init 33 = .ok (.newarray .boolean, 2) := by decide +kernel
theorem dX1_init_35 : decode cX1_init 35 = .ok (.putfield 19, 3) := by decide +kernel
theorem dX1_init_38 : decode cX1_init 38 = .ok (.return_, 1) := by decide +kernel
theorem dX1_fill_0 : decode cX1_fill 0 = .ok (.aload_n 0, 1) := by decide +kernel
theorem dX1_fill_1 : decode cX1_fill 1 = .ok (.iconst 0, 1) := by decide +kernel
theorem dX1_fill_2 : decode cX1_fill 2 = .ok (.iload_n 1, 1) := by decide +kernel
theorem dX1_fill_3 : decode cX1_fill 3 = .ok (.iload_n 2, 1) := by decide +kernel
theorem dX1_fill_4 : decode cX1_fill 4 = .ok (.iload_n 3, 1) := by decide +kernel
theorem dX1_fill_5 : decode cX1_fill 5 = .ok (.invokevirtual 34, 3) := by decide +kernel
theorem dX1_fill_8 : decode cX1_fill 8 = .ok (.ireturn, 1) := by decide +kernel
theorem dX1_change_0 : decode cX1_change 0 = .ok (.aload_n 0, 1) := by decide +kernel
theorem dX1_change_1 : decode cX1_change 1 = .ok (.iload_n 2, 1) := by decide +kernel
theorem dX1_change_2 : decode cX1_change 2 = .ok (.invokevirtual 27, 3) := by decide +kernel
theorem dX1_change_5 : decode cX1_change 5 = .ok (.ifCond .eq 11, 3) := by decide +kernel
theorem dX1_change_8 : decode cX1_change 8 = .ok (.aload_n 0, 1) := by decide +kernel
theorem dX1_change_9 : decode cX1_change 9 = .ok (.iload_n 3, 1) := by decide +kernel
theorem dX1_change_10 : decode cX1_change 10 = .ok (.invokevirtual 27, 3) := by decide +kernel
theorem dX1_change_13 : decode cX1_change 13 = .ok (.ifCond .ne 5, 3) := by decide +kernel
theorem dX1_change_16 : decode cX1_change 16 = .ok (.iconst (-1), 1) := by decide +kernel
theorem dX1_change_17 : decode cX1_change 17 = .ok (.ireturn, 1) := by decide +kernel
theorem dX1_change_18 : decode cX1_change 18 = .ok (.iconst 0, 1) := by decide +kernel
theorem dX1_change_19 : decode cX1_change 19 = .ok (.istore 5, 2) := by decide +kernel
theorem dX1_change_21 : decode cX1_change 21 = .ok (.iconst 0, 1) := by decide +kernel
theorem dX1_change_22 : decode cX1_change 22 = .ok (.istore 6, 2) := by decide +kernel
theorem dX1_change_24 : decode cX1_change 24 = .ok (.iload 6, 2) := by decide +kernel
theorem dX1_change_26 : decode cX1_change 26 = .ok (.sipush 256, 3) := by decide +kernel
theorem dX1_change_29 : decode cX1_change 29 = .ok (.if_icmp .ge 67, 3) := by decide +kernel
theorem dX1_change_32 : decode cX1_change 32 = .ok (.aload_n 0, 1) := by decide +kernel
theorem dX1_change_33 : decode cX1_change 33 = .ok (.iload 6, 2) := by decide +kernel
theorem dX1_change_35 : decode cX1_change 35 = .ok (.iload_n 2, 1) := by decide +kernel
theorem dX1_change_36 : decode cX1_change 36 = .ok (.iload_n 3, 1) := by decide +kernel
theorem dX1_change_37 : decode cX1_change 37 = .ok (.invokevirtual 31, 3) := by decide +kernel
theorem dX1_change_40 : decode cX1_change 40 = .ok (.ifCond .eq 50, 3) := by decide +kernel
theorem dX1_change_43 : decode cX1_change 43 = .ok (.aload_n 0, 1) := by decide +kernel
theorem dX1_change_44 : decode cX1_change 44 = .ok (.getfield 7, 3) := by decide +kernel
theorem dX1_change_47 : decode cX1_change 47 = .ok (.iload 6, 2) := by decide +kernel
theorem dX1_change_49 : decode cX1_change 49 = .ok (.iload_n 1, 1) := by decide +kernel
theorem dX1_change_50 : decode cX1_change 50 = .ok (.ifCond .ne 8, 3) := by decide +kernel
theorem dX1_change_53 : decode cX1_change 53 = .ok (.iload 4, 2) := by decide +kernel
theorem dX1_change_55 : decode cX1_change 55 = .ok (.goto 31, 3) := by decide +kernel
theorem dX1_change_58 : decode cX1_change 58 = .ok (.iload_n 1, 1) := by decide +kernel
theorem dX1_change_59 : decode cX1_change 59 = .ok (.iconst 1, 1) := by decide +kernel
theorem dX1_change_60 : decode cX1_change 60 = .ok (.if_icmp .ne 16, 3) := by decide +kernel
theorem dX1_change_63 : decode cX1_change 63 = .ok (.aload_n 0, 1) := by decide +kernel
theorem dX1_change_64 : decode cX1_change 64 = .ok (.getfield 7, 3) := by decide +kernel
theorem dX1_change_67 : decode cX1_change 67 = .ok (.iload 6, 2) := by decide +kernel
theorem dX1_change_69 : decode cX1_change 69 = .ok (.iaload, 1) := by decide +kernel
theorem dX1_change_70 : decode cX1_change 70 = .ok (.iload 4, 2) := by decide +kernel
theorem dX1_change_72 : decode cX1_change 72 = .ok (.iadd, 1) := by decide +kernel
theorem dX1_change_73 : decode cX1_change 73 = .ok (.goto 13, 3) := by decide +kernel
theorem dX1_change_76 : decode cX1_change 76 = .ok (.aload_n 0, 1) := by decide +kernel
theorem dX1_change_77 : decode cX1_change 77 = .ok (.getfield 7, 3) := by decide +kernel
theorem dX1_change_80 : decode cX1_change 80 = .ok (.iload 6, 2) := by decide +kernel
theorem dX1_change_82 : decode cX1_change 82 = .ok (.iaload, 1) := by decide +kernel
theorem dX1_change_83 : decode cX1_change 83 = .ok (.iload 4, 2) := by decide +kernel
theorem dX1_change_85 : decode cX1_change 85 = .ok (.imul, 1) := by decide +kernel
theorem dX1_change_86 : decode cX1_change 86 = .ok (.iastore, 1) := by decide +kernel
theorem dX1_change_87 : decode cX1_change 87 = .ok (.iinc 5 1, 3) := by decide +kernel
theorem dX1_change_90 : decode cX1_change 90 = .ok (.iinc 6 1, 3) := by decide +kernel
theorem dX1_change_93 : decode cX1_change 93 = .ok (.goto (-69), 3) := by decide +kernel
theorem dX1_change_96 : decode cX1_change 96 = .ok (.iload 5, 2) := by decide +kernel
theorem dX1_change_98 : decode cX1_change 98 = .ok (.ireturn, 1) := by decide +kernel
theorem dX1_isCell_0 : decode cX1_isCell 0 = .ok (.iload_n 1, 1) := by decide +kernel
theorem dX1_isCell_1 : decode cX1_isCell 1 = .ok (.ifCond .lt 14, 3) := by decide +kernel
theorem dX1_isCell_4 : decode cX1_isCell 4 = .ok (.iload_n 1, 1) := by decide +kernel
theorem dX1_isCell_5 : decode cX1_isCell 5 = .ok (.sipush 256, 3) := by decide +kernel
theorem dX1_isCell_8 : decode cX1_isCell 8 = .ok (.if_icmp .ge 7, 3) := by decide +kernel
theorem dX1_isCell_11 : decode cX1_isCell 11 = .ok (.iconst 1, 1) := by decide +kernel
theorem dX1_isCell_12 : decode cX1_isCell 12 = .ok (.goto 4, 3) := by decide +kernel
theorem dX1_isCell_15 : decode cX1_isCell 15 = .ok (.iconst 0, 1) := by decide +kernel
theorem dX1_isCell_16 : decode cX1_isCell 16 = .ok (.ireturn, 1) := by decide +kernel
theorem dX1_inside_0 : decode cX1_inside 0 = .ok (.aload_n 0, 1) := by decide +kernel
theorem dX1_inside_1 : decode cX1_inside 1 = .ok (.iload_n 1, 1) := by decide +kernel
theorem dX1_inside_2 : decode cX1_inside 2 = .ok (.bipush 15, 2) := by decide +kernel
theorem dX1_inside_4 : decode cX1_inside 4 = .ok (.iand, 1) := by decide +kernel
theorem dX1_inside_5 : decode cX1_inside 5 = .ok (.iload_n 2, 1) := by decide +kernel
theorem dX1_inside_6 : decode cX1_inside 6 = .ok (.bipush 15, 2) := by decide +kernel
theorem dX1_inside_8 : decode cX1_inside 8 = .ok (.iand, 1) := by decide +kernel
theorem dX1_inside_9 : decode cX1_inside 9 = .ok (.iload_n 3, 1) := by decide +kernel
theorem dX1_inside_10 : decode cX1_inside 10 = .ok (.bipush 15, 2) := by decide +kernel
theorem dX1_inside_12 : decode cX1_inside 12 = .ok (.iand, 1) := by decide +kernel
theorem dX1_inside_13 : decode cX1_inside 13 = .ok (.invokevirtual 23, 3) := by decide +kernel
theorem dX1_inside_16 : decode cX1_inside 16 = .ok (.ifCond .eq 23, 3) := by decide +kernel
theorem dX1_inside_19 : decode cX1_inside 19 = .ok (.aload_n 0, 1) := by decide +kernel
theorem dX1_inside_20 : decode cX1_inside 20 = .ok (.iload_n 1, 1) := by decide +kernel
theorem dX1_inside_21 : decode cX1_inside 21 = .ok (.iconst 4, 1) := by decide +kernel
theorem dX1_inside_22 : decode cX1_inside 22 = .ok (.ishr, 1) := by decide +kernel
theorem dX1_inside_23 : decode cX1_inside 23 = .ok (.iload_n 2, 1) := by decide +kernel
theorem dX1_inside_24 : decode cX1_inside 24 = .ok (.iconst 4, 1) := by decide +kernel
theorem dX1_inside_25 : decode cX1_inside 25 = .ok (.ishr, 1) := by decide +kernel
theorem dX1_inside_26 : decode cX1_inside 26 = .ok (.iload_n 3, 1) := by decide +kernel
theorem dX1_inside_27 : decode cX1_inside 27 = .ok (.iconst 4, 1) := by decide +kernel
theorem dX1_inside_28 : decode cX1_inside 28 = .ok (.ishr, 1) := by decide +kernel
theorem dX1_inside_29 : decode cX1_inside 29 = .ok (.invokevirtual 23, 3) := by decide +kernel
theorem dX1_inside_32 : decode cX1_inside 32 = .ok (.ifCond .eq 7, 3) := by decide +kernel
theorem dX1_inside_35 : decode cX1_inside 35 = .ok (.iconst 1, 1) := by decide +kernel
theorem dX1_inside_36 : decode cX1_inside 36 = .ok (.goto 4, 3) := by decide +kernel
theorem dX1_inside_39 : decode cX1_inside 39 = .ok (.iconst 0, 1) := by decide +kernel
theorem dX1_inside_40 : decode cX1_inside 40 = .ok (.ireturn, 1) := by decide +kernel
theorem dX1_between_0 : decode cX1_between 0 = .ok (.iload_n 1, 1) := by decide +kernel
theorem dX1_between_1 : decode cX1_between 1 = .ok (.iload_n 2, 1) := by decide +kernel
theorem dX1_between_2 : decode cX1_between 2 = .ok (.if_icmp .lt 8, 3) := by decide +kernel
theorem dX1_between_5 : decode cX1_between 5 = .ok (.iload_n 1, 1) := by decide +kernel
theorem dX1_between_6 : decode cX1_between 6 = .ok (.iload_n 3, 1) := by decide +kernel
theorem dX1_between_7 : decode cX1_between 7 = .ok (.if_icmp .le 13, 3) := by decide +kernel
theorem dX1_between_10 : decode cX1_between 10 = .ok (.iload_n 1, 1) := by decide +kernel
theorem dX1_between_11 : decode cX1_between 11 = .ok (.iload_n 3, 1) := by decide +kernel
theorem dX1_between_12 : decode cX1_between 12 = .ok (.if_icmp .lt 12, 3) := by decide +kernel
theorem dX1_between_15 : decode cX1_between 15 = .ok (.iload_n 1, 1) := by decide +kernel
theorem dX1_between_16 : decode cX1_between 16 = .ok (.iload_n 2, 1) := by decide +kernel
theorem dX1_between_17 : decode cX1_between 17 = .ok (.if_icmp .gt 7, 3) := by decide +kernel
theorem dX1_between_20 : decode cX1_between 20 = .ok (.iconst 1, 1) := by decide +kernel
theorem dX1_between_21 : decode cX1_between 21 = .ok (.goto 4, 3) := by decide +kernel
theorem dX1_between_24 : decode cX1_between 24 = .ok (.iconst 0, 1) := by decide +kernel
theorem dX1_between_25 : decode cX1_between 25 = .ok (.ireturn, 1) := by decide +kernel
theorem dX1_add_0 : decode cX1_add 0 = .ok (.aload_n 0, 1) := by decide +kernel
theorem dX1_add_1 : decode cX1_add 1 = .ok (.iconst 1, 1) := by decide +kernel
theorem dX1_add_2 : decode cX1_add 2 = .ok (.iload_n 1, 1) := by decide +kernel
theorem dX1_add_3 : decode cX1_add 3 = .ok (.iload_n 2, 1) := by decide +kernel
theorem dX1_add_4 : decode cX1_add 4 = .ok (.iload_n 3, 1) := by decide +kernel
theorem dX1_add_5 : decode cX1_add 5 = .ok (.invokevirtual 34, 3) := by decide +kernel
theorem dX1_add_8 : decode cX1_add 8 = .ok (.ireturn, 1) := by decide +kernel
theorem dX1_scale_0 : decode cX1_scale 0 = .ok (.aload_n 0, 1) := by decide +kernel
theorem dX1_scale_1 : decode cX1_scale 1 = .ok (.iconst 2, 1) := by decide +kernel
theorem dX1_scale_2 : decode cX1_scale 2 = .ok (.iload_n 1, 1) := by decide +kernel
theorem dX1_scale_3 : decode cX1_scale 3 = .ok (.iload_n 2, 1) := by decide +kernel
theorem dX1_scale_4 : decode cX1_scale 4 = .ok (.iload_n 3, 1) := by decide +kernel
theorem dX1_scale_5 : decode cX1_scale 5 = .ok (.invokevirtual 34, 3) := by decide +kernel
theorem dX1_scale_8 : decode cX1_scale 8 = .ok (.ireturn, 1) := by decide +kernel
theorem dX1_copy_0 : decode cX1_copy 0 = .ok (.aload_n 0, 1) := by decide +kernel
theorem dX1_copy_1 : decode cX1_copy 1 = .ok (.iload_n 1, 1) := by decide +kernel
theorem dX1_copy_2 : decode cX1_copy 2 = .ok (.invokevirtual 27, 3) := by decide +kernel
theorem dX1_copy_5 : decode cX1_copy 5 = .ok (.ifCond .eq 19, 3) := by decide +kernel
theorem dX1_copy_8 : decode cX1_copy 8 = .ok (.aload_n 0, 1) := by decide +kernel
theorem dX1_copy_9 : decode cX1_copy 9 = .ok (.iload_n 2, 1) := by decide +kernel
theorem dX1_copy_10 : decode cX1_copy 10 = .ok (.invokevirtual 27, 3) := by decide +kernel
theorem dX1_copy_13 : decode cX1_copy 13 = .ok (.ifCond .eq 11, 3) := by decide +kernel
theorem dX1_copy_16 : decode cX1_copy 16 = .ok (.aload_n 0, 1) := by decide +kernel
theorem dX1_copy_17 : decode cX1_copy 17 = .ok (.iload_n 3, 1) := by decide +kernel
theorem dX1_copy_18 : decode cX1_copy 18 = .ok (.invokevirtual 27, 3) := by decide +kernel
theorem dX1_copy_21 : decode cX1_copy 21 = .ok (.ifCond .ne 5, 3) := by decide +kernel
theorem dX1_copy_24 : decode cX1_copy 24 = .ok (.iconst (-1), 1) := by decide +kernel
theorem dX1_copy_25 : decode cX1_copy 25 = .ok (.ireturn, 1) := by decide +kernel
theorem dX1_copy_26 : decode cX1_copy 26 = .ok (.iload_n 1, 1) := by decide +kernel
theorem dX1_copy_27 : decode cX1_copy 27 = .ok (.bipush 15, 2) := by decide +kernel
theorem dX1_copy_29 : decode cX1_copy 29 = .ok (.iand, 1) := by decide +kernel
theorem dX1_copy_30 : decode cX1_copy 30 = .ok (.iload_n 2, 1) := by decide +kernel
theorem dX1_copy_31 : decode cX1_copy 31 = .ok (.bipush 15, 2) := by decide +kernel
theorem dX1_copy_33 : decode cX1_copy 33 = .ok (.iand, 1) := by decide +kernel
theorem dX1_copy_34 : decode cX1_copy 34 = .ok (.if_icmp .ge 10, 3) := by decide +kernel
theorem dX1_copy_37 : decode cX1_copy 37 = .ok (.iload_n 1, 1) := by decide +kernel
theorem dX1_copy_38 : decode cX1_copy 38 = .ok (.bipush 15, 2) := by decide +kernel
theorem dX1_copy_40 : decode cX1_copy 40 = .ok (.iand, 1) := by decide +kernel
theorem dX1_copy_41 : decode cX1_copy 41 = .ok (.goto 7, 3) := by decide +kernel
theorem dX1_copy_44 : decode cX1_copy 44 = .ok (.iload_n 2, 1) := by decide +kernel
theorem dX1_copy_45 : decode cX1_copy 45 = .ok (.bipush 15, 2) := by decide +kernel
theorem dX1_copy_47 : decode cX1_copy 47 = .ok (.iand, 1) := by decide +kernel
theorem dX1_copy_48 : decode cX1_copy 48 = .ok (.istore 4, 2) := by decide +kernel
theorem dX1_copy_50 : decode cX1_copy 50 = .ok (.iload_n 1, 1) := by decide +kernel
theorem dX1_copy_51 : decode cX1_copy 51 = .ok (.iconst 4, 1) := by decide +kernel
theorem dX1_copy_52 : decode cX1_copy 52 = .ok (.ishr, 1) := by decide +kernel
theorem dX1_copy_53 : decode cX1_copy 53 = .ok (.iload_n 2, 1) := by decide +kernel
theorem dX1_copy_54 : decode cX1_copy 54 = .ok (.iconst 4, 1) := by decide +kernel
theorem dX1_copy_55 : decode cX1_copy 55 = .ok (.ishr, 1) := by decide +kernel
theorem dX1_copy_56 : decode cX1_copy 56 = .ok (.if_icmp .ge 9, 3) := by decide +kernel
theorem dX1_copy_59 : decode cX1_copy 59 = .ok (.iload_n 1, 1) := by decide +kernel
theorem dX1_copy_60 : decode cX1_copy 60 = .ok (.iconst 4, 1) := by decide +kernel
theorem dX1_copy_61 : decode cX1_copy 61 = .ok (.ishr, 1) := by decide +kernel
theorem dX1_copy_62 : decode cX1_copy 62 = .ok (.goto 6, 3) := by decide +kernel
theorem dX1_copy_65 : decode cX1_copy 65 = .ok (.iload_n 2, 1) := by decide +kernel
theorem dX1_copy_66 : decode cX1_copy 66 = .ok (.iconst 4, 1) := by decide +kernel
theorem dX1_copy_67 : decode cX1_copy 67 = .ok (.ishr, 1) := by decide +kernel
theorem dX1_copy_68 : decode cX1_copy 68 = .ok (.istore 5, 2) := by decide +kernel
theorem dX1_copy_70 : decode cX1_copy 70 = .ok (.iconst 0, 1) := by decide +kernel
theorem dX1_copy_71 : decode cX1_copy 71 = .ok (.istore 6, 2) := by decide +kernel
theorem dX1_copy_73 : decode cX1_copy 73 = .ok (.iconst 0, 1) := by decide +kernel
theorem dX1_copy_74 : decode cX1_copy 74 = .ok (.istore 7, 2) := by decide +kernel
theorem dX1_copy_76 : decode cX1_copy 76 = .ok (.iload 7, 2) := by decide +kernel
theorem dX1_copy_78 : decode cX1_copy 78 = .ok (.sipush 256, 3) := by decide +kernel
theorem dX1_copy_81 : decode cX1_copy 81 = .ok (.if_icmp .ge 23, 3) := by decide +kernel
theorem dX1_copy_84 : decode cX1_copy 84 = .ok (.aload_n 0, 1) := by decide +kernel
theorem dX1_copy_85 : decode cX1_copy 85 = .ok (.getfield 13, 3) := by decide +kernel
theorem dX1_copy_88 : decode cX1_copy 88 = .ok (.iload 7, 2) := by decide +kernel
theorem dX1_copy_90 : decode cX1_copy 90 = .ok (.aload_n 0, 1) := by decide +kernel
theorem dX1_copy_91 : decode cX1_copy 91 = .ok (.getfield 7, 3) := by decide +kernel
theorem dX1_copy_94 : decode cX1_copy 94 = .ok (.iload 7, 2) := by decide +kernel
theorem dX1_copy_96 : decode cX1_copy 96 = .ok (.iaload, 1) := by decide +kernel
theorem dX1_copy_97 : decode cX1_copy 97 = .ok (.iastore, 1) := by decide +kernel
theorem dX1_copy_98 : decode cX1_copy 98 = .ok (.iinc 7 1, 3) := by decide +kernel
theorem dX1_copy_101 : decode cX1_copy 101 = .ok (.goto (-25), 3) := by decide +kernel
theorem dX1_copy_104 : decode cX1_copy 104 = .ok (.iconst 0, 1) := by decide +kernel
theorem dX1_copy_105 : decode cX1_copy 105 = .ok (.istore 7, 2) := by decide +kernel
theorem dX1_copy_107 : decode cX1_copy 107 = .ok (.iload 7, 2) := by decide +kernel
theorem dX1_copy_109 : decode cX1_copy 109 = .ok (.sipush 256, 3) := by decide +kernel
theorem dX1_copy_112 : decode cX1_copy 112 = .ok (.if_icmp .ge 85, 3) := by decide +kernel
theorem dX1_copy_115 : decode cX1_copy 115 = .ok (.iload 7, 2) := by decide +kernel
theorem dX1_copy_117 : decode cX1_copy 117 = .ok (.bipush 15, 2) := by decide +kernel
theorem dX1_copy_119 : decode cX1_copy 119 = .ok (.iand, 1) := by decide +kernel
theorem dX1_copy_120 : decode cX1_copy 120 = .ok (.iload 4, 2) := by decide +kernel
theorem dX1_copy_122 : decode cX1_copy 122 = .ok (.isub, 1) := by decide +kernel
theorem dX1_copy_123 : decode cX1_copy 123 = .ok (.iload_n 3, 1) := by decide +kernel
theorem dX1_copy_124 : decode cX1_copy 124 = .ok (.bipush 15, 2) := by decide +kernel
theorem dX1_copy_126 : decode cX1_copy 126 = .ok (.iand, 1) := by decide +kernel
theorem dX1_copy_127 : decode cX1_copy 127 = .ok (.iadd, 1) := by decide +kernel
theorem dX1_copy_128 : decode cX1_copy 128 = .ok (.istore 8, 2) := by decide +kernel
theorem dX1_copy_130 : decode cX1_copy 130 = .ok (.iload 7, 2) := by decide +kernel
theorem dX1_copy_132 : decode cX1_copy 132 = .ok (.iconst 4, 1) := by decide +kernel
theorem dX1_copy_133 : decode cX1_copy 133 = .ok (.ishr, 1) := by decide +kernel
theorem dX1_copy_134 : decode cX1_copy 134 = .ok (.iload 5, 2) := by decide +kernel
theorem dX1_copy_136 : decode cX1_copy 136 = .ok (.isub, 1) := by decide +kernel
theorem dX1_copy_137 : decode cX1_copy 137 = .ok (.iload_n 3, 1) := by decide +kernel
theorem dX1_copy_138 : decode cX1_copy 138 = .ok (.iconst 4, 1) := by decide +kernel
theorem dX1_copy_139 : decode cX1_copy 139 = .ok (.ishr, 1) := by decide +kernel
theorem dX1_copy_140 : decode cX1_copy 140 = .ok (.iadd, 1) := by decide +kernel
theorem dX1_copy_141 : decode cX1_copy 141 = .ok (.istore 9, 2) := by decide +kernel
theorem dX1_copy_143 : decode cX1_copy 143 = .ok (.aload_n 0, 1) := by decide +kernel
theorem dX1_copy_144 : decode cX1_copy 144 = .ok (.iload 7, 2) := by decide +kernel
theorem dX1_copy_146 : decode cX1_copy 146 = .ok (.iload_n 1, 1) := by decide +kernel
theorem dX1_copy_147 : decode cX1_copy 147 = .ok (.iload_n 2, 1) := by decide +kernel
theorem dX1_copy_148 : decode cX1_copy 148 = .ok (.invokevirtual 31, 3) := by decide +kernel
theorem dX1_copy_151 : decode cX1_copy 151 = .ok (.ifCond .eq 40, 3) := by decide +kernel
theorem dX1_copy_154 : decode cX1_copy 154 = .ok (.iload 8, 2) := by decide +kernel
theorem dX1_copy_156 : decode cX1_copy 156 = .ok (.bipush 16, 2) := by decide +kernel
theorem dX1_copy_158 : decode cX1_copy 158 = .ok (.if_icmp .ge 33, 3) := by decide +kernel
theorem dX1_copy_161 : decode cX1_copy 161 = .ok (.iload 9, 2) := by decide +kernel
theorem dX1_copy_163 : decode cX1_copy 163 = .ok (.bipush 16, 2) := by decide +kernel
theorem dX1_copy_165 : decode cX1_copy 165 = .ok (.if_icmp .ge 26, 3) := by decide +kernel
theorem dX1_copy_168 : decode cX1_copy 168 = .ok (.aload_n 0, 1) := by decide +kernel
theorem dX1_copy_169 : decode cX1_copy 169 = .ok (.getfield 7, 3) := by decide +kernel
theorem dX1_copy_172 : decode cX1_copy 172 = .ok (.iload 8, 2) := by decide +kernel
theorem dX1_copy_174 : decode cX1_copy 174 = .ok (.bipush 16, 2) := by decide +kernel
theorem dX1_copy_176 : decode cX1_copy 176 = .ok (.iload 9, 2) := by decide +kernel
theorem dX1_copy_178 : decode cX1_copy 178 = .ok (.imul, 1) := by decide +kernel
theorem dX1_copy_179 : decode cX1_copy 179 = .ok (.iadd, 1) := by decide +kernel
theorem dX1_copy_180 : decode cX1_copy 180 = .ok (.aload_n 0, 1) := by decide +kernel
theorem dX1_copy_181 : decode cX1_copy 181 = .ok (.getfield 13, 3) := by decide +kernel
theorem dX1_copy_184 : decode cX1_copy 184 = .ok (.iload 7, 2) := by decide +kernel
theorem dX1_copy_186 : decode cX1_copy 186 = .ok (.iaload, 1) := by decide +kernel
theorem dX1_copy_187 : decode cX1_copy 187 = .ok (.iastore, 1) := by decide +kernel
theorem dX1_copy_188 : decode cX1_copy 188 = .ok (.iinc 6 1, 3) := by decide +kernel
theorem dX1_copy_191 : decode cX1_copy 191 = .ok (.iinc 7 1, 3) := by decide +kernel
theorem dX1_copy_194 : decode cX1_copy 194 = .ok (.goto (-87), 3) := by decide +kernel
theorem dX1_copy_197 : decode cX1_copy 197 = .ok (.iload 6, 2) := by decide +kernel
theorem dX1_copy_199 : decode cX1_copy 199 = .ok (.ireturn, 1) := by decide +kernel
theorem dX1_keep_0 : decode cX1_keep 0 = .ok (.iload_n 1, 1) := by decide +kernel
theorem dX1_keep_1 : decode cX1_keep 1 = .ok (.ifCond .lt 8, 3) := by decide +kernel
theorem dX1_keep_4 : decode cX1_keep 4 = .ok (.iload_n 1, 1) := by decide +kernel
theorem dX1_keep_5 : decode cX1_keep 5 = .ok (.iconst 3, 1) := by decide +kernel
theorem dX1_keep_6 : decode cX1_keep 6 = .ok (.if_icmp .le 6, 3) := by decide +kernel
theorem dX1_keep_9 : decode cX1_keep 9 = .ok (.bipush (-2), 2) := by decide +kernel
theorem dX1_keep_11 : decode cX1_keep 11 = .ok (.ireturn, 1) := by decide +kernel
theorem dX1_keep_12 : decode cX1_keep 12 = .ok (.aload_n 0, 1) := by decide +kernel
theorem dX1_keep_13 : decode cX1_keep 13 = .ok (.getfield 19, 3) := by decide +kernel
theorem dX1_keep_16 : decode cX1_keep 16 = .ok (.iload_n 1, 1) := by decide +kernel
theorem dX1_keep_17 : decode cX1_keep 17 = .ok (.baload, 1) := by decide +kernel
theorem dX1_keep_18 : decode cX1_keep 18 = .ok (.ifCond .eq 6, 3) := by decide +kernel
theorem dX1_keep_21 : decode cX1_keep 21 = .ok (.bipush (-3), 2) := by decide +kernel
theorem dX1_keep_23 : decode cX1_keep 23 = .ok (.ireturn, 1) := by decide +kernel
theorem dX1_keep_24 : decode cX1_keep 24 = .ok (.aload_n 0, 1) := by decide +kernel
theorem dX1_keep_25 : decode cX1_keep 25 = .ok (.getfield 19, 3) := by decide +kernel
theorem dX1_keep_28 : decode cX1_keep 28 = .ok (.iload_n 1, 1) := by decide +kernel
theorem dX1_keep_29 : decode cX1_keep 29 = .ok (.iconst 1, 1) := by decide +kernel
theorem dX1_keep_30 : decode cX1_keep 30 = .ok (.bastore, 1) := by decide +kernel
theorem dX1_keep_31 : decode cX1_keep 31 = .ok (.iconst 0, 1) := by decide +kernel
theorem dX1_keep_32 : decode cX1_keep 32 = .ok (.istore_n 2, 1) := by decide +kernel
theorem dX1_keep_33 : decode cX1_keep 33 = .ok (.iload_n 2, 1) := by decide +kernel
theorem dX1_keep_34 : decode cX1_keep 34 = .ok (.sipush 256, 3) := by decide +kernel
theorem dX1_keep_37 : decode cX1_keep 37 = .ok (.if_icmp .ge 27, 3) := by decide +kernel
theorem dX1_keep_40 : decode cX1_keep 40 = .ok (.aload_n 0, 1) := by decide +kernel
theorem dX1_keep_41 : decode cX1_keep 41 = .ok (.getfield 16, 3) := by decide +kernel
theorem dX1_keep_44 : decode cX1_keep 44 = .ok (.iload_n 1, 1) := by decide +kernel
theorem dX1_keep_45 : decode cX1_keep 45 = .ok (.sipush 256, 3) := by decide +kernel
theorem dX1_keep_48 : decode cX1_keep 48 = .ok (.imul, 1) := by decide +kernel
theorem dX1_keep_49 : decode cX1_keep 49 = .ok (.iload_n 2, 1) := by decide +kernel
theorem dX1_keep_50 : decode cX1_keep 50 = .ok (.iadd, 1) := by decide +kernel
theorem dX1_keep_51 : decode cX1_keep 51 = .ok (.aload_n 0, 1) := by decide +kernel
theorem dX1_keep_52 : decode cX1_keep 52 = .ok (.getfield 7, 3) := by decide +kernel
theorem dX1_keep_55 : decode cX1_keep 55 = .ok (.iload_n 2, 1) := by decide +kernel
theorem dX1_keep_56 : decode cX1_keep 56 = .ok (.iaload, 1) := by decide +kernel
theorem dX1_keep_57 : decode cX1_keep 57 = .ok (.iastore, 1) := by decide +kernel
theorem dX1_keep_58 : decode cX1_keep 58 = .ok (.iinc 2 1, 3) := by decide +kernel
theorem dX1_keep_61 : decode cX1_keep 61 = .ok (.goto (-28), 3) := by decide +kernel
theorem dX1_keep_64 : decode cX1_keep 64 = .ok (.iconst 0, 1) := by decide +kernel
theorem dX1_keep_65 : decode cX1_keep 65 = .ok (.ireturn, 1) := by decide +kernel
theorem dX1_restore_0 : decode cX1_restore 0 = .ok (.aload_n 0, 1) := by decide +kernel
theorem dX1_restore_1 : decode cX1_restore 1 = .ok (.iload_n 1, 1) := by decide +kernel
theorem dX1_restore_2 : decode cX1_restore 2 = .ok (.invokevirtual 38, 3) := by decide +kernel
theorem dX1_restore_5 : decode cX1_restore 5 = .ok (.istore_n 2, 1) := by decide +kernel
theorem dX1_restore_6 : decode cX1_restore 6 = .ok (.iconst 0, 1) := by decide +kernel
theorem dX1_restore_7 : decode cX1_restore 7 = .ok (.istore_n 3, 1) := by decide +kernel
theorem dX1_restore_8 : decode cX1_restore 8 = .ok (.iload_n 3, 1) := by decide +kernel
theorem dX1_restore_9 : decode cX1_restore 9 = .ok (.sipush 256, 3) := by decide +kernel
theorem dX1_restore_12 : decode cX1_restore 12 = .ok (.if_icmp .ge 31, 3) := by decide +kernel
theorem dX1_restore_15 : decode cX1_restore 15 = .ok (.iload_n 2, 1) := by decide +kernel
theorem dX1_restore_16 : decode cX1_restore 16 = .ok (.ifCond .lt 27, 3) := by decide +kernel
theorem dX1_restore_19 : decode cX1_restore 19 = .ok (.aload_n 0, 1) := by decide +kernel
theorem dX1_restore_20 : decode cX1_restore 20 = .ok (.getfield 7, 3) := by decide +kernel
theorem dX1_restore_23 : decode cX1_restore 23 = .ok (.iload_n 3, 1) := by decide +kernel
theorem dX1_restore_24 : decode cX1_restore 24 = .ok (.aload_n 0, 1) := by decide +kernel
theorem dX1_restore_25 : decode cX1_restore 25 = .ok (.getfield 16, 3) := by decide +kernel
theorem dX1_restore_28 : decode cX1_restore 28 = .ok (.iload_n 1, 1) := by decide +kernel
theorem dX1_restore_29 : decode cX1_restore 29 = .ok (.sipush 256, 3) := by decide +kernel
theorem dX1_restore_32 : decode cX1_restore 32 = .ok (.imul, 1) := by decide +kernel
theorem dX1_restore_33 : decode cX1_restore 33 = .ok (.iload_n 3, 1) := by decide +kernel
theorem dX1_restore_34 : decode cX1_restore 34 = .ok (.iadd, 1) := by decide +kernel
theorem dX1_restore_35 : decode cX1_restore 35 = .ok (.iaload, 1) := by decide +kernel
theorem dX1_restore_36 : decode cX1_restore 36 = .ok (.iastore, 1) := by decide +kernel
theorem dX1_restore_37 : decode cX1_restore 37 = .ok (.iinc 3 1, 3) := by decide +kernel
theorem dX1_restore_40 : decode cX1_restore 40 = .ok (.goto (-32), 3) := by decide +kernel
theorem dX1_restore_43 : decode cX1_restore 43 = .ok (.iload_n 2, 1) := by decide +kernel
theorem dX1_restore_44 : decode cX1_restore 44 = .ok (.ireturn, 1) := by decide +kernel
theorem dX1_differ_0 : decode cX1_differ 0 = .ok (.aload_n 0, 1) := by decide +kernel
theorem dX1_differ_1 : decode cX1_differ 1 = .ok (.iload_n 1, 1) := by decide +kernel
theorem dX1_differ_2 : decode cX1_differ 2 = .ok (.invokevirtual 42, 3) := by decide +kernel
theorem dX1_differ_5 : decode cX1_differ 5 = .ok (.ifCond .ne 6, 3) := by decide +kernel
theorem dX1_differ_8 : decode cX1_differ 8 = .ok (.bipush (-2), 2) := by decide +kernel
theorem dX1_differ_10 : decode cX1_differ 10 = .ok (.ireturn, 1) := by decide +kernel
theorem dX1_differ_11 : decode cX1_differ 11 = .ok (.iconst 0, 1) := by decide +kernel
theorem dX1_differ_12 : decode cX1_differ 12 = .ok (.istore_n 2, 1) := by decide +kernel
theorem dX1_differ_13 : decode cX1_differ 13 = .ok (.iconst 0, 1) := by decide +kernel
theorem dX1_differ_14 : decode cX1_differ 14 = .ok (.istore_n 3, 1) := by decide +kernel
theorem dX1_differ_15 : decode cX1_differ 15 = .ok (.iload_n 3, 1) := by decide +kernel
theorem dX1_differ_16 : decode cX1_differ 16 = .ok (.sipush 256, 3) := by decide +kernel
theorem dX1_differ_19 : decode cX1_differ 19 = .ok (.if_icmp .ge 33, 3) := by decide +kernel
theorem dX1_differ_22 : decode cX1_differ 22 = .ok (.aload_n 0, 1) := by decide +kernel
theorem dX1_differ_23 : decode cX1_differ 23 = .ok (.getfield 7, 3) := by decide +kernel
theorem dX1_differ_26 : decode cX1_differ 26 = .ok (.iload_n 3, 1) := by decide +kernel
theorem dX1_differ_27 : decode cX1_differ 27 = .ok (.iaload, 1) := by decide +kernel
theorem dX1_differ_28 : decode cX1_differ 28 = .ok (.aload_n 0, 1) := by decide +kernel
theorem dX1_differ_29 : decode cX1_differ 29 = .ok (.getfield 16, 3) := by decide +kernel
theorem dX1_differ_32 : decode cX1_differ 32 = .ok (.iload_n 1, 1) := by decide +kernel
theorem dX1_differ_33 : decode cX1_differ 33 = .ok (.sipush 256, 3) := by decide +kernel
theorem dX1_differ_36 : decode cX1_differ 36 = .ok (.imul, 1) := by decide +kernel
theorem dX1_differ_37 : decode cX1_differ 37 = .ok (.iload_n 3, 1) := by decide +kernel
theorem dX1_differ_38 : decode cX1_differ 38 = .ok (.iadd, 1) := by decide +kernel
theorem dX1_differ_39 : decode cX1_differ 39 = .ok (.iaload, 1) := by decide +kernel
theorem dX1_differ_40 : decode cX1_differ 40 = .ok (.if_icmp .eq 6, 3) := by decide +kernel
theorem dX1_differ_43 : decode cX1_differ 43 = .ok (.iinc 2 1, 3) := by decide +kernel
theorem dX1_differ_46 : decode cX1_differ 46 = .ok (.iinc 3 1, 3) := by decide +kernel
theorem dX1_differ_49 : decode cX1_differ 49 = .ok (.goto (-34), 3) := by decide +kernel
theorem dX1_differ_52 : decode cX1_differ 52 = .ok (.iload_n 2, 1) := by decide +kernel
theorem dX1_differ_53 : decode cX1_differ 53 = .ok (.ireturn, 1) := by decide +kernel
theorem dX1_isVersion_0 : decode cX1_isVersion 0 = .ok (.iload_n 1, 1) := by decide +kernel
theorem dX1_isVersion_1 : decode cX1_isVersion 1 = .ok (.ifCond .lt 21, 3) := by decide +kernel
theorem dX1_isVersion_4 : decode cX1_isVersion 4 = .ok (.iload_n 1, 1) := by decide +kernel
theorem dX1_isVersion_5 : decode cX1_isVersion 5 = .ok (.iconst 4, 1) := by decide +kernel
theorem dX1_isVersion_6 : decode cX1_isVersion 6 = .ok (.if_icmp .ge 16, 3) := by decide +kernel
theorem dX1_isVersion_9 : decode cX1_isVersion 9 = .ok (.aload_n 0, 1) := by decide +kernel
theorem dX1_isVersion_10 : decode cX1_isVersion 10 = .ok (.getfield 19, 3) := by decide +kernel
theorem dX1_isVersion_13 : decode cX1_isVersion 13 = .ok (.iload_n 1, 1) := by decide +kernel
theorem dX1_isVersion_14 : decode cX1_isVersion 14 = .ok (.baload, 1) := by decide +kernel
theorem dX1_isVersion_15 : decode cX1_isVersion 15 = .ok (.ifCond .eq 7, 3) := by decide +kernel
theorem dX1_isVersion_18 : decode cX1_isVersion 18 = .ok (.iconst 1, 1) := by decide +kernel
theorem dX1_isVersion_19 : decode cX1_isVersion 19 = .ok (.goto 4, 3) := by decide +kernel
theorem dX1_isVersion_22 : decode cX1_isVersion 22 = .ok (.iconst 0, 1) := by decide +kernel
theorem dX1_isVersion_23 : decode cX1_isVersion 23 = .ok (.ireturn, 1) := by decide +kernel
theorem dX1_drop_0 : decode cX1_drop 0 = .ok (.aload_n 0, 1) := by decide +kernel
theorem dX1_drop_1 : decode cX1_drop 1 = .ok (.iload_n 1, 1) := by decide +kernel
theorem dX1_drop_2 : decode cX1_drop 2 = .ok (.invokevirtual 42, 3) := by decide +kernel
theorem dX1_drop_5 : decode cX1_drop 5 = .ok (.ifCond .ne 6, 3) := by decide +kernel
theorem dX1_drop_8 : decode cX1_drop 8 = .ok (.bipush (-2), 2) := by decide +kernel
theorem dX1_drop_10 : decode cX1_drop 10 = .ok (.ireturn, 1) := by decide +kernel
theorem dX1_drop_11 : decode cX1_drop 11 = .ok (.aload_n 0, 1) := by decide +kernel
theorem dX1_drop_12 : decode cX1_drop 12 = .ok (.getfield 19, 3) := by decide +kernel
end
section
set_option maxRecDepth 100000
theorem dX1_drop_15 : decode cX1_drop 15 = .ok (.iload_n 1, 1) := by decide +kernel
theorem dX1_drop_16 : decode cX1_drop 16 = .ok (.iconst 0, 1) := by decide +kernel
theorem dX1_drop_17 : decode cX1_drop 17 = .ok (.bastore, 1) := by decide +kernel
theorem dX1_drop_18 : decode cX1_drop 18 = .ok (.iconst 0, 1) := by decide +kernel
theorem dX1_drop_19 : decode cX1_drop 19 = .ok (.ireturn, 1) := by decide +kernel
theorem dX1_get_0 : decode cX1_get 0 = .ok (.aload_n 0, 1) := by decide +kernel
theorem dX1_get_1 : decode cX1_get 1 = .ok (.iload_n 1, 1) := by decide +kernel
theorem dX1_get_2 : decode cX1_get 2 = .ok (.invokevirtual 27, 3) := by decide +kernel
theorem dX1_get_5 : decode cX1_get 5 = .ok (.ifCond .eq 12, 3) := by decide +kernel
theorem dX1_get_8 : decode cX1_get 8 = .ok (.aload_n 0, 1) := by decide +kernel
theorem dX1_get_9 : decode cX1_get 9 = .ok (.getfield 7, 3) := by decide +kernel
theorem dX1_get_12 : decode cX1_get 12 = .ok (.iload_n 1, 1) := by decide +kernel
theorem dX1_get_13 : decode cX1_get 13 = .ok (.iaload, 1) := by decide +kernel
theorem dX1_get_14 : decode cX1_get 14 = .ok (.goto 4, 3) := by decide +kernel
theorem dX1_get_17 : decode cX1_get 17 = .ok (.iconst (-1), 1) := by decide +kernel
theorem dX1_get_18 : decode cX1_get 18 = .ok (.ireturn, 1) := by decide +kernel
theorem dX1_getOf_0 : decode cX1_getOf 0 = .ok (.aload_n 0, 1) := by decide +kernel
theorem dX1_getOf_1 : decode cX1_getOf 1 = .ok (.iload_n 2, 1) := by decide +kernel
theorem dX1_getOf_2 : decode cX1_getOf 2 = .ok (.invokevirtual 27, 3) := by decide +kernel
theorem dX1_getOf_5 : decode cX1_getOf 5 = .ok (.ifCond .ne 5, 3) := by decide +kernel
theorem dX1_getOf_8 : decode cX1_getOf 8 = .ok (.iconst (-1), 1) := by decide +kernel
theorem dX1_getOf_9 : decode cX1_getOf 9 = .ok (.ireturn, 1) := by decide +kernel
theorem dX1_getOf_10 : decode cX1_getOf 10 = .ok (.aload_n 0, 1) := by decide +kernel
theorem dX1_getOf_11 : decode cX1_getOf 11 = .ok (.iload_n 1, 1) := by decide +kernel
theorem dX1_getOf_12 : decode cX1_getOf 12 = .ok (.invokevirtual 42, 3) := by decide +kernel
theorem dX1_getOf_15 : decode cX1_getOf 15 = .ok (.ifCond .eq 18, 3) := by decide +kernel
theorem dX1_getOf_18 : decode cX1_getOf 18 = .ok (.aload_n 0, 1) := by decide +kernel
theorem dX1_getOf_19 : decode cX1_getOf 19 = .ok (.getfield 16, 3) := by decide +kernel
theorem dX1_getOf_22 : decode cX1_getOf 22 = .ok (.iload_n 1, 1) := by decide +kernel
theorem dX1_getOf_23 : decode cX1_getOf 23 = .ok (.sipush 256, 3) := by decide +kernel
theorem dX1_getOf_26 : decode cX1_getOf 26 = .ok (.imul, 1) := by decide +kernel
theorem dX1_getOf_27 : decode cX1_getOf 27 = .ok (.iload_n 2, 1) := by decide +kernel
theorem dX1_getOf_28 : decode cX1_getOf 28 = .ok (.iadd, 1) := by decide +kernel
theorem dX1_getOf_29 : decode cX1_getOf 29 = .ok (.iaload, 1) := by decide +kernel
theorem dX1_getOf_30 : decode cX1_getOf 30 = .ok (.goto 5, 3) := by decide +kernel
theorem dX1_getOf_33 : decode cX1_getOf 33 = .ok (.bipush (-2), 2) := by decide +kernel
theorem dX1_getOf_35 : decode cX1_getOf 35 = .ok (.ireturn, 1) := by decide +kernel
theorem dX1_sum_0 : decode cX1_sum 0 = .ok (.aload_n 0, 1) := by decide +kernel
theorem dX1_sum_1 : decode cX1_sum 1 = .ok (.iload_n 1, 1) := by decide +kernel
theorem dX1_sum_2 : decode cX1_sum 2 = .ok (.invokevirtual 27, 3) := by decide +kernel
theorem dX1_sum_5 : decode cX1_sum 5 = .ok (.ifCond .eq 11, 3) := by decide +kernel
theorem dX1_sum_8 : decode cX1_sum 8 = .ok (.aload_n 0, 1) := by decide +kernel
theorem dX1_sum_9 : decode cX1_sum 9 = .ok (.iload_n 2, 1) := by decide +kernel
theorem dX1_sum_10 : decode cX1_sum 10 = .ok (.invokevirtual 27, 3) := by decide +kernel
theorem dX1_sum_13 : decode cX1_sum 13 = .ok (.ifCond .ne 5, 3) := by decide +kernel
theorem dX1_sum_16 : decode cX1_sum 16 = .ok (.iconst (-1), 1) := by decide +kernel
theorem dX1_sum_17 : decode cX1_sum 17 = .ok (.ireturn, 1) := by decide +kernel
theorem dX1_sum_18 : decode cX1_sum 18 = .ok (.iconst 0, 1) := by decide +kernel
theorem dX1_sum_19 : decode cX1_sum 19 = .ok (.istore_n 3, 1) := by decide +kernel
theorem dX1_sum_20 : decode cX1_sum 20 = .ok (.iconst 0, 1) := by decide +kernel
theorem dX1_sum_21 : decode cX1_sum 21 = .ok (.istore 4, 2) := by decide +kernel
theorem dX1_sum_23 : decode cX1_sum 23 = .ok (.iload 4, 2) := by decide +kernel
theorem dX1_sum_25 : decode cX1_sum 25 = .ok (.sipush 256, 3) := by decide +kernel
theorem dX1_sum_28 : decode cX1_sum 28 = .ok (.if_icmp .ge 30, 3) := by decide +kernel
theorem dX1_sum_31 : decode cX1_sum 31 = .ok (.aload_n 0, 1) := by decide +kernel
theorem dX1_sum_32 : decode cX1_sum 32 = .ok (.iload 4, 2) := by decide +kernel
theorem dX1_sum_34 : decode cX1_sum 34 = .ok (.iload_n 1, 1) := by decide +kernel
theorem dX1_sum_35 : decode cX1_sum 35 = .ok (.iload_n 2, 1) := by decide +kernel
theorem dX1_sum_36 : decode cX1_sum 36 = .ok (.invokevirtual 31, 3) := by decide +kernel
theorem dX1_sum_39 : decode cX1_sum 39 = .ok (.ifCond .eq 13, 3) := by decide +kernel
theorem dX1_sum_42 : decode cX1_sum 42 = .ok (.iload_n 3, 1) := by decide +kernel
theorem dX1_sum_43 : decode cX1_sum 43 = .ok (.aload_n 0, 1) := by decide +kernel
theorem dX1_sum_44 : decode cX1_sum 44 = .ok (.getfield 7, 3) := by decide +kernel
theorem dX1_sum_47 : decode cX1_sum 47 = .ok (.iload 4, 2) := by decide +kernel
theorem dX1_sum_49 : decode cX1_sum 49 = .ok (.iaload, 1) := by decide +kernel
theorem dX1_sum_50 : decode cX1_sum 50 = .ok (.iadd, 1) := by decide +kernel
theorem dX1_sum_51 : decode cX1_sum 51 = .ok (.istore_n 3, 1) := by decide +kernel
theorem dX1_sum_52 : decode cX1_sum 52 = .ok (.iinc 4 1, 3) := by decide +kernel
theorem dX1_sum_55 : decode cX1_sum 55 = .ok (.goto (-32), 3) := by decide +kernel
theorem dX1_sum_58 : decode cX1_sum 58 = .ok (.iload_n 3, 1) := by decide +kernel
theorem dX1_sum_59 : decode cX1_sum 59 = .ok (.ireturn, 1) := by decide +kernel
theorem dX1_greatest_0 : decode cX1_greatest 0 = .ok (.aload_n 0, 1) := by decide +kernel
theorem dX1_greatest_1 : decode cX1_greatest 1 = .ok (.iload_n 1, 1) := by decide +kernel
theorem dX1_greatest_2 : decode cX1_greatest 2 = .ok (.invokevirtual 27, 3) := by decide +kernel
theorem dX1_greatest_5 : decode cX1_greatest 5 = .ok (.ifCond .eq 11, 3) := by decide +kernel
theorem dX1_greatest_8 : decode cX1_greatest 8 = .ok (.aload_n 0, 1) := by decide +kernel
theorem dX1_greatest_9 : decode cX1_greatest 9 = .ok (.iload_n 2, 1) := by decide +kernel
theorem dX1_greatest_10 : decode cX1_greatest 10 = .ok (.invokevirtual 27, 3) := by decide +kernel
theorem dX1_greatest_13 : decode cX1_greatest 13 = .ok (.ifCond .ne 5, 3) := by decide +kernel
theorem dX1_greatest_16 : decode cX1_greatest 16 = .ok (.iconst (-1), 1) := by decide +kernel
theorem dX1_greatest_17 : decode cX1_greatest 17 = .ok (.ireturn, 1) := by decide +kernel
theorem dX1_greatest_18 : decode cX1_greatest 18 = .ok (.aload_n 0, 1) := by decide +kernel
theorem dX1_greatest_19 : decode cX1_greatest 19 = .ok (.getfield 7, 3) := by decide +kernel
theorem dX1_greatest_22 : decode cX1_greatest 22 = .ok (.iload_n 1, 1) := by decide +kernel
theorem dX1_greatest_23 : decode cX1_greatest 23 = .ok (.iaload, 1) := by decide +kernel
theorem dX1_greatest_24 : decode cX1_greatest 24 = .ok (.istore_n 3, 1) := by decide +kernel
theorem dX1_greatest_25 : decode cX1_greatest 25 = .ok (.iconst 0, 1) := by decide +kernel
theorem dX1_greatest_26 : decode cX1_greatest 26 = .ok (.istore 4, 2) := by decide +kernel
theorem dX1_greatest_28 : decode cX1_greatest 28 = .ok (.iload 4, 2) := by decide +kernel
theorem dX1_greatest_30 : decode cX1_greatest 30 = .ok (.sipush 256, 3) := by decide +kernel
theorem dX1_greatest_33 : decode cX1_greatest 33 = .ok (.if_icmp .ge 39, 3) := by decide +kernel
theorem dX1_greatest_36 : decode cX1_greatest 36 = .ok (.aload_n 0, 1) := by decide +kernel
theorem dX1_greatest_37 : decode cX1_greatest 37 = .ok (.iload 4, 2) := by decide +kernel
theorem dX1_greatest_39 : decode cX1_greatest 39 = .ok (.iload_n 1, 1) := by decide +kernel
theorem dX1_greatest_40 : decode cX1_greatest 40 = .ok (.iload_n 2, 1) := by decide +kernel
theorem dX1_greatest_41 : decode cX1_greatest 41 = .ok (.invokevirtual 31, 3) := by decide +kernel
theorem dX1_greatest_44 : decode cX1_greatest 44 = .ok (.ifCond .eq 22, 3) := by decide +kernel
theorem dX1_greatest_47 : decode cX1_greatest 47 = .ok (.aload_n 0, 1) := by decide +kernel
theorem dX1_greatest_48 : decode cX1_greatest 48 = .ok (.getfield 7, 3) := by decide +kernel
theorem dX1_greatest_51 : decode cX1_greatest 51 = .ok (.iload 4, 2) := by decide +kernel
theorem dX1_greatest_53 : decode cX1_greatest 53 = .ok (.iaload, 1) := by decide +kernel
theorem dX1_greatest_54 : decode cX1_greatest 54 = .ok (.iload_n 3, 1) := by decide +kernel
theorem dX1_greatest_55 : decode cX1_greatest 55 = .ok (.if_icmp .le 11, 3) := by decide +kernel
theorem dX1_greatest_58 : decode cX1_greatest 58 = .ok (.aload_n 0, 1) := by decide +kernel
theorem dX1_greatest_59 : decode cX1_greatest 59 = .ok (.getfield 7, 3) := by decide +kernel
theorem dX1_greatest_62 : decode cX1_greatest 62 = .ok (.iload 4, 2) := by decide +kernel
theorem dX1_greatest_64 : decode cX1_greatest 64 = .ok (.iaload, 1) := by decide +kernel
theorem dX1_greatest_65 : decode cX1_greatest 65 = .ok (.istore_n 3, 1) := by decide +kernel
theorem dX1_greatest_66 : decode cX1_greatest 66 = .ok (.iinc 4 1, 3) := by decide +kernel
theorem dX1_greatest_69 : decode cX1_greatest 69 = .ok (.goto (-41), 3) := by decide +kernel
theorem dX1_greatest_72 : decode cX1_greatest 72 = .ok (.iload_n 3, 1) := by decide +kernel
theorem dX1_greatest_73 : decode cX1_greatest 73 = .ok (.ireturn, 1) := by decide +kernel
theorem dX1_count_0 : decode cX1_count 0 = .ok (.aload_n 0, 1) := by decide +kernel
theorem dX1_count_1 : decode cX1_count 1 = .ok (.iload_n 1, 1) := by decide +kernel
theorem dX1_count_2 : decode cX1_count 2 = .ok (.invokevirtual 27, 3) := by decide +kernel
theorem dX1_count_5 : decode cX1_count 5 = .ok (.ifCond .eq 11, 3) := by decide +kernel
theorem dX1_count_8 : decode cX1_count 8 = .ok (.aload_n 0, 1) := by decide +kernel
theorem dX1_count_9 : decode cX1_count 9 = .ok (.iload_n 2, 1) := by decide +kernel
theorem dX1_count_10 : decode cX1_count 10 = .ok (.invokevirtual 27, 3) := by decide +kernel
theorem dX1_count_13 : decode cX1_count 13 = .ok (.ifCond .ne 5, 3) := by decide +kernel
theorem dX1_count_16 : decode cX1_count 16 = .ok (.iconst (-1), 1) := by decide +kernel
theorem dX1_count_17 : decode cX1_count 17 = .ok (.ireturn, 1) := by decide +kernel
theorem dX1_count_18 : decode cX1_count 18 = .ok (.iconst 0, 1) := by decide +kernel
theorem dX1_count_19 : decode cX1_count 19 = .ok (.istore 4, 2) := by decide +kernel
theorem dX1_count_21 : decode cX1_count 21 = .ok (.iconst 0, 1) := by decide +kernel
theorem dX1_count_22 : decode cX1_count 22 = .ok (.istore 5, 2) := by decide +kernel
theorem dX1_count_24 : decode cX1_count 24 = .ok (.iload 5, 2) := by decide +kernel
theorem dX1_count_26 : decode cX1_count 26 = .ok (.sipush 256, 3) := by decide +kernel
theorem dX1_count_29 : decode cX1_count 29 = .ok (.if_icmp .ge 34, 3) := by decide +kernel
theorem dX1_count_32 : decode cX1_count 32 = .ok (.aload_n 0, 1) := by decide +kernel
theorem dX1_count_33 : decode cX1_count 33 = .ok (.iload 5, 2) := by decide +kernel
theorem dX1_count_35 : decode cX1_count 35 = .ok (.iload_n 1, 1) := by decide +kernel
theorem dX1_count_36 : decode cX1_count 36 = .ok (.iload_n 2, 1) := by decide +kernel
theorem dX1_count_37 : decode cX1_count 37 = .ok (.invokevirtual 31, 3) := by decide +kernel
theorem dX1_count_40 : decode cX1_count 40 = .ok (.ifCond .eq 17, 3) := by decide +kernel
theorem dX1_count_43 : decode cX1_count 43 = .ok (.aload_n 0, 1) := by decide +kernel
theorem dX1_count_44 : decode cX1_count 44 = .ok (.getfield 7, 3) := by decide +kernel
theorem dX1_count_47 : decode cX1_count 47 = .ok (.iload 5, 2) := by decide +kernel
theorem dX1_count_49 : decode cX1_count 49 = .ok (.iaload, 1) := by decide +kernel
theorem dX1_count_50 : decode cX1_count 50 = .ok (.iload_n 3, 1) := by decide +kernel
theorem dX1_count_51 : decode cX1_count 51 = .ok (.if_icmp .ne 6, 3) := by decide +kernel
theorem dX1_count_54 : decode cX1_count 54 = .ok (.iinc 4 1, 3) := by decide +kernel
theorem dX1_count_57 : decode cX1_count 57 = .ok (.iinc 5 1, 3) := by decide +kernel
theorem dX1_count_60 : decode cX1_count 60 = .ok (.goto (-36), 3) := by decide +kernel
theorem dX1_count_63 : decode cX1_count 63 = .ok (.iload 4, 2) := by decide +kernel
theorem dX1_count_65 : decode cX1_count 65 = .ok (.ireturn, 1) := by decide +kernel
end
section
/-! GENERIC WALKING ROWS: worlds that are a function of a pure state, contracts that answer and move that state by pure functions -/
abbrev ca_S : Type := Nat → Nat → Int32
abbrev gw_cl : List vw_C := [(RX0, TX0, 15), (RX1, TX1, 4)]
def gw_W (D : va_G) (A : Nat → Prop) (H0 : Heap) (wl : ca_S → va_W) (σ : ca_S) (H : Heap) (locs : List Loc) : Prop := va_P D gw_cl (wl σ) H ∧ va_D A (wl σ) ∧ va_S A H0 H locs
def gw_cx (p : Program) (s : State) (m : MethodId) (args : Array Value) (c : Code) (cc : ByteArray) (nL : Nat) (own : String) (D : va_G) (tys : List (ClassId × FieldType)) (A : Nat → Prop) : Prop :=
  p.tables.exec = Jvm.exec ∧ c.code = cc ∧ c.maxLocals = nL ∧ s.vm.findClass own = some m.cls ∧ (∀ w ∈ lw_all, w.before args s = true) ∧ va_K D gw_cl tys s ∧ (∀ q : Nat, s.heap.size ≤ q → A q)
def gw_Pc (D : va_G) (tys : List (ClassId × FieldType)) (wl : ca_S → va_W) (sz : Nat) (σ : ca_S) : State → Prop := fun U => U.heap.size = sz ∧ va_P D gw_cl (wl σ) U.heap ∧ va_K D gw_cl tys U ∧ va_D (fun _ => True) (wl σ)
def gw_B (D : va_G) (tys : List (ClassId × FieldType)) (wl : ca_S → va_W) (A : Nat → Prop) (u : ca_S) (t : State) : Prop := va_P D gw_cl (wl u) t.heap ∧ va_K D gw_cl tys t ∧ va_D A (wl u)
/-- a method of an object with an int or boolean answer: it answers rv, the state σ becomes σv -/
def gw_MI (l : Launch) (D : va_G) (tys : List (ClassId × FieldType)) (wl : ca_S → va_W) (h : Nat) (y : MethodName) (cb : ByteArray) (mL : Nat) (ret : FieldType) (rm : Room) (As : List Value) (σ : ca_S) (rv : Int32) (σv : ca_S) : Prop :=
  ∀ sz : Nat, Met l y (ws_ y cb mL (some ret)) rm (va_Pc (.ref h :: As) (gw_Pc D tys wl sz σ)) (va_Qi (fun (r : Int32) (u : ca_S) => r = rv ∧ u = σv) (gw_B D tys wl (va_A (wl σ) sz)) (va_A (wl σ) sz)) 0 0 (va_A (wl σ) sz)
def gw_MV (l : Launch) (D : va_G) (tys : List (ClassId × FieldType)) (wl : ca_S → va_W) (h : Nat) (y : MethodName) (cb : ByteArray) (mL : Nat) (rm : Room) (As : List Value) (σ : ca_S) (σv : ca_S) : Prop :=
  ∀ sz : Nat, Met l y (ws_ y cb mL none) rm (va_Pc (.ref h :: As) (gw_Pc D tys wl sz σ)) (va_Qv (fun (u : ca_S) => u = σv) (gw_B D tys wl (va_A (wl σ) sz)) (va_A (wl σ) sz)) 0 0 (va_A (wl σ) sz)
/-- a static method that reads nothing -/
def gw_MS (l : Launch) (y : MethodName) (cb : ByteArray) (mL : Nat) (ret : FieldType) (rm : Room) (As : List Value) (rv : Int32) : Prop :=
  Met l y (ws_ y cb mL (some ret)) rm (fun v _ => v = As.toArray) (QcRead rv) 0 0 (fun _ => False)
theorem gw_blind {D : va_G} {tys : List (ClassId × FieldType)} {wl : ca_S → va_W} {sz : Nat} {σ : ca_S} {av : List Value} : FrameBlind (va_Pc av (gw_Pc D tys wl sz σ)) := by
  intro a U g mk q
  obtain ⟨q0, q1, qP, qK, qD⟩ := q
  exact ⟨q0, q1, qP, va_K.moved (u := U) (U := U.calling g mk a) (Vm.Alike.refl U.vm) qK, qD⟩
theorem gw_entI {l : Launch} {D : va_G} {tys : List (ClassId × FieldType)} {wl : ca_S → va_W} {h : Nat} {y : MethodName} {cc : ByteArray} {nL : Nat} {ret : FieldType} {rm : Room} {As : List Value} {σ σv : ca_S} {rv : Int32}
    (hpn : plainName y.cls = true) (hlen : (lg_sl (Value.ref h :: As)).length ≤ nL) (hnar : narrow ret (.int rv) = .int rv)
    (body : ∀ (p : Program) (e : Env) (s : State) (m : MethodId) (args : Array Value) (below : List Frame) (meth : Method) (c : Code) (A : Nat → Prop) (Q : State → Prop), gw_cx p s m args c cc nL y.cls D tys A →
      (∀ {pc : Nat} {H : Heap} {locs : List Loc} {ls : Array Slot} {v : Int32} {u : ca_S}, decode cc pc = .ok (.ireturn, 1) → v = rv → u = σv → gw_W D A s.heap wl u H locs → W p l e rm s m args below meth c H locs 0 0 Q (F0 m pc ls [.int v])) →
      ∀ ls : Array Slot, lv_has ls nL (lv_args 0 (Value.ref h :: As)) → gw_W D A s.heap wl σ s.heap [] → W p l e rm s m args below meth c s.heap [] 0 0 Q (F0 m 0 ls [])) :
    gw_MI l D tys wl h y cc nL ret rm As σ rv σv := by
  intro sz
  refine Met.ofW (cc := cc) (maxL := nL) (ret := some ret) hpn rfl ?_
  intro p e s m args below meth c s₁ B hml hv
  obtain ⟨rfl, hsz, hP, hK, hD0⟩ := hv
  have hts := atoms_spec (ws := ws_ y cc nL (some ret)) B.pre
  have hts : ∀ w ∈ lw_all, w.before _ s = true := fun w h => hts w (List.mem_cons_of_mem _ h)
  have hown : s.vm.findClass y.cls = some m.cls := findClass_of_methodNamed B.named
  have hlocks := B.notSynchronized
  subst hsz
  have hD := hD0.self (sz := s.heap.size)
  rw [lg_entry_eq]
  refine body p e s m _ below meth c (va_A (wl σ) s.heap.size) _ ⟨B.exec, B.bytes, hml, hown, hts, hK, fun q h => Or.inr h⟩ ?_ _ (lv_entry (Value.ref h :: As) hlen) ⟨hP, hD, va_S.rf⟩
  intro pc H locs ls v u hdg hv hu hw
  subst hv; subst hu
  exact W.zret (v := v) B.exec B.bytes B.returns hnar (fun t ht hW => ⟨⟨v, u, rfl, ⟨rfl, rfl⟩, by rw [ht]; exact hw.1, va_K.moved hW.alike hK, hw.2.1⟩, hw.2.2.F ht⟩) hw.2.2.2.2 hdg
theorem gw_entV {l : Launch} {D : va_G} {tys : List (ClassId × FieldType)} {wl : ca_S → va_W} {h : Nat} {y : MethodName} {cc : ByteArray} {nL : Nat} {rm : Room} {As : List Value} {σ σv : ca_S}
    (hpn : plainName y.cls = true) (hlen : (lg_sl (Value.ref h :: As)).length ≤ nL)
    (body : ∀ (p : Program) (e : Env) (s : State) (m : MethodId) (args : Array Value) (below : List Frame) (meth : Method) (c : Code) (A : Nat → Prop) (Q : State → Prop), gw_cx p s m args c cc nL y.cls D tys A →
      (∀ {pc : Nat} {H : Heap} {locs : List Loc} {ls : Array Slot} {u : ca_S}, decode cc pc = .ok (.return_, 1) → u = σv → gw_W D A s.heap wl u H locs → W p l e rm s m args below meth c H locs 0 0 Q (F0 m pc ls [])) →
      ∀ ls : Array Slot, lv_has ls nL (lv_args 0 (Value.ref h :: As)) → gw_W D A s.heap wl σ s.heap [] → W p l e rm s m args below meth c s.heap [] 0 0 Q (F0 m 0 ls [])) :
    gw_MV l D tys wl h y cc nL rm As σ σv := by
  intro sz
  refine Met.ofW (cc := cc) (maxL := nL) (ret := none) hpn rfl ?_
  intro p e s m args below meth c s₁ B hml hv
  obtain ⟨rfl, hsz, hP, hK, hD0⟩ := hv
  have hts := atoms_spec (ws := ws_ y cc nL none) B.pre
  have hts : ∀ w ∈ lw_all, w.before _ s = true := fun w h => hts w (List.mem_cons_of_mem _ h)
  have hown : s.vm.findClass y.cls = some m.cls := findClass_of_methodNamed B.named
  have hlocks := B.notSynchronized
  subst hsz
  have hD := hD0.self (sz := s.heap.size)
  rw [lg_entry_eq]
  refine body p e s m _ below meth c (va_A (wl σ) s.heap.size) _ ⟨B.exec, B.bytes, hml, hown, hts, hK, fun q h => Or.inr h⟩ ?_ _ (lv_entry (Value.ref h :: As) hlen) ⟨hP, hD, va_S.rf⟩
  intro pc H locs ls u hdg hu hw
  subst hu
  exact W.vret B.exec B.bytes B.returns (fun t ht hW => ⟨⟨u, rfl, rfl, by rw [ht]; exact hw.1, va_K.moved hW.alike hK, hw.2.1⟩, hw.2.2.F ht⟩) hw.2.2.2.2 hdg
theorem gw_entS {l : Launch} {y : MethodName} {cc : ByteArray} {nL : Nat} {ret : FieldType} {rm : Room} {As : List Value} {rv : Int32}
    (hpn : plainName y.cls = true) (hlen : (lg_sl As).length ≤ nL) (hnar : narrow ret (.int rv) = .int rv)
    (body : ∀ (p : Program) (e : Env) (s : State) (m : MethodId) (args : Array Value) (below : List Frame) (meth : Method) (c : Code) (H : Heap) (locs : List Loc) (Q : State → Prop), p.tables.exec = Jvm.exec → c.code = cc →
      (∀ {pc : Nat} {ls : Array Slot} {v : Int32}, decode cc pc = .ok (.ireturn, 1) → v = rv → W p l e rm s m args below meth c H locs 0 0 Q (F0 m pc ls [.int v])) →
      ∀ ls : Array Slot, lv_has ls nL (lv_args 0 As) → W p l e rm s m args below meth c H locs 0 0 Q (F0 m 0 ls [])) :
    gw_MS l y cc nL ret rm As rv := by
  refine Met.ofW (cc := cc) (maxL := nL) (ret := some ret) hpn rfl ?_
  intro p e s m args below meth c s₁ B hml hv
  subst hv
  have hlocks := B.notSynchronized
  rw [lg_entry_eq]
  refine body p e s m _ below meth c s.heap [] _ B.exec B.bytes ?_ _ (lv_entry As hlen)
  intro pc ls v hdg hv
  subst hv
  exact W.zret (v := v) B.exec B.bytes B.returns hnar (fun t ht hW => ⟨rfl, ht⟩) (fun q hq => by cases hq) hdg
/-- what a caller knows of a callee by the tables -/
def gw_cal (own : String) (idx : Nat) (C : String) (y : MethodName) (cb : ByteArray) (mL : Nat) (ret : Option FieldType) (n : Nat) : Prop := GoodIn lw_all (wsV own idx C y (ws_ y cb mL ret)) ∧ (y.cls = C ∧ y.cls ≠ "java/lang/invoke/MethodHandle" ∧ y.cls ≠ "java/lang/invoke/VarHandle" ∧ (parseMethodDescriptor y.desc).map (fun d => d.parameters.length) = some n)
def gw_calS (own : String) (idx : Nat) (y : MethodName) (cb : ByteArray) (mL : Nat) (ret : Option FieldType) (n : Nat) : Prop := GoodIn lw_all (va_wsS own idx y (ws_ y cb mL ret)) ∧ (y.cls ≠ "java/lang/invoke/MethodHandle" ∧ y.cls ≠ "java/lang/invoke/VarHandle" ∧ (parseMethodDescriptor y.desc).map (fun d => d.parameters.length) = some n)
def gw_fit (rm R : Room) (mL : Nat) : Prop := rm.frames + 1 ≤ R.frames ∧ 8 + (mL + 11) + rm.locals ≤ R.locals ∧ rm.cells = 0 ∧ rm.slots = 0
/-- the receiver's cell stands first in its world -/
def gw_rec (wl : ca_S → va_W) (h : Nat) (C : String) : Prop := ∃ (ci : Nat) (T : u_T) (N : Nat), gw_cl[ci]? = some (C, T, N) ∧ ∀ σ : ca_S, ∃ fs : List Value, (wl σ)[0]? = some (h, .inr (ci, fs))
section GWC
variable {p : Program} {l : Launch} {e : Env} {R : Room} {s : State} {m : MethodId} {args : Array Value} {below : List Frame} {meth : Method} {c : Code} {H : Heap} {locs : List Loc} {cells slots : Nat} {Q : State → Prop}
variable {cc cb : ByteArray} {nL mL idx n pc h : Nat} {own C : String} {D : va_G} {tys : List (ClassId × FieldType)} {A : Nat → Prop} {wl : ca_S → va_W} {y : MethodName} {ret : FieldType} {rm : Room} {As rest st0 : List Value} {σ σv : ca_S} {rv : Int32} {ls : Array Slot}
theorem gw_calli (cx : gw_cx p s m args c cc nL own D tys A) (hM : gw_MI l D tys wl h y cb mL ret rm As σ rv σv) (hcal : gw_cal own idx C y cb mL (some ret) n) (hrec : gw_rec wl h C) (hfit : gw_fit rm R mL) (hls : ls.size = nL) (hst : st0 = As.reverse ++ Value.ref h :: rest) (hn : As.length = n) (hroom : (rest.map fun v => v.category).sum ≤ 8) (hdg : decode cc pc = .ok (.invokevirtual idx, 3)) (hf : cells ≤ R.cells ∧ slots ≤ R.slots) (hw : gw_W D A s.heap wl σ H locs)
    (kk : ∀ (H1 : Heap) (locs1 : List Loc), gw_W D A s.heap wl σv H1 locs1 → W p l e R s m args below meth c H1 locs1 cells slots Q (F0 m (pc + 3) ls (.int rv :: rest))) : W p l e R s m args below meth c H locs cells slots Q (F0 m pc ls st0) := by
  obtain ⟨hx, hb, hml, hown, hts, hK, hA⟩ := cx
  obtain ⟨hP, hD, hS⟩ := hw
  obtain ⟨ci, T, N, hc, hr⟩ := hrec
  obtain ⟨fs, hfs⟩ := hr σ
  obtain ⟨hfr, hlo, hrc, hrs⟩ := hfit
  have hFc : ∀ q : Nat, va_A (wl σ) H.size q → A q := by
    intro q hq
    rcases hq with ⟨k, e, hk⟩ | hq
    · exact hD.2 k _ hk
    · exact hA q (Nat.le_trans hS.1 hq)
  refine va_calli (va_runV (As := As) (rest := rest) (b := h) (C := C) ⟨hx, hb, hml, hown, hts⟩ (hM H.size) (cwV n hts hcal.1 rfl hrc hrs hcal.2 ⟨hfr, hlo⟩) ⟨gw_blind, va_recv hK hP hc hfs, fun U hU hW => ⟨rfl, by rw [hU], by rw [hU]; exact hP, va_K.moved hW.alike hK, hD.weaken (fun _ _ _ _ => trivial)⟩⟩ rfl hn hls hst (lv_room hroom) hdg hf) hS (fun q _ h => hFc q h) hFc (fun r u t H1 locs1 ht hvm hpost hB hz1 hk1 hS1 => ?_)
  obtain ⟨rfl, rfl⟩ := hpost
  obtain ⟨hP1, hK1, hD1⟩ := hB
  rw [ht] at hP1
  exact kk H1 locs1 ⟨hP1, hD1.weaken (fun k q _ hq => hFc q.1 hq), hS1⟩
theorem gw_callv (cx : gw_cx p s m args c cc nL own D tys A) (hM : gw_MV l D tys wl h y cb mL rm As σ σv) (hcal : gw_cal own idx C y cb mL none n) (hrec : gw_rec wl h C) (hfit : gw_fit rm R mL) (hls : ls.size = nL) (hst : st0 = As.reverse ++ Value.ref h :: rest) (hn : As.length = n) (hroom : (rest.map fun v => v.category).sum ≤ 8) (hdg : decode cc pc = .ok (.invokevirtual idx, 3)) (hf : cells ≤ R.cells ∧ slots ≤ R.slots) (hw : gw_W D A s.heap wl σ H locs)
    (kk : ∀ (H1 : Heap) (locs1 : List Loc), gw_W D A s.heap wl σv H1 locs1 → W p l e R s m args below meth c H1 locs1 cells slots Q (F0 m (pc + 3) ls rest)) : W p l e R s m args below meth c H locs cells slots Q (F0 m pc ls st0) := by
  obtain ⟨hx, hb, hml, hown, hts, hK, hA⟩ := cx
  obtain ⟨hP, hD, hS⟩ := hw
  obtain ⟨ci, T, N, hc, hr⟩ := hrec
  obtain ⟨fs, hfs⟩ := hr σ
  obtain ⟨hfr, hlo, hrc, hrs⟩ := hfit
  have hFc : ∀ q : Nat, va_A (wl σ) H.size q → A q := by
    intro q hq
    rcases hq with ⟨k, e, hk⟩ | hq
    · exact hD.2 k _ hk
    · exact hA q (Nat.le_trans hS.1 hq)
  refine va_callv (va_runV (As := As) (rest := rest) (b := h) (C := C) ⟨hx, hb, hml, hown, hts⟩ (hM H.size) (cwV n hts hcal.1 rfl hrc hrs hcal.2 ⟨hfr, hlo⟩) ⟨gw_blind, va_recv hK hP hc hfs, fun U hU hW => ⟨rfl, by rw [hU], by rw [hU]; exact hP, va_K.moved hW.alike hK, hD.weaken (fun _ _ _ _ => trivial)⟩⟩ rfl hn hls hst (lv_room hroom) hdg hf) hS (fun q _ h => hFc q h) hFc (fun u t H1 locs1 ht hvm hpost hB hz1 hk1 hS1 => ?_)
  have hpost : u = σv := hpost
  subst hpost
  obtain ⟨hP1, hK1, hD1⟩ := hB
  rw [ht] at hP1
  exact kk H1 locs1 ⟨hP1, hD1.weaken (fun k q _ hq => hFc q.1 hq), hS1⟩
theorem gw_calls (cx : gw_cx p s m args c cc nL own D tys A) (hM : gw_MS l y cb mL ret rm As rv) (hcal : gw_calS own idx y cb mL (some ret) n) (hfit : gw_fit rm R mL) (hls : ls.size = nL) (hst : st0 = As.reverse ++ rest) (hn : As.length = n) (hroom : (rest.map fun v => v.category).sum ≤ 8) (hdg : decode cc pc = .ok (.invokestatic idx, 3)) (hf : cells ≤ R.cells ∧ slots ≤ R.slots)
    (kk : W p l e R s m args below meth c H locs cells slots Q (F0 m (pc + 3) ls (.int rv :: rest))) : W p l e R s m args below meth c H locs cells slots Q (F0 m pc ls st0) := by
  obtain ⟨hx, hb, hml, hown, hts, hK, hA⟩ := cx
  obtain ⟨hfr, hlo, hrc, hrs⟩ := hfit
  exact W.callR (W.runS (As := As) (rest := rest) ⟨hx, hb, hml, hown, hts⟩ hM (va_cwS n hts hcal.1 rfl hrc hrs hcal.2 ⟨hfr, hlo⟩) preEq rfl hn hls hst (lv_room hroom) hdg hf) kk
/-- the number on top, under another name -/
theorem gw_top {v w : Int32} (hv : v = w) (k : W p l e R s m args below meth c H locs cells slots Q (F0 m pc ls (.int w :: rest))) : W p l e R s m args below meth c H locs cells slots Q (F0 m pc ls (.int v :: rest)) := by
  subst hv
  exact k
/-! numbers that are nI of a natural number -/
theorem nw_add (hx : p.tables.exec = Jvm.exec) (hb : c.code = cc) {a b : Nat} (hdg : decode cc pc = .ok (.iadd, 1)) (k : W p l e R s m args below meth c H locs cells slots Q (F0 m (pc + 1) ls (.int (nI (a + b)) :: rest))) : W p l e R s m args below meth c H locs cells slots Q (F0 m pc ls (.int (nI b) :: .int (nI a) :: rest)) :=
  lv_iadd hx hb hdg (by rw [nI_add]; exact k)
theorem nw_mul (hx : p.tables.exec = Jvm.exec) (hb : c.code = cc) {a b : Nat} (hdg : decode cc pc = .ok (.imul, 1)) (k : W p l e R s m args below meth c H locs cells slots Q (F0 m (pc + 1) ls (.int (nI (a * b)) :: rest))) : W p l e R s m args below meth c H locs cells slots Q (F0 m pc ls (.int (nI b) :: .int (nI a) :: rest)) :=
  lv_imul hx hb hdg (by rw [pk_mul]; exact k)
theorem nw_sub (hx : p.tables.exec = Jvm.exec) (hb : c.code = cc) {a b : Nat} (hdg : decode cc pc = .ok (.isub, 1)) (h : b ≤ a) (k : W p l e R s m args below meth c H locs cells slots Q (F0 m (pc + 1) ls (.int (nI (a - b)) :: rest))) : W p l e R s m args below meth c H locs cells slots Q (F0 m pc ls (.int (nI b) :: .int (nI a) :: rest)) :=
  lv_isub hx hb hdg (by rw [pk_sub h]; exact k)
theorem nw_div4 (hx : p.tables.exec = Jvm.exec) (hb : c.code = cc) {a : Nat} (hdg : decode cc pc = .ok (.idiv, 1)) (ha : a < 2 ^ 31) (k : W p l e R s m args below meth c H locs cells slots Q (F0 m (pc + 1) ls (.int (nI (a / 4)) :: rest))) : W p l e R s m args below meth c H locs cells slots Q (F0 m pc ls (.int (nI 4) :: .int (nI a) :: rest)) :=
  lv_idiv hx hb hdg (by decide) (by rw [pk_div ha (by decide) (by decide)]; exact k)
theorem nw_rem4 (hx : p.tables.exec = Jvm.exec) (hb : c.code = cc) {a : Nat} (hdg : decode cc pc = .ok (.irem, 1)) (ha : a < 2 ^ 31) (k : W p l e R s m args below meth c H locs cells slots Q (F0 m (pc + 1) ls (.int (nI (a % 4)) :: rest))) : W p l e R s m args below meth c H locs cells slots Q (F0 m pc ls (.int (nI 4) :: .int (nI a) :: rest)) :=
  lv_irem hx hb hdg (by decide) (by rw [pk_rem ha (by decide) (by decide)]; exact k)
theorem nw_and15 (hx : p.tables.exec = Jvm.exec) (hb : c.code = cc) {a : Nat} (hdg : decode cc pc = .ok (.iand, 1)) (ha : a < 2 ^ 32) (k : W p l e R s m args below meth c H locs cells slots Q (F0 m (pc + 1) ls (.int (nI (a % 16)) :: rest))) : W p l e R s m args below meth c H locs cells slots Q (F0 m pc ls (.int (nI 15) :: .int (nI a) :: rest)) :=
  lv_iand hx hb hdg (by rw [pk_andN ha (m := nI 15) 4 (by decide)]; exact k)
theorem nw_and3 (hx : p.tables.exec = Jvm.exec) (hb : c.code = cc) {a : Nat} (hdg : decode cc pc = .ok (.iand, 1)) (ha : a < 2 ^ 32) (k : W p l e R s m args below meth c H locs cells slots Q (F0 m (pc + 1) ls (.int (nI (a % 4)) :: rest))) : W p l e R s m args below meth c H locs cells slots Q (F0 m pc ls (.int (nI 3) :: .int (nI a) :: rest)) :=
  lv_iand hx hb hdg (by rw [pk_andN ha (m := nI 3) 2 (by decide)]; exact k)
theorem nw_shr2 (hx : p.tables.exec = Jvm.exec) (hb : c.code = cc) {a : Nat} (hdg : decode cc pc = .ok (.ishr, 1)) (ha : a < 2 ^ 31) (k : W p l e R s m args below meth c H locs cells slots Q (F0 m (pc + 1) ls (.int (nI (a / 4)) :: rest))) : W p l e R s m args below meth c H locs cells slots Q (F0 m pc ls (.int (nI 2) :: .int (nI a) :: rest)) :=
  lv_ishr hx hb hdg (by rw [pk_shrN ha (nI 2 &&& 31) 2 (by decide)]; exact k)
theorem nw_shr4 (hx : p.tables.exec = Jvm.exec) (hb : c.code = cc) {a : Nat} (hdg : decode cc pc = .ok (.ishr, 1)) (ha : a < 2 ^ 31) (k : W p l e R s m args below meth c H locs cells slots Q (F0 m (pc + 1) ls (.int (nI (a / 16)) :: rest))) : W p l e R s m args below meth c H locs cells slots Q (F0 m pc ls (.int (nI 4) :: .int (nI a) :: rest)) :=
  lv_ishr hx hb hdg (by rw [pk_shrN ha (nI 4 &&& 31) 4 (by decide)]; exact k)
theorem nw_ge (hx : p.tables.exec = Jvm.exec) (hb : c.code = cc) {a b : Nat} {off : Int} {tgt : Nat} (hdg : decode cc pc = .ok (.if_icmp .ge off, 3)) (ht : (pc : Int) + off = (tgt : Int)) (ha : a < 2 ^ 31) (hb2 : b < 2 ^ 31) (kt : b ≤ a → W p l e R s m args below meth c H locs cells slots Q (F0 m tgt ls rest)) (kf : a < b → W p l e R s m args below meth c H locs cells slots Q (F0 m (pc + 3) ls rest)) : W p l e R s m args below meth c H locs cells slots Q (F0 m pc ls (.int (nI b) :: .int (nI a) :: rest)) := by
  exact lv_icmp_ge hx hb hdg ht (fun q => kt ((nI_leI hb2 ha).mp q)) (fun q => kf (Nat.lt_of_not_le fun z => q ((nI_leI hb2 ha).mpr z)))
theorem nw_geT (hx : p.tables.exec = Jvm.exec) (hb : c.code = cc) {a b : Nat} {off : Int} {tgt : Nat} (hdg : decode cc pc = .ok (.if_icmp .ge off, 3)) (ht : (pc : Int) + off = (tgt : Int)) (ha : a < 2 ^ 31) (hb2 : b < 2 ^ 31) (hc : b ≤ a) (kt : W p l e R s m args below meth c H locs cells slots Q (F0 m tgt ls rest)) : W p l e R s m args below meth c H locs cells slots Q (F0 m pc ls (.int (nI b) :: .int (nI a) :: rest)) :=
  nw_ge hx hb hdg ht ha hb2 (fun _ => kt) (fun q => absurd hc (by omega))
theorem nw_geF (hx : p.tables.exec = Jvm.exec) (hb : c.code = cc) {a b : Nat} {off : Int} {tgt : Nat} (hdg : decode cc pc = .ok (.if_icmp .ge off, 3)) (ht : (pc : Int) + off = (tgt : Int)) (ha : a < 2 ^ 31) (hb2 : b < 2 ^ 31) (hc : a < b) (kf : W p l e R s m args below meth c H locs cells slots Q (F0 m (pc + 3) ls rest)) : W p l e R s m args below meth c H locs cells slots Q (F0 m pc ls (.int (nI b) :: .int (nI a) :: rest)) :=
  nw_ge hx hb hdg ht ha hb2 (fun q => absurd hc (by omega)) (fun _ => kf)
theorem nw_gt (hx : p.tables.exec = Jvm.exec) (hb : c.code = cc) {a b : Nat} {off : Int} {tgt : Nat} (hdg : decode cc pc = .ok (.if_icmp .gt off, 3)) (ht : (pc : Int) + off = (tgt : Int)) (ha : a < 2 ^ 31) (hb2 : b < 2 ^ 31) (kt : b < a → W p l e R s m args below meth c H locs cells slots Q (F0 m tgt ls rest)) (kf : a ≤ b → W p l e R s m args below meth c H locs cells slots Q (F0 m (pc + 3) ls rest)) : W p l e R s m args below meth c H locs cells slots Q (F0 m pc ls (.int (nI b) :: .int (nI a) :: rest)) := by
  exact lv_icmp_gt hx hb hdg ht (fun q => kt ((nI_ltI hb2 ha).mp q)) (fun q => kf (Nat.le_of_not_lt fun z => q ((nI_ltI hb2 ha).mpr z)))
theorem nw_gtT (hx : p.tables.exec = Jvm.exec) (hb : c.code = cc) {a b : Nat} {off : Int} {tgt : Nat} (hdg : decode cc pc = .ok (.if_icmp .gt off, 3)) (ht : (pc : Int) + off = (tgt : Int)) (ha : a < 2 ^ 31) (hb2 : b < 2 ^ 31) (hc : b < a) (kt : W p l e R s m args below meth c H locs cells slots Q (F0 m tgt ls rest)) : W p l e R s m args below meth c H locs cells slots Q (F0 m pc ls (.int (nI b) :: .int (nI a) :: rest)) :=
  nw_gt hx hb hdg ht ha hb2 (fun _ => kt) (fun q => absurd hc (by omega))
theorem nw_gtF (hx : p.tables.exec = Jvm.exec) (hb : c.code = cc) {a b : Nat} {off : Int} {tgt : Nat} (hdg : decode cc pc = .ok (.if_icmp .gt off, 3)) (ht : (pc : Int) + off = (tgt : Int)) (ha : a < 2 ^ 31) (hb2 : b < 2 ^ 31) (hc : a ≤ b) (kf : W p l e R s m args below meth c H locs cells slots Q (F0 m (pc + 3) ls rest)) : W p l e R s m args below meth c H locs cells slots Q (F0 m pc ls (.int (nI b) :: .int (nI a) :: rest)) :=
  nw_gt hx hb hdg ht ha hb2 (fun q => absurd hc (by omega)) (fun _ => kf)
theorem nw_le (hx : p.tables.exec = Jvm.exec) (hb : c.code = cc) {a b : Nat} {off : Int} {tgt : Nat} (hdg : decode cc pc = .ok (.if_icmp .le off, 3)) (ht : (pc : Int) + off = (tgt : Int)) (ha : a < 2 ^ 31) (hb2 : b < 2 ^ 31) (kt : a ≤ b → W p l e R s m args below meth c H locs cells slots Q (F0 m tgt ls rest)) (kf : b < a → W p l e R s m args below meth c H locs cells slots Q (F0 m (pc + 3) ls rest)) : W p l e R s m args below meth c H locs cells slots Q (F0 m pc ls (.int (nI b) :: .int (nI a) :: rest)) := by
  exact lv_icmp_le hx hb hdg ht (fun q => kt ((nI_leI ha hb2).mp q)) (fun q => kf (Nat.lt_of_not_le fun z => q ((nI_leI ha hb2).mpr z)))
theorem nw_leT (hx : p.tables.exec = Jvm.exec) (hb : c.code = cc) {a b : Nat} {off : Int} {tgt : Nat} (hdg : decode cc pc = .ok (.if_icmp .le off, 3)) (ht : (pc : Int) + off = (tgt : Int)) (ha : a < 2 ^ 31) (hb2 : b < 2 ^ 31) (hc : a ≤ b) (kt : W p l e R s m args below meth c H locs cells slots Q (F0 m tgt ls rest)) : W p l e R s m args below meth c H locs cells slots Q (F0 m pc ls (.int (nI b) :: .int (nI a) :: rest)) :=
  nw_le hx hb hdg ht ha hb2 (fun _ => kt) (fun q => absurd hc (by omega))
theorem nw_leF (hx : p.tables.exec = Jvm.exec) (hb : c.code = cc) {a b : Nat} {off : Int} {tgt : Nat} (hdg : decode cc pc = .ok (.if_icmp .le off, 3)) (ht : (pc : Int) + off = (tgt : Int)) (ha : a < 2 ^ 31) (hb2 : b < 2 ^ 31) (hc : b < a) (kf : W p l e R s m args below meth c H locs cells slots Q (F0 m (pc + 3) ls rest)) : W p l e R s m args below meth c H locs cells slots Q (F0 m pc ls (.int (nI b) :: .int (nI a) :: rest)) :=
  nw_le hx hb hdg ht ha hb2 (fun q => absurd hc (by omega)) (fun _ => kf)
theorem nw_lt (hx : p.tables.exec = Jvm.exec) (hb : c.code = cc) {a b : Nat} {off : Int} {tgt : Nat} (hdg : decode cc pc = .ok (.if_icmp .lt off, 3)) (ht : (pc : Int) + off = (tgt : Int)) (ha : a < 2 ^ 31) (hb2 : b < 2 ^ 31) (kt : a < b → W p l e R s m args below meth c H locs cells slots Q (F0 m tgt ls rest)) (kf : b ≤ a → W p l e R s m args below meth c H locs cells slots Q (F0 m (pc + 3) ls rest)) : W p l e R s m args below meth c H locs cells slots Q (F0 m pc ls (.int (nI b) :: .int (nI a) :: rest)) := by
  exact lv_icmp_lt hx hb hdg ht (fun q => kt ((nI_ltI ha hb2).mp q)) (fun q => kf (Nat.le_of_not_lt fun z => q ((nI_ltI ha hb2).mpr z)))
theorem nw_ltT (hx : p.tables.exec = Jvm.exec) (hb : c.code = cc) {a b : Nat} {off : Int} {tgt : Nat} (hdg : decode cc pc = .ok (.if_icmp .lt off, 3)) (ht : (pc : Int) + off = (tgt : Int)) (ha : a < 2 ^ 31) (hb2 : b < 2 ^ 31) (hc : a < b) (kt : W p l e R s m args below meth c H locs cells slots Q (F0 m tgt ls rest)) : W p l e R s m args below meth c H locs cells slots Q (F0 m pc ls (.int (nI b) :: .int (nI a) :: rest)) :=
  nw_lt hx hb hdg ht ha hb2 (fun _ => kt) (fun q => absurd hc (by omega))
theorem nw_ltF (hx : p.tables.exec = Jvm.exec) (hb : c.code = cc) {a b : Nat} {off : Int} {tgt : Nat} (hdg : decode cc pc = .ok (.if_icmp .lt off, 3)) (ht : (pc : Int) + off = (tgt : Int)) (ha : a < 2 ^ 31) (hb2 : b < 2 ^ 31) (hc : b ≤ a) (kf : W p l e R s m args below meth c H locs cells slots Q (F0 m (pc + 3) ls rest)) : W p l e R s m args below meth c H locs cells slots Q (F0 m pc ls (.int (nI b) :: .int (nI a) :: rest)) :=
  nw_lt hx hb hdg ht ha hb2 (fun q => absurd hc (by omega)) (fun _ => kf)
theorem nw_eq (hx : p.tables.exec = Jvm.exec) (hb : c.code = cc) {a b : Nat} {off : Int} {tgt : Nat} (hdg : decode cc pc = .ok (.if_icmp .eq off, 3)) (ht : (pc : Int) + off = (tgt : Int)) (ha : a < 2 ^ 31) (hb2 : b < 2 ^ 31) (kt : a = b → W p l e R s m args below meth c H locs cells slots Q (F0 m tgt ls rest)) (kf : a ≠ b → W p l e R s m args below meth c H locs cells slots Q (F0 m (pc + 3) ls rest)) : W p l e R s m args below meth c H locs cells slots Q (F0 m pc ls (.int (nI b) :: .int (nI a) :: rest)) := by
  exact lv_icmp_eq hx hb hdg ht (fun q => kt ((nI_eq ha hb2).mp q)) (fun q => kf (fun z => q ((nI_eq ha hb2).mpr z)))
theorem nw_eqT (hx : p.tables.exec = Jvm.exec) (hb : c.code = cc) {a b : Nat} {off : Int} {tgt : Nat} (hdg : decode cc pc = .ok (.if_icmp .eq off, 3)) (ht : (pc : Int) + off = (tgt : Int)) (ha : a < 2 ^ 31) (hb2 : b < 2 ^ 31) (hc : a = b) (kt : W p l e R s m args below meth c H locs cells slots Q (F0 m tgt ls rest)) : W p l e R s m args below meth c H locs cells slots Q (F0 m pc ls (.int (nI b) :: .int (nI a) :: rest)) :=
  nw_eq hx hb hdg ht ha hb2 (fun _ => kt) (fun q => absurd hc (by omega))
theorem nw_eqF (hx : p.tables.exec = Jvm.exec) (hb : c.code = cc) {a b : Nat} {off : Int} {tgt : Nat} (hdg : decode cc pc = .ok (.if_icmp .eq off, 3)) (ht : (pc : Int) + off = (tgt : Int)) (ha : a < 2 ^ 31) (hb2 : b < 2 ^ 31) (hc : a ≠ b) (kf : W p l e R s m args below meth c H locs cells slots Q (F0 m (pc + 3) ls rest)) : W p l e R s m args below meth c H locs cells slots Q (F0 m pc ls (.int (nI b) :: .int (nI a) :: rest)) :=
  nw_eq hx hb hdg ht ha hb2 (fun q => absurd hc (by omega)) (fun _ => kf)
theorem nw_ne (hx : p.tables.exec = Jvm.exec) (hb : c.code = cc) {a b : Nat} {off : Int} {tgt : Nat} (hdg : decode cc pc = .ok (.if_icmp .ne off, 3)) (ht : (pc : Int) + off = (tgt : Int)) (ha : a < 2 ^ 31) (hb2 : b < 2 ^ 31) (kt : a ≠ b → W p l e R s m args below meth c H locs cells slots Q (F0 m tgt ls rest)) (kf : a = b → W p l e R s m args below meth c H locs cells slots Q (F0 m (pc + 3) ls rest)) : W p l e R s m args below meth c H locs cells slots Q (F0 m pc ls (.int (nI b) :: .int (nI a) :: rest)) := by
  exact lv_icmp_ne hx hb hdg ht (fun q => kt (fun z => q ((nI_eq ha hb2).mpr z))) (fun q => kf ((nI_eq ha hb2).mp q))
theorem nw_neT (hx : p.tables.exec = Jvm.exec) (hb : c.code = cc) {a b : Nat} {off : Int} {tgt : Nat} (hdg : decode cc pc = .ok (.if_icmp .ne off, 3)) (ht : (pc : Int) + off = (tgt : Int)) (ha : a < 2 ^ 31) (hb2 : b < 2 ^ 31) (hc : a ≠ b) (kt : W p l e R s m args below meth c H locs cells slots Q (F0 m tgt ls rest)) : W p l e R s m args below meth c H locs cells slots Q (F0 m pc ls (.int (nI b) :: .int (nI a) :: rest)) :=
  nw_ne hx hb hdg ht ha hb2 (fun _ => kt) (fun q => absurd hc (by omega))
theorem nw_neF (hx : p.tables.exec = Jvm.exec) (hb : c.code = cc) {a b : Nat} {off : Int} {tgt : Nat} (hdg : decode cc pc = .ok (.if_icmp .ne off, 3)) (ht : (pc : Int) + off = (tgt : Int)) (ha : a < 2 ^ 31) (hb2 : b < 2 ^ 31) (hc : a = b) (kf : W p l e R s m args below meth c H locs cells slots Q (F0 m (pc + 3) ls rest)) : W p l e R s m args below meth c H locs cells slots Q (F0 m pc ls (.int (nI b) :: .int (nI a) :: rest)) :=
  nw_ne hx hb hdg ht ha hb2 (fun q => absurd hc (by omega)) (fun _ => kf)
end GWC
end
section
/-! WHAT THE METHODS COMPUTE, as pure functions of the state σ (field number, place; a number field k is σ k 0) -/
def ca_up (σ : ca_S) (k j : Nat) (v : Int32) : ca_S := fun a => if a = k then upd (σ a) j v else σ a
/-- f i, then f (i + 1), .. n times -/
def ca_it {α : Type} (f : Nat → α → α) : Nat → Nat → α → α
  | _, 0, x => x
  | i, n + 1, x => ca_it f (i + 1) n (f i x)
theorem ca_it_0 {α : Type} (f : Nat → α → α) (i : Nat) (x : α) : ca_it f i 0 x = x := rfl
theorem ca_it_s {α : Type} (f : Nat → α → α) (i n : Nat) (x : α) : ca_it f i (n + 1) x = ca_it f (i + 1) n (f i x) := rfl
/-! ===== ChunkArray: 0 exists, 1 chunkOf, 2 holders, 3 cells, 4 factor, 5 summand, 6 sumKept, 7 storedSum, 8 greatestKept, 9 greatestOf, 10 row0, 11 row1, 12 column0, 13 column1, 14 moved ===== -/
def ca_c (σ : ca_S) (p : Nat) : Nat := (σ 1 p).toNatClampNeg
def ca_ok (σ : ca_S) : Prop := ∀ p, p < 80 → ∃ k, k < 80 ∧ σ 1 p = nI k
def ca_pl (r c : Nat) : Nat := r / 4 * 4 + c / 4
def ca_wi (r c : Nat) : Nat := r % 4 * 4 + c % 4
def ca_val (σ : ca_S) (k i : Nat) : Int32 := σ 3 (k * 16 + i) * σ 4 k + σ 5 k
def ca_rd (σ : ca_S) (a r c : Nat) : Int32 := ca_val σ (ca_c σ (a * 16 + ca_pl r c)) (ca_wi r c)
def ca_fr (σ : ca_S) : Nat → Nat → Nat
  | c, 0 => c
  | c, n + 1 => if σ 2 c ≤ 0 then c else ca_fr σ (c + 1) n
def ca_cpy (c d i : Nat) (σ : ca_S) : ca_S := ca_up σ 3 (d * 16 + i) (σ 3 (c * 16 + i))
def ca_cp (k c d : Nat) (σ : ca_S) : ca_S := ca_up σ k d (σ k c)
def ca_cpb (k c d : Nat) (σ : ca_S) : ca_S := ca_up σ k d (vp_nar .boolean (σ k c))
def ca_dec (k j : Nat) (σ : ca_S) : ca_S := ca_up σ k j (σ k j - 1)
def ca_inc (k j : Nat) (σ : ca_S) : ca_S := ca_up σ k j (σ k j + 1)
def ca_oc (σ : ca_S) (pl : Nat) : Nat := ca_c σ (64 + pl)
def ca_od (σ : ca_S) : Nat := ca_fr σ 0 79
/-- chunk c copied to slot d, place pl of the present array moved there -/
def ca_owX (c d pl : Nat) (σ : ca_S) : ca_S := ca_up (ca_up (ca_dec 2 c (ca_cp 9 c d (ca_cpb 8 c d (ca_cp 7 c d (ca_cpb 6 c d (ca_cp 5 c d (ca_cp 4 c d (ca_it (ca_cpy c d) 0 16 σ)))))))) 2 d 1) 1 (64 + pl) (nI d)
def ca_owS (σ : ca_S) (pl : Nat) : ca_S := if σ 2 (ca_oc σ pl) = 1 then σ else ca_owX (ca_oc σ pl) (ca_od σ) pl σ
def ca_owC (σ : ca_S) (pl : Nat) : Nat := if σ 2 (ca_oc σ pl) = 1 then ca_oc σ pl else ca_od σ
def ca_stl (c i : Nat) (σ : ca_S) : ca_S := ca_up σ 3 (c * 16 + i) (ca_val σ c i)
def ca_set (c : Nat) (σ : ca_S) : ca_S := ca_up (ca_up (ca_up (ca_it (ca_stl c) 0 16 σ) 4 c 1) 5 c 0) 6 c 0
def ca_mb (k : Nat) (σ : ca_S) : ca_S := if σ 4 k = 1 ∧ σ 5 k = 0 then σ else ca_set k σ
def ca_wr (k w : Nat) (x : Int32) (σ : ca_S) : ca_S := ca_up (ca_up (ca_up σ 3 (k * 16 + w) x) 6 k 0) 8 k 0
def ca_wc (r c : Nat) (x : Int32) (σ : ca_S) : ca_S := ca_wr (ca_owC σ (ca_pl r c)) (ca_wi r c) x (ca_mb (ca_owC σ (ca_pl r c)) (ca_owS σ (ca_pl r c)))
def ca_mn (a b : Nat) : Nat := if a < b then a else b
def ca_mx (a b : Nat) : Nat := if a < b then b else a
def ca_reg (f t : Nat) (σ : ca_S) : ca_S := ca_up (ca_up (ca_up (ca_up σ 10 0 (nI (ca_mn (f % 16) (t % 16)))) 11 0 (nI (ca_mx (f % 16) (t % 16)))) 12 0 (nI (ca_mn (f / 16) (t / 16)))) 13 0 (nI (ca_mx (f / 16) (t / 16)))
def ca_sz (σ : ca_S) : Int32 := (σ 11 0 - σ 10 0 + 1) * (σ 13 0 - σ 12 0 + 1)
abbrev ca_inR (σ : ca_S) (r0 r1 c0 c1 : Nat) : Prop := ¬ nI r0 < σ 10 0 ∧ ¬ σ 11 0 < nI r1 ∧ ¬ nI c0 < σ 12 0 ∧ ¬ σ 13 0 < nI c1
abbrev ca_cov (σ : ca_S) (k : Nat) : Prop := ca_inR σ (k / 4 * 4) (k / 4 * 4 + 3) (k % 4 * 4) (k % 4 * 4 + 3)
abbrev ca_tou (σ : ca_S) (k : Nat) : Prop := ca_inR σ (k / 4 * 4 + 3) (k / 4 * 4) (k % 4 * 4 + 3) (k % 4 * 4)
abbrev ca_ins (σ : ca_S) (r c : Nat) : Prop := ca_inR σ r r c c
abbrev ca_bad (x : Int32) : Prop := x < 0 ∨ 255 < x
abbrev ca_nov (σ : ca_S) (v : Int32) : Prop := v < 0 ∨ 3 < v ∨ σ 0 v.toNatClampNeg = 0
def ca_res (w old x : Int32) : Int32 := if w = 0 then x else if w = 1 then old + x else old * x
def ca_mul (k j : Nat) (x : Int32) (σ : ca_S) : ca_S := ca_up σ k j (σ k j * x)
def ca_add (k j : Nat) (x : Int32) (σ : ca_S) : ca_S := ca_up σ k j (σ k j + x)
def ca_cwK (k : Nat) (w x : Int32) (σ : ca_S) : ca_S := if w = 0 then ca_up (ca_up σ 4 k 0) 5 k x else if w = 1 then ca_add 5 k x σ else ca_mul 5 k x (ca_mul 4 k x σ)
def ca_cw (pl : Nat) (w x : Int32) (σ : ca_S) : ca_S := ca_up (ca_cwK (ca_owC σ pl) w x (ca_owS σ pl)) 8 (ca_owC σ pl) 0
/-- row and column of cell i of place pl -/
def ca_r (pl i : Nat) : Nat := pl / 4 * 4 + i / 4
def ca_k (pl i : Nat) : Nat := pl % 4 * 4 + i % 4
def ca_cp1 (pl : Nat) (w x : Int32) (i : Nat) (σ : ca_S) : ca_S := if ca_ins σ (ca_r pl i) (ca_k pl i) then ca_wc (ca_r pl i) (ca_k pl i) (ca_res w (ca_rd σ 4 (ca_r pl i) (ca_k pl i)) x) σ else σ
def ca_cpt (pl : Nat) (w x : Int32) (σ : ca_S) : ca_S := ca_it (ca_cp1 pl w x) 0 16 σ
def ca_ch1 (w x : Int32) (k : Nat) (σ : ca_S) : ca_S := if ca_cov σ k then ca_cw k w x σ else if ca_tou σ k then ca_cpt k w x σ else σ
def ca_chN (f t : Nat) (w x : Int32) (σ : ca_S) : ca_S := ca_it (ca_ch1 w x) 0 16 (ca_reg f t σ)
def ca_chS (f t w x : Int32) (σ : ca_S) : ca_S := if ca_bad f ∨ ca_bad t then σ else ca_chN f.toNatClampNeg t.toNatClampNeg w x σ
def ca_chR (f t w x : Int32) (σ : ca_S) : Int32 := if ca_bad f ∨ ca_bad t then -1 else ca_sz (ca_chN f.toNatClampNeg t.toNatClampNeg w x σ)
/-! copy -/
def ca_mv1 (r c : Nat) (σ : ca_S) : ca_S := ca_up σ 14 (r * 16 + c) (ca_rd σ 4 r c)
def ca_mvr (c0 n r : Nat) (σ : ca_S) : ca_S := ca_it (ca_mv1 r) c0 n σ
def ca_pt1 (r' dc c0 r c : Nat) (σ : ca_S) : ca_S := ca_wc r' (c + dc - c0) (σ 14 (r * 16 + c)) σ
def ca_ptr (r0 c0 a b n r : Nat) (σ : ca_S) : ca_S := ca_it (ca_pt1 (r + a - r0) b c0 r) c0 n σ
def ca_cyN (f t a : Nat) (σ : ca_S) : ca_S :=
  ca_it (ca_ptr (ca_mn (f % 16) (t % 16)) (ca_mn (f / 16) (t / 16)) (a % 16) (a / 16) (min (ca_mx (f / 16) (t / 16) + 1 - ca_mn (f / 16) (t / 16)) (16 - a / 16))) (ca_mn (f % 16) (t % 16)) (min (ca_mx (f % 16) (t % 16) + 1 - ca_mn (f % 16) (t % 16)) (16 - a % 16))
    (ca_it (ca_mvr (ca_mn (f / 16) (t / 16)) (ca_mx (f / 16) (t / 16) + 1 - ca_mn (f / 16) (t / 16))) (ca_mn (f % 16) (t % 16)) (ca_mx (f % 16) (t % 16) + 1 - ca_mn (f % 16) (t % 16)) (ca_reg f t σ))
def ca_cyC (f t a : Nat) : Nat := min (ca_mx (f % 16) (t % 16) + 1 - ca_mn (f % 16) (t % 16)) (16 - a % 16) * min (ca_mx (f / 16) (t / 16) + 1 - ca_mn (f / 16) (t / 16)) (16 - a / 16)
def ca_cyS (f t a : Int32) (σ : ca_S) : ca_S := if ca_bad f ∨ ca_bad t ∨ ca_bad a then σ else ca_cyN f.toNatClampNeg t.toNatClampNeg a.toNatClampNeg σ
def ca_cyR (f t a : Int32) : Int32 := if ca_bad f ∨ ca_bad t ∨ ca_bad a then -1 else nI (ca_cyC f.toNatClampNeg t.toNatClampNeg a.toNatClampNeg)
/-! versions -/
def ca_kp1 (v k : Nat) (σ : ca_S) : ca_S := ca_inc 2 (ca_c σ (64 + k)) (ca_up σ 1 (v * 16 + k) (nI (ca_c σ (64 + k))))
def ca_kpN (v : Nat) (σ : ca_S) : ca_S := ca_it (ca_kp1 v) 0 16 (ca_up σ 0 v 1)
def ca_kpS (v : Int32) (σ : ca_S) : ca_S := if v < 0 ∨ 3 < v then σ else if σ 0 v.toNatClampNeg = 0 then ca_kpN v.toNatClampNeg σ else σ
def ca_kpR (v : Int32) (σ : ca_S) : Int32 := if v < 0 ∨ 3 < v then -2 else if σ 0 v.toNatClampNeg = 0 then 0 else -3
def ca_da1 (σ : ca_S) (v pl i n : Nat) : Nat := if ca_rd σ v (ca_r pl i) (ca_k pl i) = ca_rd σ 4 (ca_r pl i) (ca_k pl i) then n else n + 1
def ca_da (σ : ca_S) (v pl : Nat) : Nat := if ca_c σ (v * 16 + pl) = ca_c σ (64 + pl) then 0 else ca_it (ca_da1 σ v pl) 0 16 0
def ca_df1 (σ : ca_S) (v k n : Nat) : Nat := n + ca_da σ v k
def ca_df (σ : ca_S) (v : Nat) : Nat := ca_it (ca_df1 σ v) 0 16 0
def ca_rs1 (v k : Nat) (σ : ca_S) : ca_S := ca_up (ca_inc 2 (ca_c σ (v * 16 + k)) (ca_dec 2 (ca_c σ (64 + k)) σ)) 1 (64 + k) (nI (ca_c σ (v * 16 + k)))
def ca_rsN (v : Nat) (σ : ca_S) : ca_S := ca_it (ca_rs1 v) 0 16 σ
def ca_rsS (v : Int32) (σ : ca_S) : ca_S := if ca_nov σ v then σ else ca_rsN v.toNatClampNeg σ
def ca_dfR (v : Int32) (σ : ca_S) : Int32 := if ca_nov σ v then -2 else nI (ca_df σ v.toNatClampNeg)
def ca_dp1 (v k : Nat) (σ : ca_S) : ca_S := ca_dec 2 (ca_c σ (v * 16 + k)) σ
def ca_dpN (v : Nat) (σ : ca_S) : ca_S := ca_it (ca_dp1 v) 0 16 (ca_up σ 0 v 0)
def ca_dpS (v : Int32) (σ : ca_S) : ca_S := if ca_nov σ v then σ else ca_dpN v.toNatClampNeg σ
def ca_dpR (v : Int32) (σ : ca_S) : Int32 := if ca_nov σ v then -2 else 0
/-! questions -/
def ca_gtR (f : Int32) (σ : ca_S) : Int32 := if ca_bad f then -1 else ca_rd σ 4 (f.toNatClampNeg % 16) (f.toNatClampNeg / 16)
def ca_goR (v f : Int32) (σ : ca_S) : Int32 := if ca_bad f then -1 else if ca_nov σ v then -2 else ca_rd σ v.toNatClampNeg (f.toNatClampNeg % 16) (f.toNatClampNeg / 16)
def ca_sm1 (σ : ca_S) (k i : Nat) (s : Int32) : Int32 := s + σ 3 (k * 16 + i)
def ca_sm (σ : ca_S) (k : Nat) : Int32 := ca_it (ca_sm1 σ k) 0 16 0
def ca_wsS (k : Nat) (σ : ca_S) : ca_S := if σ 6 k = 0 then ca_up (ca_up σ 7 k (ca_sm σ k)) 6 k 1 else σ
def ca_wsV (k : Nat) (σ : ca_S) : Int32 := σ 7 k * σ 4 k + 16 * σ 5 k
def ca_ps1 (σ : ca_S) (pl i : Nat) (s : Int32) : Int32 := if ca_ins σ (ca_r pl i) (ca_k pl i) then s + ca_rd σ 4 (ca_r pl i) (ca_k pl i) else s
def ca_ps (σ : ca_S) (pl : Nat) : Int32 := ca_it (ca_ps1 σ pl) 0 16 0
def ca_su1 (k : Nat) (z : ca_S × Int32) : ca_S × Int32 := if ca_cov z.1 k then (ca_wsS (ca_c z.1 (64 + k)) z.1, z.2 + ca_wsV (ca_c z.1 (64 + k)) (ca_wsS (ca_c z.1 (64 + k)) z.1)) else if ca_tou z.1 k then (z.1, z.2 + ca_ps z.1 k) else z
def ca_suN (f t : Nat) (σ : ca_S) : ca_S × Int32 := ca_it ca_su1 0 16 (ca_reg f t σ, 0)
def ca_suS (f t : Int32) (σ : ca_S) : ca_S := if ca_bad f ∨ ca_bad t then σ else (ca_suN f.toNatClampNeg t.toNatClampNeg σ).1
def ca_suR (f t : Int32) (σ : ca_S) : Int32 := if ca_bad f ∨ ca_bad t then -1 else (ca_suN f.toNatClampNeg t.toNatClampNeg σ).2
def ca_gr1 (σ : ca_S) (k i : Nat) (b : Int32) : Int32 := if ca_val σ k i ≤ b then b else ca_val σ k i
def ca_gr (σ : ca_S) (k : Nat) : Int32 := ca_it (ca_gr1 σ k) 1 15 (ca_val σ k 0)
def ca_wgS (k : Nat) (σ : ca_S) : ca_S := if σ 8 k = 0 then ca_up (ca_up σ 9 k (ca_gr σ k)) 8 k 1 else σ
def ca_pg1 (σ : ca_S) (pl i : Nat) (b : Int32) : Int32 := if ca_ins σ (ca_r pl i) (ca_k pl i) then (if ca_rd σ 4 (ca_r pl i) (ca_k pl i) ≤ b then b else ca_rd σ 4 (ca_r pl i) (ca_k pl i)) else b
def ca_pg (σ : ca_S) (pl : Nat) (b : Int32) : Int32 := ca_it (ca_pg1 σ pl) 0 16 b
def ca_ge1 (k : Nat) (z : ca_S × Int32) : ca_S × Int32 := if ca_cov z.1 k then (ca_wgS (ca_c z.1 (64 + k)) z.1, if ca_wgS (ca_c z.1 (64 + k)) z.1 9 (ca_c z.1 (64 + k)) ≤ z.2 then z.2 else ca_wgS (ca_c z.1 (64 + k)) z.1 9 (ca_c z.1 (64 + k))) else if ca_tou z.1 k then (z.1, ca_pg z.1 k z.2) else z
def ca_geN (f t : Nat) (σ : ca_S) : ca_S × Int32 := ca_it ca_ge1 0 16 (ca_reg f t σ, ca_rd (ca_reg f t σ) 4 (ca_mn (f % 16) (t % 16)) (ca_mn (f / 16) (t / 16)))
def ca_geS (f t : Int32) (σ : ca_S) : ca_S := if ca_bad f ∨ ca_bad t then σ else (ca_geN f.toNatClampNeg t.toNatClampNeg σ).1
def ca_geR (f t : Int32) (σ : ca_S) : Int32 := if ca_bad f ∨ ca_bad t then -1 else (ca_geN f.toNatClampNeg t.toNatClampNeg σ).2
def ca_ct1 (σ : ca_S) (x : Int32) (r c n : Nat) : Nat := if ca_rd σ 4 r c = x then n + 1 else n
def ca_ctr (σ : ca_S) (x : Int32) (c0 m r n : Nat) : Nat := ca_it (ca_ct1 σ x r) c0 m n
def ca_ctN (f t : Nat) (x : Int32) (σ : ca_S) : Nat := ca_it (ca_ctr (ca_reg f t σ) x (ca_mn (f / 16) (t / 16)) (ca_mx (f / 16) (t / 16) + 1 - ca_mn (f / 16) (t / 16))) (ca_mn (f % 16) (t % 16)) (ca_mx (f % 16) (t % 16) + 1 - ca_mn (f % 16) (t % 16)) 0
def ca_ctS (f t : Int32) (σ : ca_S) : ca_S := if ca_bad f ∨ ca_bad t then σ else ca_reg f.toNatClampNeg t.toNatClampNeg σ
def ca_ctR (f t x : Int32) (σ : ca_S) : Int32 := if ca_bad f ∨ ca_bad t then -1 else nI (ca_ctN f.toNatClampNeg t.toNatClampNeg x σ)
/-- the state behind the constructor -/
def ca_in1 (k : Nat) (σ : ca_S) : ca_S := ca_up (ca_up (ca_up σ 1 (64 + k) (nI k)) 2 k 1) 4 k 1
def ca_z : ca_S := fun _ _ => 0
def ca_init : ca_S := ca_it ca_in1 0 16 (ca_up ca_z 0 4 1)
/-! ===== ChunkArrayModel: 0 cells, 1 before, 2 kept, 3 exists ===== -/
abbrev cb_cell (x : Int32) : Prop := ¬ x < 0 ∧ ¬ 256 ≤ x
abbrev cb_bet (n a b : Nat) : Prop := (a ≤ n ∧ n ≤ b) ∨ (b ≤ n ∧ n ≤ a)
abbrev cb_ins (c f t : Nat) : Prop := cb_bet (c % 16) (f % 16) (t % 16) ∧ cb_bet (c / 16) (f / 16) (t / 16)
abbrev cb_ver (τ : ca_S) (v : Int32) : Prop := ¬ v < 0 ∧ ¬ 4 ≤ v ∧ ¬ τ 3 v.toNatClampNeg = 0
def cb_ch1 (w : Int32) (f t : Nat) (x : Int32) (c : Nat) (z : ca_S × Nat) : ca_S × Nat := if cb_ins c f t then (ca_up z.1 0 c (ca_res w (z.1 0 c) x), z.2 + 1) else z
def cb_chN (w : Int32) (f t : Nat) (x : Int32) (τ : ca_S) : ca_S × Nat := ca_it (cb_ch1 w f t x) 0 256 (τ, 0)
def cb_chS (w f t x : Int32) (τ : ca_S) : ca_S := if cb_cell f ∧ cb_cell t then (cb_chN w f.toNatClampNeg t.toNatClampNeg x τ).1 else τ
def cb_chR (w f t x : Int32) (τ : ca_S) : Int32 := if cb_cell f ∧ cb_cell t then nI (cb_chN w f.toNatClampNeg t.toNatClampNeg x τ).2 else -1
def cb_bf1 (c : Nat) (τ : ca_S) : ca_S := ca_up τ 1 c (τ 0 c)
/-- the place that cell c goes to -/
abbrev cb_go (f t a c : Nat) : Prop := cb_ins c f t ∧ c % 16 - ca_mn (f % 16) (t % 16) + a % 16 < 16 ∧ c / 16 - ca_mn (f / 16) (t / 16) + a / 16 < 16
def cb_to (f t a c : Nat) : Nat := c % 16 - ca_mn (f % 16) (t % 16) + a % 16 + 16 * (c / 16 - ca_mn (f / 16) (t / 16) + a / 16)
def cb_cy1 (f t a c : Nat) (z : ca_S × Nat) : ca_S × Nat := if cb_go f t a c then (ca_up z.1 0 (cb_to f t a c) (z.1 1 c), z.2 + 1) else z
def cb_cyN (f t a : Nat) (τ : ca_S) : ca_S × Nat := ca_it (cb_cy1 f t a) 0 256 (ca_it cb_bf1 0 256 τ, 0)
def cb_cyS (f t a : Int32) (τ : ca_S) : ca_S := if cb_cell f ∧ cb_cell t ∧ cb_cell a then (cb_cyN f.toNatClampNeg t.toNatClampNeg a.toNatClampNeg τ).1 else τ
def cb_cyR (f t a : Int32) (τ : ca_S) : Int32 := if cb_cell f ∧ cb_cell t ∧ cb_cell a then nI (cb_cyN f.toNatClampNeg t.toNatClampNeg a.toNatClampNeg τ).2 else -1
def cb_kp1 (v c : Nat) (τ : ca_S) : ca_S := ca_up τ 2 (v * 256 + c) (τ 0 c)
def cb_kpN (v : Nat) (τ : ca_S) : ca_S := ca_it (cb_kp1 v) 0 256 (ca_up τ 3 v 1)
def cb_kpS (v : Int32) (τ : ca_S) : ca_S := if v < 0 ∨ 3 < v then τ else if τ 3 v.toNatClampNeg = 0 then cb_kpN v.toNatClampNeg τ else τ
def cb_kpR (v : Int32) (τ : ca_S) : Int32 := if v < 0 ∨ 3 < v then -2 else if τ 3 v.toNatClampNeg = 0 then 0 else -3
def cb_df1 (τ : ca_S) (v c n : Nat) : Nat := if τ 0 c = τ 2 (v * 256 + c) then n else n + 1
def cb_df (τ : ca_S) (v : Nat) : Nat := ca_it (cb_df1 τ v) 0 256 0
def cb_dfR (v : Int32) (τ : ca_S) : Int32 := if cb_ver τ v then nI (cb_df τ v.toNatClampNeg) else -2
def cb_rs1 (v c : Nat) (τ : ca_S) : ca_S := ca_up τ 0 c (τ 2 (v * 256 + c))
def cb_rsS (v : Int32) (τ : ca_S) : ca_S := if cb_ver τ v then ca_it (cb_rs1 v.toNatClampNeg) 0 256 τ else τ
def cb_dpS (v : Int32) (τ : ca_S) : ca_S := if cb_ver τ v then ca_up τ 3 v.toNatClampNeg 0 else τ
def cb_dpR (v : Int32) (τ : ca_S) : Int32 := if cb_ver τ v then 0 else -2
def cb_gtR (f : Int32) (τ : ca_S) : Int32 := if cb_cell f then τ 0 f.toNatClampNeg else -1
def cb_goR (v f : Int32) (τ : ca_S) : Int32 := if cb_cell f then (if cb_ver τ v then τ 2 (v.toNatClampNeg * 256 + f.toNatClampNeg) else -2) else -1
def cb_su1 (τ : ca_S) (f t c : Nat) (s : Int32) : Int32 := if cb_ins c f t then s + τ 0 c else s
def cb_suR (f t : Int32) (τ : ca_S) : Int32 := if cb_cell f ∧ cb_cell t then ca_it (cb_su1 τ f.toNatClampNeg t.toNatClampNeg) 0 256 0 else -1
def cb_ge1 (τ : ca_S) (f t c : Nat) (b : Int32) : Int32 := if cb_ins c f t then (if τ 0 c ≤ b then b else τ 0 c) else b
def cb_geR (f t : Int32) (τ : ca_S) : Int32 := if cb_cell f ∧ cb_cell t then ca_it (cb_ge1 τ f.toNatClampNeg t.toNatClampNeg) 0 256 (τ 0 f.toNatClampNeg) else -1
def cb_ct1 (τ : ca_S) (f t : Nat) (x : Int32) (c n : Nat) : Nat := if cb_ins c f t then (if τ 0 c = x then n + 1 else n) else n
def cb_ctR (f t x : Int32) (τ : ca_S) : Int32 := if cb_cell f ∧ cb_cell t then nI (ca_it (cb_ct1 τ f.toNatClampNeg t.toNatClampNeg x) 0 256 0) else -1
/-! ===== first facts ===== -/
theorem ca_upE {σ : ca_S} {k j : Nat} {v : Int32} : ca_up σ k j v k = upd (σ k) j v := if_pos rfl
theorem ca_upN {σ : ca_S} {k j a : Nat} {v : Int32} (h : a ≠ k) : ca_up σ k j v a = σ a := if_neg h
theorem ca_upS {σ : ca_S} {k j : Nat} {v : Int32} : ca_up σ k j v k j = v := by rw [ca_upE]; exact if_pos rfl
theorem ca_upD {σ : ca_S} {k j i : Nat} {v : Int32} (h : i ≠ j) : ca_up σ k j v k i = σ k i := by rw [ca_upE]; exact if_neg h
theorem ca_ok_at {σ : ca_S} (h : ca_ok σ) {p : Nat} (hp : p < 80) : ca_c σ p < 80 ∧ σ 1 p = nI (ca_c σ p) := by
  obtain ⟨k, hk, e⟩ := h p hp
  have : ca_c σ p = k := by rw [ca_c, e, nI_clamp (by omega)]
  rw [this]
  exact ⟨hk, e⟩
theorem ca_ok_up {σ : ca_S} (h : ca_ok σ) {k j : Nat} {v : Int32} (hk : 1 ≠ k) : ca_ok (ca_up σ k j v) := by
  intro p hp
  rw [ca_upN hk]
  exact h p hp
theorem ca_ok_up1 {σ : ca_S} (h : ca_ok σ) {j d : Nat} (hd : d < 80) : ca_ok (ca_up σ 1 j (nI d)) := by
  intro p hp
  by_cases e : p = j
  · subst e
    exact ⟨d, hd, ca_upS⟩
  · rw [ca_upD e]
    exact h p hp
/-- an invariant carried along an iteration -/
theorem ca_it_ind {α : Type} {f : Nat → α → α} {P : Nat → α → Prop} : ∀ (n i : Nat) (x : α), P i x → (∀ j y, i ≤ j → j < i + n → P j y → P (j + 1) (f j y)) → P (i + n) (ca_it f i n x)
  | 0, i, x, h, _ => h
  | n + 1, i, x, h, hs => by
    have := ca_it_ind (P := P) n (i + 1) (f i x) (hs i x (Nat.le_refl _) (by omega) h) (fun j y h1 h2 h3 => hs j y (by omega) (by omega) h3)
    rw [ca_it_s, show i + (n + 1) = i + 1 + n by omega]
    exact this
theorem ca_it_inv {α : Type} {f : Nat → α → α} {P : α → Prop} {n i : Nat} {x : α} (h : P x) (hs : ∀ j y, i ≤ j → j < i + n → P y → P (f j y)) : P (ca_it f i n x) :=
  ca_it_ind (P := fun _ => P) n i x h hs
theorem ca_ok_owX {σ : ca_S} (h : ca_ok σ) {c d pl : Nat} (hd : d < 80) : ca_ok (ca_owX c d pl σ) := by
  refine ca_ok_up1 (ca_ok_up (ca_ok_up (ca_ok_up (ca_ok_up (ca_ok_up (ca_ok_up (ca_ok_up (ca_ok_up ?_ (by decide)) (by decide)) (by decide)) (by decide)) (by decide)) (by decide)) (by decide)) (by decide)) hd
  exact ca_it_inv (P := ca_ok) h (fun j y _ _ hy => ca_ok_up hy (by decide))
theorem ca_fr_le {σ : ca_S} : ∀ (n c : Nat), ca_fr σ c n ≤ c + n
  | 0, c => Nat.le_refl _
  | n + 1, c => by
    unfold ca_fr
    split
    · omega
    · have := ca_fr_le (σ := σ) n (c + 1)
      omega
theorem ca_od_lt (σ : ca_S) : ca_od σ < 80 := by
  have := ca_fr_le (σ := σ) 79 0
  unfold ca_od
  omega
theorem ca_owC_lt {σ : ca_S} (h : ca_ok σ) {pl : Nat} (hp : pl < 16) : ca_owC σ pl < 80 := by
  unfold ca_owC
  split
  · exact (ca_ok_at h (by omega)).1
  · exact ca_od_lt σ
theorem ca_ok_owS {σ : ca_S} (h : ca_ok σ) {pl : Nat} : ca_ok (ca_owS σ pl) := by
  unfold ca_owS
  split
  · exact h
  · exact ca_ok_owX h (ca_od_lt σ)
theorem ca_ok_set {σ : ca_S} (h : ca_ok σ) {c : Nat} : ca_ok (ca_set c σ) := by
  refine ca_ok_up (ca_ok_up (ca_ok_up ?_ (by decide)) (by decide)) (by decide)
  exact ca_it_inv (P := ca_ok) h (fun j y _ _ hy => ca_ok_up hy (by decide))
theorem ca_ok_mb {σ : ca_S} (h : ca_ok σ) {c : Nat} : ca_ok (ca_mb c σ) := by
  unfold ca_mb
  split
  · exact h
  · exact ca_ok_set h
theorem ca_ok_wc {σ : ca_S} (h : ca_ok σ) {r c : Nat} {x : Int32} : ca_ok (ca_wc r c x σ) :=
  ca_ok_up (ca_ok_up (ca_ok_up (ca_ok_mb (ca_ok_owS h)) (by decide)) (by decide)) (by decide)
theorem ca_ok_reg {σ : ca_S} (h : ca_ok σ) {f t : Nat} : ca_ok (ca_reg f t σ) :=
  ca_ok_up (ca_ok_up (ca_ok_up (ca_ok_up h (by decide)) (by decide)) (by decide)) (by decide)
theorem ca_ok_cw {σ : ca_S} (h : ca_ok σ) {pl : Nat} {w x : Int32} : ca_ok (ca_cw pl w x σ) := by
  refine ca_ok_up ?_ (by decide)
  unfold ca_cwK
  split
  · exact ca_ok_up (ca_ok_up (ca_ok_owS h) (by decide)) (by decide)
  · split
    · exact ca_ok_up (ca_ok_owS h) (by decide)
    · exact ca_ok_up (ca_ok_up (ca_ok_owS h) (by decide)) (by decide)
theorem ca_ok_cp1 {σ : ca_S} (h : ca_ok σ) {pl i : Nat} {w x : Int32} : ca_ok (ca_cp1 pl w x i σ) := by
  unfold ca_cp1
  split
  · exact ca_ok_wc h
  · exact h
theorem ca_ok_cpt {σ : ca_S} (h : ca_ok σ) {pl : Nat} {w x : Int32} : ca_ok (ca_cpt pl w x σ) :=
  ca_it_inv (P := ca_ok) h (fun j y _ _ hy => ca_ok_cp1 hy)
theorem ca_ok_ch1 {σ : ca_S} (h : ca_ok σ) {k : Nat} {w x : Int32} : ca_ok (ca_ch1 w x k σ) := by
  unfold ca_ch1
  split
  · exact ca_ok_cw h
  · split
    · exact ca_ok_cpt h
    · exact h
theorem ca_ok_wsS {σ : ca_S} (h : ca_ok σ) {k : Nat} : ca_ok (ca_wsS k σ) := by
  unfold ca_wsS
  split
  · exact ca_ok_up (ca_ok_up h (by decide)) (by decide)
  · exact h
theorem ca_ok_wgS {σ : ca_S} (h : ca_ok σ) {k : Nat} : ca_ok (ca_wgS k σ) := by
  unfold ca_wgS
  split
  · exact ca_ok_up (ca_ok_up h (by decide)) (by decide)
  · exact h
theorem ca_mn_le (a b : Nat) : ca_mn a b ≤ a ∧ ca_mn a b ≤ b := by unfold ca_mn; split <;> omega
theorem ca_mx_ge (a b : Nat) : a ≤ ca_mx a b ∧ b ≤ ca_mx a b := by unfold ca_mx; split <;> omega
theorem ca_mnx (a b : Nat) : ca_mn a b ≤ ca_mx a b := Nat.le_trans (ca_mn_le a b).1 (ca_mx_ge a b).1
theorem ca_mx_lt {a b n : Nat} (ha : a < n) (hb : b < n) : ca_mx a b < n := by unfold ca_mx; split <;> omega
theorem ca_pl_lt {r c : Nat} (hr : r < 16) (hc : c < 16) : ca_pl r c < 16 := by unfold ca_pl; omega
theorem ca_wi_lt (r c : Nat) : ca_wi r c < 16 := by unfold ca_wi; omega
theorem ca_r_lt {pl i : Nat} (hp : pl < 16) (hi : i < 16) : ca_r pl i < 16 := by unfold ca_r; omega
theorem ca_k_lt {pl i : Nat} : ca_k pl i < 16 := by unfold ca_k; omega
/-- an int that is a cell's number, a version's number -/
theorem ca_bad_nat {x : Int32} (h : ¬ ca_bad x) : ∃ n, n < 256 ∧ x = nI n := by
  obtain ⟨n, hn, e⟩ := nI_of (x := x) (fun q => h (Or.inl q))
  refine ⟨n, ?_, e⟩
  subst e
  have h2 : ¬ nI 255 < nI n := fun q => h (Or.inr q)
  have := mt (nI_ltI (a := 255) (b := n) (by decide) hn).mpr h2
  omega
theorem ca_ver_nat {x : Int32} (h0 : ¬ x < 0) (h : ¬ 3 < x) : ∃ n, n < 4 ∧ x = nI n := by
  obtain ⟨n, hn, e⟩ := nI_of (x := x) h0
  refine ⟨n, ?_, e⟩
  subst e
  have h2 : ¬ nI 3 < nI n := h
  have := mt (nI_ltI (a := 3) (b := n) (by decide) hn).mpr h2
  omega
theorem cb_cell_nat {x : Int32} (h : cb_cell x) : ∃ n, n < 256 ∧ x = nI n := by
  obtain ⟨n, hn, e⟩ := nI_of (x := x) h.1
  refine ⟨n, ?_, e⟩
  subst e
  have h2 : ¬ nI 256 ≤ nI n := h.2
  have := mt (nI_leI (a := 256) (b := n) (by decide) hn).mpr h2
  omega
theorem ca_cl {n : Nat} (h : n < 2 ^ 31) : (nI n).toNatClampNeg = n := nI_clamp h
theorem ca_ift {q : Prop} [Decidable q] (h : ¬ (if q then (1 : Int32) else 0) = 0) : q := by
  by_cases z : q
  · exact z
  · exact absurd (if_neg z) h
theorem ca_iff {q : Prop} [Decidable q] (h : (if q then (1 : Int32) else 0) = 0) : ¬ q := by
  intro z
  rw [if_pos z] at h
  exact absurd h (by decide)
theorem ca_ok_kp1 {σ : ca_S} (h : ca_ok σ) {v k : Nat} (hk : k < 16) : ca_ok (ca_kp1 v k σ) :=
  ca_ok_up (ca_ok_up1 h (ca_ok_at h (by omega)).1) (by decide)
theorem ca_ok_rs1 {σ : ca_S} (h : ca_ok σ) {v k : Nat} (hv : v < 4) (hk : k < 16) : ca_ok (ca_rs1 v k σ) :=
  ca_ok_up1 (ca_ok_up (ca_ok_up h (by decide)) (by decide)) (ca_ok_at h (by omega)).1
theorem ca_ok_dp1 {σ : ca_S} (h : ca_ok σ) {v k : Nat} : ca_ok (ca_dp1 v k σ) := ca_ok_up h (by decide)
/-- the region's numbers -/
abbrev ca_rg (σ : ca_S) (r0 r1 c0 c1 : Nat) : Prop := σ 10 0 = nI r0 ∧ σ 11 0 = nI r1 ∧ σ 12 0 = nI c0 ∧ σ 13 0 = nI c1
theorem ca_rg_reg (f t : Nat) (σ : ca_S) : ca_rg (ca_reg f t σ) (ca_mn (f % 16) (t % 16)) (ca_mx (f % 16) (t % 16)) (ca_mn (f / 16) (t / 16)) (ca_mx (f / 16) (t / 16)) := ⟨rfl, rfl, rfl, rfl⟩
theorem ca_rg_of {σ u : ca_S} {r0 r1 c0 c1 : Nat} (h : ca_rg σ r0 r1 c0 c1) (hu : ∀ k, 10 ≤ k → k < 14 → u k = σ k) : ca_rg u r0 r1 c0 c1 := by
  obtain ⟨h1, h2, h3, h4⟩ := h
  exact ⟨by rw [hu 10 (by omega) (by omega)]; exact h1, by rw [hu 11 (by omega) (by omega)]; exact h2, by rw [hu 12 (by omega) (by omega)]; exact h3, by rw [hu 13 (by omega) (by omega)]; exact h4⟩
theorem ca_far_owX {σ : ca_S} {c d pl k : Nat} (hk : 10 ≤ k) : ca_owX c d pl σ k = σ k := by
  have h0 : ca_it (ca_cpy c d) 0 16 σ k = σ k := ca_it_inv (P := fun u : ca_S => u k = σ k) rfl (fun j y _ _ hy => (ca_upN (by omega)).trans hy)
  unfold ca_owX ca_dec ca_cp ca_cpb
  rw [ca_upN (by omega), ca_upN (by omega), ca_upN (by omega), ca_upN (by omega), ca_upN (by omega), ca_upN (by omega), ca_upN (by omega), ca_upN (by omega), ca_upN (by omega), h0]
theorem ca_far_owS {σ : ca_S} {pl k : Nat} (hk : 10 ≤ k) : ca_owS σ pl k = σ k := by
  unfold ca_owS
  split
  · rfl
  · exact ca_far_owX hk
theorem ca_far_set {σ : ca_S} {c k : Nat} (hk : 10 ≤ k) : ca_set c σ k = σ k := by
  have h0 : ca_it (ca_stl c) 0 16 σ k = σ k := ca_it_inv (P := fun u : ca_S => u k = σ k) rfl (fun j y _ _ hy => (ca_upN (by omega)).trans hy)
  unfold ca_set
  rw [ca_upN (by omega), ca_upN (by omega), ca_upN (by omega), h0]
theorem ca_far_wc {σ : ca_S} {r c k : Nat} {x : Int32} (hk : 10 ≤ k) : ca_wc r c x σ k = σ k := by
  unfold ca_wc ca_wr ca_mb
  rw [ca_upN (by omega), ca_upN (by omega), ca_upN (by omega)]
  split
  · exact ca_far_owS hk
  · rw [ca_far_set hk]
    exact ca_far_owS hk
theorem ca_shift {r a b : Nat} (h : b ≤ r) : nI r + (nI a - nI b) = nI (r + a - b) := by
  rw [← pk_sub (show b ≤ r + a by omega), ← nI_add, Int32.sub_eq_add_neg, Int32.sub_eq_add_neg, Int32.add_assoc]
end
section
set_option maxRecDepth 100000
abbrev xw_T (dZ dI : ClassId) : List (ClassId × FieldType) := [(dZ, .boolean), (dI, .int)]
def xw_F (q : Nat → Nat) (σ : ca_S) : List Value := [.ref (q 0), .ref (q 1), .ref (q 2), .ref (q 3), .ref (q 4), .ref (q 5), .ref (q 6), .ref (q 7), .ref (q 8), .ref (q 9), .int (σ 10 0), .int (σ 11 0), .int (σ 12 0), .int (σ 13 0), .ref (q 14)]
def xw_ws (dZ dI : ClassId) (h : Nat) (q : Nat → Nat) (σ : ca_S) : va_W := [(h, .inr (0, xw_F q σ)), (q 0, .inl (dZ, 5, .inl (σ 0))), (q 1, .inl (dI, 80, .inl (σ 1))), (q 2, .inl (dI, 80, .inl (σ 2))), (q 3, .inl (dI, 1280, .inl (σ 3))), (q 4, .inl (dI, 80, .inl (σ 4))), (q 5, .inl (dI, 80, .inl (σ 5))), (q 6, .inl (dZ, 80, .inl (σ 6))), (q 7, .inl (dI, 80, .inl (σ 7))), (q 8, .inl (dZ, 80, .inl (σ 8))), (q 9, .inl (dI, 80, .inl (σ 9))), (q 14, .inl (dI, 256, .inl (σ 14)))]
theorem xw_rec {dZ dI : ClassId} {h : Nat} {q : Nat → Nat} : gw_rec (xw_ws dZ dI h q) h RX0 := ⟨0, TX0, 15, rfl, fun σ => ⟨_, rfl⟩⟩
section XWR
variable {p : Program} {l : Launch} {e : Env} {R : Room} {s : State} {m : MethodId} {args : Array Value} {below : List Frame} {meth : Method} {c : Code} {H : Heap} {locs : List Loc} {cells slots : Nat} {Q : State → Prop}
variable {cc : ByteArray} {nL pc h : Nat} {D : va_G} {dZ dI : ClassId} {A : Nat → Prop} {q : Nat → Nat} {rest : List Value} {σ : ca_S} {ls : Array Slot}
theorem xw_g0 (cx : gw_cx p s m args c cc nL RX0 D (xw_T dZ dI) A) (hw : gw_W D A s.heap (xw_ws dZ dI h q) σ H locs) (hdg : decode cc pc = .ok (.getfield 7, 3)) (kk : W p l e R s m args below meth c H locs cells slots Q (F0 m (pc + 3) ls (.ref (q 0) :: rest))) : W p l e R s m args below meth c H locs cells slots Q (F0 m pc ls (.ref h :: rest)) := by
  obtain ⟨hx, hb, hml, hown, hts, hK, hA⟩ := cx
  exact va_get (ci := 0) (v := .ref (q 0)) (C := RX0) (T := TX0) (N := 15) hx hb hts in_X0 hown hK hw.1 0 rfl rfl 0 (by decide) (hts _ q36) (fun _ h9 => h9) rfl hdg kk
theorem xw_g1 (cx : gw_cx p s m args c cc nL RX0 D (xw_T dZ dI) A) (hw : gw_W D A s.heap (xw_ws dZ dI h q) σ H locs) (hdg : decode cc pc = .ok (.getfield 13, 3)) (kk : W p l e R s m args below meth c H locs cells slots Q (F0 m (pc + 3) ls (.ref (q 1) :: rest))) : W p l e R s m args below meth c H locs cells slots Q (F0 m pc ls (.ref h :: rest)) := by
  obtain ⟨hx, hb, hml, hown, hts, hK, hA⟩ := cx
  exact va_get (ci := 0) (v := .ref (q 1)) (C := RX0) (T := TX0) (N := 15) hx hb hts in_X0 hown hK hw.1 0 rfl rfl 1 (by decide) (hts _ q37) (fun _ h9 => h9) rfl hdg kk
theorem xw_g2 (cx : gw_cx p s m args c cc nL RX0 D (xw_T dZ dI) A) (hw : gw_W D A s.heap (xw_ws dZ dI h q) σ H locs) (hdg : decode cc pc = .ok (.getfield 17, 3)) (kk : W p l e R s m args below meth c H locs cells slots Q (F0 m (pc + 3) ls (.ref (q 2) :: rest))) : W p l e R s m args below meth c H locs cells slots Q (F0 m pc ls (.ref h :: rest)) := by
  obtain ⟨hx, hb, hml, hown, hts, hK, hA⟩ := cx
  exact va_get (ci := 0) (v := .ref (q 2)) (C := RX0) (T := TX0) (N := 15) hx hb hts in_X0 hown hK hw.1 0 rfl rfl 2 (by decide) (hts _ q38) (fun _ h9 => h9) rfl hdg kk
theorem xw_g3 (cx : gw_cx p s m args c cc nL RX0 D (xw_T dZ dI) A) (hw : gw_W D A s.heap (xw_ws dZ dI h q) σ H locs) (hdg : decode cc pc = .ok (.getfield 20, 3)) (kk : W p l e R s m args below meth c H locs cells slots Q (F0 m (pc + 3) ls (.ref (q 3) :: rest))) : W p l e R s m args below meth c H locs cells slots Q (F0 m pc ls (.ref h :: rest)) := by
  obtain ⟨hx, hb, hml, hown, hts, hK, hA⟩ := cx
  exact va_get (ci := 0) (v := .ref (q 3)) (C := RX0) (T := TX0) (N := 15) hx hb hts in_X0 hown hK hw.1 0 rfl rfl 3 (by decide) (hts _ q39) (fun _ h9 => h9) rfl hdg kk
theorem xw_g4 (cx : gw_cx p s m args c cc nL RX0 D (xw_T dZ dI) A) (hw : gw_W D A s.heap (xw_ws dZ dI h q) σ H locs) (hdg : decode cc pc = .ok (.getfield 23, 3)) (kk : W p l e R s m args below meth c H locs cells slots Q (F0 m (pc + 3) ls (.ref (q 4) :: rest))) : W p l e R s m args below meth c H locs cells slots Q (F0 m pc ls (.ref h :: rest)) := by
  obtain ⟨hx, hb, hml, hown, hts, hK, hA⟩ := cx
  exact va_get (ci := 0) (v := .ref (q 4)) (C := RX0) (T := TX0) (N := 15) hx hb hts in_X0 hown hK hw.1 0 rfl rfl 4 (by decide) (hts _ q40) (fun _ h9 => h9) rfl hdg kk
theorem xw_g5 (cx : gw_cx p s m args c cc nL RX0 D (xw_T dZ dI) A) (hw : gw_W D A s.heap (xw_ws dZ dI h q) σ H locs) (hdg : decode cc pc = .ok (.getfield 26, 3)) (kk : W p l e R s m args below meth c H locs cells slots Q (F0 m (pc + 3) ls (.ref (q 5) :: rest))) : W p l e R s m args below meth c H locs cells slots Q (F0 m pc ls (.ref h :: rest)) := by
  obtain ⟨hx, hb, hml, hown, hts, hK, hA⟩ := cx
  exact va_get (ci := 0) (v := .ref (q 5)) (C := RX0) (T := TX0) (N := 15) hx hb hts in_X0 hown hK hw.1 0 rfl rfl 5 (by decide) (hts _ q41) (fun _ h9 => h9) rfl hdg kk
theorem xw_g6 (cx : gw_cx p s m args c cc nL RX0 D (xw_T dZ dI) A) (hw : gw_W D A s.heap (xw_ws dZ dI h q) σ H locs) (hdg : decode cc pc = .ok (.getfield 29, 3)) (kk : W p l e R s m args below meth c H locs cells slots Q (F0 m (pc + 3) ls (.ref (q 6) :: rest))) : W p l e R s m args below meth c H locs cells slots Q (F0 m pc ls (.ref h :: rest)) := by
  obtain ⟨hx, hb, hml, hown, hts, hK, hA⟩ := cx
  exact va_get (ci := 0) (v := .ref (q 6)) (C := RX0) (T := TX0) (N := 15) hx hb hts in_X0 hown hK hw.1 0 rfl rfl 6 (by decide) (hts _ q42) (fun _ h9 => h9) rfl hdg kk
theorem xw_g7 (cx : gw_cx p s m args c cc nL RX0 D (xw_T dZ dI) A) (hw : gw_W D A s.heap (xw_ws dZ dI h q) σ H locs) (hdg : decode cc pc = .ok (.getfield 32, 3)) (kk : W p l e R s m args below meth c H locs cells slots Q (F0 m (pc + 3) ls (.ref (q 7) :: rest))) : W p l e R s m args below meth c H locs cells slots Q (F0 m pc ls (.ref h :: rest)) := by
  obtain ⟨hx, hb, hml, hown, hts, hK, hA⟩ := cx
  exact va_get (ci := 0) (v := .ref (q 7)) (C := RX0) (T := TX0) (N := 15) hx hb hts in_X0 hown hK hw.1 0 rfl rfl 7 (by decide) (hts _ q43) (fun _ h9 => h9) rfl hdg kk
theorem xw_g8 (cx : gw_cx p s m args c cc nL RX0 D (xw_T dZ dI) A) (hw : gw_W D A s.heap (xw_ws dZ dI h q) σ H locs) (hdg : decode cc pc = .ok (.getfield 35, 3)) (kk : W p l e R s m args below meth c H locs cells slots Q (F0 m (pc + 3) ls (.ref (q 8) :: rest))) : W p l e R s m args below meth c H locs cells slots Q (F0 m pc ls (.ref h :: rest)) := by
  obtain ⟨hx, hb, hml, hown, hts, hK, hA⟩ := cx
  exact va_get (ci := 0) (v := .ref (q 8)) (C := RX0) (T := TX0) (N := 15) hx hb hts in_X0 hown hK hw.1 0 rfl rfl 8 (by decide) (hts _ q44) (fun _ h9 => h9) rfl hdg kk
theorem xw_g9 (cx : gw_cx p s m args c cc nL RX0 D (xw_T dZ dI) A) (hw : gw_W D A s.heap (xw_ws dZ dI h q) σ H locs) (hdg : decode cc pc = .ok (.getfield 38, 3)) (kk : W p l e R s m args below meth c H locs cells slots Q (F0 m (pc + 3) ls (.ref (q 9) :: rest))) : W p l e R s m args below meth c H locs cells slots Q (F0 m pc ls (.ref h :: rest)) := by
  obtain ⟨hx, hb, hml, hown, hts, hK, hA⟩ := cx
  exact va_get (ci := 0) (v := .ref (q 9)) (C := RX0) (T := TX0) (N := 15) hx hb hts in_X0 hown hK hw.1 0 rfl rfl 9 (by decide) (hts _ q45) (fun _ h9 => h9) rfl hdg kk
theorem xw_g10 (cx : gw_cx p s m args c cc nL RX0 D (xw_T dZ dI) A) (hw : gw_W D A s.heap (xw_ws dZ dI h q) σ H locs) (hdg : decode cc pc = .ok (.getfield 63, 3)) (kk : W p l e R s m args below meth c H locs cells slots Q (F0 m (pc + 3) ls (.int (σ 10 0) :: rest))) : W p l e R s m args below meth c H locs cells slots Q (F0 m pc ls (.ref h :: rest)) := by
  obtain ⟨hx, hb, hml, hown, hts, hK, hA⟩ := cx
  exact va_get (ci := 0) (v := .int (σ 10 0)) (C := RX0) (T := TX0) (N := 15) hx hb hts in_X0 hown hK hw.1 0 rfl rfl 10 (by decide) (hts _ q46) (fun _ h9 => h9) rfl hdg kk
theorem xw_p10 (cx : gw_cx p s m args c cc nL RX0 D (xw_T dZ dI) A) (hw : gw_W D A s.heap (xw_ws dZ dI h q) σ H locs) {x : Int32} (hdg : decode cc pc = .ok (.putfield 63, 3)) (kk : ∀ (H1 : Heap) (locs1 : List Loc), gw_W D A s.heap (xw_ws dZ dI h q) (ca_up σ 10 0 x) H1 locs1 → W p l e R s m args below meth c H1 locs1 cells slots Q (F0 m (pc + 3) ls rest)) : W p l e R s m args below meth c H locs cells slots Q (F0 m pc ls (.int x :: .ref h :: rest)) := by
  obtain ⟨hx, hb, hml, hown, hts, hK, hA⟩ := cx
  exact va_put (ci := 0) (v := .int x) (ty := .int) (C := RX0) (T := TX0) (N := 15) hx hb hts in_X0 tyX0 tyX0_ok nmX0 hown hK hw.1 hw.2.1 hw.2.2 0 rfl rfl 10 (by decide) (hts _ q46) (fun _ h9 => h9) rfl (by decide +kernel) rfl rfl (Nat.le_of_ble_eq_true rfl) hdg (fun H1 locs1 hP hD hS => kk H1 locs1 ⟨hP, hD, hS⟩)
theorem xw_g11 (cx : gw_cx p s m args c cc nL RX0 D (xw_T dZ dI) A) (hw : gw_W D A s.heap (xw_ws dZ dI h q) σ H locs) (hdg : decode cc pc = .ok (.getfield 67, 3)) (kk : W p l e R s m args below meth c H locs cells slots Q (F0 m (pc + 3) ls (.int (σ 11 0) :: rest))) : W p l e R s m args below meth c H locs cells slots Q (F0 m pc ls (.ref h :: rest)) := by
  obtain ⟨hx, hb, hml, hown, hts, hK, hA⟩ := cx
  exact va_get (ci := 0) (v := .int (σ 11 0)) (C := RX0) (T := TX0) (N := 15) hx hb hts in_X0 hown hK hw.1 0 rfl rfl 11 (by decide) (hts _ q47) (fun _ h9 => h9) rfl hdg kk
theorem xw_p11 (cx : gw_cx p s m args c cc nL RX0 D (xw_T dZ dI) A) (hw : gw_W D A s.heap (xw_ws dZ dI h q) σ H locs) {x : Int32} (hdg : decode cc pc = .ok (.putfield 67, 3)) (kk : ∀ (H1 : Heap) (locs1 : List Loc), gw_W D A s.heap (xw_ws dZ dI h q) (ca_up σ 11 0 x) H1 locs1 → W p l e R s m args below meth c H1 locs1 cells slots Q (F0 m (pc + 3) ls rest)) : W p l e R s m args below meth c H locs cells slots Q (F0 m pc ls (.int x :: .ref h :: rest)) := by
  obtain ⟨hx, hb, hml, hown, hts, hK, hA⟩ := cx
  exact va_put (ci := 0) (v := .int x) (ty := .int) (C := RX0) (T := TX0) (N := 15) hx hb hts in_X0 tyX0 tyX0_ok nmX0 hown hK hw.1 hw.2.1 hw.2.2 0 rfl rfl 11 (by decide) (hts _ q47) (fun _ h9 => h9) rfl (by decide +kernel) rfl rfl (Nat.le_of_ble_eq_true rfl) hdg (fun H1 locs1 hP hD hS => kk H1 locs1 ⟨hP, hD, hS⟩)
theorem xw_g12 (cx : gw_cx p s m args c cc nL RX0 D (xw_T dZ dI) A) (hw : gw_W D A s.heap (xw_ws dZ dI h q) σ H locs) (hdg : decode cc pc = .ok (.getfield 70, 3)) (kk : W p l e R s m args below meth c H locs cells slots Q (F0 m (pc + 3) ls (.int (σ 12 0) :: rest))) : W p l e R s m args below meth c H locs cells slots Q (F0 m pc ls (.ref h :: rest)) := by
  obtain ⟨hx, hb, hml, hown, hts, hK, hA⟩ := cx
  exact va_get (ci := 0) (v := .int (σ 12 0)) (C := RX0) (T := TX0) (N := 15) hx hb hts in_X0 hown hK hw.1 0 rfl rfl 12 (by decide) (hts _ q48) (fun _ h9 => h9) rfl hdg kk
theorem xw_p12 (cx : gw_cx p s m args c cc nL RX0 D (xw_T dZ dI) A) (hw : gw_W D A s.heap (xw_ws dZ dI h q) σ H locs) {x : Int32} (hdg : decode cc pc = .ok (.putfield 70, 3)) (kk : ∀ (H1 : Heap) (locs1 : List Loc), gw_W D A s.heap (xw_ws dZ dI h q) (ca_up σ 12 0 x) H1 locs1 → W p l e R s m args below meth c H1 locs1 cells slots Q (F0 m (pc + 3) ls rest)) : W p l e R s m args below meth c H locs cells slots Q (F0 m pc ls (.int x :: .ref h :: rest)) := by
  obtain ⟨hx, hb, hml, hown, hts, hK, hA⟩ := cx
  exact va_put (ci := 0) (v := .int x) (ty := .int) (C := RX0) (T := TX0) (N := 15) hx hb hts in_X0 tyX0 tyX0_ok nmX0 hown hK hw.1 hw.2.1 hw.2.2 0 rfl rfl 12 (by decide) (hts _ q48) (fun _ h9 => h9) rfl (by decide +kernel) rfl rfl (Nat.le_of_ble_eq_true rfl) hdg (fun H1 locs1 hP hD hS => kk H1 locs1 ⟨hP, hD, hS⟩)
theorem xw_g13 (cx : gw_cx p s m args c cc nL RX0 D (xw_T dZ dI) A) (hw : gw_W D A s.heap (xw_ws dZ dI h q) σ H locs) (hdg : decode cc pc = .ok (.getfield 73, 3)) (kk : W p l e R s m args below meth c H locs cells slots Q (F0 m (pc + 3) ls (.int (σ 13 0) :: rest))) : W p l e R s m args below meth c H locs cells slots Q (F0 m pc ls (.ref h :: rest)) := by
  obtain ⟨hx, hb, hml, hown, hts, hK, hA⟩ := cx
  exact va_get (ci := 0) (v := .int (σ 13 0)) (C := RX0) (T := TX0) (N := 15) hx hb hts in_X0 hown hK hw.1 0 rfl rfl 13 (by decide) (hts _ q49) (fun _ h9 => h9) rfl hdg kk
theorem xw_p13 (cx : gw_cx p s m args c cc nL RX0 D (xw_T dZ dI) A) (hw : gw_W D A s.heap (xw_ws dZ dI h q) σ H locs) {x : Int32} (hdg : decode cc pc = .ok (.putfield 73, 3)) (kk : ∀ (H1 : Heap) (locs1 : List Loc), gw_W D A s.heap (xw_ws dZ dI h q) (ca_up σ 13 0 x) H1 locs1 → W p l e R s m args below meth c H1 locs1 cells slots Q (F0 m (pc + 3) ls rest)) : W p l e R s m args below meth c H locs cells slots Q (F0 m pc ls (.int x :: .ref h :: rest)) := by
  obtain ⟨hx, hb, hml, hown, hts, hK, hA⟩ := cx
  exact va_put (ci := 0) (v := .int x) (ty := .int) (C := RX0) (T := TX0) (N := 15) hx hb hts in_X0 tyX0 tyX0_ok nmX0 hown hK hw.1 hw.2.1 hw.2.2 0 rfl rfl 13 (by decide) (hts _ q49) (fun _ h9 => h9) rfl (by decide +kernel) rfl rfl (Nat.le_of_ble_eq_true rfl) hdg (fun H1 locs1 hP hD hS => kk H1 locs1 ⟨hP, hD, hS⟩)
theorem xw_g14 (cx : gw_cx p s m args c cc nL RX0 D (xw_T dZ dI) A) (hw : gw_W D A s.heap (xw_ws dZ dI h q) σ H locs) (hdg : decode cc pc = .ok (.getfield 41, 3)) (kk : W p l e R s m args below meth c H locs cells slots Q (F0 m (pc + 3) ls (.ref (q 14) :: rest))) : W p l e R s m args below meth c H locs cells slots Q (F0 m pc ls (.ref h :: rest)) := by
  obtain ⟨hx, hb, hml, hown, hts, hK, hA⟩ := cx
  exact va_get (ci := 0) (v := .ref (q 14)) (C := RX0) (T := TX0) (N := 15) hx hb hts in_X0 hown hK hw.1 0 rfl rfl 14 (by decide) (hts _ q50) (fun _ h9 => h9) rfl hdg kk
theorem xw_l0 (cx : gw_cx p s m args c cc nL RX0 D (xw_T dZ dI) A) (hw : gw_W D A s.heap (xw_ws dZ dI h q) σ H locs) {j : Nat} (hj : j < 5) (hdg : decode cc pc = .ok (.baload, 1)) (kk : W p l e R s m args below meth c H locs cells slots Q (F0 m (pc + 1) ls (.int (σ 0 j) :: rest))) : W p l e R s m args below meth c H locs cells slots Q (F0 m pc ls (.int (nI j) :: .ref (q 0) :: rest)) := by
  obtain ⟨hx, hb, hml, hown, hts, hK, hA⟩ := cx
  refine va_zald hx hb hK hw.1 1 0 rfl rfl (vp_in_nI hj (by decide)) hdg ?_
  rw [nI_clamp (by omega)]
  exact kk
theorem xw_s0 {j : Nat} {x v : Int32} (cx : gw_cx p s m args c cc nL RX0 D (xw_T dZ dI) A) (hw : gw_W D A s.heap (xw_ws dZ dI h q) σ H locs) (hj : j < 5) (hv : vp_nar .boolean x = v) (hdg : decode cc pc = .ok (.bastore, 1)) (kk : ∀ (H1 : Heap) (locs1 : List Loc), gw_W D A s.heap (xw_ws dZ dI h q) (ca_up σ 0 j v) H1 locs1 → W p l e R s m args below meth c H1 locs1 cells slots Q (F0 m (pc + 1) ls rest)) : W p l e R s m args below meth c H locs cells slots Q (F0 m pc ls (.int x :: .int (nI j) :: .ref (q 0) :: rest)) := by
  subst hv
  obtain ⟨hx, hb, hml, hown, hts, hK, hA⟩ := cx
  refine va_zast hx hb hK hw.1 hw.2.1 hw.2.2 1 0 rfl rfl (vp_in_nI hj (by decide)) hdg (fun H1 locs1 hP hD hS => kk H1 locs1 ?_)
  rw [nI_clamp (by omega)] at hP hD
  exact ⟨hP, hD, hS⟩
theorem xw_l1 (cx : gw_cx p s m args c cc nL RX0 D (xw_T dZ dI) A) (hw : gw_W D A s.heap (xw_ws dZ dI h q) σ H locs) {j : Nat} (hj : j < 80) (hdg : decode cc pc = .ok (.iaload, 1)) (kk : W p l e R s m args below meth c H locs cells slots Q (F0 m (pc + 1) ls (.int (σ 1 j) :: rest))) : W p l e R s m args below meth c H locs cells slots Q (F0 m pc ls (.int (nI j) :: .ref (q 1) :: rest)) := by
  obtain ⟨hx, hb, hml, hown, hts, hK, hA⟩ := cx
  refine va_iald hx hb hK hw.1 2 1 rfl rfl (vp_in_nI hj (by decide)) hdg ?_
  rw [nI_clamp (by omega)]
  exact kk
theorem xw_s1 (cx : gw_cx p s m args c cc nL RX0 D (xw_T dZ dI) A) (hw : gw_W D A s.heap (xw_ws dZ dI h q) σ H locs) {j : Nat} {x : Int32} (hj : j < 80) (hdg : decode cc pc = .ok (.iastore, 1)) (kk : ∀ (H1 : Heap) (locs1 : List Loc), gw_W D A s.heap (xw_ws dZ dI h q) (ca_up σ 1 j x) H1 locs1 → W p l e R s m args below meth c H1 locs1 cells slots Q (F0 m (pc + 1) ls rest)) : W p l e R s m args below meth c H locs cells slots Q (F0 m pc ls (.int x :: .int (nI j) :: .ref (q 1) :: rest)) := by
  obtain ⟨hx, hb, hml, hown, hts, hK, hA⟩ := cx
  refine va_iast hx hb hK hw.1 hw.2.1 hw.2.2 2 1 rfl rfl (vp_in_nI hj (by decide)) hdg (fun H1 locs1 hP hD hS => kk H1 locs1 ?_)
  rw [nI_clamp (by omega)] at hP hD
  exact ⟨hP, hD, hS⟩
theorem xw_l2 (cx : gw_cx p s m args c cc nL RX0 D (xw_T dZ dI) A) (hw : gw_W D A s.heap (xw_ws dZ dI h q) σ H locs) {j : Nat} (hj : j < 80) (hdg : decode cc pc = .ok (.iaload, 1)) (kk : W p l e R s m args below meth c H locs cells slots Q (F0 m (pc + 1) ls (.int (σ 2 j) :: rest))) : W p l e R s m args below meth c H locs cells slots Q (F0 m pc ls (.int (nI j) :: .ref (q 2) :: rest)) := by
  obtain ⟨hx, hb, hml, hown, hts, hK, hA⟩ := cx
  refine va_iald hx hb hK hw.1 3 1 rfl rfl (vp_in_nI hj (by decide)) hdg ?_
  rw [nI_clamp (by omega)]
  exact kk
theorem xw_s2 (cx : gw_cx p s m args c cc nL RX0 D (xw_T dZ dI) A) (hw : gw_W D A s.heap (xw_ws dZ dI h q) σ H locs) {j : Nat} {x : Int32} (hj : j < 80) (hdg : decode cc pc = .ok (.iastore, 1)) (kk : ∀ (H1 : Heap) (locs1 : List Loc), gw_W D A s.heap (xw_ws dZ dI h q) (ca_up σ 2 j x) H1 locs1 → W p l e R s m args below meth c H1 locs1 cells slots Q (F0 m (pc + 1) ls rest)) : W p l e R s m args below meth c H locs cells slots Q (F0 m pc ls (.int x :: .int (nI j) :: .ref (q 2) :: rest)) := by
  obtain ⟨hx, hb, hml, hown, hts, hK, hA⟩ := cx
  refine va_iast hx hb hK hw.1 hw.2.1 hw.2.2 3 1 rfl rfl (vp_in_nI hj (by decide)) hdg (fun H1 locs1 hP hD hS => kk H1 locs1 ?_)
  rw [nI_clamp (by omega)] at hP hD
  exact ⟨hP, hD, hS⟩
theorem xw_l3 (cx : gw_cx p s m args c cc nL RX0 D (xw_T dZ dI) A) (hw : gw_W D A s.heap (xw_ws dZ dI h q) σ H locs) {j : Nat} (hj : j < 1280) (hdg : decode cc pc = .ok (.iaload, 1)) (kk : W p l e R s m args below meth c H locs cells slots Q (F0 m (pc + 1) ls (.int (σ 3 j) :: rest))) : W p l e R s m args below meth c H locs cells slots Q (F0 m pc ls (.int (nI j) :: .ref (q 3) :: rest)) := by
  obtain ⟨hx, hb, hml, hown, hts, hK, hA⟩ := cx
  refine va_iald hx hb hK hw.1 4 1 rfl rfl (vp_in_nI hj (by decide)) hdg ?_
  rw [nI_clamp (by omega)]
  exact kk
theorem xw_s3 (cx : gw_cx p s m args c cc nL RX0 D (xw_T dZ dI) A) (hw : gw_W D A s.heap (xw_ws dZ dI h q) σ H locs) {j : Nat} {x : Int32} (hj : j < 1280) (hdg : decode cc pc = .ok (.iastore, 1)) (kk : ∀ (H1 : Heap) (locs1 : List Loc), gw_W D A s.heap (xw_ws dZ dI h q) (ca_up σ 3 j x) H1 locs1 → W p l e R s m args below meth c H1 locs1 cells slots Q (F0 m (pc + 1) ls rest)) : W p l e R s m args below meth c H locs cells slots Q (F0 m pc ls (.int x :: .int (nI j) :: .ref (q 3) :: rest)) := by
  obtain ⟨hx, hb, hml, hown, hts, hK, hA⟩ := cx
  refine va_iast hx hb hK hw.1 hw.2.1 hw.2.2 4 1 rfl rfl (vp_in_nI hj (by decide)) hdg (fun H1 locs1 hP hD hS => kk H1 locs1 ?_)
  rw [nI_clamp (by omega)] at hP hD
  exact ⟨hP, hD, hS⟩
theorem xw_l4 (cx : gw_cx p s m args c cc nL RX0 D (xw_T dZ dI) A) (hw : gw_W D A s.heap (xw_ws dZ dI h q) σ H locs) {j : Nat} (hj : j < 80) (hdg : decode cc pc = .ok (.iaload, 1)) (kk : W p l e R s m args below meth c H locs cells slots Q (F0 m (pc + 1) ls (.int (σ 4 j) :: rest))) : W p l e R s m args below meth c H locs cells slots Q (F0 m pc ls (.int (nI j) :: .ref (q 4) :: rest)) := by
  obtain ⟨hx, hb, hml, hown, hts, hK, hA⟩ := cx
  refine va_iald hx hb hK hw.1 5 1 rfl rfl (vp_in_nI hj (by decide)) hdg ?_
  rw [nI_clamp (by omega)]
  exact kk
theorem xw_s4 (cx : gw_cx p s m args c cc nL RX0 D (xw_T dZ dI) A) (hw : gw_W D A s.heap (xw_ws dZ dI h q) σ H locs) {j : Nat} {x : Int32} (hj : j < 80) (hdg : decode cc pc = .ok (.iastore, 1)) (kk : ∀ (H1 : Heap) (locs1 : List Loc), gw_W D A s.heap (xw_ws dZ dI h q) (ca_up σ 4 j x) H1 locs1 → W p l e R s m args below meth c H1 locs1 cells slots Q (F0 m (pc + 1) ls rest)) : W p l e R s m args below meth c H locs cells slots Q (F0 m pc ls (.int x :: .int (nI j) :: .ref (q 4) :: rest)) := by
  obtain ⟨hx, hb, hml, hown, hts, hK, hA⟩ := cx
  refine va_iast hx hb hK hw.1 hw.2.1 hw.2.2 5 1 rfl rfl (vp_in_nI hj (by decide)) hdg (fun H1 locs1 hP hD hS => kk H1 locs1 ?_)
  rw [nI_clamp (by omega)] at hP hD
  exact ⟨hP, hD, hS⟩
theorem xw_l5 (cx : gw_cx p s m args c cc nL RX0 D (xw_T dZ dI) A) (hw : gw_W D A s.heap (xw_ws dZ dI h q) σ H locs) {j : Nat} (hj : j < 80) (hdg : decode cc pc = .ok (.iaload, 1)) (kk : W p l e R s m args below meth c H locs cells slots Q (F0 m (pc + 1) ls (.int (σ 5 j) :: rest))) : W p l e R s m args below meth c H locs cells slots Q (F0 m pc ls (.int (nI j) :: .ref (q 5) :: rest)) := by
  obtain ⟨hx, hb, hml, hown, hts, hK, hA⟩ := cx
  refine va_iald hx hb hK hw.1 6 1 rfl rfl (vp_in_nI hj (by decide)) hdg ?_
  rw [nI_clamp (by omega)]
  exact kk
theorem xw_s5 (cx : gw_cx p s m args c cc nL RX0 D (xw_T dZ dI) A) (hw : gw_W D A s.heap (xw_ws dZ dI h q) σ H locs) {j : Nat} {x : Int32} (hj : j < 80) (hdg : decode cc pc = .ok (.iastore, 1)) (kk : ∀ (H1 : Heap) (locs1 : List Loc), gw_W D A s.heap (xw_ws dZ dI h q) (ca_up σ 5 j x) H1 locs1 → W p l e R s m args below meth c H1 locs1 cells slots Q (F0 m (pc + 1) ls rest)) : W p l e R s m args below meth c H locs cells slots Q (F0 m pc ls (.int x :: .int (nI j) :: .ref (q 5) :: rest)) := by
  obtain ⟨hx, hb, hml, hown, hts, hK, hA⟩ := cx
  refine va_iast hx hb hK hw.1 hw.2.1 hw.2.2 6 1 rfl rfl (vp_in_nI hj (by decide)) hdg (fun H1 locs1 hP hD hS => kk H1 locs1 ?_)
  rw [nI_clamp (by omega)] at hP hD
  exact ⟨hP, hD, hS⟩
theorem xw_l6 (cx : gw_cx p s m args c cc nL RX0 D (xw_T dZ dI) A) (hw : gw_W D A s.heap (xw_ws dZ dI h q) σ H locs) {j : Nat} (hj : j < 80) (hdg : decode cc pc = .ok (.baload, 1)) (kk : W p l e R s m args below meth c H locs cells slots Q (F0 m (pc + 1) ls (.int (σ 6 j) :: rest))) : W p l e R s m args below meth c H locs cells slots Q (F0 m pc ls (.int (nI j) :: .ref (q 6) :: rest)) := by
  obtain ⟨hx, hb, hml, hown, hts, hK, hA⟩ := cx
  refine va_zald hx hb hK hw.1 7 0 rfl rfl (vp_in_nI hj (by decide)) hdg ?_
  rw [nI_clamp (by omega)]
  exact kk
theorem xw_s6 {j : Nat} {x v : Int32} (cx : gw_cx p s m args c cc nL RX0 D (xw_T dZ dI) A) (hw : gw_W D A s.heap (xw_ws dZ dI h q) σ H locs) (hj : j < 80) (hv : vp_nar .boolean x = v) (hdg : decode cc pc = .ok (.bastore, 1)) (kk : ∀ (H1 : Heap) (locs1 : List Loc), gw_W D A s.heap (xw_ws dZ dI h q) (ca_up σ 6 j v) H1 locs1 → W p l e R s m args below meth c H1 locs1 cells slots Q (F0 m (pc + 1) ls rest)) : W p l e R s m args below meth c H locs cells slots Q (F0 m pc ls (.int x :: .int (nI j) :: .ref (q 6) :: rest)) := by
  subst hv
  obtain ⟨hx, hb, hml, hown, hts, hK, hA⟩ := cx
  refine va_zast hx hb hK hw.1 hw.2.1 hw.2.2 7 0 rfl rfl (vp_in_nI hj (by decide)) hdg (fun H1 locs1 hP hD hS => kk H1 locs1 ?_)
  rw [nI_clamp (by omega)] at hP hD
  exact ⟨hP, hD, hS⟩
theorem xw_l7 (cx : gw_cx p s m args c cc nL RX0 D (xw_T dZ dI) A) (hw : gw_W D A s.heap (xw_ws dZ dI h q) σ H locs) {j : Nat} (hj : j < 80) (hdg : decode cc pc = .ok (.iaload, 1)) (kk : W p l e R s m args below meth c H locs cells slots Q (F0 m (pc + 1) ls (.int (σ 7 j) :: rest))) : W p l e R s m args below meth c H locs cells slots Q (F0 m pc ls (.int (nI j) :: .ref (q 7) :: rest)) := by
  obtain ⟨hx, hb, hml, hown, hts, hK, hA⟩ := cx
  refine va_iald hx hb hK hw.1 8 1 rfl rfl (vp_in_nI hj (by decide)) hdg ?_
  rw [nI_clamp (by omega)]
  exact kk
theorem xw_s7 (cx : gw_cx p s m args c cc nL RX0 D (xw_T dZ dI) A) (hw : gw_W D A s.heap (xw_ws dZ dI h q) σ H locs) {j : Nat} {x : Int32} (hj : j < 80) (hdg : decode cc pc = .ok (.iastore, 1)) (kk : ∀ (H1 : Heap) (locs1 : List Loc), gw_W D A s.heap (xw_ws dZ dI h q) (ca_up σ 7 j x) H1 locs1 → W p l e R s m args below meth c H1 locs1 cells slots Q (F0 m (pc + 1) ls rest)) : W p l e R s m args below meth c H locs cells slots Q (F0 m pc ls (.int x :: .int (nI j) :: .ref (q 7) :: rest)) := by
  obtain ⟨hx, hb, hml, hown, hts, hK, hA⟩ := cx
  refine va_iast hx hb hK hw.1 hw.2.1 hw.2.2 8 1 rfl rfl (vp_in_nI hj (by decide)) hdg (fun H1 locs1 hP hD hS => kk H1 locs1 ?_)
  rw [nI_clamp (by omega)] at hP hD
  exact ⟨hP, hD, hS⟩
theorem xw_l8 (cx : gw_cx p s m args c cc nL RX0 D (xw_T dZ dI) A) (hw : gw_W D A s.heap (xw_ws dZ dI h q) σ H locs) {j : Nat} (hj : j < 80) (hdg : decode cc pc = .ok (.baload, 1)) (kk : W p l e R s m args below meth c H locs cells slots Q (F0 m (pc + 1) ls (.int (σ 8 j) :: rest))) : W p l e R s m args below meth c H locs cells slots Q (F0 m pc ls (.int (nI j) :: .ref (q 8) :: rest)) := by
  obtain ⟨hx, hb, hml, hown, hts, hK, hA⟩ := cx
  refine va_zald hx hb hK hw.1 9 0 rfl rfl (vp_in_nI hj (by decide)) hdg ?_
  rw [nI_clamp (by omega)]
  exact kk
theorem xw_s8 {j : Nat} {x v : Int32} (cx : gw_cx p s m args c cc nL RX0 D (xw_T dZ dI) A) (hw : gw_W D A s.heap (xw_ws dZ dI h q) σ H locs) (hj : j < 80) (hv : vp_nar .boolean x = v) (hdg : decode cc pc = .ok (.bastore, 1)) (kk : ∀ (H1 : Heap) (locs1 : List Loc), gw_W D A s.heap (xw_ws dZ dI h q) (ca_up σ 8 j v) H1 locs1 → W p l e R s m args below meth c H1 locs1 cells slots Q (F0 m (pc + 1) ls rest)) : W p l e R s m args below meth c H locs cells slots Q (F0 m pc ls (.int x :: .int (nI j) :: .ref (q 8) :: rest)) := by
  subst hv
  obtain ⟨hx, hb, hml, hown, hts, hK, hA⟩ := cx
  refine va_zast hx hb hK hw.1 hw.2.1 hw.2.2 9 0 rfl rfl (vp_in_nI hj (by decide)) hdg (fun H1 locs1 hP hD hS => kk H1 locs1 ?_)
  rw [nI_clamp (by omega)] at hP hD
  exact ⟨hP, hD, hS⟩
theorem xw_l9 (cx : gw_cx p s m args c cc nL RX0 D (xw_T dZ dI) A) (hw : gw_W D A s.heap (xw_ws dZ dI h q) σ H locs) {j : Nat} (hj : j < 80) (hdg : decode cc pc = .ok (.iaload, 1)) (kk : W p l e R s m args below meth c H locs cells slots Q (F0 m (pc + 1) ls (.int (σ 9 j) :: rest))) : W p l e R s m args below meth c H locs cells slots Q (F0 m pc ls (.int (nI j) :: .ref (q 9) :: rest)) := by
  obtain ⟨hx, hb, hml, hown, hts, hK, hA⟩ := cx
  refine va_iald hx hb hK hw.1 10 1 rfl rfl (vp_in_nI hj (by decide)) hdg ?_
  rw [nI_clamp (by omega)]
  exact kk
theorem xw_s9 (cx : gw_cx p s m args c cc nL RX0 D (xw_T dZ dI) A) (hw : gw_W D A s.heap (xw_ws dZ dI h q) σ H locs) {j : Nat} {x : Int32} (hj : j < 80) (hdg : decode cc pc = .ok (.iastore, 1)) (kk : ∀ (H1 : Heap) (locs1 : List Loc), gw_W D A s.heap (xw_ws dZ dI h q) (ca_up σ 9 j x) H1 locs1 → W p l e R s m args below meth c H1 locs1 cells slots Q (F0 m (pc + 1) ls rest)) : W p l e R s m args below meth c H locs cells slots Q (F0 m pc ls (.int x :: .int (nI j) :: .ref (q 9) :: rest)) := by
  obtain ⟨hx, hb, hml, hown, hts, hK, hA⟩ := cx
  refine va_iast hx hb hK hw.1 hw.2.1 hw.2.2 10 1 rfl rfl (vp_in_nI hj (by decide)) hdg (fun H1 locs1 hP hD hS => kk H1 locs1 ?_)
  rw [nI_clamp (by omega)] at hP hD
  exact ⟨hP, hD, hS⟩
theorem xw_l14 (cx : gw_cx p s m args c cc nL RX0 D (xw_T dZ dI) A) (hw : gw_W D A s.heap (xw_ws dZ dI h q) σ H locs) {j : Nat} (hj : j < 256) (hdg : decode cc pc = .ok (.iaload, 1)) (kk : W p l e R s m args below meth c H locs cells slots Q (F0 m (pc + 1) ls (.int (σ 14 j) :: rest))) : W p l e R s m args below meth c H locs cells slots Q (F0 m pc ls (.int (nI j) :: .ref (q 14) :: rest)) := by
  obtain ⟨hx, hb, hml, hown, hts, hK, hA⟩ := cx
  refine va_iald hx hb hK hw.1 11 1 rfl rfl (vp_in_nI hj (by decide)) hdg ?_
  rw [nI_clamp (by omega)]
  exact kk
theorem xw_s14 (cx : gw_cx p s m args c cc nL RX0 D (xw_T dZ dI) A) (hw : gw_W D A s.heap (xw_ws dZ dI h q) σ H locs) {j : Nat} {x : Int32} (hj : j < 256) (hdg : decode cc pc = .ok (.iastore, 1)) (kk : ∀ (H1 : Heap) (locs1 : List Loc), gw_W D A s.heap (xw_ws dZ dI h q) (ca_up σ 14 j x) H1 locs1 → W p l e R s m args below meth c H1 locs1 cells slots Q (F0 m (pc + 1) ls rest)) : W p l e R s m args below meth c H locs cells slots Q (F0 m pc ls (.int x :: .int (nI j) :: .ref (q 14) :: rest)) := by
  obtain ⟨hx, hb, hml, hown, hts, hK, hA⟩ := cx
  refine va_iast hx hb hK hw.1 hw.2.1 hw.2.2 11 1 rfl rfl (vp_in_nI hj (by decide)) hdg (fun H1 locs1 hP hD hS => kk H1 locs1 ?_)
  rw [nI_clamp (by omega)] at hP hD
  exact ⟨hP, hD, hS⟩
theorem xw_l1c (cx : gw_cx p s m args c cc nL RX0 D (xw_T dZ dI) A) (hw : gw_W D A s.heap (xw_ws dZ dI h q) σ H locs) (hok : ca_ok σ) {j : Nat} (hj : j < 80) (hdg : decode cc pc = .ok (.iaload, 1)) (kk : W p l e R s m args below meth c H locs cells slots Q (F0 m (pc + 1) ls (.int (nI (ca_c σ j)) :: rest))) : W p l e R s m args below meth c H locs cells slots Q (F0 m pc ls (.int (nI j) :: .ref (q 1) :: rest)) :=
  xw_l1 cx hw hj hdg (gw_top (ca_ok_at hok hj).2 kk)
end XWR
theorem xw_k_placeOf : gw_calS RX0 44 yX0_placeOf cX0_placeOf 2 (some .int) 2 := ⟨lw_S q131 q132 q26 q133, by decide +kernel⟩
theorem xw_k_within : gw_calS RX0 48 yX0_within cX0_within 2 (some .int) 2 := ⟨lw_S q134 q135 q26 q136, by decide +kernel⟩
theorem xw_k_freeSlot : gw_cal RX0 51 RX0 yX0_freeSlot cX0_freeSlot 2 (some .int) 0 := ⟨lw_V q115 q117 qs6 q26 q118, by decide +kernel⟩
theorem xw_k_own : gw_cal RX0 55 RX0 yX0_own cX0_own 5 (some .int) 1 := ⟨lw_V q111 q113 qs5 q26 q114, by decide +kernel⟩
theorem xw_k_settle : gw_cal RX0 59 RX0 yX0_settle cX0_settle 3 none 1 := ⟨lw_V q144 q146 qs11 q26 q147, by decide +kernel⟩
theorem xw_k_inRegion : gw_cal RX0 76 RX0 yX0_inRegion cX0_inRegion 3 (some .boolean) 2 := ⟨lw_V q123 q125 qs8 q26 q126, by decide +kernel⟩
theorem xw_k_read : gw_cal RX0 80 RX0 yX0_read cX0_read 5 (some .int) 3 := ⟨lw_V q127 q129 qs9 q26 q130, by decide +kernel⟩
theorem xw_k_result : gw_calS RX0 84 yX0_result cX0_result 3 (some .int) 3 := ⟨lw_S q137 q138 q26 q139, by decide +kernel⟩
theorem xw_k_writeCell : gw_cal RX0 87 RX0 yX0_writeCell cX0_writeCell 6 none 3 := ⟨lw_V q140 q142 qs10 q26 q143, by decide +kernel⟩
theorem xw_k_bad : gw_calS RX0 91 yX0_bad cX0_bad 1 (some .boolean) 1 := ⟨lw_S q92 q93 q26 q94, by decide +kernel⟩
theorem xw_k_setRegion : gw_cal RX0 95 RX0 yX0_setRegion cX0_setRegion 7 none 2 := ⟨lw_V q95 q97 qs1 q26 q98, by decide +kernel⟩
theorem xw_k_covers : gw_cal RX0 99 RX0 yX0_covers cX0_covers 4 (some .boolean) 1 := ⟨lw_V q99 q101 qs2 q26 q102, by decide +kernel⟩
theorem xw_k_touches : gw_cal RX0 102 RX0 yX0_touches cX0_touches 4 (some .boolean) 1 := ⟨lw_V q103 q105 qs3 q26 q106, by decide +kernel⟩
theorem xw_k_changeWhole : gw_cal RX0 105 RX0 yX0_changeWhole cX0_changeWhole 5 none 3 := ⟨lw_V q107 q109 qs4 q26 q110, by decide +kernel⟩
theorem xw_k_changePart : gw_cal RX0 108 RX0 yX0_changePart cX0_changePart 10 none 3 := ⟨lw_V q119 q121 qs7 q26 q122, by decide +kernel⟩
theorem xw_k_regionSize : gw_cal RX0 111 RX0 yX0_regionSize cX0_regionSize 1 (some .int) 0 := ⟨lw_V q148 q150 qs12 q26 q151, by decide +kernel⟩
theorem xw_k_change : gw_cal RX0 114 RX0 yX0_change cX0_change 8 (some .int) 4 := ⟨lw_V q88 q90 qs0 q26 q91, by decide +kernel⟩
theorem xw_k_differAt : gw_cal RX0 118 RX0 yX0_differAt cX0_differAt 9 (some .int) 2 := ⟨lw_V q180 q182 qs15 q26 q183, by decide +kernel⟩
theorem xw_k_noVersion : gw_cal RX0 121 RX0 yX0_noVersion cX0_noVersion 2 (some .boolean) 1 := ⟨lw_V q172 q174 qs13 q26 q175, by decide +kernel⟩
theorem xw_k_differences : gw_cal RX0 124 RX0 yX0_differences cX0_differences 4 (some .int) 1 := ⟨lw_V q176 q178 qs14 q26 q179, by decide +kernel⟩
theorem xw_k_wholeSum : gw_cal RX0 127 RX0 yX0_wholeSum cX0_wholeSum 4 (some .int) 1 := ⟨lw_V q200 q202 qs16 q26 q203, by decide +kernel⟩
theorem xw_k_partSum : gw_cal RX0 130 RX0 yX0_partSum cX0_partSum 7 (some .int) 1 := ⟨lw_V q204 q206 qs17 q26 q207, by decide +kernel⟩
theorem xw_k_wholeGreatest : gw_cal RX0 133 RX0 yX0_wholeGreatest cX0_wholeGreatest 5 (some .int) 1 := ⟨lw_V q212 q214 qs18 q26 q215, by decide +kernel⟩
theorem xw_k_partGreatest : gw_cal RX0 136 RX0 yX0_partGreatest cX0_partGreatest 9 (some .int) 2 := ⟨lw_V q216 q218 qs19 q26 q219, by decide +kernel⟩
def mw_F (q : Nat → Nat) (σ : ca_S) : List Value := [.ref (q 0), .ref (q 1), .ref (q 2), .ref (q 3)]
def mw_ws (dZ dI : ClassId) (h : Nat) (q : Nat → Nat) (σ : ca_S) : va_W := [(h, .inr (1, mw_F q σ)), (q 0, .inl (dI, 256, .inl (σ 0))), (q 1, .inl (dI, 256, .inl (σ 1))), (q 2, .inl (dI, 1024, .inl (σ 2))), (q 3, .inl (dZ, 4, .inl (σ 3)))]
theorem mw_rec {dZ dI : ClassId} {h : Nat} {q : Nat → Nat} : gw_rec (mw_ws dZ dI h q) h RX1 := ⟨1, TX1, 4, rfl, fun σ => ⟨_, rfl⟩⟩
section MWR
variable {p : Program} {l : Launch} {e : Env} {R : Room} {s : State} {m : MethodId} {args : Array Value} {below : List Frame} {meth : Method} {c : Code} {H : Heap} {locs : List Loc} {cells slots : Nat} {Q : State → Prop}
variable {cc : ByteArray} {nL pc h : Nat} {D : va_G} {dZ dI : ClassId} {A : Nat → Prop} {q : Nat → Nat} {rest : List Value} {σ : ca_S} {ls : Array Slot}
theorem mw_g0 (cx : gw_cx p s m args c cc nL RX1 D (xw_T dZ dI) A) (hw : gw_W D A s.heap (mw_ws dZ dI h q) σ H locs) (hdg : decode cc pc = .ok (.getfield 7, 3)) (kk : W p l e R s m args below meth c H locs cells slots Q (F0 m (pc + 3) ls (.ref (q 0) :: rest))) : W p l e R s m args below meth c H locs cells slots Q (F0 m pc ls (.ref h :: rest)) := by
  obtain ⟨hx, hb, hml, hown, hts, hK, hA⟩ := cx
  exact va_get (ci := 1) (v := .ref (q 0)) (C := RX1) (T := TX1) (N := 4) hx hb hts in_X1 hown hK hw.1 0 rfl rfl 0 (by decide) (hts _ q234) (fun _ h9 => h9) rfl hdg kk
theorem mw_g1 (cx : gw_cx p s m args c cc nL RX1 D (xw_T dZ dI) A) (hw : gw_W D A s.heap (mw_ws dZ dI h q) σ H locs) (hdg : decode cc pc = .ok (.getfield 13, 3)) (kk : W p l e R s m args below meth c H locs cells slots Q (F0 m (pc + 3) ls (.ref (q 1) :: rest))) : W p l e R s m args below meth c H locs cells slots Q (F0 m pc ls (.ref h :: rest)) := by
  obtain ⟨hx, hb, hml, hown, hts, hK, hA⟩ := cx
  exact va_get (ci := 1) (v := .ref (q 1)) (C := RX1) (T := TX1) (N := 4) hx hb hts in_X1 hown hK hw.1 0 rfl rfl 1 (by decide) (hts _ q235) (fun _ h9 => h9) rfl hdg kk
theorem mw_g2 (cx : gw_cx p s m args c cc nL RX1 D (xw_T dZ dI) A) (hw : gw_W D A s.heap (mw_ws dZ dI h q) σ H locs) (hdg : decode cc pc = .ok (.getfield 16, 3)) (kk : W p l e R s m args below meth c H locs cells slots Q (F0 m (pc + 3) ls (.ref (q 2) :: rest))) : W p l e R s m args below meth c H locs cells slots Q (F0 m pc ls (.ref h :: rest)) := by
  obtain ⟨hx, hb, hml, hown, hts, hK, hA⟩ := cx
  exact va_get (ci := 1) (v := .ref (q 2)) (C := RX1) (T := TX1) (N := 4) hx hb hts in_X1 hown hK hw.1 0 rfl rfl 2 (by decide) (hts _ q236) (fun _ h9 => h9) rfl hdg kk
theorem mw_g3 (cx : gw_cx p s m args c cc nL RX1 D (xw_T dZ dI) A) (hw : gw_W D A s.heap (mw_ws dZ dI h q) σ H locs) (hdg : decode cc pc = .ok (.getfield 19, 3)) (kk : W p l e R s m args below meth c H locs cells slots Q (F0 m (pc + 3) ls (.ref (q 3) :: rest))) : W p l e R s m args below meth c H locs cells slots Q (F0 m pc ls (.ref h :: rest)) := by
  obtain ⟨hx, hb, hml, hown, hts, hK, hA⟩ := cx
  exact va_get (ci := 1) (v := .ref (q 3)) (C := RX1) (T := TX1) (N := 4) hx hb hts in_X1 hown hK hw.1 0 rfl rfl 3 (by decide) (hts _ q237) (fun _ h9 => h9) rfl hdg kk
theorem mw_l0 (cx : gw_cx p s m args c cc nL RX1 D (xw_T dZ dI) A) (hw : gw_W D A s.heap (mw_ws dZ dI h q) σ H locs) {j : Nat} (hj : j < 256) (hdg : decode cc pc = .ok (.iaload, 1)) (kk : W p l e R s m args below meth c H locs cells slots Q (F0 m (pc + 1) ls (.int (σ 0 j) :: rest))) : W p l e R s m args below meth c H locs cells slots Q (F0 m pc ls (.int (nI j) :: .ref (q 0) :: rest)) := by
  obtain ⟨hx, hb, hml, hown, hts, hK, hA⟩ := cx
  refine va_iald hx hb hK hw.1 1 1 rfl rfl (vp_in_nI hj (by decide)) hdg ?_
  rw [nI_clamp (by omega)]
  exact kk
theorem mw_s0 (cx : gw_cx p s m args c cc nL RX1 D (xw_T dZ dI) A) (hw : gw_W D A s.heap (mw_ws dZ dI h q) σ H locs) {j : Nat} {x : Int32} (hj : j < 256) (hdg : decode cc pc = .ok (.iastore, 1)) (kk : ∀ (H1 : Heap) (locs1 : List Loc), gw_W D A s.heap (mw_ws dZ dI h q) (ca_up σ 0 j x) H1 locs1 → W p l e R s m args below meth c H1 locs1 cells slots Q (F0 m (pc + 1) ls rest)) : W p l e R s m args below meth c H locs cells slots Q (F0 m pc ls (.int x :: .int (nI j) :: .ref (q 0) :: rest)) := by
  obtain ⟨hx, hb, hml, hown, hts, hK, hA⟩ := cx
  refine va_iast hx hb hK hw.1 hw.2.1 hw.2.2 1 1 rfl rfl (vp_in_nI hj (by decide)) hdg (fun H1 locs1 hP hD hS => kk H1 locs1 ?_)
  rw [nI_clamp (by omega)] at hP hD
  exact ⟨hP, hD, hS⟩
theorem mw_l1 (cx : gw_cx p s m args c cc nL RX1 D (xw_T dZ dI) A) (hw : gw_W D A s.heap (mw_ws dZ dI h q) σ H locs) {j : Nat} (hj : j < 256) (hdg : decode cc pc = .ok (.iaload, 1)) (kk : W p l e R s m args below meth c H locs cells slots Q (F0 m (pc + 1) ls (.int (σ 1 j) :: rest))) : W p l e R s m args below meth c H locs cells slots Q (F0 m pc ls (.int (nI j) :: .ref (q 1) :: rest)) := by
  obtain ⟨hx, hb, hml, hown, hts, hK, hA⟩ := cx
  refine va_iald hx hb hK hw.1 2 1 rfl rfl (vp_in_nI hj (by decide)) hdg ?_
  rw [nI_clamp (by omega)]
  exact kk
theorem mw_s1 (cx : gw_cx p s m args c cc nL RX1 D (xw_T dZ dI) A) (hw : gw_W D A s.heap (mw_ws dZ dI h q) σ H locs) {j : Nat} {x : Int32} (hj : j < 256) (hdg : decode cc pc = .ok (.iastore, 1)) (kk : ∀ (H1 : Heap) (locs1 : List Loc), gw_W D A s.heap (mw_ws dZ dI h q) (ca_up σ 1 j x) H1 locs1 → W p l e R s m args below meth c H1 locs1 cells slots Q (F0 m (pc + 1) ls rest)) : W p l e R s m args below meth c H locs cells slots Q (F0 m pc ls (.int x :: .int (nI j) :: .ref (q 1) :: rest)) := by
  obtain ⟨hx, hb, hml, hown, hts, hK, hA⟩ := cx
  refine va_iast hx hb hK hw.1 hw.2.1 hw.2.2 2 1 rfl rfl (vp_in_nI hj (by decide)) hdg (fun H1 locs1 hP hD hS => kk H1 locs1 ?_)
  rw [nI_clamp (by omega)] at hP hD
  exact ⟨hP, hD, hS⟩
theorem mw_l2 (cx : gw_cx p s m args c cc nL RX1 D (xw_T dZ dI) A) (hw : gw_W D A s.heap (mw_ws dZ dI h q) σ H locs) {j : Nat} (hj : j < 1024) (hdg : decode cc pc = .ok (.iaload, 1)) (kk : W p l e R s m args below meth c H locs cells slots Q (F0 m (pc + 1) ls (.int (σ 2 j) :: rest))) : W p l e R s m args below meth c H locs cells slots Q (F0 m pc ls (.int (nI j) :: .ref (q 2) :: rest)) := by
  obtain ⟨hx, hb, hml, hown, hts, hK, hA⟩ := cx
  refine va_iald hx hb hK hw.1 3 1 rfl rfl (vp_in_nI hj (by decide)) hdg ?_
  rw [nI_clamp (by omega)]
  exact kk
theorem mw_s2 (cx : gw_cx p s m args c cc nL RX1 D (xw_T dZ dI) A) (hw : gw_W D A s.heap (mw_ws dZ dI h q) σ H locs) {j : Nat} {x : Int32} (hj : j < 1024) (hdg : decode cc pc = .ok (.iastore, 1)) (kk : ∀ (H1 : Heap) (locs1 : List Loc), gw_W D A s.heap (mw_ws dZ dI h q) (ca_up σ 2 j x) H1 locs1 → W p l e R s m args below meth c H1 locs1 cells slots Q (F0 m (pc + 1) ls rest)) : W p l e R s m args below meth c H locs cells slots Q (F0 m pc ls (.int x :: .int (nI j) :: .ref (q 2) :: rest)) := by
  obtain ⟨hx, hb, hml, hown, hts, hK, hA⟩ := cx
  refine va_iast hx hb hK hw.1 hw.2.1 hw.2.2 3 1 rfl rfl (vp_in_nI hj (by decide)) hdg (fun H1 locs1 hP hD hS => kk H1 locs1 ?_)
  rw [nI_clamp (by omega)] at hP hD
  exact ⟨hP, hD, hS⟩
theorem mw_l3 (cx : gw_cx p s m args c cc nL RX1 D (xw_T dZ dI) A) (hw : gw_W D A s.heap (mw_ws dZ dI h q) σ H locs) {j : Nat} (hj : j < 4) (hdg : decode cc pc = .ok (.baload, 1)) (kk : W p l e R s m args below meth c H locs cells slots Q (F0 m (pc + 1) ls (.int (σ 3 j) :: rest))) : W p l e R s m args below meth c H locs cells slots Q (F0 m pc ls (.int (nI j) :: .ref (q 3) :: rest)) := by
  obtain ⟨hx, hb, hml, hown, hts, hK, hA⟩ := cx
  refine va_zald hx hb hK hw.1 4 0 rfl rfl (vp_in_nI hj (by decide)) hdg ?_
  rw [nI_clamp (by omega)]
  exact kk
theorem mw_s3 {j : Nat} {x v : Int32} (cx : gw_cx p s m args c cc nL RX1 D (xw_T dZ dI) A) (hw : gw_W D A s.heap (mw_ws dZ dI h q) σ H locs) (hj : j < 4) (hv : vp_nar .boolean x = v) (hdg : decode cc pc = .ok (.bastore, 1)) (kk : ∀ (H1 : Heap) (locs1 : List Loc), gw_W D A s.heap (mw_ws dZ dI h q) (ca_up σ 3 j v) H1 locs1 → W p l e R s m args below meth c H1 locs1 cells slots Q (F0 m (pc + 1) ls rest)) : W p l e R s m args below meth c H locs cells slots Q (F0 m pc ls (.int x :: .int (nI j) :: .ref (q 3) :: rest)) := by
  subst hv
  obtain ⟨hx, hb, hml, hown, hts, hK, hA⟩ := cx
  refine va_zast hx hb hK hw.1 hw.2.1 hw.2.2 4 0 rfl rfl (vp_in_nI hj (by decide)) hdg (fun H1 locs1 hP hD hS => kk H1 locs1 ?_)
  rw [nI_clamp (by omega)] at hP hD
  exact ⟨hP, hD, hS⟩
end MWR
theorem mw_k_between : gw_cal RX1 23 RX1 yX1_between cX1_between 4 (some .boolean) 3 := ⟨lw_V q263 q265 qs23 q27 q266, by decide +kernel⟩
theorem mw_k_isCell : gw_cal RX1 27 RX1 yX1_isCell cX1_isCell 2 (some .boolean) 1 := ⟨lw_V q255 q257 qs21 q27 q258, by decide +kernel⟩
theorem mw_k_inside : gw_cal RX1 31 RX1 yX1_inside cX1_inside 4 (some .boolean) 3 := ⟨lw_V q259 q261 qs22 q27 q262, by decide +kernel⟩
theorem mw_k_change : gw_cal RX1 34 RX1 yX1_change cX1_change 7 (some .int) 4 := ⟨lw_V q251 q253 qs20 q27 q254, by decide +kernel⟩
theorem mw_k_differ : gw_cal RX1 38 RX1 yX1_differ cX1_differ 4 (some .int) 1 := ⟨lw_V q287 q288 q289 q27 q290, by decide +kernel⟩
theorem mw_k_isVersion : gw_cal RX1 42 RX1 yX1_isVersion cX1_isVersion 2 (some .boolean) 1 := ⟨lw_V q291 q293 qs24 q27 q294, by decide +kernel⟩
end
section
/-! ChunkArray: contracts (bad, placeOf, within, result, noVersion, read, freeSlot, own) -/
abbrev rmX0_bad : Room := { frames := 0, cells := 0, slots := 0, locals := 0 }
set_option maxHeartbeats 400000 in
set_option maxRecDepth 100000 in
theorem mtX0_bad (l : Launch) (x : Int32) : gw_MS l yX0_bad cX0_bad 1 .boolean rmX0_bad [.int (x)] (if ca_bad x then 1 else 0) := by
  refine gw_entS (by decide) (Nat.le_of_ble_eq_true rfl) (by split <;> rfl) ?_
  intro p e s m args below meth c H locs Q hx hb hret ls hl
  have hl : lv_has ls 1 [(0, .int (x))] := hl
  refine lv_iload_n hx hb dX0_bad_0 rfl (lv_at hl 0 rfl) ?_
  refine lv_if_lt (tgt := 11) hx hb dX0_bad_1 (by decide) (fun h1 => ?_) (fun h1 => ?_)
  · refine lv_iconst (v := nI 1) hx hb dX0_bad_11 (by decide) ?_
    refine lv_goto (tgt := 16) hx hb dX0_bad_12 (by decide) ?_
    exact hret dX0_bad_16 (if_pos (Or.inl h1)).symm
  · refine lv_iload_n hx hb dX0_bad_4 rfl (lv_at hl 0 rfl) ?_
    refine lv_sipush (v := nI 255) hx hb dX0_bad_5 (by decide) ?_
    refine lv_icmp_le (tgt := 15) hx hb dX0_bad_8 (by decide) (fun h2 => ?_) (fun h2 => ?_)
    · refine lv_iconst (v := nI 0) hx hb dX0_bad_15 (by decide) ?_
      exact hret dX0_bad_16 (if_neg (fun z => z.elim h1 (Int32.not_lt.mpr h2))).symm
    · refine lv_iconst (v := nI 1) hx hb dX0_bad_11 (by decide) ?_
      refine lv_goto (tgt := 16) hx hb dX0_bad_12 (by decide) ?_
      exact hret dX0_bad_16 (if_pos (Or.inr (Int32.not_le.mp h2))).symm
abbrev rmX0_placeOf : Room := { frames := 0, cells := 0, slots := 0, locals := 0 }
set_option maxHeartbeats 400000 in
set_option maxRecDepth 100000 in
theorem mtX0_placeOf (l : Launch) {r b : Nat} (g1 : r < 16) (g2 : b < 16) : gw_MS l yX0_placeOf cX0_placeOf 2 .int rmX0_placeOf [.int (nI r), .int (nI b)] (nI (ca_pl r b)) := by
  refine gw_entS (by decide) (Nat.le_of_ble_eq_true rfl) (rfl) ?_
  intro p e s m args below meth c H locs Q hx hb hret ls hl
  have hl : lv_has ls 2 [(0, .int (nI r)), (1, .int (nI b))] := hl
  refine lv_iload_n hx hb dX0_placeOf_0 rfl (lv_at hl 0 rfl) ?_
  refine lv_iconst (v := nI 2) hx hb dX0_placeOf_1 (by decide) ?_
  refine nw_shr2 hx hb dX0_placeOf_2 (by omega) ?_
  refine lv_iconst (v := nI 4) hx hb dX0_placeOf_3 (by decide) ?_
  refine nw_mul hx hb dX0_placeOf_4 ?_
  refine lv_iload_n hx hb dX0_placeOf_5 rfl (lv_at hl 1 rfl) ?_
  refine lv_iconst (v := nI 2) hx hb dX0_placeOf_6 (by decide) ?_
  refine nw_shr2 hx hb dX0_placeOf_7 (by omega) ?_
  refine nw_add hx hb dX0_placeOf_8 ?_
  exact hret dX0_placeOf_9 rfl
abbrev rmX0_within : Room := { frames := 0, cells := 0, slots := 0, locals := 0 }
set_option maxHeartbeats 400000 in
set_option maxRecDepth 100000 in
theorem mtX0_within (l : Launch) {r b : Nat} (g1 : r < 16) (g2 : b < 16) : gw_MS l yX0_within cX0_within 2 .int rmX0_within [.int (nI r), .int (nI b)] (nI (ca_wi r b)) := by
  refine gw_entS (by decide) (Nat.le_of_ble_eq_true rfl) (rfl) ?_
  intro p e s m args below meth c H locs Q hx hb hret ls hl
  have hl : lv_has ls 2 [(0, .int (nI r)), (1, .int (nI b))] := hl
  refine lv_iload_n hx hb dX0_within_0 rfl (lv_at hl 0 rfl) ?_
  refine lv_iconst (v := nI 3) hx hb dX0_within_1 (by decide) ?_
  refine nw_and3 hx hb dX0_within_2 (by omega) ?_
  refine lv_iconst (v := nI 4) hx hb dX0_within_3 (by decide) ?_
  refine nw_mul hx hb dX0_within_4 ?_
  refine lv_iload_n hx hb dX0_within_5 rfl (lv_at hl 1 rfl) ?_
  refine lv_iconst (v := nI 3) hx hb dX0_within_6 (by decide) ?_
  refine nw_and3 hx hb dX0_within_7 (by omega) ?_
  refine nw_add hx hb dX0_within_8 ?_
  exact hret dX0_within_9 rfl
abbrev rmX0_result : Room := { frames := 0, cells := 0, slots := 0, locals := 0 }
set_option maxHeartbeats 400000 in
set_option maxRecDepth 100000 in
theorem mtX0_result (l : Launch) (w x y : Int32) : gw_MS l yX0_result cX0_result 3 .int rmX0_result [.int (w), .int (x), .int (y)] (ca_res w x y) := by
  refine gw_entS (by decide) (Nat.le_of_ble_eq_true rfl) (rfl) ?_
  intro p e s m args below meth c H locs Q hx hb hret ls hl
  have hl : lv_has ls 3 [(0, .int (w)), (1, .int (x)), (2, .int (y))] := hl
  refine lv_iload_n hx hb dX0_result_0 rfl (lv_at hl 0 rfl) ?_
  refine lv_if_ne (tgt := 6) hx hb dX0_result_1 (by decide) (fun h1 => ?_) (fun h1 => ?_)
  · refine lv_iload_n hx hb dX0_result_6 rfl (lv_at hl 0 rfl) ?_
    refine lv_iconst (v := nI 1) hx hb dX0_result_7 (by decide) ?_
    refine lv_icmp_ne (tgt := 17) hx hb dX0_result_8 (by decide) (fun h2 => ?_) (fun h2 => ?_)
    · refine lv_iload_n hx hb dX0_result_17 rfl (lv_at hl 1 rfl) ?_
      refine lv_iload_n hx hb dX0_result_18 rfl (lv_at hl 2 rfl) ?_
      refine lv_imul hx hb dX0_result_19 ?_
      exact hret dX0_result_20 ((if_neg h1).trans (if_neg h2)).symm
    · refine lv_iload_n hx hb dX0_result_11 rfl (lv_at hl 1 rfl) ?_
      refine lv_iload_n hx hb dX0_result_12 rfl (lv_at hl 2 rfl) ?_
      refine lv_iadd hx hb dX0_result_13 ?_
      refine lv_goto (tgt := 20) hx hb dX0_result_14 (by decide) ?_
      exact hret dX0_result_20 ((if_neg h1).trans (if_pos h2)).symm
  · refine lv_iload_n hx hb dX0_result_4 rfl (lv_at hl 2 rfl) ?_
    exact hret dX0_result_5 (if_pos h1).symm
abbrev rmX0_noVersion : Room := { frames := 0, cells := 0, slots := 0, locals := 0 }
set_option maxHeartbeats 400000 in
set_option maxRecDepth 100000 in
theorem mtX0_noVersion (l : Launch) (D : va_G) (dZ dI : ClassId) (h : Nat) (q : Nat → Nat) (σ : ca_S) (v : Int32) : gw_MI l D (xw_T dZ dI) (xw_ws dZ dI h q) h yX0_noVersion cX0_noVersion 2 .boolean rmX0_noVersion [.int (v)] σ (if ca_nov σ v then 1 else 0) (σ) := by
  refine gw_entI (by decide) (Nat.le_of_ble_eq_true rfl) (by split <;> rfl) ?_
  intro p e s m args below meth c A Q cx hret ls hl hw
  have hx := cx.1
  have hb := cx.2.1
  have hl : lv_has ls 2 [(0, .ref h), (1, .int (v))] := hl
  refine lv_iload_n hx hb dX0_noVersion_0 rfl (lv_at hl 1 rfl) ?_
  refine lv_if_lt (tgt := 18) hx hb dX0_noVersion_1 (by decide) (fun h1 => ?_) (fun h1 => ?_)
  · refine lv_iconst (v := nI 1) hx hb dX0_noVersion_18 (by decide) ?_
    refine lv_goto (tgt := 23) hx hb dX0_noVersion_19 (by decide) ?_
    exact hret dX0_noVersion_23 (if_pos (Or.inl h1)).symm rfl hw
  · refine lv_iload_n hx hb dX0_noVersion_4 rfl (lv_at hl 1 rfl) ?_
    refine lv_iconst (v := nI 3) hx hb dX0_noVersion_5 (by decide) ?_
    refine lv_icmp_gt (tgt := 18) hx hb dX0_noVersion_6 (by decide) (fun h2 => ?_) (fun h2 => ?_)
    · refine lv_iconst (v := nI 1) hx hb dX0_noVersion_18 (by decide) ?_
      refine lv_goto (tgt := 23) hx hb dX0_noVersion_19 (by decide) ?_
      exact hret dX0_noVersion_23 (if_pos (Or.inr (Or.inl h2))).symm rfl hw
    · obtain ⟨V, g1, rfl⟩ := ca_ver_nat h1 h2
      refine lv_aload_n hx hb dX0_noVersion_9 rfl (lv_at hl 0 rfl) ?_
      refine xw_g0 cx hw dX0_noVersion_10 ?_
      refine lv_iload_n hx hb dX0_noVersion_13 rfl (lv_at hl 1 rfl) ?_
      refine xw_l0 cx hw (by omega) dX0_noVersion_14 ?_
      refine lv_if_ne (tgt := 22) hx hb dX0_noVersion_15 (by decide) (fun h3 => ?_) (fun h3 => ?_)
      · refine lv_iconst (v := nI 0) hx hb dX0_noVersion_22 (by decide) ?_
        exact hret dX0_noVersion_23 (if_neg (fun z => z.elim h1 (fun z => z.elim h2 (fun z => h3 (by rw [ca_cl (n := V) (by omega)] at z; exact z))))).symm rfl hw
      · refine lv_iconst (v := nI 1) hx hb dX0_noVersion_18 (by decide) ?_
        refine lv_goto (tgt := 23) hx hb dX0_noVersion_19 (by decide) ?_
        exact hret dX0_noVersion_23 (if_pos (Or.inr (Or.inr (by rw [ca_cl (n := V) (by omega)]; exact h3)))).symm rfl hw
abbrev rmX0_read : Room := { frames := 1, cells := 0, slots := 0, locals := 21 }
set_option maxHeartbeats 400000 in
set_option maxRecDepth 100000 in
theorem mtX0_read (l : Launch) (D : va_G) (dZ dI : ClassId) (h : Nat) (q : Nat → Nat) (σ : ca_S) (hok : ca_ok σ) {a r b : Nat} (g1 : a < 5) (g2 : r < 16) (g3 : b < 16) : gw_MI l D (xw_T dZ dI) (xw_ws dZ dI h q) h yX0_read cX0_read 5 .int rmX0_read [.int (nI a), .int (nI r), .int (nI b)] σ (ca_rd σ a r b) (σ) := by
  refine gw_entI (by decide) (Nat.le_of_ble_eq_true rfl) (rfl) ?_
  intro p e s m args below meth c A Q cx hret ls hl hw
  have hx := cx.1
  have hb := cx.2.1
  have hl : lv_has ls 5 [(0, .ref h), (1, .int (nI a)), (2, .int (nI r)), (3, .int (nI b))] := hl
  have g4 := ca_pl_lt g2 g3
  have g5 := ca_wi_lt r b
  refine lv_aload_n hx hb dX0_read_0 rfl (lv_at hl 0 rfl) ?_
  refine xw_g1 cx hw dX0_read_1 ?_
  refine lv_iload_n hx hb dX0_read_4 rfl (lv_at hl 1 rfl) ?_
  refine lv_bipush (v := nI 16) hx hb dX0_read_5 (by decide) ?_
  refine nw_mul hx hb dX0_read_7 ?_
  refine lv_iload_n hx hb dX0_read_8 rfl (lv_at hl 2 rfl) ?_
  refine lv_iload_n hx hb dX0_read_9 rfl (lv_at hl 3 rfl) ?_
  refine gw_calls (As := [.int (nI r), .int (nI b)]) (rest := [.int (nI (a * 16)), .ref (q 1)]) cx (mtX0_placeOf l (by omega) (by omega)) xw_k_placeOf ⟨Nat.le_of_ble_eq_true rfl, Nat.le_of_ble_eq_true rfl, rfl, rfl⟩ hl.1 rfl rfl (Nat.le_of_ble_eq_true rfl) dX0_read_10 ⟨Nat.zero_le _, Nat.zero_le _⟩ ?_
  refine nw_add hx hb dX0_read_13 ?_
  refine xw_l1c cx hw hok (by omega) dX0_read_14 ?_
  have hc_1 := (ca_ok_at hok (p := (a * 16) + (ca_pl r b)) (by omega)).1
  refine lv_istore (lv' := [(4, .int (nI (ca_c σ ((a * 16) + (ca_pl r b))))), (0, .ref h), (1, .int (nI a)), (2, .int (nI r)), (3, .int (nI b))]) hx hb dX0_read_15 hl (by decide) rfl (fun ls hl => ?_)
  refine lv_aload_n hx hb dX0_read_17 rfl (lv_at hl 1 rfl) ?_
  refine xw_g3 cx hw dX0_read_18 ?_
  refine lv_iload hx hb dX0_read_21 (lv_at hl 0 rfl) ?_
  refine lv_bipush (v := nI 16) hx hb dX0_read_23 (by decide) ?_
  refine nw_mul hx hb dX0_read_25 ?_
  refine lv_iload_n hx hb dX0_read_26 rfl (lv_at hl 3 rfl) ?_
  refine lv_iload_n hx hb dX0_read_27 rfl (lv_at hl 4 rfl) ?_
  refine gw_calls (As := [.int (nI r), .int (nI b)]) (rest := [.int (nI ((ca_c σ ((a * 16) + (ca_pl r b))) * 16)), .ref (q 3)]) cx (mtX0_within l (by omega) (by omega)) xw_k_within ⟨Nat.le_of_ble_eq_true rfl, Nat.le_of_ble_eq_true rfl, rfl, rfl⟩ hl.1 rfl rfl (Nat.le_of_ble_eq_true rfl) dX0_read_28 ⟨Nat.zero_le _, Nat.zero_le _⟩ ?_
  refine nw_add hx hb dX0_read_31 ?_
  refine xw_l3 cx hw (by omega) dX0_read_32 ?_
  refine lv_aload_n hx hb dX0_read_33 rfl (lv_at hl 1 rfl) ?_
  refine xw_g4 cx hw dX0_read_34 ?_
  refine lv_iload hx hb dX0_read_37 (lv_at hl 0 rfl) ?_
  refine xw_l4 cx hw (by omega) dX0_read_39 ?_
  refine lv_imul hx hb dX0_read_40 ?_
  refine lv_aload_n hx hb dX0_read_41 rfl (lv_at hl 1 rfl) ?_
  refine xw_g5 cx hw dX0_read_42 ?_
  refine lv_iload hx hb dX0_read_45 (lv_at hl 0 rfl) ?_
  refine xw_l5 cx hw (by omega) dX0_read_47 ?_
  refine lv_iadd hx hb dX0_read_48 ?_
  exact hret dX0_read_49 rfl rfl hw
abbrev rmX0_freeSlot : Room := { frames := 0, cells := 0, slots := 0, locals := 0 }
set_option maxHeartbeats 400000 in
set_option maxRecDepth 100000 in
theorem mtX0_freeSlot (l : Launch) (D : va_G) (dZ dI : ClassId) (h : Nat) (q : Nat → Nat) (σ : ca_S)  : gw_MI l D (xw_T dZ dI) (xw_ws dZ dI h q) h yX0_freeSlot cX0_freeSlot 2 .int rmX0_freeSlot [] σ (nI (ca_od σ)) (σ) := by
  refine gw_entI (by decide) (Nat.le_of_ble_eq_true rfl) (rfl) ?_
  intro p e s m args below meth c A Q cx hret ls hl hw
  have hx := cx.1
  have hb := cx.2.1
  have hl : lv_has ls 2 [(0, .ref h)] := hl
  have loop : ∀ (n : Nat) (i : Nat), i + n = 79 → ca_fr σ i n = ca_od σ → ∀ (H : Heap) (locs : List Loc) (ls : Array Slot), gw_W D A s.heap (xw_ws dZ dI h q) (σ) H locs → lv_has ls 2 [(1, .int (nI i)), (0, .ref h)] → W p l e rmX0_freeSlot s m args below meth c H locs 0 0 Q (F0 m 2 ls []) := by
    intro n
    induction n with
    | zero =>
      intro i hi he H locs ls hw hl
      refine lv_iload_n hx hb dX0_freeSlot_2 rfl (lv_at hl 0 rfl) ?_
      refine lv_bipush (v := nI 79) hx hb dX0_freeSlot_3 (by decide) ?_
      refine nw_geT (tgt := 23) hx hb dX0_freeSlot_5 (by decide) (by omega) (by omega) (by omega) ?_
      refine lv_iload_n hx hb dX0_freeSlot_23 rfl (lv_at hl 0 rfl) ?_
      exact hret dX0_freeSlot_24 (congrArg nI he) rfl hw
    | succ n ih =>
      intro i hi he H locs ls hw hl
      refine lv_iload_n hx hb dX0_freeSlot_2 rfl (lv_at hl 0 rfl) ?_
      refine lv_bipush (v := nI 79) hx hb dX0_freeSlot_3 (by decide) ?_
      refine nw_geF (tgt := 23) hx hb dX0_freeSlot_5 (by decide) (by omega) (by omega) (by omega) ?_
      refine lv_aload_n hx hb dX0_freeSlot_8 rfl (lv_at hl 1 rfl) ?_
      refine xw_g2 cx hw dX0_freeSlot_9 ?_
      refine lv_iload_n hx hb dX0_freeSlot_12 rfl (lv_at hl 0 rfl) ?_
      refine xw_l2 cx hw (by omega) dX0_freeSlot_13 ?_
      refine lv_if_le (tgt := 23) hx hb dX0_freeSlot_14 (by decide) (fun h1 => ?_) (fun h1 => ?_)
      · refine lv_iload_n hx hb dX0_freeSlot_23 rfl (lv_at hl 0 rfl) ?_
        exact hret dX0_freeSlot_24 (congrArg nI ((if_pos h1).symm.trans he)) rfl hw
      · refine lv_iinc (v := nI (i + 1)) (lv' := [(1, .int (nI (i + 1))), (0, .ref h)]) hx hb dX0_freeSlot_17 hl (k := 0) rfl (nI_1 _) (by decide) rfl (fun ls hl => ?_)
        refine lv_goto (tgt := 2) hx hb dX0_freeSlot_20 (by decide) ?_
        exact ih (i + 1) (by omega) ((if_neg h1).symm.trans he) H locs ls hw (lv_sub hl [0, 1] rfl)
  refine lv_iconst (v := nI 0) hx hb dX0_freeSlot_0 (by decide) ?_
  refine lv_istore_n (lv' := [(1, .int (nI 0)), (0, .ref h)]) hx hb dX0_freeSlot_1 rfl hl (by decide) rfl (fun ls hl => ?_)
  exact loop 79 0 rfl rfl _ _ _ hw (lv_sub hl [0, 1] rfl)
abbrev rmX0_own : Room := { frames := 1, cells := 0, slots := 0, locals := 21 }
set_option maxHeartbeats 400000 in
set_option maxRecDepth 100000 in
theorem mtX0_own (l : Launch) (D : va_G) (dZ dI : ClassId) (h : Nat) (q : Nat → Nat) (σ : ca_S) (hok : ca_ok σ) {k : Nat} (g1 : k < 16) : gw_MI l D (xw_T dZ dI) (xw_ws dZ dI h q) h yX0_own cX0_own 5 .int rmX0_own [.int (nI k)] σ (nI (ca_owC σ k)) (ca_owS σ k) := by
  refine gw_entI (by decide) (Nat.le_of_ble_eq_true rfl) (rfl) ?_
  intro p e s m args below meth c A Q cx hret ls hl hw
  have hx := cx.1
  have hb := cx.2.1
  have hl : lv_has ls 5 [(0, .ref h), (1, .int (nI k))] := hl
  refine lv_aload_n hx hb dX0_own_0 rfl (lv_at hl 0 rfl) ?_
  refine xw_g1 cx hw dX0_own_1 ?_
  refine lv_bipush (v := nI 64) hx hb dX0_own_4 (by decide) ?_
  refine lv_iload_n hx hb dX0_own_6 rfl (lv_at hl 1 rfl) ?_
  refine nw_add hx hb dX0_own_7 ?_
  refine xw_l1c cx hw hok (by omega) dX0_own_8 ?_
  have hc_1 := (ca_ok_at hok (p := 64 + k) (by omega)).1
  refine lv_istore_n (lv' := [(2, .int (nI (ca_c σ (64 + k)))), (0, .ref h), (1, .int (nI k))]) hx hb dX0_own_9 rfl hl (by decide) rfl (fun ls hl => ?_)
  refine lv_aload_n hx hb dX0_own_10 rfl (lv_at hl 1 rfl) ?_
  refine xw_g2 cx hw dX0_own_11 ?_
  refine lv_iload_n hx hb dX0_own_14 rfl (lv_at hl 0 rfl) ?_
  refine xw_l2 cx hw (by omega) dX0_own_15 ?_
  refine lv_iconst (v := nI 1) hx hb dX0_own_16 (by decide) ?_
  refine lv_icmp_ne (tgt := 22) hx hb dX0_own_17 (by decide) (fun h1 => ?_) (fun h1 => ?_)
  · have g2 := ca_od_lt σ
    have loop : ∀ (n : Nat) (i : Nat) (u : ca_S), i + n = 16 → ca_it (ca_cpy (ca_c σ (64 + k)) (ca_od σ)) i n u = ca_it (ca_cpy (ca_c σ (64 + k)) (ca_od σ)) 0 16 σ → ∀ (H : Heap) (locs : List Loc) (ls : Array Slot), gw_W D A s.heap (xw_ws dZ dI h q) (u) H locs → lv_has ls 5 [(4, .int (nI i)), (3, .int (nI (ca_od σ))), (2, .int (nI (ca_c σ (64 + k)))), (0, .ref h), (1, .int (nI k))] → W p l e rmX0_own s m args below meth c H locs 0 0 Q (F0 m 30 ls []) := by
      intro n
      induction n with
      | zero =>
        intro i u hi he H locs ls hw hl
        refine lv_iload hx hb dX0_own_30 (lv_at hl 0 rfl) ?_
        refine lv_bipush (v := nI 16) hx hb dX0_own_32 (by decide) ?_
        refine nw_geT (tgt := 67) hx hb dX0_own_34 (by decide) (by omega) (by omega) (by omega) ?_
        have he : u = ca_it (ca_cpy (ca_c σ (64 + k)) (ca_od σ)) 0 16 σ := he
        rw [he] at hw
        refine lv_aload_n hx hb dX0_own_67 rfl (lv_at hl 3 rfl) ?_
        refine xw_g4 cx hw dX0_own_68 ?_
        refine lv_iload_n hx hb dX0_own_71 rfl (lv_at hl 1 rfl) ?_
        refine lv_aload_n hx hb dX0_own_72 rfl (lv_at hl 3 rfl) ?_
        refine xw_g4 cx hw dX0_own_73 ?_
        refine lv_iload_n hx hb dX0_own_76 rfl (lv_at hl 2 rfl) ?_
        refine xw_l4 cx hw (by omega) dX0_own_77 ?_
        refine xw_s4 cx hw (by omega) dX0_own_78 (fun H locs hw => ?_)
        have hw : gw_W D A s.heap (xw_ws dZ dI h q) (ca_cp 4 (ca_c σ (64 + k)) (ca_od σ) (ca_it (ca_cpy (ca_c σ (64 + k)) (ca_od σ)) 0 16 σ)) H locs := hw
        refine lv_aload_n hx hb dX0_own_79 rfl (lv_at hl 3 rfl) ?_
        refine xw_g5 cx hw dX0_own_80 ?_
        refine lv_iload_n hx hb dX0_own_83 rfl (lv_at hl 1 rfl) ?_
        refine lv_aload_n hx hb dX0_own_84 rfl (lv_at hl 3 rfl) ?_
        refine xw_g5 cx hw dX0_own_85 ?_
        refine lv_iload_n hx hb dX0_own_88 rfl (lv_at hl 2 rfl) ?_
        refine xw_l5 cx hw (by omega) dX0_own_89 ?_
        refine xw_s5 cx hw (by omega) dX0_own_90 (fun H locs hw => ?_)
        have hw : gw_W D A s.heap (xw_ws dZ dI h q) (ca_cp 5 (ca_c σ (64 + k)) (ca_od σ) (ca_cp 4 (ca_c σ (64 + k)) (ca_od σ) (ca_it (ca_cpy (ca_c σ (64 + k)) (ca_od σ)) 0 16 σ))) H locs := hw
        refine lv_aload_n hx hb dX0_own_91 rfl (lv_at hl 3 rfl) ?_
        refine xw_g6 cx hw dX0_own_92 ?_
        refine lv_iload_n hx hb dX0_own_95 rfl (lv_at hl 1 rfl) ?_
        refine lv_aload_n hx hb dX0_own_96 rfl (lv_at hl 3 rfl) ?_
        refine xw_g6 cx hw dX0_own_97 ?_
        refine lv_iload_n hx hb dX0_own_100 rfl (lv_at hl 2 rfl) ?_
        refine xw_l6 cx hw (by omega) dX0_own_101 ?_
        refine xw_s6 (v := vp_nar .boolean ((ca_cp 5 (ca_c σ (64 + k)) (ca_od σ) (ca_cp 4 (ca_c σ (64 + k)) (ca_od σ) (ca_it (ca_cpy (ca_c σ (64 + k)) (ca_od σ)) 0 16 σ))) 6 (ca_c σ (64 + k)))) cx hw (by omega) rfl dX0_own_102 (fun H locs hw => ?_)
        have hw : gw_W D A s.heap (xw_ws dZ dI h q) (ca_cpb 6 (ca_c σ (64 + k)) (ca_od σ) (ca_cp 5 (ca_c σ (64 + k)) (ca_od σ) (ca_cp 4 (ca_c σ (64 + k)) (ca_od σ) (ca_it (ca_cpy (ca_c σ (64 + k)) (ca_od σ)) 0 16 σ)))) H locs := hw
        refine lv_aload_n hx hb dX0_own_103 rfl (lv_at hl 3 rfl) ?_
        refine xw_g7 cx hw dX0_own_104 ?_
        refine lv_iload_n hx hb dX0_own_107 rfl (lv_at hl 1 rfl) ?_
        refine lv_aload_n hx hb dX0_own_108 rfl (lv_at hl 3 rfl) ?_
        refine xw_g7 cx hw dX0_own_109 ?_
        refine lv_iload_n hx hb dX0_own_112 rfl (lv_at hl 2 rfl) ?_
        refine xw_l7 cx hw (by omega) dX0_own_113 ?_
        refine xw_s7 cx hw (by omega) dX0_own_114 (fun H locs hw => ?_)
        have hw : gw_W D A s.heap (xw_ws dZ dI h q) (ca_cp 7 (ca_c σ (64 + k)) (ca_od σ) (ca_cpb 6 (ca_c σ (64 + k)) (ca_od σ) (ca_cp 5 (ca_c σ (64 + k)) (ca_od σ) (ca_cp 4 (ca_c σ (64 + k)) (ca_od σ) (ca_it (ca_cpy (ca_c σ (64 + k)) (ca_od σ)) 0 16 σ))))) H locs := hw
        refine lv_aload_n hx hb dX0_own_115 rfl (lv_at hl 3 rfl) ?_
        refine xw_g8 cx hw dX0_own_116 ?_
        refine lv_iload_n hx hb dX0_own_119 rfl (lv_at hl 1 rfl) ?_
        refine lv_aload_n hx hb dX0_own_120 rfl (lv_at hl 3 rfl) ?_
        refine xw_g8 cx hw dX0_own_121 ?_
        refine lv_iload_n hx hb dX0_own_124 rfl (lv_at hl 2 rfl) ?_
        refine xw_l8 cx hw (by omega) dX0_own_125 ?_
        refine xw_s8 (v := vp_nar .boolean ((ca_cp 7 (ca_c σ (64 + k)) (ca_od σ) (ca_cpb 6 (ca_c σ (64 + k)) (ca_od σ) (ca_cp 5 (ca_c σ (64 + k)) (ca_od σ) (ca_cp 4 (ca_c σ (64 + k)) (ca_od σ) (ca_it (ca_cpy (ca_c σ (64 + k)) (ca_od σ)) 0 16 σ))))) 8 (ca_c σ (64 + k)))) cx hw (by omega) rfl dX0_own_126 (fun H locs hw => ?_)
        have hw : gw_W D A s.heap (xw_ws dZ dI h q) (ca_cpb 8 (ca_c σ (64 + k)) (ca_od σ) (ca_cp 7 (ca_c σ (64 + k)) (ca_od σ) (ca_cpb 6 (ca_c σ (64 + k)) (ca_od σ) (ca_cp 5 (ca_c σ (64 + k)) (ca_od σ) (ca_cp 4 (ca_c σ (64 + k)) (ca_od σ) (ca_it (ca_cpy (ca_c σ (64 + k)) (ca_od σ)) 0 16 σ)))))) H locs := hw
        refine lv_aload_n hx hb dX0_own_127 rfl (lv_at hl 3 rfl) ?_
        refine xw_g9 cx hw dX0_own_128 ?_
        refine lv_iload_n hx hb dX0_own_131 rfl (lv_at hl 1 rfl) ?_
        refine lv_aload_n hx hb dX0_own_132 rfl (lv_at hl 3 rfl) ?_
        refine xw_g9 cx hw dX0_own_133 ?_
        refine lv_iload_n hx hb dX0_own_136 rfl (lv_at hl 2 rfl) ?_
        refine xw_l9 cx hw (by omega) dX0_own_137 ?_
        refine xw_s9 cx hw (by omega) dX0_own_138 (fun H locs hw => ?_)
        have hw : gw_W D A s.heap (xw_ws dZ dI h q) (ca_cp 9 (ca_c σ (64 + k)) (ca_od σ) (ca_cpb 8 (ca_c σ (64 + k)) (ca_od σ) (ca_cp 7 (ca_c σ (64 + k)) (ca_od σ) (ca_cpb 6 (ca_c σ (64 + k)) (ca_od σ) (ca_cp 5 (ca_c σ (64 + k)) (ca_od σ) (ca_cp 4 (ca_c σ (64 + k)) (ca_od σ) (ca_it (ca_cpy (ca_c σ (64 + k)) (ca_od σ)) 0 16 σ))))))) H locs := hw
        refine lv_aload_n hx hb dX0_own_139 rfl (lv_at hl 3 rfl) ?_
        refine xw_g2 cx hw dX0_own_140 ?_
        refine lv_iload_n hx hb dX0_own_143 rfl (lv_at hl 2 rfl) ?_
        refine lv_dup2_11 hx hb dX0_own_144 rfl rfl ?_
        refine xw_l2 cx hw (by omega) dX0_own_145 ?_
        refine lv_iconst (v := nI 1) hx hb dX0_own_146 (by decide) ?_
        refine lv_isub hx hb dX0_own_147 ?_
        refine xw_s2 cx hw (by omega) dX0_own_148 (fun H locs hw => ?_)
        have hw : gw_W D A s.heap (xw_ws dZ dI h q) (ca_dec 2 (ca_c σ (64 + k)) (ca_cp 9 (ca_c σ (64 + k)) (ca_od σ) (ca_cpb 8 (ca_c σ (64 + k)) (ca_od σ) (ca_cp 7 (ca_c σ (64 + k)) (ca_od σ) (ca_cpb 6 (ca_c σ (64 + k)) (ca_od σ) (ca_cp 5 (ca_c σ (64 + k)) (ca_od σ) (ca_cp 4 (ca_c σ (64 + k)) (ca_od σ) (ca_it (ca_cpy (ca_c σ (64 + k)) (ca_od σ)) 0 16 σ)))))))) H locs := hw
        refine lv_aload_n hx hb dX0_own_149 rfl (lv_at hl 3 rfl) ?_
        refine xw_g2 cx hw dX0_own_150 ?_
        refine lv_iload_n hx hb dX0_own_153 rfl (lv_at hl 1 rfl) ?_
        refine lv_iconst (v := nI 1) hx hb dX0_own_154 (by decide) ?_
        refine xw_s2 cx hw (by omega) dX0_own_155 (fun H locs hw => ?_)
        refine lv_aload_n hx hb dX0_own_156 rfl (lv_at hl 3 rfl) ?_
        refine xw_g1 cx hw dX0_own_157 ?_
        refine lv_bipush (v := nI 64) hx hb dX0_own_160 (by decide) ?_
        refine lv_iload_n hx hb dX0_own_162 rfl (lv_at hl 4 rfl) ?_
        refine nw_add hx hb dX0_own_163 ?_
        refine lv_iload_n hx hb dX0_own_164 rfl (lv_at hl 1 rfl) ?_
        refine xw_s1 cx hw (by omega) dX0_own_165 (fun H locs hw => ?_)
        refine lv_iload_n hx hb dX0_own_166 rfl (lv_at hl 1 rfl) ?_
        exact hret dX0_own_167 (congrArg nI (if_neg h1).symm) (if_neg h1).symm hw
      | succ n ih =>
        intro i u hi he H locs ls hw hl
        refine lv_iload hx hb dX0_own_30 (lv_at hl 0 rfl) ?_
        refine lv_bipush (v := nI 16) hx hb dX0_own_32 (by decide) ?_
        refine nw_geF (tgt := 67) hx hb dX0_own_34 (by decide) (by omega) (by omega) (by omega) ?_
        refine lv_aload_n hx hb dX0_own_37 rfl (lv_at hl 3 rfl) ?_
        refine xw_g3 cx hw dX0_own_38 ?_
        refine lv_iload_n hx hb dX0_own_41 rfl (lv_at hl 1 rfl) ?_
        refine lv_bipush (v := nI 16) hx hb dX0_own_42 (by decide) ?_
        refine nw_mul hx hb dX0_own_44 ?_
        refine lv_iload hx hb dX0_own_45 (lv_at hl 0 rfl) ?_
        refine nw_add hx hb dX0_own_47 ?_
        refine lv_aload_n hx hb dX0_own_48 rfl (lv_at hl 3 rfl) ?_
        refine xw_g3 cx hw dX0_own_49 ?_
        refine lv_iload_n hx hb dX0_own_52 rfl (lv_at hl 2 rfl) ?_
        refine lv_bipush (v := nI 16) hx hb dX0_own_53 (by decide) ?_
        refine nw_mul hx hb dX0_own_55 ?_
        refine lv_iload hx hb dX0_own_56 (lv_at hl 0 rfl) ?_
        refine nw_add hx hb dX0_own_58 ?_
        refine xw_l3 cx hw (by omega) dX0_own_59 ?_
        refine xw_s3 cx hw (by omega) dX0_own_60 (fun H locs hw => ?_)
        have hw : gw_W D A s.heap (xw_ws dZ dI h q) (ca_cpy (ca_c σ (64 + k)) (ca_od σ) i u) H locs := hw
        refine lv_iinc (v := nI (i + 1)) (lv' := [(4, .int (nI (i + 1))), (3, .int (nI (ca_od σ))), (2, .int (nI (ca_c σ (64 + k)))), (0, .ref h), (1, .int (nI k))]) hx hb dX0_own_61 hl (k := 0) rfl (nI_1 _) (by decide) rfl (fun ls hl => ?_)
        refine lv_goto (tgt := 30) hx hb dX0_own_64 (by decide) ?_
        exact ih (i + 1) (ca_cpy (ca_c σ (64 + k)) (ca_od σ) i u) (by omega) he H locs ls hw (lv_sub hl [0, 1, 2, 3, 4] rfl)
    refine lv_aload_n hx hb dX0_own_22 rfl (lv_at hl 1 rfl) ?_
    refine gw_calli (As := []) (rest := []) cx (mtX0_freeSlot l D dZ dI h q σ) xw_k_freeSlot xw_rec ⟨Nat.le_of_ble_eq_true rfl, Nat.le_of_ble_eq_true rfl, rfl, rfl⟩ hl.1 rfl rfl (Nat.le_of_ble_eq_true rfl) dX0_own_23 ⟨Nat.zero_le _, Nat.zero_le _⟩ hw (fun H locs hw => ?_)
    refine lv_istore_n (lv' := [(3, .int (nI (ca_od σ))), (2, .int (nI (ca_c σ (64 + k)))), (0, .ref h), (1, .int (nI k))]) hx hb dX0_own_26 rfl hl (by decide) rfl (fun ls hl => ?_)
    refine lv_iconst (v := nI 0) hx hb dX0_own_27 (by decide) ?_
    refine lv_istore (lv' := [(4, .int (nI 0)), (3, .int (nI (ca_od σ))), (2, .int (nI (ca_c σ (64 + k)))), (0, .ref h), (1, .int (nI k))]) hx hb dX0_own_28 hl (by decide) rfl (fun ls hl => ?_)
    exact loop 16 0 σ rfl rfl _ _ _ hw (lv_sub hl [0, 1, 2, 3, 4] rfl)
  · refine lv_iload_n hx hb dX0_own_20 rfl (lv_at hl 0 rfl) ?_
    exact hret dX0_own_21 (congrArg nI (if_pos h1).symm) (if_pos h1).symm hw
end
section
/-! ChunkArray: contracts (settle, writeCell, setRegion, regionSize, covers, touches, inRegion, changeWhole) -/
abbrev rmX0_settle : Room := { frames := 0, cells := 0, slots := 0, locals := 0 }
set_option maxHeartbeats 400000 in
set_option maxRecDepth 100000 in
theorem mtX0_settle (l : Launch) (D : va_G) (dZ dI : ClassId) (h : Nat) (q : Nat → Nat) (σ : ca_S) {k : Nat} (g1 : k < 80) : gw_MV l D (xw_T dZ dI) (xw_ws dZ dI h q) h yX0_settle cX0_settle 3 rmX0_settle [.int (nI k)] σ (ca_set k σ) := by
  refine gw_entV (by decide) (Nat.le_of_ble_eq_true rfl) ?_
  intro p e s m args below meth c A Q cx hret ls hl hw
  have hx := cx.1
  have hb := cx.2.1
  have hl : lv_has ls 3 [(0, .ref h), (1, .int (nI k))] := hl
  have loop : ∀ (n : Nat) (i : Nat) (u : ca_S), i + n = 16 → ca_it (ca_stl k) i n u = ca_it (ca_stl k) 0 16 σ → ∀ (H : Heap) (locs : List Loc) (ls : Array Slot), gw_W D A s.heap (xw_ws dZ dI h q) (u) H locs → lv_has ls 3 [(2, .int (nI i)), (0, .ref h), (1, .int (nI k))] → W p l e rmX0_settle s m args below meth c H locs 0 0 Q (F0 m 2 ls []) := by
    intro n
    induction n with
    | zero =>
      intro i u hi he H locs ls hw hl
      refine lv_iload_n hx hb dX0_settle_2 rfl (lv_at hl 0 rfl) ?_
      refine lv_bipush (v := nI 16) hx hb dX0_settle_3 (by decide) ?_
      refine nw_geT (tgt := 50) hx hb dX0_settle_5 (by decide) (by omega) (by omega) (by omega) ?_
      have he : u = ca_it (ca_stl k) 0 16 σ := he
      rw [he] at hw
      refine lv_aload_n hx hb dX0_settle_50 rfl (lv_at hl 1 rfl) ?_
      refine xw_g4 cx hw dX0_settle_51 ?_
      refine lv_iload_n hx hb dX0_settle_54 rfl (lv_at hl 2 rfl) ?_
      refine lv_iconst (v := nI 1) hx hb dX0_settle_55 (by decide) ?_
      refine xw_s4 cx hw (by omega) dX0_settle_56 (fun H locs hw => ?_)
      refine lv_aload_n hx hb dX0_settle_57 rfl (lv_at hl 1 rfl) ?_
      refine xw_g5 cx hw dX0_settle_58 ?_
      refine lv_iload_n hx hb dX0_settle_61 rfl (lv_at hl 2 rfl) ?_
      refine lv_iconst (v := nI 0) hx hb dX0_settle_62 (by decide) ?_
      refine xw_s5 cx hw (by omega) dX0_settle_63 (fun H locs hw => ?_)
      refine lv_aload_n hx hb dX0_settle_64 rfl (lv_at hl 1 rfl) ?_
      refine xw_g6 cx hw dX0_settle_65 ?_
      refine lv_iload_n hx hb dX0_settle_68 rfl (lv_at hl 2 rfl) ?_
      refine lv_iconst (v := nI 0) hx hb dX0_settle_69 (by decide) ?_
      refine xw_s6 (v := 0) cx hw (by omega) rfl dX0_settle_70 (fun H locs hw => ?_)
      exact hret dX0_settle_71 rfl hw
    | succ n ih =>
      intro i u hi he H locs ls hw hl
      refine lv_iload_n hx hb dX0_settle_2 rfl (lv_at hl 0 rfl) ?_
      refine lv_bipush (v := nI 16) hx hb dX0_settle_3 (by decide) ?_
      refine nw_geF (tgt := 50) hx hb dX0_settle_5 (by decide) (by omega) (by omega) (by omega) ?_
      refine lv_aload_n hx hb dX0_settle_8 rfl (lv_at hl 1 rfl) ?_
      refine xw_g3 cx hw dX0_settle_9 ?_
      refine lv_iload_n hx hb dX0_settle_12 rfl (lv_at hl 2 rfl) ?_
      refine lv_bipush (v := nI 16) hx hb dX0_settle_13 (by decide) ?_
      refine nw_mul hx hb dX0_settle_15 ?_
      refine lv_iload_n hx hb dX0_settle_16 rfl (lv_at hl 0 rfl) ?_
      refine nw_add hx hb dX0_settle_17 ?_
      refine lv_aload_n hx hb dX0_settle_18 rfl (lv_at hl 1 rfl) ?_
      refine xw_g3 cx hw dX0_settle_19 ?_
      refine lv_iload_n hx hb dX0_settle_22 rfl (lv_at hl 2 rfl) ?_
      refine lv_bipush (v := nI 16) hx hb dX0_settle_23 (by decide) ?_
      refine nw_mul hx hb dX0_settle_25 ?_
      refine lv_iload_n hx hb dX0_settle_26 rfl (lv_at hl 0 rfl) ?_
      refine nw_add hx hb dX0_settle_27 ?_
      refine xw_l3 cx hw (by omega) dX0_settle_28 ?_
      refine lv_aload_n hx hb dX0_settle_29 rfl (lv_at hl 1 rfl) ?_
      refine xw_g4 cx hw dX0_settle_30 ?_
      refine lv_iload_n hx hb dX0_settle_33 rfl (lv_at hl 2 rfl) ?_
      refine xw_l4 cx hw (by omega) dX0_settle_34 ?_
      refine lv_imul hx hb dX0_settle_35 ?_
      refine lv_aload_n hx hb dX0_settle_36 rfl (lv_at hl 1 rfl) ?_
      refine xw_g5 cx hw dX0_settle_37 ?_
      refine lv_iload_n hx hb dX0_settle_40 rfl (lv_at hl 2 rfl) ?_
      refine xw_l5 cx hw (by omega) dX0_settle_41 ?_
      refine lv_iadd hx hb dX0_settle_42 ?_
      refine xw_s3 cx hw (by omega) dX0_settle_43 (fun H locs hw => ?_)
      have hw : gw_W D A s.heap (xw_ws dZ dI h q) (ca_stl k i u) H locs := hw
      refine lv_iinc (v := nI (i + 1)) (lv' := [(2, .int (nI (i + 1))), (0, .ref h), (1, .int (nI k))]) hx hb dX0_settle_44 hl (k := 0) rfl (nI_1 _) (by decide) rfl (fun ls hl => ?_)
      refine lv_goto (tgt := 2) hx hb dX0_settle_47 (by decide) ?_
      exact ih (i + 1) (ca_stl k i u) (by omega) he H locs ls hw (lv_sub hl [0, 1, 2] rfl)
  refine lv_iconst (v := nI 0) hx hb dX0_settle_0 (by decide) ?_
  refine lv_istore_n (lv' := [(2, .int (nI 0)), (0, .ref h), (1, .int (nI k))]) hx hb dX0_settle_1 rfl hl (by decide) rfl (fun ls hl => ?_)
  exact loop 16 0 σ rfl rfl _ _ _ hw (lv_sub hl [0, 1, 2] rfl)
abbrev rmX0_writeCell : Room := { frames := 2, cells := 0, slots := 0, locals := 45 }
set_option maxHeartbeats 400000 in
set_option maxRecDepth 100000 in
theorem mtX0_writeCell (l : Launch) (D : va_G) (dZ dI : ClassId) (h : Nat) (q : Nat → Nat) (σ : ca_S) (hok : ca_ok σ) {r b : Nat} {x : Int32} (g1 : r < 16) (g2 : b < 16) : gw_MV l D (xw_T dZ dI) (xw_ws dZ dI h q) h yX0_writeCell cX0_writeCell 6 rmX0_writeCell [.int (nI r), .int (nI b), .int (x)] σ (ca_wc r b x σ) := by
  refine gw_entV (by decide) (Nat.le_of_ble_eq_true rfl) ?_
  intro p e s m args below meth c A Q cx hret ls hl hw
  have hx := cx.1
  have hb := cx.2.1
  have hl : lv_has ls 6 [(0, .ref h), (1, .int (nI r)), (2, .int (nI b)), (3, .int (x))] := hl
  have g3 := ca_pl_lt g1 g2
  have g4 := ca_wi_lt r b
  have g5 := ca_owC_lt hok g3
  have tail : ∀ (u : ca_S) (H : Heap) (locs : List Loc) (ls : Array Slot), u = ca_mb (ca_owC σ (ca_pl r b)) (ca_owS σ (ca_pl r b)) → gw_W D A s.heap (xw_ws dZ dI h q) (u) H locs → lv_has ls 6 [(5, .int (nI (ca_owC σ (ca_pl r b)))), (0, .ref h), (1, .int (nI r)), (2, .int (nI b)), (3, .int (x))] → W p l e rmX0_writeCell s m args below meth c H locs 0 0 Q (F0 m 42 ls []) := by
    intro u H locs ls he hw hl
    rw [he] at hw
    refine lv_aload_n hx hb dX0_writeCell_42 rfl (lv_at hl 1 rfl) ?_
    refine xw_g3 cx hw dX0_writeCell_43 ?_
    refine lv_iload hx hb dX0_writeCell_46 (lv_at hl 0 rfl) ?_
    refine lv_bipush (v := nI 16) hx hb dX0_writeCell_48 (by decide) ?_
    refine nw_mul hx hb dX0_writeCell_50 ?_
    refine lv_iload_n hx hb dX0_writeCell_51 rfl (lv_at hl 2 rfl) ?_
    refine lv_iload_n hx hb dX0_writeCell_52 rfl (lv_at hl 3 rfl) ?_
    refine gw_calls (As := [.int (nI r), .int (nI b)]) (rest := [.int (nI ((ca_owC σ (ca_pl r b)) * 16)), .ref (q 3)]) cx (mtX0_within l (by omega) (by omega)) xw_k_within ⟨Nat.le_of_ble_eq_true rfl, Nat.le_of_ble_eq_true rfl, rfl, rfl⟩ hl.1 rfl rfl (Nat.le_of_ble_eq_true rfl) dX0_writeCell_53 ⟨Nat.zero_le _, Nat.zero_le _⟩ ?_
    refine nw_add hx hb dX0_writeCell_56 ?_
    refine lv_iload_n hx hb dX0_writeCell_57 rfl (lv_at hl 4 rfl) ?_
    refine xw_s3 cx hw (by omega) dX0_writeCell_58 (fun H locs hw => ?_)
    refine lv_aload_n hx hb dX0_writeCell_59 rfl (lv_at hl 1 rfl) ?_
    refine xw_g6 cx hw dX0_writeCell_60 ?_
    refine lv_iload hx hb dX0_writeCell_63 (lv_at hl 0 rfl) ?_
    refine lv_iconst (v := nI 0) hx hb dX0_writeCell_65 (by decide) ?_
    refine xw_s6 (v := 0) cx hw (by omega) rfl dX0_writeCell_66 (fun H locs hw => ?_)
    refine lv_aload_n hx hb dX0_writeCell_67 rfl (lv_at hl 1 rfl) ?_
    refine xw_g8 cx hw dX0_writeCell_68 ?_
    refine lv_iload hx hb dX0_writeCell_71 (lv_at hl 0 rfl) ?_
    refine lv_iconst (v := nI 0) hx hb dX0_writeCell_73 (by decide) ?_
    refine xw_s8 (v := 0) cx hw (by omega) rfl dX0_writeCell_74 (fun H locs hw => ?_)
    exact hret dX0_writeCell_75 rfl hw
  refine lv_iload_n hx hb dX0_writeCell_0 rfl (lv_at hl 1 rfl) ?_
  refine lv_iload_n hx hb dX0_writeCell_1 rfl (lv_at hl 2 rfl) ?_
  refine gw_calls (As := [.int (nI r), .int (nI b)]) (rest := []) cx (mtX0_placeOf l (by omega) (by omega)) xw_k_placeOf ⟨Nat.le_of_ble_eq_true rfl, Nat.le_of_ble_eq_true rfl, rfl, rfl⟩ hl.1 rfl rfl (Nat.le_of_ble_eq_true rfl) dX0_writeCell_2 ⟨Nat.zero_le _, Nat.zero_le _⟩ ?_
  refine lv_istore (lv' := [(4, .int (nI (ca_pl r b))), (0, .ref h), (1, .int (nI r)), (2, .int (nI b)), (3, .int (x))]) hx hb dX0_writeCell_5 hl (by decide) rfl (fun ls hl => ?_)
  refine lv_aload_n hx hb dX0_writeCell_7 rfl (lv_at hl 1 rfl) ?_
  refine lv_iload hx hb dX0_writeCell_8 (lv_at hl 0 rfl) ?_
  refine gw_calli (As := [.int (nI (ca_pl r b))]) (rest := []) cx (mtX0_own l D dZ dI h q σ hok (by omega)) xw_k_own xw_rec ⟨Nat.le_of_ble_eq_true rfl, Nat.le_of_ble_eq_true rfl, rfl, rfl⟩ hl.1 rfl rfl (Nat.le_of_ble_eq_true rfl) dX0_writeCell_10 ⟨Nat.zero_le _, Nat.zero_le _⟩ hw (fun H locs hw => ?_)
  refine lv_istore (lv' := [(5, .int (nI (ca_owC σ (ca_pl r b)))), (4, .int (nI (ca_pl r b))), (0, .ref h), (1, .int (nI r)), (2, .int (nI b)), (3, .int (x))]) hx hb dX0_writeCell_13 hl (by decide) rfl (fun ls hl => ?_)
  refine lv_aload_n hx hb dX0_writeCell_15 rfl (lv_at hl 2 rfl) ?_
  refine xw_g4 cx hw dX0_writeCell_16 ?_
  refine lv_iload hx hb dX0_writeCell_19 (lv_at hl 0 rfl) ?_
  refine xw_l4 cx hw (by omega) dX0_writeCell_21 ?_
  refine lv_iconst (v := nI 1) hx hb dX0_writeCell_22 (by decide) ?_
  refine lv_icmp_ne (tgt := 36) hx hb dX0_writeCell_23 (by decide) (fun h1 => ?_) (fun h1 => ?_)
  · refine lv_aload_n hx hb dX0_writeCell_36 rfl (lv_at hl 2 rfl) ?_
    refine lv_iload hx hb dX0_writeCell_37 (lv_at hl 0 rfl) ?_
    refine gw_callv (As := [.int (nI (ca_owC σ (ca_pl r b)))]) (rest := []) cx (mtX0_settle l D dZ dI h q (ca_owS σ (ca_pl r b)) (by omega)) xw_k_settle xw_rec ⟨Nat.le_of_ble_eq_true rfl, Nat.le_of_ble_eq_true rfl, rfl, rfl⟩ hl.1 rfl rfl (Nat.le_of_ble_eq_true rfl) dX0_writeCell_39 ⟨Nat.zero_le _, Nat.zero_le _⟩ hw (fun H locs hw => ?_)
    exact tail _ _ _ _ (if_neg (fun z => h1 z.1)).symm hw (lv_sub hl [0, 2, 3, 4, 5] rfl)
  · refine lv_aload_n hx hb dX0_writeCell_26 rfl (lv_at hl 2 rfl) ?_
    refine xw_g5 cx hw dX0_writeCell_27 ?_
    refine lv_iload hx hb dX0_writeCell_30 (lv_at hl 0 rfl) ?_
    refine xw_l5 cx hw (by omega) dX0_writeCell_32 ?_
    refine lv_if_eq (tgt := 42) hx hb dX0_writeCell_33 (by decide) (fun h2 => ?_) (fun h2 => ?_)
    · exact tail _ _ _ _ (if_pos ⟨h1, h2⟩).symm hw (lv_sub hl [0, 2, 3, 4, 5] rfl)
    · refine lv_aload_n hx hb dX0_writeCell_36 rfl (lv_at hl 2 rfl) ?_
      refine lv_iload hx hb dX0_writeCell_37 (lv_at hl 0 rfl) ?_
      refine gw_callv (As := [.int (nI (ca_owC σ (ca_pl r b)))]) (rest := []) cx (mtX0_settle l D dZ dI h q (ca_owS σ (ca_pl r b)) (by omega)) xw_k_settle xw_rec ⟨Nat.le_of_ble_eq_true rfl, Nat.le_of_ble_eq_true rfl, rfl, rfl⟩ hl.1 rfl rfl (Nat.le_of_ble_eq_true rfl) dX0_writeCell_39 ⟨Nat.zero_le _, Nat.zero_le _⟩ hw (fun H locs hw => ?_)
      exact tail _ _ _ _ (if_neg (fun z => h2 z.2)).symm hw (lv_sub hl [0, 2, 3, 4, 5] rfl)
abbrev rmX0_setRegion : Room := { frames := 0, cells := 0, slots := 0, locals := 0 }
set_option maxHeartbeats 400000 in
set_option maxRecDepth 100000 in
theorem mtX0_setRegion (l : Launch) (D : va_G) (dZ dI : ClassId) (h : Nat) (q : Nat → Nat) (σ : ca_S) {f t : Nat} (g1 : f < 256) (g2 : t < 256) : gw_MV l D (xw_T dZ dI) (xw_ws dZ dI h q) h yX0_setRegion cX0_setRegion 7 rmX0_setRegion [.int (nI f), .int (nI t)] σ (ca_reg f t σ) := by
  refine gw_entV (by decide) (Nat.le_of_ble_eq_true rfl) ?_
  intro p e s m args below meth c A Q cx hret ls hl hw
  have hx := cx.1
  have hb := cx.2.1
  have hl : lv_has ls 7 [(0, .ref h), (1, .int (nI f)), (2, .int (nI t))] := hl
  refine lv_iload_n hx hb dX0_setRegion_0 rfl (lv_at hl 1 rfl) ?_
  refine lv_bipush (v := nI 15) hx hb dX0_setRegion_1 (by decide) ?_
  refine nw_and15 hx hb dX0_setRegion_3 (by omega) ?_
  refine lv_istore_n (lv' := [(3, .int (nI (f % 16))), (0, .ref h), (1, .int (nI f)), (2, .int (nI t))]) hx hb dX0_setRegion_4 rfl hl (by decide) rfl (fun ls hl => ?_)
  refine lv_iload_n hx hb dX0_setRegion_5 rfl (lv_at hl 3 rfl) ?_
  refine lv_bipush (v := nI 15) hx hb dX0_setRegion_6 (by decide) ?_
  refine nw_and15 hx hb dX0_setRegion_8 (by omega) ?_
  refine lv_istore (lv' := [(4, .int (nI (t % 16))), (3, .int (nI (f % 16))), (0, .ref h), (1, .int (nI f)), (2, .int (nI t))]) hx hb dX0_setRegion_9 hl (by decide) rfl (fun ls hl => ?_)
  refine lv_iload_n hx hb dX0_setRegion_11 rfl (lv_at hl 3 rfl) ?_
  refine lv_iconst (v := nI 4) hx hb dX0_setRegion_12 (by decide) ?_
  refine nw_shr4 hx hb dX0_setRegion_13 (by omega) ?_
  refine lv_istore (lv' := [(5, .int (nI (f / 16))), (4, .int (nI (t % 16))), (3, .int (nI (f % 16))), (0, .ref h), (1, .int (nI f)), (2, .int (nI t))]) hx hb dX0_setRegion_14 hl (by decide) rfl (fun ls hl => ?_)
  refine lv_iload_n hx hb dX0_setRegion_16 rfl (lv_at hl 5 rfl) ?_
  refine lv_iconst (v := nI 4) hx hb dX0_setRegion_17 (by decide) ?_
  refine nw_shr4 hx hb dX0_setRegion_18 (by omega) ?_
  refine lv_istore (lv' := [(6, .int (nI (t / 16))), (5, .int (nI (f / 16))), (4, .int (nI (t % 16))), (3, .int (nI (f % 16))), (0, .ref h), (1, .int (nI f)), (2, .int (nI t))]) hx hb dX0_setRegion_19 hl (by decide) rfl (fun ls hl => ?_)
  rcases Nat.lt_or_ge (f % 16) (t % 16) with h1 | h1
  · rcases Nat.lt_or_ge (f / 16) (t / 16) with h2 | h2
    · refine lv_aload_n hx hb dX0_setRegion_21 rfl (lv_at hl 4 rfl) ?_
      refine lv_iload_n hx hb dX0_setRegion_22 rfl (lv_at hl 3 rfl) ?_
      refine lv_iload hx hb dX0_setRegion_23 (lv_at hl 2 rfl) ?_
      refine nw_geF (tgt := 32) hx hb dX0_setRegion_25 (by decide) (by omega) (by omega) h1 ?_
      refine lv_iload_n hx hb dX0_setRegion_28 rfl (lv_at hl 3 rfl) ?_
      refine lv_goto (tgt := 34) hx hb dX0_setRegion_29 (by decide) ?_
      refine xw_p10 cx hw dX0_setRegion_34 (fun H locs hw => ?_)
      refine lv_aload_n hx hb dX0_setRegion_37 rfl (lv_at hl 4 rfl) ?_
      refine lv_iload_n hx hb dX0_setRegion_38 rfl (lv_at hl 3 rfl) ?_
      refine lv_iload hx hb dX0_setRegion_39 (lv_at hl 2 rfl) ?_
      refine nw_geF (tgt := 49) hx hb dX0_setRegion_41 (by decide) (by omega) (by omega) h1 ?_
      refine lv_iload hx hb dX0_setRegion_44 (lv_at hl 2 rfl) ?_
      refine lv_goto (tgt := 50) hx hb dX0_setRegion_46 (by decide) ?_
      refine xw_p11 cx hw dX0_setRegion_50 (fun H locs hw => ?_)
      refine lv_aload_n hx hb dX0_setRegion_53 rfl (lv_at hl 4 rfl) ?_
      refine lv_iload hx hb dX0_setRegion_54 (lv_at hl 1 rfl) ?_
      refine lv_iload hx hb dX0_setRegion_56 (lv_at hl 0 rfl) ?_
      refine nw_geF (tgt := 66) hx hb dX0_setRegion_58 (by decide) (by omega) (by omega) h2 ?_
      refine lv_iload hx hb dX0_setRegion_61 (lv_at hl 1 rfl) ?_
      refine lv_goto (tgt := 68) hx hb dX0_setRegion_63 (by decide) ?_
      refine xw_p12 cx hw dX0_setRegion_68 (fun H locs hw => ?_)
      refine lv_aload_n hx hb dX0_setRegion_71 rfl (lv_at hl 4 rfl) ?_
      refine lv_iload hx hb dX0_setRegion_72 (lv_at hl 1 rfl) ?_
      refine lv_iload hx hb dX0_setRegion_74 (lv_at hl 0 rfl) ?_
      refine nw_geF (tgt := 84) hx hb dX0_setRegion_76 (by decide) (by omega) (by omega) h2 ?_
      refine lv_iload hx hb dX0_setRegion_79 (lv_at hl 0 rfl) ?_
      refine lv_goto (tgt := 86) hx hb dX0_setRegion_81 (by decide) ?_
      refine xw_p13 cx hw dX0_setRegion_86 (fun H locs hw => ?_)
      exact hret dX0_setRegion_89 (by simp only [ca_reg, ca_mn, ca_mx, if_pos h1, if_pos h2]) hw
    · refine lv_aload_n hx hb dX0_setRegion_21 rfl (lv_at hl 4 rfl) ?_
      refine lv_iload_n hx hb dX0_setRegion_22 rfl (lv_at hl 3 rfl) ?_
      refine lv_iload hx hb dX0_setRegion_23 (lv_at hl 2 rfl) ?_
      refine nw_geF (tgt := 32) hx hb dX0_setRegion_25 (by decide) (by omega) (by omega) h1 ?_
      refine lv_iload_n hx hb dX0_setRegion_28 rfl (lv_at hl 3 rfl) ?_
      refine lv_goto (tgt := 34) hx hb dX0_setRegion_29 (by decide) ?_
      refine xw_p10 cx hw dX0_setRegion_34 (fun H locs hw => ?_)
      refine lv_aload_n hx hb dX0_setRegion_37 rfl (lv_at hl 4 rfl) ?_
      refine lv_iload_n hx hb dX0_setRegion_38 rfl (lv_at hl 3 rfl) ?_
      refine lv_iload hx hb dX0_setRegion_39 (lv_at hl 2 rfl) ?_
      refine nw_geF (tgt := 49) hx hb dX0_setRegion_41 (by decide) (by omega) (by omega) h1 ?_
      refine lv_iload hx hb dX0_setRegion_44 (lv_at hl 2 rfl) ?_
      refine lv_goto (tgt := 50) hx hb dX0_setRegion_46 (by decide) ?_
      refine xw_p11 cx hw dX0_setRegion_50 (fun H locs hw => ?_)
      refine lv_aload_n hx hb dX0_setRegion_53 rfl (lv_at hl 4 rfl) ?_
      refine lv_iload hx hb dX0_setRegion_54 (lv_at hl 1 rfl) ?_
      refine lv_iload hx hb dX0_setRegion_56 (lv_at hl 0 rfl) ?_
      refine nw_geT (tgt := 66) hx hb dX0_setRegion_58 (by decide) (by omega) (by omega) h2 ?_
      refine lv_iload hx hb dX0_setRegion_66 (lv_at hl 0 rfl) ?_
      refine xw_p12 cx hw dX0_setRegion_68 (fun H locs hw => ?_)
      refine lv_aload_n hx hb dX0_setRegion_71 rfl (lv_at hl 4 rfl) ?_
      refine lv_iload hx hb dX0_setRegion_72 (lv_at hl 1 rfl) ?_
      refine lv_iload hx hb dX0_setRegion_74 (lv_at hl 0 rfl) ?_
      refine nw_geT (tgt := 84) hx hb dX0_setRegion_76 (by decide) (by omega) (by omega) h2 ?_
      refine lv_iload hx hb dX0_setRegion_84 (lv_at hl 1 rfl) ?_
      refine xw_p13 cx hw dX0_setRegion_86 (fun H locs hw => ?_)
      exact hret dX0_setRegion_89 (by simp only [ca_reg, ca_mn, ca_mx, if_pos h1, if_neg (Nat.not_lt.mpr h2)]) hw
  · rcases Nat.lt_or_ge (f / 16) (t / 16) with h2 | h2
    · refine lv_aload_n hx hb dX0_setRegion_21 rfl (lv_at hl 4 rfl) ?_
      refine lv_iload_n hx hb dX0_setRegion_22 rfl (lv_at hl 3 rfl) ?_
      refine lv_iload hx hb dX0_setRegion_23 (lv_at hl 2 rfl) ?_
      refine nw_geT (tgt := 32) hx hb dX0_setRegion_25 (by decide) (by omega) (by omega) h1 ?_
      refine lv_iload hx hb dX0_setRegion_32 (lv_at hl 2 rfl) ?_
      refine xw_p10 cx hw dX0_setRegion_34 (fun H locs hw => ?_)
      refine lv_aload_n hx hb dX0_setRegion_37 rfl (lv_at hl 4 rfl) ?_
      refine lv_iload_n hx hb dX0_setRegion_38 rfl (lv_at hl 3 rfl) ?_
      refine lv_iload hx hb dX0_setRegion_39 (lv_at hl 2 rfl) ?_
      refine nw_geT (tgt := 49) hx hb dX0_setRegion_41 (by decide) (by omega) (by omega) h1 ?_
      refine lv_iload_n hx hb dX0_setRegion_49 rfl (lv_at hl 3 rfl) ?_
      refine xw_p11 cx hw dX0_setRegion_50 (fun H locs hw => ?_)
      refine lv_aload_n hx hb dX0_setRegion_53 rfl (lv_at hl 4 rfl) ?_
      refine lv_iload hx hb dX0_setRegion_54 (lv_at hl 1 rfl) ?_
      refine lv_iload hx hb dX0_setRegion_56 (lv_at hl 0 rfl) ?_
      refine nw_geF (tgt := 66) hx hb dX0_setRegion_58 (by decide) (by omega) (by omega) h2 ?_
      refine lv_iload hx hb dX0_setRegion_61 (lv_at hl 1 rfl) ?_
      refine lv_goto (tgt := 68) hx hb dX0_setRegion_63 (by decide) ?_
      refine xw_p12 cx hw dX0_setRegion_68 (fun H locs hw => ?_)
      refine lv_aload_n hx hb dX0_setRegion_71 rfl (lv_at hl 4 rfl) ?_
      refine lv_iload hx hb dX0_setRegion_72 (lv_at hl 1 rfl) ?_
      refine lv_iload hx hb dX0_setRegion_74 (lv_at hl 0 rfl) ?_
      refine nw_geF (tgt := 84) hx hb dX0_setRegion_76 (by decide) (by omega) (by omega) h2 ?_
      refine lv_iload hx hb dX0_setRegion_79 (lv_at hl 0 rfl) ?_
      refine lv_goto (tgt := 86) hx hb dX0_setRegion_81 (by decide) ?_
      refine xw_p13 cx hw dX0_setRegion_86 (fun H locs hw => ?_)
      exact hret dX0_setRegion_89 (by simp only [ca_reg, ca_mn, ca_mx, if_neg (Nat.not_lt.mpr h1), if_pos h2]) hw
    · refine lv_aload_n hx hb dX0_setRegion_21 rfl (lv_at hl 4 rfl) ?_
      refine lv_iload_n hx hb dX0_setRegion_22 rfl (lv_at hl 3 rfl) ?_
      refine lv_iload hx hb dX0_setRegion_23 (lv_at hl 2 rfl) ?_
      refine nw_geT (tgt := 32) hx hb dX0_setRegion_25 (by decide) (by omega) (by omega) h1 ?_
      refine lv_iload hx hb dX0_setRegion_32 (lv_at hl 2 rfl) ?_
      refine xw_p10 cx hw dX0_setRegion_34 (fun H locs hw => ?_)
      refine lv_aload_n hx hb dX0_setRegion_37 rfl (lv_at hl 4 rfl) ?_
      refine lv_iload_n hx hb dX0_setRegion_38 rfl (lv_at hl 3 rfl) ?_
      refine lv_iload hx hb dX0_setRegion_39 (lv_at hl 2 rfl) ?_
      refine nw_geT (tgt := 49) hx hb dX0_setRegion_41 (by decide) (by omega) (by omega) h1 ?_
      refine lv_iload_n hx hb dX0_setRegion_49 rfl (lv_at hl 3 rfl) ?_
      refine xw_p11 cx hw dX0_setRegion_50 (fun H locs hw => ?_)
      refine lv_aload_n hx hb dX0_setRegion_53 rfl (lv_at hl 4 rfl) ?_
      refine lv_iload hx hb dX0_setRegion_54 (lv_at hl 1 rfl) ?_
      refine lv_iload hx hb dX0_setRegion_56 (lv_at hl 0 rfl) ?_
      refine nw_geT (tgt := 66) hx hb dX0_setRegion_58 (by decide) (by omega) (by omega) h2 ?_
      refine lv_iload hx hb dX0_setRegion_66 (lv_at hl 0 rfl) ?_
      refine xw_p12 cx hw dX0_setRegion_68 (fun H locs hw => ?_)
      refine lv_aload_n hx hb dX0_setRegion_71 rfl (lv_at hl 4 rfl) ?_
      refine lv_iload hx hb dX0_setRegion_72 (lv_at hl 1 rfl) ?_
      refine lv_iload hx hb dX0_setRegion_74 (lv_at hl 0 rfl) ?_
      refine nw_geT (tgt := 84) hx hb dX0_setRegion_76 (by decide) (by omega) (by omega) h2 ?_
      refine lv_iload hx hb dX0_setRegion_84 (lv_at hl 1 rfl) ?_
      refine xw_p13 cx hw dX0_setRegion_86 (fun H locs hw => ?_)
      exact hret dX0_setRegion_89 (by simp only [ca_reg, ca_mn, ca_mx, if_neg (Nat.not_lt.mpr h1), if_neg (Nat.not_lt.mpr h2)]) hw
abbrev rmX0_regionSize : Room := { frames := 0, cells := 0, slots := 0, locals := 0 }
set_option maxHeartbeats 400000 in
set_option maxRecDepth 100000 in
theorem mtX0_regionSize (l : Launch) (D : va_G) (dZ dI : ClassId) (h : Nat) (q : Nat → Nat) (σ : ca_S)  : gw_MI l D (xw_T dZ dI) (xw_ws dZ dI h q) h yX0_regionSize cX0_regionSize 1 .int rmX0_regionSize [] σ (ca_sz σ) (σ) := by
  refine gw_entI (by decide) (Nat.le_of_ble_eq_true rfl) (rfl) ?_
  intro p e s m args below meth c A Q cx hret ls hl hw
  have hx := cx.1
  have hb := cx.2.1
  have hl : lv_has ls 1 [(0, .ref h)] := hl
  refine lv_aload_n hx hb dX0_regionSize_0 rfl (lv_at hl 0 rfl) ?_
  refine xw_g11 cx hw dX0_regionSize_1 ?_
  refine lv_aload_n hx hb dX0_regionSize_4 rfl (lv_at hl 0 rfl) ?_
  refine xw_g10 cx hw dX0_regionSize_5 ?_
  refine lv_isub hx hb dX0_regionSize_8 ?_
  refine lv_iconst (v := nI 1) hx hb dX0_regionSize_9 (by decide) ?_
  refine lv_iadd hx hb dX0_regionSize_10 ?_
  refine lv_aload_n hx hb dX0_regionSize_11 rfl (lv_at hl 0 rfl) ?_
  refine xw_g13 cx hw dX0_regionSize_12 ?_
  refine lv_aload_n hx hb dX0_regionSize_15 rfl (lv_at hl 0 rfl) ?_
  refine xw_g12 cx hw dX0_regionSize_16 ?_
  refine lv_isub hx hb dX0_regionSize_19 ?_
  refine lv_iconst (v := nI 1) hx hb dX0_regionSize_20 (by decide) ?_
  refine lv_iadd hx hb dX0_regionSize_21 ?_
  refine lv_imul hx hb dX0_regionSize_22 ?_
  exact hret dX0_regionSize_23 rfl rfl hw
abbrev rmX0_covers : Room := { frames := 0, cells := 0, slots := 0, locals := 0 }
set_option maxHeartbeats 400000 in
set_option maxRecDepth 100000 in
theorem mtX0_covers (l : Launch) (D : va_G) (dZ dI : ClassId) (h : Nat) (q : Nat → Nat) (σ : ca_S) {k : Nat} (g1 : k < 16) : gw_MI l D (xw_T dZ dI) (xw_ws dZ dI h q) h yX0_covers cX0_covers 4 .boolean rmX0_covers [.int (nI k)] σ (if ca_cov σ k then 1 else 0) (σ) := by
  refine gw_entI (by decide) (Nat.le_of_ble_eq_true rfl) (by split <;> rfl) ?_
  intro p e s m args below meth c A Q cx hret ls hl hw
  have hx := cx.1
  have hb := cx.2.1
  have hl : lv_has ls 4 [(0, .ref h), (1, .int (nI k))] := hl
  refine lv_iload_n hx hb dX0_covers_0 rfl (lv_at hl 1 rfl) ?_
  refine lv_iconst (v := nI 4) hx hb dX0_covers_1 (by decide) ?_
  refine nw_div4 hx hb dX0_covers_2 (by omega) ?_
  refine lv_iconst (v := nI 4) hx hb dX0_covers_3 (by decide) ?_
  refine nw_mul hx hb dX0_covers_4 ?_
  refine lv_istore_n (lv' := [(2, .int (nI ((k / 4) * 4))), (0, .ref h), (1, .int (nI k))]) hx hb dX0_covers_5 rfl hl (by decide) rfl (fun ls hl => ?_)
  refine lv_iload_n hx hb dX0_covers_6 rfl (lv_at hl 2 rfl) ?_
  refine lv_iconst (v := nI 4) hx hb dX0_covers_7 (by decide) ?_
  refine nw_rem4 hx hb dX0_covers_8 (by omega) ?_
  refine lv_iconst (v := nI 4) hx hb dX0_covers_9 (by decide) ?_
  refine nw_mul hx hb dX0_covers_10 ?_
  refine lv_istore_n (lv' := [(3, .int (nI ((k % 4) * 4))), (2, .int (nI ((k / 4) * 4))), (0, .ref h), (1, .int (nI k))]) hx hb dX0_covers_11 rfl hl (by decide) rfl (fun ls hl => ?_)
  refine lv_aload_n hx hb dX0_covers_12 rfl (lv_at hl 2 rfl) ?_
  refine xw_g10 cx hw dX0_covers_13 ?_
  refine lv_iload_n hx hb dX0_covers_16 rfl (lv_at hl 1 rfl) ?_
  refine lv_icmp_gt (tgt := 52) hx hb dX0_covers_17 (by decide) (fun h1 => ?_) (fun h1 => ?_)
  · refine lv_iconst (v := nI 0) hx hb dX0_covers_52 (by decide) ?_
    exact hret dX0_covers_53 (if_neg (fun z => z.1 h1)).symm rfl hw
  · refine lv_iload_n hx hb dX0_covers_20 rfl (lv_at hl 1 rfl) ?_
    refine lv_iconst (v := nI 3) hx hb dX0_covers_21 (by decide) ?_
    refine nw_add hx hb dX0_covers_22 ?_
    refine lv_aload_n hx hb dX0_covers_23 rfl (lv_at hl 2 rfl) ?_
    refine xw_g11 cx hw dX0_covers_24 ?_
    refine lv_icmp_gt (tgt := 52) hx hb dX0_covers_27 (by decide) (fun h2 => ?_) (fun h2 => ?_)
    · refine lv_iconst (v := nI 0) hx hb dX0_covers_52 (by decide) ?_
      exact hret dX0_covers_53 (if_neg (fun z => z.2.1 h2)).symm rfl hw
    · refine lv_aload_n hx hb dX0_covers_30 rfl (lv_at hl 2 rfl) ?_
      refine xw_g12 cx hw dX0_covers_31 ?_
      refine lv_iload_n hx hb dX0_covers_34 rfl (lv_at hl 0 rfl) ?_
      refine lv_icmp_gt (tgt := 52) hx hb dX0_covers_35 (by decide) (fun h3 => ?_) (fun h3 => ?_)
      · refine lv_iconst (v := nI 0) hx hb dX0_covers_52 (by decide) ?_
        exact hret dX0_covers_53 (if_neg (fun z => z.2.2.1 h3)).symm rfl hw
      · refine lv_iload_n hx hb dX0_covers_38 rfl (lv_at hl 0 rfl) ?_
        refine lv_iconst (v := nI 3) hx hb dX0_covers_39 (by decide) ?_
        refine nw_add hx hb dX0_covers_40 ?_
        refine lv_aload_n hx hb dX0_covers_41 rfl (lv_at hl 2 rfl) ?_
        refine xw_g13 cx hw dX0_covers_42 ?_
        refine lv_icmp_gt (tgt := 52) hx hb dX0_covers_45 (by decide) (fun h4 => ?_) (fun h4 => ?_)
        · refine lv_iconst (v := nI 0) hx hb dX0_covers_52 (by decide) ?_
          exact hret dX0_covers_53 (if_neg (fun z => z.2.2.2 h4)).symm rfl hw
        · refine lv_iconst (v := nI 1) hx hb dX0_covers_48 (by decide) ?_
          refine lv_goto (tgt := 53) hx hb dX0_covers_49 (by decide) ?_
          exact hret dX0_covers_53 (if_pos ⟨h1, h2, h3, h4⟩).symm rfl hw
abbrev rmX0_touches : Room := { frames := 0, cells := 0, slots := 0, locals := 0 }
set_option maxHeartbeats 400000 in
set_option maxRecDepth 100000 in
theorem mtX0_touches (l : Launch) (D : va_G) (dZ dI : ClassId) (h : Nat) (q : Nat → Nat) (σ : ca_S) {k : Nat} (g1 : k < 16) : gw_MI l D (xw_T dZ dI) (xw_ws dZ dI h q) h yX0_touches cX0_touches 4 .boolean rmX0_touches [.int (nI k)] σ (if ca_tou σ k then 1 else 0) (σ) := by
  refine gw_entI (by decide) (Nat.le_of_ble_eq_true rfl) (by split <;> rfl) ?_
  intro p e s m args below meth c A Q cx hret ls hl hw
  have hx := cx.1
  have hb := cx.2.1
  have hl : lv_has ls 4 [(0, .ref h), (1, .int (nI k))] := hl
  refine lv_iload_n hx hb dX0_touches_0 rfl (lv_at hl 1 rfl) ?_
  refine lv_iconst (v := nI 4) hx hb dX0_touches_1 (by decide) ?_
  refine nw_div4 hx hb dX0_touches_2 (by omega) ?_
  refine lv_iconst (v := nI 4) hx hb dX0_touches_3 (by decide) ?_
  refine nw_mul hx hb dX0_touches_4 ?_
  refine lv_istore_n (lv' := [(2, .int (nI ((k / 4) * 4))), (0, .ref h), (1, .int (nI k))]) hx hb dX0_touches_5 rfl hl (by decide) rfl (fun ls hl => ?_)
  refine lv_iload_n hx hb dX0_touches_6 rfl (lv_at hl 2 rfl) ?_
  refine lv_iconst (v := nI 4) hx hb dX0_touches_7 (by decide) ?_
  refine nw_rem4 hx hb dX0_touches_8 (by omega) ?_
  refine lv_iconst (v := nI 4) hx hb dX0_touches_9 (by decide) ?_
  refine nw_mul hx hb dX0_touches_10 ?_
  refine lv_istore_n (lv' := [(3, .int (nI ((k % 4) * 4))), (2, .int (nI ((k / 4) * 4))), (0, .ref h), (1, .int (nI k))]) hx hb dX0_touches_11 rfl hl (by decide) rfl (fun ls hl => ?_)
  refine lv_aload_n hx hb dX0_touches_12 rfl (lv_at hl 2 rfl) ?_
  refine xw_g10 cx hw dX0_touches_13 ?_
  refine lv_iload_n hx hb dX0_touches_16 rfl (lv_at hl 1 rfl) ?_
  refine lv_iconst (v := nI 3) hx hb dX0_touches_17 (by decide) ?_
  refine nw_add hx hb dX0_touches_18 ?_
  refine lv_icmp_gt (tgt := 52) hx hb dX0_touches_19 (by decide) (fun h1 => ?_) (fun h1 => ?_)
  · refine lv_iconst (v := nI 0) hx hb dX0_touches_52 (by decide) ?_
    exact hret dX0_touches_53 (if_neg (fun z => z.1 h1)).symm rfl hw
  · refine lv_iload_n hx hb dX0_touches_22 rfl (lv_at hl 1 rfl) ?_
    refine lv_aload_n hx hb dX0_touches_23 rfl (lv_at hl 2 rfl) ?_
    refine xw_g11 cx hw dX0_touches_24 ?_
    refine lv_icmp_gt (tgt := 52) hx hb dX0_touches_27 (by decide) (fun h2 => ?_) (fun h2 => ?_)
    · refine lv_iconst (v := nI 0) hx hb dX0_touches_52 (by decide) ?_
      exact hret dX0_touches_53 (if_neg (fun z => z.2.1 h2)).symm rfl hw
    · refine lv_aload_n hx hb dX0_touches_30 rfl (lv_at hl 2 rfl) ?_
      refine xw_g12 cx hw dX0_touches_31 ?_
      refine lv_iload_n hx hb dX0_touches_34 rfl (lv_at hl 0 rfl) ?_
      refine lv_iconst (v := nI 3) hx hb dX0_touches_35 (by decide) ?_
      refine nw_add hx hb dX0_touches_36 ?_
      refine lv_icmp_gt (tgt := 52) hx hb dX0_touches_37 (by decide) (fun h3 => ?_) (fun h3 => ?_)
      · refine lv_iconst (v := nI 0) hx hb dX0_touches_52 (by decide) ?_
        exact hret dX0_touches_53 (if_neg (fun z => z.2.2.1 h3)).symm rfl hw
      · refine lv_iload_n hx hb dX0_touches_40 rfl (lv_at hl 0 rfl) ?_
        refine lv_aload_n hx hb dX0_touches_41 rfl (lv_at hl 2 rfl) ?_
        refine xw_g13 cx hw dX0_touches_42 ?_
        refine lv_icmp_gt (tgt := 52) hx hb dX0_touches_45 (by decide) (fun h4 => ?_) (fun h4 => ?_)
        · refine lv_iconst (v := nI 0) hx hb dX0_touches_52 (by decide) ?_
          exact hret dX0_touches_53 (if_neg (fun z => z.2.2.2 h4)).symm rfl hw
        · refine lv_iconst (v := nI 1) hx hb dX0_touches_48 (by decide) ?_
          refine lv_goto (tgt := 53) hx hb dX0_touches_49 (by decide) ?_
          exact hret dX0_touches_53 (if_pos ⟨h1, h2, h3, h4⟩).symm rfl hw
abbrev rmX0_inRegion : Room := { frames := 0, cells := 0, slots := 0, locals := 0 }
set_option maxHeartbeats 400000 in
set_option maxRecDepth 100000 in
theorem mtX0_inRegion (l : Launch) (D : va_G) (dZ dI : ClassId) (h : Nat) (q : Nat → Nat) (σ : ca_S) {r b : Nat} (g1 : r < 16) (g2 : b < 16) : gw_MI l D (xw_T dZ dI) (xw_ws dZ dI h q) h yX0_inRegion cX0_inRegion 3 .boolean rmX0_inRegion [.int (nI r), .int (nI b)] σ (if ca_ins σ r b then 1 else 0) (σ) := by
  refine gw_entI (by decide) (Nat.le_of_ble_eq_true rfl) (by split <;> rfl) ?_
  intro p e s m args below meth c A Q cx hret ls hl hw
  have hx := cx.1
  have hb := cx.2.1
  have hl : lv_has ls 3 [(0, .ref h), (1, .int (nI r)), (2, .int (nI b))] := hl
  refine lv_aload_n hx hb dX0_inRegion_0 rfl (lv_at hl 0 rfl) ?_
  refine xw_g10 cx hw dX0_inRegion_1 ?_
  refine lv_iload_n hx hb dX0_inRegion_4 rfl (lv_at hl 1 rfl) ?_
  refine lv_icmp_gt (tgt := 36) hx hb dX0_inRegion_5 (by decide) (fun h1 => ?_) (fun h1 => ?_)
  · refine lv_iconst (v := nI 0) hx hb dX0_inRegion_36 (by decide) ?_
    exact hret dX0_inRegion_37 (if_neg (fun z => z.1 h1)).symm rfl hw
  · refine lv_iload_n hx hb dX0_inRegion_8 rfl (lv_at hl 1 rfl) ?_
    refine lv_aload_n hx hb dX0_inRegion_9 rfl (lv_at hl 0 rfl) ?_
    refine xw_g11 cx hw dX0_inRegion_10 ?_
    refine lv_icmp_gt (tgt := 36) hx hb dX0_inRegion_13 (by decide) (fun h2 => ?_) (fun h2 => ?_)
    · refine lv_iconst (v := nI 0) hx hb dX0_inRegion_36 (by decide) ?_
      exact hret dX0_inRegion_37 (if_neg (fun z => z.2.1 h2)).symm rfl hw
    · refine lv_aload_n hx hb dX0_inRegion_16 rfl (lv_at hl 0 rfl) ?_
      refine xw_g12 cx hw dX0_inRegion_17 ?_
      refine lv_iload_n hx hb dX0_inRegion_20 rfl (lv_at hl 2 rfl) ?_
      refine lv_icmp_gt (tgt := 36) hx hb dX0_inRegion_21 (by decide) (fun h3 => ?_) (fun h3 => ?_)
      · refine lv_iconst (v := nI 0) hx hb dX0_inRegion_36 (by decide) ?_
        exact hret dX0_inRegion_37 (if_neg (fun z => z.2.2.1 h3)).symm rfl hw
      · refine lv_iload_n hx hb dX0_inRegion_24 rfl (lv_at hl 2 rfl) ?_
        refine lv_aload_n hx hb dX0_inRegion_25 rfl (lv_at hl 0 rfl) ?_
        refine xw_g13 cx hw dX0_inRegion_26 ?_
        refine lv_icmp_gt (tgt := 36) hx hb dX0_inRegion_29 (by decide) (fun h4 => ?_) (fun h4 => ?_)
        · refine lv_iconst (v := nI 0) hx hb dX0_inRegion_36 (by decide) ?_
          exact hret dX0_inRegion_37 (if_neg (fun z => z.2.2.2 h4)).symm rfl hw
        · refine lv_iconst (v := nI 1) hx hb dX0_inRegion_32 (by decide) ?_
          refine lv_goto (tgt := 37) hx hb dX0_inRegion_33 (by decide) ?_
          exact hret dX0_inRegion_37 (if_pos ⟨h1, h2, h3, h4⟩).symm rfl hw
abbrev rmX0_changeWhole : Room := { frames := 2, cells := 0, slots := 0, locals := 45 }
set_option maxHeartbeats 400000 in
set_option maxRecDepth 100000 in
theorem mtX0_changeWhole (l : Launch) (D : va_G) (dZ dI : ClassId) (h : Nat) (q : Nat → Nat) (σ : ca_S) (hok : ca_ok σ) {k : Nat} {w x : Int32} (g1 : k < 16) : gw_MV l D (xw_T dZ dI) (xw_ws dZ dI h q) h yX0_changeWhole cX0_changeWhole 5 rmX0_changeWhole [.int (nI k), .int (w), .int (x)] σ (ca_cw k w x σ) := by
  refine gw_entV (by decide) (Nat.le_of_ble_eq_true rfl) ?_
  intro p e s m args below meth c A Q cx hret ls hl hw
  have hx := cx.1
  have hb := cx.2.1
  have hl : lv_has ls 5 [(0, .ref h), (1, .int (nI k)), (2, .int (w)), (3, .int (x))] := hl
  have g2 := ca_owC_lt hok g1
  have tail : ∀ (u : ca_S) (H : Heap) (locs : List Loc) (ls : Array Slot), u = ca_cwK (ca_owC σ k) w x (ca_owS σ k) → gw_W D A s.heap (xw_ws dZ dI h q) (u) H locs → lv_has ls 5 [(4, .int (nI (ca_owC σ k))), (0, .ref h)] → W p l e rmX0_changeWhole s m args below meth c H locs 0 0 Q (F0 m 71 ls []) := by
    intro u H locs ls he hw hl
    rw [he] at hw
    refine lv_aload_n hx hb dX0_changeWhole_71 rfl (lv_at hl 1 rfl) ?_
    refine xw_g8 cx hw dX0_changeWhole_72 ?_
    refine lv_iload hx hb dX0_changeWhole_75 (lv_at hl 0 rfl) ?_
    refine lv_iconst (v := nI 0) hx hb dX0_changeWhole_77 (by decide) ?_
    refine xw_s8 (v := 0) cx hw (by omega) rfl dX0_changeWhole_78 (fun H locs hw => ?_)
    exact hret dX0_changeWhole_79 rfl hw
  refine lv_aload_n hx hb dX0_changeWhole_0 rfl (lv_at hl 0 rfl) ?_
  refine lv_iload_n hx hb dX0_changeWhole_1 rfl (lv_at hl 1 rfl) ?_
  refine gw_calli (As := [.int (nI k)]) (rest := []) cx (mtX0_own l D dZ dI h q σ hok (by omega)) xw_k_own xw_rec ⟨Nat.le_of_ble_eq_true rfl, Nat.le_of_ble_eq_true rfl, rfl, rfl⟩ hl.1 rfl rfl (Nat.le_of_ble_eq_true rfl) dX0_changeWhole_2 ⟨Nat.zero_le _, Nat.zero_le _⟩ hw (fun H locs hw => ?_)
  refine lv_istore (lv' := [(4, .int (nI (ca_owC σ k))), (0, .ref h), (1, .int (nI k)), (2, .int (w)), (3, .int (x))]) hx hb dX0_changeWhole_5 hl (by decide) rfl (fun ls hl => ?_)
  refine lv_iload_n hx hb dX0_changeWhole_7 rfl (lv_at hl 3 rfl) ?_
  refine lv_if_ne (tgt := 30) hx hb dX0_changeWhole_8 (by decide) (fun h1 => ?_) (fun h1 => ?_)
  · refine lv_iload_n hx hb dX0_changeWhole_30 rfl (lv_at hl 3 rfl) ?_
    refine lv_iconst (v := nI 1) hx hb dX0_changeWhole_31 (by decide) ?_
    refine lv_icmp_ne (tgt := 49) hx hb dX0_changeWhole_32 (by decide) (fun h2 => ?_) (fun h2 => ?_)
    · refine lv_aload_n hx hb dX0_changeWhole_49 rfl (lv_at hl 1 rfl) ?_
      refine xw_g4 cx hw dX0_changeWhole_50 ?_
      refine lv_iload hx hb dX0_changeWhole_53 (lv_at hl 0 rfl) ?_
      refine lv_dup2_11 hx hb dX0_changeWhole_55 rfl rfl ?_
      refine xw_l4 cx hw (by omega) dX0_changeWhole_56 ?_
      refine lv_iload_n hx hb dX0_changeWhole_57 rfl (lv_at hl 4 rfl) ?_
      refine lv_imul hx hb dX0_changeWhole_58 ?_
      refine xw_s4 cx hw (by omega) dX0_changeWhole_59 (fun H locs hw => ?_)
      have hw : gw_W D A s.heap (xw_ws dZ dI h q) (ca_mul 4 (ca_owC σ k) x (ca_owS σ k)) H locs := hw
      refine lv_aload_n hx hb dX0_changeWhole_60 rfl (lv_at hl 1 rfl) ?_
      refine xw_g5 cx hw dX0_changeWhole_61 ?_
      refine lv_iload hx hb dX0_changeWhole_64 (lv_at hl 0 rfl) ?_
      refine lv_dup2_11 hx hb dX0_changeWhole_66 rfl rfl ?_
      refine xw_l5 cx hw (by omega) dX0_changeWhole_67 ?_
      refine lv_iload_n hx hb dX0_changeWhole_68 rfl (lv_at hl 4 rfl) ?_
      refine lv_imul hx hb dX0_changeWhole_69 ?_
      refine xw_s5 cx hw (by omega) dX0_changeWhole_70 (fun H locs hw => ?_)
      have hw : gw_W D A s.heap (xw_ws dZ dI h q) (ca_mul 5 (ca_owC σ k) x (ca_mul 4 (ca_owC σ k) x (ca_owS σ k))) H locs := hw
      exact tail _ _ _ _ ((if_neg h1).trans (if_neg h2)).symm hw (lv_sub hl [0, 1] rfl)
    · refine lv_aload_n hx hb dX0_changeWhole_35 rfl (lv_at hl 1 rfl) ?_
      refine xw_g5 cx hw dX0_changeWhole_36 ?_
      refine lv_iload hx hb dX0_changeWhole_39 (lv_at hl 0 rfl) ?_
      refine lv_dup2_11 hx hb dX0_changeWhole_41 rfl rfl ?_
      refine xw_l5 cx hw (by omega) dX0_changeWhole_42 ?_
      refine lv_iload_n hx hb dX0_changeWhole_43 rfl (lv_at hl 4 rfl) ?_
      refine lv_iadd hx hb dX0_changeWhole_44 ?_
      refine xw_s5 cx hw (by omega) dX0_changeWhole_45 (fun H locs hw => ?_)
      have hw : gw_W D A s.heap (xw_ws dZ dI h q) (ca_add 5 (ca_owC σ k) x (ca_owS σ k)) H locs := hw
      refine lv_goto (tgt := 71) hx hb dX0_changeWhole_46 (by decide) ?_
      exact tail _ _ _ _ ((if_neg h1).trans (if_pos h2)).symm hw (lv_sub hl [0, 1] rfl)
  · refine lv_aload_n hx hb dX0_changeWhole_11 rfl (lv_at hl 1 rfl) ?_
    refine xw_g4 cx hw dX0_changeWhole_12 ?_
    refine lv_iload hx hb dX0_changeWhole_15 (lv_at hl 0 rfl) ?_
    refine lv_iconst (v := nI 0) hx hb dX0_changeWhole_17 (by decide) ?_
    refine xw_s4 cx hw (by omega) dX0_changeWhole_18 (fun H locs hw => ?_)
    refine lv_aload_n hx hb dX0_changeWhole_19 rfl (lv_at hl 1 rfl) ?_
    refine xw_g5 cx hw dX0_changeWhole_20 ?_
    refine lv_iload hx hb dX0_changeWhole_23 (lv_at hl 0 rfl) ?_
    refine lv_iload_n hx hb dX0_changeWhole_25 rfl (lv_at hl 4 rfl) ?_
    refine xw_s5 cx hw (by omega) dX0_changeWhole_26 (fun H locs hw => ?_)
    refine lv_goto (tgt := 71) hx hb dX0_changeWhole_27 (by decide) ?_
    exact tail _ _ _ _ (if_pos h1).symm hw (lv_sub hl [0, 1] rfl)
end
section
/-! ChunkArray: contracts (changePart, change) -/
abbrev rmX0_changePart : Room := { frames := 3, cells := 0, slots := 0, locals := 70 }
set_option maxHeartbeats 400000 in
set_option maxRecDepth 100000 in
theorem mtX0_changePart (l : Launch) (D : va_G) (dZ dI : ClassId) (h : Nat) (q : Nat → Nat) (σ : ca_S) (hok : ca_ok σ) {k : Nat} {w x : Int32} (g1 : k < 16) : gw_MV l D (xw_T dZ dI) (xw_ws dZ dI h q) h yX0_changePart cX0_changePart 10 rmX0_changePart [.int (nI k), .int (w), .int (x)] σ (ca_cpt k w x σ) := by
  refine gw_entV (by decide) (Nat.le_of_ble_eq_true rfl) ?_
  intro p e s m args below meth c A Q cx hret ls hl hw
  have hx := cx.1
  have hb := cx.2.1
  have hl : lv_has ls 10 [(0, .ref h), (1, .int (nI k)), (2, .int (w)), (3, .int (x))] := hl
  have loop : ∀ (n : Nat) (i : Nat) (u : ca_S), i + n = 16 → ca_ok u → ca_it (ca_cp1 k w x) i n u = ca_cpt k w x σ → ∀ (H : Heap) (locs : List Loc) (ls : Array Slot), gw_W D A s.heap (xw_ws dZ dI h q) (u) H locs → lv_has ls 10 [(4, .int (nI i)), (0, .ref h), (1, .int (nI k)), (2, .int (w)), (3, .int (x))] → W p l e rmX0_changePart s m args below meth c H locs 0 0 Q (F0 m 3 ls []) := by
    intro n
    induction n with
    | zero =>
      intro i u hi hu he H locs ls hw hl
      refine lv_iload hx hb dX0_changePart_3 (lv_at hl 0 rfl) ?_
      refine lv_bipush (v := nI 16) hx hb dX0_changePart_5 (by decide) ?_
      refine nw_geT (tgt := 85) hx hb dX0_changePart_7 (by decide) (by omega) (by omega) (by omega) ?_
      exact hret dX0_changePart_85 he hw
    | succ n ih =>
      intro i u hi hu he H locs ls hw hl
      refine lv_iload hx hb dX0_changePart_3 (lv_at hl 0 rfl) ?_
      refine lv_bipush (v := nI 16) hx hb dX0_changePart_5 (by decide) ?_
      refine nw_geF (tgt := 85) hx hb dX0_changePart_7 (by decide) (by omega) (by omega) (by omega) ?_
      have g2 := ca_r_lt (pl := k) (i := i) g1 (by omega)
      have g3 := ca_k_lt (pl := k) (i := i)
      refine lv_iload_n hx hb dX0_changePart_10 rfl (lv_at hl 2 rfl) ?_
      refine lv_iconst (v := nI 4) hx hb dX0_changePart_11 (by decide) ?_
      refine nw_div4 hx hb dX0_changePart_12 (by omega) ?_
      refine lv_iconst (v := nI 4) hx hb dX0_changePart_13 (by decide) ?_
      refine nw_mul hx hb dX0_changePart_14 ?_
      refine lv_iload hx hb dX0_changePart_15 (lv_at hl 0 rfl) ?_
      refine lv_iconst (v := nI 4) hx hb dX0_changePart_17 (by decide) ?_
      refine nw_div4 hx hb dX0_changePart_18 (by omega) ?_
      refine nw_add hx hb dX0_changePart_19 ?_
      refine lv_istore (lv' := [(5, .int (nI (ca_r k i))), (4, .int (nI i)), (0, .ref h), (1, .int (nI k)), (2, .int (w)), (3, .int (x))]) hx hb dX0_changePart_20 hl (by decide) rfl (fun ls hl => ?_)
      refine lv_iload_n hx hb dX0_changePart_22 rfl (lv_at hl 3 rfl) ?_
      refine lv_iconst (v := nI 4) hx hb dX0_changePart_23 (by decide) ?_
      refine nw_rem4 hx hb dX0_changePart_24 (by omega) ?_
      refine lv_iconst (v := nI 4) hx hb dX0_changePart_25 (by decide) ?_
      refine nw_mul hx hb dX0_changePart_26 ?_
      refine lv_iload hx hb dX0_changePart_27 (lv_at hl 1 rfl) ?_
      refine lv_iconst (v := nI 4) hx hb dX0_changePart_29 (by decide) ?_
      refine nw_rem4 hx hb dX0_changePart_30 (by omega) ?_
      refine nw_add hx hb dX0_changePart_31 ?_
      refine lv_istore (lv' := [(6, .int (nI (ca_k k i))), (5, .int (nI (ca_r k i))), (4, .int (nI i)), (0, .ref h), (1, .int (nI k)), (2, .int (w)), (3, .int (x))]) hx hb dX0_changePart_32 hl (by decide) rfl (fun ls hl => ?_)
      refine lv_aload_n hx hb dX0_changePart_34 rfl (lv_at hl 3 rfl) ?_
      refine lv_iload hx hb dX0_changePart_35 (lv_at hl 1 rfl) ?_
      refine lv_iload hx hb dX0_changePart_37 (lv_at hl 0 rfl) ?_
      refine gw_calli (As := [.int (nI (ca_r k i)), .int (nI (ca_k k i))]) (rest := []) cx (mtX0_inRegion l D dZ dI h q u (by omega) (by omega)) xw_k_inRegion xw_rec ⟨Nat.le_of_ble_eq_true rfl, Nat.le_of_ble_eq_true rfl, rfl, rfl⟩ hl.1 rfl rfl (Nat.le_of_ble_eq_true rfl) dX0_changePart_39 ⟨Nat.zero_le _, Nat.zero_le _⟩ hw (fun H locs hw => ?_)
      refine lv_istore (lv' := [(7, .int (if ca_ins u (ca_r k i) (ca_k k i) then 1 else 0)), (6, .int (nI (ca_k k i))), (5, .int (nI (ca_r k i))), (4, .int (nI i)), (0, .ref h), (1, .int (nI k)), (2, .int (w)), (3, .int (x))]) hx hb dX0_changePart_42 hl (by decide) rfl (fun ls hl => ?_)
      refine lv_iload hx hb dX0_changePart_44 (lv_at hl 0 rfl) ?_
      refine lv_if_eq (tgt := 79) hx hb dX0_changePart_46 (by decide) (fun h1 => ?_) (fun h1 => ?_)
      · have hw : gw_W D A s.heap (xw_ws dZ dI h q) (ca_cp1 k w x i u) H locs := by rw [show ca_cp1 k w x i u = u from if_neg (ca_iff h1)]; exact hw
        refine lv_iinc (v := nI (i + 1)) (lv' := [(4, .int (nI (i + 1))), (7, .int (if ca_ins u (ca_r k i) (ca_k k i) then 1 else 0)), (6, .int (nI (ca_k k i))), (5, .int (nI (ca_r k i))), (0, .ref h), (1, .int (nI k)), (2, .int (w)), (3, .int (x))]) hx hb dX0_changePart_79 hl (k := 3) rfl (nI_1 _) (by decide) rfl (fun ls hl => ?_)
        refine lv_goto (tgt := 3) hx hb dX0_changePart_82 (by decide) ?_
        exact ih (i + 1) _ (by omega) (ca_ok_cp1 hu) he H locs ls hw (lv_sub hl [0, 4, 5, 6, 7] rfl)
      · refine lv_aload_n hx hb dX0_changePart_49 rfl (lv_at hl 4 rfl) ?_
        refine lv_iconst (v := nI 4) hx hb dX0_changePart_50 (by decide) ?_
        refine lv_iload hx hb dX0_changePart_51 (lv_at hl 2 rfl) ?_
        refine lv_iload hx hb dX0_changePart_53 (lv_at hl 1 rfl) ?_
        refine gw_calli (As := [.int (nI 4), .int (nI (ca_r k i)), .int (nI (ca_k k i))]) (rest := []) cx (mtX0_read l D dZ dI h q u hu (by omega) (by omega) (by omega)) xw_k_read xw_rec ⟨Nat.le_of_ble_eq_true rfl, Nat.le_of_ble_eq_true rfl, rfl, rfl⟩ hl.1 rfl rfl (Nat.le_of_ble_eq_true rfl) dX0_changePart_55 ⟨Nat.zero_le _, Nat.zero_le _⟩ hw (fun H locs hw => ?_)
        refine lv_istore (lv' := [(8, .int (ca_rd u 4 (ca_r k i) (ca_k k i))), (7, .int (if ca_ins u (ca_r k i) (ca_k k i) then 1 else 0)), (6, .int (nI (ca_k k i))), (5, .int (nI (ca_r k i))), (4, .int (nI i)), (0, .ref h), (1, .int (nI k)), (2, .int (w)), (3, .int (x))]) hx hb dX0_changePart_58 hl (by decide) rfl (fun ls hl => ?_)
        refine lv_iload_n hx hb dX0_changePart_60 rfl (lv_at hl 7 rfl) ?_
        refine lv_iload hx hb dX0_changePart_61 (lv_at hl 0 rfl) ?_
        refine lv_iload_n hx hb dX0_changePart_63 rfl (lv_at hl 8 rfl) ?_
        refine gw_calls (As := [.int (w), .int (ca_rd u 4 (ca_r k i) (ca_k k i)), .int (x)]) (rest := []) cx (mtX0_result l w (ca_rd u 4 (ca_r k i) (ca_k k i)) x) xw_k_result ⟨Nat.le_of_ble_eq_true rfl, Nat.le_of_ble_eq_true rfl, rfl, rfl⟩ hl.1 rfl rfl (Nat.le_of_ble_eq_true rfl) dX0_changePart_64 ⟨Nat.zero_le _, Nat.zero_le _⟩ ?_
        refine lv_istore (lv' := [(9, .int (ca_res w (ca_rd u 4 (ca_r k i) (ca_k k i)) x)), (8, .int (ca_rd u 4 (ca_r k i) (ca_k k i))), (7, .int (if ca_ins u (ca_r k i) (ca_k k i) then 1 else 0)), (6, .int (nI (ca_k k i))), (5, .int (nI (ca_r k i))), (4, .int (nI i)), (0, .ref h), (1, .int (nI k)), (2, .int (w)), (3, .int (x))]) hx hb dX0_changePart_67 hl (by decide) rfl (fun ls hl => ?_)
        refine lv_aload_n hx hb dX0_changePart_69 rfl (lv_at hl 6 rfl) ?_
        refine lv_iload hx hb dX0_changePart_70 (lv_at hl 4 rfl) ?_
        refine lv_iload hx hb dX0_changePart_72 (lv_at hl 3 rfl) ?_
        refine lv_iload hx hb dX0_changePart_74 (lv_at hl 0 rfl) ?_
        refine gw_callv (As := [.int (nI (ca_r k i)), .int (nI (ca_k k i)), .int (ca_res w (ca_rd u 4 (ca_r k i) (ca_k k i)) x)]) (rest := []) cx (mtX0_writeCell l D dZ dI h q u hu (by omega) (by omega)) xw_k_writeCell xw_rec ⟨Nat.le_of_ble_eq_true rfl, Nat.le_of_ble_eq_true rfl, rfl, rfl⟩ hl.1 rfl rfl (Nat.le_of_ble_eq_true rfl) dX0_changePart_76 ⟨Nat.zero_le _, Nat.zero_le _⟩ hw (fun H locs hw => ?_)
        have hw : gw_W D A s.heap (xw_ws dZ dI h q) (ca_cp1 k w x i u) H locs := by rw [show ca_cp1 k w x i u = ca_wc (ca_r k i) (ca_k k i) (ca_res w (ca_rd u 4 (ca_r k i) (ca_k k i)) x) u from if_pos (ca_ift h1)]; exact hw
        refine lv_iinc (v := nI (i + 1)) (lv' := [(4, .int (nI (i + 1))), (9, .int (ca_res w (ca_rd u 4 (ca_r k i) (ca_k k i)) x)), (8, .int (ca_rd u 4 (ca_r k i) (ca_k k i))), (7, .int (if ca_ins u (ca_r k i) (ca_k k i) then 1 else 0)), (6, .int (nI (ca_k k i))), (5, .int (nI (ca_r k i))), (0, .ref h), (1, .int (nI k)), (2, .int (w)), (3, .int (x))]) hx hb dX0_changePart_79 hl (k := 5) rfl (nI_1 _) (by decide) rfl (fun ls hl => ?_)
        refine lv_goto (tgt := 3) hx hb dX0_changePart_82 (by decide) ?_
        exact ih (i + 1) _ (by omega) (ca_ok_cp1 hu) he H locs ls hw (lv_sub hl [0, 6, 7, 8, 9] rfl)
  refine lv_iconst (v := nI 0) hx hb dX0_changePart_0 (by decide) ?_
  refine lv_istore (lv' := [(4, .int (nI 0)), (0, .ref h), (1, .int (nI k)), (2, .int (w)), (3, .int (x))]) hx hb dX0_changePart_1 hl (by decide) rfl (fun ls hl => ?_)
  exact loop 16 0 σ rfl hok rfl _ _ _ hw (lv_sub hl [0, 1, 2, 3, 4] rfl)
abbrev rmX0_change : Room := { frames := 4, cells := 0, slots := 0, locals := 99 }
set_option maxHeartbeats 400000 in
set_option maxRecDepth 100000 in
theorem mtX0_change (l : Launch) (D : va_G) (dZ dI : ClassId) (h : Nat) (q : Nat → Nat) (σ : ca_S) (hok : ca_ok σ) (f t w x : Int32) : gw_MI l D (xw_T dZ dI) (xw_ws dZ dI h q) h yX0_change cX0_change 8 .int rmX0_change [.int (f), .int (t), .int (w), .int (x)] σ (ca_chR f t w x σ) (ca_chS f t w x σ) := by
  refine gw_entI (by decide) (Nat.le_of_ble_eq_true rfl) (rfl) ?_
  intro p e s m args below meth c A Q cx hret ls hl hw
  have hx := cx.1
  have hb := cx.2.1
  have hl : lv_has ls 8 [(0, .ref h), (1, .int (f)), (2, .int (t)), (3, .int (w)), (4, .int (x))] := hl
  refine lv_iload_n hx hb dX0_change_0 rfl (lv_at hl 1 rfl) ?_
  refine gw_calls (As := [.int (f)]) (rest := []) cx (mtX0_bad l f) xw_k_bad ⟨Nat.le_of_ble_eq_true rfl, Nat.le_of_ble_eq_true rfl, rfl, rfl⟩ hl.1 rfl rfl (Nat.le_of_ble_eq_true rfl) dX0_change_1 ⟨Nat.zero_le _, Nat.zero_le _⟩ ?_
  refine lv_if_ne (tgt := 14) hx hb dX0_change_4 (by decide) (fun h1 => ?_) (fun h1 => ?_)
  · refine lv_iconst (v := -1) hx hb dX0_change_14 (by decide) ?_
    exact hret dX0_change_15 (if_pos (Or.inl (ca_ift h1))).symm (if_pos (Or.inl (ca_ift h1))).symm hw
  · refine lv_iload_n hx hb dX0_change_7 rfl (lv_at hl 2 rfl) ?_
    refine gw_calls (As := [.int (t)]) (rest := []) cx (mtX0_bad l t) xw_k_bad ⟨Nat.le_of_ble_eq_true rfl, Nat.le_of_ble_eq_true rfl, rfl, rfl⟩ hl.1 rfl rfl (Nat.le_of_ble_eq_true rfl) dX0_change_8 ⟨Nat.zero_le _, Nat.zero_le _⟩ ?_
    refine lv_if_eq (tgt := 16) hx hb dX0_change_11 (by decide) (fun h2 => ?_) (fun h2 => ?_)
    rotate_left
    · refine lv_iconst (v := -1) hx hb dX0_change_14 (by decide) ?_
      exact hret dX0_change_15 (if_pos (Or.inr (ca_ift h2))).symm (if_pos (Or.inr (ca_ift h2))).symm hw
    · obtain ⟨F, g1, rfl⟩ := ca_bad_nat (ca_iff h1)
      obtain ⟨T, g2, rfl⟩ := ca_bad_nat (ca_iff h2)
      have h9 : ¬ (ca_bad (nI F) ∨ ca_bad (nI T)) := (fun z => z.elim (ca_iff h1) (fun z => ca_iff h2 z))
      have loop : ∀ (n : Nat) (i : Nat) (u : ca_S), i + n = 16 → ca_ok u → ca_it (ca_ch1 w x) i n u = ca_chN F T w x σ → ∀ (H : Heap) (locs : List Loc) (ls : Array Slot), gw_W D A s.heap (xw_ws dZ dI h q) (u) H locs → lv_has ls 8 [(5, .int (nI i)), (0, .ref h), (3, .int (w)), (4, .int (x))] → W p l e rmX0_change s m args below meth c H locs 0 0 Q (F0 m 25 ls []) := by
        intro n
        induction n with
        | zero =>
          intro i u hi hu he H locs ls hw hl
          refine lv_iload hx hb dX0_change_25 (lv_at hl 0 rfl) ?_
          refine lv_bipush (v := nI 16) hx hb dX0_change_27 (by decide) ?_
          refine nw_geT (tgt := 85) hx hb dX0_change_29 (by decide) (by omega) (by omega) (by omega) ?_
          have he : u = ca_chN F T w x σ := he
          refine lv_aload_n hx hb dX0_change_85 rfl (lv_at hl 1 rfl) ?_
          refine gw_calli (As := []) (rest := []) cx (mtX0_regionSize l D dZ dI h q u) xw_k_regionSize xw_rec ⟨Nat.le_of_ble_eq_true rfl, Nat.le_of_ble_eq_true rfl, rfl, rfl⟩ hl.1 rfl rfl (Nat.le_of_ble_eq_true rfl) dX0_change_86 ⟨Nat.zero_le _, Nat.zero_le _⟩ hw (fun H locs hw => ?_)
          exact hret dX0_change_89 (by rw [ca_chR, if_neg h9, ca_cl (n := F) (by omega), ca_cl (n := T) (by omega), ← he]) (by rw [ca_chS, if_neg h9, ca_cl (n := F) (by omega), ca_cl (n := T) (by omega), ← he]) hw
        | succ n ih =>
          intro i u hi hu he H locs ls hw hl
          refine lv_iload hx hb dX0_change_25 (lv_at hl 0 rfl) ?_
          refine lv_bipush (v := nI 16) hx hb dX0_change_27 (by decide) ?_
          refine nw_geF (tgt := 85) hx hb dX0_change_29 (by decide) (by omega) (by omega) (by omega) ?_
          refine lv_aload_n hx hb dX0_change_32 rfl (lv_at hl 1 rfl) ?_
          refine lv_iload hx hb dX0_change_33 (lv_at hl 0 rfl) ?_
          refine gw_calli (As := [.int (nI i)]) (rest := []) cx (mtX0_covers l D dZ dI h q u (by omega)) xw_k_covers xw_rec ⟨Nat.le_of_ble_eq_true rfl, Nat.le_of_ble_eq_true rfl, rfl, rfl⟩ hl.1 rfl rfl (Nat.le_of_ble_eq_true rfl) dX0_change_35 ⟨Nat.zero_le _, Nat.zero_le _⟩ hw (fun H locs hw => ?_)
          refine lv_istore (lv' := [(6, .int (if ca_cov u i then 1 else 0)), (5, .int (nI i)), (0, .ref h), (3, .int (w)), (4, .int (x))]) hx hb dX0_change_38 hl (by decide) rfl (fun ls hl => ?_)
          refine lv_aload_n hx hb dX0_change_40 rfl (lv_at hl 2 rfl) ?_
          refine lv_iload hx hb dX0_change_41 (lv_at hl 1 rfl) ?_
          refine gw_calli (As := [.int (nI i)]) (rest := []) cx (mtX0_touches l D dZ dI h q u (by omega)) xw_k_touches xw_rec ⟨Nat.le_of_ble_eq_true rfl, Nat.le_of_ble_eq_true rfl, rfl, rfl⟩ hl.1 rfl rfl (Nat.le_of_ble_eq_true rfl) dX0_change_43 ⟨Nat.zero_le _, Nat.zero_le _⟩ hw (fun H locs hw => ?_)
          refine lv_istore (lv' := [(7, .int (if ca_tou u i then 1 else 0)), (6, .int (if ca_cov u i then 1 else 0)), (5, .int (nI i)), (0, .ref h), (3, .int (w)), (4, .int (x))]) hx hb dX0_change_46 hl (by decide) rfl (fun ls hl => ?_)
          refine lv_iload hx hb dX0_change_48 (lv_at hl 1 rfl) ?_
          refine lv_if_eq (tgt := 65) hx hb dX0_change_50 (by decide) (fun h4 => ?_) (fun h4 => ?_)
          · refine lv_iload hx hb dX0_change_65 (lv_at hl 0 rfl) ?_
            refine lv_if_eq (tgt := 79) hx hb dX0_change_67 (by decide) (fun h5 => ?_) (fun h5 => ?_)
            · have hw : gw_W D A s.heap (xw_ws dZ dI h q) (ca_ch1 w x i u) H locs := by rw [show ca_ch1 w x i u = u from (if_neg (ca_iff h4)).trans (if_neg (ca_iff h5))]; exact hw
              refine lv_iinc (v := nI (i + 1)) (lv' := [(5, .int (nI (i + 1))), (7, .int (if ca_tou u i then 1 else 0)), (6, .int (if ca_cov u i then 1 else 0)), (0, .ref h), (3, .int (w)), (4, .int (x))]) hx hb dX0_change_79 hl (k := 2) rfl (nI_1 _) (by decide) rfl (fun ls hl => ?_)
              refine lv_goto (tgt := 25) hx hb dX0_change_82 (by decide) ?_
              exact ih (i + 1) _ (by omega) (ca_ok_ch1 hu) he H locs ls hw (lv_sub hl [0, 3, 4, 5] rfl)
            · refine lv_aload_n hx hb dX0_change_70 rfl (lv_at hl 3 rfl) ?_
              refine lv_iload hx hb dX0_change_71 (lv_at hl 2 rfl) ?_
              refine lv_iload_n hx hb dX0_change_73 rfl (lv_at hl 4 rfl) ?_
              refine lv_iload hx hb dX0_change_74 (lv_at hl 5 rfl) ?_
              refine gw_callv (As := [.int (nI i), .int (w), .int (x)]) (rest := []) cx (mtX0_changePart l D dZ dI h q u hu (by omega)) xw_k_changePart xw_rec ⟨Nat.le_of_ble_eq_true rfl, Nat.le_of_ble_eq_true rfl, rfl, rfl⟩ hl.1 rfl rfl (Nat.le_of_ble_eq_true rfl) dX0_change_76 ⟨Nat.zero_le _, Nat.zero_le _⟩ hw (fun H locs hw => ?_)
              have hw : gw_W D A s.heap (xw_ws dZ dI h q) (ca_ch1 w x i u) H locs := by rw [show ca_ch1 w x i u = ca_cpt i w x u from (if_neg (ca_iff h4)).trans (if_pos (ca_ift h5))]; exact hw
              refine lv_iinc (v := nI (i + 1)) (lv' := [(5, .int (nI (i + 1))), (7, .int (if ca_tou u i then 1 else 0)), (6, .int (if ca_cov u i then 1 else 0)), (0, .ref h), (3, .int (w)), (4, .int (x))]) hx hb dX0_change_79 hl (k := 2) rfl (nI_1 _) (by decide) rfl (fun ls hl => ?_)
              refine lv_goto (tgt := 25) hx hb dX0_change_82 (by decide) ?_
              exact ih (i + 1) _ (by omega) (ca_ok_ch1 hu) he H locs ls hw (lv_sub hl [0, 3, 4, 5] rfl)
          · refine lv_aload_n hx hb dX0_change_53 rfl (lv_at hl 3 rfl) ?_
            refine lv_iload hx hb dX0_change_54 (lv_at hl 2 rfl) ?_
            refine lv_iload_n hx hb dX0_change_56 rfl (lv_at hl 4 rfl) ?_
            refine lv_iload hx hb dX0_change_57 (lv_at hl 5 rfl) ?_
            refine gw_callv (As := [.int (nI i), .int (w), .int (x)]) (rest := []) cx (mtX0_changeWhole l D dZ dI h q u hu (by omega)) xw_k_changeWhole xw_rec ⟨Nat.le_of_ble_eq_true rfl, Nat.le_of_ble_eq_true rfl, rfl, rfl⟩ hl.1 rfl rfl (Nat.le_of_ble_eq_true rfl) dX0_change_59 ⟨Nat.zero_le _, Nat.zero_le _⟩ hw (fun H locs hw => ?_)
            refine lv_goto (tgt := 79) hx hb dX0_change_62 (by decide) ?_
            have hw : gw_W D A s.heap (xw_ws dZ dI h q) (ca_ch1 w x i u) H locs := by rw [show ca_ch1 w x i u = ca_cw i w x u from if_pos (ca_ift h4)]; exact hw
            refine lv_iinc (v := nI (i + 1)) (lv' := [(5, .int (nI (i + 1))), (7, .int (if ca_tou u i then 1 else 0)), (6, .int (if ca_cov u i then 1 else 0)), (0, .ref h), (3, .int (w)), (4, .int (x))]) hx hb dX0_change_79 hl (k := 2) rfl (nI_1 _) (by decide) rfl (fun ls hl => ?_)
            refine lv_goto (tgt := 25) hx hb dX0_change_82 (by decide) ?_
            exact ih (i + 1) _ (by omega) (ca_ok_ch1 hu) he H locs ls hw (lv_sub hl [0, 3, 4, 5] rfl)
      refine lv_aload_n hx hb dX0_change_16 rfl (lv_at hl 0 rfl) ?_
      refine lv_iload_n hx hb dX0_change_17 rfl (lv_at hl 1 rfl) ?_
      refine lv_iload_n hx hb dX0_change_18 rfl (lv_at hl 2 rfl) ?_
      refine gw_callv (As := [.int (nI F), .int (nI T)]) (rest := []) cx (mtX0_setRegion l D dZ dI h q σ (by omega) (by omega)) xw_k_setRegion xw_rec ⟨Nat.le_of_ble_eq_true rfl, Nat.le_of_ble_eq_true rfl, rfl, rfl⟩ hl.1 rfl rfl (Nat.le_of_ble_eq_true rfl) dX0_change_19 ⟨Nat.zero_le _, Nat.zero_le _⟩ hw (fun H locs hw => ?_)
      refine lv_iconst (v := nI 0) hx hb dX0_change_22 (by decide) ?_
      refine lv_istore (lv' := [(5, .int (nI 0)), (0, .ref h), (1, .int (nI F)), (2, .int (nI T)), (3, .int (w)), (4, .int (x))]) hx hb dX0_change_23 hl (by decide) rfl (fun ls hl => ?_)
      exact loop 16 0 (ca_reg F T σ) rfl (ca_ok_reg hok) rfl _ _ _ hw (lv_sub hl [0, 1, 4, 5] rfl)
end
section
/-! ChunkArray: contracts (fill, add, scale, keep) -/
abbrev rmX0_fill : Room := { frames := 5, cells := 0, slots := 0, locals := 126 }
set_option maxHeartbeats 400000 in
set_option maxRecDepth 100000 in
theorem mtX0_fill (l : Launch) (D : va_G) (dZ dI : ClassId) (h : Nat) (q : Nat → Nat) (σ : ca_S) (hok : ca_ok σ) (f t x : Int32) : gw_MI l D (xw_T dZ dI) (xw_ws dZ dI h q) h yX0_fill cX0_fill 4 .int rmX0_fill [.int (f), .int (t), .int (x)] σ (ca_chR f t 0 x σ) (ca_chS f t 0 x σ) := by
  refine gw_entI (by decide) (Nat.le_of_ble_eq_true rfl) (rfl) ?_
  intro p e s m args below meth c A Q cx hret ls hl hw
  have hx := cx.1
  have hb := cx.2.1
  have hl : lv_has ls 4 [(0, .ref h), (1, .int (f)), (2, .int (t)), (3, .int (x))] := hl
  refine lv_aload_n hx hb dX0_fill_0 rfl (lv_at hl 0 rfl) ?_
  refine lv_iload_n hx hb dX0_fill_1 rfl (lv_at hl 1 rfl) ?_
  refine lv_iload_n hx hb dX0_fill_2 rfl (lv_at hl 2 rfl) ?_
  refine lv_iconst (v := nI 0) hx hb dX0_fill_3 (by decide) ?_
  refine lv_iload_n hx hb dX0_fill_4 rfl (lv_at hl 3 rfl) ?_
  refine gw_calli (As := [.int (f), .int (t), .int (nI 0), .int (x)]) (rest := []) cx (mtX0_change l D dZ dI h q σ hok f t (nI 0) x) xw_k_change xw_rec ⟨Nat.le_of_ble_eq_true rfl, Nat.le_of_ble_eq_true rfl, rfl, rfl⟩ hl.1 rfl rfl (Nat.le_of_ble_eq_true rfl) dX0_fill_5 ⟨Nat.zero_le _, Nat.zero_le _⟩ hw (fun H locs hw => ?_)
  exact hret dX0_fill_8 rfl rfl hw
abbrev rmX0_add : Room := { frames := 5, cells := 0, slots := 0, locals := 126 }
set_option maxHeartbeats 400000 in
set_option maxRecDepth 100000 in
theorem mtX0_add (l : Launch) (D : va_G) (dZ dI : ClassId) (h : Nat) (q : Nat → Nat) (σ : ca_S) (hok : ca_ok σ) (f t x : Int32) : gw_MI l D (xw_T dZ dI) (xw_ws dZ dI h q) h yX0_add cX0_add 4 .int rmX0_add [.int (f), .int (t), .int (x)] σ (ca_chR f t 1 x σ) (ca_chS f t 1 x σ) := by
  refine gw_entI (by decide) (Nat.le_of_ble_eq_true rfl) (rfl) ?_
  intro p e s m args below meth c A Q cx hret ls hl hw
  have hx := cx.1
  have hb := cx.2.1
  have hl : lv_has ls 4 [(0, .ref h), (1, .int (f)), (2, .int (t)), (3, .int (x))] := hl
  refine lv_aload_n hx hb dX0_add_0 rfl (lv_at hl 0 rfl) ?_
  refine lv_iload_n hx hb dX0_add_1 rfl (lv_at hl 1 rfl) ?_
  refine lv_iload_n hx hb dX0_add_2 rfl (lv_at hl 2 rfl) ?_
  refine lv_iconst (v := nI 1) hx hb dX0_add_3 (by decide) ?_
  refine lv_iload_n hx hb dX0_add_4 rfl (lv_at hl 3 rfl) ?_
  refine gw_calli (As := [.int (f), .int (t), .int (nI 1), .int (x)]) (rest := []) cx (mtX0_change l D dZ dI h q σ hok f t (nI 1) x) xw_k_change xw_rec ⟨Nat.le_of_ble_eq_true rfl, Nat.le_of_ble_eq_true rfl, rfl, rfl⟩ hl.1 rfl rfl (Nat.le_of_ble_eq_true rfl) dX0_add_5 ⟨Nat.zero_le _, Nat.zero_le _⟩ hw (fun H locs hw => ?_)
  exact hret dX0_add_8 rfl rfl hw
abbrev rmX0_scale : Room := { frames := 5, cells := 0, slots := 0, locals := 126 }
set_option maxHeartbeats 400000 in
set_option maxRecDepth 100000 in
theorem mtX0_scale (l : Launch) (D : va_G) (dZ dI : ClassId) (h : Nat) (q : Nat → Nat) (σ : ca_S) (hok : ca_ok σ) (f t x : Int32) : gw_MI l D (xw_T dZ dI) (xw_ws dZ dI h q) h yX0_scale cX0_scale 4 .int rmX0_scale [.int (f), .int (t), .int (x)] σ (ca_chR f t 2 x σ) (ca_chS f t 2 x σ) := by
  refine gw_entI (by decide) (Nat.le_of_ble_eq_true rfl) (rfl) ?_
  intro p e s m args below meth c A Q cx hret ls hl hw
  have hx := cx.1
  have hb := cx.2.1
  have hl : lv_has ls 4 [(0, .ref h), (1, .int (f)), (2, .int (t)), (3, .int (x))] := hl
  refine lv_aload_n hx hb dX0_scale_0 rfl (lv_at hl 0 rfl) ?_
  refine lv_iload_n hx hb dX0_scale_1 rfl (lv_at hl 1 rfl) ?_
  refine lv_iload_n hx hb dX0_scale_2 rfl (lv_at hl 2 rfl) ?_
  refine lv_iconst (v := nI 2) hx hb dX0_scale_3 (by decide) ?_
  refine lv_iload_n hx hb dX0_scale_4 rfl (lv_at hl 3 rfl) ?_
  refine gw_calli (As := [.int (f), .int (t), .int (nI 2), .int (x)]) (rest := []) cx (mtX0_change l D dZ dI h q σ hok f t (nI 2) x) xw_k_change xw_rec ⟨Nat.le_of_ble_eq_true rfl, Nat.le_of_ble_eq_true rfl, rfl, rfl⟩ hl.1 rfl rfl (Nat.le_of_ble_eq_true rfl) dX0_scale_5 ⟨Nat.zero_le _, Nat.zero_le _⟩ hw (fun H locs hw => ?_)
  exact hret dX0_scale_8 rfl rfl hw
abbrev rmX0_keep : Room := { frames := 0, cells := 0, slots := 0, locals := 0 }
set_option maxHeartbeats 400000 in
set_option maxRecDepth 100000 in
theorem mtX0_keep (l : Launch) (D : va_G) (dZ dI : ClassId) (h : Nat) (q : Nat → Nat) (σ : ca_S) (hok : ca_ok σ) (v : Int32) : gw_MI l D (xw_T dZ dI) (xw_ws dZ dI h q) h yX0_keep cX0_keep 4 .int rmX0_keep [.int (v)] σ (ca_kpR v σ) (ca_kpS v σ) := by
  refine gw_entI (by decide) (Nat.le_of_ble_eq_true rfl) (rfl) ?_
  intro p e s m args below meth c A Q cx hret ls hl hw
  have hx := cx.1
  have hb := cx.2.1
  have hl : lv_has ls 4 [(0, .ref h), (1, .int (v))] := hl
  refine lv_iload_n hx hb dX0_keep_0 rfl (lv_at hl 1 rfl) ?_
  refine lv_if_lt (tgt := 9) hx hb dX0_keep_1 (by decide) (fun h1 => ?_) (fun h1 => ?_)
  · refine lv_bipush (v := -2) hx hb dX0_keep_9 (by decide) ?_
    exact hret dX0_keep_11 (if_pos (Or.inl h1)).symm (if_pos (Or.inl h1)).symm hw
  · refine lv_iload_n hx hb dX0_keep_4 rfl (lv_at hl 1 rfl) ?_
    refine lv_iconst (v := nI 3) hx hb dX0_keep_5 (by decide) ?_
    refine lv_icmp_le (tgt := 12) hx hb dX0_keep_6 (by decide) (fun h2 => ?_) (fun h2 => ?_)
    · have h9 : ¬ (v < 0 ∨ 3 < v) := fun z => z.elim h1 (Int32.not_lt.mpr h2)
      obtain ⟨V, g1, rfl⟩ := ca_ver_nat h1 (Int32.not_lt.mpr h2)
      refine lv_aload_n hx hb dX0_keep_12 rfl (lv_at hl 0 rfl) ?_
      refine xw_g0 cx hw dX0_keep_13 ?_
      refine lv_iload_n hx hb dX0_keep_16 rfl (lv_at hl 1 rfl) ?_
      refine xw_l0 cx hw (by omega) dX0_keep_17 ?_
      refine lv_if_eq (tgt := 24) hx hb dX0_keep_18 (by decide) (fun h4 => ?_) (fun h4 => ?_)
      · have h5 : σ 0 (nI V).toNatClampNeg = 0 := by rw [ca_cl (n := V) (by omega)]; exact h4
        have loop : ∀ (n : Nat) (i : Nat) (u : ca_S), i + n = 16 → ca_ok u → ca_it (ca_kp1 V) i n u = ca_kpN V σ → ∀ (H : Heap) (locs : List Loc) (ls : Array Slot), gw_W D A s.heap (xw_ws dZ dI h q) (u) H locs → lv_has ls 4 [(2, .int (nI i)), (0, .ref h), (1, .int (nI V))] → W p l e rmX0_keep s m args below meth c H locs 0 0 Q (F0 m 33 ls []) := by
          intro n
          induction n with
          | zero =>
            intro i u hi hu he H locs ls hw hl
            refine lv_iload_n hx hb dX0_keep_33 rfl (lv_at hl 0 rfl) ?_
            refine lv_bipush (v := nI 16) hx hb dX0_keep_34 (by decide) ?_
            refine nw_geT (tgt := 77) hx hb dX0_keep_36 (by decide) (by omega) (by omega) (by omega) ?_
            refine lv_iconst (v := nI 0) hx hb dX0_keep_77 (by decide) ?_
            exact hret dX0_keep_78 (by rw [ca_kpR, if_neg h9, if_pos h5]; rfl) (by rw [ca_kpS, if_neg h9, if_pos h5, ca_cl (n := V) (by omega)]; exact he) hw
          | succ n ih =>
            intro i u hi hu he H locs ls hw hl
            refine lv_iload_n hx hb dX0_keep_33 rfl (lv_at hl 0 rfl) ?_
            refine lv_bipush (v := nI 16) hx hb dX0_keep_34 (by decide) ?_
            refine nw_geF (tgt := 77) hx hb dX0_keep_36 (by decide) (by omega) (by omega) (by omega) ?_
            refine lv_aload_n hx hb dX0_keep_39 rfl (lv_at hl 1 rfl) ?_
            refine xw_g1 cx hw dX0_keep_40 ?_
            refine lv_bipush (v := nI 64) hx hb dX0_keep_43 (by decide) ?_
            refine lv_iload_n hx hb dX0_keep_45 rfl (lv_at hl 0 rfl) ?_
            refine nw_add hx hb dX0_keep_46 ?_
            refine xw_l1c cx hw hu (by omega) dX0_keep_47 ?_
            have hc_1 := (ca_ok_at hu (p := 64 + i) (by omega)).1
            refine lv_istore_n (lv' := [(3, .int (nI (ca_c u (64 + i)))), (2, .int (nI i)), (0, .ref h), (1, .int (nI V))]) hx hb dX0_keep_48 rfl hl (by decide) rfl (fun ls hl => ?_)
            refine lv_aload_n hx hb dX0_keep_49 rfl (lv_at hl 2 rfl) ?_
            refine xw_g1 cx hw dX0_keep_50 ?_
            refine lv_iload_n hx hb dX0_keep_53 rfl (lv_at hl 3 rfl) ?_
            refine lv_bipush (v := nI 16) hx hb dX0_keep_54 (by decide) ?_
            refine nw_mul hx hb dX0_keep_56 ?_
            refine lv_iload_n hx hb dX0_keep_57 rfl (lv_at hl 1 rfl) ?_
            refine nw_add hx hb dX0_keep_58 ?_
            refine lv_iload_n hx hb dX0_keep_59 rfl (lv_at hl 0 rfl) ?_
            refine xw_s1 cx hw (by omega) dX0_keep_60 (fun H locs hw => ?_)
            refine lv_aload_n hx hb dX0_keep_61 rfl (lv_at hl 2 rfl) ?_
            refine xw_g2 cx hw dX0_keep_62 ?_
            refine lv_iload_n hx hb dX0_keep_65 rfl (lv_at hl 0 rfl) ?_
            refine lv_dup2_11 hx hb dX0_keep_66 rfl rfl ?_
            refine xw_l2 cx hw (by omega) dX0_keep_67 ?_
            refine lv_iconst (v := nI 1) hx hb dX0_keep_68 (by decide) ?_
            refine lv_iadd hx hb dX0_keep_69 ?_
            refine xw_s2 cx hw (by omega) dX0_keep_70 (fun H locs hw => ?_)
            have hw : gw_W D A s.heap (xw_ws dZ dI h q) (ca_kp1 V i u) H locs := hw
            refine lv_iinc (v := nI (i + 1)) (lv' := [(2, .int (nI (i + 1))), (3, .int (nI (ca_c u (64 + i)))), (0, .ref h), (1, .int (nI V))]) hx hb dX0_keep_71 hl (k := 1) rfl (nI_1 _) (by decide) rfl (fun ls hl => ?_)
            refine lv_goto (tgt := 33) hx hb dX0_keep_74 (by decide) ?_
            exact ih (i + 1) _ (by omega) (ca_ok_kp1 hu (by omega)) he H locs ls hw (lv_sub hl [0, 2, 3] rfl)
        refine lv_aload_n hx hb dX0_keep_24 rfl (lv_at hl 0 rfl) ?_
        refine xw_g0 cx hw dX0_keep_25 ?_
        refine lv_iload_n hx hb dX0_keep_28 rfl (lv_at hl 1 rfl) ?_
        refine lv_iconst (v := nI 1) hx hb dX0_keep_29 (by decide) ?_
        refine xw_s0 (v := 1) cx hw (by omega) rfl dX0_keep_30 (fun H locs hw => ?_)
        refine lv_iconst (v := nI 0) hx hb dX0_keep_31 (by decide) ?_
        refine lv_istore_n (lv' := [(2, .int (nI 0)), (0, .ref h), (1, .int (nI V))]) hx hb dX0_keep_32 rfl hl (by decide) rfl (fun ls hl => ?_)
        exact loop 16 0 _ rfl (ca_ok_up hok (by decide)) rfl _ _ _ hw (lv_sub hl [0, 1, 2] rfl)
      · have h5 : ¬ σ 0 (nI V).toNatClampNeg = 0 := by rw [ca_cl (n := V) (by omega)]; exact h4
        refine lv_bipush (v := -3) hx hb dX0_keep_21 (by decide) ?_
        exact hret dX0_keep_23 (by rw [ca_kpR, if_neg h9, if_neg h5]) (by rw [ca_kpS, if_neg h9, if_neg h5]) hw
    · refine lv_bipush (v := -2) hx hb dX0_keep_9 (by decide) ?_
      exact hret dX0_keep_11 (if_pos (Or.inr (Int32.not_le.mp h2))).symm (if_pos (Or.inr (Int32.not_le.mp h2))).symm hw
end
section
/-! ChunkArray: contracts (differAt, differences, restore, drop, get, getOf, differ) -/
abbrev rmX0_differAt : Room := { frames := 2, cells := 0, slots := 0, locals := 45 }
set_option maxHeartbeats 400000 in
set_option maxRecDepth 100000 in
theorem mtX0_differAt (l : Launch) (D : va_G) (dZ dI : ClassId) (h : Nat) (q : Nat → Nat) (σ : ca_S) (hok : ca_ok σ) {v k : Nat} (g1 : v < 5) (g2 : k < 16) : gw_MI l D (xw_T dZ dI) (xw_ws dZ dI h q) h yX0_differAt cX0_differAt 9 .int rmX0_differAt [.int (nI v), .int (nI k)] σ (nI (ca_da σ v k)) (σ) := by
  refine gw_entI (by decide) (Nat.le_of_ble_eq_true rfl) (rfl) ?_
  intro p e s m args below meth c A Q cx hret ls hl hw
  have hx := cx.1
  have hb := cx.2.1
  have hl : lv_has ls 9 [(0, .ref h), (1, .int (nI v)), (2, .int (nI k))] := hl
  refine lv_aload_n hx hb dX0_differAt_0 rfl (lv_at hl 0 rfl) ?_
  refine xw_g1 cx hw dX0_differAt_1 ?_
  refine lv_iload_n hx hb dX0_differAt_4 rfl (lv_at hl 1 rfl) ?_
  refine lv_bipush (v := nI 16) hx hb dX0_differAt_5 (by decide) ?_
  refine nw_mul hx hb dX0_differAt_7 ?_
  refine lv_iload_n hx hb dX0_differAt_8 rfl (lv_at hl 2 rfl) ?_
  refine nw_add hx hb dX0_differAt_9 ?_
  refine xw_l1c cx hw hok (by omega) dX0_differAt_10 ?_
  have hc_1 := (ca_ok_at hok (p := (v * 16) + k) (by omega)).1
  refine lv_aload_n hx hb dX0_differAt_11 rfl (lv_at hl 0 rfl) ?_
  refine xw_g1 cx hw dX0_differAt_12 ?_
  refine lv_bipush (v := nI 64) hx hb dX0_differAt_15 (by decide) ?_
  refine lv_iload_n hx hb dX0_differAt_17 rfl (lv_at hl 2 rfl) ?_
  refine nw_add hx hb dX0_differAt_18 ?_
  refine xw_l1c cx hw hok (by omega) dX0_differAt_19 ?_
  have hc_2 := (ca_ok_at hok (p := 64 + k) (by omega)).1
  refine nw_ne (tgt := 25) hx hb dX0_differAt_20 (by decide) (by omega) (by omega) (fun h1 => ?_) (fun h1 => ?_)
  · have loop : ∀ (n : Nat) (i z : Nat), i + n = 16 → ca_it (ca_da1 σ v k) i n z = ca_it (ca_da1 σ v k) 0 16 0 → ∀ (H : Heap) (locs : List Loc) (ls : Array Slot), gw_W D A s.heap (xw_ws dZ dI h q) (σ) H locs → lv_has ls 9 [(3, .int (nI z)), (4, .int (nI i)), (0, .ref h), (1, .int (nI v)), (2, .int (nI k))] → W p l e rmX0_differAt s m args below meth c H locs 0 0 Q (F0 m 30 ls []) := by
      intro n
      induction n with
      | zero =>
        intro i z hi he H locs ls hw hl
        refine lv_iload hx hb dX0_differAt_30 (lv_at hl 1 rfl) ?_
        refine lv_bipush (v := nI 16) hx hb dX0_differAt_32 (by decide) ?_
        refine nw_geT (tgt := 99) hx hb dX0_differAt_34 (by decide) (by omega) (by omega) (by omega) ?_
        refine lv_iload_n hx hb dX0_differAt_99 rfl (lv_at hl 0 rfl) ?_
        exact hret dX0_differAt_100 (congrArg nI (Eq.trans he (if_neg h1).symm)) rfl hw
      | succ n ih =>
        intro i z hi he H locs ls hw hl
        refine lv_iload hx hb dX0_differAt_30 (lv_at hl 1 rfl) ?_
        refine lv_bipush (v := nI 16) hx hb dX0_differAt_32 (by decide) ?_
        refine nw_geF (tgt := 99) hx hb dX0_differAt_34 (by decide) (by omega) (by omega) (by omega) ?_
        have g3 := ca_r_lt (pl := k) (i := i) g2 (by omega)
        have g4 := ca_k_lt (pl := k) (i := i)
        refine lv_iload_n hx hb dX0_differAt_37 rfl (lv_at hl 4 rfl) ?_
        refine lv_iconst (v := nI 4) hx hb dX0_differAt_38 (by decide) ?_
        refine nw_div4 hx hb dX0_differAt_39 (by omega) ?_
        refine lv_iconst (v := nI 4) hx hb dX0_differAt_40 (by decide) ?_
        refine nw_mul hx hb dX0_differAt_41 ?_
        refine lv_iload hx hb dX0_differAt_42 (lv_at hl 1 rfl) ?_
        refine lv_iconst (v := nI 4) hx hb dX0_differAt_44 (by decide) ?_
        refine nw_div4 hx hb dX0_differAt_45 (by omega) ?_
        refine nw_add hx hb dX0_differAt_46 ?_
        refine lv_istore (lv' := [(5, .int (nI (ca_r k i))), (3, .int (nI z)), (4, .int (nI i)), (0, .ref h), (1, .int (nI v)), (2, .int (nI k))]) hx hb dX0_differAt_47 hl (by decide) rfl (fun ls hl => ?_)
        refine lv_iload_n hx hb dX0_differAt_49 rfl (lv_at hl 5 rfl) ?_
        refine lv_iconst (v := nI 4) hx hb dX0_differAt_50 (by decide) ?_
        refine nw_rem4 hx hb dX0_differAt_51 (by omega) ?_
        refine lv_iconst (v := nI 4) hx hb dX0_differAt_52 (by decide) ?_
        refine nw_mul hx hb dX0_differAt_53 ?_
        refine lv_iload hx hb dX0_differAt_54 (lv_at hl 2 rfl) ?_
        refine lv_iconst (v := nI 4) hx hb dX0_differAt_56 (by decide) ?_
        refine nw_rem4 hx hb dX0_differAt_57 (by omega) ?_
        refine nw_add hx hb dX0_differAt_58 ?_
        refine lv_istore (lv' := [(6, .int (nI (ca_k k i))), (5, .int (nI (ca_r k i))), (3, .int (nI z)), (4, .int (nI i)), (0, .ref h), (1, .int (nI v)), (2, .int (nI k))]) hx hb dX0_differAt_59 hl (by decide) rfl (fun ls hl => ?_)
        refine lv_aload_n hx hb dX0_differAt_61 rfl (lv_at hl 4 rfl) ?_
        refine lv_iload_n hx hb dX0_differAt_62 rfl (lv_at hl 5 rfl) ?_
        refine lv_iload hx hb dX0_differAt_63 (lv_at hl 1 rfl) ?_
        refine lv_iload hx hb dX0_differAt_65 (lv_at hl 0 rfl) ?_
        refine gw_calli (As := [.int (nI v), .int (nI (ca_r k i)), .int (nI (ca_k k i))]) (rest := []) cx (mtX0_read l D dZ dI h q σ hok (by omega) (by omega) (by omega)) xw_k_read xw_rec ⟨Nat.le_of_ble_eq_true rfl, Nat.le_of_ble_eq_true rfl, rfl, rfl⟩ hl.1 rfl rfl (Nat.le_of_ble_eq_true rfl) dX0_differAt_67 ⟨Nat.zero_le _, Nat.zero_le _⟩ hw (fun H locs hw => ?_)
        refine lv_istore (lv' := [(7, .int (ca_rd σ v (ca_r k i) (ca_k k i))), (6, .int (nI (ca_k k i))), (5, .int (nI (ca_r k i))), (3, .int (nI z)), (4, .int (nI i)), (0, .ref h), (1, .int (nI v)), (2, .int (nI k))]) hx hb dX0_differAt_70 hl (by decide) rfl (fun ls hl => ?_)
        refine lv_aload_n hx hb dX0_differAt_72 rfl (lv_at hl 5 rfl) ?_
        refine lv_iconst (v := nI 4) hx hb dX0_differAt_73 (by decide) ?_
        refine lv_iload hx hb dX0_differAt_74 (lv_at hl 2 rfl) ?_
        refine lv_iload hx hb dX0_differAt_76 (lv_at hl 1 rfl) ?_
        refine gw_calli (As := [.int (nI 4), .int (nI (ca_r k i)), .int (nI (ca_k k i))]) (rest := []) cx (mtX0_read l D dZ dI h q σ hok (by omega) (by omega) (by omega)) xw_k_read xw_rec ⟨Nat.le_of_ble_eq_true rfl, Nat.le_of_ble_eq_true rfl, rfl, rfl⟩ hl.1 rfl rfl (Nat.le_of_ble_eq_true rfl) dX0_differAt_78 ⟨Nat.zero_le _, Nat.zero_le _⟩ hw (fun H locs hw => ?_)
        refine lv_istore (lv' := [(8, .int (ca_rd σ 4 (ca_r k i) (ca_k k i))), (7, .int (ca_rd σ v (ca_r k i) (ca_k k i))), (6, .int (nI (ca_k k i))), (5, .int (nI (ca_r k i))), (3, .int (nI z)), (4, .int (nI i)), (0, .ref h), (1, .int (nI v)), (2, .int (nI k))]) hx hb dX0_differAt_81 hl (by decide) rfl (fun ls hl => ?_)
        refine lv_iload hx hb dX0_differAt_83 (lv_at hl 1 rfl) ?_
        refine lv_iload hx hb dX0_differAt_85 (lv_at hl 0 rfl) ?_
        refine lv_icmp_eq (tgt := 93) hx hb dX0_differAt_87 (by decide) (fun h2 => ?_) (fun h2 => ?_)
        · refine lv_iinc (v := nI (i + 1)) (lv' := [(4, .int (nI (i + 1))), (8, .int (ca_rd σ 4 (ca_r k i) (ca_k k i))), (7, .int (ca_rd σ v (ca_r k i) (ca_k k i))), (6, .int (nI (ca_k k i))), (5, .int (nI (ca_r k i))), (3, .int (nI z)), (0, .ref h), (1, .int (nI v)), (2, .int (nI k))]) hx hb dX0_differAt_93 hl (k := 5) rfl (nI_1 _) (by decide) rfl (fun ls hl => ?_)
          refine lv_goto (tgt := 30) hx hb dX0_differAt_96 (by decide) ?_
          exact ih (i + 1) z (by omega) (by rw [← he, ca_it_s, show ca_da1 σ v k i z = z from if_pos h2]) H locs ls hw (lv_sub hl [5, 0, 6, 7, 8] rfl)
        · refine lv_iinc (v := nI (z + 1)) (lv' := [(3, .int (nI (z + 1))), (8, .int (ca_rd σ 4 (ca_r k i) (ca_k k i))), (7, .int (ca_rd σ v (ca_r k i) (ca_k k i))), (6, .int (nI (ca_k k i))), (5, .int (nI (ca_r k i))), (4, .int (nI i)), (0, .ref h), (1, .int (nI v)), (2, .int (nI k))]) hx hb dX0_differAt_90 hl (k := 4) rfl (nI_1 _) (by decide) rfl (fun ls hl => ?_)
          refine lv_iinc (v := nI (i + 1)) (lv' := [(4, .int (nI (i + 1))), (3, .int (nI (z + 1))), (8, .int (ca_rd σ 4 (ca_r k i) (ca_k k i))), (7, .int (ca_rd σ v (ca_r k i) (ca_k k i))), (6, .int (nI (ca_k k i))), (5, .int (nI (ca_r k i))), (0, .ref h), (1, .int (nI v)), (2, .int (nI k))]) hx hb dX0_differAt_93 hl (k := 5) rfl (nI_1 _) (by decide) rfl (fun ls hl => ?_)
          refine lv_goto (tgt := 30) hx hb dX0_differAt_96 (by decide) ?_
          exact ih (i + 1) (z + 1) (by omega) (by rw [← he, ca_it_s, show ca_da1 σ v k i z = z + 1 from if_neg h2]) H locs ls hw (lv_sub hl [1, 0, 6, 7, 8] rfl)
    refine lv_iconst (v := nI 0) hx hb dX0_differAt_25 (by decide) ?_
    refine lv_istore_n (lv' := [(3, .int (nI 0)), (0, .ref h), (1, .int (nI v)), (2, .int (nI k))]) hx hb dX0_differAt_26 rfl hl (by decide) rfl (fun ls hl => ?_)
    refine lv_iconst (v := nI 0) hx hb dX0_differAt_27 (by decide) ?_
    refine lv_istore (lv' := [(4, .int (nI 0)), (3, .int (nI 0)), (0, .ref h), (1, .int (nI v)), (2, .int (nI k))]) hx hb dX0_differAt_28 hl (by decide) rfl (fun ls hl => ?_)
    exact loop 16 0 0 rfl rfl _ _ _ hw (lv_sub hl [1, 0, 2, 3, 4] rfl)
  · refine lv_iconst (v := nI 0) hx hb dX0_differAt_23 (by decide) ?_
    exact hret dX0_differAt_24 (congrArg nI (if_pos h1).symm) rfl hw
abbrev rmX0_differences : Room := { frames := 3, cells := 0, slots := 0, locals := 73 }
set_option maxHeartbeats 400000 in
set_option maxRecDepth 100000 in
theorem mtX0_differences (l : Launch) (D : va_G) (dZ dI : ClassId) (h : Nat) (q : Nat → Nat) (σ : ca_S) (hok : ca_ok σ) {v : Nat} (g1 : v < 5) : gw_MI l D (xw_T dZ dI) (xw_ws dZ dI h q) h yX0_differences cX0_differences 4 .int rmX0_differences [.int (nI v)] σ (nI (ca_df σ v)) (σ) := by
  refine gw_entI (by decide) (Nat.le_of_ble_eq_true rfl) (rfl) ?_
  intro p e s m args below meth c A Q cx hret ls hl hw
  have hx := cx.1
  have hb := cx.2.1
  have hl : lv_has ls 4 [(0, .ref h), (1, .int (nI v))] := hl
  have loop : ∀ (n : Nat) (i z : Nat), i + n = 16 → ca_it (ca_df1 σ v) i n z = ca_df σ v → ∀ (H : Heap) (locs : List Loc) (ls : Array Slot), gw_W D A s.heap (xw_ws dZ dI h q) (σ) H locs → lv_has ls 4 [(2, .int (nI z)), (3, .int (nI i)), (0, .ref h), (1, .int (nI v))] → W p l e rmX0_differences s m args below meth c H locs 0 0 Q (F0 m 4 ls []) := by
    intro n
    induction n with
    | zero =>
      intro i z hi he H locs ls hw hl
      refine lv_iload_n hx hb dX0_differences_4 rfl (lv_at hl 1 rfl) ?_
      refine lv_bipush (v := nI 16) hx hb dX0_differences_5 (by decide) ?_
      refine nw_geT (tgt := 25) hx hb dX0_differences_7 (by decide) (by omega) (by omega) (by omega) ?_
      refine lv_iload_n hx hb dX0_differences_25 rfl (lv_at hl 0 rfl) ?_
      exact hret dX0_differences_26 (congrArg nI he) rfl hw
    | succ n ih =>
      intro i z hi he H locs ls hw hl
      refine lv_iload_n hx hb dX0_differences_4 rfl (lv_at hl 1 rfl) ?_
      refine lv_bipush (v := nI 16) hx hb dX0_differences_5 (by decide) ?_
      refine nw_geF (tgt := 25) hx hb dX0_differences_7 (by decide) (by omega) (by omega) (by omega) ?_
      refine lv_iload_n hx hb dX0_differences_10 rfl (lv_at hl 0 rfl) ?_
      refine lv_aload_n hx hb dX0_differences_11 rfl (lv_at hl 2 rfl) ?_
      refine lv_iload_n hx hb dX0_differences_12 rfl (lv_at hl 3 rfl) ?_
      refine lv_iload_n hx hb dX0_differences_13 rfl (lv_at hl 1 rfl) ?_
      refine gw_calli (As := [.int (nI v), .int (nI i)]) (rest := [.int (nI z)]) cx (mtX0_differAt l D dZ dI h q σ hok (by omega) (by omega)) xw_k_differAt xw_rec ⟨Nat.le_of_ble_eq_true rfl, Nat.le_of_ble_eq_true rfl, rfl, rfl⟩ hl.1 rfl rfl (Nat.le_of_ble_eq_true rfl) dX0_differences_14 ⟨Nat.zero_le _, Nat.zero_le _⟩ hw (fun H locs hw => ?_)
      refine nw_add hx hb dX0_differences_17 ?_
      refine lv_istore_n (lv' := [(2, .int (nI (z + (ca_da σ v i)))), (3, .int (nI i)), (0, .ref h), (1, .int (nI v))]) hx hb dX0_differences_18 rfl hl (by decide) rfl (fun ls hl => ?_)
      refine lv_iinc (v := nI (i + 1)) (lv' := [(3, .int (nI (i + 1))), (2, .int (nI (z + (ca_da σ v i)))), (0, .ref h), (1, .int (nI v))]) hx hb dX0_differences_19 hl (k := 1) rfl (nI_1 _) (by decide) rfl (fun ls hl => ?_)
      refine lv_goto (tgt := 4) hx hb dX0_differences_22 (by decide) ?_
      exact ih (i + 1) _ (by omega) he H locs ls hw (lv_sub hl [1, 0, 2, 3] rfl)
  refine lv_iconst (v := nI 0) hx hb dX0_differences_0 (by decide) ?_
  refine lv_istore_n (lv' := [(2, .int (nI 0)), (0, .ref h), (1, .int (nI v))]) hx hb dX0_differences_1 rfl hl (by decide) rfl (fun ls hl => ?_)
  refine lv_iconst (v := nI 0) hx hb dX0_differences_2 (by decide) ?_
  refine lv_istore_n (lv' := [(3, .int (nI 0)), (2, .int (nI 0)), (0, .ref h), (1, .int (nI v))]) hx hb dX0_differences_3 rfl hl (by decide) rfl (fun ls hl => ?_)
  exact loop 16 0 0 rfl rfl _ _ _ hw (lv_sub hl [1, 0, 2, 3] rfl)
abbrev rmX0_restore : Room := { frames := 4, cells := 0, slots := 0, locals := 96 }
set_option maxHeartbeats 400000 in
set_option maxRecDepth 100000 in
theorem mtX0_restore (l : Launch) (D : va_G) (dZ dI : ClassId) (h : Nat) (q : Nat → Nat) (σ : ca_S) (hok : ca_ok σ) (v : Int32) : gw_MI l D (xw_T dZ dI) (xw_ws dZ dI h q) h yX0_restore cX0_restore 5 .int rmX0_restore [.int (v)] σ (ca_dfR v σ) (ca_rsS v σ) := by
  refine gw_entI (by decide) (Nat.le_of_ble_eq_true rfl) (rfl) ?_
  intro p e s m args below meth c A Q cx hret ls hl hw
  have hx := cx.1
  have hb := cx.2.1
  have hl : lv_has ls 5 [(0, .ref h), (1, .int (v))] := hl
  refine lv_aload_n hx hb dX0_restore_0 rfl (lv_at hl 0 rfl) ?_
  refine lv_iload_n hx hb dX0_restore_1 rfl (lv_at hl 1 rfl) ?_
  refine gw_calli (As := [.int (v)]) (rest := []) cx (mtX0_noVersion l D dZ dI h q σ v) xw_k_noVersion xw_rec ⟨Nat.le_of_ble_eq_true rfl, Nat.le_of_ble_eq_true rfl, rfl, rfl⟩ hl.1 rfl rfl (Nat.le_of_ble_eq_true rfl) dX0_restore_2 ⟨Nat.zero_le _, Nat.zero_le _⟩ hw (fun H locs hw => ?_)
  refine lv_if_eq (tgt := 11) hx hb dX0_restore_5 (by decide) (fun h1 => ?_) (fun h1 => ?_)
  · have h9 := ca_iff h1
    obtain ⟨V, g1, rfl⟩ := ca_ver_nat (fun z => h9 (Or.inl z)) (fun z => h9 (Or.inr (Or.inl z)))
    have loop : ∀ (n : Nat) (i : Nat) (u : ca_S), i + n = 16 → ca_ok u → ca_it (ca_rs1 V) i n u = ca_rsN V σ → ∀ (H : Heap) (locs : List Loc) (ls : Array Slot), gw_W D A s.heap (xw_ws dZ dI h q) (u) H locs → lv_has ls 5 [(3, .int (nI i)), (2, .int (nI (ca_df σ V))), (0, .ref h), (1, .int (nI V))] → W p l e rmX0_restore s m args below meth c H locs 0 0 Q (F0 m 19 ls []) := by
      intro n
      induction n with
      | zero =>
        intro i u hi hu he H locs ls hw hl
        refine lv_iload_n hx hb dX0_restore_19 rfl (lv_at hl 0 rfl) ?_
        refine lv_bipush (v := nI 16) hx hb dX0_restore_20 (by decide) ?_
        refine nw_geT (tgt := 84) hx hb dX0_restore_22 (by decide) (by omega) (by omega) (by omega) ?_
        refine lv_iload_n hx hb dX0_restore_84 rfl (lv_at hl 1 rfl) ?_
        exact hret dX0_restore_85 (by rw [ca_dfR, if_neg h9, ca_cl (n := V) (by omega)]) (by rw [ca_rsS, if_neg h9, ca_cl (n := V) (by omega)]; exact he) hw
      | succ n ih =>
        intro i u hi hu he H locs ls hw hl
        refine lv_iload_n hx hb dX0_restore_19 rfl (lv_at hl 0 rfl) ?_
        refine lv_bipush (v := nI 16) hx hb dX0_restore_20 (by decide) ?_
        refine nw_geF (tgt := 84) hx hb dX0_restore_22 (by decide) (by omega) (by omega) (by omega) ?_
        refine lv_aload_n hx hb dX0_restore_25 rfl (lv_at hl 2 rfl) ?_
        refine xw_g1 cx hw dX0_restore_26 ?_
        refine lv_iload_n hx hb dX0_restore_29 rfl (lv_at hl 3 rfl) ?_
        refine lv_bipush (v := nI 16) hx hb dX0_restore_30 (by decide) ?_
        refine nw_mul hx hb dX0_restore_32 ?_
        refine lv_iload_n hx hb dX0_restore_33 rfl (lv_at hl 0 rfl) ?_
        refine nw_add hx hb dX0_restore_34 ?_
        refine xw_l1c cx hw hu (by omega) dX0_restore_35 ?_
        have hc_1 := (ca_ok_at hu (p := (V * 16) + i) (by omega)).1
        refine lv_istore (lv' := [(4, .int (nI (ca_c u ((V * 16) + i)))), (3, .int (nI i)), (2, .int (nI (ca_df σ V))), (0, .ref h), (1, .int (nI V))]) hx hb dX0_restore_36 hl (by decide) rfl (fun ls hl => ?_)
        refine lv_aload_n hx hb dX0_restore_38 rfl (lv_at hl 3 rfl) ?_
        refine xw_g2 cx hw dX0_restore_39 ?_
        refine lv_aload_n hx hb dX0_restore_42 rfl (lv_at hl 3 rfl) ?_
        refine xw_g1 cx hw dX0_restore_43 ?_
        refine lv_bipush (v := nI 64) hx hb dX0_restore_46 (by decide) ?_
        refine lv_iload_n hx hb dX0_restore_48 rfl (lv_at hl 1 rfl) ?_
        refine nw_add hx hb dX0_restore_49 ?_
        refine xw_l1c cx hw hu (by omega) dX0_restore_50 ?_
        have hc_2 := (ca_ok_at hu (p := 64 + i) (by omega)).1
        refine lv_dup2_11 hx hb dX0_restore_51 rfl rfl ?_
        refine xw_l2 cx hw (by omega) dX0_restore_52 ?_
        refine lv_iconst (v := nI 1) hx hb dX0_restore_53 (by decide) ?_
        refine lv_isub hx hb dX0_restore_54 ?_
        refine xw_s2 cx hw (by omega) dX0_restore_55 (fun H locs hw => ?_)
        have hw : gw_W D A s.heap (xw_ws dZ dI h q) (ca_dec 2 (ca_c u (64 + i)) u) H locs := hw
        refine lv_aload_n hx hb dX0_restore_56 rfl (lv_at hl 3 rfl) ?_
        refine xw_g2 cx hw dX0_restore_57 ?_
        refine lv_iload hx hb dX0_restore_60 (lv_at hl 0 rfl) ?_
        refine lv_dup2_11 hx hb dX0_restore_62 rfl rfl ?_
        refine xw_l2 cx hw (by omega) dX0_restore_63 ?_
        refine lv_iconst (v := nI 1) hx hb dX0_restore_64 (by decide) ?_
        refine lv_iadd hx hb dX0_restore_65 ?_
        refine xw_s2 cx hw (by omega) dX0_restore_66 (fun H locs hw => ?_)
        have hw : gw_W D A s.heap (xw_ws dZ dI h q) (ca_inc 2 (ca_c u (V * 16 + i)) (ca_dec 2 (ca_c u (64 + i)) u)) H locs := hw
        refine lv_aload_n hx hb dX0_restore_67 rfl (lv_at hl 3 rfl) ?_
        refine xw_g1 cx hw dX0_restore_68 ?_
        refine lv_bipush (v := nI 64) hx hb dX0_restore_71 (by decide) ?_
        refine lv_iload_n hx hb dX0_restore_73 rfl (lv_at hl 1 rfl) ?_
        refine nw_add hx hb dX0_restore_74 ?_
        refine lv_iload hx hb dX0_restore_75 (lv_at hl 0 rfl) ?_
        refine xw_s1 cx hw (by omega) dX0_restore_77 (fun H locs hw => ?_)
        have hw : gw_W D A s.heap (xw_ws dZ dI h q) (ca_rs1 V i u) H locs := hw
        refine lv_iinc (v := nI (i + 1)) (lv' := [(3, .int (nI (i + 1))), (4, .int (nI (ca_c u ((V * 16) + i)))), (2, .int (nI (ca_df σ V))), (0, .ref h), (1, .int (nI V))]) hx hb dX0_restore_78 hl (k := 1) rfl (nI_1 _) (by decide) rfl (fun ls hl => ?_)
        refine lv_goto (tgt := 19) hx hb dX0_restore_81 (by decide) ?_
        exact ih (i + 1) _ (by omega) (ca_ok_rs1 hu g1 (by omega)) he H locs ls hw (lv_sub hl [0, 2, 3, 4] rfl)
    refine lv_aload_n hx hb dX0_restore_11 rfl (lv_at hl 0 rfl) ?_
    refine lv_iload_n hx hb dX0_restore_12 rfl (lv_at hl 1 rfl) ?_
    refine gw_calli (As := [.int (nI V)]) (rest := []) cx (mtX0_differences l D dZ dI h q σ hok (by omega)) xw_k_differences xw_rec ⟨Nat.le_of_ble_eq_true rfl, Nat.le_of_ble_eq_true rfl, rfl, rfl⟩ hl.1 rfl rfl (Nat.le_of_ble_eq_true rfl) dX0_restore_13 ⟨Nat.zero_le _, Nat.zero_le _⟩ hw (fun H locs hw => ?_)
    refine lv_istore_n (lv' := [(2, .int (nI (ca_df σ V))), (0, .ref h), (1, .int (nI V))]) hx hb dX0_restore_16 rfl hl (by decide) rfl (fun ls hl => ?_)
    refine lv_iconst (v := nI 0) hx hb dX0_restore_17 (by decide) ?_
    refine lv_istore_n (lv' := [(3, .int (nI 0)), (2, .int (nI (ca_df σ V))), (0, .ref h), (1, .int (nI V))]) hx hb dX0_restore_18 rfl hl (by decide) rfl (fun ls hl => ?_)
    exact loop 16 0 σ rfl hok rfl _ _ _ hw (lv_sub hl [0, 1, 2, 3] rfl)
  · refine lv_bipush (v := -2) hx hb dX0_restore_8 (by decide) ?_
    exact hret dX0_restore_10 (if_pos (ca_ift h1)).symm (if_pos (ca_ift h1)).symm hw
abbrev rmX0_drop : Room := { frames := 1, cells := 0, slots := 0, locals := 21 }
set_option maxHeartbeats 400000 in
set_option maxRecDepth 100000 in
theorem mtX0_drop (l : Launch) (D : va_G) (dZ dI : ClassId) (h : Nat) (q : Nat → Nat) (σ : ca_S) (hok : ca_ok σ) (v : Int32) : gw_MI l D (xw_T dZ dI) (xw_ws dZ dI h q) h yX0_drop cX0_drop 3 .int rmX0_drop [.int (v)] σ (ca_dpR v σ) (ca_dpS v σ) := by
  refine gw_entI (by decide) (Nat.le_of_ble_eq_true rfl) (rfl) ?_
  intro p e s m args below meth c A Q cx hret ls hl hw
  have hx := cx.1
  have hb := cx.2.1
  have hl : lv_has ls 3 [(0, .ref h), (1, .int (v))] := hl
  refine lv_aload_n hx hb dX0_drop_0 rfl (lv_at hl 0 rfl) ?_
  refine lv_iload_n hx hb dX0_drop_1 rfl (lv_at hl 1 rfl) ?_
  refine gw_calli (As := [.int (v)]) (rest := []) cx (mtX0_noVersion l D dZ dI h q σ v) xw_k_noVersion xw_rec ⟨Nat.le_of_ble_eq_true rfl, Nat.le_of_ble_eq_true rfl, rfl, rfl⟩ hl.1 rfl rfl (Nat.le_of_ble_eq_true rfl) dX0_drop_2 ⟨Nat.zero_le _, Nat.zero_le _⟩ hw (fun H locs hw => ?_)
  refine lv_if_eq (tgt := 11) hx hb dX0_drop_5 (by decide) (fun h1 => ?_) (fun h1 => ?_)
  · have h9 := ca_iff h1
    obtain ⟨V, g1, rfl⟩ := ca_ver_nat (fun z => h9 (Or.inl z)) (fun z => h9 (Or.inr (Or.inl z)))
    have loop : ∀ (n : Nat) (i : Nat) (u : ca_S), i + n = 16 → ca_ok u → ca_it (ca_dp1 V) i n u = ca_dpN V σ → ∀ (H : Heap) (locs : List Loc) (ls : Array Slot), gw_W D A s.heap (xw_ws dZ dI h q) (u) H locs → lv_has ls 3 [(2, .int (nI i)), (0, .ref h), (1, .int (nI V))] → W p l e rmX0_drop s m args below meth c H locs 0 0 Q (F0 m 20 ls []) := by
      intro n
      induction n with
      | zero =>
        intro i u hi hu he H locs ls hw hl
        refine lv_iload_n hx hb dX0_drop_20 rfl (lv_at hl 0 rfl) ?_
        refine lv_bipush (v := nI 16) hx hb dX0_drop_21 (by decide) ?_
        refine nw_geT (tgt := 52) hx hb dX0_drop_23 (by decide) (by omega) (by omega) (by omega) ?_
        refine lv_iconst (v := nI 0) hx hb dX0_drop_52 (by decide) ?_
        exact hret dX0_drop_53 (by rw [ca_dpR, if_neg h9]; rfl) (by rw [ca_dpS, if_neg h9, ca_cl (n := V) (by omega)]; exact he) hw
      | succ n ih =>
        intro i u hi hu he H locs ls hw hl
        refine lv_iload_n hx hb dX0_drop_20 rfl (lv_at hl 0 rfl) ?_
        refine lv_bipush (v := nI 16) hx hb dX0_drop_21 (by decide) ?_
        refine nw_geF (tgt := 52) hx hb dX0_drop_23 (by decide) (by omega) (by omega) (by omega) ?_
        refine lv_aload_n hx hb dX0_drop_26 rfl (lv_at hl 1 rfl) ?_
        refine xw_g2 cx hw dX0_drop_27 ?_
        refine lv_aload_n hx hb dX0_drop_30 rfl (lv_at hl 1 rfl) ?_
        refine xw_g1 cx hw dX0_drop_31 ?_
        refine lv_iload_n hx hb dX0_drop_34 rfl (lv_at hl 2 rfl) ?_
        refine lv_bipush (v := nI 16) hx hb dX0_drop_35 (by decide) ?_
        refine nw_mul hx hb dX0_drop_37 ?_
        refine lv_iload_n hx hb dX0_drop_38 rfl (lv_at hl 0 rfl) ?_
        refine nw_add hx hb dX0_drop_39 ?_
        refine xw_l1c cx hw hu (by omega) dX0_drop_40 ?_
        have hc_1 := (ca_ok_at hu (p := (V * 16) + i) (by omega)).1
        refine lv_dup2_11 hx hb dX0_drop_41 rfl rfl ?_
        refine xw_l2 cx hw (by omega) dX0_drop_42 ?_
        refine lv_iconst (v := nI 1) hx hb dX0_drop_43 (by decide) ?_
        refine lv_isub hx hb dX0_drop_44 ?_
        refine xw_s2 cx hw (by omega) dX0_drop_45 (fun H locs hw => ?_)
        have hw : gw_W D A s.heap (xw_ws dZ dI h q) (ca_dp1 V i u) H locs := hw
        refine lv_iinc (v := nI (i + 1)) (lv' := [(2, .int (nI (i + 1))), (0, .ref h), (1, .int (nI V))]) hx hb dX0_drop_46 hl (k := 0) rfl (nI_1 _) (by decide) rfl (fun ls hl => ?_)
        refine lv_goto (tgt := 20) hx hb dX0_drop_49 (by decide) ?_
        exact ih (i + 1) _ (by omega) (ca_ok_dp1 hu) he H locs ls hw (lv_sub hl [0, 1, 2] rfl)
    refine lv_aload_n hx hb dX0_drop_11 rfl (lv_at hl 0 rfl) ?_
    refine xw_g0 cx hw dX0_drop_12 ?_
    refine lv_iload_n hx hb dX0_drop_15 rfl (lv_at hl 1 rfl) ?_
    refine lv_iconst (v := nI 0) hx hb dX0_drop_16 (by decide) ?_
    refine xw_s0 (v := 0) cx hw (by omega) rfl dX0_drop_17 (fun H locs hw => ?_)
    refine lv_iconst (v := nI 0) hx hb dX0_drop_18 (by decide) ?_
    refine lv_istore_n (lv' := [(2, .int (nI 0)), (0, .ref h), (1, .int (nI V))]) hx hb dX0_drop_19 rfl hl (by decide) rfl (fun ls hl => ?_)
    exact loop 16 0 _ rfl (ca_ok_up hok (by decide)) rfl _ _ _ hw (lv_sub hl [0, 1, 2] rfl)
  · refine lv_bipush (v := -2) hx hb dX0_drop_8 (by decide) ?_
    exact hret dX0_drop_10 (if_pos (ca_ift h1)).symm (if_pos (ca_ift h1)).symm hw
abbrev rmX0_get : Room := { frames := 2, cells := 0, slots := 0, locals := 45 }
set_option maxHeartbeats 400000 in
set_option maxRecDepth 100000 in
theorem mtX0_get (l : Launch) (D : va_G) (dZ dI : ClassId) (h : Nat) (q : Nat → Nat) (σ : ca_S) (hok : ca_ok σ) (f : Int32) : gw_MI l D (xw_T dZ dI) (xw_ws dZ dI h q) h yX0_get cX0_get 2 .int rmX0_get [.int (f)] σ (ca_gtR f σ) (σ) := by
  refine gw_entI (by decide) (Nat.le_of_ble_eq_true rfl) (rfl) ?_
  intro p e s m args below meth c A Q cx hret ls hl hw
  have hx := cx.1
  have hb := cx.2.1
  have hl : lv_has ls 2 [(0, .ref h), (1, .int (f))] := hl
  refine lv_iload_n hx hb dX0_get_0 rfl (lv_at hl 1 rfl) ?_
  refine gw_calls (As := [.int (f)]) (rest := []) cx (mtX0_bad l f) xw_k_bad ⟨Nat.le_of_ble_eq_true rfl, Nat.le_of_ble_eq_true rfl, rfl, rfl⟩ hl.1 rfl rfl (Nat.le_of_ble_eq_true rfl) dX0_get_1 ⟨Nat.zero_le _, Nat.zero_le _⟩ ?_
  refine lv_if_eq (tgt := 11) hx hb dX0_get_4 (by decide) (fun h1 => ?_) (fun h1 => ?_)
  · have h9 := ca_iff h1
    obtain ⟨F, g1, rfl⟩ := ca_bad_nat h9
    refine lv_aload_n hx hb dX0_get_11 rfl (lv_at hl 0 rfl) ?_
    refine lv_iconst (v := nI 4) hx hb dX0_get_12 (by decide) ?_
    refine lv_iload_n hx hb dX0_get_13 rfl (lv_at hl 1 rfl) ?_
    refine lv_bipush (v := nI 15) hx hb dX0_get_14 (by decide) ?_
    refine nw_and15 hx hb dX0_get_16 (by omega) ?_
    refine lv_iload_n hx hb dX0_get_17 rfl (lv_at hl 1 rfl) ?_
    refine lv_iconst (v := nI 4) hx hb dX0_get_18 (by decide) ?_
    refine nw_shr4 hx hb dX0_get_19 (by omega) ?_
    refine gw_calli (As := [.int (nI 4), .int (nI (F % 16)), .int (nI (F / 16))]) (rest := []) cx (mtX0_read l D dZ dI h q σ hok (by omega) (by omega) (by omega)) xw_k_read xw_rec ⟨Nat.le_of_ble_eq_true rfl, Nat.le_of_ble_eq_true rfl, rfl, rfl⟩ hl.1 rfl rfl (Nat.le_of_ble_eq_true rfl) dX0_get_20 ⟨Nat.zero_le _, Nat.zero_le _⟩ hw (fun H locs hw => ?_)
    exact hret dX0_get_23 (by rw [ca_gtR, if_neg h9, ca_cl (n := F) (by omega)]) rfl hw
  · refine lv_iconst (v := -1) hx hb dX0_get_7 (by decide) ?_
    refine lv_goto (tgt := 23) hx hb dX0_get_8 (by decide) ?_
    exact hret dX0_get_23 (if_pos (ca_ift h1)).symm rfl hw
abbrev rmX0_getOf : Room := { frames := 2, cells := 0, slots := 0, locals := 45 }
set_option maxHeartbeats 400000 in
set_option maxRecDepth 100000 in
theorem mtX0_getOf (l : Launch) (D : va_G) (dZ dI : ClassId) (h : Nat) (q : Nat → Nat) (σ : ca_S) (hok : ca_ok σ) (v f : Int32) : gw_MI l D (xw_T dZ dI) (xw_ws dZ dI h q) h yX0_getOf cX0_getOf 3 .int rmX0_getOf [.int (v), .int (f)] σ (ca_goR v f σ) (σ) := by
  refine gw_entI (by decide) (Nat.le_of_ble_eq_true rfl) (rfl) ?_
  intro p e s m args below meth c A Q cx hret ls hl hw
  have hx := cx.1
  have hb := cx.2.1
  have hl : lv_has ls 3 [(0, .ref h), (1, .int (v)), (2, .int (f))] := hl
  refine lv_iload_n hx hb dX0_getOf_0 rfl (lv_at hl 2 rfl) ?_
  refine gw_calls (As := [.int (f)]) (rest := []) cx (mtX0_bad l f) xw_k_bad ⟨Nat.le_of_ble_eq_true rfl, Nat.le_of_ble_eq_true rfl, rfl, rfl⟩ hl.1 rfl rfl (Nat.le_of_ble_eq_true rfl) dX0_getOf_1 ⟨Nat.zero_le _, Nat.zero_le _⟩ ?_
  refine lv_if_eq (tgt := 9) hx hb dX0_getOf_4 (by decide) (fun h1 => ?_) (fun h1 => ?_)
  · have h8 := ca_iff h1
    refine lv_aload_n hx hb dX0_getOf_9 rfl (lv_at hl 0 rfl) ?_
    refine lv_iload_n hx hb dX0_getOf_10 rfl (lv_at hl 1 rfl) ?_
    refine gw_calli (As := [.int (v)]) (rest := []) cx (mtX0_noVersion l D dZ dI h q σ v) xw_k_noVersion xw_rec ⟨Nat.le_of_ble_eq_true rfl, Nat.le_of_ble_eq_true rfl, rfl, rfl⟩ hl.1 rfl rfl (Nat.le_of_ble_eq_true rfl) dX0_getOf_11 ⟨Nat.zero_le _, Nat.zero_le _⟩ hw (fun H locs hw => ?_)
    refine lv_if_eq (tgt := 20) hx hb dX0_getOf_14 (by decide) (fun h2 => ?_) (fun h2 => ?_)
    · have h9 := ca_iff h2
      obtain ⟨F, g1, rfl⟩ := ca_bad_nat h8
      obtain ⟨V, g2, rfl⟩ := ca_ver_nat (fun z => h9 (Or.inl z)) (fun z => h9 (Or.inr (Or.inl z)))
      refine lv_aload_n hx hb dX0_getOf_20 rfl (lv_at hl 0 rfl) ?_
      refine lv_iload_n hx hb dX0_getOf_21 rfl (lv_at hl 1 rfl) ?_
      refine lv_iload_n hx hb dX0_getOf_22 rfl (lv_at hl 2 rfl) ?_
      refine lv_bipush (v := nI 15) hx hb dX0_getOf_23 (by decide) ?_
      refine nw_and15 hx hb dX0_getOf_25 (by omega) ?_
      refine lv_iload_n hx hb dX0_getOf_26 rfl (lv_at hl 2 rfl) ?_
      refine lv_iconst (v := nI 4) hx hb dX0_getOf_27 (by decide) ?_
      refine nw_shr4 hx hb dX0_getOf_28 (by omega) ?_
      refine gw_calli (As := [.int (nI V), .int (nI (F % 16)), .int (nI (F / 16))]) (rest := []) cx (mtX0_read l D dZ dI h q σ hok (by omega) (by omega) (by omega)) xw_k_read xw_rec ⟨Nat.le_of_ble_eq_true rfl, Nat.le_of_ble_eq_true rfl, rfl, rfl⟩ hl.1 rfl rfl (Nat.le_of_ble_eq_true rfl) dX0_getOf_29 ⟨Nat.zero_le _, Nat.zero_le _⟩ hw (fun H locs hw => ?_)
      exact hret dX0_getOf_32 (by rw [ca_goR, if_neg h8, if_neg h9, ca_cl (n := F) (by omega), ca_cl (n := V) (by omega)]) rfl hw
    · refine lv_bipush (v := -2) hx hb dX0_getOf_17 (by decide) ?_
      exact hret dX0_getOf_19 ((if_neg h8).trans (if_pos (ca_ift h2))).symm rfl hw
  · refine lv_iconst (v := -1) hx hb dX0_getOf_7 (by decide) ?_
    exact hret dX0_getOf_8 (if_pos (ca_ift h1)).symm rfl hw
abbrev rmX0_differ : Room := { frames := 4, cells := 0, slots := 0, locals := 96 }
set_option maxHeartbeats 400000 in
set_option maxRecDepth 100000 in
theorem mtX0_differ (l : Launch) (D : va_G) (dZ dI : ClassId) (h : Nat) (q : Nat → Nat) (σ : ca_S) (hok : ca_ok σ) (v : Int32) : gw_MI l D (xw_T dZ dI) (xw_ws dZ dI h q) h yX0_differ cX0_differ 2 .int rmX0_differ [.int (v)] σ (ca_dfR v σ) (σ) := by
  refine gw_entI (by decide) (Nat.le_of_ble_eq_true rfl) (rfl) ?_
  intro p e s m args below meth c A Q cx hret ls hl hw
  have hx := cx.1
  have hb := cx.2.1
  have hl : lv_has ls 2 [(0, .ref h), (1, .int (v))] := hl
  refine lv_aload_n hx hb dX0_differ_0 rfl (lv_at hl 0 rfl) ?_
  refine lv_iload_n hx hb dX0_differ_1 rfl (lv_at hl 1 rfl) ?_
  refine gw_calli (As := [.int (v)]) (rest := []) cx (mtX0_noVersion l D dZ dI h q σ v) xw_k_noVersion xw_rec ⟨Nat.le_of_ble_eq_true rfl, Nat.le_of_ble_eq_true rfl, rfl, rfl⟩ hl.1 rfl rfl (Nat.le_of_ble_eq_true rfl) dX0_differ_2 ⟨Nat.zero_le _, Nat.zero_le _⟩ hw (fun H locs hw => ?_)
  refine lv_if_eq (tgt := 13) hx hb dX0_differ_5 (by decide) (fun h1 => ?_) (fun h1 => ?_)
  · have h9 := ca_iff h1
    obtain ⟨V, g1, rfl⟩ := ca_ver_nat (fun z => h9 (Or.inl z)) (fun z => h9 (Or.inr (Or.inl z)))
    refine lv_aload_n hx hb dX0_differ_13 rfl (lv_at hl 0 rfl) ?_
    refine lv_iload_n hx hb dX0_differ_14 rfl (lv_at hl 1 rfl) ?_
    refine gw_calli (As := [.int (nI V)]) (rest := []) cx (mtX0_differences l D dZ dI h q σ hok (by omega)) xw_k_differences xw_rec ⟨Nat.le_of_ble_eq_true rfl, Nat.le_of_ble_eq_true rfl, rfl, rfl⟩ hl.1 rfl rfl (Nat.le_of_ble_eq_true rfl) dX0_differ_15 ⟨Nat.zero_le _, Nat.zero_le _⟩ hw (fun H locs hw => ?_)
    exact hret dX0_differ_18 (by rw [ca_dfR, if_neg h9, ca_cl (n := V) (by omega)]) rfl hw
  · refine lv_bipush (v := -2) hx hb dX0_differ_8 (by decide) ?_
    refine lv_goto (tgt := 18) hx hb dX0_differ_10 (by decide) ?_
    exact hret dX0_differ_18 (if_pos (ca_ift h1)).symm rfl hw
end
section
/-! ChunkArray: contracts (wholeSum, partSum, sum, wholeGreatest, partGreatest, greatest) -/
abbrev rmX0_wholeSum : Room := { frames := 0, cells := 0, slots := 0, locals := 0 }
set_option maxHeartbeats 400000 in
set_option maxRecDepth 100000 in
theorem mtX0_wholeSum (l : Launch) (D : va_G) (dZ dI : ClassId) (h : Nat) (q : Nat → Nat) (σ : ca_S) {k : Nat} (g1 : k < 80) : gw_MI l D (xw_T dZ dI) (xw_ws dZ dI h q) h yX0_wholeSum cX0_wholeSum 4 .int rmX0_wholeSum [.int (nI k)] σ (ca_wsV k (ca_wsS k σ)) (ca_wsS k σ) := by
  refine gw_entI (by decide) (Nat.le_of_ble_eq_true rfl) (rfl) ?_
  intro p e s m args below meth c A Q cx hret ls hl hw
  have hx := cx.1
  have hb := cx.2.1
  have hl : lv_has ls 4 [(0, .ref h), (1, .int (nI k))] := hl
  have tail : ∀ (u : ca_S) (H : Heap) (locs : List Loc) (ls : Array Slot), u = ca_wsS k σ → gw_W D A s.heap (xw_ws dZ dI h q) (u) H locs → lv_has ls 4 [(0, .ref h), (1, .int (nI k))] → W p l e rmX0_wholeSum s m args below meth c H locs 0 0 Q (F0 m 53 ls []) := by
    intro u H locs ls he hw hl
    rw [he] at hw
    refine lv_aload_n hx hb dX0_wholeSum_53 rfl (lv_at hl 0 rfl) ?_
    refine xw_g7 cx hw dX0_wholeSum_54 ?_
    refine lv_iload_n hx hb dX0_wholeSum_57 rfl (lv_at hl 1 rfl) ?_
    refine xw_l7 cx hw (by omega) dX0_wholeSum_58 ?_
    refine lv_aload_n hx hb dX0_wholeSum_59 rfl (lv_at hl 0 rfl) ?_
    refine xw_g4 cx hw dX0_wholeSum_60 ?_
    refine lv_iload_n hx hb dX0_wholeSum_63 rfl (lv_at hl 1 rfl) ?_
    refine xw_l4 cx hw (by omega) dX0_wholeSum_64 ?_
    refine lv_imul hx hb dX0_wholeSum_65 ?_
    refine lv_bipush (v := nI 16) hx hb dX0_wholeSum_66 (by decide) ?_
    refine lv_aload_n hx hb dX0_wholeSum_68 rfl (lv_at hl 0 rfl) ?_
    refine xw_g5 cx hw dX0_wholeSum_69 ?_
    refine lv_iload_n hx hb dX0_wholeSum_72 rfl (lv_at hl 1 rfl) ?_
    refine xw_l5 cx hw (by omega) dX0_wholeSum_73 ?_
    refine lv_imul hx hb dX0_wholeSum_74 ?_
    refine lv_iadd hx hb dX0_wholeSum_75 ?_
    exact hret dX0_wholeSum_76 rfl rfl hw
  refine lv_aload_n hx hb dX0_wholeSum_0 rfl (lv_at hl 0 rfl) ?_
  refine xw_g6 cx hw dX0_wholeSum_1 ?_
  refine lv_iload_n hx hb dX0_wholeSum_4 rfl (lv_at hl 1 rfl) ?_
  refine xw_l6 cx hw (by omega) dX0_wholeSum_5 ?_
  refine lv_if_ne (tgt := 53) hx hb dX0_wholeSum_6 (by decide) (fun h1 => ?_) (fun h1 => ?_)
  · exact tail _ _ _ _ (if_neg h1).symm hw (lv_sub hl [0, 1] rfl)
  · have loop : ∀ (n : Nat) (i : Nat) (z : Int32), i + n = 16 → ca_it (ca_sm1 σ k) i n z = ca_sm σ k → ∀ (H : Heap) (locs : List Loc) (ls : Array Slot), gw_W D A s.heap (xw_ws dZ dI h q) (σ) H locs → lv_has ls 4 [(2, .int (z)), (3, .int (nI i)), (0, .ref h), (1, .int (nI k))] → W p l e rmX0_wholeSum s m args below meth c H locs 0 0 Q (F0 m 13 ls []) := by
      intro n
      induction n with
      | zero =>
        intro i z hi he H locs ls hw hl
        refine lv_iload_n hx hb dX0_wholeSum_13 rfl (lv_at hl 1 rfl) ?_
        refine lv_bipush (v := nI 16) hx hb dX0_wholeSum_14 (by decide) ?_
        refine nw_geT (tgt := 39) hx hb dX0_wholeSum_16 (by decide) (by omega) (by omega) (by omega) ?_
        have he : z = ca_sm σ k := he
        refine lv_aload_n hx hb dX0_wholeSum_39 rfl (lv_at hl 2 rfl) ?_
        refine xw_g7 cx hw dX0_wholeSum_40 ?_
        refine lv_iload_n hx hb dX0_wholeSum_43 rfl (lv_at hl 3 rfl) ?_
        refine lv_iload_n hx hb dX0_wholeSum_44 rfl (lv_at hl 0 rfl) ?_
        refine xw_s7 cx hw (by omega) dX0_wholeSum_45 (fun H locs hw => ?_)
        refine lv_aload_n hx hb dX0_wholeSum_46 rfl (lv_at hl 2 rfl) ?_
        refine xw_g6 cx hw dX0_wholeSum_47 ?_
        refine lv_iload_n hx hb dX0_wholeSum_50 rfl (lv_at hl 3 rfl) ?_
        refine lv_iconst (v := nI 1) hx hb dX0_wholeSum_51 (by decide) ?_
        refine xw_s6 (v := 1) cx hw (by omega) rfl dX0_wholeSum_52 (fun H locs hw => ?_)
        exact tail _ _ _ _ (by rw [he]; exact (if_pos h1).symm) hw (lv_sub hl [2, 3] rfl)
      | succ n ih =>
        intro i z hi he H locs ls hw hl
        refine lv_iload_n hx hb dX0_wholeSum_13 rfl (lv_at hl 1 rfl) ?_
        refine lv_bipush (v := nI 16) hx hb dX0_wholeSum_14 (by decide) ?_
        refine nw_geF (tgt := 39) hx hb dX0_wholeSum_16 (by decide) (by omega) (by omega) (by omega) ?_
        refine lv_iload_n hx hb dX0_wholeSum_19 rfl (lv_at hl 0 rfl) ?_
        refine lv_aload_n hx hb dX0_wholeSum_20 rfl (lv_at hl 2 rfl) ?_
        refine xw_g3 cx hw dX0_wholeSum_21 ?_
        refine lv_iload_n hx hb dX0_wholeSum_24 rfl (lv_at hl 3 rfl) ?_
        refine lv_bipush (v := nI 16) hx hb dX0_wholeSum_25 (by decide) ?_
        refine nw_mul hx hb dX0_wholeSum_27 ?_
        refine lv_iload_n hx hb dX0_wholeSum_28 rfl (lv_at hl 1 rfl) ?_
        refine nw_add hx hb dX0_wholeSum_29 ?_
        refine xw_l3 cx hw (by omega) dX0_wholeSum_30 ?_
        refine lv_iadd hx hb dX0_wholeSum_31 ?_
        refine lv_istore_n (lv' := [(2, .int (z + (σ 3 ((k * 16) + i)))), (3, .int (nI i)), (0, .ref h), (1, .int (nI k))]) hx hb dX0_wholeSum_32 rfl hl (by decide) rfl (fun ls hl => ?_)
        refine lv_iinc (v := nI (i + 1)) (lv' := [(3, .int (nI (i + 1))), (2, .int (z + (σ 3 ((k * 16) + i)))), (0, .ref h), (1, .int (nI k))]) hx hb dX0_wholeSum_33 hl (k := 1) rfl (nI_1 _) (by decide) rfl (fun ls hl => ?_)
        refine lv_goto (tgt := 13) hx hb dX0_wholeSum_36 (by decide) ?_
        exact ih (i + 1) _ (by omega) he H locs ls hw (lv_sub hl [1, 0, 2, 3] rfl)
    refine lv_iconst (v := nI 0) hx hb dX0_wholeSum_9 (by decide) ?_
    refine lv_istore_n (lv' := [(2, .int (nI 0)), (0, .ref h), (1, .int (nI k))]) hx hb dX0_wholeSum_10 rfl hl (by decide) rfl (fun ls hl => ?_)
    refine lv_iconst (v := nI 0) hx hb dX0_wholeSum_11 (by decide) ?_
    refine lv_istore_n (lv' := [(3, .int (nI 0)), (2, .int (nI 0)), (0, .ref h), (1, .int (nI k))]) hx hb dX0_wholeSum_12 rfl hl (by decide) rfl (fun ls hl => ?_)
    exact loop 16 0 _ rfl rfl _ _ _ hw (lv_sub hl [1, 0, 2, 3] rfl)
abbrev rmX0_partSum : Room := { frames := 2, cells := 0, slots := 0, locals := 45 }
set_option maxHeartbeats 400000 in
set_option maxRecDepth 100000 in
theorem mtX0_partSum (l : Launch) (D : va_G) (dZ dI : ClassId) (h : Nat) (q : Nat → Nat) (σ : ca_S) (hok : ca_ok σ) {k : Nat} (g1 : k < 16) : gw_MI l D (xw_T dZ dI) (xw_ws dZ dI h q) h yX0_partSum cX0_partSum 7 .int rmX0_partSum [.int (nI k)] σ (ca_ps σ k) (σ) := by
  refine gw_entI (by decide) (Nat.le_of_ble_eq_true rfl) (rfl) ?_
  intro p e s m args below meth c A Q cx hret ls hl hw
  have hx := cx.1
  have hb := cx.2.1
  have hl : lv_has ls 7 [(0, .ref h), (1, .int (nI k))] := hl
  have loop : ∀ (n : Nat) (i : Nat) (z : Int32), i + n = 16 → ca_it (ca_ps1 σ k) i n z = ca_ps σ k → ∀ (H : Heap) (locs : List Loc) (ls : Array Slot), gw_W D A s.heap (xw_ws dZ dI h q) (σ) H locs → lv_has ls 7 [(2, .int (z)), (3, .int (nI i)), (0, .ref h), (1, .int (nI k))] → W p l e rmX0_partSum s m args below meth c H locs 0 0 Q (F0 m 4 ls []) := by
    intro n
    induction n with
    | zero =>
      intro i z hi he H locs ls hw hl
      refine lv_iload_n hx hb dX0_partSum_4 rfl (lv_at hl 1 rfl) ?_
      refine lv_bipush (v := nI 16) hx hb dX0_partSum_5 (by decide) ?_
      refine nw_geT (tgt := 65) hx hb dX0_partSum_7 (by decide) (by omega) (by omega) (by omega) ?_
      refine lv_iload_n hx hb dX0_partSum_65 rfl (lv_at hl 0 rfl) ?_
      exact hret dX0_partSum_66 he rfl hw
    | succ n ih =>
      intro i z hi he H locs ls hw hl
      refine lv_iload_n hx hb dX0_partSum_4 rfl (lv_at hl 1 rfl) ?_
      refine lv_bipush (v := nI 16) hx hb dX0_partSum_5 (by decide) ?_
      refine nw_geF (tgt := 65) hx hb dX0_partSum_7 (by decide) (by omega) (by omega) (by omega) ?_
      have g2 := ca_r_lt (pl := k) (i := i) g1 (by omega)
      have g3 := ca_k_lt (pl := k) (i := i)
      refine lv_iload_n hx hb dX0_partSum_10 rfl (lv_at hl 3 rfl) ?_
      refine lv_iconst (v := nI 4) hx hb dX0_partSum_11 (by decide) ?_
      refine nw_div4 hx hb dX0_partSum_12 (by omega) ?_
      refine lv_iconst (v := nI 4) hx hb dX0_partSum_13 (by decide) ?_
      refine nw_mul hx hb dX0_partSum_14 ?_
      refine lv_iload_n hx hb dX0_partSum_15 rfl (lv_at hl 1 rfl) ?_
      refine lv_iconst (v := nI 4) hx hb dX0_partSum_16 (by decide) ?_
      refine nw_div4 hx hb dX0_partSum_17 (by omega) ?_
      refine nw_add hx hb dX0_partSum_18 ?_
      refine lv_istore (lv' := [(4, .int (nI (ca_r k i))), (2, .int (z)), (3, .int (nI i)), (0, .ref h), (1, .int (nI k))]) hx hb dX0_partSum_19 hl (by decide) rfl (fun ls hl => ?_)
      refine lv_iload_n hx hb dX0_partSum_21 rfl (lv_at hl 4 rfl) ?_
      refine lv_iconst (v := nI 4) hx hb dX0_partSum_22 (by decide) ?_
      refine nw_rem4 hx hb dX0_partSum_23 (by omega) ?_
      refine lv_iconst (v := nI 4) hx hb dX0_partSum_24 (by decide) ?_
      refine nw_mul hx hb dX0_partSum_25 ?_
      refine lv_iload_n hx hb dX0_partSum_26 rfl (lv_at hl 2 rfl) ?_
      refine lv_iconst (v := nI 4) hx hb dX0_partSum_27 (by decide) ?_
      refine nw_rem4 hx hb dX0_partSum_28 (by omega) ?_
      refine nw_add hx hb dX0_partSum_29 ?_
      refine lv_istore (lv' := [(5, .int (nI (ca_k k i))), (4, .int (nI (ca_r k i))), (2, .int (z)), (3, .int (nI i)), (0, .ref h), (1, .int (nI k))]) hx hb dX0_partSum_30 hl (by decide) rfl (fun ls hl => ?_)
      refine lv_aload_n hx hb dX0_partSum_32 rfl (lv_at hl 4 rfl) ?_
      refine lv_iload hx hb dX0_partSum_33 (lv_at hl 1 rfl) ?_
      refine lv_iload hx hb dX0_partSum_35 (lv_at hl 0 rfl) ?_
      refine gw_calli (As := [.int (nI (ca_r k i)), .int (nI (ca_k k i))]) (rest := []) cx (mtX0_inRegion l D dZ dI h q σ (by omega) (by omega)) xw_k_inRegion xw_rec ⟨Nat.le_of_ble_eq_true rfl, Nat.le_of_ble_eq_true rfl, rfl, rfl⟩ hl.1 rfl rfl (Nat.le_of_ble_eq_true rfl) dX0_partSum_37 ⟨Nat.zero_le _, Nat.zero_le _⟩ hw (fun H locs hw => ?_)
      refine lv_istore (lv' := [(6, .int (if ca_ins σ (ca_r k i) (ca_k k i) then 1 else 0)), (5, .int (nI (ca_k k i))), (4, .int (nI (ca_r k i))), (2, .int (z)), (3, .int (nI i)), (0, .ref h), (1, .int (nI k))]) hx hb dX0_partSum_40 hl (by decide) rfl (fun ls hl => ?_)
      refine lv_iload hx hb dX0_partSum_42 (lv_at hl 0 rfl) ?_
      refine lv_if_eq (tgt := 59) hx hb dX0_partSum_44 (by decide) (fun h1 => ?_) (fun h1 => ?_)
      · refine lv_iinc (v := nI (i + 1)) (lv' := [(3, .int (nI (i + 1))), (6, .int (if ca_ins σ (ca_r k i) (ca_k k i) then 1 else 0)), (5, .int (nI (ca_k k i))), (4, .int (nI (ca_r k i))), (2, .int (z)), (0, .ref h), (1, .int (nI k))]) hx hb dX0_partSum_59 hl (k := 4) rfl (nI_1 _) (by decide) rfl (fun ls hl => ?_)
        refine lv_goto (tgt := 4) hx hb dX0_partSum_62 (by decide) ?_
        exact ih (i + 1) z (by omega) (by rw [← he, ca_it_s, show ca_ps1 σ k i z = z from if_neg (ca_iff h1)]) H locs ls hw (lv_sub hl [4, 0, 5, 6] rfl)
      · refine lv_iload_n hx hb dX0_partSum_47 rfl (lv_at hl 3 rfl) ?_
        refine lv_aload_n hx hb dX0_partSum_48 rfl (lv_at hl 5 rfl) ?_
        refine lv_iconst (v := nI 4) hx hb dX0_partSum_49 (by decide) ?_
        refine lv_iload hx hb dX0_partSum_50 (lv_at hl 2 rfl) ?_
        refine lv_iload hx hb dX0_partSum_52 (lv_at hl 1 rfl) ?_
        refine gw_calli (As := [.int (nI 4), .int (nI (ca_r k i)), .int (nI (ca_k k i))]) (rest := [.int (z)]) cx (mtX0_read l D dZ dI h q σ hok (by omega) (by omega) (by omega)) xw_k_read xw_rec ⟨Nat.le_of_ble_eq_true rfl, Nat.le_of_ble_eq_true rfl, rfl, rfl⟩ hl.1 rfl rfl (Nat.le_of_ble_eq_true rfl) dX0_partSum_54 ⟨Nat.zero_le _, Nat.zero_le _⟩ hw (fun H locs hw => ?_)
        refine lv_iadd hx hb dX0_partSum_57 ?_
        refine lv_istore_n (lv' := [(2, .int (z + (ca_rd σ 4 (ca_r k i) (ca_k k i)))), (6, .int (if ca_ins σ (ca_r k i) (ca_k k i) then 1 else 0)), (5, .int (nI (ca_k k i))), (4, .int (nI (ca_r k i))), (3, .int (nI i)), (0, .ref h), (1, .int (nI k))]) hx hb dX0_partSum_58 rfl hl (by decide) rfl (fun ls hl => ?_)
        refine lv_iinc (v := nI (i + 1)) (lv' := [(3, .int (nI (i + 1))), (2, .int (z + (ca_rd σ 4 (ca_r k i) (ca_k k i)))), (6, .int (if ca_ins σ (ca_r k i) (ca_k k i) then 1 else 0)), (5, .int (nI (ca_k k i))), (4, .int (nI (ca_r k i))), (0, .ref h), (1, .int (nI k))]) hx hb dX0_partSum_59 hl (k := 4) rfl (nI_1 _) (by decide) rfl (fun ls hl => ?_)
        refine lv_goto (tgt := 4) hx hb dX0_partSum_62 (by decide) ?_
        exact ih (i + 1) _ (by omega) (by rw [← he, ca_it_s, show ca_ps1 σ k i z = z + ca_rd σ 4 (ca_r k i) (ca_k k i) from if_pos (ca_ift h1)]) H locs ls hw (lv_sub hl [1, 0, 5, 6] rfl)
  refine lv_iconst (v := nI 0) hx hb dX0_partSum_0 (by decide) ?_
  refine lv_istore_n (lv' := [(2, .int (nI 0)), (0, .ref h), (1, .int (nI k))]) hx hb dX0_partSum_1 rfl hl (by decide) rfl (fun ls hl => ?_)
  refine lv_iconst (v := nI 0) hx hb dX0_partSum_2 (by decide) ?_
  refine lv_istore_n (lv' := [(3, .int (nI 0)), (2, .int (nI 0)), (0, .ref h), (1, .int (nI k))]) hx hb dX0_partSum_3 rfl hl (by decide) rfl (fun ls hl => ?_)
  exact loop 16 0 _ rfl rfl _ _ _ hw (lv_sub hl [1, 0, 2, 3] rfl)
abbrev rmX0_sum : Room := { frames := 3, cells := 0, slots := 0, locals := 71 }
set_option maxHeartbeats 400000 in
set_option maxRecDepth 100000 in
theorem mtX0_sum (l : Launch) (D : va_G) (dZ dI : ClassId) (h : Nat) (q : Nat → Nat) (σ : ca_S) (hok : ca_ok σ) (f t : Int32) : gw_MI l D (xw_T dZ dI) (xw_ws dZ dI h q) h yX0_sum cX0_sum 7 .int rmX0_sum [.int (f), .int (t)] σ (ca_suR f t σ) (ca_suS f t σ) := by
  refine gw_entI (by decide) (Nat.le_of_ble_eq_true rfl) (rfl) ?_
  intro p e s m args below meth c A Q cx hret ls hl hw
  have hx := cx.1
  have hb := cx.2.1
  have hl : lv_has ls 7 [(0, .ref h), (1, .int (f)), (2, .int (t))] := hl
  refine lv_iload_n hx hb dX0_sum_0 rfl (lv_at hl 1 rfl) ?_
  refine gw_calls (As := [.int (f)]) (rest := []) cx (mtX0_bad l f) xw_k_bad ⟨Nat.le_of_ble_eq_true rfl, Nat.le_of_ble_eq_true rfl, rfl, rfl⟩ hl.1 rfl rfl (Nat.le_of_ble_eq_true rfl) dX0_sum_1 ⟨Nat.zero_le _, Nat.zero_le _⟩ ?_
  refine lv_if_ne (tgt := 14) hx hb dX0_sum_4 (by decide) (fun h1 => ?_) (fun h1 => ?_)
  · refine lv_iconst (v := -1) hx hb dX0_sum_14 (by decide) ?_
    exact hret dX0_sum_15 (if_pos (Or.inl (ca_ift h1))).symm (if_pos (Or.inl (ca_ift h1))).symm hw
  · refine lv_iload_n hx hb dX0_sum_7 rfl (lv_at hl 2 rfl) ?_
    refine gw_calls (As := [.int (t)]) (rest := []) cx (mtX0_bad l t) xw_k_bad ⟨Nat.le_of_ble_eq_true rfl, Nat.le_of_ble_eq_true rfl, rfl, rfl⟩ hl.1 rfl rfl (Nat.le_of_ble_eq_true rfl) dX0_sum_8 ⟨Nat.zero_le _, Nat.zero_le _⟩ ?_
    refine lv_if_eq (tgt := 16) hx hb dX0_sum_11 (by decide) (fun h2 => ?_) (fun h2 => ?_)
    rotate_left
    · refine lv_iconst (v := -1) hx hb dX0_sum_14 (by decide) ?_
      exact hret dX0_sum_15 (if_pos (Or.inr (ca_ift h2))).symm (if_pos (Or.inr (ca_ift h2))).symm hw
    · obtain ⟨F, g1, rfl⟩ := ca_bad_nat (ca_iff h1)
      obtain ⟨T, g2, rfl⟩ := ca_bad_nat (ca_iff h2)
      have h9 : ¬ (ca_bad (nI F) ∨ ca_bad (nI T)) := (fun z => z.elim (ca_iff h1) (fun z => ca_iff h2 z))
      have loop : ∀ (n : Nat) (i : Nat) (u : ca_S) (z : Int32), i + n = 16 → ca_ok u → ca_it ca_su1 i n (u, z) = ca_suN F T σ → ∀ (H : Heap) (locs : List Loc) (ls : Array Slot), gw_W D A s.heap (xw_ws dZ dI h q) (u) H locs → lv_has ls 7 [(3, .int (z)), (4, .int (nI i)), (0, .ref h)] → W p l e rmX0_sum s m args below meth c H locs 0 0 Q (F0 m 27 ls []) := by
        intro n
        induction n with
        | zero =>
          intro i u z hi hu he H locs ls hw hl
          refine lv_iload hx hb dX0_sum_27 (lv_at hl 1 rfl) ?_
          refine lv_bipush (v := nI 16) hx hb dX0_sum_29 (by decide) ?_
          refine nw_geT (tgt := 95) hx hb dX0_sum_31 (by decide) (by omega) (by omega) (by omega) ?_
          refine lv_iload_n hx hb dX0_sum_95 rfl (lv_at hl 0 rfl) ?_
          exact hret dX0_sum_96 (by rw [ca_suR, if_neg h9, ca_cl (n := F) (by omega), ca_cl (n := T) (by omega)]; exact congrArg Prod.snd he) (by rw [ca_suS, if_neg h9, ca_cl (n := F) (by omega), ca_cl (n := T) (by omega)]; exact congrArg Prod.fst he) hw
        | succ n ih =>
          intro i u z hi hu he H locs ls hw hl
          refine lv_iload hx hb dX0_sum_27 (lv_at hl 1 rfl) ?_
          refine lv_bipush (v := nI 16) hx hb dX0_sum_29 (by decide) ?_
          refine nw_geF (tgt := 95) hx hb dX0_sum_31 (by decide) (by omega) (by omega) (by omega) ?_
          refine lv_aload_n hx hb dX0_sum_34 rfl (lv_at hl 2 rfl) ?_
          refine lv_iload hx hb dX0_sum_35 (lv_at hl 1 rfl) ?_
          refine gw_calli (As := [.int (nI i)]) (rest := []) cx (mtX0_covers l D dZ dI h q u (by omega)) xw_k_covers xw_rec ⟨Nat.le_of_ble_eq_true rfl, Nat.le_of_ble_eq_true rfl, rfl, rfl⟩ hl.1 rfl rfl (Nat.le_of_ble_eq_true rfl) dX0_sum_37 ⟨Nat.zero_le _, Nat.zero_le _⟩ hw (fun H locs hw => ?_)
          refine lv_istore (lv' := [(5, .int (if ca_cov u i then 1 else 0)), (3, .int (z)), (4, .int (nI i)), (0, .ref h)]) hx hb dX0_sum_40 hl (by decide) rfl (fun ls hl => ?_)
          refine lv_aload_n hx hb dX0_sum_42 rfl (lv_at hl 3 rfl) ?_
          refine lv_iload hx hb dX0_sum_43 (lv_at hl 2 rfl) ?_
          refine gw_calli (As := [.int (nI i)]) (rest := []) cx (mtX0_touches l D dZ dI h q u (by omega)) xw_k_touches xw_rec ⟨Nat.le_of_ble_eq_true rfl, Nat.le_of_ble_eq_true rfl, rfl, rfl⟩ hl.1 rfl rfl (Nat.le_of_ble_eq_true rfl) dX0_sum_45 ⟨Nat.zero_le _, Nat.zero_le _⟩ hw (fun H locs hw => ?_)
          refine lv_istore (lv' := [(6, .int (if ca_tou u i then 1 else 0)), (5, .int (if ca_cov u i then 1 else 0)), (3, .int (z)), (4, .int (nI i)), (0, .ref h)]) hx hb dX0_sum_48 hl (by decide) rfl (fun ls hl => ?_)
          refine lv_iload hx hb dX0_sum_50 (lv_at hl 1 rfl) ?_
          refine lv_if_eq (tgt := 75) hx hb dX0_sum_52 (by decide) (fun h4 => ?_) (fun h4 => ?_)
          · refine lv_iload hx hb dX0_sum_75 (lv_at hl 0 rfl) ?_
            refine lv_if_eq (tgt := 89) hx hb dX0_sum_77 (by decide) (fun h5 => ?_) (fun h5 => ?_)
            · refine lv_iinc (v := nI (i + 1)) (lv' := [(4, .int (nI (i + 1))), (6, .int (if ca_tou u i then 1 else 0)), (5, .int (if ca_cov u i then 1 else 0)), (3, .int (z)), (0, .ref h)]) hx hb dX0_sum_89 hl (k := 3) rfl (nI_1 _) (by decide) rfl (fun ls hl => ?_)
              refine lv_goto (tgt := 27) hx hb dX0_sum_92 (by decide) ?_
              exact ih (i + 1) (u) (z) (by omega) hu (by rw [← he, ca_it_s, show ca_su1 i (u, z) = (u, z) from (if_neg (ca_iff h4)).trans (if_neg (ca_iff h5))]) H locs ls hw (lv_sub hl [3, 0, 4] rfl)
            · refine lv_iload_n hx hb dX0_sum_80 rfl (lv_at hl 2 rfl) ?_
              refine lv_aload_n hx hb dX0_sum_81 rfl (lv_at hl 4 rfl) ?_
              refine lv_iload hx hb dX0_sum_82 (lv_at hl 3 rfl) ?_
              refine gw_calli (As := [.int (nI i)]) (rest := [.int (z)]) cx (mtX0_partSum l D dZ dI h q u hu (by omega)) xw_k_partSum xw_rec ⟨Nat.le_of_ble_eq_true rfl, Nat.le_of_ble_eq_true rfl, rfl, rfl⟩ hl.1 rfl rfl (Nat.le_of_ble_eq_true rfl) dX0_sum_84 ⟨Nat.zero_le _, Nat.zero_le _⟩ hw (fun H locs hw => ?_)
              refine lv_iadd hx hb dX0_sum_87 ?_
              refine lv_istore_n (lv' := [(3, .int (z + (ca_ps u i))), (6, .int (if ca_tou u i then 1 else 0)), (5, .int (if ca_cov u i then 1 else 0)), (4, .int (nI i)), (0, .ref h)]) hx hb dX0_sum_88 rfl hl (by decide) rfl (fun ls hl => ?_)
              refine lv_iinc (v := nI (i + 1)) (lv' := [(4, .int (nI (i + 1))), (3, .int (z + (ca_ps u i))), (6, .int (if ca_tou u i then 1 else 0)), (5, .int (if ca_cov u i then 1 else 0)), (0, .ref h)]) hx hb dX0_sum_89 hl (k := 3) rfl (nI_1 _) (by decide) rfl (fun ls hl => ?_)
              refine lv_goto (tgt := 27) hx hb dX0_sum_92 (by decide) ?_
              exact ih (i + 1) (u) (z + ca_ps u i) (by omega) hu (by rw [← he, ca_it_s, show ca_su1 i (u, z) = (u, z + ca_ps u i) from (if_neg (ca_iff h4)).trans (if_pos (ca_ift h5))]) H locs ls hw (lv_sub hl [1, 0, 4] rfl)
          · refine lv_iload_n hx hb dX0_sum_55 rfl (lv_at hl 2 rfl) ?_
            refine lv_aload_n hx hb dX0_sum_56 rfl (lv_at hl 4 rfl) ?_
            refine lv_aload_n hx hb dX0_sum_57 rfl (lv_at hl 4 rfl) ?_
            refine xw_g1 cx hw dX0_sum_58 ?_
            refine lv_bipush (v := nI 64) hx hb dX0_sum_61 (by decide) ?_
            refine lv_iload hx hb dX0_sum_63 (lv_at hl 3 rfl) ?_
            refine nw_add hx hb dX0_sum_65 ?_
            refine xw_l1c cx hw hu (by omega) dX0_sum_66 ?_
            have hc_1 := (ca_ok_at hu (p := 64 + i) (by omega)).1
            refine gw_calli (As := [.int (nI (ca_c u (64 + i)))]) (rest := [.int (z)]) cx (mtX0_wholeSum l D dZ dI h q u (by omega)) xw_k_wholeSum xw_rec ⟨Nat.le_of_ble_eq_true rfl, Nat.le_of_ble_eq_true rfl, rfl, rfl⟩ hl.1 rfl rfl (Nat.le_of_ble_eq_true rfl) dX0_sum_67 ⟨Nat.zero_le _, Nat.zero_le _⟩ hw (fun H locs hw => ?_)
            refine lv_iadd hx hb dX0_sum_70 ?_
            refine lv_istore_n (lv' := [(3, .int (z + (ca_wsV (ca_c u (64 + i)) (ca_wsS (ca_c u (64 + i)) u)))), (6, .int (if ca_tou u i then 1 else 0)), (5, .int (if ca_cov u i then 1 else 0)), (4, .int (nI i)), (0, .ref h)]) hx hb dX0_sum_71 rfl hl (by decide) rfl (fun ls hl => ?_)
            refine lv_goto (tgt := 89) hx hb dX0_sum_72 (by decide) ?_
            refine lv_iinc (v := nI (i + 1)) (lv' := [(4, .int (nI (i + 1))), (3, .int (z + (ca_wsV (ca_c u (64 + i)) (ca_wsS (ca_c u (64 + i)) u)))), (6, .int (if ca_tou u i then 1 else 0)), (5, .int (if ca_cov u i then 1 else 0)), (0, .ref h)]) hx hb dX0_sum_89 hl (k := 3) rfl (nI_1 _) (by decide) rfl (fun ls hl => ?_)
            refine lv_goto (tgt := 27) hx hb dX0_sum_92 (by decide) ?_
            exact ih (i + 1) (ca_wsS (ca_c u (64 + i)) u) (z + ca_wsV (ca_c u (64 + i)) (ca_wsS (ca_c u (64 + i)) u)) (by omega) (ca_ok_wsS hu) (by rw [← he, ca_it_s, show ca_su1 i (u, z) = (ca_wsS (ca_c u (64 + i)) u, z + ca_wsV (ca_c u (64 + i)) (ca_wsS (ca_c u (64 + i)) u)) from if_pos (ca_ift h4)]) H locs ls hw (lv_sub hl [1, 0, 4] rfl)
      refine lv_aload_n hx hb dX0_sum_16 rfl (lv_at hl 0 rfl) ?_
      refine lv_iload_n hx hb dX0_sum_17 rfl (lv_at hl 1 rfl) ?_
      refine lv_iload_n hx hb dX0_sum_18 rfl (lv_at hl 2 rfl) ?_
      refine gw_callv (As := [.int (nI F), .int (nI T)]) (rest := []) cx (mtX0_setRegion l D dZ dI h q σ (by omega) (by omega)) xw_k_setRegion xw_rec ⟨Nat.le_of_ble_eq_true rfl, Nat.le_of_ble_eq_true rfl, rfl, rfl⟩ hl.1 rfl rfl (Nat.le_of_ble_eq_true rfl) dX0_sum_19 ⟨Nat.zero_le _, Nat.zero_le _⟩ hw (fun H locs hw => ?_)
      refine lv_iconst (v := nI 0) hx hb dX0_sum_22 (by decide) ?_
      refine lv_istore_n (lv' := [(3, .int (nI 0)), (0, .ref h), (1, .int (nI F)), (2, .int (nI T))]) hx hb dX0_sum_23 rfl hl (by decide) rfl (fun ls hl => ?_)
      refine lv_iconst (v := nI 0) hx hb dX0_sum_24 (by decide) ?_
      refine lv_istore (lv' := [(4, .int (nI 0)), (3, .int (nI 0)), (0, .ref h), (1, .int (nI F)), (2, .int (nI T))]) hx hb dX0_sum_25 hl (by decide) rfl (fun ls hl => ?_)
      exact loop 16 0 (ca_reg F T σ) _ rfl (ca_ok_reg hok) rfl _ _ _ hw (lv_sub hl [1, 0, 2] rfl)
abbrev rmX0_wholeGreatest : Room := { frames := 0, cells := 0, slots := 0, locals := 0 }
set_option maxHeartbeats 400000 in
set_option maxRecDepth 100000 in
theorem mtX0_wholeGreatest (l : Launch) (D : va_G) (dZ dI : ClassId) (h : Nat) (q : Nat → Nat) (σ : ca_S) {k : Nat} (g1 : k < 80) : gw_MI l D (xw_T dZ dI) (xw_ws dZ dI h q) h yX0_wholeGreatest cX0_wholeGreatest 5 .int rmX0_wholeGreatest [.int (nI k)] σ (ca_wgS k σ 9 k) (ca_wgS k σ) := by
  refine gw_entI (by decide) (Nat.le_of_ble_eq_true rfl) (rfl) ?_
  intro p e s m args below meth c A Q cx hret ls hl hw
  have hx := cx.1
  have hb := cx.2.1
  have hl : lv_has ls 5 [(0, .ref h), (1, .int (nI k))] := hl
  have tail : ∀ (u : ca_S) (H : Heap) (locs : List Loc) (ls : Array Slot), u = ca_wgS k σ → gw_W D A s.heap (xw_ws dZ dI h q) (u) H locs → lv_has ls 5 [(0, .ref h), (1, .int (nI k))] → W p l e rmX0_wholeGreatest s m args below meth c H locs 0 0 Q (F0 m 97 ls []) := by
    intro u H locs ls he hw hl
    rw [he] at hw
    refine lv_aload_n hx hb dX0_wholeGreatest_97 rfl (lv_at hl 0 rfl) ?_
    refine xw_g9 cx hw dX0_wholeGreatest_98 ?_
    refine lv_iload_n hx hb dX0_wholeGreatest_101 rfl (lv_at hl 1 rfl) ?_
    refine xw_l9 cx hw (by omega) dX0_wholeGreatest_102 ?_
    exact hret dX0_wholeGreatest_103 rfl rfl hw
  refine lv_aload_n hx hb dX0_wholeGreatest_0 rfl (lv_at hl 0 rfl) ?_
  refine xw_g8 cx hw dX0_wholeGreatest_1 ?_
  refine lv_iload_n hx hb dX0_wholeGreatest_4 rfl (lv_at hl 1 rfl) ?_
  refine xw_l8 cx hw (by omega) dX0_wholeGreatest_5 ?_
  refine lv_if_ne (tgt := 97) hx hb dX0_wholeGreatest_6 (by decide) (fun h1 => ?_) (fun h1 => ?_)
  · exact tail _ _ _ _ (if_neg h1).symm hw (lv_sub hl [0, 1] rfl)
  · have loop : ∀ (n : Nat) (i : Nat) (z : Int32), i + n = 16 → ca_it (ca_gr1 σ k) i n z = ca_gr σ k → ∀ (H : Heap) (locs : List Loc) (ls : Array Slot), gw_W D A s.heap (xw_ws dZ dI h q) (σ) H locs → lv_has ls 5 [(2, .int (z)), (3, .int (nI i)), (0, .ref h), (1, .int (nI k))] → W p l e rmX0_wholeGreatest s m args below meth c H locs 0 0 Q (F0 m 35 ls []) := by
      intro n
      induction n with
      | zero =>
        intro i z hi he H locs ls hw hl
        refine lv_iload_n hx hb dX0_wholeGreatest_35 rfl (lv_at hl 1 rfl) ?_
        refine lv_bipush (v := nI 16) hx hb dX0_wholeGreatest_36 (by decide) ?_
        refine nw_geT (tgt := 83) hx hb dX0_wholeGreatest_38 (by decide) (by omega) (by omega) (by omega) ?_
        have he : z = ca_gr σ k := he
        refine lv_aload_n hx hb dX0_wholeGreatest_83 rfl (lv_at hl 2 rfl) ?_
        refine xw_g9 cx hw dX0_wholeGreatest_84 ?_
        refine lv_iload_n hx hb dX0_wholeGreatest_87 rfl (lv_at hl 3 rfl) ?_
        refine lv_iload_n hx hb dX0_wholeGreatest_88 rfl (lv_at hl 0 rfl) ?_
        refine xw_s9 cx hw (by omega) dX0_wholeGreatest_89 (fun H locs hw => ?_)
        refine lv_aload_n hx hb dX0_wholeGreatest_90 rfl (lv_at hl 2 rfl) ?_
        refine xw_g8 cx hw dX0_wholeGreatest_91 ?_
        refine lv_iload_n hx hb dX0_wholeGreatest_94 rfl (lv_at hl 3 rfl) ?_
        refine lv_iconst (v := nI 1) hx hb dX0_wholeGreatest_95 (by decide) ?_
        refine xw_s8 (v := 1) cx hw (by omega) rfl dX0_wholeGreatest_96 (fun H locs hw => ?_)
        exact tail _ _ _ _ (by rw [he]; exact (if_pos h1).symm) hw (lv_sub hl [2, 3] rfl)
      | succ n ih =>
        intro i z hi he H locs ls hw hl
        refine lv_iload_n hx hb dX0_wholeGreatest_35 rfl (lv_at hl 1 rfl) ?_
        refine lv_bipush (v := nI 16) hx hb dX0_wholeGreatest_36 (by decide) ?_
        refine nw_geF (tgt := 83) hx hb dX0_wholeGreatest_38 (by decide) (by omega) (by omega) (by omega) ?_
        refine lv_aload_n hx hb dX0_wholeGreatest_41 rfl (lv_at hl 2 rfl) ?_
        refine xw_g3 cx hw dX0_wholeGreatest_42 ?_
        refine lv_iload_n hx hb dX0_wholeGreatest_45 rfl (lv_at hl 3 rfl) ?_
        refine lv_bipush (v := nI 16) hx hb dX0_wholeGreatest_46 (by decide) ?_
        refine nw_mul hx hb dX0_wholeGreatest_48 ?_
        refine lv_iload_n hx hb dX0_wholeGreatest_49 rfl (lv_at hl 1 rfl) ?_
        refine nw_add hx hb dX0_wholeGreatest_50 ?_
        refine xw_l3 cx hw (by omega) dX0_wholeGreatest_51 ?_
        refine lv_aload_n hx hb dX0_wholeGreatest_52 rfl (lv_at hl 2 rfl) ?_
        refine xw_g4 cx hw dX0_wholeGreatest_53 ?_
        refine lv_iload_n hx hb dX0_wholeGreatest_56 rfl (lv_at hl 3 rfl) ?_
        refine xw_l4 cx hw (by omega) dX0_wholeGreatest_57 ?_
        refine lv_imul hx hb dX0_wholeGreatest_58 ?_
        refine lv_aload_n hx hb dX0_wholeGreatest_59 rfl (lv_at hl 2 rfl) ?_
        refine xw_g5 cx hw dX0_wholeGreatest_60 ?_
        refine lv_iload_n hx hb dX0_wholeGreatest_63 rfl (lv_at hl 3 rfl) ?_
        refine xw_l5 cx hw (by omega) dX0_wholeGreatest_64 ?_
        refine lv_iadd hx hb dX0_wholeGreatest_65 ?_
        refine lv_istore (lv' := [(4, .int (ca_val σ k i)), (2, .int (z)), (3, .int (nI i)), (0, .ref h), (1, .int (nI k))]) hx hb dX0_wholeGreatest_66 hl (by decide) rfl (fun ls hl => ?_)
        refine lv_iload hx hb dX0_wholeGreatest_68 (lv_at hl 0 rfl) ?_
        refine lv_iload_n hx hb dX0_wholeGreatest_70 rfl (lv_at hl 1 rfl) ?_
        refine lv_icmp_le (tgt := 77) hx hb dX0_wholeGreatest_71 (by decide) (fun h2 => ?_) (fun h2 => ?_)
        · refine lv_iinc (v := nI (i + 1)) (lv' := [(3, .int (nI (i + 1))), (4, .int (ca_val σ k i)), (2, .int (z)), (0, .ref h), (1, .int (nI k))]) hx hb dX0_wholeGreatest_77 hl (k := 2) rfl (nI_1 _) (by decide) rfl (fun ls hl => ?_)
          refine lv_goto (tgt := 35) hx hb dX0_wholeGreatest_80 (by decide) ?_
          exact ih (i + 1) z (by omega) (by rw [← he, ca_it_s, show ca_gr1 σ k i z = z from if_pos h2]) H locs ls hw (lv_sub hl [2, 0, 3, 4] rfl)
        · refine lv_iload hx hb dX0_wholeGreatest_74 (lv_at hl 0 rfl) ?_
          refine lv_istore_n (lv' := [(2, .int (ca_val σ k i)), (4, .int (ca_val σ k i)), (3, .int (nI i)), (0, .ref h), (1, .int (nI k))]) hx hb dX0_wholeGreatest_76 rfl hl (by decide) rfl (fun ls hl => ?_)
          refine lv_iinc (v := nI (i + 1)) (lv' := [(3, .int (nI (i + 1))), (2, .int (ca_val σ k i)), (4, .int (ca_val σ k i)), (0, .ref h), (1, .int (nI k))]) hx hb dX0_wholeGreatest_77 hl (k := 2) rfl (nI_1 _) (by decide) rfl (fun ls hl => ?_)
          refine lv_goto (tgt := 35) hx hb dX0_wholeGreatest_80 (by decide) ?_
          exact ih (i + 1) _ (by omega) (by rw [← he, ca_it_s, show ca_gr1 σ k i z = ca_val σ k i from if_neg h2]) H locs ls hw (lv_sub hl [1, 0, 3, 4] rfl)
    refine lv_aload_n hx hb dX0_wholeGreatest_9 rfl (lv_at hl 0 rfl) ?_
    refine xw_g3 cx hw dX0_wholeGreatest_10 ?_
    refine lv_iload_n hx hb dX0_wholeGreatest_13 rfl (lv_at hl 1 rfl) ?_
    refine lv_bipush (v := nI 16) hx hb dX0_wholeGreatest_14 (by decide) ?_
    refine nw_mul hx hb dX0_wholeGreatest_16 ?_
    refine xw_l3 cx hw (by omega) dX0_wholeGreatest_17 ?_
    refine lv_aload_n hx hb dX0_wholeGreatest_18 rfl (lv_at hl 0 rfl) ?_
    refine xw_g4 cx hw dX0_wholeGreatest_19 ?_
    refine lv_iload_n hx hb dX0_wholeGreatest_22 rfl (lv_at hl 1 rfl) ?_
    refine xw_l4 cx hw (by omega) dX0_wholeGreatest_23 ?_
    refine lv_imul hx hb dX0_wholeGreatest_24 ?_
    refine lv_aload_n hx hb dX0_wholeGreatest_25 rfl (lv_at hl 0 rfl) ?_
    refine xw_g5 cx hw dX0_wholeGreatest_26 ?_
    refine lv_iload_n hx hb dX0_wholeGreatest_29 rfl (lv_at hl 1 rfl) ?_
    refine xw_l5 cx hw (by omega) dX0_wholeGreatest_30 ?_
    refine lv_iadd hx hb dX0_wholeGreatest_31 ?_
    refine lv_istore_n (lv' := [(2, .int (((σ 3 (k * 16)) * (σ 4 k)) + (σ 5 k))), (0, .ref h), (1, .int (nI k))]) hx hb dX0_wholeGreatest_32 rfl hl (by decide) rfl (fun ls hl => ?_)
    refine lv_iconst (v := nI 1) hx hb dX0_wholeGreatest_33 (by decide) ?_
    refine lv_istore_n (lv' := [(3, .int (nI 1)), (2, .int (((σ 3 (k * 16)) * (σ 4 k)) + (σ 5 k))), (0, .ref h), (1, .int (nI k))]) hx hb dX0_wholeGreatest_34 rfl hl (by decide) rfl (fun ls hl => ?_)
    exact loop 15 1 _ rfl rfl _ _ _ hw (lv_sub hl [1, 0, 2, 3] rfl)
abbrev rmX0_partGreatest : Room := { frames := 2, cells := 0, slots := 0, locals := 45 }
set_option maxHeartbeats 400000 in
set_option maxRecDepth 100000 in
theorem mtX0_partGreatest (l : Launch) (D : va_G) (dZ dI : ClassId) (h : Nat) (q : Nat → Nat) (σ : ca_S) (hok : ca_ok σ) {k : Nat} (x : Int32) (g1 : k < 16) : gw_MI l D (xw_T dZ dI) (xw_ws dZ dI h q) h yX0_partGreatest cX0_partGreatest 9 .int rmX0_partGreatest [.int (nI k), .int (x)] σ (ca_pg σ k x) (σ) := by
  refine gw_entI (by decide) (Nat.le_of_ble_eq_true rfl) (rfl) ?_
  intro p e s m args below meth c A Q cx hret ls hl hw
  have hx := cx.1
  have hb := cx.2.1
  have hl : lv_has ls 9 [(0, .ref h), (1, .int (nI k)), (2, .int (x))] := hl
  have loop : ∀ (n : Nat) (i : Nat) (z : Int32), i + n = 16 → ca_it (ca_pg1 σ k) i n z = ca_pg σ k x → ∀ (H : Heap) (locs : List Loc) (ls : Array Slot), gw_W D A s.heap (xw_ws dZ dI h q) (σ) H locs → lv_has ls 9 [(3, .int (z)), (4, .int (nI i)), (0, .ref h), (1, .int (nI k))] → W p l e rmX0_partGreatest s m args below meth c H locs 0 0 Q (F0 m 5 ls []) := by
    intro n
    induction n with
    | zero =>
      intro i z hi he H locs ls hw hl
      refine lv_iload hx hb dX0_partGreatest_5 (lv_at hl 1 rfl) ?_
      refine lv_bipush (v := nI 16) hx hb dX0_partGreatest_7 (by decide) ?_
      refine nw_geT (tgt := 77) hx hb dX0_partGreatest_9 (by decide) (by omega) (by omega) (by omega) ?_
      refine lv_iload_n hx hb dX0_partGreatest_77 rfl (lv_at hl 0 rfl) ?_
      exact hret dX0_partGreatest_78 he rfl hw
    | succ n ih =>
      intro i z hi he H locs ls hw hl
      refine lv_iload hx hb dX0_partGreatest_5 (lv_at hl 1 rfl) ?_
      refine lv_bipush (v := nI 16) hx hb dX0_partGreatest_7 (by decide) ?_
      refine nw_geF (tgt := 77) hx hb dX0_partGreatest_9 (by decide) (by omega) (by omega) (by omega) ?_
      have g2 := ca_r_lt (pl := k) (i := i) g1 (by omega)
      have g3 := ca_k_lt (pl := k) (i := i)
      refine lv_iload_n hx hb dX0_partGreatest_12 rfl (lv_at hl 3 rfl) ?_
      refine lv_iconst (v := nI 4) hx hb dX0_partGreatest_13 (by decide) ?_
      refine nw_div4 hx hb dX0_partGreatest_14 (by omega) ?_
      refine lv_iconst (v := nI 4) hx hb dX0_partGreatest_15 (by decide) ?_
      refine nw_mul hx hb dX0_partGreatest_16 ?_
      refine lv_iload hx hb dX0_partGreatest_17 (lv_at hl 1 rfl) ?_
      refine lv_iconst (v := nI 4) hx hb dX0_partGreatest_19 (by decide) ?_
      refine nw_div4 hx hb dX0_partGreatest_20 (by omega) ?_
      refine nw_add hx hb dX0_partGreatest_21 ?_
      refine lv_istore (lv' := [(5, .int (nI (ca_r k i))), (3, .int (z)), (4, .int (nI i)), (0, .ref h), (1, .int (nI k))]) hx hb dX0_partGreatest_22 hl (by decide) rfl (fun ls hl => ?_)
      refine lv_iload_n hx hb dX0_partGreatest_24 rfl (lv_at hl 4 rfl) ?_
      refine lv_iconst (v := nI 4) hx hb dX0_partGreatest_25 (by decide) ?_
      refine nw_rem4 hx hb dX0_partGreatest_26 (by omega) ?_
      refine lv_iconst (v := nI 4) hx hb dX0_partGreatest_27 (by decide) ?_
      refine nw_mul hx hb dX0_partGreatest_28 ?_
      refine lv_iload hx hb dX0_partGreatest_29 (lv_at hl 2 rfl) ?_
      refine lv_iconst (v := nI 4) hx hb dX0_partGreatest_31 (by decide) ?_
      refine nw_rem4 hx hb dX0_partGreatest_32 (by omega) ?_
      refine nw_add hx hb dX0_partGreatest_33 ?_
      refine lv_istore (lv' := [(6, .int (nI (ca_k k i))), (5, .int (nI (ca_r k i))), (3, .int (z)), (4, .int (nI i)), (0, .ref h), (1, .int (nI k))]) hx hb dX0_partGreatest_34 hl (by decide) rfl (fun ls hl => ?_)
      refine lv_aload_n hx hb dX0_partGreatest_36 rfl (lv_at hl 4 rfl) ?_
      refine lv_iload hx hb dX0_partGreatest_37 (lv_at hl 1 rfl) ?_
      refine lv_iload hx hb dX0_partGreatest_39 (lv_at hl 0 rfl) ?_
      refine gw_calli (As := [.int (nI (ca_r k i)), .int (nI (ca_k k i))]) (rest := []) cx (mtX0_inRegion l D dZ dI h q σ (by omega) (by omega)) xw_k_inRegion xw_rec ⟨Nat.le_of_ble_eq_true rfl, Nat.le_of_ble_eq_true rfl, rfl, rfl⟩ hl.1 rfl rfl (Nat.le_of_ble_eq_true rfl) dX0_partGreatest_41 ⟨Nat.zero_le _, Nat.zero_le _⟩ hw (fun H locs hw => ?_)
      refine lv_istore (lv' := [(7, .int (if ca_ins σ (ca_r k i) (ca_k k i) then 1 else 0)), (6, .int (nI (ca_k k i))), (5, .int (nI (ca_r k i))), (3, .int (z)), (4, .int (nI i)), (0, .ref h), (1, .int (nI k))]) hx hb dX0_partGreatest_44 hl (by decide) rfl (fun ls hl => ?_)
      refine lv_aload_n hx hb dX0_partGreatest_46 rfl (lv_at hl 5 rfl) ?_
      refine lv_iconst (v := nI 4) hx hb dX0_partGreatest_47 (by decide) ?_
      refine lv_iload hx hb dX0_partGreatest_48 (lv_at hl 2 rfl) ?_
      refine lv_iload hx hb dX0_partGreatest_50 (lv_at hl 1 rfl) ?_
      refine gw_calli (As := [.int (nI 4), .int (nI (ca_r k i)), .int (nI (ca_k k i))]) (rest := []) cx (mtX0_read l D dZ dI h q σ hok (by omega) (by omega) (by omega)) xw_k_read xw_rec ⟨Nat.le_of_ble_eq_true rfl, Nat.le_of_ble_eq_true rfl, rfl, rfl⟩ hl.1 rfl rfl (Nat.le_of_ble_eq_true rfl) dX0_partGreatest_52 ⟨Nat.zero_le _, Nat.zero_le _⟩ hw (fun H locs hw => ?_)
      refine lv_istore (lv' := [(8, .int (ca_rd σ 4 (ca_r k i) (ca_k k i))), (7, .int (if ca_ins σ (ca_r k i) (ca_k k i) then 1 else 0)), (6, .int (nI (ca_k k i))), (5, .int (nI (ca_r k i))), (3, .int (z)), (4, .int (nI i)), (0, .ref h), (1, .int (nI k))]) hx hb dX0_partGreatest_55 hl (by decide) rfl (fun ls hl => ?_)
      refine lv_iload hx hb dX0_partGreatest_57 (lv_at hl 1 rfl) ?_
      refine lv_if_eq (tgt := 71) hx hb dX0_partGreatest_59 (by decide) (fun h1 => ?_) (fun h1 => ?_)
      · refine lv_iinc (v := nI (i + 1)) (lv' := [(4, .int (nI (i + 1))), (8, .int (ca_rd σ 4 (ca_r k i) (ca_k k i))), (7, .int (if ca_ins σ (ca_r k i) (ca_k k i) then 1 else 0)), (6, .int (nI (ca_k k i))), (5, .int (nI (ca_r k i))), (3, .int (z)), (0, .ref h), (1, .int (nI k))]) hx hb dX0_partGreatest_71 hl (k := 5) rfl (nI_1 _) (by decide) rfl (fun ls hl => ?_)
        refine lv_goto (tgt := 5) hx hb dX0_partGreatest_74 (by decide) ?_
        exact ih (i + 1) z (by omega) (by rw [← he, ca_it_s, show ca_pg1 σ k i z = z from if_neg (ca_iff h1)]) H locs ls hw (lv_sub hl [5, 0, 6, 7] rfl)
      · refine lv_iload hx hb dX0_partGreatest_62 (lv_at hl 0 rfl) ?_
        refine lv_iload_n hx hb dX0_partGreatest_64 rfl (lv_at hl 4 rfl) ?_
        refine lv_icmp_le (tgt := 71) hx hb dX0_partGreatest_65 (by decide) (fun h2 => ?_) (fun h2 => ?_)
        · refine lv_iinc (v := nI (i + 1)) (lv' := [(4, .int (nI (i + 1))), (8, .int (ca_rd σ 4 (ca_r k i) (ca_k k i))), (7, .int (if ca_ins σ (ca_r k i) (ca_k k i) then 1 else 0)), (6, .int (nI (ca_k k i))), (5, .int (nI (ca_r k i))), (3, .int (z)), (0, .ref h), (1, .int (nI k))]) hx hb dX0_partGreatest_71 hl (k := 5) rfl (nI_1 _) (by decide) rfl (fun ls hl => ?_)
          refine lv_goto (tgt := 5) hx hb dX0_partGreatest_74 (by decide) ?_
          exact ih (i + 1) z (by omega) (by rw [← he, ca_it_s, show ca_pg1 σ k i z = z from (if_pos (ca_ift h1)).trans (if_pos h2)]) H locs ls hw (lv_sub hl [5, 0, 6, 7] rfl)
        · refine lv_iload hx hb dX0_partGreatest_68 (lv_at hl 0 rfl) ?_
          refine lv_istore_n (lv' := [(3, .int (ca_rd σ 4 (ca_r k i) (ca_k k i))), (8, .int (ca_rd σ 4 (ca_r k i) (ca_k k i))), (7, .int (if ca_ins σ (ca_r k i) (ca_k k i) then 1 else 0)), (6, .int (nI (ca_k k i))), (5, .int (nI (ca_r k i))), (4, .int (nI i)), (0, .ref h), (1, .int (nI k))]) hx hb dX0_partGreatest_70 rfl hl (by decide) rfl (fun ls hl => ?_)
          refine lv_iinc (v := nI (i + 1)) (lv' := [(4, .int (nI (i + 1))), (3, .int (ca_rd σ 4 (ca_r k i) (ca_k k i))), (8, .int (ca_rd σ 4 (ca_r k i) (ca_k k i))), (7, .int (if ca_ins σ (ca_r k i) (ca_k k i) then 1 else 0)), (6, .int (nI (ca_k k i))), (5, .int (nI (ca_r k i))), (0, .ref h), (1, .int (nI k))]) hx hb dX0_partGreatest_71 hl (k := 5) rfl (nI_1 _) (by decide) rfl (fun ls hl => ?_)
          refine lv_goto (tgt := 5) hx hb dX0_partGreatest_74 (by decide) ?_
          exact ih (i + 1) _ (by omega) (by rw [← he, ca_it_s, show ca_pg1 σ k i z = ca_rd σ 4 (ca_r k i) (ca_k k i) from (if_pos (ca_ift h1)).trans (if_neg h2)]) H locs ls hw (lv_sub hl [1, 0, 6, 7] rfl)
  refine lv_iload_n hx hb dX0_partGreatest_0 rfl (lv_at hl 2 rfl) ?_
  refine lv_istore_n (lv' := [(3, .int (x)), (0, .ref h), (1, .int (nI k)), (2, .int (x))]) hx hb dX0_partGreatest_1 rfl hl (by decide) rfl (fun ls hl => ?_)
  refine lv_iconst (v := nI 0) hx hb dX0_partGreatest_2 (by decide) ?_
  refine lv_istore (lv' := [(4, .int (nI 0)), (3, .int (x)), (0, .ref h), (1, .int (nI k)), (2, .int (x))]) hx hb dX0_partGreatest_3 hl (by decide) rfl (fun ls hl => ?_)
  exact loop 16 0 _ rfl rfl _ _ _ hw (lv_sub hl [1, 0, 2, 3] rfl)
abbrev rmX0_greatest : Room := { frames := 3, cells := 0, slots := 0, locals := 73 }
set_option maxHeartbeats 400000 in
set_option maxRecDepth 100000 in
theorem mtX0_greatest (l : Launch) (D : va_G) (dZ dI : ClassId) (h : Nat) (q : Nat → Nat) (σ : ca_S) (hok : ca_ok σ) (f t : Int32) : gw_MI l D (xw_T dZ dI) (xw_ws dZ dI h q) h yX0_greatest cX0_greatest 8 .int rmX0_greatest [.int (f), .int (t)] σ (ca_geR f t σ) (ca_geS f t σ) := by
  refine gw_entI (by decide) (Nat.le_of_ble_eq_true rfl) (rfl) ?_
  intro p e s m args below meth c A Q cx hret ls hl hw
  have hx := cx.1
  have hb := cx.2.1
  have hl : lv_has ls 8 [(0, .ref h), (1, .int (f)), (2, .int (t))] := hl
  refine lv_iload_n hx hb dX0_greatest_0 rfl (lv_at hl 1 rfl) ?_
  refine gw_calls (As := [.int (f)]) (rest := []) cx (mtX0_bad l f) xw_k_bad ⟨Nat.le_of_ble_eq_true rfl, Nat.le_of_ble_eq_true rfl, rfl, rfl⟩ hl.1 rfl rfl (Nat.le_of_ble_eq_true rfl) dX0_greatest_1 ⟨Nat.zero_le _, Nat.zero_le _⟩ ?_
  refine lv_if_ne (tgt := 14) hx hb dX0_greatest_4 (by decide) (fun h1 => ?_) (fun h1 => ?_)
  · refine lv_iconst (v := -1) hx hb dX0_greatest_14 (by decide) ?_
    exact hret dX0_greatest_15 (if_pos (Or.inl (ca_ift h1))).symm (if_pos (Or.inl (ca_ift h1))).symm hw
  · refine lv_iload_n hx hb dX0_greatest_7 rfl (lv_at hl 2 rfl) ?_
    refine gw_calls (As := [.int (t)]) (rest := []) cx (mtX0_bad l t) xw_k_bad ⟨Nat.le_of_ble_eq_true rfl, Nat.le_of_ble_eq_true rfl, rfl, rfl⟩ hl.1 rfl rfl (Nat.le_of_ble_eq_true rfl) dX0_greatest_8 ⟨Nat.zero_le _, Nat.zero_le _⟩ ?_
    refine lv_if_eq (tgt := 16) hx hb dX0_greatest_11 (by decide) (fun h2 => ?_) (fun h2 => ?_)
    rotate_left
    · refine lv_iconst (v := -1) hx hb dX0_greatest_14 (by decide) ?_
      exact hret dX0_greatest_15 (if_pos (Or.inr (ca_ift h2))).symm (if_pos (Or.inr (ca_ift h2))).symm hw
    · obtain ⟨F, g1, rfl⟩ := ca_bad_nat (ca_iff h1)
      obtain ⟨T, g2, rfl⟩ := ca_bad_nat (ca_iff h2)
      have h9 : ¬ (ca_bad (nI F) ∨ ca_bad (nI T)) := (fun z => z.elim (ca_iff h1) (fun z => ca_iff h2 z))
      have hg := ca_rg_reg F T σ
      have m1 := ca_mnx (F % 16) (T % 16)
      have m2 := ca_mnx (F / 16) (T / 16)
      have m3 : ca_mx (F % 16) (T % 16) < 16 := ca_mx_lt (by omega) (by omega)
      have m4 : ca_mx (F / 16) (T / 16) < 16 := ca_mx_lt (by omega) (by omega)
      have loop : ∀ (n : Nat) (i : Nat) (u : ca_S) (z : Int32), i + n = 16 → ca_ok u → ca_it ca_ge1 i n (u, z) = ca_geN F T σ → ∀ (H : Heap) (locs : List Loc) (ls : Array Slot), gw_W D A s.heap (xw_ws dZ dI h q) (u) H locs → lv_has ls 8 [(3, .int (z)), (4, .int (nI i)), (0, .ref h)] → W p l e rmX0_greatest s m args below meth c H locs 0 0 Q (F0 m 39 ls []) := by
        intro n
        induction n with
        | zero =>
          intro i u z hi hu he H locs ls hw hl
          refine lv_iload hx hb dX0_greatest_39 (lv_at hl 1 rfl) ?_
          refine lv_bipush (v := nI 16) hx hb dX0_greatest_41 (by decide) ?_
          refine nw_geT (tgt := 114) hx hb dX0_greatest_43 (by decide) (by omega) (by omega) (by omega) ?_
          refine lv_iload_n hx hb dX0_greatest_114 rfl (lv_at hl 0 rfl) ?_
          exact hret dX0_greatest_115 (by rw [ca_geR, if_neg h9, ca_cl (n := F) (by omega), ca_cl (n := T) (by omega)]; exact congrArg Prod.snd he) (by rw [ca_geS, if_neg h9, ca_cl (n := F) (by omega), ca_cl (n := T) (by omega)]; exact congrArg Prod.fst he) hw
        | succ n ih =>
          intro i u z hi hu he H locs ls hw hl
          refine lv_iload hx hb dX0_greatest_39 (lv_at hl 1 rfl) ?_
          refine lv_bipush (v := nI 16) hx hb dX0_greatest_41 (by decide) ?_
          refine nw_geF (tgt := 114) hx hb dX0_greatest_43 (by decide) (by omega) (by omega) (by omega) ?_
          refine lv_aload_n hx hb dX0_greatest_46 rfl (lv_at hl 2 rfl) ?_
          refine lv_iload hx hb dX0_greatest_47 (lv_at hl 1 rfl) ?_
          refine gw_calli (As := [.int (nI i)]) (rest := []) cx (mtX0_covers l D dZ dI h q u (by omega)) xw_k_covers xw_rec ⟨Nat.le_of_ble_eq_true rfl, Nat.le_of_ble_eq_true rfl, rfl, rfl⟩ hl.1 rfl rfl (Nat.le_of_ble_eq_true rfl) dX0_greatest_49 ⟨Nat.zero_le _, Nat.zero_le _⟩ hw (fun H locs hw => ?_)
          refine lv_istore (lv' := [(5, .int (if ca_cov u i then 1 else 0)), (3, .int (z)), (4, .int (nI i)), (0, .ref h)]) hx hb dX0_greatest_52 hl (by decide) rfl (fun ls hl => ?_)
          refine lv_aload_n hx hb dX0_greatest_54 rfl (lv_at hl 3 rfl) ?_
          refine lv_iload hx hb dX0_greatest_55 (lv_at hl 2 rfl) ?_
          refine gw_calli (As := [.int (nI i)]) (rest := []) cx (mtX0_touches l D dZ dI h q u (by omega)) xw_k_touches xw_rec ⟨Nat.le_of_ble_eq_true rfl, Nat.le_of_ble_eq_true rfl, rfl, rfl⟩ hl.1 rfl rfl (Nat.le_of_ble_eq_true rfl) dX0_greatest_57 ⟨Nat.zero_le _, Nat.zero_le _⟩ hw (fun H locs hw => ?_)
          refine lv_istore (lv' := [(6, .int (if ca_tou u i then 1 else 0)), (5, .int (if ca_cov u i then 1 else 0)), (3, .int (z)), (4, .int (nI i)), (0, .ref h)]) hx hb dX0_greatest_60 hl (by decide) rfl (fun ls hl => ?_)
          refine lv_iload hx hb dX0_greatest_62 (lv_at hl 1 rfl) ?_
          refine lv_if_eq (tgt := 95) hx hb dX0_greatest_64 (by decide) (fun h4 => ?_) (fun h4 => ?_)
          · refine lv_iload hx hb dX0_greatest_95 (lv_at hl 0 rfl) ?_
            refine lv_if_eq (tgt := 108) hx hb dX0_greatest_97 (by decide) (fun h5 => ?_) (fun h5 => ?_)
            · refine lv_iinc (v := nI (i + 1)) (lv' := [(4, .int (nI (i + 1))), (6, .int (if ca_tou u i then 1 else 0)), (5, .int (if ca_cov u i then 1 else 0)), (3, .int (z)), (0, .ref h)]) hx hb dX0_greatest_108 hl (k := 3) rfl (nI_1 _) (by decide) rfl (fun ls hl => ?_)
              refine lv_goto (tgt := 39) hx hb dX0_greatest_111 (by decide) ?_
              exact ih (i + 1) (u) (z) (by omega) hu (by rw [← he, ca_it_s, show ca_ge1 i (u, z) = (u, z) from (if_neg (ca_iff h4)).trans (if_neg (ca_iff h5))]) H locs ls hw (lv_sub hl [3, 0, 4] rfl)
            · refine lv_aload_n hx hb dX0_greatest_100 rfl (lv_at hl 4 rfl) ?_
              refine lv_iload hx hb dX0_greatest_101 (lv_at hl 3 rfl) ?_
              refine lv_iload_n hx hb dX0_greatest_103 rfl (lv_at hl 2 rfl) ?_
              refine gw_calli (As := [.int (nI i), .int (z)]) (rest := []) cx (mtX0_partGreatest l D dZ dI h q u hu z (by omega)) xw_k_partGreatest xw_rec ⟨Nat.le_of_ble_eq_true rfl, Nat.le_of_ble_eq_true rfl, rfl, rfl⟩ hl.1 rfl rfl (Nat.le_of_ble_eq_true rfl) dX0_greatest_104 ⟨Nat.zero_le _, Nat.zero_le _⟩ hw (fun H locs hw => ?_)
              refine lv_istore_n (lv' := [(3, .int (ca_pg u i z)), (6, .int (if ca_tou u i then 1 else 0)), (5, .int (if ca_cov u i then 1 else 0)), (4, .int (nI i)), (0, .ref h)]) hx hb dX0_greatest_107 rfl hl (by decide) rfl (fun ls hl => ?_)
              refine lv_iinc (v := nI (i + 1)) (lv' := [(4, .int (nI (i + 1))), (3, .int (ca_pg u i z)), (6, .int (if ca_tou u i then 1 else 0)), (5, .int (if ca_cov u i then 1 else 0)), (0, .ref h)]) hx hb dX0_greatest_108 hl (k := 3) rfl (nI_1 _) (by decide) rfl (fun ls hl => ?_)
              refine lv_goto (tgt := 39) hx hb dX0_greatest_111 (by decide) ?_
              exact ih (i + 1) (u) (ca_pg u i z) (by omega) hu (by rw [← he, ca_it_s, show ca_ge1 i (u, z) = (u, ca_pg u i z) from (if_neg (ca_iff h4)).trans (if_pos (ca_ift h5))]) H locs ls hw (lv_sub hl [1, 0, 4] rfl)
          · refine lv_aload_n hx hb dX0_greatest_67 rfl (lv_at hl 4 rfl) ?_
            refine lv_aload_n hx hb dX0_greatest_68 rfl (lv_at hl 4 rfl) ?_
            refine xw_g1 cx hw dX0_greatest_69 ?_
            refine lv_bipush (v := nI 64) hx hb dX0_greatest_72 (by decide) ?_
            refine lv_iload hx hb dX0_greatest_74 (lv_at hl 3 rfl) ?_
            refine nw_add hx hb dX0_greatest_76 ?_
            refine xw_l1c cx hw hu (by omega) dX0_greatest_77 ?_
            have hc_1 := (ca_ok_at hu (p := 64 + i) (by omega)).1
            refine gw_calli (As := [.int (nI (ca_c u (64 + i)))]) (rest := []) cx (mtX0_wholeGreatest l D dZ dI h q u (by omega)) xw_k_wholeGreatest xw_rec ⟨Nat.le_of_ble_eq_true rfl, Nat.le_of_ble_eq_true rfl, rfl, rfl⟩ hl.1 rfl rfl (Nat.le_of_ble_eq_true rfl) dX0_greatest_78 ⟨Nat.zero_le _, Nat.zero_le _⟩ hw (fun H locs hw => ?_)
            refine lv_istore (lv' := [(7, .int (ca_wgS (ca_c u (64 + i)) u 9 (ca_c u (64 + i)))), (6, .int (if ca_tou u i then 1 else 0)), (5, .int (if ca_cov u i then 1 else 0)), (3, .int (z)), (4, .int (nI i)), (0, .ref h)]) hx hb dX0_greatest_81 hl (by decide) rfl (fun ls hl => ?_)
            refine lv_iload hx hb dX0_greatest_83 (lv_at hl 0 rfl) ?_
            refine lv_iload_n hx hb dX0_greatest_85 rfl (lv_at hl 3 rfl) ?_
            refine lv_icmp_le (tgt := 92) hx hb dX0_greatest_86 (by decide) (fun h5 => ?_) (fun h5 => ?_)
            · refine lv_goto (tgt := 108) hx hb dX0_greatest_92 (by decide) ?_
              refine lv_iinc (v := nI (i + 1)) (lv' := [(4, .int (nI (i + 1))), (7, .int (ca_wgS (ca_c u (64 + i)) u 9 (ca_c u (64 + i)))), (6, .int (if ca_tou u i then 1 else 0)), (5, .int (if ca_cov u i then 1 else 0)), (3, .int (z)), (0, .ref h)]) hx hb dX0_greatest_108 hl (k := 4) rfl (nI_1 _) (by decide) rfl (fun ls hl => ?_)
              refine lv_goto (tgt := 39) hx hb dX0_greatest_111 (by decide) ?_
              exact ih (i + 1) (ca_wgS (ca_c u (64 + i)) u) (z) (by omega) (ca_ok_wgS hu) (by rw [← he, ca_it_s, show ca_ge1 i (u, z) = (ca_wgS (ca_c u (64 + i)) u, z) from by rw [ca_ge1, if_pos (ca_ift h4), if_pos h5]]) H locs ls hw (lv_sub hl [4, 0, 5] rfl)
            · refine lv_iload hx hb dX0_greatest_89 (lv_at hl 0 rfl) ?_
              refine lv_istore_n (lv' := [(3, .int (ca_wgS (ca_c u (64 + i)) u 9 (ca_c u (64 + i)))), (7, .int (ca_wgS (ca_c u (64 + i)) u 9 (ca_c u (64 + i)))), (6, .int (if ca_tou u i then 1 else 0)), (5, .int (if ca_cov u i then 1 else 0)), (4, .int (nI i)), (0, .ref h)]) hx hb dX0_greatest_91 rfl hl (by decide) rfl (fun ls hl => ?_)
              refine lv_goto (tgt := 108) hx hb dX0_greatest_92 (by decide) ?_
              refine lv_iinc (v := nI (i + 1)) (lv' := [(4, .int (nI (i + 1))), (3, .int (ca_wgS (ca_c u (64 + i)) u 9 (ca_c u (64 + i)))), (7, .int (ca_wgS (ca_c u (64 + i)) u 9 (ca_c u (64 + i)))), (6, .int (if ca_tou u i then 1 else 0)), (5, .int (if ca_cov u i then 1 else 0)), (0, .ref h)]) hx hb dX0_greatest_108 hl (k := 4) rfl (nI_1 _) (by decide) rfl (fun ls hl => ?_)
              refine lv_goto (tgt := 39) hx hb dX0_greatest_111 (by decide) ?_
              exact ih (i + 1) (ca_wgS (ca_c u (64 + i)) u) (ca_wgS (ca_c u (64 + i)) u 9 (ca_c u (64 + i))) (by omega) (ca_ok_wgS hu) (by rw [← he, ca_it_s, show ca_ge1 i (u, z) = (ca_wgS (ca_c u (64 + i)) u, ca_wgS (ca_c u (64 + i)) u 9 (ca_c u (64 + i))) from by rw [ca_ge1, if_pos (ca_ift h4), if_neg h5]]) H locs ls hw (lv_sub hl [1, 0, 5] rfl)
      refine lv_aload_n hx hb dX0_greatest_16 rfl (lv_at hl 0 rfl) ?_
      refine lv_iload_n hx hb dX0_greatest_17 rfl (lv_at hl 1 rfl) ?_
      refine lv_iload_n hx hb dX0_greatest_18 rfl (lv_at hl 2 rfl) ?_
      refine gw_callv (As := [.int (nI F), .int (nI T)]) (rest := []) cx (mtX0_setRegion l D dZ dI h q σ (by omega) (by omega)) xw_k_setRegion xw_rec ⟨Nat.le_of_ble_eq_true rfl, Nat.le_of_ble_eq_true rfl, rfl, rfl⟩ hl.1 rfl rfl (Nat.le_of_ble_eq_true rfl) dX0_greatest_19 ⟨Nat.zero_le _, Nat.zero_le _⟩ hw (fun H locs hw => ?_)
      refine lv_aload_n hx hb dX0_greatest_22 rfl (lv_at hl 0 rfl) ?_
      refine lv_iconst (v := nI 4) hx hb dX0_greatest_23 (by decide) ?_
      refine lv_aload_n hx hb dX0_greatest_24 rfl (lv_at hl 0 rfl) ?_
      refine xw_g10 cx hw dX0_greatest_25 ?_
      refine gw_top (w := nI (ca_mn (F % 16) (T % 16))) hg.1 ?_
      refine lv_aload_n hx hb dX0_greatest_28 rfl (lv_at hl 0 rfl) ?_
      refine xw_g12 cx hw dX0_greatest_29 ?_
      refine gw_top (w := nI (ca_mn (F / 16) (T / 16))) hg.2.2.1 ?_
      refine gw_calli (As := [.int (nI 4), .int (nI (ca_mn (F % 16) (T % 16))), .int (nI (ca_mn (F / 16) (T / 16)))]) (rest := []) cx (mtX0_read l D dZ dI h q (ca_reg F T σ) (ca_ok_reg hok) (by omega) (by omega) (by omega)) xw_k_read xw_rec ⟨Nat.le_of_ble_eq_true rfl, Nat.le_of_ble_eq_true rfl, rfl, rfl⟩ hl.1 rfl rfl (Nat.le_of_ble_eq_true rfl) dX0_greatest_32 ⟨Nat.zero_le _, Nat.zero_le _⟩ hw (fun H locs hw => ?_)
      refine lv_istore_n (lv' := [(3, .int (ca_rd (ca_reg F T σ) 4 (ca_mn (F % 16) (T % 16)) (ca_mn (F / 16) (T / 16)))), (0, .ref h), (1, .int (nI F)), (2, .int (nI T))]) hx hb dX0_greatest_35 rfl hl (by decide) rfl (fun ls hl => ?_)
      refine lv_iconst (v := nI 0) hx hb dX0_greatest_36 (by decide) ?_
      refine lv_istore (lv' := [(4, .int (nI 0)), (3, .int (ca_rd (ca_reg F T σ) 4 (ca_mn (F % 16) (T % 16)) (ca_mn (F / 16) (T / 16)))), (0, .ref h), (1, .int (nI F)), (2, .int (nI T))]) hx hb dX0_greatest_37 hl (by decide) rfl (fun ls hl => ?_)
      exact loop 16 0 (ca_reg F T σ) _ rfl (ca_ok_reg hok) rfl _ _ _ hw (lv_sub hl [1, 0, 2] rfl)
end
section
/-! ChunkArray: contracts (count, copy) -/
abbrev rmX0_count : Room := { frames := 2, cells := 0, slots := 0, locals := 45 }
set_option maxHeartbeats 400000 in
set_option maxRecDepth 100000 in
theorem mtX0_count (l : Launch) (D : va_G) (dZ dI : ClassId) (h : Nat) (q : Nat → Nat) (σ : ca_S) (hok : ca_ok σ) (f t x : Int32) : gw_MI l D (xw_T dZ dI) (xw_ws dZ dI h q) h yX0_count cX0_count 8 .int rmX0_count [.int (f), .int (t), .int (x)] σ (ca_ctR f t x σ) (ca_ctS f t σ) := by
  refine gw_entI (by decide) (Nat.le_of_ble_eq_true rfl) (rfl) ?_
  intro p e s m args below meth c A Q cx hret ls hl hw
  have hx := cx.1
  have hb := cx.2.1
  have hl : lv_has ls 8 [(0, .ref h), (1, .int (f)), (2, .int (t)), (3, .int (x))] := hl
  refine lv_iload_n hx hb dX0_count_0 rfl (lv_at hl 1 rfl) ?_
  refine gw_calls (As := [.int (f)]) (rest := []) cx (mtX0_bad l f) xw_k_bad ⟨Nat.le_of_ble_eq_true rfl, Nat.le_of_ble_eq_true rfl, rfl, rfl⟩ hl.1 rfl rfl (Nat.le_of_ble_eq_true rfl) dX0_count_1 ⟨Nat.zero_le _, Nat.zero_le _⟩ ?_
  refine lv_if_ne (tgt := 14) hx hb dX0_count_4 (by decide) (fun h1 => ?_) (fun h1 => ?_)
  · refine lv_iconst (v := -1) hx hb dX0_count_14 (by decide) ?_
    exact hret dX0_count_15 (if_pos (Or.inl (ca_ift h1))).symm (if_pos (Or.inl (ca_ift h1))).symm hw
  · refine lv_iload_n hx hb dX0_count_7 rfl (lv_at hl 2 rfl) ?_
    refine gw_calls (As := [.int (t)]) (rest := []) cx (mtX0_bad l t) xw_k_bad ⟨Nat.le_of_ble_eq_true rfl, Nat.le_of_ble_eq_true rfl, rfl, rfl⟩ hl.1 rfl rfl (Nat.le_of_ble_eq_true rfl) dX0_count_8 ⟨Nat.zero_le _, Nat.zero_le _⟩ ?_
    refine lv_if_eq (tgt := 16) hx hb dX0_count_11 (by decide) (fun h2 => ?_) (fun h2 => ?_)
    rotate_left
    · refine lv_iconst (v := -1) hx hb dX0_count_14 (by decide) ?_
      exact hret dX0_count_15 (if_pos (Or.inr (ca_ift h2))).symm (if_pos (Or.inr (ca_ift h2))).symm hw
    · obtain ⟨F, g1, rfl⟩ := ca_bad_nat (ca_iff h1)
      obtain ⟨T, g2, rfl⟩ := ca_bad_nat (ca_iff h2)
      have h9 : ¬ (ca_bad (nI F) ∨ ca_bad (nI T)) := (fun z => z.elim (ca_iff h1) (fun z => ca_iff h2 z))
      have hg := ca_rg_reg F T σ
      have m1 := ca_mnx (F % 16) (T % 16)
      have m2 := ca_mnx (F / 16) (T / 16)
      have m3 : ca_mx (F % 16) (T % 16) < 16 := ca_mx_lt (by omega) (by omega)
      have m4 : ca_mx (F / 16) (T / 16) < 16 := ca_mx_lt (by omega) (by omega)
      have loop : ∀ (n : Nat) (i z : Nat), i + n = ca_mx (F % 16) (T % 16) + 1 → ca_it (ca_ctr (ca_reg F T σ) x (ca_mn (F / 16) (T / 16)) (ca_mx (F / 16) (T / 16) + 1 - ca_mn (F / 16) (T / 16))) i n z = ca_ctN F T x σ → ∀ (H : Heap) (locs : List Loc) (ls : Array Slot), gw_W D A s.heap (xw_ws dZ dI h q) (ca_reg F T σ) H locs → lv_has ls 8 [(4, .int (nI z)), (5, .int (nI i)), (0, .ref h), (3, .int (x))] → W p l e rmX0_count s m args below meth c H locs 0 0 Q (F0 m 31 ls []) := by
        intro n
        induction n with
        | zero =>
          intro i z hi he H locs ls hw hl
          refine lv_iload hx hb dX0_count_31 (lv_at hl 1 rfl) ?_
          refine lv_aload_n hx hb dX0_count_33 rfl (lv_at hl 2 rfl) ?_
          refine xw_g11 cx hw dX0_count_34 ?_
          refine gw_top (w := nI (ca_mx (F % 16) (T % 16))) hg.2.1 ?_
          refine nw_gtT (tgt := 87) hx hb dX0_count_37 (by decide) (by omega) (by omega) (by omega) ?_
          refine lv_iload hx hb dX0_count_87 (lv_at hl 0 rfl) ?_
          exact hret dX0_count_89 (by rw [ca_ctR, if_neg h9, ca_cl (n := F) (by omega), ca_cl (n := T) (by omega)]; exact congrArg nI he) (by rw [ca_ctS, if_neg h9, ca_cl (n := F) (by omega), ca_cl (n := T) (by omega)]) hw
        | succ n ih =>
          intro i z hi he H locs ls hw hl
          refine lv_iload hx hb dX0_count_31 (lv_at hl 1 rfl) ?_
          refine lv_aload_n hx hb dX0_count_33 rfl (lv_at hl 2 rfl) ?_
          refine xw_g11 cx hw dX0_count_34 ?_
          refine gw_top (w := nI (ca_mx (F % 16) (T % 16))) hg.2.1 ?_
          refine nw_gtF (tgt := 87) hx hb dX0_count_37 (by decide) (by omega) (by omega) (by omega) ?_
          have loop2 : ∀ (n2 : Nat) (j y : Nat), j + n2 = ca_mx (F / 16) (T / 16) + 1 → ca_it (ca_ct1 (ca_reg F T σ) x i) j n2 y = ca_ctr (ca_reg F T σ) x (ca_mn (F / 16) (T / 16)) (ca_mx (F / 16) (T / 16) + 1 - ca_mn (F / 16) (T / 16)) i z → ∀ (H : Heap) (locs : List Loc) (ls : Array Slot), gw_W D A s.heap (xw_ws dZ dI h q) (ca_reg F T σ) H locs → lv_has ls 8 [(4, .int (nI y)), (5, .int (nI i)), (6, .int (nI j)), (0, .ref h), (3, .int (x))] → W p l e rmX0_count s m args below meth c H locs 0 0 Q (F0 m 46 ls []) := by
            intro n2
            induction n2 with
            | zero =>
              intro j y hj hf H locs ls hw hl
              refine lv_iload hx hb dX0_count_46 (lv_at hl 2 rfl) ?_
              refine lv_aload_n hx hb dX0_count_48 rfl (lv_at hl 3 rfl) ?_
              refine xw_g13 cx hw dX0_count_49 ?_
              refine gw_top (w := nI (ca_mx (F / 16) (T / 16))) hg.2.2.2 ?_
              refine nw_gtT (tgt := 81) hx hb dX0_count_52 (by decide) (by omega) (by omega) (by omega) ?_
              refine lv_iinc (v := nI (i + 1)) (lv' := [(5, .int (nI (i + 1))), (4, .int (nI y)), (6, .int (nI j)), (0, .ref h), (3, .int (x))]) hx hb dX0_count_81 hl (k := 1) rfl (nI_1 _) (by decide) rfl (fun ls hl => ?_)
              refine lv_goto (tgt := 31) hx hb dX0_count_84 (by decide) ?_
              exact ih (i + 1) y (by omega) (by rw [← he, ca_it_s, ← hf]; rfl) H locs ls hw (lv_sub hl [1, 0, 3, 4] rfl)
            | succ n2 ih2 =>
              intro j y hj hf H locs ls hw hl
              refine lv_iload hx hb dX0_count_46 (lv_at hl 2 rfl) ?_
              refine lv_aload_n hx hb dX0_count_48 rfl (lv_at hl 3 rfl) ?_
              refine xw_g13 cx hw dX0_count_49 ?_
              refine gw_top (w := nI (ca_mx (F / 16) (T / 16))) hg.2.2.2 ?_
              refine nw_gtF (tgt := 81) hx hb dX0_count_52 (by decide) (by omega) (by omega) (by omega) ?_
              refine lv_aload_n hx hb dX0_count_55 rfl (lv_at hl 3 rfl) ?_
              refine lv_iconst (v := nI 4) hx hb dX0_count_56 (by decide) ?_
              refine lv_iload hx hb dX0_count_57 (lv_at hl 1 rfl) ?_
              refine lv_iload hx hb dX0_count_59 (lv_at hl 2 rfl) ?_
              refine gw_calli (As := [.int (nI 4), .int (nI i), .int (nI j)]) (rest := []) cx (mtX0_read l D dZ dI h q (ca_reg F T σ) (ca_ok_reg hok) (by omega) (by omega) (by omega)) xw_k_read xw_rec ⟨Nat.le_of_ble_eq_true rfl, Nat.le_of_ble_eq_true rfl, rfl, rfl⟩ hl.1 rfl rfl (Nat.le_of_ble_eq_true rfl) dX0_count_61 ⟨Nat.zero_le _, Nat.zero_le _⟩ hw (fun H locs hw => ?_)
              refine lv_istore (lv' := [(7, .int (ca_rd (ca_reg F T σ) 4 i j)), (4, .int (nI y)), (5, .int (nI i)), (6, .int (nI j)), (0, .ref h), (3, .int (x))]) hx hb dX0_count_64 hl (by decide) rfl (fun ls hl => ?_)
              refine lv_iload hx hb dX0_count_66 (lv_at hl 0 rfl) ?_
              refine lv_iload_n hx hb dX0_count_68 rfl (lv_at hl 5 rfl) ?_
              refine lv_icmp_ne (tgt := 75) hx hb dX0_count_69 (by decide) (fun h2 => ?_) (fun h2 => ?_)
              · refine lv_iinc (v := nI (j + 1)) (lv' := [(6, .int (nI (j + 1))), (7, .int (ca_rd (ca_reg F T σ) 4 i j)), (4, .int (nI y)), (5, .int (nI i)), (0, .ref h), (3, .int (x))]) hx hb dX0_count_75 hl (k := 3) rfl (nI_1 _) (by decide) rfl (fun ls hl => ?_)
                refine lv_goto (tgt := 46) hx hb dX0_count_78 (by decide) ?_
                exact ih2 (j + 1) y (by omega) (by rw [← hf, ca_it_s, show ca_ct1 (ca_reg F T σ) x i j y = y from if_neg h2]) H locs ls hw (lv_sub hl [2, 3, 0, 4, 5] rfl)
              · refine lv_iinc (v := nI (y + 1)) (lv' := [(4, .int (nI (y + 1))), (7, .int (ca_rd (ca_reg F T σ) 4 i j)), (5, .int (nI i)), (6, .int (nI j)), (0, .ref h), (3, .int (x))]) hx hb dX0_count_72 hl (k := 1) rfl (nI_1 _) (by decide) rfl (fun ls hl => ?_)
                refine lv_iinc (v := nI (j + 1)) (lv' := [(6, .int (nI (j + 1))), (4, .int (nI (y + 1))), (7, .int (ca_rd (ca_reg F T σ) 4 i j)), (5, .int (nI i)), (0, .ref h), (3, .int (x))]) hx hb dX0_count_75 hl (k := 3) rfl (nI_1 _) (by decide) rfl (fun ls hl => ?_)
                refine lv_goto (tgt := 46) hx hb dX0_count_78 (by decide) ?_
                exact ih2 (j + 1) (y + 1) (by omega) (by rw [← hf, ca_it_s, show ca_ct1 (ca_reg F T σ) x i j y = y + 1 from if_pos h2]) H locs ls hw (lv_sub hl [1, 3, 0, 4, 5] rfl)
          refine lv_aload_n hx hb dX0_count_40 rfl (lv_at hl 2 rfl) ?_
          refine xw_g12 cx hw dX0_count_41 ?_
          refine gw_top (w := nI (ca_mn (F / 16) (T / 16))) hg.2.2.1 ?_
          refine lv_istore (lv' := [(6, .int (nI (ca_mn (F / 16) (T / 16)))), (4, .int (nI z)), (5, .int (nI i)), (0, .ref h), (3, .int (x))]) hx hb dX0_count_44 hl (by decide) rfl (fun ls hl => ?_)
          exact loop2 (ca_mx (F / 16) (T / 16) + 1 - ca_mn (F / 16) (T / 16)) (ca_mn (F / 16) (T / 16)) z (by omega) rfl _ _ _ hw (lv_sub hl [1, 2, 0, 3, 4] rfl)
      refine lv_aload_n hx hb dX0_count_16 rfl (lv_at hl 0 rfl) ?_
      refine lv_iload_n hx hb dX0_count_17 rfl (lv_at hl 1 rfl) ?_
      refine lv_iload_n hx hb dX0_count_18 rfl (lv_at hl 2 rfl) ?_
      refine gw_callv (As := [.int (nI F), .int (nI T)]) (rest := []) cx (mtX0_setRegion l D dZ dI h q σ (by omega) (by omega)) xw_k_setRegion xw_rec ⟨Nat.le_of_ble_eq_true rfl, Nat.le_of_ble_eq_true rfl, rfl, rfl⟩ hl.1 rfl rfl (Nat.le_of_ble_eq_true rfl) dX0_count_19 ⟨Nat.zero_le _, Nat.zero_le _⟩ hw (fun H locs hw => ?_)
      refine lv_iconst (v := nI 0) hx hb dX0_count_22 (by decide) ?_
      refine lv_istore (lv' := [(4, .int (nI 0)), (0, .ref h), (1, .int (nI F)), (2, .int (nI T)), (3, .int (x))]) hx hb dX0_count_23 hl (by decide) rfl (fun ls hl => ?_)
      refine lv_aload_n hx hb dX0_count_25 rfl (lv_at hl 1 rfl) ?_
      refine xw_g10 cx hw dX0_count_26 ?_
      refine gw_top (w := nI (ca_mn (F % 16) (T % 16))) hg.1 ?_
      refine lv_istore (lv' := [(5, .int (nI (ca_mn (F % 16) (T % 16)))), (4, .int (nI 0)), (0, .ref h), (1, .int (nI F)), (2, .int (nI T)), (3, .int (x))]) hx hb dX0_count_29 hl (by decide) rfl (fun ls hl => ?_)
      exact loop (ca_mx (F % 16) (T % 16) + 1 - ca_mn (F % 16) (T % 16)) (ca_mn (F % 16) (T % 16)) 0 (by omega) rfl _ _ _ hw (lv_sub hl [1, 0, 2, 5] rfl)
abbrev rmX0_copy : Room := { frames := 3, cells := 0, slots := 0, locals := 70 }
set_option maxHeartbeats 400000 in
set_option maxRecDepth 100000 in
theorem mtX0_copy (l : Launch) (D : va_G) (dZ dI : ClassId) (h : Nat) (q : Nat → Nat) (σ : ca_S) (hok : ca_ok σ) (f t a : Int32) : gw_MI l D (xw_T dZ dI) (xw_ws dZ dI h q) h yX0_copy cX0_copy 9 .int rmX0_copy [.int (f), .int (t), .int (a)] σ (ca_cyR f t a) (ca_cyS f t a σ) := by
  refine gw_entI (by decide) (Nat.le_of_ble_eq_true rfl) (rfl) ?_
  intro p e s m args below meth c A Q cx hret ls hl hw
  have hx := cx.1
  have hb := cx.2.1
  have hl : lv_has ls 9 [(0, .ref h), (1, .int (f)), (2, .int (t)), (3, .int (a))] := hl
  refine lv_iload_n hx hb dX0_copy_0 rfl (lv_at hl 1 rfl) ?_
  refine gw_calls (As := [.int (f)]) (rest := []) cx (mtX0_bad l f) xw_k_bad ⟨Nat.le_of_ble_eq_true rfl, Nat.le_of_ble_eq_true rfl, rfl, rfl⟩ hl.1 rfl rfl (Nat.le_of_ble_eq_true rfl) dX0_copy_1 ⟨Nat.zero_le _, Nat.zero_le _⟩ ?_
  refine lv_if_ne (tgt := 21) hx hb dX0_copy_4 (by decide) (fun h1 => ?_) (fun h1 => ?_)
  · refine lv_iconst (v := -1) hx hb dX0_copy_21 (by decide) ?_
    exact hret dX0_copy_22 (if_pos (Or.inl (ca_ift h1))).symm (if_pos (Or.inl (ca_ift h1))).symm hw
  · refine lv_iload_n hx hb dX0_copy_7 rfl (lv_at hl 2 rfl) ?_
    refine gw_calls (As := [.int (t)]) (rest := []) cx (mtX0_bad l t) xw_k_bad ⟨Nat.le_of_ble_eq_true rfl, Nat.le_of_ble_eq_true rfl, rfl, rfl⟩ hl.1 rfl rfl (Nat.le_of_ble_eq_true rfl) dX0_copy_8 ⟨Nat.zero_le _, Nat.zero_le _⟩ ?_
    refine lv_if_ne (tgt := 21) hx hb dX0_copy_11 (by decide) (fun h2 => ?_) (fun h2 => ?_)
    · refine lv_iconst (v := -1) hx hb dX0_copy_21 (by decide) ?_
      exact hret dX0_copy_22 (if_pos (Or.inr (Or.inl (ca_ift h2)))).symm (if_pos (Or.inr (Or.inl (ca_ift h2)))).symm hw
    · refine lv_iload_n hx hb dX0_copy_14 rfl (lv_at hl 3 rfl) ?_
      refine gw_calls (As := [.int (a)]) (rest := []) cx (mtX0_bad l a) xw_k_bad ⟨Nat.le_of_ble_eq_true rfl, Nat.le_of_ble_eq_true rfl, rfl, rfl⟩ hl.1 rfl rfl (Nat.le_of_ble_eq_true rfl) dX0_copy_15 ⟨Nat.zero_le _, Nat.zero_le _⟩ ?_
      refine lv_if_eq (tgt := 23) hx hb dX0_copy_18 (by decide) (fun h3 => ?_) (fun h3 => ?_)
      rotate_left
      · refine lv_iconst (v := -1) hx hb dX0_copy_21 (by decide) ?_
        exact hret dX0_copy_22 (if_pos (Or.inr (Or.inr (ca_ift h3)))).symm (if_pos (Or.inr (Or.inr (ca_ift h3)))).symm hw
      · obtain ⟨F, g1, rfl⟩ := ca_bad_nat (ca_iff h1)
        obtain ⟨T, g2, rfl⟩ := ca_bad_nat (ca_iff h2)
        obtain ⟨B, g3, rfl⟩ := ca_bad_nat (ca_iff h3)
        have h9 : ¬ (ca_bad (nI F) ∨ ca_bad (nI T) ∨ ca_bad (nI B)) := (fun z => z.elim (ca_iff h1) (fun z => z.elim (ca_iff h2) (fun z => ca_iff h3 z)))
        have hg := ca_rg_reg F T σ
        have m1 := ca_mnx (F % 16) (T % 16)
        have m2 := ca_mnx (F / 16) (T / 16)
        have m3 : ca_mx (F % 16) (T % 16) < 16 := ca_mx_lt (by omega) (by omega)
        have m4 : ca_mx (F / 16) (T / 16) < 16 := ca_mx_lt (by omega) (by omega)
        have loopB : ∀ (n : Nat) (i z : Nat) (u : ca_S), i + n = (ca_mn (F % 16) (T % 16)) + (min (ca_mx (F % 16) (T % 16) + 1 - ca_mn (F % 16) (T % 16)) (16 - B % 16)) → (ca_mn (F % 16) (T % 16)) ≤ i → ca_ok u → ca_rg u (ca_mn (F % 16) (T % 16)) (ca_mx (F % 16) (T % 16)) (ca_mn (F / 16) (T / 16)) (ca_mx (F / 16) (T / 16)) → ca_it (ca_ptr (ca_mn (F % 16) (T % 16)) (ca_mn (F / 16) (T / 16)) (B % 16) (B / 16) (min (ca_mx (F / 16) (T / 16) + 1 - ca_mn (F / 16) (T / 16)) (16 - B / 16))) i n u = ca_cyN F T B σ → z + n * (min (ca_mx (F / 16) (T / 16) + 1 - ca_mn (F / 16) (T / 16)) (16 - B / 16)) = (min (ca_mx (F % 16) (T % 16) + 1 - ca_mn (F % 16) (T % 16)) (16 - B % 16)) * (min (ca_mx (F / 16) (T / 16) + 1 - ca_mn (F / 16) (T / 16)) (16 - B / 16)) → ∀ (H : Heap) (locs : List Loc) (ls : Array Slot), gw_W D A s.heap (xw_ws dZ dI h q) (u) H locs → lv_has ls 9 [(6, .int (nI z)), (7, .int (nI i)), (4, .int (nI (B % 16) - nI (ca_mn (F % 16) (T % 16)))), (5, .int (nI (B / 16) - nI (ca_mn (F / 16) (T / 16)))), (0, .ref h)] → W p l e rmX0_copy s m args below meth c H locs 0 0 Q (F0 m 123 ls []) := by
          intro n
          induction n with
          | zero =>
            intro i z u hi hlo hu hg he hz H locs ls hw hl
            refine lv_iload hx hb dX0_copy_123 (lv_at hl 1 rfl) ?_
            refine lv_aload_n hx hb dX0_copy_125 rfl (lv_at hl 4 rfl) ?_
            refine xw_g11 cx hw dX0_copy_126 ?_
            refine gw_top (w := nI (ca_mx (F % 16) (T % 16))) hg.2.1 ?_
            refine nw_gt (tgt := 209) hx hb dX0_copy_129 (by decide) (by omega) (by omega) (fun h5 => ?_) (fun h5 => ?_)
            · refine lv_iload hx hb dX0_copy_209 (lv_at hl 0 rfl) ?_
              exact hret dX0_copy_211 (by rw [ca_cyR, if_neg h9, ca_cl (n := F) (by omega), ca_cl (n := T) (by omega), ca_cl (n := B) (by omega)]; exact congrArg nI (by unfold ca_cyC; rw [Nat.zero_mul] at hz; exact hz)) (by rw [ca_cyS, if_neg h9, ca_cl (n := F) (by omega), ca_cl (n := T) (by omega), ca_cl (n := B) (by omega)]; exact he) hw
            · refine lv_iload hx hb dX0_copy_132 (lv_at hl 1 rfl) ?_
              refine lv_iload hx hb dX0_copy_134 (lv_at hl 2 rfl) ?_
              refine lv_iadd hx hb dX0_copy_136 ?_
              refine gw_top (w := nI (i + B % 16 - (ca_mn (F % 16) (T % 16)))) (ca_shift (by omega)) ?_
              refine lv_bipush (v := nI 16) hx hb dX0_copy_137 (by decide) ?_
              refine nw_geT (tgt := 209) hx hb dX0_copy_139 (by decide) (by omega) (by omega) (by omega) ?_
              refine lv_iload hx hb dX0_copy_209 (lv_at hl 0 rfl) ?_
              exact hret dX0_copy_211 (by rw [ca_cyR, if_neg h9, ca_cl (n := F) (by omega), ca_cl (n := T) (by omega), ca_cl (n := B) (by omega)]; exact congrArg nI (by unfold ca_cyC; rw [Nat.zero_mul] at hz; exact hz)) (by rw [ca_cyS, if_neg h9, ca_cl (n := F) (by omega), ca_cl (n := T) (by omega), ca_cl (n := B) (by omega)]; exact he) hw
          | succ n ihB =>
            intro i z u hi hlo hu hg he hz H locs ls hw hl
            refine lv_iload hx hb dX0_copy_123 (lv_at hl 1 rfl) ?_
            refine lv_aload_n hx hb dX0_copy_125 rfl (lv_at hl 4 rfl) ?_
            refine xw_g11 cx hw dX0_copy_126 ?_
            refine gw_top (w := nI (ca_mx (F % 16) (T % 16))) hg.2.1 ?_
            refine nw_gtF (tgt := 209) hx hb dX0_copy_129 (by decide) (by omega) (by omega) (by omega) ?_
            refine lv_iload hx hb dX0_copy_132 (lv_at hl 1 rfl) ?_
            refine lv_iload hx hb dX0_copy_134 (lv_at hl 2 rfl) ?_
            refine lv_iadd hx hb dX0_copy_136 ?_
            refine gw_top (w := nI (i + B % 16 - (ca_mn (F % 16) (T % 16)))) (ca_shift (by omega)) ?_
            refine lv_bipush (v := nI 16) hx hb dX0_copy_137 (by decide) ?_
            refine nw_geF (tgt := 209) hx hb dX0_copy_139 (by decide) (by omega) (by omega) (by omega) ?_
            have loop2 : ∀ (n2 : Nat) (j y : Nat) (v : ca_S), j + n2 = (ca_mn (F / 16) (T / 16)) + (min (ca_mx (F / 16) (T / 16) + 1 - ca_mn (F / 16) (T / 16)) (16 - B / 16)) → (ca_mn (F / 16) (T / 16)) ≤ j → ca_ok v → ca_rg v (ca_mn (F % 16) (T % 16)) (ca_mx (F % 16) (T % 16)) (ca_mn (F / 16) (T / 16)) (ca_mx (F / 16) (T / 16)) → ca_it (ca_pt1 (i + B % 16 - (ca_mn (F % 16) (T % 16))) (B / 16) (ca_mn (F / 16) (T / 16)) i) j n2 v = ca_ptr (ca_mn (F % 16) (T % 16)) (ca_mn (F / 16) (T / 16)) (B % 16) (B / 16) (min (ca_mx (F / 16) (T / 16) + 1 - ca_mn (F / 16) (T / 16)) (16 - B / 16)) i u → y + n2 = z + (min (ca_mx (F / 16) (T / 16) + 1 - ca_mn (F / 16) (T / 16)) (16 - B / 16)) → ∀ (H : Heap) (locs : List Loc) (ls : Array Slot), gw_W D A s.heap (xw_ws dZ dI h q) (v) H locs → lv_has ls 9 [(6, .int (nI y)), (7, .int (nI i)), (8, .int (nI j)), (4, .int (nI (B % 16) - nI (ca_mn (F % 16) (T % 16)))), (5, .int (nI (B / 16) - nI (ca_mn (F / 16) (T / 16)))), (0, .ref h)] → W p l e rmX0_copy s m args below meth c H locs 0 0 Q (F0 m 148 ls []) := by
              intro n2
              induction n2 with
              | zero =>
                intro j y v hj hlj hv hh hf hy H locs ls hw hl
                refine lv_iload hx hb dX0_copy_148 (lv_at hl 2 rfl) ?_
                refine lv_aload_n hx hb dX0_copy_150 rfl (lv_at hl 5 rfl) ?_
                refine xw_g13 cx hw dX0_copy_151 ?_
                refine gw_top (w := nI (ca_mx (F / 16) (T / 16))) hh.2.2.2 ?_
                refine nw_gt (tgt := 203) hx hb dX0_copy_154 (by decide) (by omega) (by omega) (fun h5 => ?_) (fun h5 => ?_)
                · refine lv_iinc (v := nI (i + 1)) (lv' := [(7, .int (nI (i + 1))), (6, .int (nI y)), (8, .int (nI j)), (4, .int (nI (B % 16) - nI (ca_mn (F % 16) (T % 16)))), (5, .int (nI (B / 16) - nI (ca_mn (F / 16) (T / 16)))), (0, .ref h)]) hx hb dX0_copy_203 hl (k := 1) rfl (nI_1 _) (by decide) rfl (fun ls hl => ?_)
                  refine lv_goto (tgt := 123) hx hb dX0_copy_206 (by decide) ?_
                  exact ihB (i + 1) y v (by omega) (by omega) hv hh (by rw [← he, ca_it_s]; exact congrArg (ca_it (ca_ptr (ca_mn (F % 16) (T % 16)) (ca_mn (F / 16) (T / 16)) (B % 16) (B / 16) (min (ca_mx (F / 16) (T / 16) + 1 - ca_mn (F / 16) (T / 16)) (16 - B / 16))) (i + 1) n) hf) (by rw [Nat.succ_mul] at hz; omega) H locs ls hw (lv_sub hl [1, 0, 3, 4, 5] rfl)
                · refine lv_iload hx hb dX0_copy_157 (lv_at hl 2 rfl) ?_
                  refine lv_iload hx hb dX0_copy_159 (lv_at hl 4 rfl) ?_
                  refine lv_iadd hx hb dX0_copy_161 ?_
                  refine gw_top (w := nI (j + B / 16 - (ca_mn (F / 16) (T / 16)))) (ca_shift (by omega)) ?_
                  refine lv_bipush (v := nI 16) hx hb dX0_copy_162 (by decide) ?_
                  refine nw_geT (tgt := 203) hx hb dX0_copy_164 (by decide) (by omega) (by omega) (by omega) ?_
                  refine lv_iinc (v := nI (i + 1)) (lv' := [(7, .int (nI (i + 1))), (6, .int (nI y)), (8, .int (nI j)), (4, .int (nI (B % 16) - nI (ca_mn (F % 16) (T % 16)))), (5, .int (nI (B / 16) - nI (ca_mn (F / 16) (T / 16)))), (0, .ref h)]) hx hb dX0_copy_203 hl (k := 1) rfl (nI_1 _) (by decide) rfl (fun ls hl => ?_)
                  refine lv_goto (tgt := 123) hx hb dX0_copy_206 (by decide) ?_
                  exact ihB (i + 1) y v (by omega) (by omega) hv hh (by rw [← he, ca_it_s]; exact congrArg (ca_it (ca_ptr (ca_mn (F % 16) (T % 16)) (ca_mn (F / 16) (T / 16)) (B % 16) (B / 16) (min (ca_mx (F / 16) (T / 16) + 1 - ca_mn (F / 16) (T / 16)) (16 - B / 16))) (i + 1) n) hf) (by rw [Nat.succ_mul] at hz; omega) H locs ls hw (lv_sub hl [1, 0, 3, 4, 5] rfl)
              | succ n2 ih2 =>
                intro j y v hj hlj hv hh hf hy H locs ls hw hl
                refine lv_iload hx hb dX0_copy_148 (lv_at hl 2 rfl) ?_
                refine lv_aload_n hx hb dX0_copy_150 rfl (lv_at hl 5 rfl) ?_
                refine xw_g13 cx hw dX0_copy_151 ?_
                refine gw_top (w := nI (ca_mx (F / 16) (T / 16))) hh.2.2.2 ?_
                refine nw_gtF (tgt := 203) hx hb dX0_copy_154 (by decide) (by omega) (by omega) (by omega) ?_
                refine lv_iload hx hb dX0_copy_157 (lv_at hl 2 rfl) ?_
                refine lv_iload hx hb dX0_copy_159 (lv_at hl 4 rfl) ?_
                refine lv_iadd hx hb dX0_copy_161 ?_
                refine gw_top (w := nI (j + B / 16 - (ca_mn (F / 16) (T / 16)))) (ca_shift (by omega)) ?_
                refine lv_bipush (v := nI 16) hx hb dX0_copy_162 (by decide) ?_
                refine nw_geF (tgt := 203) hx hb dX0_copy_164 (by decide) (by omega) (by omega) (by omega) ?_
                refine lv_aload_n hx hb dX0_copy_167 rfl (lv_at hl 5 rfl) ?_
                refine lv_iload hx hb dX0_copy_168 (lv_at hl 1 rfl) ?_
                refine lv_iload hx hb dX0_copy_170 (lv_at hl 3 rfl) ?_
                refine lv_iadd hx hb dX0_copy_172 ?_
                refine gw_top (w := nI (i + B % 16 - (ca_mn (F % 16) (T % 16)))) (ca_shift (by omega)) ?_
                refine lv_iload hx hb dX0_copy_173 (lv_at hl 2 rfl) ?_
                refine lv_iload hx hb dX0_copy_175 (lv_at hl 4 rfl) ?_
                refine lv_iadd hx hb dX0_copy_177 ?_
                refine gw_top (w := nI (j + B / 16 - (ca_mn (F / 16) (T / 16)))) (ca_shift (by omega)) ?_
                refine lv_aload_n hx hb dX0_copy_178 rfl (lv_at hl 5 rfl) ?_
                refine xw_g14 cx hw dX0_copy_179 ?_
                refine lv_iload hx hb dX0_copy_182 (lv_at hl 1 rfl) ?_
                refine lv_bipush (v := nI 16) hx hb dX0_copy_184 (by decide) ?_
                refine nw_mul hx hb dX0_copy_186 ?_
                refine lv_iload hx hb dX0_copy_187 (lv_at hl 2 rfl) ?_
                refine nw_add hx hb dX0_copy_189 ?_
                refine xw_l14 cx hw (by omega) dX0_copy_190 ?_
                refine gw_callv (As := [.int (nI (i + B % 16 - (ca_mn (F % 16) (T % 16)))), .int (nI (j + B / 16 - (ca_mn (F / 16) (T / 16)))), .int (v 14 ((i * 16) + j))]) (rest := []) cx (mtX0_writeCell l D dZ dI h q v hv (by omega) (by omega)) xw_k_writeCell xw_rec ⟨Nat.le_of_ble_eq_true rfl, Nat.le_of_ble_eq_true rfl, rfl, rfl⟩ hl.1 rfl rfl (Nat.le_of_ble_eq_true rfl) dX0_copy_191 ⟨Nat.zero_le _, Nat.zero_le _⟩ hw (fun H locs hw => ?_)
                refine lv_iinc (v := nI (y + 1)) (lv' := [(6, .int (nI (y + 1))), (7, .int (nI i)), (8, .int (nI j)), (4, .int (nI (B % 16) - nI (ca_mn (F % 16) (T % 16)))), (5, .int (nI (B / 16) - nI (ca_mn (F / 16) (T / 16)))), (0, .ref h)]) hx hb dX0_copy_194 hl (k := 0) rfl (nI_1 _) (by decide) rfl (fun ls hl => ?_)
                refine lv_iinc (v := nI (j + 1)) (lv' := [(8, .int (nI (j + 1))), (6, .int (nI (y + 1))), (7, .int (nI i)), (4, .int (nI (B % 16) - nI (ca_mn (F % 16) (T % 16)))), (5, .int (nI (B / 16) - nI (ca_mn (F / 16) (T / 16)))), (0, .ref h)]) hx hb dX0_copy_197 hl (k := 2) rfl (nI_1 _) (by decide) rfl (fun ls hl => ?_)
                refine lv_goto (tgt := 148) hx hb dX0_copy_200 (by decide) ?_
                exact ih2 (j + 1) (y + 1) (ca_pt1 (i + B % 16 - (ca_mn (F % 16) (T % 16))) (B / 16) (ca_mn (F / 16) (T / 16)) i j v) (by omega) (by omega) (ca_ok_wc hv) (ca_rg_of hh (fun k h1 _ => ca_far_wc h1)) hf (by omega) H locs ls hw (lv_sub hl [1, 2, 0, 3, 4, 5] rfl)
            refine lv_aload_n hx hb dX0_copy_142 rfl (lv_at hl 4 rfl) ?_
            refine xw_g12 cx hw dX0_copy_143 ?_
            refine gw_top (w := nI (ca_mn (F / 16) (T / 16))) hg.2.2.1 ?_
            refine lv_istore (lv' := [(8, .int (nI (ca_mn (F / 16) (T / 16)))), (6, .int (nI z)), (7, .int (nI i)), (4, .int (nI (B % 16) - nI (ca_mn (F % 16) (T % 16)))), (5, .int (nI (B / 16) - nI (ca_mn (F / 16) (T / 16)))), (0, .ref h)]) hx hb dX0_copy_146 hl (by decide) rfl (fun ls hl => ?_)
            exact loop2 (min (ca_mx (F / 16) (T / 16) + 1 - ca_mn (F / 16) (T / 16)) (16 - B / 16)) (ca_mn (F / 16) (T / 16)) z u (by omega) (by omega) hu hg rfl (by omega) _ _ _ hw (lv_sub hl [1, 2, 0, 3, 4, 5] rfl)
        have loopA : ∀ (n : Nat) (i : Nat) (u : ca_S), i + n = (ca_mx (F % 16) (T % 16)) + 1 → ca_ok u → ca_rg u (ca_mn (F % 16) (T % 16)) (ca_mx (F % 16) (T % 16)) (ca_mn (F / 16) (T / 16)) (ca_mx (F / 16) (T / 16)) → ca_it (ca_mvr (ca_mn (F / 16) (T / 16)) (ca_mx (F / 16) (T / 16) + 1 - ca_mn (F / 16) (T / 16))) i n u = (ca_it (ca_mvr (ca_mn (F / 16) (T / 16)) (ca_mx (F / 16) (T / 16) + 1 - ca_mn (F / 16) (T / 16))) (ca_mn (F % 16) (T % 16)) (ca_mx (F % 16) (T % 16) + 1 - ca_mn (F % 16) (T % 16)) (ca_reg F T σ)) → ∀ (H : Heap) (locs : List Loc) (ls : Array Slot), gw_W D A s.heap (xw_ws dZ dI h q) (u) H locs → lv_has ls 9 [(6, .int (nI i)), (4, .int (nI (B % 16) - nI (ca_mn (F % 16) (T % 16)))), (5, .int (nI (B / 16) - nI (ca_mn (F / 16) (T / 16)))), (0, .ref h)] → W p l e rmX0_copy s m args below meth c H locs 0 0 Q (F0 m 56 ls []) := by
          intro n
          induction n with
          | zero =>
            intro i u hi hu hg he H locs ls hw hl
            refine lv_iload hx hb dX0_copy_56 (lv_at hl 0 rfl) ?_
            refine lv_aload_n hx hb dX0_copy_58 rfl (lv_at hl 3 rfl) ?_
            refine xw_g11 cx hw dX0_copy_59 ?_
            refine gw_top (w := nI (ca_mx (F % 16) (T % 16))) hg.2.1 ?_
            refine nw_gtT (tgt := 114) hx hb dX0_copy_62 (by decide) (by omega) (by omega) (by omega) ?_
            have he : u = (ca_it (ca_mvr (ca_mn (F / 16) (T / 16)) (ca_mx (F / 16) (T / 16) + 1 - ca_mn (F / 16) (T / 16))) (ca_mn (F % 16) (T % 16)) (ca_mx (F % 16) (T % 16) + 1 - ca_mn (F % 16) (T % 16)) (ca_reg F T σ)) := he
            refine lv_iconst (v := nI 0) hx hb dX0_copy_114 (by decide) ?_
            refine lv_istore (lv' := [(6, .int (nI 0)), (4, .int (nI (B % 16) - nI (ca_mn (F % 16) (T % 16)))), (5, .int (nI (B / 16) - nI (ca_mn (F / 16) (T / 16)))), (0, .ref h)]) hx hb dX0_copy_115 hl (by decide) rfl (fun ls hl => ?_)
            refine lv_aload_n hx hb dX0_copy_117 rfl (lv_at hl 3 rfl) ?_
            refine xw_g10 cx hw dX0_copy_118 ?_
            refine gw_top (w := nI (ca_mn (F % 16) (T % 16))) hg.1 ?_
            refine lv_istore (lv' := [(7, .int (nI (ca_mn (F % 16) (T % 16)))), (6, .int (nI 0)), (4, .int (nI (B % 16) - nI (ca_mn (F % 16) (T % 16)))), (5, .int (nI (B / 16) - nI (ca_mn (F / 16) (T / 16)))), (0, .ref h)]) hx hb dX0_copy_121 hl (by decide) rfl (fun ls hl => ?_)
            exact loopB (min (ca_mx (F % 16) (T % 16) + 1 - ca_mn (F % 16) (T % 16)) (16 - B % 16)) (ca_mn (F % 16) (T % 16)) 0 u (by omega) (by omega) hu hg (by rw [he]; rfl) (by rw [Nat.zero_add]) H locs ls hw (lv_sub hl [1, 0, 2, 3, 4] rfl)
          | succ n ihA =>
            intro i u hi hu hg he H locs ls hw hl
            refine lv_iload hx hb dX0_copy_56 (lv_at hl 0 rfl) ?_
            refine lv_aload_n hx hb dX0_copy_58 rfl (lv_at hl 3 rfl) ?_
            refine xw_g11 cx hw dX0_copy_59 ?_
            refine gw_top (w := nI (ca_mx (F % 16) (T % 16))) hg.2.1 ?_
            refine nw_gtF (tgt := 114) hx hb dX0_copy_62 (by decide) (by omega) (by omega) (by omega) ?_
            have loop3 : ∀ (n2 : Nat) (j : Nat) (v : ca_S), j + n2 = (ca_mx (F / 16) (T / 16)) + 1 → ca_ok v → ca_rg v (ca_mn (F % 16) (T % 16)) (ca_mx (F % 16) (T % 16)) (ca_mn (F / 16) (T / 16)) (ca_mx (F / 16) (T / 16)) → ca_it (ca_mv1 i) j n2 v = ca_mvr (ca_mn (F / 16) (T / 16)) (ca_mx (F / 16) (T / 16) + 1 - ca_mn (F / 16) (T / 16)) i u → ∀ (H : Heap) (locs : List Loc) (ls : Array Slot), gw_W D A s.heap (xw_ws dZ dI h q) (v) H locs → lv_has ls 9 [(6, .int (nI i)), (7, .int (nI j)), (4, .int (nI (B % 16) - nI (ca_mn (F % 16) (T % 16)))), (5, .int (nI (B / 16) - nI (ca_mn (F / 16) (T / 16)))), (0, .ref h)] → W p l e rmX0_copy s m args below meth c H locs 0 0 Q (F0 m 71 ls []) := by
              intro n2
              induction n2 with
              | zero =>
                intro j v hj hv hh hf H locs ls hw hl
                refine lv_iload hx hb dX0_copy_71 (lv_at hl 1 rfl) ?_
                refine lv_aload_n hx hb dX0_copy_73 rfl (lv_at hl 4 rfl) ?_
                refine xw_g13 cx hw dX0_copy_74 ?_
                refine gw_top (w := nI (ca_mx (F / 16) (T / 16))) hh.2.2.2 ?_
                refine nw_gtT (tgt := 108) hx hb dX0_copy_77 (by decide) (by omega) (by omega) (by omega) ?_
                refine lv_iinc (v := nI (i + 1)) (lv' := [(6, .int (nI (i + 1))), (7, .int (nI j)), (4, .int (nI (B % 16) - nI (ca_mn (F % 16) (T % 16)))), (5, .int (nI (B / 16) - nI (ca_mn (F / 16) (T / 16)))), (0, .ref h)]) hx hb dX0_copy_108 hl (k := 0) rfl (nI_1 _) (by decide) rfl (fun ls hl => ?_)
                refine lv_goto (tgt := 56) hx hb dX0_copy_111 (by decide) ?_
                exact ihA (i + 1) v (by omega) hv hh (by rw [← he, ca_it_s]; exact congrArg (ca_it (ca_mvr (ca_mn (F / 16) (T / 16)) (ca_mx (F / 16) (T / 16) + 1 - ca_mn (F / 16) (T / 16))) (i + 1) n) hf) H locs ls hw (lv_sub hl [0, 2, 3, 4] rfl)
              | succ n2 ih3 =>
                intro j v hj hv hh hf H locs ls hw hl
                refine lv_iload hx hb dX0_copy_71 (lv_at hl 1 rfl) ?_
                refine lv_aload_n hx hb dX0_copy_73 rfl (lv_at hl 4 rfl) ?_
                refine xw_g13 cx hw dX0_copy_74 ?_
                refine gw_top (w := nI (ca_mx (F / 16) (T / 16))) hh.2.2.2 ?_
                refine nw_gtF (tgt := 108) hx hb dX0_copy_77 (by decide) (by omega) (by omega) (by omega) ?_
                refine lv_aload_n hx hb dX0_copy_80 rfl (lv_at hl 4 rfl) ?_
                refine xw_g14 cx hw dX0_copy_81 ?_
                refine lv_iload hx hb dX0_copy_84 (lv_at hl 0 rfl) ?_
                refine lv_bipush (v := nI 16) hx hb dX0_copy_86 (by decide) ?_
                refine nw_mul hx hb dX0_copy_88 ?_
                refine lv_iload hx hb dX0_copy_89 (lv_at hl 1 rfl) ?_
                refine nw_add hx hb dX0_copy_91 ?_
                refine lv_aload_n hx hb dX0_copy_92 rfl (lv_at hl 4 rfl) ?_
                refine lv_iconst (v := nI 4) hx hb dX0_copy_93 (by decide) ?_
                refine lv_iload hx hb dX0_copy_94 (lv_at hl 0 rfl) ?_
                refine lv_iload hx hb dX0_copy_96 (lv_at hl 1 rfl) ?_
                refine gw_calli (As := [.int (nI 4), .int (nI i), .int (nI j)]) (rest := [.int (nI ((i * 16) + j)), .ref (q 14)]) cx (mtX0_read l D dZ dI h q v hv (by omega) (by omega) (by omega)) xw_k_read xw_rec ⟨Nat.le_of_ble_eq_true rfl, Nat.le_of_ble_eq_true rfl, rfl, rfl⟩ hl.1 rfl rfl (Nat.le_of_ble_eq_true rfl) dX0_copy_98 ⟨Nat.zero_le _, Nat.zero_le _⟩ hw (fun H locs hw => ?_)
                refine xw_s14 cx hw (by omega) dX0_copy_101 (fun H locs hw => ?_)
                have hw : gw_W D A s.heap (xw_ws dZ dI h q) (ca_mv1 i j v) H locs := hw
                refine lv_iinc (v := nI (j + 1)) (lv' := [(7, .int (nI (j + 1))), (6, .int (nI i)), (4, .int (nI (B % 16) - nI (ca_mn (F % 16) (T % 16)))), (5, .int (nI (B / 16) - nI (ca_mn (F / 16) (T / 16)))), (0, .ref h)]) hx hb dX0_copy_102 hl (k := 1) rfl (nI_1 _) (by decide) rfl (fun ls hl => ?_)
                refine lv_goto (tgt := 71) hx hb dX0_copy_105 (by decide) ?_
                exact ih3 (j + 1) (ca_mv1 i j v) (by omega) (ca_ok_up hv (by decide)) (ca_rg_of hh (fun k h1 h2 => ca_upN (by omega))) hf H locs ls hw (lv_sub hl [1, 0, 2, 3, 4] rfl)
            refine lv_aload_n hx hb dX0_copy_65 rfl (lv_at hl 3 rfl) ?_
            refine xw_g12 cx hw dX0_copy_66 ?_
            refine gw_top (w := nI (ca_mn (F / 16) (T / 16))) hg.2.2.1 ?_
            refine lv_istore (lv' := [(7, .int (nI (ca_mn (F / 16) (T / 16)))), (6, .int (nI i)), (4, .int (nI (B % 16) - nI (ca_mn (F % 16) (T % 16)))), (5, .int (nI (B / 16) - nI (ca_mn (F / 16) (T / 16)))), (0, .ref h)]) hx hb dX0_copy_69 hl (by decide) rfl (fun ls hl => ?_)
            exact loop3 (ca_mx (F / 16) (T / 16) + 1 - ca_mn (F / 16) (T / 16)) (ca_mn (F / 16) (T / 16)) u (by omega) hu hg rfl _ _ _ hw (lv_sub hl [1, 0, 2, 3, 4] rfl)
        refine lv_aload_n hx hb dX0_copy_23 rfl (lv_at hl 0 rfl) ?_
        refine lv_iload_n hx hb dX0_copy_24 rfl (lv_at hl 1 rfl) ?_
        refine lv_iload_n hx hb dX0_copy_25 rfl (lv_at hl 2 rfl) ?_
        refine gw_callv (As := [.int (nI F), .int (nI T)]) (rest := []) cx (mtX0_setRegion l D dZ dI h q σ (by omega) (by omega)) xw_k_setRegion xw_rec ⟨Nat.le_of_ble_eq_true rfl, Nat.le_of_ble_eq_true rfl, rfl, rfl⟩ hl.1 rfl rfl (Nat.le_of_ble_eq_true rfl) dX0_copy_26 ⟨Nat.zero_le _, Nat.zero_le _⟩ hw (fun H locs hw => ?_)
        refine lv_iload_n hx hb dX0_copy_29 rfl (lv_at hl 3 rfl) ?_
        refine lv_bipush (v := nI 15) hx hb dX0_copy_30 (by decide) ?_
        refine nw_and15 hx hb dX0_copy_32 (by omega) ?_
        refine lv_aload_n hx hb dX0_copy_33 rfl (lv_at hl 0 rfl) ?_
        refine xw_g10 cx hw dX0_copy_34 ?_
        refine gw_top (w := nI (ca_mn (F % 16) (T % 16))) hg.1 ?_
        refine lv_isub hx hb dX0_copy_37 ?_
        refine lv_istore (lv' := [(4, .int ((nI (B % 16)) - (nI (ca_mn (F % 16) (T % 16))))), (0, .ref h), (1, .int (nI F)), (2, .int (nI T)), (3, .int (nI B))]) hx hb dX0_copy_38 hl (by decide) rfl (fun ls hl => ?_)
        refine lv_iload_n hx hb dX0_copy_40 rfl (lv_at hl 4 rfl) ?_
        refine lv_iconst (v := nI 4) hx hb dX0_copy_41 (by decide) ?_
        refine nw_shr4 hx hb dX0_copy_42 (by omega) ?_
        refine lv_aload_n hx hb dX0_copy_43 rfl (lv_at hl 1 rfl) ?_
        refine xw_g12 cx hw dX0_copy_44 ?_
        refine gw_top (w := nI (ca_mn (F / 16) (T / 16))) hg.2.2.1 ?_
        refine lv_isub hx hb dX0_copy_47 ?_
        refine lv_istore (lv' := [(5, .int ((nI (B / 16)) - (nI (ca_mn (F / 16) (T / 16))))), (4, .int ((nI (B % 16)) - (nI (ca_mn (F % 16) (T % 16))))), (0, .ref h), (1, .int (nI F)), (2, .int (nI T)), (3, .int (nI B))]) hx hb dX0_copy_48 hl (by decide) rfl (fun ls hl => ?_)
        refine lv_aload_n hx hb dX0_copy_50 rfl (lv_at hl 2 rfl) ?_
        refine xw_g10 cx hw dX0_copy_51 ?_
        refine gw_top (w := nI (ca_mn (F % 16) (T % 16))) hg.1 ?_
        refine lv_istore (lv' := [(6, .int (nI (ca_mn (F % 16) (T % 16)))), (5, .int ((nI (B / 16)) - (nI (ca_mn (F / 16) (T / 16))))), (4, .int ((nI (B % 16)) - (nI (ca_mn (F % 16) (T % 16))))), (0, .ref h), (1, .int (nI F)), (2, .int (nI T)), (3, .int (nI B))]) hx hb dX0_copy_54 hl (by decide) rfl (fun ls hl => ?_)
        exact loopA (ca_mx (F % 16) (T % 16) + 1 - ca_mn (F % 16) (T % 16)) (ca_mn (F % 16) (T % 16)) (ca_reg F T σ) (by omega) (ca_ok_reg hok) hg rfl _ _ _ hw (lv_sub hl [0, 2, 1, 3] rfl)
end
section
/-! ChunkArrayModel: contracts (isCell, between, inside, change, fill, add, scale, isVersion, keep) -/
theorem cb_ver_nat {x : Int32} (h0 : ¬ x < 0) (h : ¬ 4 ≤ x) : ∃ n, n < 4 ∧ x = nI n := by
  obtain ⟨n, hn, e⟩ := nI_of (x := x) h0
  refine ⟨n, ?_, e⟩
  subst e
  have h2 : ¬ nI 4 ≤ nI n := h
  have := mt (nI_leI (a := 4) (b := n) (by decide) hn).mpr h2
  omega
theorem cb_lo {n a b : Nat} (h : cb_bet n a b) : ca_mn a b ≤ n := by
  have := ca_mn_le a b
  omega
theorem cb_df_le (σ : ca_S) (v : Nat) : ∀ (n i z : Nat), ca_it (cb_df1 σ v) i n z ≤ z + n
  | 0, i, z => Nat.le_refl _
  | n + 1, i, z => by
    have := cb_df_le σ v n (i + 1) (cb_df1 σ v i z)
    rw [ca_it_s]
    have h2 : cb_df1 σ v i z ≤ z + 1 := by unfold cb_df1; split <;> omega
    omega
theorem cb_df_lt (σ : ca_S) (v : Nat) : cb_df σ v < 2 ^ 31 := by
  have h := cb_df_le σ v 256 0 0
  have e : cb_df σ v = ca_it (cb_df1 σ v) 0 256 0 := rfl
  rw [e]
  omega
abbrev rmX1_isCell : Room := { frames := 0, cells := 0, slots := 0, locals := 0 }
set_option maxHeartbeats 400000 in
set_option maxRecDepth 100000 in
theorem mtX1_isCell (l : Launch) (D : va_G) (dZ dI : ClassId) (h : Nat) (q : Nat → Nat) (σ : ca_S) (x : Int32) : gw_MI l D (xw_T dZ dI) (mw_ws dZ dI h q) h yX1_isCell cX1_isCell 2 .boolean rmX1_isCell [.int (x)] σ (if cb_cell x then 1 else 0) (σ) := by
  refine gw_entI (by decide) (Nat.le_of_ble_eq_true rfl) (by split <;> rfl) ?_
  intro p e s m args below meth c A Q cx hret ls hl hw
  have hx := cx.1
  have hb := cx.2.1
  have hl : lv_has ls 2 [(0, .ref h), (1, .int (x))] := hl
  refine lv_iload_n hx hb dX1_isCell_0 rfl (lv_at hl 1 rfl) ?_
  refine lv_if_lt (tgt := 15) hx hb dX1_isCell_1 (by decide) (fun h1 => ?_) (fun h1 => ?_)
  · refine lv_iconst (v := nI 0) hx hb dX1_isCell_15 (by decide) ?_
    exact hret dX1_isCell_16 (if_neg (fun z => z.1 h1)).symm rfl hw
  · refine lv_iload_n hx hb dX1_isCell_4 rfl (lv_at hl 1 rfl) ?_
    refine lv_sipush (v := nI 256) hx hb dX1_isCell_5 (by decide) ?_
    refine lv_icmp_ge (tgt := 15) hx hb dX1_isCell_8 (by decide) (fun h2 => ?_) (fun h2 => ?_)
    · refine lv_iconst (v := nI 0) hx hb dX1_isCell_15 (by decide) ?_
      exact hret dX1_isCell_16 (if_neg (fun z => z.2 h2)).symm rfl hw
    · refine lv_iconst (v := nI 1) hx hb dX1_isCell_11 (by decide) ?_
      refine lv_goto (tgt := 16) hx hb dX1_isCell_12 (by decide) ?_
      exact hret dX1_isCell_16 (if_pos ⟨h1, h2⟩).symm rfl hw
abbrev rmX1_between : Room := { frames := 0, cells := 0, slots := 0, locals := 0 }
set_option maxHeartbeats 400000 in
set_option maxRecDepth 100000 in
theorem mtX1_between (l : Launch) (D : va_G) (dZ dI : ClassId) (h : Nat) (q : Nat → Nat) (σ : ca_S) {n a b : Nat} (g1 : n < 256) (g2 : a < 256) (g3 : b < 256) : gw_MI l D (xw_T dZ dI) (mw_ws dZ dI h q) h yX1_between cX1_between 4 .boolean rmX1_between [.int (nI n), .int (nI a), .int (nI b)] σ (if cb_bet n a b then 1 else 0) (σ) := by
  refine gw_entI (by decide) (Nat.le_of_ble_eq_true rfl) (by split <;> rfl) ?_
  intro p e s m args below meth c A Q cx hret ls hl hw
  have hx := cx.1
  have hb := cx.2.1
  have hl : lv_has ls 4 [(0, .ref h), (1, .int (nI n)), (2, .int (nI a)), (3, .int (nI b))] := hl
  refine lv_iload_n hx hb dX1_between_0 rfl (lv_at hl 1 rfl) ?_
  refine lv_iload_n hx hb dX1_between_1 rfl (lv_at hl 2 rfl) ?_
  refine nw_lt (tgt := 10) hx hb dX1_between_2 (by decide) (by omega) (by omega) (fun h1 => ?_) (fun h1 => ?_)
  · refine lv_iload_n hx hb dX1_between_10 rfl (lv_at hl 1 rfl) ?_
    refine lv_iload_n hx hb dX1_between_11 rfl (lv_at hl 3 rfl) ?_
    refine nw_lt (tgt := 24) hx hb dX1_between_12 (by decide) (by omega) (by omega) (fun h3 => ?_) (fun h3 => ?_)
    · refine lv_iconst (v := nI 0) hx hb dX1_between_24 (by decide) ?_
      exact hret dX1_between_25 (if_neg (by omega)).symm rfl hw
    · refine lv_iload_n hx hb dX1_between_15 rfl (lv_at hl 1 rfl) ?_
      refine lv_iload_n hx hb dX1_between_16 rfl (lv_at hl 2 rfl) ?_
      refine nw_gt (tgt := 24) hx hb dX1_between_17 (by decide) (by omega) (by omega) (fun h4 => ?_) (fun h4 => ?_)
      · refine lv_iconst (v := nI 0) hx hb dX1_between_24 (by decide) ?_
        exact hret dX1_between_25 (if_neg (by omega)).symm rfl hw
      · refine lv_iconst (v := nI 1) hx hb dX1_between_20 (by decide) ?_
        refine lv_goto (tgt := 25) hx hb dX1_between_21 (by decide) ?_
        exact hret dX1_between_25 (if_pos (by omega)).symm rfl hw
  · refine lv_iload_n hx hb dX1_between_5 rfl (lv_at hl 1 rfl) ?_
    refine lv_iload_n hx hb dX1_between_6 rfl (lv_at hl 3 rfl) ?_
    refine nw_le (tgt := 20) hx hb dX1_between_7 (by decide) (by omega) (by omega) (fun h2 => ?_) (fun h2 => ?_)
    · refine lv_iconst (v := nI 1) hx hb dX1_between_20 (by decide) ?_
      refine lv_goto (tgt := 25) hx hb dX1_between_21 (by decide) ?_
      exact hret dX1_between_25 (if_pos (by omega)).symm rfl hw
    · refine lv_iload_n hx hb dX1_between_10 rfl (lv_at hl 1 rfl) ?_
      refine lv_iload_n hx hb dX1_between_11 rfl (lv_at hl 3 rfl) ?_
      refine nw_lt (tgt := 24) hx hb dX1_between_12 (by decide) (by omega) (by omega) (fun h3 => ?_) (fun h3 => ?_)
      · refine lv_iconst (v := nI 0) hx hb dX1_between_24 (by decide) ?_
        exact hret dX1_between_25 (if_neg (by omega)).symm rfl hw
      · refine lv_iload_n hx hb dX1_between_15 rfl (lv_at hl 1 rfl) ?_
        refine lv_iload_n hx hb dX1_between_16 rfl (lv_at hl 2 rfl) ?_
        refine nw_gt (tgt := 24) hx hb dX1_between_17 (by decide) (by omega) (by omega) (fun h4 => ?_) (fun h4 => ?_)
        · refine lv_iconst (v := nI 0) hx hb dX1_between_24 (by decide) ?_
          exact hret dX1_between_25 (if_neg (by omega)).symm rfl hw
        · refine lv_iconst (v := nI 1) hx hb dX1_between_20 (by decide) ?_
          refine lv_goto (tgt := 25) hx hb dX1_between_21 (by decide) ?_
          exact hret dX1_between_25 (if_pos (by omega)).symm rfl hw
abbrev rmX1_inside : Room := { frames := 1, cells := 0, slots := 0, locals := 23 }
set_option maxHeartbeats 400000 in
set_option maxRecDepth 100000 in
theorem mtX1_inside (l : Launch) (D : va_G) (dZ dI : ClassId) (h : Nat) (q : Nat → Nat) (σ : ca_S) {n f t : Nat} (g1 : n < 256) (g2 : f < 256) (g3 : t < 256) : gw_MI l D (xw_T dZ dI) (mw_ws dZ dI h q) h yX1_inside cX1_inside 4 .boolean rmX1_inside [.int (nI n), .int (nI f), .int (nI t)] σ (if cb_ins n f t then 1 else 0) (σ) := by
  refine gw_entI (by decide) (Nat.le_of_ble_eq_true rfl) (by split <;> rfl) ?_
  intro p e s m args below meth c A Q cx hret ls hl hw
  have hx := cx.1
  have hb := cx.2.1
  have hl : lv_has ls 4 [(0, .ref h), (1, .int (nI n)), (2, .int (nI f)), (3, .int (nI t))] := hl
  refine lv_aload_n hx hb dX1_inside_0 rfl (lv_at hl 0 rfl) ?_
  refine lv_iload_n hx hb dX1_inside_1 rfl (lv_at hl 1 rfl) ?_
  refine lv_bipush (v := nI 15) hx hb dX1_inside_2 (by decide) ?_
  refine nw_and15 hx hb dX1_inside_4 (by omega) ?_
  refine lv_iload_n hx hb dX1_inside_5 rfl (lv_at hl 2 rfl) ?_
  refine lv_bipush (v := nI 15) hx hb dX1_inside_6 (by decide) ?_
  refine nw_and15 hx hb dX1_inside_8 (by omega) ?_
  refine lv_iload_n hx hb dX1_inside_9 rfl (lv_at hl 3 rfl) ?_
  refine lv_bipush (v := nI 15) hx hb dX1_inside_10 (by decide) ?_
  refine nw_and15 hx hb dX1_inside_12 (by omega) ?_
  refine gw_calli (As := [.int (nI (n % 16)), .int (nI (f % 16)), .int (nI (t % 16))]) (rest := []) cx (mtX1_between l D dZ dI h q σ (by omega) (by omega) (by omega)) mw_k_between mw_rec ⟨Nat.le_of_ble_eq_true rfl, Nat.le_of_ble_eq_true rfl, rfl, rfl⟩ hl.1 rfl rfl (Nat.le_of_ble_eq_true rfl) dX1_inside_13 ⟨Nat.zero_le _, Nat.zero_le _⟩ hw (fun H locs hw => ?_)
  refine lv_if_eq (tgt := 39) hx hb dX1_inside_16 (by decide) (fun h1 => ?_) (fun h1 => ?_)
  · refine lv_iconst (v := nI 0) hx hb dX1_inside_39 (by decide) ?_
    exact hret dX1_inside_40 (if_neg (fun z => ca_iff h1 z.1)).symm rfl hw
  · refine lv_aload_n hx hb dX1_inside_19 rfl (lv_at hl 0 rfl) ?_
    refine lv_iload_n hx hb dX1_inside_20 rfl (lv_at hl 1 rfl) ?_
    refine lv_iconst (v := nI 4) hx hb dX1_inside_21 (by decide) ?_
    refine nw_shr4 hx hb dX1_inside_22 (by omega) ?_
    refine lv_iload_n hx hb dX1_inside_23 rfl (lv_at hl 2 rfl) ?_
    refine lv_iconst (v := nI 4) hx hb dX1_inside_24 (by decide) ?_
    refine nw_shr4 hx hb dX1_inside_25 (by omega) ?_
    refine lv_iload_n hx hb dX1_inside_26 rfl (lv_at hl 3 rfl) ?_
    refine lv_iconst (v := nI 4) hx hb dX1_inside_27 (by decide) ?_
    refine nw_shr4 hx hb dX1_inside_28 (by omega) ?_
    refine gw_calli (As := [.int (nI (n / 16)), .int (nI (f / 16)), .int (nI (t / 16))]) (rest := []) cx (mtX1_between l D dZ dI h q σ (by omega) (by omega) (by omega)) mw_k_between mw_rec ⟨Nat.le_of_ble_eq_true rfl, Nat.le_of_ble_eq_true rfl, rfl, rfl⟩ hl.1 rfl rfl (Nat.le_of_ble_eq_true rfl) dX1_inside_29 ⟨Nat.zero_le _, Nat.zero_le _⟩ hw (fun H locs hw => ?_)
    refine lv_if_eq (tgt := 39) hx hb dX1_inside_32 (by decide) (fun h2 => ?_) (fun h2 => ?_)
    · refine lv_iconst (v := nI 0) hx hb dX1_inside_39 (by decide) ?_
      exact hret dX1_inside_40 (if_neg (fun z => ca_iff h2 z.2)).symm rfl hw
    · refine lv_iconst (v := nI 1) hx hb dX1_inside_35 (by decide) ?_
      refine lv_goto (tgt := 40) hx hb dX1_inside_36 (by decide) ?_
      exact hret dX1_inside_40 (if_pos ⟨ca_ift h1, ca_ift h2⟩).symm rfl hw
abbrev rmX1_change : Room := { frames := 2, cells := 0, slots := 0, locals := 46 }
set_option maxHeartbeats 400000 in
set_option maxRecDepth 100000 in
theorem mtX1_change (l : Launch) (D : va_G) (dZ dI : ClassId) (h : Nat) (q : Nat → Nat) (σ : ca_S) (w f t x : Int32) : gw_MI l D (xw_T dZ dI) (mw_ws dZ dI h q) h yX1_change cX1_change 7 .int rmX1_change [.int (w), .int (f), .int (t), .int (x)] σ (cb_chR w f t x σ) (cb_chS w f t x σ) := by
  refine gw_entI (by decide) (Nat.le_of_ble_eq_true rfl) (rfl) ?_
  intro p e s m args below meth c A Q cx hret ls hl hw
  have hx := cx.1
  have hb := cx.2.1
  have hl : lv_has ls 7 [(0, .ref h), (1, .int (w)), (2, .int (f)), (3, .int (t)), (4, .int (x))] := hl
  refine lv_aload_n hx hb dX1_change_0 rfl (lv_at hl 0 rfl) ?_
  refine lv_iload_n hx hb dX1_change_1 rfl (lv_at hl 2 rfl) ?_
  refine gw_calli (As := [.int (f)]) (rest := []) cx (mtX1_isCell l D dZ dI h q σ f) mw_k_isCell mw_rec ⟨Nat.le_of_ble_eq_true rfl, Nat.le_of_ble_eq_true rfl, rfl, rfl⟩ hl.1 rfl rfl (Nat.le_of_ble_eq_true rfl) dX1_change_2 ⟨Nat.zero_le _, Nat.zero_le _⟩ hw (fun H locs hw => ?_)
  refine lv_if_eq (tgt := 16) hx hb dX1_change_5 (by decide) (fun h1 => ?_) (fun h1 => ?_)
  · refine lv_iconst (v := -1) hx hb dX1_change_16 (by decide) ?_
    exact hret dX1_change_17 (if_neg (fun z => ca_iff h1 (z.1))).symm (if_neg (fun z => ca_iff h1 (z.1))).symm hw
  · refine lv_aload_n hx hb dX1_change_8 rfl (lv_at hl 0 rfl) ?_
    refine lv_iload_n hx hb dX1_change_9 rfl (lv_at hl 3 rfl) ?_
    refine gw_calli (As := [.int (t)]) (rest := []) cx (mtX1_isCell l D dZ dI h q σ t) mw_k_isCell mw_rec ⟨Nat.le_of_ble_eq_true rfl, Nat.le_of_ble_eq_true rfl, rfl, rfl⟩ hl.1 rfl rfl (Nat.le_of_ble_eq_true rfl) dX1_change_10 ⟨Nat.zero_le _, Nat.zero_le _⟩ hw (fun H locs hw => ?_)
    refine lv_if_ne (tgt := 18) hx hb dX1_change_13 (by decide) (fun h2 => ?_) (fun h2 => ?_)
    rotate_left
    · refine lv_iconst (v := -1) hx hb dX1_change_16 (by decide) ?_
      exact hret dX1_change_17 (if_neg (fun z => ca_iff h2 (z.2))).symm (if_neg (fun z => ca_iff h2 (z.2))).symm hw
    · have h9 := (⟨ca_ift h1, ca_ift h2⟩ : cb_cell f ∧ cb_cell t)
      obtain ⟨F, g1, rfl⟩ := cb_cell_nat (ca_ift h1)
      obtain ⟨T, g2, rfl⟩ := cb_cell_nat (ca_ift h2)
      have loop : ∀ (n : Nat) (i : Nat) (u : ca_S) (z : Nat), i + n = 256 → ca_it (cb_ch1 w F T x) i n (u, z) = cb_chN w F T x σ → ∀ (H : Heap) (locs : List Loc) (ls : Array Slot), gw_W D A s.heap (mw_ws dZ dI h q) (u) H locs → lv_has ls 7 [(5, .int (nI z)), (6, .int (nI i)), (0, .ref h), (1, .int (w)), (2, .int (nI F)), (3, .int (nI T)), (4, .int (x))] → W p l e rmX1_change s m args below meth c H locs 0 0 Q (F0 m 24 ls []) := by
        intro n
        induction n with
        | zero =>
          intro i u z hi he H locs ls hw hl
          refine lv_iload hx hb dX1_change_24 (lv_at hl 1 rfl) ?_
          refine lv_sipush (v := nI 256) hx hb dX1_change_26 (by decide) ?_
          refine nw_geT (tgt := 96) hx hb dX1_change_29 (by decide) (by omega) (by omega) (by omega) ?_
          refine lv_iload hx hb dX1_change_96 (lv_at hl 0 rfl) ?_
          exact hret dX1_change_98 (by rw [cb_chR, if_pos h9, ca_cl (n := F) (by omega), ca_cl (n := T) (by omega)]; exact congrArg nI (congrArg Prod.snd he)) (by rw [cb_chS, if_pos h9, ca_cl (n := F) (by omega), ca_cl (n := T) (by omega)]; exact congrArg Prod.fst he) hw
        | succ n ih =>
          intro i u z hi he H locs ls hw hl
          refine lv_iload hx hb dX1_change_24 (lv_at hl 1 rfl) ?_
          refine lv_sipush (v := nI 256) hx hb dX1_change_26 (by decide) ?_
          refine nw_geF (tgt := 96) hx hb dX1_change_29 (by decide) (by omega) (by omega) (by omega) ?_
          refine lv_aload_n hx hb dX1_change_32 rfl (lv_at hl 2 rfl) ?_
          refine lv_iload hx hb dX1_change_33 (lv_at hl 1 rfl) ?_
          refine lv_iload_n hx hb dX1_change_35 rfl (lv_at hl 4 rfl) ?_
          refine lv_iload_n hx hb dX1_change_36 rfl (lv_at hl 5 rfl) ?_
          refine gw_calli (As := [.int (nI i), .int (nI F), .int (nI T)]) (rest := []) cx (mtX1_inside l D dZ dI h q u (by omega) (by omega) (by omega)) mw_k_inside mw_rec ⟨Nat.le_of_ble_eq_true rfl, Nat.le_of_ble_eq_true rfl, rfl, rfl⟩ hl.1 rfl rfl (Nat.le_of_ble_eq_true rfl) dX1_change_37 ⟨Nat.zero_le _, Nat.zero_le _⟩ hw (fun H locs hw => ?_)
          refine lv_if_eq (tgt := 90) hx hb dX1_change_40 (by decide) (fun h4 => ?_) (fun h4 => ?_)
          · refine lv_iinc (v := nI (i + 1)) (lv' := [(6, .int (nI (i + 1))), (5, .int (nI z)), (0, .ref h), (1, .int (w)), (2, .int (nI F)), (3, .int (nI T)), (4, .int (x))]) hx hb dX1_change_90 hl (k := 1) rfl (nI_1 _) (by decide) rfl (fun ls hl => ?_)
            refine lv_goto (tgt := 24) hx hb dX1_change_93 (by decide) ?_
            exact ih (i + 1) u z (by omega) (by rw [← he, ca_it_s, show cb_ch1 w F T x i (u, z) = (u, z) from if_neg (ca_iff h4)]) H locs ls hw (lv_sub hl [1, 0, 2, 3, 4, 5, 6] rfl)
          · refine lv_aload_n hx hb dX1_change_43 rfl (lv_at hl 2 rfl) ?_
            refine mw_g0 cx hw dX1_change_44 ?_
            refine lv_iload hx hb dX1_change_47 (lv_at hl 1 rfl) ?_
            have tail : ∀ (v : Int32) (H : Heap) (locs : List Loc) (ls : Array Slot), v = ca_res w (u 0 i) x → gw_W D A s.heap (mw_ws dZ dI h q) (u) H locs → lv_has ls 7 [(5, .int (nI z)), (6, .int (nI i)), (0, .ref h), (1, .int (w)), (2, .int (nI F)), (3, .int (nI T)), (4, .int (x))] → W p l e rmX1_change s m args below meth c H locs 0 0 Q (F0 m 86 ls [.int v, .int (nI i), .ref (q 0)]) := by
              intro v H locs ls hv hw hl
              refine mw_s0 cx hw (by omega) dX1_change_86 (fun H locs hw => ?_)
              refine lv_iinc (v := nI (z + 1)) (lv' := [(5, .int (nI (z + 1))), (6, .int (nI i)), (0, .ref h), (1, .int (w)), (2, .int (nI F)), (3, .int (nI T)), (4, .int (x))]) hx hb dX1_change_87 hl (k := 0) rfl (nI_1 _) (by decide) rfl (fun ls hl => ?_)
              refine lv_iinc (v := nI (i + 1)) (lv' := [(6, .int (nI (i + 1))), (5, .int (nI (z + 1))), (0, .ref h), (1, .int (w)), (2, .int (nI F)), (3, .int (nI T)), (4, .int (x))]) hx hb dX1_change_90 hl (k := 1) rfl (nI_1 _) (by decide) rfl (fun ls hl => ?_)
              refine lv_goto (tgt := 24) hx hb dX1_change_93 (by decide) ?_
              exact ih (i + 1) (ca_up u 0 i v) (z + 1) (by omega) (by rw [← he, ca_it_s, show cb_ch1 w F T x i (u, z) = (ca_up u 0 i v, z + 1) from by rw [cb_ch1, if_pos (ca_ift h4), hv]]) H locs ls hw (lv_sub hl [1, 0, 2, 3, 4, 5, 6] rfl)
            refine lv_iload_n hx hb dX1_change_49 rfl (lv_at hl 3 rfl) ?_
            refine lv_if_ne (tgt := 58) hx hb dX1_change_50 (by decide) (fun h5 => ?_) (fun h5 => ?_)
            · refine lv_iload_n hx hb dX1_change_58 rfl (lv_at hl 3 rfl) ?_
              refine lv_iconst (v := nI 1) hx hb dX1_change_59 (by decide) ?_
              refine lv_icmp_ne (tgt := 76) hx hb dX1_change_60 (by decide) (fun h6 => ?_) (fun h6 => ?_)
              · refine lv_aload_n hx hb dX1_change_76 rfl (lv_at hl 2 rfl) ?_
                refine mw_g0 cx hw dX1_change_77 ?_
                refine lv_iload hx hb dX1_change_80 (lv_at hl 1 rfl) ?_
                refine mw_l0 cx hw (by omega) dX1_change_82 ?_
                refine lv_iload hx hb dX1_change_83 (lv_at hl 6 rfl) ?_
                refine lv_imul hx hb dX1_change_85 ?_
                exact tail _ _ _ _ ((if_neg h5).trans (if_neg h6)).symm hw (lv_sub hl [0, 1, 2, 3, 4, 5, 6] rfl)
              · refine lv_aload_n hx hb dX1_change_63 rfl (lv_at hl 2 rfl) ?_
                refine mw_g0 cx hw dX1_change_64 ?_
                refine lv_iload hx hb dX1_change_67 (lv_at hl 1 rfl) ?_
                refine mw_l0 cx hw (by omega) dX1_change_69 ?_
                refine lv_iload hx hb dX1_change_70 (lv_at hl 6 rfl) ?_
                refine lv_iadd hx hb dX1_change_72 ?_
                refine lv_goto (tgt := 86) hx hb dX1_change_73 (by decide) ?_
                exact tail _ _ _ _ ((if_neg h5).trans (if_pos h6)).symm hw (lv_sub hl [0, 1, 2, 3, 4, 5, 6] rfl)
            · refine lv_iload hx hb dX1_change_53 (lv_at hl 6 rfl) ?_
              refine lv_goto (tgt := 86) hx hb dX1_change_55 (by decide) ?_
              exact tail _ _ _ _ (if_pos h5).symm hw (lv_sub hl [0, 1, 2, 3, 4, 5, 6] rfl)
      refine lv_iconst (v := nI 0) hx hb dX1_change_18 (by decide) ?_
      refine lv_istore (lv' := [(5, .int (nI 0)), (0, .ref h), (1, .int (w)), (2, .int (nI F)), (3, .int (nI T)), (4, .int (x))]) hx hb dX1_change_19 hl (by decide) rfl (fun ls hl => ?_)
      refine lv_iconst (v := nI 0) hx hb dX1_change_21 (by decide) ?_
      refine lv_istore (lv' := [(6, .int (nI 0)), (5, .int (nI 0)), (0, .ref h), (1, .int (w)), (2, .int (nI F)), (3, .int (nI T)), (4, .int (x))]) hx hb dX1_change_22 hl (by decide) rfl (fun ls hl => ?_)
      exact loop 256 0 σ 0 rfl rfl _ _ _ hw (lv_sub hl [1, 0, 2, 3, 4, 5, 6] rfl)
abbrev rmX1_fill : Room := { frames := 3, cells := 0, slots := 0, locals := 72 }
set_option maxHeartbeats 400000 in
set_option maxRecDepth 100000 in
theorem mtX1_fill (l : Launch) (D : va_G) (dZ dI : ClassId) (h : Nat) (q : Nat → Nat) (σ : ca_S) (f t x : Int32) : gw_MI l D (xw_T dZ dI) (mw_ws dZ dI h q) h yX1_fill cX1_fill 4 .int rmX1_fill [.int (f), .int (t), .int (x)] σ (cb_chR 0 f t x σ) (cb_chS 0 f t x σ) := by
  refine gw_entI (by decide) (Nat.le_of_ble_eq_true rfl) (rfl) ?_
  intro p e s m args below meth c A Q cx hret ls hl hw
  have hx := cx.1
  have hb := cx.2.1
  have hl : lv_has ls 4 [(0, .ref h), (1, .int (f)), (2, .int (t)), (3, .int (x))] := hl
  refine lv_aload_n hx hb dX1_fill_0 rfl (lv_at hl 0 rfl) ?_
  refine lv_iconst (v := nI 0) hx hb dX1_fill_1 (by decide) ?_
  refine lv_iload_n hx hb dX1_fill_2 rfl (lv_at hl 1 rfl) ?_
  refine lv_iload_n hx hb dX1_fill_3 rfl (lv_at hl 2 rfl) ?_
  refine lv_iload_n hx hb dX1_fill_4 rfl (lv_at hl 3 rfl) ?_
  refine gw_calli (As := [.int (nI 0), .int (f), .int (t), .int (x)]) (rest := []) cx (mtX1_change l D dZ dI h q σ (nI 0) f t x) mw_k_change mw_rec ⟨Nat.le_of_ble_eq_true rfl, Nat.le_of_ble_eq_true rfl, rfl, rfl⟩ hl.1 rfl rfl (Nat.le_of_ble_eq_true rfl) dX1_fill_5 ⟨Nat.zero_le _, Nat.zero_le _⟩ hw (fun H locs hw => ?_)
  exact hret dX1_fill_8 rfl rfl hw
abbrev rmX1_add : Room := { frames := 3, cells := 0, slots := 0, locals := 72 }
set_option maxHeartbeats 400000 in
set_option maxRecDepth 100000 in
theorem mtX1_add (l : Launch) (D : va_G) (dZ dI : ClassId) (h : Nat) (q : Nat → Nat) (σ : ca_S) (f t x : Int32) : gw_MI l D (xw_T dZ dI) (mw_ws dZ dI h q) h yX1_add cX1_add 4 .int rmX1_add [.int (f), .int (t), .int (x)] σ (cb_chR 1 f t x σ) (cb_chS 1 f t x σ) := by
  refine gw_entI (by decide) (Nat.le_of_ble_eq_true rfl) (rfl) ?_
  intro p e s m args below meth c A Q cx hret ls hl hw
  have hx := cx.1
  have hb := cx.2.1
  have hl : lv_has ls 4 [(0, .ref h), (1, .int (f)), (2, .int (t)), (3, .int (x))] := hl
  refine lv_aload_n hx hb dX1_add_0 rfl (lv_at hl 0 rfl) ?_
  refine lv_iconst (v := nI 1) hx hb dX1_add_1 (by decide) ?_
  refine lv_iload_n hx hb dX1_add_2 rfl (lv_at hl 1 rfl) ?_
  refine lv_iload_n hx hb dX1_add_3 rfl (lv_at hl 2 rfl) ?_
  refine lv_iload_n hx hb dX1_add_4 rfl (lv_at hl 3 rfl) ?_
  refine gw_calli (As := [.int (nI 1), .int (f), .int (t), .int (x)]) (rest := []) cx (mtX1_change l D dZ dI h q σ (nI 1) f t x) mw_k_change mw_rec ⟨Nat.le_of_ble_eq_true rfl, Nat.le_of_ble_eq_true rfl, rfl, rfl⟩ hl.1 rfl rfl (Nat.le_of_ble_eq_true rfl) dX1_add_5 ⟨Nat.zero_le _, Nat.zero_le _⟩ hw (fun H locs hw => ?_)
  exact hret dX1_add_8 rfl rfl hw
abbrev rmX1_scale : Room := { frames := 3, cells := 0, slots := 0, locals := 72 }
set_option maxHeartbeats 400000 in
set_option maxRecDepth 100000 in
theorem mtX1_scale (l : Launch) (D : va_G) (dZ dI : ClassId) (h : Nat) (q : Nat → Nat) (σ : ca_S) (f t x : Int32) : gw_MI l D (xw_T dZ dI) (mw_ws dZ dI h q) h yX1_scale cX1_scale 4 .int rmX1_scale [.int (f), .int (t), .int (x)] σ (cb_chR 2 f t x σ) (cb_chS 2 f t x σ) := by
  refine gw_entI (by decide) (Nat.le_of_ble_eq_true rfl) (rfl) ?_
  intro p e s m args below meth c A Q cx hret ls hl hw
  have hx := cx.1
  have hb := cx.2.1
  have hl : lv_has ls 4 [(0, .ref h), (1, .int (f)), (2, .int (t)), (3, .int (x))] := hl
  refine lv_aload_n hx hb dX1_scale_0 rfl (lv_at hl 0 rfl) ?_
  refine lv_iconst (v := nI 2) hx hb dX1_scale_1 (by decide) ?_
  refine lv_iload_n hx hb dX1_scale_2 rfl (lv_at hl 1 rfl) ?_
  refine lv_iload_n hx hb dX1_scale_3 rfl (lv_at hl 2 rfl) ?_
  refine lv_iload_n hx hb dX1_scale_4 rfl (lv_at hl 3 rfl) ?_
  refine gw_calli (As := [.int (nI 2), .int (f), .int (t), .int (x)]) (rest := []) cx (mtX1_change l D dZ dI h q σ (nI 2) f t x) mw_k_change mw_rec ⟨Nat.le_of_ble_eq_true rfl, Nat.le_of_ble_eq_true rfl, rfl, rfl⟩ hl.1 rfl rfl (Nat.le_of_ble_eq_true rfl) dX1_scale_5 ⟨Nat.zero_le _, Nat.zero_le _⟩ hw (fun H locs hw => ?_)
  exact hret dX1_scale_8 rfl rfl hw
abbrev rmX1_isVersion : Room := { frames := 0, cells := 0, slots := 0, locals := 0 }
set_option maxHeartbeats 400000 in
set_option maxRecDepth 100000 in
theorem mtX1_isVersion (l : Launch) (D : va_G) (dZ dI : ClassId) (h : Nat) (q : Nat → Nat) (σ : ca_S) (v : Int32) : gw_MI l D (xw_T dZ dI) (mw_ws dZ dI h q) h yX1_isVersion cX1_isVersion 2 .boolean rmX1_isVersion [.int (v)] σ (if cb_ver σ v then 1 else 0) (σ) := by
  refine gw_entI (by decide) (Nat.le_of_ble_eq_true rfl) (by split <;> rfl) ?_
  intro p e s m args below meth c A Q cx hret ls hl hw
  have hx := cx.1
  have hb := cx.2.1
  have hl : lv_has ls 2 [(0, .ref h), (1, .int (v))] := hl
  refine lv_iload_n hx hb dX1_isVersion_0 rfl (lv_at hl 1 rfl) ?_
  refine lv_if_lt (tgt := 22) hx hb dX1_isVersion_1 (by decide) (fun h1 => ?_) (fun h1 => ?_)
  · refine lv_iconst (v := nI 0) hx hb dX1_isVersion_22 (by decide) ?_
    exact hret dX1_isVersion_23 (if_neg (fun z => z.1 h1)).symm rfl hw
  · refine lv_iload_n hx hb dX1_isVersion_4 rfl (lv_at hl 1 rfl) ?_
    refine lv_iconst (v := nI 4) hx hb dX1_isVersion_5 (by decide) ?_
    refine lv_icmp_ge (tgt := 22) hx hb dX1_isVersion_6 (by decide) (fun h2 => ?_) (fun h2 => ?_)
    · refine lv_iconst (v := nI 0) hx hb dX1_isVersion_22 (by decide) ?_
      exact hret dX1_isVersion_23 (if_neg (fun z => z.2.1 h2)).symm rfl hw
    · obtain ⟨V, g1, rfl⟩ := cb_ver_nat h1 h2
      refine lv_aload_n hx hb dX1_isVersion_9 rfl (lv_at hl 0 rfl) ?_
      refine mw_g3 cx hw dX1_isVersion_10 ?_
      refine lv_iload_n hx hb dX1_isVersion_13 rfl (lv_at hl 1 rfl) ?_
      refine mw_l3 cx hw (by omega) dX1_isVersion_14 ?_
      refine lv_if_eq (tgt := 22) hx hb dX1_isVersion_15 (by decide) (fun h3 => ?_) (fun h3 => ?_)
      · refine lv_iconst (v := nI 0) hx hb dX1_isVersion_22 (by decide) ?_
        exact hret dX1_isVersion_23 (if_neg (fun z => z.2.2 (by rw [ca_cl (n := V) (by omega)]; exact h3))).symm rfl hw
      · refine lv_iconst (v := nI 1) hx hb dX1_isVersion_18 (by decide) ?_
        refine lv_goto (tgt := 23) hx hb dX1_isVersion_19 (by decide) ?_
        exact hret dX1_isVersion_23 (if_pos ⟨h1, h2, by rw [ca_cl (n := V) (by omega)]; exact h3⟩).symm rfl hw
abbrev rmX1_keep : Room := { frames := 0, cells := 0, slots := 0, locals := 0 }
set_option maxHeartbeats 400000 in
set_option maxRecDepth 100000 in
theorem mtX1_keep (l : Launch) (D : va_G) (dZ dI : ClassId) (h : Nat) (q : Nat → Nat) (σ : ca_S) (v : Int32) : gw_MI l D (xw_T dZ dI) (mw_ws dZ dI h q) h yX1_keep cX1_keep 3 .int rmX1_keep [.int (v)] σ (cb_kpR v σ) (cb_kpS v σ) := by
  refine gw_entI (by decide) (Nat.le_of_ble_eq_true rfl) (rfl) ?_
  intro p e s m args below meth c A Q cx hret ls hl hw
  have hx := cx.1
  have hb := cx.2.1
  have hl : lv_has ls 3 [(0, .ref h), (1, .int (v))] := hl
  refine lv_iload_n hx hb dX1_keep_0 rfl (lv_at hl 1 rfl) ?_
  refine lv_if_lt (tgt := 9) hx hb dX1_keep_1 (by decide) (fun h1 => ?_) (fun h1 => ?_)
  · refine lv_bipush (v := -2) hx hb dX1_keep_9 (by decide) ?_
    exact hret dX1_keep_11 (if_pos (Or.inl h1)).symm (if_pos (Or.inl h1)).symm hw
  · refine lv_iload_n hx hb dX1_keep_4 rfl (lv_at hl 1 rfl) ?_
    refine lv_iconst (v := nI 3) hx hb dX1_keep_5 (by decide) ?_
    refine lv_icmp_le (tgt := 12) hx hb dX1_keep_6 (by decide) (fun h2 => ?_) (fun h2 => ?_)
    · have h9 : ¬ (v < 0 ∨ 3 < v) := fun z => z.elim h1 (Int32.not_lt.mpr h2)
      obtain ⟨V, g1, rfl⟩ := ca_ver_nat h1 (Int32.not_lt.mpr h2)
      refine lv_aload_n hx hb dX1_keep_12 rfl (lv_at hl 0 rfl) ?_
      refine mw_g3 cx hw dX1_keep_13 ?_
      refine lv_iload_n hx hb dX1_keep_16 rfl (lv_at hl 1 rfl) ?_
      refine mw_l3 cx hw (by omega) dX1_keep_17 ?_
      refine lv_if_eq (tgt := 24) hx hb dX1_keep_18 (by decide) (fun h4 => ?_) (fun h4 => ?_)
      · have h5 : σ 3 (nI V).toNatClampNeg = 0 := by rw [ca_cl (n := V) (by omega)]; exact h4
        have loop : ∀ (n : Nat) (i : Nat) (u : ca_S), i + n = 256 → ca_it (cb_kp1 V) i n u = cb_kpN V σ → ∀ (H : Heap) (locs : List Loc) (ls : Array Slot), gw_W D A s.heap (mw_ws dZ dI h q) (u) H locs → lv_has ls 3 [(2, .int (nI i)), (0, .ref h), (1, .int (nI V))] → W p l e rmX1_keep s m args below meth c H locs 0 0 Q (F0 m 33 ls []) := by
          intro n
          induction n with
          | zero =>
            intro i u hi he H locs ls hw hl
            refine lv_iload_n hx hb dX1_keep_33 rfl (lv_at hl 0 rfl) ?_
            refine lv_sipush (v := nI 256) hx hb dX1_keep_34 (by decide) ?_
            refine nw_geT (tgt := 64) hx hb dX1_keep_37 (by decide) (by omega) (by omega) (by omega) ?_
            refine lv_iconst (v := nI 0) hx hb dX1_keep_64 (by decide) ?_
            exact hret dX1_keep_65 (by rw [cb_kpR, if_neg h9, if_pos h5]; rfl) (by rw [cb_kpS, if_neg h9, if_pos h5, ca_cl (n := V) (by omega)]; exact he) hw
          | succ n ih =>
            intro i u hi he H locs ls hw hl
            refine lv_iload_n hx hb dX1_keep_33 rfl (lv_at hl 0 rfl) ?_
            refine lv_sipush (v := nI 256) hx hb dX1_keep_34 (by decide) ?_
            refine nw_geF (tgt := 64) hx hb dX1_keep_37 (by decide) (by omega) (by omega) (by omega) ?_
            refine lv_aload_n hx hb dX1_keep_40 rfl (lv_at hl 1 rfl) ?_
            refine mw_g2 cx hw dX1_keep_41 ?_
            refine lv_iload_n hx hb dX1_keep_44 rfl (lv_at hl 2 rfl) ?_
            refine lv_sipush (v := nI 256) hx hb dX1_keep_45 (by decide) ?_
            refine nw_mul hx hb dX1_keep_48 ?_
            refine lv_iload_n hx hb dX1_keep_49 rfl (lv_at hl 0 rfl) ?_
            refine nw_add hx hb dX1_keep_50 ?_
            refine lv_aload_n hx hb dX1_keep_51 rfl (lv_at hl 1 rfl) ?_
            refine mw_g0 cx hw dX1_keep_52 ?_
            refine lv_iload_n hx hb dX1_keep_55 rfl (lv_at hl 0 rfl) ?_
            refine mw_l0 cx hw (by omega) dX1_keep_56 ?_
            refine mw_s2 cx hw (by omega) dX1_keep_57 (fun H locs hw => ?_)
            have hw : gw_W D A s.heap (mw_ws dZ dI h q) (cb_kp1 V i u) H locs := hw
            refine lv_iinc (v := nI (i + 1)) (lv' := [(2, .int (nI (i + 1))), (0, .ref h), (1, .int (nI V))]) hx hb dX1_keep_58 hl (k := 0) rfl (nI_1 _) (by decide) rfl (fun ls hl => ?_)
            refine lv_goto (tgt := 33) hx hb dX1_keep_61 (by decide) ?_
            exact ih (i + 1) (cb_kp1 V i u) (by omega) he H locs ls hw (lv_sub hl [0, 1, 2] rfl)
        refine lv_aload_n hx hb dX1_keep_24 rfl (lv_at hl 0 rfl) ?_
        refine mw_g3 cx hw dX1_keep_25 ?_
        refine lv_iload_n hx hb dX1_keep_28 rfl (lv_at hl 1 rfl) ?_
        refine lv_iconst (v := nI 1) hx hb dX1_keep_29 (by decide) ?_
        refine mw_s3 (v := 1) cx hw (by omega) rfl dX1_keep_30 (fun H locs hw => ?_)
        refine lv_iconst (v := nI 0) hx hb dX1_keep_31 (by decide) ?_
        refine lv_istore_n (lv' := [(2, .int (nI 0)), (0, .ref h), (1, .int (nI V))]) hx hb dX1_keep_32 rfl hl (by decide) rfl (fun ls hl => ?_)
        exact loop 256 0 _ rfl rfl _ _ _ hw (lv_sub hl [0, 1, 2] rfl)
      · have h5 : ¬ σ 3 (nI V).toNatClampNeg = 0 := by rw [ca_cl (n := V) (by omega)]; exact h4
        refine lv_bipush (v := -3) hx hb dX1_keep_21 (by decide) ?_
        exact hret dX1_keep_23 (by rw [cb_kpR, if_neg h9, if_neg h5]) (by rw [cb_kpS, if_neg h9, if_neg h5]) hw
    · refine lv_bipush (v := -2) hx hb dX1_keep_9 (by decide) ?_
      exact hret dX1_keep_11 (if_pos (Or.inr (Int32.not_le.mp h2))).symm (if_pos (Or.inr (Int32.not_le.mp h2))).symm hw
end
section
/-! ChunkArrayModel: contracts (copy) -/
abbrev rmX1_copy : Room := { frames := 2, cells := 0, slots := 0, locals := 46 }
set_option maxHeartbeats 400000 in
set_option maxRecDepth 100000 in
theorem mtX1_copy (l : Launch) (D : va_G) (dZ dI : ClassId) (h : Nat) (q : Nat → Nat) (σ : ca_S) (f t a : Int32) : gw_MI l D (xw_T dZ dI) (mw_ws dZ dI h q) h yX1_copy cX1_copy 10 .int rmX1_copy [.int (f), .int (t), .int (a)] σ (cb_cyR f t a σ) (cb_cyS f t a σ) := by
  refine gw_entI (by decide) (Nat.le_of_ble_eq_true rfl) (rfl) ?_
  intro p e s m args below meth c A Q cx hret ls hl hw
  have hx := cx.1
  have hb := cx.2.1
  have hl : lv_has ls 10 [(0, .ref h), (1, .int (f)), (2, .int (t)), (3, .int (a))] := hl
  refine lv_aload_n hx hb dX1_copy_0 rfl (lv_at hl 0 rfl) ?_
  refine lv_iload_n hx hb dX1_copy_1 rfl (lv_at hl 1 rfl) ?_
  refine gw_calli (As := [.int (f)]) (rest := []) cx (mtX1_isCell l D dZ dI h q σ f) mw_k_isCell mw_rec ⟨Nat.le_of_ble_eq_true rfl, Nat.le_of_ble_eq_true rfl, rfl, rfl⟩ hl.1 rfl rfl (Nat.le_of_ble_eq_true rfl) dX1_copy_2 ⟨Nat.zero_le _, Nat.zero_le _⟩ hw (fun H locs hw => ?_)
  refine lv_if_eq (tgt := 24) hx hb dX1_copy_5 (by decide) (fun h1 => ?_) (fun h1 => ?_)
  · refine lv_iconst (v := -1) hx hb dX1_copy_24 (by decide) ?_
    exact hret dX1_copy_25 (if_neg (fun z => ca_iff h1 (z.1))).symm (if_neg (fun z => ca_iff h1 (z.1))).symm hw
  · refine lv_aload_n hx hb dX1_copy_8 rfl (lv_at hl 0 rfl) ?_
    refine lv_iload_n hx hb dX1_copy_9 rfl (lv_at hl 2 rfl) ?_
    refine gw_calli (As := [.int (t)]) (rest := []) cx (mtX1_isCell l D dZ dI h q σ t) mw_k_isCell mw_rec ⟨Nat.le_of_ble_eq_true rfl, Nat.le_of_ble_eq_true rfl, rfl, rfl⟩ hl.1 rfl rfl (Nat.le_of_ble_eq_true rfl) dX1_copy_10 ⟨Nat.zero_le _, Nat.zero_le _⟩ hw (fun H locs hw => ?_)
    refine lv_if_eq (tgt := 24) hx hb dX1_copy_13 (by decide) (fun h2 => ?_) (fun h2 => ?_)
    · refine lv_iconst (v := -1) hx hb dX1_copy_24 (by decide) ?_
      exact hret dX1_copy_25 (if_neg (fun z => ca_iff h2 (z.2.1))).symm (if_neg (fun z => ca_iff h2 (z.2.1))).symm hw
    · refine lv_aload_n hx hb dX1_copy_16 rfl (lv_at hl 0 rfl) ?_
      refine lv_iload_n hx hb dX1_copy_17 rfl (lv_at hl 3 rfl) ?_
      refine gw_calli (As := [.int (a)]) (rest := []) cx (mtX1_isCell l D dZ dI h q σ a) mw_k_isCell mw_rec ⟨Nat.le_of_ble_eq_true rfl, Nat.le_of_ble_eq_true rfl, rfl, rfl⟩ hl.1 rfl rfl (Nat.le_of_ble_eq_true rfl) dX1_copy_18 ⟨Nat.zero_le _, Nat.zero_le _⟩ hw (fun H locs hw => ?_)
      refine lv_if_ne (tgt := 26) hx hb dX1_copy_21 (by decide) (fun h3 => ?_) (fun h3 => ?_)
      rotate_left
      · refine lv_iconst (v := -1) hx hb dX1_copy_24 (by decide) ?_
        exact hret dX1_copy_25 (if_neg (fun z => ca_iff h3 (z.2.2))).symm (if_neg (fun z => ca_iff h3 (z.2.2))).symm hw
      · have h9 := (⟨ca_ift h1, ca_ift h2, ca_ift h3⟩ : cb_cell f ∧ cb_cell t ∧ cb_cell a)
        obtain ⟨F, g1, rfl⟩ := cb_cell_nat (ca_ift h1)
        obtain ⟨T, g2, rfl⟩ := cb_cell_nat (ca_ift h2)
        obtain ⟨B, g3, rfl⟩ := cb_cell_nat (ca_ift h3)
        have loop : ∀ (n : Nat) (i : Nat) (u : ca_S) (z : Nat), i + n = 256 → ca_it (cb_cy1 F T B) i n (u, z) = cb_cyN F T B σ → ∀ (H : Heap) (locs : List Loc) (ls : Array Slot), gw_W D A s.heap (mw_ws dZ dI h q) (u) H locs → lv_has ls 10 [(6, .int (nI z)), (7, .int (nI i)), (4, .int (nI (ca_mn (F % 16) (T % 16)))), (5, .int (nI (ca_mn (F / 16) (T / 16)))), (0, .ref h), (1, .int (nI F)), (2, .int (nI T)), (3, .int (nI B))] → W p l e rmX1_copy s m args below meth c H locs 0 0 Q (F0 m 107 ls []) := by
          intro n
          induction n with
          | zero =>
            intro i u z hi he H locs ls hw hl
            refine lv_iload hx hb dX1_copy_107 (lv_at hl 1 rfl) ?_
            refine lv_sipush (v := nI 256) hx hb dX1_copy_109 (by decide) ?_
            refine nw_geT (tgt := 197) hx hb dX1_copy_112 (by decide) (by omega) (by omega) (by omega) ?_
            refine lv_iload hx hb dX1_copy_197 (lv_at hl 0 rfl) ?_
            exact hret dX1_copy_199 (by rw [cb_cyR, if_pos h9, ca_cl (n := F) (by omega), ca_cl (n := T) (by omega), ca_cl (n := B) (by omega)]; exact congrArg nI (congrArg Prod.snd he)) (by rw [cb_cyS, if_pos h9, ca_cl (n := F) (by omega), ca_cl (n := T) (by omega), ca_cl (n := B) (by omega)]; exact congrArg Prod.fst he) hw
          | succ n ih =>
            intro i u z hi he H locs ls hw hl
            refine lv_iload hx hb dX1_copy_107 (lv_at hl 1 rfl) ?_
            refine lv_sipush (v := nI 256) hx hb dX1_copy_109 (by decide) ?_
            refine nw_geF (tgt := 197) hx hb dX1_copy_112 (by decide) (by omega) (by omega) (by omega) ?_
            refine lv_iload hx hb dX1_copy_115 (lv_at hl 1 rfl) ?_
            refine lv_bipush (v := nI 15) hx hb dX1_copy_117 (by decide) ?_
            refine nw_and15 hx hb dX1_copy_119 (by omega) ?_
            refine lv_iload hx hb dX1_copy_120 (lv_at hl 2 rfl) ?_
            refine lv_isub hx hb dX1_copy_122 ?_
            refine lv_iload_n hx hb dX1_copy_123 rfl (lv_at hl 7 rfl) ?_
            refine lv_bipush (v := nI 15) hx hb dX1_copy_124 (by decide) ?_
            refine nw_and15 hx hb dX1_copy_126 (by omega) ?_
            refine lv_iadd hx hb dX1_copy_127 ?_
            refine lv_istore (lv' := [(8, .int (((nI (i % 16)) - (nI (ca_mn (F % 16) (T % 16)))) + (nI (B % 16)))), (6, .int (nI z)), (7, .int (nI i)), (4, .int (nI (ca_mn (F % 16) (T % 16)))), (5, .int (nI (ca_mn (F / 16) (T / 16)))), (0, .ref h), (1, .int (nI F)), (2, .int (nI T)), (3, .int (nI B))]) hx hb dX1_copy_128 hl (by decide) rfl (fun ls hl => ?_)
            refine lv_iload hx hb dX1_copy_130 (lv_at hl 2 rfl) ?_
            refine lv_iconst (v := nI 4) hx hb dX1_copy_132 (by decide) ?_
            refine nw_shr4 hx hb dX1_copy_133 (by omega) ?_
            refine lv_iload hx hb dX1_copy_134 (lv_at hl 4 rfl) ?_
            refine lv_isub hx hb dX1_copy_136 ?_
            refine lv_iload_n hx hb dX1_copy_137 rfl (lv_at hl 8 rfl) ?_
            refine lv_iconst (v := nI 4) hx hb dX1_copy_138 (by decide) ?_
            refine nw_shr4 hx hb dX1_copy_139 (by omega) ?_
            refine lv_iadd hx hb dX1_copy_140 ?_
            refine lv_istore (lv' := [(9, .int (((nI (i / 16)) - (nI (ca_mn (F / 16) (T / 16)))) + (nI (B / 16)))), (8, .int (((nI (i % 16)) - (nI (ca_mn (F % 16) (T % 16)))) + (nI (B % 16)))), (6, .int (nI z)), (7, .int (nI i)), (4, .int (nI (ca_mn (F % 16) (T % 16)))), (5, .int (nI (ca_mn (F / 16) (T / 16)))), (0, .ref h), (1, .int (nI F)), (2, .int (nI T)), (3, .int (nI B))]) hx hb dX1_copy_141 hl (by decide) rfl (fun ls hl => ?_)
            refine lv_aload_n hx hb dX1_copy_143 rfl (lv_at hl 6 rfl) ?_
            refine lv_iload hx hb dX1_copy_144 (lv_at hl 3 rfl) ?_
            refine lv_iload_n hx hb dX1_copy_146 rfl (lv_at hl 7 rfl) ?_
            refine lv_iload_n hx hb dX1_copy_147 rfl (lv_at hl 8 rfl) ?_
            refine gw_calli (As := [.int (nI i), .int (nI F), .int (nI T)]) (rest := []) cx (mtX1_inside l D dZ dI h q u (by omega) (by omega) (by omega)) mw_k_inside mw_rec ⟨Nat.le_of_ble_eq_true rfl, Nat.le_of_ble_eq_true rfl, rfl, rfl⟩ hl.1 rfl rfl (Nat.le_of_ble_eq_true rfl) dX1_copy_148 ⟨Nat.zero_le _, Nat.zero_le _⟩ hw (fun H locs hw => ?_)
            refine lv_if_eq (tgt := 191) hx hb dX1_copy_151 (by decide) (fun h4 => ?_) (fun h4 => ?_)
            · refine lv_iinc (v := nI (i + 1)) (lv' := [(7, .int (nI (i + 1))), (9, .int (((nI (i / 16)) - (nI (ca_mn (F / 16) (T / 16)))) + (nI (B / 16)))), (8, .int (((nI (i % 16)) - (nI (ca_mn (F % 16) (T % 16)))) + (nI (B % 16)))), (6, .int (nI z)), (4, .int (nI (ca_mn (F % 16) (T % 16)))), (5, .int (nI (ca_mn (F / 16) (T / 16)))), (0, .ref h), (1, .int (nI F)), (2, .int (nI T)), (3, .int (nI B))]) hx hb dX1_copy_191 hl (k := 3) rfl (nI_1 _) (by decide) rfl (fun ls hl => ?_)
              refine lv_goto (tgt := 107) hx hb dX1_copy_194 (by decide) ?_
              exact ih (i + 1) u z (by omega) (by rw [← he, ca_it_s, show cb_cy1 F T B i (u, z) = (u, z) from if_neg (fun z => ca_iff h4 z.1)]) H locs ls hw (lv_sub hl [3, 0, 4, 5, 6, 7, 8, 9] rfl)
            · have h5 := ca_ift h4
              have k1 : ca_mn (F % 16) (T % 16) ≤ i % 16 := cb_lo h5.1
              have k2 : ca_mn (F / 16) (T / 16) ≤ i / 16 := cb_lo h5.2
              have e1 : nI (i % 16) - nI (ca_mn (F % 16) (T % 16)) + nI (B % 16) = nI (i % 16 - ca_mn (F % 16) (T % 16) + B % 16) := by rw [pk_sub k1, nI_add]
              have e2 : nI (i / 16) - nI (ca_mn (F / 16) (T / 16)) + nI (B / 16) = nI (i / 16 - ca_mn (F / 16) (T / 16) + B / 16) := by rw [pk_sub k2, nI_add]
              rw [e1, e2] at hl
              refine lv_iload hx hb dX1_copy_154 (lv_at hl 1 rfl) ?_
              refine lv_bipush (v := nI 16) hx hb dX1_copy_156 (by decide) ?_
              refine nw_ge (tgt := 191) hx hb dX1_copy_158 (by decide) (by omega) (by omega) (fun h6 => ?_) (fun h6 => ?_)
              · refine lv_iinc (v := nI (i + 1)) (lv' := [(7, .int (nI (i + 1))), (9, .int (nI (i / 16 - ca_mn (F / 16) (T / 16) + B / 16))), (8, .int (nI (i % 16 - ca_mn (F % 16) (T % 16) + B % 16))), (6, .int (nI z)), (4, .int (nI (ca_mn (F % 16) (T % 16)))), (5, .int (nI (ca_mn (F / 16) (T / 16)))), (0, .ref h), (1, .int (nI F)), (2, .int (nI T)), (3, .int (nI B))]) hx hb dX1_copy_191 hl (k := 3) rfl (nI_1 _) (by decide) rfl (fun ls hl => ?_)
                refine lv_goto (tgt := 107) hx hb dX1_copy_194 (by decide) ?_
                exact ih (i + 1) u z (by omega) (by rw [← he, ca_it_s, show cb_cy1 F T B i (u, z) = (u, z) from if_neg (fun z => absurd z.2.1 (by omega))]) H locs ls hw (lv_sub hl [3, 0, 4, 5, 6, 7, 8, 9] rfl)
              · refine lv_iload hx hb dX1_copy_161 (lv_at hl 0 rfl) ?_
                refine lv_bipush (v := nI 16) hx hb dX1_copy_163 (by decide) ?_
                refine nw_ge (tgt := 191) hx hb dX1_copy_165 (by decide) (by omega) (by omega) (fun h7 => ?_) (fun h7 => ?_)
                · refine lv_iinc (v := nI (i + 1)) (lv' := [(7, .int (nI (i + 1))), (9, .int (nI (i / 16 - ca_mn (F / 16) (T / 16) + B / 16))), (8, .int (nI (i % 16 - ca_mn (F % 16) (T % 16) + B % 16))), (6, .int (nI z)), (4, .int (nI (ca_mn (F % 16) (T % 16)))), (5, .int (nI (ca_mn (F / 16) (T / 16)))), (0, .ref h), (1, .int (nI F)), (2, .int (nI T)), (3, .int (nI B))]) hx hb dX1_copy_191 hl (k := 3) rfl (nI_1 _) (by decide) rfl (fun ls hl => ?_)
                  refine lv_goto (tgt := 107) hx hb dX1_copy_194 (by decide) ?_
                  exact ih (i + 1) u z (by omega) (by rw [← he, ca_it_s, show cb_cy1 F T B i (u, z) = (u, z) from if_neg (fun z => absurd z.2.2 (by omega))]) H locs ls hw (lv_sub hl [3, 0, 4, 5, 6, 7, 8, 9] rfl)
                · refine lv_aload_n hx hb dX1_copy_168 rfl (lv_at hl 6 rfl) ?_
                  refine mw_g0 cx hw dX1_copy_169 ?_
                  refine lv_iload hx hb dX1_copy_172 (lv_at hl 1 rfl) ?_
                  refine lv_bipush (v := nI 16) hx hb dX1_copy_174 (by decide) ?_
                  refine lv_iload hx hb dX1_copy_176 (lv_at hl 0 rfl) ?_
                  refine nw_mul hx hb dX1_copy_178 ?_
                  refine nw_add hx hb dX1_copy_179 ?_
                  refine lv_aload_n hx hb dX1_copy_180 rfl (lv_at hl 6 rfl) ?_
                  refine mw_g1 cx hw dX1_copy_181 ?_
                  refine lv_iload hx hb dX1_copy_184 (lv_at hl 3 rfl) ?_
                  refine mw_l1 cx hw (by omega) dX1_copy_186 ?_
                  refine mw_s0 cx hw (by omega) dX1_copy_187 (fun H locs hw => ?_)
                  have hw : gw_W D A s.heap (mw_ws dZ dI h q) (ca_up u 0 (cb_to F T B i) (u 1 i)) H locs := hw
                  refine lv_iinc (v := nI (z + 1)) (lv' := [(6, .int (nI (z + 1))), (9, .int (nI (i / 16 - ca_mn (F / 16) (T / 16) + B / 16))), (8, .int (nI (i % 16 - ca_mn (F % 16) (T % 16) + B % 16))), (7, .int (nI i)), (4, .int (nI (ca_mn (F % 16) (T % 16)))), (5, .int (nI (ca_mn (F / 16) (T / 16)))), (0, .ref h), (1, .int (nI F)), (2, .int (nI T)), (3, .int (nI B))]) hx hb dX1_copy_188 hl (k := 2) rfl (nI_1 _) (by decide) rfl (fun ls hl => ?_)
                  refine lv_iinc (v := nI (i + 1)) (lv' := [(7, .int (nI (i + 1))), (6, .int (nI (z + 1))), (9, .int (nI (i / 16 - ca_mn (F / 16) (T / 16) + B / 16))), (8, .int (nI (i % 16 - ca_mn (F % 16) (T % 16) + B % 16))), (4, .int (nI (ca_mn (F % 16) (T % 16)))), (5, .int (nI (ca_mn (F / 16) (T / 16)))), (0, .ref h), (1, .int (nI F)), (2, .int (nI T)), (3, .int (nI B))]) hx hb dX1_copy_191 hl (k := 3) rfl (nI_1 _) (by decide) rfl (fun ls hl => ?_)
                  refine lv_goto (tgt := 107) hx hb dX1_copy_194 (by decide) ?_
                  exact ih (i + 1) (ca_up u 0 (cb_to F T B i) (u 1 i)) (z + 1) (by omega) (by rw [← he, ca_it_s, show cb_cy1 F T B i (u, z) = (ca_up u 0 (cb_to F T B i) (u 1 i), z + 1) from if_pos ⟨h5, h6, h7⟩]) H locs ls hw (lv_sub hl [1, 0, 4, 5, 6, 7, 8, 9] rfl)
        have loopA : ∀ (n : Nat) (i : Nat) (u : ca_S), i + n = 256 → ca_it cb_bf1 i n u = ca_it cb_bf1 0 256 σ → ∀ (H : Heap) (locs : List Loc) (ls : Array Slot), gw_W D A s.heap (mw_ws dZ dI h q) (u) H locs → lv_has ls 10 [(7, .int (nI i)), (6, .int (nI 0)), (4, .int (nI (ca_mn (F % 16) (T % 16)))), (5, .int (nI (ca_mn (F / 16) (T / 16)))), (0, .ref h), (1, .int (nI F)), (2, .int (nI T)), (3, .int (nI B))] → W p l e rmX1_copy s m args below meth c H locs 0 0 Q (F0 m 76 ls []) := by
          intro n
          induction n with
          | zero =>
            intro i u hi he H locs ls hw hl
            refine lv_iload hx hb dX1_copy_76 (lv_at hl 0 rfl) ?_
            refine lv_sipush (v := nI 256) hx hb dX1_copy_78 (by decide) ?_
            refine nw_geT (tgt := 104) hx hb dX1_copy_81 (by decide) (by omega) (by omega) (by omega) ?_
            have he : u = ca_it cb_bf1 0 256 σ := he
            refine lv_iconst (v := nI 0) hx hb dX1_copy_104 (by decide) ?_
            refine lv_istore (lv' := [(7, .int (nI 0)), (6, .int (nI 0)), (4, .int (nI (ca_mn (F % 16) (T % 16)))), (5, .int (nI (ca_mn (F / 16) (T / 16)))), (0, .ref h), (1, .int (nI F)), (2, .int (nI T)), (3, .int (nI B))]) hx hb dX1_copy_105 hl (by decide) rfl (fun ls hl => ?_)
            exact loop 256 0 u 0 rfl (by rw [he]; rfl) H locs ls hw (lv_sub hl [1, 0, 2, 3, 4, 5, 6, 7] rfl)
          | succ n ihA =>
            intro i u hi he H locs ls hw hl
            refine lv_iload hx hb dX1_copy_76 (lv_at hl 0 rfl) ?_
            refine lv_sipush (v := nI 256) hx hb dX1_copy_78 (by decide) ?_
            refine nw_geF (tgt := 104) hx hb dX1_copy_81 (by decide) (by omega) (by omega) (by omega) ?_
            refine lv_aload_n hx hb dX1_copy_84 rfl (lv_at hl 4 rfl) ?_
            refine mw_g1 cx hw dX1_copy_85 ?_
            refine lv_iload hx hb dX1_copy_88 (lv_at hl 0 rfl) ?_
            refine lv_aload_n hx hb dX1_copy_90 rfl (lv_at hl 4 rfl) ?_
            refine mw_g0 cx hw dX1_copy_91 ?_
            refine lv_iload hx hb dX1_copy_94 (lv_at hl 0 rfl) ?_
            refine mw_l0 cx hw (by omega) dX1_copy_96 ?_
            refine mw_s1 cx hw (by omega) dX1_copy_97 (fun H locs hw => ?_)
            have hw : gw_W D A s.heap (mw_ws dZ dI h q) (cb_bf1 i u) H locs := hw
            refine lv_iinc (v := nI (i + 1)) (lv' := [(7, .int (nI (i + 1))), (6, .int (nI 0)), (4, .int (nI (ca_mn (F % 16) (T % 16)))), (5, .int (nI (ca_mn (F / 16) (T / 16)))), (0, .ref h), (1, .int (nI F)), (2, .int (nI T)), (3, .int (nI B))]) hx hb dX1_copy_98 hl (k := 0) rfl (nI_1 _) (by decide) rfl (fun ls hl => ?_)
            refine lv_goto (tgt := 76) hx hb dX1_copy_101 (by decide) ?_
            exact ihA (i + 1) (cb_bf1 i u) (by omega) he H locs ls hw (lv_sub hl [0, 1, 2, 3, 4, 5, 6, 7] rfl)
        have tail2 : ∀  (H : Heap) (locs : List Loc) (ls : Array Slot), gw_W D A s.heap (mw_ws dZ dI h q) (σ) H locs → lv_has ls 10 [(4, .int (nI (ca_mn (F % 16) (T % 16)))), (0, .ref h), (1, .int (nI F)), (2, .int (nI T)), (3, .int (nI B))] → W p l e rmX1_copy s m args below meth c H locs 0 0 Q (F0 m 68 ls [.int (nI (ca_mn (F / 16) (T / 16)))]) := by
          intro H locs ls hw hl
          refine lv_istore (lv' := [(5, .int (nI (ca_mn (F / 16) (T / 16)))), (4, .int (nI (ca_mn (F % 16) (T % 16)))), (0, .ref h), (1, .int (nI F)), (2, .int (nI T)), (3, .int (nI B))]) hx hb dX1_copy_68 hl (by decide) rfl (fun ls hl => ?_)
          refine lv_iconst (v := nI 0) hx hb dX1_copy_70 (by decide) ?_
          refine lv_istore (lv' := [(6, .int (nI 0)), (5, .int (nI (ca_mn (F / 16) (T / 16)))), (4, .int (nI (ca_mn (F % 16) (T % 16)))), (0, .ref h), (1, .int (nI F)), (2, .int (nI T)), (3, .int (nI B))]) hx hb dX1_copy_71 hl (by decide) rfl (fun ls hl => ?_)
          refine lv_iconst (v := nI 0) hx hb dX1_copy_73 (by decide) ?_
          refine lv_istore (lv' := [(7, .int (nI 0)), (6, .int (nI 0)), (5, .int (nI (ca_mn (F / 16) (T / 16)))), (4, .int (nI (ca_mn (F % 16) (T % 16)))), (0, .ref h), (1, .int (nI F)), (2, .int (nI T)), (3, .int (nI B))]) hx hb dX1_copy_74 hl (by decide) rfl (fun ls hl => ?_)
          exact loopA 256 0 σ rfl rfl H locs ls hw (lv_sub hl [0, 1, 3, 2, 4, 5, 6, 7] rfl)
        have tail1 : ∀  (H : Heap) (locs : List Loc) (ls : Array Slot), gw_W D A s.heap (mw_ws dZ dI h q) (σ) H locs → lv_has ls 10 [(0, .ref h), (1, .int (nI F)), (2, .int (nI T)), (3, .int (nI B))] → W p l e rmX1_copy s m args below meth c H locs 0 0 Q (F0 m 48 ls [.int (nI (ca_mn (F % 16) (T % 16)))]) := by
          intro H locs ls hw hl
          refine lv_istore (lv' := [(4, .int (nI (ca_mn (F % 16) (T % 16)))), (0, .ref h), (1, .int (nI F)), (2, .int (nI T)), (3, .int (nI B))]) hx hb dX1_copy_48 hl (by decide) rfl (fun ls hl => ?_)
          refine lv_iload_n hx hb dX1_copy_50 rfl (lv_at hl 2 rfl) ?_
          refine lv_iconst (v := nI 4) hx hb dX1_copy_51 (by decide) ?_
          refine nw_shr4 hx hb dX1_copy_52 (by omega) ?_
          refine lv_iload_n hx hb dX1_copy_53 rfl (lv_at hl 3 rfl) ?_
          refine lv_iconst (v := nI 4) hx hb dX1_copy_54 (by decide) ?_
          refine nw_shr4 hx hb dX1_copy_55 (by omega) ?_
          refine nw_ge (tgt := 65) hx hb dX1_copy_56 (by decide) (by omega) (by omega) (fun h5 => ?_) (fun h5 => ?_)
          · refine lv_iload_n hx hb dX1_copy_65 rfl (lv_at hl 3 rfl) ?_
            refine lv_iconst (v := nI 4) hx hb dX1_copy_66 (by decide) ?_
            refine nw_shr4 hx hb dX1_copy_67 (by omega) ?_
            refine gw_top (w := nI (ca_mn (F / 16) (T / 16))) (congrArg nI (if_neg (Nat.not_lt.mpr h5)).symm) ?_
            exact tail2 H locs ls hw (lv_sub hl [0, 1, 2, 3, 4] rfl)
          · refine lv_iload_n hx hb dX1_copy_59 rfl (lv_at hl 2 rfl) ?_
            refine lv_iconst (v := nI 4) hx hb dX1_copy_60 (by decide) ?_
            refine nw_shr4 hx hb dX1_copy_61 (by omega) ?_
            refine lv_goto (tgt := 68) hx hb dX1_copy_62 (by decide) ?_
            refine gw_top (w := nI (ca_mn (F / 16) (T / 16))) (congrArg nI (if_pos h5).symm) ?_
            exact tail2 H locs ls hw (lv_sub hl [0, 1, 2, 3, 4] rfl)
        refine lv_iload_n hx hb dX1_copy_26 rfl (lv_at hl 1 rfl) ?_
        refine lv_bipush (v := nI 15) hx hb dX1_copy_27 (by decide) ?_
        refine nw_and15 hx hb dX1_copy_29 (by omega) ?_
        refine lv_iload_n hx hb dX1_copy_30 rfl (lv_at hl 2 rfl) ?_
        refine lv_bipush (v := nI 15) hx hb dX1_copy_31 (by decide) ?_
        refine nw_and15 hx hb dX1_copy_33 (by omega) ?_
        refine nw_ge (tgt := 44) hx hb dX1_copy_34 (by decide) (by omega) (by omega) (fun h4 => ?_) (fun h4 => ?_)
        · refine lv_iload_n hx hb dX1_copy_44 rfl (lv_at hl 2 rfl) ?_
          refine lv_bipush (v := nI 15) hx hb dX1_copy_45 (by decide) ?_
          refine nw_and15 hx hb dX1_copy_47 (by omega) ?_
          refine gw_top (w := nI (ca_mn (F % 16) (T % 16))) (congrArg nI (if_neg (Nat.not_lt.mpr h4)).symm) ?_
          exact tail1 _ _ _ hw (lv_sub hl [0, 1, 2, 3] rfl)
        · refine lv_iload_n hx hb dX1_copy_37 rfl (lv_at hl 1 rfl) ?_
          refine lv_bipush (v := nI 15) hx hb dX1_copy_38 (by decide) ?_
          refine nw_and15 hx hb dX1_copy_40 (by omega) ?_
          refine lv_goto (tgt := 48) hx hb dX1_copy_41 (by decide) ?_
          refine gw_top (w := nI (ca_mn (F % 16) (T % 16))) (congrArg nI (if_pos h4).symm) ?_
          exact tail1 _ _ _ hw (lv_sub hl [0, 1, 2, 3] rfl)
end
section
/-! ChunkArrayModel: contracts (differ, restore, drop, get, getOf, sum, greatest, count) -/
abbrev rmX1_differ : Room := { frames := 1, cells := 0, slots := 0, locals := 21 }
set_option maxHeartbeats 400000 in
set_option maxRecDepth 100000 in
theorem mtX1_differ (l : Launch) (D : va_G) (dZ dI : ClassId) (h : Nat) (q : Nat → Nat) (σ : ca_S) (v : Int32) : gw_MI l D (xw_T dZ dI) (mw_ws dZ dI h q) h yX1_differ cX1_differ 4 .int rmX1_differ [.int (v)] σ (cb_dfR v σ) (σ) := by
  refine gw_entI (by decide) (Nat.le_of_ble_eq_true rfl) (rfl) ?_
  intro p e s m args below meth c A Q cx hret ls hl hw
  have hx := cx.1
  have hb := cx.2.1
  have hl : lv_has ls 4 [(0, .ref h), (1, .int (v))] := hl
  refine lv_aload_n hx hb dX1_differ_0 rfl (lv_at hl 0 rfl) ?_
  refine lv_iload_n hx hb dX1_differ_1 rfl (lv_at hl 1 rfl) ?_
  refine gw_calli (As := [.int (v)]) (rest := []) cx (mtX1_isVersion l D dZ dI h q σ v) mw_k_isVersion mw_rec ⟨Nat.le_of_ble_eq_true rfl, Nat.le_of_ble_eq_true rfl, rfl, rfl⟩ hl.1 rfl rfl (Nat.le_of_ble_eq_true rfl) dX1_differ_2 ⟨Nat.zero_le _, Nat.zero_le _⟩ hw (fun H locs hw => ?_)
  refine lv_if_ne (tgt := 11) hx hb dX1_differ_5 (by decide) (fun h1 => ?_) (fun h1 => ?_)
  · have h9 := ca_ift h1
    obtain ⟨V, g1, rfl⟩ := cb_ver_nat h9.1 h9.2.1
    have loop : ∀ (n : Nat) (i z : Nat), i + n = 256 → ca_it (cb_df1 σ V) i n z = cb_df σ V → ∀ (H : Heap) (locs : List Loc) (ls : Array Slot), gw_W D A s.heap (mw_ws dZ dI h q) (σ) H locs → lv_has ls 4 [(2, .int (nI z)), (3, .int (nI i)), (0, .ref h), (1, .int (nI V))] → W p l e rmX1_differ s m args below meth c H locs 0 0 Q (F0 m 15 ls []) := by
      intro n
      induction n with
      | zero =>
        intro i z hi he H locs ls hw hl
        refine lv_iload_n hx hb dX1_differ_15 rfl (lv_at hl 1 rfl) ?_
        refine lv_sipush (v := nI 256) hx hb dX1_differ_16 (by decide) ?_
        refine nw_geT (tgt := 52) hx hb dX1_differ_19 (by decide) (by omega) (by omega) (by omega) ?_
        refine lv_iload_n hx hb dX1_differ_52 rfl (lv_at hl 0 rfl) ?_
        exact hret dX1_differ_53 (by rw [cb_dfR, if_pos h9, ca_cl (n := V) (by omega)]; exact congrArg nI he) rfl hw
      | succ n ih =>
        intro i z hi he H locs ls hw hl
        refine lv_iload_n hx hb dX1_differ_15 rfl (lv_at hl 1 rfl) ?_
        refine lv_sipush (v := nI 256) hx hb dX1_differ_16 (by decide) ?_
        refine nw_geF (tgt := 52) hx hb dX1_differ_19 (by decide) (by omega) (by omega) (by omega) ?_
        refine lv_aload_n hx hb dX1_differ_22 rfl (lv_at hl 2 rfl) ?_
        refine mw_g0 cx hw dX1_differ_23 ?_
        refine lv_iload_n hx hb dX1_differ_26 rfl (lv_at hl 1 rfl) ?_
        refine mw_l0 cx hw (by omega) dX1_differ_27 ?_
        refine lv_aload_n hx hb dX1_differ_28 rfl (lv_at hl 2 rfl) ?_
        refine mw_g2 cx hw dX1_differ_29 ?_
        refine lv_iload_n hx hb dX1_differ_32 rfl (lv_at hl 3 rfl) ?_
        refine lv_sipush (v := nI 256) hx hb dX1_differ_33 (by decide) ?_
        refine nw_mul hx hb dX1_differ_36 ?_
        refine lv_iload_n hx hb dX1_differ_37 rfl (lv_at hl 1 rfl) ?_
        refine nw_add hx hb dX1_differ_38 ?_
        refine mw_l2 cx hw (by omega) dX1_differ_39 ?_
        refine lv_icmp_eq (tgt := 46) hx hb dX1_differ_40 (by decide) (fun h2 => ?_) (fun h2 => ?_)
        · refine lv_iinc (v := nI (i + 1)) (lv' := [(3, .int (nI (i + 1))), (2, .int (nI z)), (0, .ref h), (1, .int (nI V))]) hx hb dX1_differ_46 hl (k := 1) rfl (nI_1 _) (by decide) rfl (fun ls hl => ?_)
          refine lv_goto (tgt := 15) hx hb dX1_differ_49 (by decide) ?_
          exact ih (i + 1) z (by omega) (by rw [← he, ca_it_s, show cb_df1 σ V i z = z from if_pos h2]) H locs ls hw (lv_sub hl [1, 0, 2, 3] rfl)
        · refine lv_iinc (v := nI (z + 1)) (lv' := [(2, .int (nI (z + 1))), (3, .int (nI i)), (0, .ref h), (1, .int (nI V))]) hx hb dX1_differ_43 hl (k := 0) rfl (nI_1 _) (by decide) rfl (fun ls hl => ?_)
          refine lv_iinc (v := nI (i + 1)) (lv' := [(3, .int (nI (i + 1))), (2, .int (nI (z + 1))), (0, .ref h), (1, .int (nI V))]) hx hb dX1_differ_46 hl (k := 1) rfl (nI_1 _) (by decide) rfl (fun ls hl => ?_)
          refine lv_goto (tgt := 15) hx hb dX1_differ_49 (by decide) ?_
          exact ih (i + 1) (z + 1) (by omega) (by rw [← he, ca_it_s, show cb_df1 σ V i z = z + 1 from if_neg h2]) H locs ls hw (lv_sub hl [1, 0, 2, 3] rfl)
    refine lv_iconst (v := nI 0) hx hb dX1_differ_11 (by decide) ?_
    refine lv_istore_n (lv' := [(2, .int (nI 0)), (0, .ref h), (1, .int (nI V))]) hx hb dX1_differ_12 rfl hl (by decide) rfl (fun ls hl => ?_)
    refine lv_iconst (v := nI 0) hx hb dX1_differ_13 (by decide) ?_
    refine lv_istore_n (lv' := [(3, .int (nI 0)), (2, .int (nI 0)), (0, .ref h), (1, .int (nI V))]) hx hb dX1_differ_14 rfl hl (by decide) rfl (fun ls hl => ?_)
    exact loop 256 0 0 rfl rfl _ _ _ hw (lv_sub hl [1, 0, 2, 3] rfl)
  · refine lv_bipush (v := -2) hx hb dX1_differ_8 (by decide) ?_
    exact hret dX1_differ_10 (if_neg (ca_iff h1)).symm rfl hw
abbrev rmX1_restore : Room := { frames := 2, cells := 0, slots := 0, locals := 44 }
set_option maxHeartbeats 400000 in
set_option maxRecDepth 100000 in
theorem mtX1_restore (l : Launch) (D : va_G) (dZ dI : ClassId) (h : Nat) (q : Nat → Nat) (σ : ca_S) (v : Int32) : gw_MI l D (xw_T dZ dI) (mw_ws dZ dI h q) h yX1_restore cX1_restore 4 .int rmX1_restore [.int (v)] σ (cb_dfR v σ) (cb_rsS v σ) := by
  refine gw_entI (by decide) (Nat.le_of_ble_eq_true rfl) (rfl) ?_
  intro p e s m args below meth c A Q cx hret ls hl hw
  have hx := cx.1
  have hb := cx.2.1
  have hl : lv_has ls 4 [(0, .ref h), (1, .int (v))] := hl
  by_cases h9 : cb_ver σ v
  · obtain ⟨V, g1, rfl⟩ := cb_ver_nat h9.1 h9.2.1
    have e1 : cb_dfR (nI V) σ = nI (cb_df σ V) := by rw [cb_dfR, if_pos h9, ca_cl (n := V) (by omega)]
    have e2 : cb_df σ V < 2 ^ 31 := cb_df_lt σ V
    have loop : ∀ (n : Nat) (i : Nat) (u : ca_S), i + n = 256 → ca_it (cb_rs1 V) i n u = ca_it (cb_rs1 V) 0 256 σ → ∀ (H : Heap) (locs : List Loc) (ls : Array Slot), gw_W D A s.heap (mw_ws dZ dI h q) (u) H locs → lv_has ls 4 [(3, .int (nI i)), (2, .int (nI (cb_df σ V))), (0, .ref h), (1, .int (nI V))] → W p l e rmX1_restore s m args below meth c H locs 0 0 Q (F0 m 8 ls []) := by
      intro n
      induction n with
      | zero =>
        intro i u hi he H locs ls hw hl
        refine lv_iload_n hx hb dX1_restore_8 rfl (lv_at hl 0 rfl) ?_
        refine lv_sipush (v := nI 256) hx hb dX1_restore_9 (by decide) ?_
        refine nw_geT (tgt := 43) hx hb dX1_restore_12 (by decide) (by omega) (by omega) (by omega) ?_
        refine lv_iload_n hx hb dX1_restore_43 rfl (lv_at hl 1 rfl) ?_
        exact hret dX1_restore_44 e1.symm (by rw [cb_rsS, if_pos h9, ca_cl (n := V) (by omega)]; exact he) hw
      | succ n ih =>
        intro i u hi he H locs ls hw hl
        refine lv_iload_n hx hb dX1_restore_8 rfl (lv_at hl 0 rfl) ?_
        refine lv_sipush (v := nI 256) hx hb dX1_restore_9 (by decide) ?_
        refine nw_geF (tgt := 43) hx hb dX1_restore_12 (by decide) (by omega) (by omega) (by omega) ?_
        refine lv_iload_n hx hb dX1_restore_15 rfl (lv_at hl 1 rfl) ?_
        refine lv_if_lt (tgt := 43) hx hb dX1_restore_16 (by decide) (fun h2 => ?_) (fun h2 => ?_)
        · exact absurd h2 (nI_pos e2)
        · refine lv_aload_n hx hb dX1_restore_19 rfl (lv_at hl 2 rfl) ?_
          refine mw_g0 cx hw dX1_restore_20 ?_
          refine lv_iload_n hx hb dX1_restore_23 rfl (lv_at hl 0 rfl) ?_
          refine lv_aload_n hx hb dX1_restore_24 rfl (lv_at hl 2 rfl) ?_
          refine mw_g2 cx hw dX1_restore_25 ?_
          refine lv_iload_n hx hb dX1_restore_28 rfl (lv_at hl 3 rfl) ?_
          refine lv_sipush (v := nI 256) hx hb dX1_restore_29 (by decide) ?_
          refine nw_mul hx hb dX1_restore_32 ?_
          refine lv_iload_n hx hb dX1_restore_33 rfl (lv_at hl 0 rfl) ?_
          refine nw_add hx hb dX1_restore_34 ?_
          refine mw_l2 cx hw (by omega) dX1_restore_35 ?_
          refine mw_s0 cx hw (by omega) dX1_restore_36 (fun H locs hw => ?_)
          have hw : gw_W D A s.heap (mw_ws dZ dI h q) (cb_rs1 V i u) H locs := hw
          refine lv_iinc (v := nI (i + 1)) (lv' := [(3, .int (nI (i + 1))), (2, .int (nI (cb_df σ V))), (0, .ref h), (1, .int (nI V))]) hx hb dX1_restore_37 hl (k := 0) rfl (nI_1 _) (by decide) rfl (fun ls hl => ?_)
          refine lv_goto (tgt := 8) hx hb dX1_restore_40 (by decide) ?_
          exact ih (i + 1) (cb_rs1 V i u) (by omega) he H locs ls hw (lv_sub hl [0, 1, 2, 3] rfl)
    refine lv_aload_n hx hb dX1_restore_0 rfl (lv_at hl 0 rfl) ?_
    refine lv_iload_n hx hb dX1_restore_1 rfl (lv_at hl 1 rfl) ?_
    refine gw_calli (As := [.int (nI V)]) (rest := []) cx (mtX1_differ l D dZ dI h q σ (nI V)) mw_k_differ mw_rec ⟨Nat.le_of_ble_eq_true rfl, Nat.le_of_ble_eq_true rfl, rfl, rfl⟩ hl.1 rfl rfl (Nat.le_of_ble_eq_true rfl) dX1_restore_2 ⟨Nat.zero_le _, Nat.zero_le _⟩ hw (fun H locs hw => ?_)
    refine gw_top e1 ?_
    refine lv_istore_n (lv' := [(2, .int (nI (cb_df σ V))), (0, .ref h), (1, .int (nI V))]) hx hb dX1_restore_5 rfl hl (by decide) rfl (fun ls hl => ?_)
    refine lv_iconst (v := nI 0) hx hb dX1_restore_6 (by decide) ?_
    refine lv_istore_n (lv' := [(3, .int (nI 0)), (2, .int (nI (cb_df σ V))), (0, .ref h), (1, .int (nI V))]) hx hb dX1_restore_7 rfl hl (by decide) rfl (fun ls hl => ?_)
    exact loop 256 0 σ rfl rfl _ _ _ hw (lv_sub hl [0, 1, 2, 3] rfl)
  · have e1 : cb_dfR v σ = -2 := if_neg h9
    refine lv_aload_n hx hb dX1_restore_0 rfl (lv_at hl 0 rfl) ?_
    refine lv_iload_n hx hb dX1_restore_1 rfl (lv_at hl 1 rfl) ?_
    refine gw_calli (As := [.int (v)]) (rest := []) cx (mtX1_differ l D dZ dI h q σ v) mw_k_differ mw_rec ⟨Nat.le_of_ble_eq_true rfl, Nat.le_of_ble_eq_true rfl, rfl, rfl⟩ hl.1 rfl rfl (Nat.le_of_ble_eq_true rfl) dX1_restore_2 ⟨Nat.zero_le _, Nat.zero_le _⟩ hw (fun H locs hw => ?_)
    refine gw_top e1 ?_
    refine lv_istore_n (lv' := [(2, .int (-2)), (0, .ref h), (1, .int (v))]) hx hb dX1_restore_5 rfl hl (by decide) rfl (fun ls hl => ?_)
    refine lv_iconst (v := nI 0) hx hb dX1_restore_6 (by decide) ?_
    refine lv_istore_n (lv' := [(3, .int (nI 0)), (2, .int (-2)), (0, .ref h), (1, .int (v))]) hx hb dX1_restore_7 rfl hl (by decide) rfl (fun ls hl => ?_)
    refine lv_iload_n hx hb dX1_restore_8 rfl (lv_at hl 0 rfl) ?_
    refine lv_sipush (v := nI 256) hx hb dX1_restore_9 (by decide) ?_
    refine nw_geF (tgt := 43) hx hb dX1_restore_12 (by decide) (by omega) (by omega) (by omega) ?_
    refine lv_iload_n hx hb dX1_restore_15 rfl (lv_at hl 1 rfl) ?_
    refine lv_if_lt (tgt := 43) hx hb dX1_restore_16 (by decide) (fun h2 => ?_) (fun h2 => ?_)
    · refine lv_iload_n hx hb dX1_restore_43 rfl (lv_at hl 1 rfl) ?_
      exact hret dX1_restore_44 e1.symm (if_neg h9).symm hw
    · exact absurd (by decide) h2
abbrev rmX1_drop : Room := { frames := 1, cells := 0, slots := 0, locals := 21 }
set_option maxHeartbeats 400000 in
set_option maxRecDepth 100000 in
theorem mtX1_drop (l : Launch) (D : va_G) (dZ dI : ClassId) (h : Nat) (q : Nat → Nat) (σ : ca_S) (v : Int32) : gw_MI l D (xw_T dZ dI) (mw_ws dZ dI h q) h yX1_drop cX1_drop 2 .int rmX1_drop [.int (v)] σ (cb_dpR v σ) (cb_dpS v σ) := by
  refine gw_entI (by decide) (Nat.le_of_ble_eq_true rfl) (rfl) ?_
  intro p e s m args below meth c A Q cx hret ls hl hw
  have hx := cx.1
  have hb := cx.2.1
  have hl : lv_has ls 2 [(0, .ref h), (1, .int (v))] := hl
  refine lv_aload_n hx hb dX1_drop_0 rfl (lv_at hl 0 rfl) ?_
  refine lv_iload_n hx hb dX1_drop_1 rfl (lv_at hl 1 rfl) ?_
  refine gw_calli (As := [.int (v)]) (rest := []) cx (mtX1_isVersion l D dZ dI h q σ v) mw_k_isVersion mw_rec ⟨Nat.le_of_ble_eq_true rfl, Nat.le_of_ble_eq_true rfl, rfl, rfl⟩ hl.1 rfl rfl (Nat.le_of_ble_eq_true rfl) dX1_drop_2 ⟨Nat.zero_le _, Nat.zero_le _⟩ hw (fun H locs hw => ?_)
  refine lv_if_ne (tgt := 11) hx hb dX1_drop_5 (by decide) (fun h1 => ?_) (fun h1 => ?_)
  · have h9 := ca_ift h1
    obtain ⟨V, g1, rfl⟩ := cb_ver_nat h9.1 h9.2.1
    refine lv_aload_n hx hb dX1_drop_11 rfl (lv_at hl 0 rfl) ?_
    refine mw_g3 cx hw dX1_drop_12 ?_
    refine lv_iload_n hx hb dX1_drop_15 rfl (lv_at hl 1 rfl) ?_
    refine lv_iconst (v := nI 0) hx hb dX1_drop_16 (by decide) ?_
    refine mw_s3 (v := 0) cx hw (by omega) rfl dX1_drop_17 (fun H locs hw => ?_)
    refine lv_iconst (v := nI 0) hx hb dX1_drop_18 (by decide) ?_
    exact hret dX1_drop_19 (if_pos h9).symm (by rw [cb_dpS, if_pos h9, ca_cl (n := V) (by omega)]) hw
  · refine lv_bipush (v := -2) hx hb dX1_drop_8 (by decide) ?_
    exact hret dX1_drop_10 (if_neg (ca_iff h1)).symm (if_neg (ca_iff h1)).symm hw
abbrev rmX1_get : Room := { frames := 1, cells := 0, slots := 0, locals := 21 }
set_option maxHeartbeats 400000 in
set_option maxRecDepth 100000 in
theorem mtX1_get (l : Launch) (D : va_G) (dZ dI : ClassId) (h : Nat) (q : Nat → Nat) (σ : ca_S) (f : Int32) : gw_MI l D (xw_T dZ dI) (mw_ws dZ dI h q) h yX1_get cX1_get 2 .int rmX1_get [.int (f)] σ (cb_gtR f σ) (σ) := by
  refine gw_entI (by decide) (Nat.le_of_ble_eq_true rfl) (rfl) ?_
  intro p e s m args below meth c A Q cx hret ls hl hw
  have hx := cx.1
  have hb := cx.2.1
  have hl : lv_has ls 2 [(0, .ref h), (1, .int (f))] := hl
  refine lv_aload_n hx hb dX1_get_0 rfl (lv_at hl 0 rfl) ?_
  refine lv_iload_n hx hb dX1_get_1 rfl (lv_at hl 1 rfl) ?_
  refine gw_calli (As := [.int (f)]) (rest := []) cx (mtX1_isCell l D dZ dI h q σ f) mw_k_isCell mw_rec ⟨Nat.le_of_ble_eq_true rfl, Nat.le_of_ble_eq_true rfl, rfl, rfl⟩ hl.1 rfl rfl (Nat.le_of_ble_eq_true rfl) dX1_get_2 ⟨Nat.zero_le _, Nat.zero_le _⟩ hw (fun H locs hw => ?_)
  refine lv_if_eq (tgt := 17) hx hb dX1_get_5 (by decide) (fun h1 => ?_) (fun h1 => ?_)
  · refine lv_iconst (v := -1) hx hb dX1_get_17 (by decide) ?_
    exact hret dX1_get_18 (if_neg (ca_iff h1)).symm rfl hw
  · have h9 := ca_ift h1
    obtain ⟨F, g1, rfl⟩ := cb_cell_nat h9
    refine lv_aload_n hx hb dX1_get_8 rfl (lv_at hl 0 rfl) ?_
    refine mw_g0 cx hw dX1_get_9 ?_
    refine lv_iload_n hx hb dX1_get_12 rfl (lv_at hl 1 rfl) ?_
    refine mw_l0 cx hw (by omega) dX1_get_13 ?_
    refine lv_goto (tgt := 18) hx hb dX1_get_14 (by decide) ?_
    exact hret dX1_get_18 (by rw [cb_gtR, if_pos h9, ca_cl (n := F) (by omega)]) rfl hw
abbrev rmX1_getOf : Room := { frames := 1, cells := 0, slots := 0, locals := 21 }
set_option maxHeartbeats 400000 in
set_option maxRecDepth 100000 in
theorem mtX1_getOf (l : Launch) (D : va_G) (dZ dI : ClassId) (h : Nat) (q : Nat → Nat) (σ : ca_S) (v f : Int32) : gw_MI l D (xw_T dZ dI) (mw_ws dZ dI h q) h yX1_getOf cX1_getOf 3 .int rmX1_getOf [.int (v), .int (f)] σ (cb_goR v f σ) (σ) := by
  refine gw_entI (by decide) (Nat.le_of_ble_eq_true rfl) (rfl) ?_
  intro p e s m args below meth c A Q cx hret ls hl hw
  have hx := cx.1
  have hb := cx.2.1
  have hl : lv_has ls 3 [(0, .ref h), (1, .int (v)), (2, .int (f))] := hl
  refine lv_aload_n hx hb dX1_getOf_0 rfl (lv_at hl 0 rfl) ?_
  refine lv_iload_n hx hb dX1_getOf_1 rfl (lv_at hl 2 rfl) ?_
  refine gw_calli (As := [.int (f)]) (rest := []) cx (mtX1_isCell l D dZ dI h q σ f) mw_k_isCell mw_rec ⟨Nat.le_of_ble_eq_true rfl, Nat.le_of_ble_eq_true rfl, rfl, rfl⟩ hl.1 rfl rfl (Nat.le_of_ble_eq_true rfl) dX1_getOf_2 ⟨Nat.zero_le _, Nat.zero_le _⟩ hw (fun H locs hw => ?_)
  refine lv_if_ne (tgt := 10) hx hb dX1_getOf_5 (by decide) (fun h1 => ?_) (fun h1 => ?_)
  · have h8 := ca_ift h1
    refine lv_aload_n hx hb dX1_getOf_10 rfl (lv_at hl 0 rfl) ?_
    refine lv_iload_n hx hb dX1_getOf_11 rfl (lv_at hl 1 rfl) ?_
    refine gw_calli (As := [.int (v)]) (rest := []) cx (mtX1_isVersion l D dZ dI h q σ v) mw_k_isVersion mw_rec ⟨Nat.le_of_ble_eq_true rfl, Nat.le_of_ble_eq_true rfl, rfl, rfl⟩ hl.1 rfl rfl (Nat.le_of_ble_eq_true rfl) dX1_getOf_12 ⟨Nat.zero_le _, Nat.zero_le _⟩ hw (fun H locs hw => ?_)
    refine lv_if_eq (tgt := 33) hx hb dX1_getOf_15 (by decide) (fun h2 => ?_) (fun h2 => ?_)
    · refine lv_bipush (v := -2) hx hb dX1_getOf_33 (by decide) ?_
      exact hret dX1_getOf_35 ((if_pos h8).trans (if_neg (ca_iff h2))).symm rfl hw
    · have h9 := ca_ift h2
      obtain ⟨V, g1, rfl⟩ := cb_ver_nat h9.1 h9.2.1
      obtain ⟨F, g2, rfl⟩ := cb_cell_nat h8
      refine lv_aload_n hx hb dX1_getOf_18 rfl (lv_at hl 0 rfl) ?_
      refine mw_g2 cx hw dX1_getOf_19 ?_
      refine lv_iload_n hx hb dX1_getOf_22 rfl (lv_at hl 1 rfl) ?_
      refine lv_sipush (v := nI 256) hx hb dX1_getOf_23 (by decide) ?_
      refine nw_mul hx hb dX1_getOf_26 ?_
      refine lv_iload_n hx hb dX1_getOf_27 rfl (lv_at hl 2 rfl) ?_
      refine nw_add hx hb dX1_getOf_28 ?_
      refine mw_l2 cx hw (by omega) dX1_getOf_29 ?_
      refine lv_goto (tgt := 35) hx hb dX1_getOf_30 (by decide) ?_
      exact hret dX1_getOf_35 (by rw [cb_goR, if_pos h8, if_pos h9, ca_cl (n := V) (by omega), ca_cl (n := F) (by omega)]) rfl hw
  · refine lv_iconst (v := -1) hx hb dX1_getOf_8 (by decide) ?_
    exact hret dX1_getOf_9 (if_neg (ca_iff h1)).symm rfl hw
abbrev rmX1_sum : Room := { frames := 2, cells := 0, slots := 0, locals := 46 }
set_option maxHeartbeats 400000 in
set_option maxRecDepth 100000 in
theorem mtX1_sum (l : Launch) (D : va_G) (dZ dI : ClassId) (h : Nat) (q : Nat → Nat) (σ : ca_S) (f t : Int32) : gw_MI l D (xw_T dZ dI) (mw_ws dZ dI h q) h yX1_sum cX1_sum 5 .int rmX1_sum [.int (f), .int (t)] σ (cb_suR f t σ) (σ) := by
  refine gw_entI (by decide) (Nat.le_of_ble_eq_true rfl) (rfl) ?_
  intro p e s m args below meth c A Q cx hret ls hl hw
  have hx := cx.1
  have hb := cx.2.1
  have hl : lv_has ls 5 [(0, .ref h), (1, .int (f)), (2, .int (t))] := hl
  refine lv_aload_n hx hb dX1_sum_0 rfl (lv_at hl 0 rfl) ?_
  refine lv_iload_n hx hb dX1_sum_1 rfl (lv_at hl 1 rfl) ?_
  refine gw_calli (As := [.int (f)]) (rest := []) cx (mtX1_isCell l D dZ dI h q σ f) mw_k_isCell mw_rec ⟨Nat.le_of_ble_eq_true rfl, Nat.le_of_ble_eq_true rfl, rfl, rfl⟩ hl.1 rfl rfl (Nat.le_of_ble_eq_true rfl) dX1_sum_2 ⟨Nat.zero_le _, Nat.zero_le _⟩ hw (fun H locs hw => ?_)
  refine lv_if_eq (tgt := 16) hx hb dX1_sum_5 (by decide) (fun h1 => ?_) (fun h1 => ?_)
  · refine lv_iconst (v := -1) hx hb dX1_sum_16 (by decide) ?_
    exact hret dX1_sum_17 (if_neg (fun z => ca_iff h1 (z.1))).symm rfl hw
  · refine lv_aload_n hx hb dX1_sum_8 rfl (lv_at hl 0 rfl) ?_
    refine lv_iload_n hx hb dX1_sum_9 rfl (lv_at hl 2 rfl) ?_
    refine gw_calli (As := [.int (t)]) (rest := []) cx (mtX1_isCell l D dZ dI h q σ t) mw_k_isCell mw_rec ⟨Nat.le_of_ble_eq_true rfl, Nat.le_of_ble_eq_true rfl, rfl, rfl⟩ hl.1 rfl rfl (Nat.le_of_ble_eq_true rfl) dX1_sum_10 ⟨Nat.zero_le _, Nat.zero_le _⟩ hw (fun H locs hw => ?_)
    refine lv_if_ne (tgt := 18) hx hb dX1_sum_13 (by decide) (fun h2 => ?_) (fun h2 => ?_)
    rotate_left
    · refine lv_iconst (v := -1) hx hb dX1_sum_16 (by decide) ?_
      exact hret dX1_sum_17 (if_neg (fun z => ca_iff h2 (z.2))).symm rfl hw
    · have h9 := (⟨ca_ift h1, ca_ift h2⟩ : cb_cell f ∧ cb_cell t)
      obtain ⟨F, g1, rfl⟩ := cb_cell_nat (ca_ift h1)
      obtain ⟨T, g2, rfl⟩ := cb_cell_nat (ca_ift h2)
      have loop : ∀ (n : Nat) (i : Nat) (z : Int32), i + n = 256 → ca_it (cb_su1 σ F T) i n z = ca_it (cb_su1 σ F T) 0 256 0 → ∀ (H : Heap) (locs : List Loc) (ls : Array Slot), gw_W D A s.heap (mw_ws dZ dI h q) (σ) H locs → lv_has ls 5 [(3, .int (z)), (4, .int (nI i)), (0, .ref h), (1, .int (nI F)), (2, .int (nI T))] → W p l e rmX1_sum s m args below meth c H locs 0 0 Q (F0 m 23 ls []) := by
        intro n
        induction n with
        | zero =>
          intro i z hi he H locs ls hw hl
          refine lv_iload hx hb dX1_sum_23 (lv_at hl 1 rfl) ?_
          refine lv_sipush (v := nI 256) hx hb dX1_sum_25 (by decide) ?_
          refine nw_geT (tgt := 58) hx hb dX1_sum_28 (by decide) (by omega) (by omega) (by omega) ?_
          refine lv_iload_n hx hb dX1_sum_58 rfl (lv_at hl 0 rfl) ?_
          exact hret dX1_sum_59 (by rw [cb_suR, if_pos h9, ca_cl (n := F) (by omega), ca_cl (n := T) (by omega)]; exact he) rfl hw
        | succ n ih =>
          intro i z hi he H locs ls hw hl
          refine lv_iload hx hb dX1_sum_23 (lv_at hl 1 rfl) ?_
          refine lv_sipush (v := nI 256) hx hb dX1_sum_25 (by decide) ?_
          refine nw_geF (tgt := 58) hx hb dX1_sum_28 (by decide) (by omega) (by omega) (by omega) ?_
          refine lv_aload_n hx hb dX1_sum_31 rfl (lv_at hl 2 rfl) ?_
          refine lv_iload hx hb dX1_sum_32 (lv_at hl 1 rfl) ?_
          refine lv_iload_n hx hb dX1_sum_34 rfl (lv_at hl 3 rfl) ?_
          refine lv_iload_n hx hb dX1_sum_35 rfl (lv_at hl 4 rfl) ?_
          refine gw_calli (As := [.int (nI i), .int (nI F), .int (nI T)]) (rest := []) cx (mtX1_inside l D dZ dI h q σ (by omega) (by omega) (by omega)) mw_k_inside mw_rec ⟨Nat.le_of_ble_eq_true rfl, Nat.le_of_ble_eq_true rfl, rfl, rfl⟩ hl.1 rfl rfl (Nat.le_of_ble_eq_true rfl) dX1_sum_36 ⟨Nat.zero_le _, Nat.zero_le _⟩ hw (fun H locs hw => ?_)
          refine lv_if_eq (tgt := 52) hx hb dX1_sum_39 (by decide) (fun h4 => ?_) (fun h4 => ?_)
          · refine lv_iinc (v := nI (i + 1)) (lv' := [(4, .int (nI (i + 1))), (3, .int (z)), (0, .ref h), (1, .int (nI F)), (2, .int (nI T))]) hx hb dX1_sum_52 hl (k := 1) rfl (nI_1 _) (by decide) rfl (fun ls hl => ?_)
            refine lv_goto (tgt := 23) hx hb dX1_sum_55 (by decide) ?_
            exact ih (i + 1) z (by omega) (by rw [← he, ca_it_s, show cb_su1 σ F T i z = z from if_neg (ca_iff h4)]) H locs ls hw (lv_sub hl [1, 0, 2, 3, 4] rfl)
          · refine lv_iload_n hx hb dX1_sum_42 rfl (lv_at hl 0 rfl) ?_
            refine lv_aload_n hx hb dX1_sum_43 rfl (lv_at hl 2 rfl) ?_
            refine mw_g0 cx hw dX1_sum_44 ?_
            refine lv_iload hx hb dX1_sum_47 (lv_at hl 1 rfl) ?_
            refine mw_l0 cx hw (by omega) dX1_sum_49 ?_
            refine lv_iadd hx hb dX1_sum_50 ?_
            refine lv_istore_n (lv' := [(3, .int (z + (σ 0 i))), (4, .int (nI i)), (0, .ref h), (1, .int (nI F)), (2, .int (nI T))]) hx hb dX1_sum_51 rfl hl (by decide) rfl (fun ls hl => ?_)
            refine lv_iinc (v := nI (i + 1)) (lv' := [(4, .int (nI (i + 1))), (3, .int (z + (σ 0 i))), (0, .ref h), (1, .int (nI F)), (2, .int (nI T))]) hx hb dX1_sum_52 hl (k := 1) rfl (nI_1 _) (by decide) rfl (fun ls hl => ?_)
            refine lv_goto (tgt := 23) hx hb dX1_sum_55 (by decide) ?_
            exact ih (i + 1) _ (by omega) (by rw [← he, ca_it_s, show cb_su1 σ F T i z = z + σ 0 i from if_pos (ca_ift h4)]) H locs ls hw (lv_sub hl [1, 0, 2, 3, 4] rfl)
      refine lv_iconst (v := nI 0) hx hb dX1_sum_18 (by decide) ?_
      refine lv_istore_n (lv' := [(3, .int (nI 0)), (0, .ref h), (1, .int (nI F)), (2, .int (nI T))]) hx hb dX1_sum_19 rfl hl (by decide) rfl (fun ls hl => ?_)
      refine lv_iconst (v := nI 0) hx hb dX1_sum_20 (by decide) ?_
      refine lv_istore (lv' := [(4, .int (nI 0)), (3, .int (nI 0)), (0, .ref h), (1, .int (nI F)), (2, .int (nI T))]) hx hb dX1_sum_21 hl (by decide) rfl (fun ls hl => ?_)
      exact loop 256 0 _ rfl rfl _ _ _ hw (lv_sub hl [1, 0, 2, 3, 4] rfl)
abbrev rmX1_greatest : Room := { frames := 2, cells := 0, slots := 0, locals := 46 }
set_option maxHeartbeats 400000 in
set_option maxRecDepth 100000 in
theorem mtX1_greatest (l : Launch) (D : va_G) (dZ dI : ClassId) (h : Nat) (q : Nat → Nat) (σ : ca_S) (f t : Int32) : gw_MI l D (xw_T dZ dI) (mw_ws dZ dI h q) h yX1_greatest cX1_greatest 5 .int rmX1_greatest [.int (f), .int (t)] σ (cb_geR f t σ) (σ) := by
  refine gw_entI (by decide) (Nat.le_of_ble_eq_true rfl) (rfl) ?_
  intro p e s m args below meth c A Q cx hret ls hl hw
  have hx := cx.1
  have hb := cx.2.1
  have hl : lv_has ls 5 [(0, .ref h), (1, .int (f)), (2, .int (t))] := hl
  refine lv_aload_n hx hb dX1_greatest_0 rfl (lv_at hl 0 rfl) ?_
  refine lv_iload_n hx hb dX1_greatest_1 rfl (lv_at hl 1 rfl) ?_
  refine gw_calli (As := [.int (f)]) (rest := []) cx (mtX1_isCell l D dZ dI h q σ f) mw_k_isCell mw_rec ⟨Nat.le_of_ble_eq_true rfl, Nat.le_of_ble_eq_true rfl, rfl, rfl⟩ hl.1 rfl rfl (Nat.le_of_ble_eq_true rfl) dX1_greatest_2 ⟨Nat.zero_le _, Nat.zero_le _⟩ hw (fun H locs hw => ?_)
  refine lv_if_eq (tgt := 16) hx hb dX1_greatest_5 (by decide) (fun h1 => ?_) (fun h1 => ?_)
  · refine lv_iconst (v := -1) hx hb dX1_greatest_16 (by decide) ?_
    exact hret dX1_greatest_17 (if_neg (fun z => ca_iff h1 (z.1))).symm rfl hw
  · refine lv_aload_n hx hb dX1_greatest_8 rfl (lv_at hl 0 rfl) ?_
    refine lv_iload_n hx hb dX1_greatest_9 rfl (lv_at hl 2 rfl) ?_
    refine gw_calli (As := [.int (t)]) (rest := []) cx (mtX1_isCell l D dZ dI h q σ t) mw_k_isCell mw_rec ⟨Nat.le_of_ble_eq_true rfl, Nat.le_of_ble_eq_true rfl, rfl, rfl⟩ hl.1 rfl rfl (Nat.le_of_ble_eq_true rfl) dX1_greatest_10 ⟨Nat.zero_le _, Nat.zero_le _⟩ hw (fun H locs hw => ?_)
    refine lv_if_ne (tgt := 18) hx hb dX1_greatest_13 (by decide) (fun h2 => ?_) (fun h2 => ?_)
    rotate_left
    · refine lv_iconst (v := -1) hx hb dX1_greatest_16 (by decide) ?_
      exact hret dX1_greatest_17 (if_neg (fun z => ca_iff h2 (z.2))).symm rfl hw
    · have h9 := (⟨ca_ift h1, ca_ift h2⟩ : cb_cell f ∧ cb_cell t)
      obtain ⟨F, g1, rfl⟩ := cb_cell_nat (ca_ift h1)
      obtain ⟨T, g2, rfl⟩ := cb_cell_nat (ca_ift h2)
      have loop : ∀ (n : Nat) (i : Nat) (z : Int32), i + n = 256 → ca_it (cb_ge1 σ F T) i n z = ca_it (cb_ge1 σ F T) 0 256 (σ 0 F) → ∀ (H : Heap) (locs : List Loc) (ls : Array Slot), gw_W D A s.heap (mw_ws dZ dI h q) (σ) H locs → lv_has ls 5 [(3, .int (z)), (4, .int (nI i)), (0, .ref h), (1, .int (nI F)), (2, .int (nI T))] → W p l e rmX1_greatest s m args below meth c H locs 0 0 Q (F0 m 28 ls []) := by
        intro n
        induction n with
        | zero =>
          intro i z hi he H locs ls hw hl
          refine lv_iload hx hb dX1_greatest_28 (lv_at hl 1 rfl) ?_
          refine lv_sipush (v := nI 256) hx hb dX1_greatest_30 (by decide) ?_
          refine nw_geT (tgt := 72) hx hb dX1_greatest_33 (by decide) (by omega) (by omega) (by omega) ?_
          refine lv_iload_n hx hb dX1_greatest_72 rfl (lv_at hl 0 rfl) ?_
          exact hret dX1_greatest_73 (by rw [cb_geR, if_pos h9, ca_cl (n := F) (by omega), ca_cl (n := T) (by omega)]; exact he) rfl hw
        | succ n ih =>
          intro i z hi he H locs ls hw hl
          refine lv_iload hx hb dX1_greatest_28 (lv_at hl 1 rfl) ?_
          refine lv_sipush (v := nI 256) hx hb dX1_greatest_30 (by decide) ?_
          refine nw_geF (tgt := 72) hx hb dX1_greatest_33 (by decide) (by omega) (by omega) (by omega) ?_
          refine lv_aload_n hx hb dX1_greatest_36 rfl (lv_at hl 2 rfl) ?_
          refine lv_iload hx hb dX1_greatest_37 (lv_at hl 1 rfl) ?_
          refine lv_iload_n hx hb dX1_greatest_39 rfl (lv_at hl 3 rfl) ?_
          refine lv_iload_n hx hb dX1_greatest_40 rfl (lv_at hl 4 rfl) ?_
          refine gw_calli (As := [.int (nI i), .int (nI F), .int (nI T)]) (rest := []) cx (mtX1_inside l D dZ dI h q σ (by omega) (by omega) (by omega)) mw_k_inside mw_rec ⟨Nat.le_of_ble_eq_true rfl, Nat.le_of_ble_eq_true rfl, rfl, rfl⟩ hl.1 rfl rfl (Nat.le_of_ble_eq_true rfl) dX1_greatest_41 ⟨Nat.zero_le _, Nat.zero_le _⟩ hw (fun H locs hw => ?_)
          refine lv_if_eq (tgt := 66) hx hb dX1_greatest_44 (by decide) (fun h4 => ?_) (fun h4 => ?_)
          · refine lv_iinc (v := nI (i + 1)) (lv' := [(4, .int (nI (i + 1))), (3, .int (z)), (0, .ref h), (1, .int (nI F)), (2, .int (nI T))]) hx hb dX1_greatest_66 hl (k := 1) rfl (nI_1 _) (by decide) rfl (fun ls hl => ?_)
            refine lv_goto (tgt := 28) hx hb dX1_greatest_69 (by decide) ?_
            exact ih (i + 1) z (by omega) (by rw [← he, ca_it_s, show cb_ge1 σ F T i z = z from if_neg (ca_iff h4)]) H locs ls hw (lv_sub hl [1, 0, 2, 3, 4] rfl)
          · refine lv_aload_n hx hb dX1_greatest_47 rfl (lv_at hl 2 rfl) ?_
            refine mw_g0 cx hw dX1_greatest_48 ?_
            refine lv_iload hx hb dX1_greatest_51 (lv_at hl 1 rfl) ?_
            refine mw_l0 cx hw (by omega) dX1_greatest_53 ?_
            refine lv_iload_n hx hb dX1_greatest_54 rfl (lv_at hl 0 rfl) ?_
            refine lv_icmp_le (tgt := 66) hx hb dX1_greatest_55 (by decide) (fun h5 => ?_) (fun h5 => ?_)
            · refine lv_iinc (v := nI (i + 1)) (lv' := [(4, .int (nI (i + 1))), (3, .int (z)), (0, .ref h), (1, .int (nI F)), (2, .int (nI T))]) hx hb dX1_greatest_66 hl (k := 1) rfl (nI_1 _) (by decide) rfl (fun ls hl => ?_)
              refine lv_goto (tgt := 28) hx hb dX1_greatest_69 (by decide) ?_
              exact ih (i + 1) z (by omega) (by rw [← he, ca_it_s, show cb_ge1 σ F T i z = z from (if_pos (ca_ift h4)).trans (if_pos h5)]) H locs ls hw (lv_sub hl [1, 0, 2, 3, 4] rfl)
            · refine lv_aload_n hx hb dX1_greatest_58 rfl (lv_at hl 2 rfl) ?_
              refine mw_g0 cx hw dX1_greatest_59 ?_
              refine lv_iload hx hb dX1_greatest_62 (lv_at hl 1 rfl) ?_
              refine mw_l0 cx hw (by omega) dX1_greatest_64 ?_
              refine lv_istore_n (lv' := [(3, .int (σ 0 i)), (4, .int (nI i)), (0, .ref h), (1, .int (nI F)), (2, .int (nI T))]) hx hb dX1_greatest_65 rfl hl (by decide) rfl (fun ls hl => ?_)
              refine lv_iinc (v := nI (i + 1)) (lv' := [(4, .int (nI (i + 1))), (3, .int (σ 0 i)), (0, .ref h), (1, .int (nI F)), (2, .int (nI T))]) hx hb dX1_greatest_66 hl (k := 1) rfl (nI_1 _) (by decide) rfl (fun ls hl => ?_)
              refine lv_goto (tgt := 28) hx hb dX1_greatest_69 (by decide) ?_
              exact ih (i + 1) _ (by omega) (by rw [← he, ca_it_s, show cb_ge1 σ F T i z = σ 0 i from (if_pos (ca_ift h4)).trans (if_neg h5)]) H locs ls hw (lv_sub hl [1, 0, 2, 3, 4] rfl)
      refine lv_aload_n hx hb dX1_greatest_18 rfl (lv_at hl 0 rfl) ?_
      refine mw_g0 cx hw dX1_greatest_19 ?_
      refine lv_iload_n hx hb dX1_greatest_22 rfl (lv_at hl 1 rfl) ?_
      refine mw_l0 cx hw (by omega) dX1_greatest_23 ?_
      refine lv_istore_n (lv' := [(3, .int (σ 0 F)), (0, .ref h), (1, .int (nI F)), (2, .int (nI T))]) hx hb dX1_greatest_24 rfl hl (by decide) rfl (fun ls hl => ?_)
      refine lv_iconst (v := nI 0) hx hb dX1_greatest_25 (by decide) ?_
      refine lv_istore (lv' := [(4, .int (nI 0)), (3, .int (σ 0 F)), (0, .ref h), (1, .int (nI F)), (2, .int (nI T))]) hx hb dX1_greatest_26 hl (by decide) rfl (fun ls hl => ?_)
      exact loop 256 0 _ rfl rfl _ _ _ hw (lv_sub hl [1, 0, 2, 3, 4] rfl)
abbrev rmX1_count : Room := { frames := 2, cells := 0, slots := 0, locals := 46 }
set_option maxHeartbeats 400000 in
set_option maxRecDepth 100000 in
theorem mtX1_count (l : Launch) (D : va_G) (dZ dI : ClassId) (h : Nat) (q : Nat → Nat) (σ : ca_S) (f t x : Int32) : gw_MI l D (xw_T dZ dI) (mw_ws dZ dI h q) h yX1_count cX1_count 6 .int rmX1_count [.int (f), .int (t), .int (x)] σ (cb_ctR f t x σ) (σ) := by
  refine gw_entI (by decide) (Nat.le_of_ble_eq_true rfl) (rfl) ?_
  intro p e s m args below meth c A Q cx hret ls hl hw
  have hx := cx.1
  have hb := cx.2.1
  have hl : lv_has ls 6 [(0, .ref h), (1, .int (f)), (2, .int (t)), (3, .int (x))] := hl
  refine lv_aload_n hx hb dX1_count_0 rfl (lv_at hl 0 rfl) ?_
  refine lv_iload_n hx hb dX1_count_1 rfl (lv_at hl 1 rfl) ?_
  refine gw_calli (As := [.int (f)]) (rest := []) cx (mtX1_isCell l D dZ dI h q σ f) mw_k_isCell mw_rec ⟨Nat.le_of_ble_eq_true rfl, Nat.le_of_ble_eq_true rfl, rfl, rfl⟩ hl.1 rfl rfl (Nat.le_of_ble_eq_true rfl) dX1_count_2 ⟨Nat.zero_le _, Nat.zero_le _⟩ hw (fun H locs hw => ?_)
  refine lv_if_eq (tgt := 16) hx hb dX1_count_5 (by decide) (fun h1 => ?_) (fun h1 => ?_)
  · refine lv_iconst (v := -1) hx hb dX1_count_16 (by decide) ?_
    exact hret dX1_count_17 (if_neg (fun z => ca_iff h1 (z.1))).symm rfl hw
  · refine lv_aload_n hx hb dX1_count_8 rfl (lv_at hl 0 rfl) ?_
    refine lv_iload_n hx hb dX1_count_9 rfl (lv_at hl 2 rfl) ?_
    refine gw_calli (As := [.int (t)]) (rest := []) cx (mtX1_isCell l D dZ dI h q σ t) mw_k_isCell mw_rec ⟨Nat.le_of_ble_eq_true rfl, Nat.le_of_ble_eq_true rfl, rfl, rfl⟩ hl.1 rfl rfl (Nat.le_of_ble_eq_true rfl) dX1_count_10 ⟨Nat.zero_le _, Nat.zero_le _⟩ hw (fun H locs hw => ?_)
    refine lv_if_ne (tgt := 18) hx hb dX1_count_13 (by decide) (fun h2 => ?_) (fun h2 => ?_)
    rotate_left
    · refine lv_iconst (v := -1) hx hb dX1_count_16 (by decide) ?_
      exact hret dX1_count_17 (if_neg (fun z => ca_iff h2 (z.2))).symm rfl hw
    · have h9 := (⟨ca_ift h1, ca_ift h2⟩ : cb_cell f ∧ cb_cell t)
      obtain ⟨F, g1, rfl⟩ := cb_cell_nat (ca_ift h1)
      obtain ⟨T, g2, rfl⟩ := cb_cell_nat (ca_ift h2)
      have loop : ∀ (n : Nat) (i z : Nat), i + n = 256 → ca_it (cb_ct1 σ F T x) i n z = ca_it (cb_ct1 σ F T x) 0 256 0 → ∀ (H : Heap) (locs : List Loc) (ls : Array Slot), gw_W D A s.heap (mw_ws dZ dI h q) (σ) H locs → lv_has ls 6 [(4, .int (nI z)), (5, .int (nI i)), (0, .ref h), (1, .int (nI F)), (2, .int (nI T)), (3, .int (x))] → W p l e rmX1_count s m args below meth c H locs 0 0 Q (F0 m 24 ls []) := by
        intro n
        induction n with
        | zero =>
          intro i z hi he H locs ls hw hl
          refine lv_iload hx hb dX1_count_24 (lv_at hl 1 rfl) ?_
          refine lv_sipush (v := nI 256) hx hb dX1_count_26 (by decide) ?_
          refine nw_geT (tgt := 63) hx hb dX1_count_29 (by decide) (by omega) (by omega) (by omega) ?_
          refine lv_iload hx hb dX1_count_63 (lv_at hl 0 rfl) ?_
          exact hret dX1_count_65 (by rw [cb_ctR, if_pos h9, ca_cl (n := F) (by omega), ca_cl (n := T) (by omega)]; exact congrArg nI he) rfl hw
        | succ n ih =>
          intro i z hi he H locs ls hw hl
          refine lv_iload hx hb dX1_count_24 (lv_at hl 1 rfl) ?_
          refine lv_sipush (v := nI 256) hx hb dX1_count_26 (by decide) ?_
          refine nw_geF (tgt := 63) hx hb dX1_count_29 (by decide) (by omega) (by omega) (by omega) ?_
          refine lv_aload_n hx hb dX1_count_32 rfl (lv_at hl 2 rfl) ?_
          refine lv_iload hx hb dX1_count_33 (lv_at hl 1 rfl) ?_
          refine lv_iload_n hx hb dX1_count_35 rfl (lv_at hl 3 rfl) ?_
          refine lv_iload_n hx hb dX1_count_36 rfl (lv_at hl 4 rfl) ?_
          refine gw_calli (As := [.int (nI i), .int (nI F), .int (nI T)]) (rest := []) cx (mtX1_inside l D dZ dI h q σ (by omega) (by omega) (by omega)) mw_k_inside mw_rec ⟨Nat.le_of_ble_eq_true rfl, Nat.le_of_ble_eq_true rfl, rfl, rfl⟩ hl.1 rfl rfl (Nat.le_of_ble_eq_true rfl) dX1_count_37 ⟨Nat.zero_le _, Nat.zero_le _⟩ hw (fun H locs hw => ?_)
          refine lv_if_eq (tgt := 57) hx hb dX1_count_40 (by decide) (fun h4 => ?_) (fun h4 => ?_)
          · refine lv_iinc (v := nI (i + 1)) (lv' := [(5, .int (nI (i + 1))), (4, .int (nI z)), (0, .ref h), (1, .int (nI F)), (2, .int (nI T)), (3, .int (x))]) hx hb dX1_count_57 hl (k := 1) rfl (nI_1 _) (by decide) rfl (fun ls hl => ?_)
            refine lv_goto (tgt := 24) hx hb dX1_count_60 (by decide) ?_
            exact ih (i + 1) z (by omega) (by rw [← he, ca_it_s, show cb_ct1 σ F T x i z = z from if_neg (ca_iff h4)]) H locs ls hw (lv_sub hl [1, 0, 2, 3, 4, 5] rfl)
          · refine lv_aload_n hx hb dX1_count_43 rfl (lv_at hl 2 rfl) ?_
            refine mw_g0 cx hw dX1_count_44 ?_
            refine lv_iload hx hb dX1_count_47 (lv_at hl 1 rfl) ?_
            refine mw_l0 cx hw (by omega) dX1_count_49 ?_
            refine lv_iload_n hx hb dX1_count_50 rfl (lv_at hl 5 rfl) ?_
            refine lv_icmp_ne (tgt := 57) hx hb dX1_count_51 (by decide) (fun h5 => ?_) (fun h5 => ?_)
            · refine lv_iinc (v := nI (i + 1)) (lv' := [(5, .int (nI (i + 1))), (4, .int (nI z)), (0, .ref h), (1, .int (nI F)), (2, .int (nI T)), (3, .int (x))]) hx hb dX1_count_57 hl (k := 1) rfl (nI_1 _) (by decide) rfl (fun ls hl => ?_)
              refine lv_goto (tgt := 24) hx hb dX1_count_60 (by decide) ?_
              exact ih (i + 1) z (by omega) (by rw [← he, ca_it_s, show cb_ct1 σ F T x i z = z from (if_pos (ca_ift h4)).trans (if_neg h5)]) H locs ls hw (lv_sub hl [1, 0, 2, 3, 4, 5] rfl)
            · refine lv_iinc (v := nI (z + 1)) (lv' := [(4, .int (nI (z + 1))), (5, .int (nI i)), (0, .ref h), (1, .int (nI F)), (2, .int (nI T)), (3, .int (x))]) hx hb dX1_count_54 hl (k := 0) rfl (nI_1 _) (by decide) rfl (fun ls hl => ?_)
              refine lv_iinc (v := nI (i + 1)) (lv' := [(5, .int (nI (i + 1))), (4, .int (nI (z + 1))), (0, .ref h), (1, .int (nI F)), (2, .int (nI T)), (3, .int (x))]) hx hb dX1_count_57 hl (k := 1) rfl (nI_1 _) (by decide) rfl (fun ls hl => ?_)
              refine lv_goto (tgt := 24) hx hb dX1_count_60 (by decide) ?_
              exact ih (i + 1) (z + 1) (by omega) (by rw [← he, ca_it_s, show cb_ct1 σ F T x i z = z + 1 from (if_pos (ca_ift h4)).trans (if_pos h5)]) H locs ls hw (lv_sub hl [1, 0, 2, 3, 4, 5] rfl)
      refine lv_iconst (v := nI 0) hx hb dX1_count_18 (by decide) ?_
      refine lv_istore (lv' := [(4, .int (nI 0)), (0, .ref h), (1, .int (nI F)), (2, .int (nI T)), (3, .int (x))]) hx hb dX1_count_19 hl (by decide) rfl (fun ls hl => ?_)
      refine lv_iconst (v := nI 0) hx hb dX1_count_21 (by decide) ?_
      refine lv_istore (lv' := [(5, .int (nI 0)), (4, .int (nI 0)), (0, .ref h), (1, .int (nI F)), (2, .int (nI T)), (3, .int (x))]) hx hb dX1_count_22 hl (by decide) rfl (fun ls hl => ?_)
      exact loop 256 0 0 rfl rfl _ _ _ hw (lv_sub hl [1, 0, 2, 3, 4, 5] rfl)
end
section
/-! the two constructors -/
set_option maxHeartbeats 400000 in
set_option maxRecDepth 100000 in
theorem xw_init_tail {p : Program} {l : Launch} {e : Env} {R : Room} {s : State} {m : MethodId} {args : Array Value} {below : List Frame} {meth : Method} {c : Code} {H : Heap} {locs : List Loc} {cells slots : Nat} {Q : State → Prop} {D : va_G} {dZ dI : ClassId} {A : Nat → Prop} {h : Nat} {q : Nat → Nat} {ls : Array Slot} (cx : gw_cx p s m args c cX0_init 2 RX0 D (xw_T dZ dI) A) (hw : gw_W D A s.heap (xw_ws dZ dI h q) ca_z H locs) (hl : lv_has ls 2 [(0, .ref h)]) (kk : ∀ (H : Heap) (locs : List Loc) (ls : Array Slot), gw_W D A s.heap (xw_ws dZ dI h q) ca_init H locs → W p l e R s m args below meth c H locs cells slots Q (F0 m 138 ls [])) : W p l e R s m args below meth c H locs cells slots Q (F0 m 93 ls []) := by
  have hx := cx.1
  have hb := cx.2.1
  have loop : ∀ (n : Nat) (i : Nat) (u : ca_S), i + n = 16 → ca_it ca_in1 i n u = ca_init → ∀ (H : Heap) (locs : List Loc) (ls : Array Slot), gw_W D A s.heap (xw_ws dZ dI h q) (u) H locs → lv_has ls 2 [(1, .int (nI i)), (0, .ref h)] → W p l e R s m args below meth c H locs cells slots Q (F0 m 102 ls []) := by
    intro n
    induction n with
    | zero =>
      intro i u hi he H locs ls hw hl
      refine lv_iload_n hx hb dX0_init_102 rfl (lv_at hl 0 rfl) ?_
      refine lv_bipush (v := nI 16) hx hb dX0_init_103 (by decide) ?_
      refine nw_geT (tgt := 138) hx hb dX0_init_105 (by decide) (by omega) (by omega) (by omega) ?_
      have he : u = ca_init := he
      rw [he] at hw
      exact kk H locs ls hw
    | succ n ih =>
      intro i u hi he H locs ls hw hl
      refine lv_iload_n hx hb dX0_init_102 rfl (lv_at hl 0 rfl) ?_
      refine lv_bipush (v := nI 16) hx hb dX0_init_103 (by decide) ?_
      refine nw_geF (tgt := 138) hx hb dX0_init_105 (by decide) (by omega) (by omega) (by omega) ?_
      refine lv_aload_n hx hb dX0_init_108 rfl (lv_at hl 1 rfl) ?_
      refine xw_g1 cx hw dX0_init_109 ?_
      refine lv_bipush (v := nI 64) hx hb dX0_init_112 (by decide) ?_
      refine lv_iload_n hx hb dX0_init_114 rfl (lv_at hl 0 rfl) ?_
      refine nw_add hx hb dX0_init_115 ?_
      refine lv_iload_n hx hb dX0_init_116 rfl (lv_at hl 0 rfl) ?_
      refine xw_s1 cx hw (by omega) dX0_init_117 (fun H locs hw => ?_)
      refine lv_aload_n hx hb dX0_init_118 rfl (lv_at hl 1 rfl) ?_
      refine xw_g2 cx hw dX0_init_119 ?_
      refine lv_iload_n hx hb dX0_init_122 rfl (lv_at hl 0 rfl) ?_
      refine lv_iconst (v := nI 1) hx hb dX0_init_123 (by decide) ?_
      refine xw_s2 cx hw (by omega) dX0_init_124 (fun H locs hw => ?_)
      refine lv_aload_n hx hb dX0_init_125 rfl (lv_at hl 1 rfl) ?_
      refine xw_g4 cx hw dX0_init_126 ?_
      refine lv_iload_n hx hb dX0_init_129 rfl (lv_at hl 0 rfl) ?_
      refine lv_iconst (v := nI 1) hx hb dX0_init_130 (by decide) ?_
      refine xw_s4 cx hw (by omega) dX0_init_131 (fun H locs hw => ?_)
      have hw : gw_W D A s.heap (xw_ws dZ dI h q) (ca_in1 i u) H locs := hw
      refine lv_iinc (v := nI (i + 1)) (lv' := [(1, .int (nI (i + 1))), (0, .ref h)]) hx hb dX0_init_132 hl (k := 0) rfl (nI_1 _) (by decide) rfl (fun ls hl => ?_)
      refine lv_goto (tgt := 102) hx hb dX0_init_135 (by decide) ?_
      exact ih (i + 1) (ca_in1 i u) (by omega) he H locs ls hw (lv_sub hl [0, 1] rfl)
  refine lv_aload_n hx hb dX0_init_93 rfl (lv_at hl 0 rfl) ?_
  refine xw_g0 cx hw dX0_init_94 ?_
  refine lv_iconst (v := nI 4) hx hb dX0_init_97 (by decide) ?_
  refine lv_iconst (v := nI 1) hx hb dX0_init_98 (by decide) ?_
  refine xw_s0 (v := 1) cx hw (by omega) rfl dX0_init_99 (fun H locs hw => ?_)
  refine lv_iconst (v := nI 0) hx hb dX0_init_100 (by decide) ?_
  refine lv_istore_n (lv' := [(1, .int (nI 0)), (0, .ref h)]) hx hb dX0_init_101 rfl hl (by decide) rfl (fun ls hl => ?_)
  exact loop 16 0 _ rfl rfl _ _ _ hw (lv_sub hl [0, 1] rfl)
abbrev rmX0_init : Room := { frames := 1, cells := 11, slots := 2181, locals := 12 }
abbrev xw_f0 : List Value := [.null, .null, .null, .null, .null, .null, .null, .null, .null, .null, .int 0, .int 0, .int 0, .int 0, .null]
def xw_BI (D : va_G) (A : Nat → Prop) (h : Nat) (u : (Nat → Nat) × ClassId × ClassId) (t : State) : Prop := gw_B D (xw_T u.2.1 u.2.2) (xw_ws u.2.1 u.2.2 h u.1) A ca_init t
set_option maxHeartbeats 1000000 in
set_option maxRecDepth 100000 in
theorem mtX0_init (l : Launch) (D : va_G) (h sz : Nat) : Met l yX0_init (ws_ yX0_init cX0_init 2 none) rmX0_init (va_Pc [.ref h] (fun U => U.heap.size = sz ∧ va_P D gw_cl [(h, .inr (0, xw_f0))] U.heap ∧ va_K D gw_cl [] U ∧ va_D (fun _ => True) [(h, .inr (0, xw_f0))])) (va_Qv (fun _ : (Nat → Nat) × ClassId × ClassId => True) (xw_BI D (va_A [(h, .inr (0, xw_f0))] sz) h) (va_A [(h, .inr (0, xw_f0))] sz)) 11 2181 (va_A [(h, .inr (0, xw_f0))] sz) := by
  refine Met.ofW (cc := cX0_init) (maxL := 2) (ret := none) (by decide) rfl ?_
  intro p e s m args below meth c s₁ B hml hv
  obtain ⟨rfl, hsz, hP, hK, hD0⟩ := hv
  have hx := B.exec
  have hb := B.bytes
  have hr := B.returns
  have hts := atoms_spec (ws := ws_ yX0_init cX0_init 2 none) B.pre
  have hts : ∀ w ∈ lw_all, w.before _ s = true := fun w h => hts w (List.mem_cons_of_mem _ h)
  have hown : s.vm.findClass RX0 = some m.cls := findClass_of_methodNamed B.named
  have hlocks := B.notSynchronized
  have hin : meth.name = "<init>" := (name_of_methodNamed B.named B.method).1
  subst hsz
  have hD := hD0.self (sz := s.heap.size)
  generalize hAe : va_A [(h, .inr (0, xw_f0))] s.heap.size = A at hD ⊢
  have hA : ∀ q : Nat, s.heap.size ≤ q → A q := fun q h => by rw [← hAe]; exact Or.inr h
  have hS : va_S A s.heap s.heap [] := va_S.rf
  have hP : va_P D gw_cl [(h, .inr (0, xw_f0))] s.heap := hP
  have hl := lv_entry ([.ref h]) (n := 2) (Nat.le_of_ble_eq_true rfl)
  rw [lg_entry_eq]
  generalize (lg_sl ([.ref h]) ++ List.replicate (2 - (lg_sl ([.ref h])).length) Slot.unset).toArray = ls at hl ⊢
  have hl : lv_has ls 2 [(0, .ref h)] := hl
  refine lv_aload_n hx hb dX0_init_0 rfl (lv_at hl 0 rfl) ?_
  refine W.objInit hx hb hown (hts _ q33) (hts _ q34) (hts _ q35) rfl (by rw [hml]; exact hl.1) rfl dX0_init_1 (Nat.le_of_ble_eq_true rfl) (Nat.le_of_ble_eq_true rfl) ?_
  refine W.eq (g2 := F0 m 4 ls []) rfl ?_
  refine lv_aload_n hx hb dX0_init_4 rfl (lv_at hl 0 rfl) ?_
  refine lv_iconst (v := 5) hx hb dX0_init_5 (by decide) ?_
  refine va_newa (atype := .boolean) (ty := .boolean) (N' := 5) (a0 := (5, .inl (fun _ => 0))) hx hb (hts _ q82) rfl hK hP hD hS hA (fun _ => rfl) (by decide) (by decide) (by decide) (Nat.le_of_ble_eq_true rfl) (Nat.le_of_ble_eq_true rfl) dX0_init_6 (fun a0 dZ H hK hP hD hS => ?_)
  have hK : va_K D gw_cl [(dZ, .boolean)] s := hK
  have hP : va_P D gw_cl [(h, .inr (0, [.null, .null, .null, .null, .null, .null, .null, .null, .null, .null, .int 0, .int 0, .int 0, .int 0, .null])), (a0, .inl (dZ, 5, .inl (fun _ => 0)))] H := hP
  have hD : va_D A [(h, .inr (0, [.null, .null, .null, .null, .null, .null, .null, .null, .null, .null, .int 0, .int 0, .int 0, .int 0, .null])), (a0, .inl (dZ, 5, .inl (fun _ => 0)))] := hD
  refine va_putF (ci := 0) (v := .ref a0) (ty := .array .boolean) (C := RX0) (T := TX0) (N := 15) hx hb hts in_X0 tyX0 tyX0_ok nmX0 hown hK hP hD hS 0 rfl rfl 0 (by decide) (hts _ q36) (fun _ h9 => h9) rfl hin rfl (by decide +kernel) rfl rfl (Nat.le_of_ble_eq_true rfl) dX0_init_8 (fun H locs hP hD hS => ?_)
  have hP : va_P D gw_cl [(h, .inr (0, [.ref a0, .null, .null, .null, .null, .null, .null, .null, .null, .null, .int 0, .int 0, .int 0, .int 0, .null])), (a0, .inl (dZ, 5, .inl (fun _ => 0)))] H := hP
  have hD : va_D A [(h, .inr (0, [.ref a0, .null, .null, .null, .null, .null, .null, .null, .null, .null, .int 0, .int 0, .int 0, .int 0, .null])), (a0, .inl (dZ, 5, .inl (fun _ => 0)))] := hD
  refine lv_aload_n hx hb dX0_init_11 rfl (lv_at hl 0 rfl) ?_
  refine lv_bipush (v := 80) hx hb dX0_init_12 (by decide) ?_
  refine va_newa (atype := .int) (ty := .int) (N' := 80) (a0 := (80, .inl (fun _ => 0))) hx hb (hts _ q83) rfl hK hP hD hS hA (fun _ => rfl) (by decide) (by decide) (by decide) (Nat.le_of_ble_eq_true rfl) (Nat.le_of_ble_eq_true rfl) dX0_init_14 (fun a1 dI H hK hP hD hS => ?_)
  have hK : va_K D gw_cl [(dZ, .boolean), (dI, .int)] s := hK
  have hP : va_P D gw_cl [(h, .inr (0, [.ref a0, .null, .null, .null, .null, .null, .null, .null, .null, .null, .int 0, .int 0, .int 0, .int 0, .null])), (a0, .inl (dZ, 5, .inl (fun _ => 0))), (a1, .inl (dI, 80, .inl (fun _ => 0)))] H := hP
  have hD : va_D A [(h, .inr (0, [.ref a0, .null, .null, .null, .null, .null, .null, .null, .null, .null, .int 0, .int 0, .int 0, .int 0, .null])), (a0, .inl (dZ, 5, .inl (fun _ => 0))), (a1, .inl (dI, 80, .inl (fun _ => 0)))] := hD
  refine va_putF (ci := 0) (v := .ref a1) (ty := .array .int) (C := RX0) (T := TX0) (N := 15) hx hb hts in_X0 tyX0 tyX0_ok nmX0 hown hK hP hD hS 0 rfl rfl 1 (by decide) (hts _ q37) (fun _ h9 => h9) rfl hin rfl (by decide +kernel) rfl rfl (Nat.le_of_ble_eq_true rfl) dX0_init_16 (fun H locs hP hD hS => ?_)
  have hP : va_P D gw_cl [(h, .inr (0, [.ref a0, .ref a1, .null, .null, .null, .null, .null, .null, .null, .null, .int 0, .int 0, .int 0, .int 0, .null])), (a0, .inl (dZ, 5, .inl (fun _ => 0))), (a1, .inl (dI, 80, .inl (fun _ => 0)))] H := hP
  have hD : va_D A [(h, .inr (0, [.ref a0, .ref a1, .null, .null, .null, .null, .null, .null, .null, .null, .int 0, .int 0, .int 0, .int 0, .null])), (a0, .inl (dZ, 5, .inl (fun _ => 0))), (a1, .inl (dI, 80, .inl (fun _ => 0)))] := hD
  refine lv_aload_n hx hb dX0_init_19 rfl (lv_at hl 0 rfl) ?_
  refine lv_bipush (v := 80) hx hb dX0_init_20 (by decide) ?_
  refine va_newa (atype := .int) (ty := .int) (N' := 80) (a0 := (80, .inl (fun _ => 0))) hx hb (hts _ q83) rfl hK hP hD hS hA (fun _ => rfl) (by decide) (by decide) (by decide) (Nat.le_of_ble_eq_true rfl) (Nat.le_of_ble_eq_true rfl) dX0_init_22 (fun a2 cA H hK hP hD hS => ?_)
  have eA : cA = dI := Option.some.inj ((va_nm_int (hK.2 2 _ rfl).2).symm.trans (va_nm_int (hK.2 1 _ rfl).2))
  rw [eA] at hP hD
  have hK : va_K D gw_cl [(dZ, .boolean), (dI, .int)] s := hK.sub [0, 1] rfl
  have hP : va_P D gw_cl [(h, .inr (0, [.ref a0, .ref a1, .null, .null, .null, .null, .null, .null, .null, .null, .int 0, .int 0, .int 0, .int 0, .null])), (a0, .inl (dZ, 5, .inl (fun _ => 0))), (a1, .inl (dI, 80, .inl (fun _ => 0))), (a2, .inl (dI, 80, .inl (fun _ => 0)))] H := hP
  have hD : va_D A [(h, .inr (0, [.ref a0, .ref a1, .null, .null, .null, .null, .null, .null, .null, .null, .int 0, .int 0, .int 0, .int 0, .null])), (a0, .inl (dZ, 5, .inl (fun _ => 0))), (a1, .inl (dI, 80, .inl (fun _ => 0))), (a2, .inl (dI, 80, .inl (fun _ => 0)))] := hD
  refine va_putF (ci := 0) (v := .ref a2) (ty := .array .int) (C := RX0) (T := TX0) (N := 15) hx hb hts in_X0 tyX0 tyX0_ok nmX0 hown hK hP hD hS 0 rfl rfl 2 (by decide) (hts _ q38) (fun _ h9 => h9) rfl hin rfl (by decide +kernel) rfl rfl (Nat.le_of_ble_eq_true rfl) dX0_init_24 (fun H locs hP hD hS => ?_)
  have hP : va_P D gw_cl [(h, .inr (0, [.ref a0, .ref a1, .ref a2, .null, .null, .null, .null, .null, .null, .null, .int 0, .int 0, .int 0, .int 0, .null])), (a0, .inl (dZ, 5, .inl (fun _ => 0))), (a1, .inl (dI, 80, .inl (fun _ => 0))), (a2, .inl (dI, 80, .inl (fun _ => 0)))] H := hP
  have hD : va_D A [(h, .inr (0, [.ref a0, .ref a1, .ref a2, .null, .null, .null, .null, .null, .null, .null, .int 0, .int 0, .int 0, .int 0, .null])), (a0, .inl (dZ, 5, .inl (fun _ => 0))), (a1, .inl (dI, 80, .inl (fun _ => 0))), (a2, .inl (dI, 80, .inl (fun _ => 0)))] := hD
  refine lv_aload_n hx hb dX0_init_27 rfl (lv_at hl 0 rfl) ?_
  refine lv_sipush (v := 1280) hx hb dX0_init_28 (by decide) ?_
  refine va_newa (atype := .int) (ty := .int) (N' := 1280) (a0 := (1280, .inl (fun _ => 0))) hx hb (hts _ q83) rfl hK hP hD hS hA (fun _ => rfl) (by decide) (by decide) (by decide) (Nat.le_of_ble_eq_true rfl) (Nat.le_of_ble_eq_true rfl) dX0_init_31 (fun a3 cA H hK hP hD hS => ?_)
  have eA : cA = dI := Option.some.inj ((va_nm_int (hK.2 2 _ rfl).2).symm.trans (va_nm_int (hK.2 1 _ rfl).2))
  rw [eA] at hP hD
  have hK : va_K D gw_cl [(dZ, .boolean), (dI, .int)] s := hK.sub [0, 1] rfl
  have hP : va_P D gw_cl [(h, .inr (0, [.ref a0, .ref a1, .ref a2, .null, .null, .null, .null, .null, .null, .null, .int 0, .int 0, .int 0, .int 0, .null])), (a0, .inl (dZ, 5, .inl (fun _ => 0))), (a1, .inl (dI, 80, .inl (fun _ => 0))), (a2, .inl (dI, 80, .inl (fun _ => 0))), (a3, .inl (dI, 1280, .inl (fun _ => 0)))] H := hP
  have hD : va_D A [(h, .inr (0, [.ref a0, .ref a1, .ref a2, .null, .null, .null, .null, .null, .null, .null, .int 0, .int 0, .int 0, .int 0, .null])), (a0, .inl (dZ, 5, .inl (fun _ => 0))), (a1, .inl (dI, 80, .inl (fun _ => 0))), (a2, .inl (dI, 80, .inl (fun _ => 0))), (a3, .inl (dI, 1280, .inl (fun _ => 0)))] := hD
  refine va_putF (ci := 0) (v := .ref a3) (ty := .array .int) (C := RX0) (T := TX0) (N := 15) hx hb hts in_X0 tyX0 tyX0_ok nmX0 hown hK hP hD hS 0 rfl rfl 3 (by decide) (hts _ q39) (fun _ h9 => h9) rfl hin rfl (by decide +kernel) rfl rfl (Nat.le_of_ble_eq_true rfl) dX0_init_33 (fun H locs hP hD hS => ?_)
  have hP : va_P D gw_cl [(h, .inr (0, [.ref a0, .ref a1, .ref a2, .ref a3, .null, .null, .null, .null, .null, .null, .int 0, .int 0, .int 0, .int 0, .null])), (a0, .inl (dZ, 5, .inl (fun _ => 0))), (a1, .inl (dI, 80, .inl (fun _ => 0))), (a2, .inl (dI, 80, .inl (fun _ => 0))), (a3, .inl (dI, 1280, .inl (fun _ => 0)))] H := hP
  have hD : va_D A [(h, .inr (0, [.ref a0, .ref a1, .ref a2, .ref a3, .null, .null, .null, .null, .null, .null, .int 0, .int 0, .int 0, .int 0, .null])), (a0, .inl (dZ, 5, .inl (fun _ => 0))), (a1, .inl (dI, 80, .inl (fun _ => 0))), (a2, .inl (dI, 80, .inl (fun _ => 0))), (a3, .inl (dI, 1280, .inl (fun _ => 0)))] := hD
  refine lv_aload_n hx hb dX0_init_36 rfl (lv_at hl 0 rfl) ?_
  refine lv_bipush (v := 80) hx hb dX0_init_37 (by decide) ?_
  refine va_newa (atype := .int) (ty := .int) (N' := 80) (a0 := (80, .inl (fun _ => 0))) hx hb (hts _ q83) rfl hK hP hD hS hA (fun _ => rfl) (by decide) (by decide) (by decide) (Nat.le_of_ble_eq_true rfl) (Nat.le_of_ble_eq_true rfl) dX0_init_39 (fun a4 cA H hK hP hD hS => ?_)
  have eA : cA = dI := Option.some.inj ((va_nm_int (hK.2 2 _ rfl).2).symm.trans (va_nm_int (hK.2 1 _ rfl).2))
  rw [eA] at hP hD
  have hK : va_K D gw_cl [(dZ, .boolean), (dI, .int)] s := hK.sub [0, 1] rfl
  have hP : va_P D gw_cl [(h, .inr (0, [.ref a0, .ref a1, .ref a2, .ref a3, .null, .null, .null, .null, .null, .null, .int 0, .int 0, .int 0, .int 0, .null])), (a0, .inl (dZ, 5, .inl (fun _ => 0))), (a1, .inl (dI, 80, .inl (fun _ => 0))), (a2, .inl (dI, 80, .inl (fun _ => 0))), (a3, .inl (dI, 1280, .inl (fun _ => 0))), (a4, .inl (dI, 80, .inl (fun _ => 0)))] H := hP
  have hD : va_D A [(h, .inr (0, [.ref a0, .ref a1, .ref a2, .ref a3, .null, .null, .null, .null, .null, .null, .int 0, .int 0, .int 0, .int 0, .null])), (a0, .inl (dZ, 5, .inl (fun _ => 0))), (a1, .inl (dI, 80, .inl (fun _ => 0))), (a2, .inl (dI, 80, .inl (fun _ => 0))), (a3, .inl (dI, 1280, .inl (fun _ => 0))), (a4, .inl (dI, 80, .inl (fun _ => 0)))] := hD
  refine va_putF (ci := 0) (v := .ref a4) (ty := .array .int) (C := RX0) (T := TX0) (N := 15) hx hb hts in_X0 tyX0 tyX0_ok nmX0 hown hK hP hD hS 0 rfl rfl 4 (by decide) (hts _ q40) (fun _ h9 => h9) rfl hin rfl (by decide +kernel) rfl rfl (Nat.le_of_ble_eq_true rfl) dX0_init_41 (fun H locs hP hD hS => ?_)
  have hP : va_P D gw_cl [(h, .inr (0, [.ref a0, .ref a1, .ref a2, .ref a3, .ref a4, .null, .null, .null, .null, .null, .int 0, .int 0, .int 0, .int 0, .null])), (a0, .inl (dZ, 5, .inl (fun _ => 0))), (a1, .inl (dI, 80, .inl (fun _ => 0))), (a2, .inl (dI, 80, .inl (fun _ => 0))), (a3, .inl (dI, 1280, .inl (fun _ => 0))), (a4, .inl (dI, 80, .inl (fun _ => 0)))] H := hP
  have hD : va_D A [(h, .inr (0, [.ref a0, .ref a1, .ref a2, .ref a3, .ref a4, .null, .null, .null, .null, .null, .int 0, .int 0, .int 0, .int 0, .null])), (a0, .inl (dZ, 5, .inl (fun _ => 0))), (a1, .inl (dI, 80, .inl (fun _ => 0))), (a2, .inl (dI, 80, .inl (fun _ => 0))), (a3, .inl (dI, 1280, .inl (fun _ => 0))), (a4, .inl (dI, 80, .inl (fun _ => 0)))] := hD
  refine lv_aload_n hx hb dX0_init_44 rfl (lv_at hl 0 rfl) ?_
  refine lv_bipush (v := 80) hx hb dX0_init_45 (by decide) ?_
  refine va_newa (atype := .int) (ty := .int) (N' := 80) (a0 := (80, .inl (fun _ => 0))) hx hb (hts _ q83) rfl hK hP hD hS hA (fun _ => rfl) (by decide) (by decide) (by decide) (Nat.le_of_ble_eq_true rfl) (Nat.le_of_ble_eq_true rfl) dX0_init_47 (fun a5 cA H hK hP hD hS => ?_)
  have eA : cA = dI := Option.some.inj ((va_nm_int (hK.2 2 _ rfl).2).symm.trans (va_nm_int (hK.2 1 _ rfl).2))
  rw [eA] at hP hD
  have hK : va_K D gw_cl [(dZ, .boolean), (dI, .int)] s := hK.sub [0, 1] rfl
  have hP : va_P D gw_cl [(h, .inr (0, [.ref a0, .ref a1, .ref a2, .ref a3, .ref a4, .null, .null, .null, .null, .null, .int 0, .int 0, .int 0, .int 0, .null])), (a0, .inl (dZ, 5, .inl (fun _ => 0))), (a1, .inl (dI, 80, .inl (fun _ => 0))), (a2, .inl (dI, 80, .inl (fun _ => 0))), (a3, .inl (dI, 1280, .inl (fun _ => 0))), (a4, .inl (dI, 80, .inl (fun _ => 0))), (a5, .inl (dI, 80, .inl (fun _ => 0)))] H := hP
  have hD : va_D A [(h, .inr (0, [.ref a0, .ref a1, .ref a2, .ref a3, .ref a4, .null, .null, .null, .null, .null, .int 0, .int 0, .int 0, .int 0, .null])), (a0, .inl (dZ, 5, .inl (fun _ => 0))), (a1, .inl (dI, 80, .inl (fun _ => 0))), (a2, .inl (dI, 80, .inl (fun _ => 0))), (a3, .inl (dI, 1280, .inl (fun _ => 0))), (a4, .inl (dI, 80, .inl (fun _ => 0))), (a5, .inl (dI, 80, .inl (fun _ => 0)))] := hD
  refine va_putF (ci := 0) (v := .ref a5) (ty := .array .int) (C := RX0) (T := TX0) (N := 15) hx hb hts in_X0 tyX0 tyX0_ok nmX0 hown hK hP hD hS 0 rfl rfl 5 (by decide) (hts _ q41) (fun _ h9 => h9) rfl hin rfl (by decide +kernel) rfl rfl (Nat.le_of_ble_eq_true rfl) dX0_init_49 (fun H locs hP hD hS => ?_)
  have hP : va_P D gw_cl [(h, .inr (0, [.ref a0, .ref a1, .ref a2, .ref a3, .ref a4, .ref a5, .null, .null, .null, .null, .int 0, .int 0, .int 0, .int 0, .null])), (a0, .inl (dZ, 5, .inl (fun _ => 0))), (a1, .inl (dI, 80, .inl (fun _ => 0))), (a2, .inl (dI, 80, .inl (fun _ => 0))), (a3, .inl (dI, 1280, .inl (fun _ => 0))), (a4, .inl (dI, 80, .inl (fun _ => 0))), (a5, .inl (dI, 80, .inl (fun _ => 0)))] H := hP
  have hD : va_D A [(h, .inr (0, [.ref a0, .ref a1, .ref a2, .ref a3, .ref a4, .ref a5, .null, .null, .null, .null, .int 0, .int 0, .int 0, .int 0, .null])), (a0, .inl (dZ, 5, .inl (fun _ => 0))), (a1, .inl (dI, 80, .inl (fun _ => 0))), (a2, .inl (dI, 80, .inl (fun _ => 0))), (a3, .inl (dI, 1280, .inl (fun _ => 0))), (a4, .inl (dI, 80, .inl (fun _ => 0))), (a5, .inl (dI, 80, .inl (fun _ => 0)))] := hD
  refine lv_aload_n hx hb dX0_init_52 rfl (lv_at hl 0 rfl) ?_
  refine lv_bipush (v := 80) hx hb dX0_init_53 (by decide) ?_
  refine va_newa (atype := .boolean) (ty := .boolean) (N' := 80) (a0 := (80, .inl (fun _ => 0))) hx hb (hts _ q82) rfl hK hP hD hS hA (fun _ => rfl) (by decide) (by decide) (by decide) (Nat.le_of_ble_eq_true rfl) (Nat.le_of_ble_eq_true rfl) dX0_init_55 (fun a6 cA H hK hP hD hS => ?_)
  have eA : cA = dZ := Option.some.inj ((va_nm_boolean (hK.2 2 _ rfl).2).symm.trans (va_nm_boolean (hK.2 0 _ rfl).2))
  rw [eA] at hP hD
  have hK : va_K D gw_cl [(dZ, .boolean), (dI, .int)] s := hK.sub [0, 1] rfl
  have hP : va_P D gw_cl [(h, .inr (0, [.ref a0, .ref a1, .ref a2, .ref a3, .ref a4, .ref a5, .null, .null, .null, .null, .int 0, .int 0, .int 0, .int 0, .null])), (a0, .inl (dZ, 5, .inl (fun _ => 0))), (a1, .inl (dI, 80, .inl (fun _ => 0))), (a2, .inl (dI, 80, .inl (fun _ => 0))), (a3, .inl (dI, 1280, .inl (fun _ => 0))), (a4, .inl (dI, 80, .inl (fun _ => 0))), (a5, .inl (dI, 80, .inl (fun _ => 0))), (a6, .inl (dZ, 80, .inl (fun _ => 0)))] H := hP
  have hD : va_D A [(h, .inr (0, [.ref a0, .ref a1, .ref a2, .ref a3, .ref a4, .ref a5, .null, .null, .null, .null, .int 0, .int 0, .int 0, .int 0, .null])), (a0, .inl (dZ, 5, .inl (fun _ => 0))), (a1, .inl (dI, 80, .inl (fun _ => 0))), (a2, .inl (dI, 80, .inl (fun _ => 0))), (a3, .inl (dI, 1280, .inl (fun _ => 0))), (a4, .inl (dI, 80, .inl (fun _ => 0))), (a5, .inl (dI, 80, .inl (fun _ => 0))), (a6, .inl (dZ, 80, .inl (fun _ => 0)))] := hD
  refine va_putF (ci := 0) (v := .ref a6) (ty := .array .boolean) (C := RX0) (T := TX0) (N := 15) hx hb hts in_X0 tyX0 tyX0_ok nmX0 hown hK hP hD hS 0 rfl rfl 6 (by decide) (hts _ q42) (fun _ h9 => h9) rfl hin rfl (by decide +kernel) rfl rfl (Nat.le_of_ble_eq_true rfl) dX0_init_57 (fun H locs hP hD hS => ?_)
  have hP : va_P D gw_cl [(h, .inr (0, [.ref a0, .ref a1, .ref a2, .ref a3, .ref a4, .ref a5, .ref a6, .null, .null, .null, .int 0, .int 0, .int 0, .int 0, .null])), (a0, .inl (dZ, 5, .inl (fun _ => 0))), (a1, .inl (dI, 80, .inl (fun _ => 0))), (a2, .inl (dI, 80, .inl (fun _ => 0))), (a3, .inl (dI, 1280, .inl (fun _ => 0))), (a4, .inl (dI, 80, .inl (fun _ => 0))), (a5, .inl (dI, 80, .inl (fun _ => 0))), (a6, .inl (dZ, 80, .inl (fun _ => 0)))] H := hP
  have hD : va_D A [(h, .inr (0, [.ref a0, .ref a1, .ref a2, .ref a3, .ref a4, .ref a5, .ref a6, .null, .null, .null, .int 0, .int 0, .int 0, .int 0, .null])), (a0, .inl (dZ, 5, .inl (fun _ => 0))), (a1, .inl (dI, 80, .inl (fun _ => 0))), (a2, .inl (dI, 80, .inl (fun _ => 0))), (a3, .inl (dI, 1280, .inl (fun _ => 0))), (a4, .inl (dI, 80, .inl (fun _ => 0))), (a5, .inl (dI, 80, .inl (fun _ => 0))), (a6, .inl (dZ, 80, .inl (fun _ => 0)))] := hD
  refine lv_aload_n hx hb dX0_init_60 rfl (lv_at hl 0 rfl) ?_
  refine lv_bipush (v := 80) hx hb dX0_init_61 (by decide) ?_
  refine va_newa (atype := .int) (ty := .int) (N' := 80) (a0 := (80, .inl (fun _ => 0))) hx hb (hts _ q83) rfl hK hP hD hS hA (fun _ => rfl) (by decide) (by decide) (by decide) (Nat.le_of_ble_eq_true rfl) (Nat.le_of_ble_eq_true rfl) dX0_init_63 (fun a7 cA H hK hP hD hS => ?_)
  have eA : cA = dI := Option.some.inj ((va_nm_int (hK.2 2 _ rfl).2).symm.trans (va_nm_int (hK.2 1 _ rfl).2))
  rw [eA] at hP hD
  have hK : va_K D gw_cl [(dZ, .boolean), (dI, .int)] s := hK.sub [0, 1] rfl
  have hP : va_P D gw_cl [(h, .inr (0, [.ref a0, .ref a1, .ref a2, .ref a3, .ref a4, .ref a5, .ref a6, .null, .null, .null, .int 0, .int 0, .int 0, .int 0, .null])), (a0, .inl (dZ, 5, .inl (fun _ => 0))), (a1, .inl (dI, 80, .inl (fun _ => 0))), (a2, .inl (dI, 80, .inl (fun _ => 0))), (a3, .inl (dI, 1280, .inl (fun _ => 0))), (a4, .inl (dI, 80, .inl (fun _ => 0))), (a5, .inl (dI, 80, .inl (fun _ => 0))), (a6, .inl (dZ, 80, .inl (fun _ => 0))), (a7, .inl (dI, 80, .inl (fun _ => 0)))] H := hP
  have hD : va_D A [(h, .inr (0, [.ref a0, .ref a1, .ref a2, .ref a3, .ref a4, .ref a5, .ref a6, .null, .null, .null, .int 0, .int 0, .int 0, .int 0, .null])), (a0, .inl (dZ, 5, .inl (fun _ => 0))), (a1, .inl (dI, 80, .inl (fun _ => 0))), (a2, .inl (dI, 80, .inl (fun _ => 0))), (a3, .inl (dI, 1280, .inl (fun _ => 0))), (a4, .inl (dI, 80, .inl (fun _ => 0))), (a5, .inl (dI, 80, .inl (fun _ => 0))), (a6, .inl (dZ, 80, .inl (fun _ => 0))), (a7, .inl (dI, 80, .inl (fun _ => 0)))] := hD
  refine va_putF (ci := 0) (v := .ref a7) (ty := .array .int) (C := RX0) (T := TX0) (N := 15) hx hb hts in_X0 tyX0 tyX0_ok nmX0 hown hK hP hD hS 0 rfl rfl 7 (by decide) (hts _ q43) (fun _ h9 => h9) rfl hin rfl (by decide +kernel) rfl rfl (Nat.le_of_ble_eq_true rfl) dX0_init_65 (fun H locs hP hD hS => ?_)
  have hP : va_P D gw_cl [(h, .inr (0, [.ref a0, .ref a1, .ref a2, .ref a3, .ref a4, .ref a5, .ref a6, .ref a7, .null, .null, .int 0, .int 0, .int 0, .int 0, .null])), (a0, .inl (dZ, 5, .inl (fun _ => 0))), (a1, .inl (dI, 80, .inl (fun _ => 0))), (a2, .inl (dI, 80, .inl (fun _ => 0))), (a3, .inl (dI, 1280, .inl (fun _ => 0))), (a4, .inl (dI, 80, .inl (fun _ => 0))), (a5, .inl (dI, 80, .inl (fun _ => 0))), (a6, .inl (dZ, 80, .inl (fun _ => 0))), (a7, .inl (dI, 80, .inl (fun _ => 0)))] H := hP
  have hD : va_D A [(h, .inr (0, [.ref a0, .ref a1, .ref a2, .ref a3, .ref a4, .ref a5, .ref a6, .ref a7, .null, .null, .int 0, .int 0, .int 0, .int 0, .null])), (a0, .inl (dZ, 5, .inl (fun _ => 0))), (a1, .inl (dI, 80, .inl (fun _ => 0))), (a2, .inl (dI, 80, .inl (fun _ => 0))), (a3, .inl (dI, 1280, .inl (fun _ => 0))), (a4, .inl (dI, 80, .inl (fun _ => 0))), (a5, .inl (dI, 80, .inl (fun _ => 0))), (a6, .inl (dZ, 80, .inl (fun _ => 0))), (a7, .inl (dI, 80, .inl (fun _ => 0)))] := hD
  refine lv_aload_n hx hb dX0_init_68 rfl (lv_at hl 0 rfl) ?_
  refine lv_bipush (v := 80) hx hb dX0_init_69 (by decide) ?_
  refine va_newa (atype := .boolean) (ty := .boolean) (N' := 80) (a0 := (80, .inl (fun _ => 0))) hx hb (hts _ q82) rfl hK hP hD hS hA (fun _ => rfl) (by decide) (by decide) (by decide) (Nat.le_of_ble_eq_true rfl) (Nat.le_of_ble_eq_true rfl) dX0_init_71 (fun a8 cA H hK hP hD hS => ?_)
  have eA : cA = dZ := Option.some.inj ((va_nm_boolean (hK.2 2 _ rfl).2).symm.trans (va_nm_boolean (hK.2 0 _ rfl).2))
  rw [eA] at hP hD
  have hK : va_K D gw_cl [(dZ, .boolean), (dI, .int)] s := hK.sub [0, 1] rfl
  have hP : va_P D gw_cl [(h, .inr (0, [.ref a0, .ref a1, .ref a2, .ref a3, .ref a4, .ref a5, .ref a6, .ref a7, .null, .null, .int 0, .int 0, .int 0, .int 0, .null])), (a0, .inl (dZ, 5, .inl (fun _ => 0))), (a1, .inl (dI, 80, .inl (fun _ => 0))), (a2, .inl (dI, 80, .inl (fun _ => 0))), (a3, .inl (dI, 1280, .inl (fun _ => 0))), (a4, .inl (dI, 80, .inl (fun _ => 0))), (a5, .inl (dI, 80, .inl (fun _ => 0))), (a6, .inl (dZ, 80, .inl (fun _ => 0))), (a7, .inl (dI, 80, .inl (fun _ => 0))), (a8, .inl (dZ, 80, .inl (fun _ => 0)))] H := hP
  have hD : va_D A [(h, .inr (0, [.ref a0, .ref a1, .ref a2, .ref a3, .ref a4, .ref a5, .ref a6, .ref a7, .null, .null, .int 0, .int 0, .int 0, .int 0, .null])), (a0, .inl (dZ, 5, .inl (fun _ => 0))), (a1, .inl (dI, 80, .inl (fun _ => 0))), (a2, .inl (dI, 80, .inl (fun _ => 0))), (a3, .inl (dI, 1280, .inl (fun _ => 0))), (a4, .inl (dI, 80, .inl (fun _ => 0))), (a5, .inl (dI, 80, .inl (fun _ => 0))), (a6, .inl (dZ, 80, .inl (fun _ => 0))), (a7, .inl (dI, 80, .inl (fun _ => 0))), (a8, .inl (dZ, 80, .inl (fun _ => 0)))] := hD
  refine va_putF (ci := 0) (v := .ref a8) (ty := .array .boolean) (C := RX0) (T := TX0) (N := 15) hx hb hts in_X0 tyX0 tyX0_ok nmX0 hown hK hP hD hS 0 rfl rfl 8 (by decide) (hts _ q44) (fun _ h9 => h9) rfl hin rfl (by decide +kernel) rfl rfl (Nat.le_of_ble_eq_true rfl) dX0_init_73 (fun H locs hP hD hS => ?_)
  have hP : va_P D gw_cl [(h, .inr (0, [.ref a0, .ref a1, .ref a2, .ref a3, .ref a4, .ref a5, .ref a6, .ref a7, .ref a8, .null, .int 0, .int 0, .int 0, .int 0, .null])), (a0, .inl (dZ, 5, .inl (fun _ => 0))), (a1, .inl (dI, 80, .inl (fun _ => 0))), (a2, .inl (dI, 80, .inl (fun _ => 0))), (a3, .inl (dI, 1280, .inl (fun _ => 0))), (a4, .inl (dI, 80, .inl (fun _ => 0))), (a5, .inl (dI, 80, .inl (fun _ => 0))), (a6, .inl (dZ, 80, .inl (fun _ => 0))), (a7, .inl (dI, 80, .inl (fun _ => 0))), (a8, .inl (dZ, 80, .inl (fun _ => 0)))] H := hP
  have hD : va_D A [(h, .inr (0, [.ref a0, .ref a1, .ref a2, .ref a3, .ref a4, .ref a5, .ref a6, .ref a7, .ref a8, .null, .int 0, .int 0, .int 0, .int 0, .null])), (a0, .inl (dZ, 5, .inl (fun _ => 0))), (a1, .inl (dI, 80, .inl (fun _ => 0))), (a2, .inl (dI, 80, .inl (fun _ => 0))), (a3, .inl (dI, 1280, .inl (fun _ => 0))), (a4, .inl (dI, 80, .inl (fun _ => 0))), (a5, .inl (dI, 80, .inl (fun _ => 0))), (a6, .inl (dZ, 80, .inl (fun _ => 0))), (a7, .inl (dI, 80, .inl (fun _ => 0))), (a8, .inl (dZ, 80, .inl (fun _ => 0)))] := hD
  refine lv_aload_n hx hb dX0_init_76 rfl (lv_at hl 0 rfl) ?_
  refine lv_bipush (v := 80) hx hb dX0_init_77 (by decide) ?_
  refine va_newa (atype := .int) (ty := .int) (N' := 80) (a0 := (80, .inl (fun _ => 0))) hx hb (hts _ q83) rfl hK hP hD hS hA (fun _ => rfl) (by decide) (by decide) (by decide) (Nat.le_of_ble_eq_true rfl) (Nat.le_of_ble_eq_true rfl) dX0_init_79 (fun a9 cA H hK hP hD hS => ?_)
  have eA : cA = dI := Option.some.inj ((va_nm_int (hK.2 2 _ rfl).2).symm.trans (va_nm_int (hK.2 1 _ rfl).2))
  rw [eA] at hP hD
  have hK : va_K D gw_cl [(dZ, .boolean), (dI, .int)] s := hK.sub [0, 1] rfl
  have hP : va_P D gw_cl [(h, .inr (0, [.ref a0, .ref a1, .ref a2, .ref a3, .ref a4, .ref a5, .ref a6, .ref a7, .ref a8, .null, .int 0, .int 0, .int 0, .int 0, .null])), (a0, .inl (dZ, 5, .inl (fun _ => 0))), (a1, .inl (dI, 80, .inl (fun _ => 0))), (a2, .inl (dI, 80, .inl (fun _ => 0))), (a3, .inl (dI, 1280, .inl (fun _ => 0))), (a4, .inl (dI, 80, .inl (fun _ => 0))), (a5, .inl (dI, 80, .inl (fun _ => 0))), (a6, .inl (dZ, 80, .inl (fun _ => 0))), (a7, .inl (dI, 80, .inl (fun _ => 0))), (a8, .inl (dZ, 80, .inl (fun _ => 0))), (a9, .inl (dI, 80, .inl (fun _ => 0)))] H := hP
  have hD : va_D A [(h, .inr (0, [.ref a0, .ref a1, .ref a2, .ref a3, .ref a4, .ref a5, .ref a6, .ref a7, .ref a8, .null, .int 0, .int 0, .int 0, .int 0, .null])), (a0, .inl (dZ, 5, .inl (fun _ => 0))), (a1, .inl (dI, 80, .inl (fun _ => 0))), (a2, .inl (dI, 80, .inl (fun _ => 0))), (a3, .inl (dI, 1280, .inl (fun _ => 0))), (a4, .inl (dI, 80, .inl (fun _ => 0))), (a5, .inl (dI, 80, .inl (fun _ => 0))), (a6, .inl (dZ, 80, .inl (fun _ => 0))), (a7, .inl (dI, 80, .inl (fun _ => 0))), (a8, .inl (dZ, 80, .inl (fun _ => 0))), (a9, .inl (dI, 80, .inl (fun _ => 0)))] := hD
  refine va_putF (ci := 0) (v := .ref a9) (ty := .array .int) (C := RX0) (T := TX0) (N := 15) hx hb hts in_X0 tyX0 tyX0_ok nmX0 hown hK hP hD hS 0 rfl rfl 9 (by decide) (hts _ q45) (fun _ h9 => h9) rfl hin rfl (by decide +kernel) rfl rfl (Nat.le_of_ble_eq_true rfl) dX0_init_81 (fun H locs hP hD hS => ?_)
  have hP : va_P D gw_cl [(h, .inr (0, [.ref a0, .ref a1, .ref a2, .ref a3, .ref a4, .ref a5, .ref a6, .ref a7, .ref a8, .ref a9, .int 0, .int 0, .int 0, .int 0, .null])), (a0, .inl (dZ, 5, .inl (fun _ => 0))), (a1, .inl (dI, 80, .inl (fun _ => 0))), (a2, .inl (dI, 80, .inl (fun _ => 0))), (a3, .inl (dI, 1280, .inl (fun _ => 0))), (a4, .inl (dI, 80, .inl (fun _ => 0))), (a5, .inl (dI, 80, .inl (fun _ => 0))), (a6, .inl (dZ, 80, .inl (fun _ => 0))), (a7, .inl (dI, 80, .inl (fun _ => 0))), (a8, .inl (dZ, 80, .inl (fun _ => 0))), (a9, .inl (dI, 80, .inl (fun _ => 0)))] H := hP
  have hD : va_D A [(h, .inr (0, [.ref a0, .ref a1, .ref a2, .ref a3, .ref a4, .ref a5, .ref a6, .ref a7, .ref a8, .ref a9, .int 0, .int 0, .int 0, .int 0, .null])), (a0, .inl (dZ, 5, .inl (fun _ => 0))), (a1, .inl (dI, 80, .inl (fun _ => 0))), (a2, .inl (dI, 80, .inl (fun _ => 0))), (a3, .inl (dI, 1280, .inl (fun _ => 0))), (a4, .inl (dI, 80, .inl (fun _ => 0))), (a5, .inl (dI, 80, .inl (fun _ => 0))), (a6, .inl (dZ, 80, .inl (fun _ => 0))), (a7, .inl (dI, 80, .inl (fun _ => 0))), (a8, .inl (dZ, 80, .inl (fun _ => 0))), (a9, .inl (dI, 80, .inl (fun _ => 0)))] := hD
  refine lv_aload_n hx hb dX0_init_84 rfl (lv_at hl 0 rfl) ?_
  refine lv_sipush (v := 256) hx hb dX0_init_85 (by decide) ?_
  refine va_newa (atype := .int) (ty := .int) (N' := 256) (a0 := (256, .inl (fun _ => 0))) hx hb (hts _ q83) rfl hK hP hD hS hA (fun _ => rfl) (by decide) (by decide) (by decide) (Nat.le_of_ble_eq_true rfl) (Nat.le_of_ble_eq_true rfl) dX0_init_88 (fun a14 cA H hK hP hD hS => ?_)
  have eA : cA = dI := Option.some.inj ((va_nm_int (hK.2 2 _ rfl).2).symm.trans (va_nm_int (hK.2 1 _ rfl).2))
  rw [eA] at hP hD
  have hK : va_K D gw_cl [(dZ, .boolean), (dI, .int)] s := hK.sub [0, 1] rfl
  have hP : va_P D gw_cl [(h, .inr (0, [.ref a0, .ref a1, .ref a2, .ref a3, .ref a4, .ref a5, .ref a6, .ref a7, .ref a8, .ref a9, .int 0, .int 0, .int 0, .int 0, .null])), (a0, .inl (dZ, 5, .inl (fun _ => 0))), (a1, .inl (dI, 80, .inl (fun _ => 0))), (a2, .inl (dI, 80, .inl (fun _ => 0))), (a3, .inl (dI, 1280, .inl (fun _ => 0))), (a4, .inl (dI, 80, .inl (fun _ => 0))), (a5, .inl (dI, 80, .inl (fun _ => 0))), (a6, .inl (dZ, 80, .inl (fun _ => 0))), (a7, .inl (dI, 80, .inl (fun _ => 0))), (a8, .inl (dZ, 80, .inl (fun _ => 0))), (a9, .inl (dI, 80, .inl (fun _ => 0))), (a14, .inl (dI, 256, .inl (fun _ => 0)))] H := hP
  have hD : va_D A [(h, .inr (0, [.ref a0, .ref a1, .ref a2, .ref a3, .ref a4, .ref a5, .ref a6, .ref a7, .ref a8, .ref a9, .int 0, .int 0, .int 0, .int 0, .null])), (a0, .inl (dZ, 5, .inl (fun _ => 0))), (a1, .inl (dI, 80, .inl (fun _ => 0))), (a2, .inl (dI, 80, .inl (fun _ => 0))), (a3, .inl (dI, 1280, .inl (fun _ => 0))), (a4, .inl (dI, 80, .inl (fun _ => 0))), (a5, .inl (dI, 80, .inl (fun _ => 0))), (a6, .inl (dZ, 80, .inl (fun _ => 0))), (a7, .inl (dI, 80, .inl (fun _ => 0))), (a8, .inl (dZ, 80, .inl (fun _ => 0))), (a9, .inl (dI, 80, .inl (fun _ => 0))), (a14, .inl (dI, 256, .inl (fun _ => 0)))] := hD
  refine va_putF (ci := 0) (v := .ref a14) (ty := .array .int) (C := RX0) (T := TX0) (N := 15) hx hb hts in_X0 tyX0 tyX0_ok nmX0 hown hK hP hD hS 0 rfl rfl 14 (by decide) (hts _ q50) (fun _ h9 => h9) rfl hin rfl (by decide +kernel) rfl rfl (Nat.le_of_ble_eq_true rfl) dX0_init_90 (fun H locs hP hD hS => ?_)
  have hP : va_P D gw_cl [(h, .inr (0, [.ref a0, .ref a1, .ref a2, .ref a3, .ref a4, .ref a5, .ref a6, .ref a7, .ref a8, .ref a9, .int 0, .int 0, .int 0, .int 0, .ref a14])), (a0, .inl (dZ, 5, .inl (fun _ => 0))), (a1, .inl (dI, 80, .inl (fun _ => 0))), (a2, .inl (dI, 80, .inl (fun _ => 0))), (a3, .inl (dI, 1280, .inl (fun _ => 0))), (a4, .inl (dI, 80, .inl (fun _ => 0))), (a5, .inl (dI, 80, .inl (fun _ => 0))), (a6, .inl (dZ, 80, .inl (fun _ => 0))), (a7, .inl (dI, 80, .inl (fun _ => 0))), (a8, .inl (dZ, 80, .inl (fun _ => 0))), (a9, .inl (dI, 80, .inl (fun _ => 0))), (a14, .inl (dI, 256, .inl (fun _ => 0)))] H := hP
  have hD : va_D A [(h, .inr (0, [.ref a0, .ref a1, .ref a2, .ref a3, .ref a4, .ref a5, .ref a6, .ref a7, .ref a8, .ref a9, .int 0, .int 0, .int 0, .int 0, .ref a14])), (a0, .inl (dZ, 5, .inl (fun _ => 0))), (a1, .inl (dI, 80, .inl (fun _ => 0))), (a2, .inl (dI, 80, .inl (fun _ => 0))), (a3, .inl (dI, 1280, .inl (fun _ => 0))), (a4, .inl (dI, 80, .inl (fun _ => 0))), (a5, .inl (dI, 80, .inl (fun _ => 0))), (a6, .inl (dZ, 80, .inl (fun _ => 0))), (a7, .inl (dI, 80, .inl (fun _ => 0))), (a8, .inl (dZ, 80, .inl (fun _ => 0))), (a9, .inl (dI, 80, .inl (fun _ => 0))), (a14, .inl (dI, 256, .inl (fun _ => 0)))] := hD
  refine W.widen (k := 11) (n := 2181) (Nat.le_of_ble_eq_true rfl) (Nat.le_of_ble_eq_true rfl) ?_
  obtain ⟨q, hq⟩ : ∃ q : Nat → Nat, xw_ws dZ dI h q ca_z = [(h, .inr (0, [.ref a0, .ref a1, .ref a2, .ref a3, .ref a4, .ref a5, .ref a6, .ref a7, .ref a8, .ref a9, .int 0, .int 0, .int 0, .int 0, .ref a14])), (a0, .inl (dZ, 5, .inl (fun _ => 0))), (a1, .inl (dI, 80, .inl (fun _ => 0))), (a2, .inl (dI, 80, .inl (fun _ => 0))), (a3, .inl (dI, 1280, .inl (fun _ => 0))), (a4, .inl (dI, 80, .inl (fun _ => 0))), (a5, .inl (dI, 80, .inl (fun _ => 0))), (a6, .inl (dZ, 80, .inl (fun _ => 0))), (a7, .inl (dI, 80, .inl (fun _ => 0))), (a8, .inl (dZ, 80, .inl (fun _ => 0))), (a9, .inl (dI, 80, .inl (fun _ => 0))), (a14, .inl (dI, 256, .inl (fun _ => 0)))] := ⟨fun k => if k = 0 then a0 else if k = 1 then a1 else if k = 2 then a2 else if k = 3 then a3 else if k = 4 then a4 else if k = 5 then a5 else if k = 6 then a6 else if k = 7 then a7 else if k = 8 then a8 else if k = 9 then a9 else a14, rfl⟩
  rw [← hq] at hP hD
  have hw : gw_W D A s.heap (xw_ws dZ dI h q) ca_z H locs := ⟨hP, hD, hS⟩
  have cx : gw_cx p s m _ c cX0_init 2 RX0 D (xw_T dZ dI) A := ⟨hx, hb, hml, hown, hts, hK, hA⟩
  exact xw_init_tail cx hw hl (fun H locs ls hw => W.vret hx hb hr (fun t ht hW => ⟨⟨(q, dZ, dI), rfl, trivial, by rw [ht]; exact hw.1, va_K.moved hW.alike hK, hw.2.1⟩, hw.2.2.F ht⟩) hw.2.2.2.2 dX0_init_138)
abbrev rmX1_init : Room := { frames := 1, cells := 4, slots := 1540, locals := 12 }
abbrev mw_f0 : List Value := [.null, .null, .null, .null]
def mw_BI (D : va_G) (dZ dI : ClassId) (A : Nat → Prop) (h : Nat) (u : Nat → Nat) (t : State) : Prop := gw_B D (xw_T dZ dI) (mw_ws dZ dI h u) A ca_z t
set_option maxHeartbeats 1000000 in
set_option maxRecDepth 100000 in
theorem mtX1_init (l : Launch) (D : va_G) (dZ dI : ClassId) (h sz : Nat) : Met l yX1_init (ws_ yX1_init cX1_init 1 none) rmX1_init (va_Pc [.ref h] (fun U => U.heap.size = sz ∧ va_P D gw_cl [(h, .inr (1, mw_f0))] U.heap ∧ va_K D gw_cl (xw_T dZ dI) U ∧ va_D (fun _ => True) [(h, .inr (1, mw_f0))])) (va_Qv (fun _ : Nat → Nat => True) (mw_BI D dZ dI (va_A [(h, .inr (1, mw_f0))] sz) h) (va_A [(h, .inr (1, mw_f0))] sz)) 4 1540 (va_A [(h, .inr (1, mw_f0))] sz) := by
  refine Met.ofW (cc := cX1_init) (maxL := 1) (ret := none) (by decide) rfl ?_
  intro p e s m args below meth c s₁ B hml hv
  obtain ⟨rfl, hsz, hP, hK, hD0⟩ := hv
  have hx := B.exec
  have hb := B.bytes
  have hr := B.returns
  have hts := atoms_spec (ws := ws_ yX1_init cX1_init 1 none) B.pre
  have hts : ∀ w ∈ lw_all, w.before _ s = true := fun w h => hts w (List.mem_cons_of_mem _ h)
  have hown : s.vm.findClass RX1 = some m.cls := findClass_of_methodNamed B.named
  have hlocks := B.notSynchronized
  have hin : meth.name = "<init>" := (name_of_methodNamed B.named B.method).1
  subst hsz
  have hD := hD0.self (sz := s.heap.size)
  generalize hAe : va_A [(h, .inr (1, mw_f0))] s.heap.size = A at hD ⊢
  have hA : ∀ q : Nat, s.heap.size ≤ q → A q := fun q h => by rw [← hAe]; exact Or.inr h
  have hS : va_S A s.heap s.heap [] := va_S.rf
  have hP : va_P D gw_cl [(h, .inr (1, mw_f0))] s.heap := hP
  have hl := lv_entry ([.ref h]) (n := 1) (Nat.le_of_ble_eq_true rfl)
  rw [lg_entry_eq]
  generalize (lg_sl ([.ref h]) ++ List.replicate (1 - (lg_sl ([.ref h])).length) Slot.unset).toArray = ls at hl ⊢
  have hl : lv_has ls 1 [(0, .ref h)] := hl
  refine lv_aload_n hx hb dX1_init_0 rfl (lv_at hl 0 rfl) ?_
  refine W.objInit hx hb hown (hts _ q233) (hts _ q34) (hts _ q35) rfl (by rw [hml]; exact hl.1) rfl dX1_init_1 (Nat.le_of_ble_eq_true rfl) (Nat.le_of_ble_eq_true rfl) ?_
  refine W.eq (g2 := F0 m 4 ls []) rfl ?_
  refine lv_aload_n hx hb dX1_init_4 rfl (lv_at hl 0 rfl) ?_
  refine lv_sipush (v := 256) hx hb dX1_init_5 (by decide) ?_
  refine va_newa (atype := .int) (ty := .int) (N' := 256) (a0 := (256, .inl (fun _ => 0))) hx hb (hts _ q83) rfl hK hP hD hS hA (fun _ => rfl) (by decide) (by decide) (by decide) (Nat.le_of_ble_eq_true rfl) (Nat.le_of_ble_eq_true rfl) dX1_init_8 (fun a0 cA H hK hP hD hS => ?_)
  have eA : cA = dI := Option.some.inj ((va_nm_int (hK.2 2 _ rfl).2).symm.trans (va_nm_int (hK.2 1 _ rfl).2))
  rw [eA] at hP hD
  have hK : va_K D gw_cl [(dZ, .boolean), (dI, .int)] s := hK.sub [0, 1] rfl
  have hP : va_P D gw_cl [(h, .inr (1, [.null, .null, .null, .null])), (a0, .inl (dI, 256, .inl (fun _ => 0)))] H := hP
  have hD : va_D A [(h, .inr (1, [.null, .null, .null, .null])), (a0, .inl (dI, 256, .inl (fun _ => 0)))] := hD
  refine va_putF (ci := 1) (v := .ref a0) (ty := .array .int) (C := RX1) (T := TX1) (N := 4) hx hb hts in_X1 tyX1 tyX1_ok nmX1 hown hK hP hD hS 0 rfl rfl 0 (by decide) (hts _ q234) (fun _ h9 => h9) rfl hin rfl (by decide +kernel) rfl rfl (Nat.le_of_ble_eq_true rfl) dX1_init_10 (fun H locs hP hD hS => ?_)
  have hP : va_P D gw_cl [(h, .inr (1, [.ref a0, .null, .null, .null])), (a0, .inl (dI, 256, .inl (fun _ => 0)))] H := hP
  have hD : va_D A [(h, .inr (1, [.ref a0, .null, .null, .null])), (a0, .inl (dI, 256, .inl (fun _ => 0)))] := hD
  refine lv_aload_n hx hb dX1_init_13 rfl (lv_at hl 0 rfl) ?_
  refine lv_sipush (v := 256) hx hb dX1_init_14 (by decide) ?_
  refine va_newa (atype := .int) (ty := .int) (N' := 256) (a0 := (256, .inl (fun _ => 0))) hx hb (hts _ q83) rfl hK hP hD hS hA (fun _ => rfl) (by decide) (by decide) (by decide) (Nat.le_of_ble_eq_true rfl) (Nat.le_of_ble_eq_true rfl) dX1_init_17 (fun a1 cA H hK hP hD hS => ?_)
  have eA : cA = dI := Option.some.inj ((va_nm_int (hK.2 2 _ rfl).2).symm.trans (va_nm_int (hK.2 1 _ rfl).2))
  rw [eA] at hP hD
  have hK : va_K D gw_cl [(dZ, .boolean), (dI, .int)] s := hK.sub [0, 1] rfl
  have hP : va_P D gw_cl [(h, .inr (1, [.ref a0, .null, .null, .null])), (a0, .inl (dI, 256, .inl (fun _ => 0))), (a1, .inl (dI, 256, .inl (fun _ => 0)))] H := hP
  have hD : va_D A [(h, .inr (1, [.ref a0, .null, .null, .null])), (a0, .inl (dI, 256, .inl (fun _ => 0))), (a1, .inl (dI, 256, .inl (fun _ => 0)))] := hD
  refine va_putF (ci := 1) (v := .ref a1) (ty := .array .int) (C := RX1) (T := TX1) (N := 4) hx hb hts in_X1 tyX1 tyX1_ok nmX1 hown hK hP hD hS 0 rfl rfl 1 (by decide) (hts _ q235) (fun _ h9 => h9) rfl hin rfl (by decide +kernel) rfl rfl (Nat.le_of_ble_eq_true rfl) dX1_init_19 (fun H locs hP hD hS => ?_)
  have hP : va_P D gw_cl [(h, .inr (1, [.ref a0, .ref a1, .null, .null])), (a0, .inl (dI, 256, .inl (fun _ => 0))), (a1, .inl (dI, 256, .inl (fun _ => 0)))] H := hP
  have hD : va_D A [(h, .inr (1, [.ref a0, .ref a1, .null, .null])), (a0, .inl (dI, 256, .inl (fun _ => 0))), (a1, .inl (dI, 256, .inl (fun _ => 0)))] := hD
  refine lv_aload_n hx hb dX1_init_22 rfl (lv_at hl 0 rfl) ?_
  refine lv_sipush (v := 1024) hx hb dX1_init_23 (by decide) ?_
  refine va_newa (atype := .int) (ty := .int) (N' := 1024) (a0 := (1024, .inl (fun _ => 0))) hx hb (hts _ q83) rfl hK hP hD hS hA (fun _ => rfl) (by decide) (by decide) (by decide) (Nat.le_of_ble_eq_true rfl) (Nat.le_of_ble_eq_true rfl) dX1_init_26 (fun a2 cA H hK hP hD hS => ?_)
  have eA : cA = dI := Option.some.inj ((va_nm_int (hK.2 2 _ rfl).2).symm.trans (va_nm_int (hK.2 1 _ rfl).2))
  rw [eA] at hP hD
  have hK : va_K D gw_cl [(dZ, .boolean), (dI, .int)] s := hK.sub [0, 1] rfl
  have hP : va_P D gw_cl [(h, .inr (1, [.ref a0, .ref a1, .null, .null])), (a0, .inl (dI, 256, .inl (fun _ => 0))), (a1, .inl (dI, 256, .inl (fun _ => 0))), (a2, .inl (dI, 1024, .inl (fun _ => 0)))] H := hP
  have hD : va_D A [(h, .inr (1, [.ref a0, .ref a1, .null, .null])), (a0, .inl (dI, 256, .inl (fun _ => 0))), (a1, .inl (dI, 256, .inl (fun _ => 0))), (a2, .inl (dI, 1024, .inl (fun _ => 0)))] := hD
  refine va_putF (ci := 1) (v := .ref a2) (ty := .array .int) (C := RX1) (T := TX1) (N := 4) hx hb hts in_X1 tyX1 tyX1_ok nmX1 hown hK hP hD hS 0 rfl rfl 2 (by decide) (hts _ q236) (fun _ h9 => h9) rfl hin rfl (by decide +kernel) rfl rfl (Nat.le_of_ble_eq_true rfl) dX1_init_28 (fun H locs hP hD hS => ?_)
  have hP : va_P D gw_cl [(h, .inr (1, [.ref a0, .ref a1, .ref a2, .null])), (a0, .inl (dI, 256, .inl (fun _ => 0))), (a1, .inl (dI, 256, .inl (fun _ => 0))), (a2, .inl (dI, 1024, .inl (fun _ => 0)))] H := hP
  have hD : va_D A [(h, .inr (1, [.ref a0, .ref a1, .ref a2, .null])), (a0, .inl (dI, 256, .inl (fun _ => 0))), (a1, .inl (dI, 256, .inl (fun _ => 0))), (a2, .inl (dI, 1024, .inl (fun _ => 0)))] := hD
  refine lv_aload_n hx hb dX1_init_31 rfl (lv_at hl 0 rfl) ?_
  refine lv_iconst (v := 4) hx hb dX1_init_32 (by decide) ?_
  refine va_newa (atype := .boolean) (ty := .boolean) (N' := 4) (a0 := (4, .inl (fun _ => 0))) hx hb (hts _ q82) rfl hK hP hD hS hA (fun _ => rfl) (by decide) (by decide) (by decide) (Nat.le_of_ble_eq_true rfl) (Nat.le_of_ble_eq_true rfl) dX1_init_33 (fun a3 cA H hK hP hD hS => ?_)
  have eA : cA = dZ := Option.some.inj ((va_nm_boolean (hK.2 2 _ rfl).2).symm.trans (va_nm_boolean (hK.2 0 _ rfl).2))
  rw [eA] at hP hD
  have hK : va_K D gw_cl [(dZ, .boolean), (dI, .int)] s := hK.sub [0, 1] rfl
  have hP : va_P D gw_cl [(h, .inr (1, [.ref a0, .ref a1, .ref a2, .null])), (a0, .inl (dI, 256, .inl (fun _ => 0))), (a1, .inl (dI, 256, .inl (fun _ => 0))), (a2, .inl (dI, 1024, .inl (fun _ => 0))), (a3, .inl (dZ, 4, .inl (fun _ => 0)))] H := hP
  have hD : va_D A [(h, .inr (1, [.ref a0, .ref a1, .ref a2, .null])), (a0, .inl (dI, 256, .inl (fun _ => 0))), (a1, .inl (dI, 256, .inl (fun _ => 0))), (a2, .inl (dI, 1024, .inl (fun _ => 0))), (a3, .inl (dZ, 4, .inl (fun _ => 0)))] := hD
  refine va_putF (ci := 1) (v := .ref a3) (ty := .array .boolean) (C := RX1) (T := TX1) (N := 4) hx hb hts in_X1 tyX1 tyX1_ok nmX1 hown hK hP hD hS 0 rfl rfl 3 (by decide) (hts _ q237) (fun _ h9 => h9) rfl hin rfl (by decide +kernel) rfl rfl (Nat.le_of_ble_eq_true rfl) dX1_init_35 (fun H locs hP hD hS => ?_)
  have hP : va_P D gw_cl [(h, .inr (1, [.ref a0, .ref a1, .ref a2, .ref a3])), (a0, .inl (dI, 256, .inl (fun _ => 0))), (a1, .inl (dI, 256, .inl (fun _ => 0))), (a2, .inl (dI, 1024, .inl (fun _ => 0))), (a3, .inl (dZ, 4, .inl (fun _ => 0)))] H := hP
  have hD : va_D A [(h, .inr (1, [.ref a0, .ref a1, .ref a2, .ref a3])), (a0, .inl (dI, 256, .inl (fun _ => 0))), (a1, .inl (dI, 256, .inl (fun _ => 0))), (a2, .inl (dI, 1024, .inl (fun _ => 0))), (a3, .inl (dZ, 4, .inl (fun _ => 0)))] := hD
  refine W.widen (k := 4) (n := 1540) (Nat.le_of_ble_eq_true rfl) (Nat.le_of_ble_eq_true rfl) ?_
  obtain ⟨q, hq⟩ : ∃ q : Nat → Nat, mw_ws dZ dI h q ca_z = [(h, .inr (1, [.ref a0, .ref a1, .ref a2, .ref a3])), (a0, .inl (dI, 256, .inl (fun _ => 0))), (a1, .inl (dI, 256, .inl (fun _ => 0))), (a2, .inl (dI, 1024, .inl (fun _ => 0))), (a3, .inl (dZ, 4, .inl (fun _ => 0)))] := ⟨fun k => if k = 0 then a0 else if k = 1 then a1 else if k = 2 then a2 else a3, rfl⟩
  rw [← hq] at hP hD
  have hw : gw_W D A s.heap (mw_ws dZ dI h q) ca_z H locs := ⟨hP, hD, hS⟩
  exact W.vret hx hb hr (fun t ht hW => ⟨⟨q, rfl, trivial, by rw [ht]; exact hw.1, va_K.moved hW.alike hK, hw.2.1⟩, hw.2.2.F ht⟩) hw.2.2.2.2 dX1_init_38
end
section
/-! the law's own entry -/
set_option maxRecDepth 100000
abbrev cL_law : ByteArray := code
theorem dL_law_0 : decode cL_law 0 = .ok (.new 7, 3) := by decide +kernel
theorem dL_law_3 : decode cL_law 3 = .ok (.dup, 1) := by decide +kernel
theorem dL_law_4 : decode cL_law 4 = .ok (.invokespecial 9, 3) := by decide +kernel
theorem dL_law_7 : decode cL_law 7 = .ok (.astore_n 1, 1) := by decide +kernel
theorem dL_law_8 : decode cL_law 8 = .ok (.new 10, 3) := by decide +kernel
theorem dL_law_11 : decode cL_law 11 = .ok (.dup, 1) := by decide +kernel
theorem dL_law_12 : decode cL_law 12 = .ok (.invokespecial 12, 3) := by decide +kernel
theorem dL_law_15 : decode cL_law 15 = .ok (.astore_n 2, 1) := by decide +kernel
theorem dL_law_16 : decode cL_law 16 = .ok (.iconst 0, 1) := by decide +kernel
theorem dL_law_17 : decode cL_law 17 = .ok (.istore_n 3, 1) := by decide +kernel
theorem dL_law_18 : decode cL_law 18 = .ok (.iload_n 3, 1) := by decide +kernel
theorem dL_law_19 : decode cL_law 19 = .ok (.aload_n 0, 1) := by decide +kernel
theorem dL_law_20 : decode cL_law 20 = .ok (.arraylength, 1) := by decide +kernel
theorem dL_law_21 : decode cL_law 21 = .ok (.iconst 4, 1) := by decide +kernel
theorem dL_law_22 : decode cL_law 22 = .ok (.isub, 1) := by decide +kernel
theorem dL_law_23 : decode cL_law 23 = .ok (.if_icmp .gt 512, 3) := by decide +kernel
theorem dL_law_26 : decode cL_law 26 = .ok (.aload_n 0, 1) := by decide +kernel
theorem dL_law_27 : decode cL_law 27 = .ok (.iload_n 3, 1) := by decide +kernel
theorem dL_law_28 : decode cL_law 28 = .ok (.iaload, 1) := by decide +kernel
theorem dL_law_29 : decode cL_law 29 = .ok (.bipush 15, 2) := by decide +kernel
theorem dL_law_31 : decode cL_law 31 = .ok (.iand, 1) := by decide +kernel
theorem dL_law_32 : decode cL_law 32 = .ok (.tableswitch 497 0 12 #[68, 111, 154, 197, 240, 263, 286, 309, 332, 365, 398, 431, 454], 68) := by decide +kernel
theorem dL_law_100 : decode cL_law 100 = .ok (.aload_n 1, 1) := by decide +kernel
theorem dL_law_101 : decode cL_law 101 = .ok (.aload_n 0, 1) := by decide +kernel
theorem dL_law_102 : decode cL_law 102 = .ok (.iload_n 3, 1) := by decide +kernel
theorem dL_law_103 : decode cL_law 103 = .ok (.iconst 1, 1) := by decide +kernel
theorem dL_law_104 : decode cL_law 104 = .ok (.iadd, 1) := by decide +kernel
theorem dL_law_105 : decode cL_law 105 = .ok (.iaload, 1) := by decide +kernel
theorem dL_law_106 : decode cL_law 106 = .ok (.aload_n 0, 1) := by decide +kernel
theorem dL_law_107 : decode cL_law 107 = .ok (.iload_n 3, 1) := by decide +kernel
theorem dL_law_108 : decode cL_law 108 = .ok (.iconst 2, 1) := by decide +kernel
theorem dL_law_109 : decode cL_law 109 = .ok (.iadd, 1) := by decide +kernel
theorem dL_law_110 : decode cL_law 110 = .ok (.iaload, 1) := by decide +kernel
theorem dL_law_111 : decode cL_law 111 = .ok (.aload_n 0, 1) := by decide +kernel
theorem dL_law_112 : decode cL_law 112 = .ok (.iload_n 3, 1) := by decide +kernel
theorem dL_law_113 : decode cL_law 113 = .ok (.iconst 3, 1) := by decide +kernel
theorem dL_law_114 : decode cL_law 114 = .ok (.iadd, 1) := by decide +kernel
theorem dL_law_115 : decode cL_law 115 = .ok (.iaload, 1) := by decide +kernel
theorem dL_law_116 : decode cL_law 116 = .ok (.invokevirtual 13, 3) := by decide +kernel
theorem dL_law_119 : decode cL_law 119 = .ok (.aload_n 2, 1) := by decide +kernel
theorem dL_law_120 : decode cL_law 120 = .ok (.aload_n 0, 1) := by decide +kernel
theorem dL_law_121 : decode cL_law 121 = .ok (.iload_n 3, 1) := by decide +kernel
theorem dL_law_122 : decode cL_law 122 = .ok (.iconst 1, 1) := by decide +kernel
theorem dL_law_123 : decode cL_law 123 = .ok (.iadd, 1) := by decide +kernel
theorem dL_law_124 : decode cL_law 124 = .ok (.iaload, 1) := by decide +kernel
theorem dL_law_125 : decode cL_law 125 = .ok (.aload_n 0, 1) := by decide +kernel
theorem dL_law_126 : decode cL_law 126 = .ok (.iload_n 3, 1) := by decide +kernel
theorem dL_law_127 : decode cL_law 127 = .ok (.iconst 2, 1) := by decide +kernel
theorem dL_law_128 : decode cL_law 128 = .ok (.iadd, 1) := by decide +kernel
theorem dL_law_129 : decode cL_law 129 = .ok (.iaload, 1) := by decide +kernel
theorem dL_law_130 : decode cL_law 130 = .ok (.aload_n 0, 1) := by decide +kernel
theorem dL_law_131 : decode cL_law 131 = .ok (.iload_n 3, 1) := by decide +kernel
theorem dL_law_132 : decode cL_law 132 = .ok (.iconst 3, 1) := by decide +kernel
theorem dL_law_133 : decode cL_law 133 = .ok (.iadd, 1) := by decide +kernel
theorem dL_law_134 : decode cL_law 134 = .ok (.iaload, 1) := by decide +kernel
theorem dL_law_135 : decode cL_law 135 = .ok (.invokevirtual 17, 3) := by decide +kernel
theorem dL_law_138 : decode cL_law 138 = .ok (.if_icmp .eq 391, 3) := by decide +kernel
theorem dL_law_141 : decode cL_law 141 = .ok (.iconst 0, 1) := by decide +kernel
theorem dL_law_142 : decode cL_law 142 = .ok (.ireturn, 1) := by decide +kernel
theorem dL_law_143 : decode cL_law 143 = .ok (.aload_n 1, 1) := by decide +kernel
theorem dL_law_144 : decode cL_law 144 = .ok (.aload_n 0, 1) := by decide +kernel
theorem dL_law_145 : decode cL_law 145 = .ok (.iload_n 3, 1) := by decide +kernel
theorem dL_law_146 : decode cL_law 146 = .ok (.iconst 1, 1) := by decide +kernel
theorem dL_law_147 : decode cL_law 147 = .ok (.iadd, 1) := by decide +kernel
theorem dL_law_148 : decode cL_law 148 = .ok (.iaload, 1) := by decide +kernel
theorem dL_law_149 : decode cL_law 149 = .ok (.aload_n 0, 1) := by decide +kernel
theorem dL_law_150 : decode cL_law 150 = .ok (.iload_n 3, 1) := by decide +kernel
theorem dL_law_151 : decode cL_law 151 = .ok (.iconst 2, 1) := by decide +kernel
theorem dL_law_152 : decode cL_law 152 = .ok (.iadd, 1) := by decide +kernel
theorem dL_law_153 : decode cL_law 153 = .ok (.iaload, 1) := by decide +kernel
theorem dL_law_154 : decode cL_law 154 = .ok (.aload_n 0, 1) := by decide +kernel
theorem dL_law_155 : decode cL_law 155 = .ok (.iload_n 3, 1) := by decide +kernel
theorem dL_law_156 : decode cL_law 156 = .ok (.iconst 3, 1) := by decide +kernel
theorem dL_law_157 : decode cL_law 157 = .ok (.iadd, 1) := by decide +kernel
theorem dL_law_158 : decode cL_law 158 = .ok (.iaload, 1) := by decide +kernel
theorem dL_law_159 : decode cL_law 159 = .ok (.invokevirtual 18, 3) := by decide +kernel
theorem dL_law_162 : decode cL_law 162 = .ok (.aload_n 2, 1) := by decide +kernel
theorem dL_law_163 : decode cL_law 163 = .ok (.aload_n 0, 1) := by decide +kernel
theorem dL_law_164 : decode cL_law 164 = .ok (.iload_n 3, 1) := by decide +kernel
theorem dL_law_165 : decode cL_law 165 = .ok (.iconst 1, 1) := by decide +kernel
theorem dL_law_166 : decode cL_law 166 = .ok (.iadd, 1) := by decide +kernel
theorem dL_law_167 : decode cL_law 167 = .ok (.iaload, 1) := by decide +kernel
theorem dL_law_168 : decode cL_law 168 = .ok (.aload_n 0, 1) := by decide +kernel
theorem dL_law_169 : decode cL_law 169 = .ok (.iload_n 3, 1) := by decide +kernel
theorem dL_law_170 : decode cL_law 170 = .ok (.iconst 2, 1) := by decide +kernel
theorem dL_law_171 : decode cL_law 171 = .ok (.iadd, 1) := by decide +kernel
theorem dL_law_172 : decode cL_law 172 = .ok (.iaload, 1) := by decide +kernel
theorem dL_law_173 : decode cL_law 173 = .ok (.aload_n 0, 1) := by decide +kernel
theorem dL_law_174 : decode cL_law 174 = .ok (.iload_n 3, 1) := by decide +kernel
theorem dL_law_175 : decode cL_law 175 = .ok (.iconst 3, 1) := by decide +kernel
theorem dL_law_176 : decode cL_law 176 = .ok (.iadd, 1) := by decide +kernel
theorem dL_law_177 : decode cL_law 177 = .ok (.iaload, 1) := by decide +kernel
theorem dL_law_178 : decode cL_law 178 = .ok (.invokevirtual 21, 3) := by decide +kernel
theorem dL_law_181 : decode cL_law 181 = .ok (.if_icmp .eq 348, 3) := by decide +kernel
theorem dL_law_184 : decode cL_law 184 = .ok (.iconst 0, 1) := by decide +kernel
theorem dL_law_185 : decode cL_law 185 = .ok (.ireturn, 1) := by decide +kernel
theorem dL_law_186 : decode cL_law 186 = .ok (.aload_n 1, 1) := by decide +kernel
theorem dL_law_187 : decode cL_law 187 = .ok (.aload_n 0, 1) := by decide +kernel
theorem dL_law_188 : decode cL_law 188 = .ok (.iload_n 3, 1) := by decide +kernel
theorem dL_law_189 : decode cL_law 189 = .ok (.iconst 1, 1) := by decide +kernel
theorem dL_law_190 : decode cL_law 190 = .ok (.iadd, 1) := by decide +kernel
theorem dL_law_191 : decode cL_law 191 = .ok (.iaload, 1) := by decide +kernel
theorem dL_law_192 : decode cL_law 192 = .ok (.aload_n 0, 1) := by decide +kernel
theorem dL_law_193 : decode cL_law 193 = .ok (.iload_n 3, 1) := by decide +kernel
theorem dL_law_194 : decode cL_law 194 = .ok (.iconst 2, 1) := by decide +kernel
theorem dL_law_195 : decode cL_law 195 = .ok (.iadd, 1) := by decide +kernel
theorem dL_law_196 : decode cL_law 196 = .ok (.iaload, 1) := by decide +kernel
theorem dL_law_197 : decode cL_law 197 = .ok (.aload_n 0, 1) := by decide +kernel
theorem dL_law_198 : decode cL_law 198 = .ok (.iload_n 3, 1) := by decide +kernel
theorem dL_law_199 : decode cL_law 199 = .ok (.iconst 3, 1) := by decide +kernel
theorem dL_law_200 : decode cL_law 200 = .ok (.iadd, 1) := by decide +kernel
theorem dL_law_201 : decode cL_law 201 = .ok (.iaload, 1) := by decide +kernel
theorem dL_law_202 : decode cL_law 202 = .ok (.invokevirtual 22, 3) := by decide +kernel
theorem dL_law_205 : decode cL_law 205 = .ok (.aload_n 2, 1) := by decide +kernel
theorem dL_law_206 : decode cL_law 206 = .ok (.aload_n 0, 1) := by decide +kernel
theorem dL_law_207 : decode cL_law 207 = .ok (.iload_n 3, 1) := by decide +kernel
theorem dL_law_208 : decode cL_law 208 = .ok (.iconst 1, 1) := by decide +kernel
theorem dL_law_209 : decode cL_law 209 = .ok (.iadd, 1) := by decide +kernel
theorem dL_law_210 : decode cL_law 210 = .ok (.iaload, 1) := by decide +kernel
theorem dL_law_211 : decode cL_law 211 = .ok (.aload_n 0, 1) := by decide +kernel
theorem dL_law_212 : decode cL_law 212 = .ok (.iload_n 3, 1) := by decide +kernel
theorem dL_law_213 : decode cL_law 213 = .ok (.iconst 2, 1) := by decide +kernel
theorem dL_law_214 : decode cL_law 214 = .ok (.iadd, 1) := by decide +kernel
theorem dL_law_215 : decode cL_law 215 = .ok (.iaload, 1) := by decide +kernel
theorem dL_law_216 : decode cL_law 216 = .ok (.aload_n 0, 1) := by decide +kernel
theorem dL_law_217 : decode cL_law 217 = .ok (.iload_n 3, 1) := by decide +kernel
theorem dL_law_218 : decode cL_law 218 = .ok (.iconst 3, 1) := by decide +kernel
theorem dL_law_219 : decode cL_law 219 = .ok (.iadd, 1) := by decide +kernel
theorem dL_law_220 : decode cL_law 220 = .ok (.iaload, 1) := by decide +kernel
theorem dL_law_221 : decode cL_law 221 = .ok (.invokevirtual 25, 3) := by decide +kernel
theorem dL_law_224 : decode cL_law 224 = .ok (.if_icmp .eq 305, 3) := by decide +kernel
theorem dL_law_227 : decode cL_law 227 = .ok (.iconst 0, 1) := by decide +kernel
theorem dL_law_228 : decode cL_law 228 = .ok (.ireturn, 1) := by decide +kernel
theorem dL_law_229 : decode cL_law 229 = .ok (.aload_n 1, 1) := by decide +kernel
theorem dL_law_230 : decode cL_law 230 = .ok (.aload_n 0, 1) := by decide +kernel
theorem dL_law_231 : decode cL_law 231 = .ok (.iload_n 3, 1) := by decide +kernel
theorem dL_law_232 : decode cL_law 232 = .ok (.iconst 1, 1) := by decide +kernel
theorem dL_law_233 : decode cL_law 233 = .ok (.iadd, 1) := by decide +kernel
theorem dL_law_234 : decode cL_law 234 = .ok (.iaload, 1) := by decide +kernel
theorem dL_law_235 : decode cL_law 235 = .ok (.aload_n 0, 1) := by decide +kernel
theorem dL_law_236 : decode cL_law 236 = .ok (.iload_n 3, 1) := by decide +kernel
theorem dL_law_237 : decode cL_law 237 = .ok (.iconst 2, 1) := by decide +kernel
theorem dL_law_238 : decode cL_law 238 = .ok (.iadd, 1) := by decide +kernel
theorem dL_law_239 : decode cL_law 239 = .ok (.iaload, 1) := by decide +kernel
theorem dL_law_240 : decode cL_law 240 = .ok (.aload_n 0, 1) := by decide +kernel
theorem dL_law_241 : decode cL_law 241 = .ok (.iload_n 3, 1) := by decide +kernel
theorem dL_law_242 : decode cL_law 242 = .ok (.iconst 3, 1) := by decide +kernel
theorem dL_law_243 : decode cL_law 243 = .ok (.iadd, 1) := by decide +kernel
theorem dL_law_244 : decode cL_law 244 = .ok (.iaload, 1) := by decide +kernel
theorem dL_law_245 : decode cL_law 245 = .ok (.invokevirtual 26, 3) := by decide +kernel
theorem dL_law_248 : decode cL_law 248 = .ok (.aload_n 2, 1) := by decide +kernel
theorem dL_law_249 : decode cL_law 249 = .ok (.aload_n 0, 1) := by decide +kernel
theorem dL_law_250 : decode cL_law 250 = .ok (.iload_n 3, 1) := by decide +kernel
theorem dL_law_251 : decode cL_law 251 = .ok (.iconst 1, 1) := by decide +kernel
theorem dL_law_252 : decode cL_law 252 = .ok (.iadd, 1) := by decide +kernel
theorem dL_law_253 : decode cL_law 253 = .ok (.iaload, 1) := by decide +kernel
theorem dL_law_254 : decode cL_law 254 = .ok (.aload_n 0, 1) := by decide +kernel
theorem dL_law_255 : decode cL_law 255 = .ok (.iload_n 3, 1) := by decide +kernel
theorem dL_law_256 : decode cL_law 256 = .ok (.iconst 2, 1) := by decide +kernel
theorem dL_law_257 : decode cL_law 257 = .ok (.iadd, 1) := by decide +kernel
theorem dL_law_258 : decode cL_law 258 = .ok (.iaload, 1) := by decide +kernel
theorem dL_law_259 : decode cL_law 259 = .ok (.aload_n 0, 1) := by decide +kernel
theorem dL_law_260 : decode cL_law 260 = .ok (.iload_n 3, 1) := by decide +kernel
theorem dL_law_261 : decode cL_law 261 = .ok (.iconst 3, 1) := by decide +kernel
theorem dL_law_262 : decode cL_law 262 = .ok (.iadd, 1) := by decide +kernel
theorem dL_law_263 : decode cL_law 263 = .ok (.iaload, 1) := by decide +kernel
theorem dL_law_264 : decode cL_law 264 = .ok (.invokevirtual 29, 3) := by decide +kernel
theorem dL_law_267 : decode cL_law 267 = .ok (.if_icmp .eq 262, 3) := by decide +kernel
theorem dL_law_270 : decode cL_law 270 = .ok (.iconst 0, 1) := by decide +kernel
theorem dL_law_271 : decode cL_law 271 = .ok (.ireturn, 1) := by decide +kernel
theorem dL_law_272 : decode cL_law 272 = .ok (.aload_n 1, 1) := by decide +kernel
theorem dL_law_273 : decode cL_law 273 = .ok (.aload_n 0, 1) := by decide +kernel
theorem dL_law_274 : decode cL_law 274 = .ok (.iload_n 3, 1) := by decide +kernel
theorem dL_law_275 : decode cL_law 275 = .ok (.iconst 1, 1) := by decide +kernel
theorem dL_law_276 : decode cL_law 276 = .ok (.iadd, 1) := by decide +kernel
theorem dL_law_277 : decode cL_law 277 = .ok (.iaload, 1) := by decide +kernel
theorem dL_law_278 : decode cL_law 278 = .ok (.invokevirtual 30, 3) := by decide +kernel
theorem dL_law_281 : decode cL_law 281 = .ok (.aload_n 2, 1) := by decide +kernel
theorem dL_law_282 : decode cL_law 282 = .ok (.aload_n 0, 1) := by decide +kernel
theorem dL_law_283 : decode cL_law 283 = .ok (.iload_n 3, 1) := by decide +kernel
theorem dL_law_284 : decode cL_law 284 = .ok (.iconst 1, 1) := by decide +kernel
theorem dL_law_285 : decode cL_law 285 = .ok (.iadd, 1) := by decide +kernel
theorem dL_law_286 : decode cL_law 286 = .ok (.iaload, 1) := by decide +kernel
theorem dL_law_287 : decode cL_law 287 = .ok (.invokevirtual 34, 3) := by decide +kernel
theorem dL_law_290 : decode cL_law 290 = .ok (.if_icmp .eq 239, 3) := by decide +kernel
theorem dL_law_293 : decode cL_law 293 = .ok (.iconst 0, 1) := by decide +kernel
theorem dL_law_294 : decode cL_law 294 = .ok (.ireturn, 1) := by decide +kernel
theorem dL_law_295 : decode cL_law 295 = .ok (.aload_n 1, 1) := by decide +kernel
theorem dL_law_296 : decode cL_law 296 = .ok (.aload_n 0, 1) := by decide +kernel
theorem dL_law_297 : decode cL_law 297 = .ok (.iload_n 3, 1) := by decide +kernel
theorem dL_law_298 : decode cL_law 298 = .ok (.iconst 1, 1) := by decide +kernel
theorem dL_law_299 : decode cL_law 299 = .ok (.iadd, 1) := by decide +kernel
theorem dL_law_300 : decode cL_law 300 = .ok (.iaload, 1) := by decide +kernel
theorem dL_law_301 : decode cL_law 301 = .ok (.invokevirtual 35, 3) := by decide +kernel
theorem dL_law_304 : decode cL_law 304 = .ok (.aload_n 2, 1) := by decide +kernel
theorem dL_law_305 : decode cL_law 305 = .ok (.aload_n 0, 1) := by decide +kernel
theorem dL_law_306 : decode cL_law 306 = .ok (.iload_n 3, 1) := by decide +kernel
theorem dL_law_307 : decode cL_law 307 = .ok (.iconst 1, 1) := by decide +kernel
theorem dL_law_308 : decode cL_law 308 = .ok (.iadd, 1) := by decide +kernel
theorem dL_law_309 : decode cL_law 309 = .ok (.iaload, 1) := by decide +kernel
theorem dL_law_310 : decode cL_law 310 = .ok (.invokevirtual 38, 3) := by decide +kernel
theorem dL_law_313 : decode cL_law 313 = .ok (.if_icmp .eq 216, 3) := by decide +kernel
theorem dL_law_316 : decode cL_law 316 = .ok (.iconst 0, 1) := by decide +kernel
theorem dL_law_317 : decode cL_law 317 = .ok (.ireturn, 1) := by decide +kernel
theorem dL_law_318 : decode cL_law 318 = .ok (.aload_n 1, 1) := by decide +kernel
theorem dL_law_319 : decode cL_law 319 = .ok (.aload_n 0, 1) := by decide +kernel
theorem dL_law_320 : decode cL_law 320 = .ok (.iload_n 3, 1) := by decide +kernel
theorem dL_law_321 : decode cL_law 321 = .ok (.iconst 1, 1) := by decide +kernel
theorem dL_law_322 : decode cL_law 322 = .ok (.iadd, 1) := by decide +kernel
theorem dL_law_323 : decode cL_law 323 = .ok (.iaload, 1) := by decide +kernel
theorem dL_law_324 : decode cL_law 324 = .ok (.invokevirtual 39, 3) := by decide +kernel
theorem dL_law_327 : decode cL_law 327 = .ok (.aload_n 2, 1) := by decide +kernel
theorem dL_law_328 : decode cL_law 328 = .ok (.aload_n 0, 1) := by decide +kernel
theorem dL_law_329 : decode cL_law 329 = .ok (.iload_n 3, 1) := by decide +kernel
theorem dL_law_330 : decode cL_law 330 = .ok (.iconst 1, 1) := by decide +kernel
theorem dL_law_331 : decode cL_law 331 = .ok (.iadd, 1) := by decide +kernel
theorem dL_law_332 : decode cL_law 332 = .ok (.iaload, 1) := by decide +kernel
theorem dL_law_333 : decode cL_law 333 = .ok (.invokevirtual 42, 3) := by decide +kernel
theorem dL_law_336 : decode cL_law 336 = .ok (.if_icmp .eq 193, 3) := by decide +kernel
theorem dL_law_339 : decode cL_law 339 = .ok (.iconst 0, 1) := by decide +kernel
theorem dL_law_340 : decode cL_law 340 = .ok (.ireturn, 1) := by decide +kernel
theorem dL_law_341 : decode cL_law 341 = .ok (.aload_n 1, 1) := by decide +kernel
theorem dL_law_342 : decode cL_law 342 = .ok (.aload_n 0, 1) := by decide +kernel
theorem dL_law_343 : decode cL_law 343 = .ok (.iload_n 3, 1) := by decide +kernel
theorem dL_law_344 : decode cL_law 344 = .ok (.iconst 1, 1) := by decide +kernel
theorem dL_law_345 : decode cL_law 345 = .ok (.iadd, 1) := by decide +kernel
theorem dL_law_346 : decode cL_law 346 = .ok (.iaload, 1) := by decide +kernel
theorem dL_law_347 : decode cL_law 347 = .ok (.invokevirtual 43, 3) := by decide +kernel
theorem dL_law_350 : decode cL_law 350 = .ok (.aload_n 2, 1) := by decide +kernel
theorem dL_law_351 : decode cL_law 351 = .ok (.aload_n 0, 1) := by decide +kernel
theorem dL_law_352 : decode cL_law 352 = .ok (.iload_n 3, 1) := by decide +kernel
theorem dL_law_353 : decode cL_law 353 = .ok (.iconst 1, 1) := by decide +kernel
theorem dL_law_354 : decode cL_law 354 = .ok (.iadd, 1) := by decide +kernel
theorem dL_law_355 : decode cL_law 355 = .ok (.iaload, 1) := by decide +kernel
theorem dL_law_356 : decode cL_law 356 = .ok (.invokevirtual 46, 3) := by decide +kernel
theorem dL_law_359 : decode cL_law 359 = .ok (.if_icmp .eq 170, 3) := by decide +kernel
theorem dL_law_362 : decode cL_law 362 = .ok (.iconst 0, 1) := by decide +kernel
theorem dL_law_363 : decode cL_law 363 = .ok (.ireturn, 1) := by decide +kernel
theorem dL_law_364 : decode cL_law 364 = .ok (.aload_n 1, 1) := by decide +kernel
theorem dL_law_365 : decode cL_law 365 = .ok (.aload_n 0, 1) := by decide +kernel
theorem dL_law_366 : decode cL_law 366 = .ok (.iload_n 3, 1) := by decide +kernel
theorem dL_law_367 : decode cL_law 367 = .ok (.iconst 1, 1) := by decide +kernel
theorem dL_law_368 : decode cL_law 368 = .ok (.iadd, 1) := by decide +kernel
theorem dL_law_369 : decode cL_law 369 = .ok (.iaload, 1) := by decide +kernel
theorem dL_law_370 : decode cL_law 370 = .ok (.aload_n 0, 1) := by decide +kernel
theorem dL_law_371 : decode cL_law 371 = .ok (.iload_n 3, 1) := by decide +kernel
theorem dL_law_372 : decode cL_law 372 = .ok (.iconst 2, 1) := by decide +kernel
theorem dL_law_373 : decode cL_law 373 = .ok (.iadd, 1) := by decide +kernel
theorem dL_law_374 : decode cL_law 374 = .ok (.iaload, 1) := by decide +kernel
theorem dL_law_375 : decode cL_law 375 = .ok (.invokevirtual 47, 3) := by decide +kernel
theorem dL_law_378 : decode cL_law 378 = .ok (.aload_n 2, 1) := by decide +kernel
theorem dL_law_379 : decode cL_law 379 = .ok (.aload_n 0, 1) := by decide +kernel
theorem dL_law_380 : decode cL_law 380 = .ok (.iload_n 3, 1) := by decide +kernel
theorem dL_law_381 : decode cL_law 381 = .ok (.iconst 1, 1) := by decide +kernel
theorem dL_law_382 : decode cL_law 382 = .ok (.iadd, 1) := by decide +kernel
theorem dL_law_383 : decode cL_law 383 = .ok (.iaload, 1) := by decide +kernel
theorem dL_law_384 : decode cL_law 384 = .ok (.aload_n 0, 1) := by decide +kernel
theorem dL_law_385 : decode cL_law 385 = .ok (.iload_n 3, 1) := by decide +kernel
theorem dL_law_386 : decode cL_law 386 = .ok (.iconst 2, 1) := by decide +kernel
theorem dL_law_387 : decode cL_law 387 = .ok (.iadd, 1) := by decide +kernel
theorem dL_law_388 : decode cL_law 388 = .ok (.iaload, 1) := by decide +kernel
theorem dL_law_389 : decode cL_law 389 = .ok (.invokevirtual 51, 3) := by decide +kernel
theorem dL_law_392 : decode cL_law 392 = .ok (.if_icmp .eq 137, 3) := by decide +kernel
theorem dL_law_395 : decode cL_law 395 = .ok (.iconst 0, 1) := by decide +kernel
theorem dL_law_396 : decode cL_law 396 = .ok (.ireturn, 1) := by decide +kernel
theorem dL_law_397 : decode cL_law 397 = .ok (.aload_n 1, 1) := by decide +kernel
theorem dL_law_398 : decode cL_law 398 = .ok (.aload_n 0, 1) := by decide +kernel
theorem dL_law_399 : decode cL_law 399 = .ok (.iload_n 3, 1) := by decide +kernel
theorem dL_law_400 : decode cL_law 400 = .ok (.iconst 1, 1) := by decide +kernel
theorem dL_law_401 : decode cL_law 401 = .ok (.iadd, 1) := by decide +kernel
theorem dL_law_402 : decode cL_law 402 = .ok (.iaload, 1) := by decide +kernel
theorem dL_law_403 : decode cL_law 403 = .ok (.aload_n 0, 1) := by decide +kernel
theorem dL_law_404 : decode cL_law 404 = .ok (.iload_n 3, 1) := by decide +kernel
theorem dL_law_405 : decode cL_law 405 = .ok (.iconst 2, 1) := by decide +kernel
theorem dL_law_406 : decode cL_law 406 = .ok (.iadd, 1) := by decide +kernel
theorem dL_law_407 : decode cL_law 407 = .ok (.iaload, 1) := by decide +kernel
theorem dL_law_408 : decode cL_law 408 = .ok (.invokevirtual 52, 3) := by decide +kernel
theorem dL_law_411 : decode cL_law 411 = .ok (.aload_n 2, 1) := by decide +kernel
theorem dL_law_412 : decode cL_law 412 = .ok (.aload_n 0, 1) := by decide +kernel
theorem dL_law_413 : decode cL_law 413 = .ok (.iload_n 3, 1) := by decide +kernel
theorem dL_law_414 : decode cL_law 414 = .ok (.iconst 1, 1) := by decide +kernel
theorem dL_law_415 : decode cL_law 415 = .ok (.iadd, 1) := by decide +kernel
theorem dL_law_416 : decode cL_law 416 = .ok (.iaload, 1) := by decide +kernel
theorem dL_law_417 : decode cL_law 417 = .ok (.aload_n 0, 1) := by decide +kernel
theorem dL_law_418 : decode cL_law 418 = .ok (.iload_n 3, 1) := by decide +kernel
theorem dL_law_419 : decode cL_law 419 = .ok (.iconst 2, 1) := by decide +kernel
theorem dL_law_420 : decode cL_law 420 = .ok (.iadd, 1) := by decide +kernel
theorem dL_law_421 : decode cL_law 421 = .ok (.iaload, 1) := by decide +kernel
theorem dL_law_422 : decode cL_law 422 = .ok (.invokevirtual 55, 3) := by decide +kernel
theorem dL_law_425 : decode cL_law 425 = .ok (.if_icmp .eq 104, 3) := by decide +kernel
theorem dL_law_428 : decode cL_law 428 = .ok (.iconst 0, 1) := by decide +kernel
theorem dL_law_429 : decode cL_law 429 = .ok (.ireturn, 1) := by decide +kernel
theorem dL_law_430 : decode cL_law 430 = .ok (.aload_n 1, 1) := by decide +kernel
theorem dL_law_431 : decode cL_law 431 = .ok (.aload_n 0, 1) := by decide +kernel
theorem dL_law_432 : decode cL_law 432 = .ok (.iload_n 3, 1) := by decide +kernel
theorem dL_law_433 : decode cL_law 433 = .ok (.iconst 1, 1) := by decide +kernel
theorem dL_law_434 : decode cL_law 434 = .ok (.iadd, 1) := by decide +kernel
theorem dL_law_435 : decode cL_law 435 = .ok (.iaload, 1) := by decide +kernel
theorem dL_law_436 : decode cL_law 436 = .ok (.aload_n 0, 1) := by decide +kernel
theorem dL_law_437 : decode cL_law 437 = .ok (.iload_n 3, 1) := by decide +kernel
theorem dL_law_438 : decode cL_law 438 = .ok (.iconst 2, 1) := by decide +kernel
theorem dL_law_439 : decode cL_law 439 = .ok (.iadd, 1) := by decide +kernel
theorem dL_law_440 : decode cL_law 440 = .ok (.iaload, 1) := by decide +kernel
theorem dL_law_441 : decode cL_law 441 = .ok (.invokevirtual 56, 3) := by decide +kernel
theorem dL_law_444 : decode cL_law 444 = .ok (.aload_n 2, 1) := by decide +kernel
theorem dL_law_445 : decode cL_law 445 = .ok (.aload_n 0, 1) := by decide +kernel
theorem dL_law_446 : decode cL_law 446 = .ok (.iload_n 3, 1) := by decide +kernel
theorem dL_law_447 : decode cL_law 447 = .ok (.iconst 1, 1) := by decide +kernel
theorem dL_law_448 : decode cL_law 448 = .ok (.iadd, 1) := by decide +kernel
theorem dL_law_449 : decode cL_law 449 = .ok (.iaload, 1) := by decide +kernel
theorem dL_law_450 : decode cL_law 450 = .ok (.aload_n 0, 1) := by decide +kernel
theorem dL_law_451 : decode cL_law 451 = .ok (.iload_n 3, 1) := by decide +kernel
theorem dL_law_452 : decode cL_law 452 = .ok (.iconst 2, 1) := by decide +kernel
theorem dL_law_453 : decode cL_law 453 = .ok (.iadd, 1) := by decide +kernel
theorem dL_law_454 : decode cL_law 454 = .ok (.iaload, 1) := by decide +kernel
theorem dL_law_455 : decode cL_law 455 = .ok (.invokevirtual 59, 3) := by decide +kernel
theorem dL_law_458 : decode cL_law 458 = .ok (.if_icmp .eq 71, 3) := by decide +kernel
theorem dL_law_461 : decode cL_law 461 = .ok (.iconst 0, 1) := by decide +kernel
theorem dL_law_462 : decode cL_law 462 = .ok (.ireturn, 1) := by decide +kernel
theorem dL_law_463 : decode cL_law 463 = .ok (.aload_n 1, 1) := by decide +kernel
theorem dL_law_464 : decode cL_law 464 = .ok (.aload_n 0, 1) := by decide +kernel
theorem dL_law_465 : decode cL_law 465 = .ok (.iload_n 3, 1) := by decide +kernel
theorem dL_law_466 : decode cL_law 466 = .ok (.iconst 1, 1) := by decide +kernel
theorem dL_law_467 : decode cL_law 467 = .ok (.iadd, 1) := by decide +kernel
theorem dL_law_468 : decode cL_law 468 = .ok (.iaload, 1) := by decide +kernel
theorem dL_law_469 : decode cL_law 469 = .ok (.invokevirtual 60, 3) := by decide +kernel
theorem dL_law_472 : decode cL_law 472 = .ok (.aload_n 2, 1) := by decide +kernel
theorem dL_law_473 : decode cL_law 473 = .ok (.aload_n 0, 1) := by decide +kernel
theorem dL_law_474 : decode cL_law 474 = .ok (.iload_n 3, 1) := by decide +kernel
theorem dL_law_475 : decode cL_law 475 = .ok (.iconst 1, 1) := by decide +kernel
theorem dL_law_476 : decode cL_law 476 = .ok (.iadd, 1) := by decide +kernel
theorem dL_law_477 : decode cL_law 477 = .ok (.iaload, 1) := by decide +kernel
theorem dL_law_478 : decode cL_law 478 = .ok (.invokevirtual 63, 3) := by decide +kernel
theorem dL_law_481 : decode cL_law 481 = .ok (.if_icmp .eq 48, 3) := by decide +kernel
theorem dL_law_484 : decode cL_law 484 = .ok (.iconst 0, 1) := by decide +kernel
theorem dL_law_485 : decode cL_law 485 = .ok (.ireturn, 1) := by decide +kernel
theorem dL_law_486 : decode cL_law 486 = .ok (.aload_n 1, 1) := by decide +kernel
theorem dL_law_487 : decode cL_law 487 = .ok (.aload_n 0, 1) := by decide +kernel
theorem dL_law_488 : decode cL_law 488 = .ok (.iload_n 3, 1) := by decide +kernel
theorem dL_law_489 : decode cL_law 489 = .ok (.iconst 1, 1) := by decide +kernel
theorem dL_law_490 : decode cL_law 490 = .ok (.iadd, 1) := by decide +kernel
theorem dL_law_491 : decode cL_law 491 = .ok (.iaload, 1) := by decide +kernel
theorem dL_law_492 : decode cL_law 492 = .ok (.aload_n 0, 1) := by decide +kernel
theorem dL_law_493 : decode cL_law 493 = .ok (.iload_n 3, 1) := by decide +kernel
theorem dL_law_494 : decode cL_law 494 = .ok (.iconst 2, 1) := by decide +kernel
theorem dL_law_495 : decode cL_law 495 = .ok (.iadd, 1) := by decide +kernel
theorem dL_law_496 : decode cL_law 496 = .ok (.iaload, 1) := by decide +kernel
theorem dL_law_497 : decode cL_law 497 = .ok (.aload_n 0, 1) := by decide +kernel
theorem dL_law_498 : decode cL_law 498 = .ok (.iload_n 3, 1) := by decide +kernel
theorem dL_law_499 : decode cL_law 499 = .ok (.iconst 3, 1) := by decide +kernel
theorem dL_law_500 : decode cL_law 500 = .ok (.iadd, 1) := by decide +kernel
theorem dL_law_501 : decode cL_law 501 = .ok (.iaload, 1) := by decide +kernel
theorem dL_law_502 : decode cL_law 502 = .ok (.invokevirtual 64, 3) := by decide +kernel
theorem dL_law_505 : decode cL_law 505 = .ok (.aload_n 2, 1) := by decide +kernel
theorem dL_law_506 : decode cL_law 506 = .ok (.aload_n 0, 1) := by decide +kernel
theorem dL_law_507 : decode cL_law 507 = .ok (.iload_n 3, 1) := by decide +kernel
theorem dL_law_508 : decode cL_law 508 = .ok (.iconst 1, 1) := by decide +kernel
theorem dL_law_509 : decode cL_law 509 = .ok (.iadd, 1) := by decide +kernel
theorem dL_law_510 : decode cL_law 510 = .ok (.iaload, 1) := by decide +kernel
theorem dL_law_511 : decode cL_law 511 = .ok (.aload_n 0, 1) := by decide +kernel
theorem dL_law_512 : decode cL_law 512 = .ok (.iload_n 3, 1) := by decide +kernel
theorem dL_law_513 : decode cL_law 513 = .ok (.iconst 2, 1) := by decide +kernel
theorem dL_law_514 : decode cL_law 514 = .ok (.iadd, 1) := by decide +kernel
theorem dL_law_515 : decode cL_law 515 = .ok (.iaload, 1) := by decide +kernel
theorem dL_law_516 : decode cL_law 516 = .ok (.aload_n 0, 1) := by decide +kernel
theorem dL_law_517 : decode cL_law 517 = .ok (.iload_n 3, 1) := by decide +kernel
theorem dL_law_518 : decode cL_law 518 = .ok (.iconst 3, 1) := by decide +kernel
theorem dL_law_519 : decode cL_law 519 = .ok (.iadd, 1) := by decide +kernel
theorem dL_law_520 : decode cL_law 520 = .ok (.iaload, 1) := by decide +kernel
theorem dL_law_521 : decode cL_law 521 = .ok (.invokevirtual 67, 3) := by decide +kernel
theorem dL_law_524 : decode cL_law 524 = .ok (.if_icmp .eq 5, 3) := by decide +kernel
theorem dL_law_527 : decode cL_law 527 = .ok (.iconst 0, 1) := by decide +kernel
theorem dL_law_528 : decode cL_law 528 = .ok (.ireturn, 1) := by decide +kernel
theorem dL_law_529 : decode cL_law 529 = .ok (.iinc 3 4, 3) := by decide +kernel
theorem dL_law_532 : decode cL_law 532 = .ok (.goto (-514), 3) := by decide +kernel
theorem dL_law_535 : decode cL_law 535 = .ok (.iconst 1, 1) := by decide +kernel
theorem dL_law_536 : decode cL_law 536 = .ok (.ireturn, 1) := by decide +kernel
end
section
/-! THE LAW'S TWO WORLDS: the array of chunks and the reference beside each other; a call moves one of them -/
def gl_W (D : va_G) (A : Nat → Prop) (H0 : Heap) (dZ dI : ClassId) (h : Nat) (q : Nat → Nat) (h2 : Nat) (q2 : Nat → Nat) (σ τ : ca_S) (H : Heap) (locs : List Loc) : Prop :=
  va_P D gw_cl (xw_ws dZ dI h q σ ++ mw_ws dZ dI h2 q2 τ) H ∧ va_D A (xw_ws dZ dI h q σ ++ mw_ws dZ dI h2 q2 τ) ∧ va_S A H0 H locs
section GLC
variable {p : Program} {l : Launch} {e : Env} {R : Room} {s : State} {m : MethodId} {args : Array Value} {below : List Frame} {meth : Method} {c : Code} {H : Heap} {locs : List Loc} {cells slots : Nat} {Q : State → Prop}
variable {cc cb : ByteArray} {nL mL idx n pc h h2 : Nat} {own : String} {D : va_G} {dZ dI : ClassId} {A : Nat → Prop} {q q2 : Nat → Nat} {y : MethodName} {ret : FieldType} {rm : Room} {As rest st0 : List Value} {σ σv τ τv : ca_S} {rv : Int32} {ls : Array Slot}
set_option maxRecDepth 100000 in
theorem gl_callX (cx : gw_cx p s m args c cc nL own D (xw_T dZ dI) A) (hM : gw_MI l D (xw_T dZ dI) (xw_ws dZ dI h q) h y cb mL ret rm As σ rv σv) (hcal : gw_cal own idx RX0 y cb mL (some ret) n) (hfit : gw_fit rm R mL) (hls : ls.size = nL) (hst : st0 = As.reverse ++ Value.ref h :: rest) (hn : As.length = n) (hroom : (rest.map fun v => v.category).sum ≤ 8) (hdg : decode cc pc = .ok (.invokevirtual idx, 3)) (hf : cells ≤ R.cells ∧ slots ≤ R.slots) (hw : gl_W D A s.heap dZ dI h q h2 q2 σ τ H locs)
    (kk : ∀ (H1 : Heap) (locs1 : List Loc), gl_W D A s.heap dZ dI h q h2 q2 σv τ H1 locs1 → W p l e R s m args below meth c H1 locs1 cells slots Q (F0 m (pc + 3) ls (.int rv :: rest))) : W p l e R s m args below meth c H locs cells slots Q (F0 m pc ls st0) := by
  obtain ⟨hx, hb, hml, hown, hts, hK, hA⟩ := cx
  obtain ⟨hP, hD, hS⟩ := hw
  obtain ⟨hfr, hlo, hrc, hrs⟩ := hfit
  have hPc := hP.sub (ws' := xw_ws dZ dI h q σ) [0, 1, 2, 3, 4, 5, 6, 7, 8, 9, 10, 11] rfl
  have hDc := hD.sub (ws' := xw_ws dZ dI h q σ) [0, 1, 2, 3, 4, 5, 6, 7, 8, 9, 10, 11] (by decide) rfl
  have hFc := va_free (wc := xw_ws dZ dI h q σ) hD hS hA [0, 1, 2, 3, 4, 5, 6, 7, 8, 9, 10, 11] rfl
  refine va_calli (va_runV (As := As) (rest := rest) (b := h) (C := RX0) ⟨hx, hb, hml, hown, hts⟩ (hM H.size) (cwV n hts hcal.1 rfl hrc hrs hcal.2 ⟨hfr, hlo⟩) ⟨gw_blind, va_recv hK hPc (ci := 0) (q := (RX0, TX0, 15)) (q0 := 0) rfl rfl, fun U hU hW => ⟨rfl, by rw [hU], by rw [hU]; exact hPc, va_K.moved hW.alike hK, hDc.weaken (fun _ _ _ _ => trivial)⟩⟩ rfl hn hls hst (lv_room hroom) hdg hf) hS (fun q _ h => hFc q h) hFc (fun r u t H1 locs1 ht hvm hpost hB hz1 hk1 hS1 => ?_)
  obtain ⟨rfl, rfl⟩ := hpost
  obtain ⟨hP1, hK1, hD1⟩ := hB
  rw [ht] at hP1
  obtain ⟨hP, hD⟩ := va_join (wr := mw_ws dZ dI h2 q2 τ) (w1 := xw_ws dZ dI h q u) hP hD [0, 1, 2, 3, 4, 5, 6, 7, 8, 9, 10, 11] [12, 13, 14, 15, 16] rfl rfl (by decide) (by decide) hk1 hFc hP1 hD1
  exact kk H1 locs1 ⟨hP.sub [5, 6, 7, 8, 9, 10, 11, 12, 13, 14, 15, 16, 0, 1, 2, 3, 4] rfl, hD.sub [5, 6, 7, 8, 9, 10, 11, 12, 13, 14, 15, 16, 0, 1, 2, 3, 4] (by decide) rfl, hS1⟩
set_option maxRecDepth 100000 in
theorem gl_callM (cx : gw_cx p s m args c cc nL own D (xw_T dZ dI) A) (hM : gw_MI l D (xw_T dZ dI) (mw_ws dZ dI h2 q2) h2 y cb mL ret rm As τ rv τv) (hcal : gw_cal own idx RX1 y cb mL (some ret) n) (hfit : gw_fit rm R mL) (hls : ls.size = nL) (hst : st0 = As.reverse ++ Value.ref h2 :: rest) (hn : As.length = n) (hroom : (rest.map fun v => v.category).sum ≤ 8) (hdg : decode cc pc = .ok (.invokevirtual idx, 3)) (hf : cells ≤ R.cells ∧ slots ≤ R.slots) (hw : gl_W D A s.heap dZ dI h q h2 q2 σ τ H locs)
    (kk : ∀ (H1 : Heap) (locs1 : List Loc), gl_W D A s.heap dZ dI h q h2 q2 σ τv H1 locs1 → W p l e R s m args below meth c H1 locs1 cells slots Q (F0 m (pc + 3) ls (.int rv :: rest))) : W p l e R s m args below meth c H locs cells slots Q (F0 m pc ls st0) := by
  obtain ⟨hx, hb, hml, hown, hts, hK, hA⟩ := cx
  obtain ⟨hP, hD, hS⟩ := hw
  obtain ⟨hfr, hlo, hrc, hrs⟩ := hfit
  have hPc := hP.sub (ws' := mw_ws dZ dI h2 q2 τ) [12, 13, 14, 15, 16] rfl
  have hDc := hD.sub (ws' := mw_ws dZ dI h2 q2 τ) [12, 13, 14, 15, 16] (by decide) rfl
  have hFc := va_free (wc := mw_ws dZ dI h2 q2 τ) hD hS hA [12, 13, 14, 15, 16] rfl
  refine va_calli (va_runV (As := As) (rest := rest) (b := h2) (C := RX1) ⟨hx, hb, hml, hown, hts⟩ (hM H.size) (cwV n hts hcal.1 rfl hrc hrs hcal.2 ⟨hfr, hlo⟩) ⟨gw_blind, va_recv hK hPc (ci := 1) (q := (RX1, TX1, 4)) (q0 := 0) rfl rfl, fun U hU hW => ⟨rfl, by rw [hU], by rw [hU]; exact hPc, va_K.moved hW.alike hK, hDc.weaken (fun _ _ _ _ => trivial)⟩⟩ rfl hn hls hst (lv_room hroom) hdg hf) hS (fun q _ h => hFc q h) hFc (fun r u t H1 locs1 ht hvm hpost hB hz1 hk1 hS1 => ?_)
  obtain ⟨rfl, rfl⟩ := hpost
  obtain ⟨hP1, hK1, hD1⟩ := hB
  rw [ht] at hP1
  obtain ⟨hP, hD⟩ := va_join (wr := xw_ws dZ dI h q σ) (w1 := mw_ws dZ dI h2 q2 u) hP hD [12, 13, 14, 15, 16] [0, 1, 2, 3, 4, 5, 6, 7, 8, 9, 10, 11] rfl rfl (by decide) (by decide) hk1 hFc hP1 hD1
  exact kk H1 locs1 ⟨hP, hD, hS1⟩
end GLC
theorem gl_gt {i L : Nat} (hi : i < 2 ^ 30) (hL : L < 2 ^ 30) : nI L - nI 4 < nI i ↔ L < i + 4 := by
  rw [Int32.lt_iff_toInt_lt, pk_sub_toInt hL (by decide), nI_toInt (by omega)]
  omega
end
section
/-! ===== how many places have a property ===== -/
def fb_ct (p : Nat → Bool) : Nat → Nat
  | 0 => 0
  | n + 1 => fb_ct p n + (if p n then 1 else 0)
theorem fb_ct_succ (p : Nat → Bool) (n : Nat) : fb_ct p (n + 1) = fb_ct p n + (if p n then 1 else 0) := rfl
theorem fb_ct_le (p : Nat → Bool) : ∀ n, fb_ct p n ≤ n
  | 0 => Nat.le_refl _
  | n + 1 => by
    have h := fb_ct_le p n
    rw [fb_ct_succ]
    split <;> omega
theorem fb_ct_step (p : Nat → Bool) (m : Nat) : ∀ n, fb_ct p m ≤ fb_ct p (m + n)
  | 0 => Nat.le_refl _
  | n + 1 => by
    have h := fb_ct_step p m n
    show fb_ct p m ≤ fb_ct p (m + n + 1)
    rw [fb_ct_succ]
    omega
theorem fb_ct_mono (p : Nat → Bool) {m n : Nat} (h : m ≤ n) : fb_ct p m ≤ fb_ct p n := by
  have := fb_ct_step p m (n - m)
  rwa [Nat.add_sub_cancel' h] at this
theorem fb_ct_cong {p q : Nat → Bool} : ∀ {n : Nat}, (∀ k, k < n → p k = q k) → fb_ct p n = fb_ct q n
  | 0, _ => rfl
  | n + 1, h => by
    rw [fb_ct_succ, fb_ct_succ, fb_ct_cong (fun k hk => h k (by omega)), h n (by omega)]
/-- one place changed -/
theorem fb_ct_out (p : Nat → Bool) (b : Bool) {i n : Nat} (h : n ≤ i) : fb_ct (fun k => if k = i then b else p k) n = fb_ct p n :=
  fb_ct_cong fun k hk => if_neg (by omega)
theorem fb_ct_upd (p : Nat → Bool) (b : Bool) {i : Nat} : ∀ {n : Nat}, i < n → fb_ct (fun k => if k = i then b else p k) n + (if p i then 1 else 0) = fb_ct p n + (if b then 1 else 0)
  | 0, h => absurd h (Nat.not_lt_zero i)
  | n + 1, h => by
    rw [fb_ct_succ, fb_ct_succ]
    rcases Nat.lt_or_ge i n with q | q
    · have := fb_ct_upd p b q
      have e : (if n = i then b else p n) = p n := if_neg (by omega)
      rw [e]
      omega
    · have e : i = n := by omega
      subst e
      rw [fb_ct_out p b (Nat.le_refl _)]
      simp only [if_true]
      omega
theorem fb_ct_sub {p q : Nat → Bool} : ∀ {n : Nat}, (∀ k, k < n → p k = true → q k = true) → fb_ct p n ≤ fb_ct q n
  | 0, _ => Nat.le_refl _
  | n + 1, h => by
    have h1 := fb_ct_sub (n := n) (p := p) (q := q) (fun k hk => h k (by omega))
    have h2 := h n (by omega)
    rw [fb_ct_succ, fb_ct_succ]
    cases hp : p n <;> cases hq : q n <;> simp_all <;> omega
theorem fb_ct_or {p q : Nat → Bool} : ∀ {n : Nat}, (∀ k, k < n → ¬ (p k = true ∧ q k = true)) → fb_ct (fun k => p k || q k) n = fb_ct p n + fb_ct q n
  | 0, _ => rfl
  | n + 1, h => by
    have h1 := fb_ct_or (n := n) (p := p) (q := q) (fun k hk => h k (by omega))
    have h2 := h n (by omega)
    rw [fb_ct_succ, fb_ct_succ, fb_ct_succ, h1]
    cases hp : p n <;> cases hq : q n <;> simp_all <;> omega
theorem fb_ct_not (p : Nat → Bool) : ∀ n, fb_ct p n + fb_ct (fun k => !p k) n = n
  | 0 => rfl
  | n + 1 => by
    have h := fb_ct_not p n
    rw [fb_ct_succ, fb_ct_succ]
    cases p n <;> simp <;> omega
theorem fb_ct_split (p : Nat → Bool) (m : Nat) : ∀ n, fb_ct p (m + n) = fb_ct p m + fb_ct (fun k => p (m + k)) n
  | 0 => rfl
  | n + 1 => by
    have h := fb_ct_split p m n
    show fb_ct p (m + n + 1) = _
    rw [fb_ct_succ, fb_ct_succ, h, Nat.add_assoc]
theorem fb_ct_zero {p : Nat → Bool} : ∀ {n : Nat}, fb_ct p n = 0 ↔ ∀ k, k < n → p k = false
  | 0 => ⟨fun _ k hk => absurd hk (Nat.not_lt_zero k), fun _ => rfl⟩
  | n + 1 => by
    have h := fb_ct_zero (p := p) (n := n)
    rw [fb_ct_succ]
    constructor
    · intro e k hk
      have e1 : fb_ct p n = 0 := by omega
      rcases Nat.lt_or_ge k n with q | q
      · exact h.mp e1 k q
      · have ek : k = n := by omega
        subst ek
        cases hp : p k
        · rfl
        · simp [hp] at e
    · intro a
      rw [h.mpr (fun k hk => a k (by omega)), a n (by omega)]
      rfl
theorem fb_ct_pos {p : Nat → Bool} {n : Nat} : 0 < fb_ct p n ↔ ∃ k, k < n ∧ p k = true := by
  constructor
  · intro h
    refine Classical.byContradiction fun hx => ?_
    have := fb_ct_zero.mpr (fun k hk => by
      cases hp : p k
      · rfl
      · exact absurd ⟨k, hk, hp⟩ hx : ∀ k, k < n → p k = false)
    omega
  · rintro ⟨k, hk, hp⟩
    rcases Nat.eq_zero_or_pos (fb_ct p n) with e | e
    · have := fb_ct_zero.mp e k hk
      rw [this] at hp
      cases hp
    · exact e
theorem fb_ct_all {p : Nat → Bool} {n : Nat} : fb_ct p n = n ↔ ∀ k, k < n → p k = true := by
  have h := fb_ct_not p n
  constructor
  · intro e k hk
    have z : fb_ct (fun k => !p k) n = 0 := by omega
    have := fb_ct_zero.mp z k hk
    cases hp : p k
    · simp [hp] at this
    · rfl
  · intro a
    have z : fb_ct (fun k => !p k) n = 0 := fb_ct_zero.mpr (fun k hk => by simp [a k hk])
    omega
/-- the k-th place with the property -/
theorem fb_ct_kth {p : Nat → Bool} {k : Nat} : ∀ {n : Nat}, k < fb_ct p n → ∃ i, i < n ∧ p i = true ∧ fb_ct p i = k
  | 0, h => absurd h (Nat.not_lt_zero k)
  | n + 1, h => by
    rcases Nat.lt_or_ge k (fb_ct p n) with q | q
    · obtain ⟨i, h1, h2⟩ := fb_ct_kth q
      exact ⟨i, by omega, h2⟩
    · rw [fb_ct_succ] at h
      cases hp : p n
      · simp [hp] at h; omega
      · simp [hp] at h
        exact ⟨n, by omega, hp, by omega⟩
theorem fb_ct_kth_one {p : Nat → Bool} {i j : Nat} (hi : p i = true) (hj : p j = true) (e : fb_ct p i = fb_ct p j) : i = j := by
  have key : ∀ a b : Nat, a < b → p a = true → fb_ct p a < fb_ct p b := by
    intro a b hab ha
    have h := fb_ct_mono p (show a + 1 ≤ b from hab)
    rw [fb_ct_succ, ha] at h
    simp at h
    omega
  rcases Nat.lt_trichotomy i j with q | q | q
  · have := key i j q hi; omega
  · exact q
  · have := key j i q hj; omega
/-! ===== sums over a range: one place changed, parts, bounds ===== -/
def fb_sm (f : Nat → Nat) : Nat → Nat
  | 0 => 0
  | n + 1 => fb_sm f n + f n
theorem fb_sm_succ (f : Nat → Nat) (n : Nat) : fb_sm f (n + 1) = fb_sm f n + f n := rfl
theorem fb_sm_cong {f g : Nat → Nat} : ∀ {n : Nat}, (∀ k, k < n → f k = g k) → fb_sm f n = fb_sm g n
  | 0, _ => rfl
  | n + 1, h => by rw [fb_sm_succ, fb_sm_succ, fb_sm_cong (fun k hk => h k (by omega)), h n (by omega)]
theorem fb_sm_out (f : Nat → Nat) (v : Nat) {i n : Nat} (h : n ≤ i) : fb_sm (fun k => if k = i then v else f k) n = fb_sm f n :=
  fb_sm_cong fun k hk => if_neg (by omega)
theorem fb_sm_upd (f : Nat → Nat) (v : Nat) {i : Nat} : ∀ {n : Nat}, i < n → fb_sm (fun k => if k = i then v else f k) n + f i = fb_sm f n + v
  | 0, h => absurd h (Nat.not_lt_zero i)
  | n + 1, h => by
    rw [fb_sm_succ, fb_sm_succ]
    rcases Nat.lt_or_ge i n with q | q
    · have := fb_sm_upd f v q
      have e : (if n = i then v else f n) = f n := if_neg (by omega)
      rw [e]
      omega
    · have e : i = n := by omega
      subst e
      rw [fb_sm_out f v (Nat.le_refl _)]
      simp only [if_true]
      omega
theorem fb_sm_add (f g : Nat → Nat) : ∀ n, fb_sm (fun k => f k + g k) n = fb_sm f n + fb_sm g n
  | 0 => rfl
  | n + 1 => by
    have h := fb_sm_add f g n
    rw [fb_sm_succ, fb_sm_succ, fb_sm_succ, h]
    omega
theorem fb_sm_le {f g : Nat → Nat} : ∀ {n : Nat}, (∀ k, k < n → f k ≤ g k) → fb_sm f n ≤ fb_sm g n
  | 0, _ => Nat.le_refl _
  | n + 1, h => by
    have h1 := fb_sm_le (n := n) (f := f) (g := g) (fun k hk => h k (by omega))
    have h2 := h n (by omega)
    rw [fb_sm_succ, fb_sm_succ]
    omega
theorem fb_sm_const (c : Nat) : ∀ n, fb_sm (fun _ => c) n = n * c
  | 0 => by rw [Nat.zero_mul]; rfl
  | n + 1 => by rw [fb_sm_succ, fb_sm_const c n, Nat.succ_mul]
theorem fb_sm_bound {f : Nat → Nat} {c n : Nat} (h : ∀ k, k < n → f k ≤ c) : fb_sm f n ≤ n * c := by
  rw [← fb_sm_const c n]
  exact fb_sm_le h
theorem fb_sm_mono (f : Nat → Nat) (m : Nat) : ∀ n, fb_sm f m ≤ fb_sm f (m + n)
  | 0 => Nat.le_refl _
  | n + 1 => by
    have h := fb_sm_mono f m n
    show fb_sm f m ≤ fb_sm f (m + n + 1)
    rw [fb_sm_succ]
    omega
theorem fb_sm_part (f : Nat → Nat) {i n : Nat} (h : i < n) : fb_sm f i + f i ≤ fb_sm f n := by
  have := fb_sm_mono f (i + 1) (n - (i + 1))
  rw [fb_sm_succ, show i + 1 + (n - (i + 1)) = n by omega] at this
  exact this
theorem fb_sm_split (f : Nat → Nat) (m : Nat) : ∀ n, fb_sm f (m + n) = fb_sm f m + fb_sm (fun k => f (m + k)) n
  | 0 => rfl
  | n + 1 => by
    have h := fb_sm_split f m n
    show fb_sm f (m + n + 1) = _
    rw [fb_sm_succ, fb_sm_succ, h, Nat.add_assoc]
theorem fb_sm_zero {f : Nat → Nat} {n : Nat} (h : fb_sm f n = 0) : ∀ k, k < n → f k = 0 := fun k hk => by
  have := fb_sm_part f hk
  omega
end
section
/-! WHAT TIES THE TWO: the chunks read as the reference's cells -/
/-- cell i of place p (80 places: version v has 16 from 16 v on, the present array 16 from 64 on) -/
def cr_U (σ : ca_S) (p i : Nat) : Int32 := ca_val σ (ca_c σ p) i
/-- how many places of arrays that there are hold chunk k -/
def cr_n (σ : ca_S) (k : Nat) : Nat := fb_ct (fun p => decide (¬ σ 0 (p / 16) = 0 ∧ ca_c σ p = k)) 80
/-- what chunk k keeps is right -/
def cr_K (σ : ca_S) (k : Nat) : Prop := (¬ σ 6 k = 0 → σ 7 k = ca_sm σ k) ∧ (¬ σ 8 k = 0 → σ 9 k = ca_gr σ k)
def cr_I (σ : ca_S) : Prop := ca_ok σ ∧ (∀ k, k < 80 → σ 2 k = nI (cr_n σ k)) ∧ ¬ σ 0 4 = 0 ∧ ∀ k, k < 80 → cr_K σ k
def cr_R (σ τ : ca_S) : Prop := cr_I σ ∧ (∀ r c, r < 16 → c < 16 → ca_rd σ 4 r c = τ 0 (r + 16 * c)) ∧ (∀ v, v < 4 → (σ 0 v = 0 ↔ τ 3 v = 0)) ∧ (∀ v, v < 4 → ¬ σ 0 v = 0 → ∀ r c, r < 16 → c < 16 → ca_rd σ v r c = τ 2 (v * 256 + (r + 16 * c)))
end
section
/-! SUMS of ints over a range; iterations that are sums -/
theorem cr_ifc {α : Type} {P Q : Prop} [Decidable P] [Decidable Q] {a b : α} (h : P ↔ Q) : (if P then a else b) = if Q then a else b := by
  by_cases q : Q
  · rw [if_pos (h.mpr q), if_pos q]
  · rw [if_neg (fun z => q (h.mp z)), if_neg q]
def cr_s (f : Nat → Int32) : Nat → Int32
  | 0 => 0
  | n + 1 => cr_s f n + f n
theorem cr_s_succ (f : Nat → Int32) (n : Nat) : cr_s f (n + 1) = cr_s f n + f n := rfl
theorem cr_s_cong {f g : Nat → Int32} : ∀ {n : Nat}, (∀ k, k < n → f k = g k) → cr_s f n = cr_s g n
  | 0, _ => rfl
  | n + 1, h => by rw [cr_s_succ, cr_s_succ, cr_s_cong (fun k hk => h k (by omega)), h n (by omega)]
theorem cr_s_add (f g : Nat → Int32) : ∀ n, cr_s (fun k => f k + g k) n = cr_s f n + cr_s g n
  | 0 => (Int32.add_zero 0).symm
  | n + 1 => by
    rw [cr_s_succ, cr_s_succ, cr_s_succ, cr_s_add f g n]
    ac_rfl
theorem cr_s_mul (f : Nat → Int32) (c : Int32) : ∀ n, cr_s (fun k => f k * c) n = cr_s f n * c
  | 0 => (Int32.zero_mul).symm
  | n + 1 => by rw [cr_s_succ, cr_s_succ, cr_s_mul f c n, Int32.add_mul]
theorem cr_s_const (c : Int32) : ∀ n, cr_s (fun _ => c) n = nI n * c
  | 0 => by rw [nI_0, Int32.zero_mul]; rfl
  | n + 1 => by rw [cr_s_succ, cr_s_const c n, nI_succ, Int32.add_mul, Int32.one_mul]
theorem cr_s_0 (n : Nat) : cr_s (fun _ => 0) n = 0 := by rw [cr_s_const, Int32.mul_zero]
theorem cr_s_zero {f : Nat → Int32} {n : Nat} (h : ∀ k, k < n → f k = 0) : cr_s f n = 0 := (cr_s_cong h).trans (cr_s_0 n)
theorem cr_s_split (f : Nat → Int32) (m : Nat) : ∀ n, cr_s f (m + n) = cr_s f m + cr_s (fun k => f (m + k)) n
  | 0 => (Int32.add_zero _).symm
  | n + 1 => by
    show cr_s f (m + n + 1) = _
    rw [cr_s_succ, cr_s_succ, cr_s_split f m n, Int32.add_assoc]
/-- only a window counts -/
theorem cr_s_win {f : Nat → Int32} {a n N : Nat} (hN : a + n ≤ N) (h : ∀ k, k < N → (k < a ∨ a + n ≤ k) → f k = 0) : cr_s f N = cr_s (fun k => f (a + k)) n := by
  have e : N = a + n + (N - (a + n)) := by omega
  have h1 : cr_s f a = 0 := cr_s_zero (fun k hk => h k (by omega) (Or.inl hk))
  have h2 : cr_s (fun k => f (a + n + k)) (N - (a + n)) = 0 := cr_s_zero (fun k hk => h (a + n + k) (by omega) (Or.inr (by omega)))
  rw [e, cr_s_split, cr_s_split, h1, h2, Int32.zero_add, Int32.add_zero]
theorem cr_s_prod (f : Nat → Int32) (n : Nat) : ∀ m, cr_s f (m * n) = cr_s (fun a => cr_s (fun b => f (a * n + b)) n) m
  | 0 => by rw [Nat.zero_mul]; rfl
  | m + 1 => by rw [Nat.succ_mul, cr_s_split, cr_s_succ, cr_s_prod f n m]
theorem cr_s_swap (f : Nat → Nat → Int32) (n : Nat) : ∀ m, cr_s (fun a => cr_s (f a) n) m = cr_s (fun b => cr_s (fun a => f a b) m) n
  | 0 => (cr_s_0 n).symm
  | m + 1 => by
    rw [cr_s_succ, cr_s_swap f n m, ← cr_s_add]
    rfl
theorem cr_s_44 (g : Nat → Nat → Nat → Nat → Int32) : cr_s (fun a => cr_s (fun b => cr_s (fun d => cr_s (fun e => g a b d e) 4) 4) 4) 4 = cr_s (fun d => cr_s (fun a => cr_s (fun e => cr_s (fun b => g a b d e) 4) 4) 4) 4 := by
  have h1 : cr_s (fun a => cr_s (fun b => cr_s (fun d => cr_s (fun e => g a b d e) 4) 4) 4) 4 = cr_s (fun a => cr_s (fun d => cr_s (fun b => cr_s (fun e => g a b d e) 4) 4) 4) 4 :=
    cr_s_cong (fun a _ => cr_s_swap (fun b d => cr_s (fun e => g a b d e) 4) 4 4)
  have h2 := cr_s_swap (fun a d => cr_s (fun b => cr_s (fun e => g a b d e) 4) 4) 4 4
  refine h1.trans (h2.trans ?_)
  exact cr_s_cong (fun d _ => cr_s_cong (fun a _ => cr_s_swap (fun b e => g a b d e) 4 4))
theorem cr_s_16 (f : Nat → Int32) : cr_s f 16 = cr_s (fun a => cr_s (fun b => f (a * 4 + b)) 4) 4 := cr_s_prod f 4 4
theorem cr_s_256 (f : Nat → Int32) : cr_s f 256 = cr_s (fun c => cr_s (fun r => f (r + 16 * c)) 16) 16 :=
  (cr_s_prod f 16 16).trans (cr_s_cong fun c _ => cr_s_cong fun r _ => congrArg f (by omega))
/-- cell by cell, or place by place -/
theorem cr_s_cells (f : Nat → Int32) : cr_s f 256 = cr_s (fun p => cr_s (fun i => f (ca_r p i + 16 * ca_k p i)) 16) 16 := by
  have h1 : cr_s (fun a => cr_s (fun b => cr_s (fun r => f (r + 16 * (a * 4 + b))) 16) 4) 4 = cr_s (fun a => cr_s (fun b => cr_s (fun d => cr_s (fun e => f (d * 4 + e + 16 * (a * 4 + b))) 4) 4) 4) 4 :=
    cr_s_cong fun a _ => cr_s_cong fun b _ => cr_s_16 (fun r => f (r + 16 * (a * 4 + b)))
  have h2 : cr_s (fun p => cr_s (fun i => f (ca_r p i + 16 * ca_k p i)) 16) 16 = cr_s (fun d => cr_s (fun a => cr_s (fun e => cr_s (fun b => f (d * 4 + e + 16 * (a * 4 + b))) 4) 4) 4) 4 := by
    refine (cr_s_16 (fun p => cr_s (fun i => f (ca_r p i + 16 * ca_k p i)) 16)).trans ?_
    refine cr_s_cong fun d hd => cr_s_cong fun a ha => ?_
    refine (cr_s_16 (fun i => f (ca_r (d * 4 + a) i + 16 * ca_k (d * 4 + a) i))).trans ?_
    refine cr_s_cong fun e he => cr_s_cong fun b hb => congrArg f ?_
    unfold ca_r ca_k
    omega
  exact (cr_s_256 f).trans ((cr_s_16 (fun c => cr_s (fun r => f (r + 16 * c)) 16)).trans (h1.trans ((cr_s_44 (fun a b d e => f (d * 4 + e + 16 * (a * 4 + b)))).trans h2.symm)))
theorem cr_it_cong {α : Type} {f g : Nat → α → α} : ∀ (n i : Nat) (x : α), (∀ j y, i ≤ j → j < i + n → f j y = g j y) → ca_it f i n x = ca_it g i n x
  | 0, _, _, _ => rfl
  | n + 1, i, x, h => by
    rw [ca_it_s, ca_it_s, h i x (Nat.le_refl _) (by omega)]
    exact cr_it_cong n (i + 1) _ (fun j y h1 h2 => h j y (by omega) (by omega))
theorem cr_it_s {f : Nat → Int32 → Int32} {g : Nat → Int32} (n i : Nat) (x : Int32) (h : ∀ j y, i ≤ j → j < i + n → f j y = y + g j) : ca_it f i n x = x + cr_s (fun k => g (i + k)) n := by
  have key : ca_it f i n x = x + cr_s (fun k => g (i + k)) (i + n - i) :=
    ca_it_ind (f := f) (P := fun j y => y = x + cr_s (fun k => g (i + k)) (j - i)) n i x
      (by show x = x + cr_s (fun k => g (i + k)) (i - i); rw [Nat.sub_self]; exact (Int32.add_zero x).symm)
      (fun j y h1 h2 h3 => by
        have h3 : y = x + cr_s (fun k => g (i + k)) (j - i) := h3
        show f j y = x + cr_s (fun k => g (i + k)) (j + 1 - i)
        rw [h j y h1 h2, show j + 1 - i = j - i + 1 by omega, cr_s_succ, ← Int32.add_assoc, ← h3, show i + (j - i) = j by omega])
  rw [key, Nat.add_sub_cancel_left]
theorem cr_it_n {f : Nat → Nat → Nat} {g : Nat → Int32} (n i x : Nat) (h : ∀ j y, i ≤ j → j < i + n → nI (f j y) = nI y + g j) : nI (ca_it f i n x) = nI x + cr_s (fun k => g (i + k)) n := by
  have key : nI (ca_it f i n x) = nI x + cr_s (fun k => g (i + k)) (i + n - i) :=
    ca_it_ind (f := f) (P := fun j y => nI y = nI x + cr_s (fun k => g (i + k)) (j - i)) n i x
      (by show nI x = nI x + cr_s (fun k => g (i + k)) (i - i); rw [Nat.sub_self]; exact (Int32.add_zero _).symm)
      (fun j y h1 h2 h3 => by
        have h3 : nI y = nI x + cr_s (fun k => g (i + k)) (j - i) := h3
        show nI (f j y) = nI x + cr_s (fun k => g (i + k)) (j + 1 - i)
        rw [h j y h1 h2, show j + 1 - i = j - i + 1 by omega, cr_s_succ, ← Int32.add_assoc, ← h3, show i + (j - i) = j by omega])
  rw [key, Nat.add_sub_cancel_left]
theorem cr_s_ind {a m N : Nat} {P : Nat → Prop} [DecidablePred P] (h : a + m ≤ N) (hP : ∀ k, k < N → (P k ↔ a ≤ k ∧ k < a + m)) : cr_s (fun k => if P k then 1 else 0) N = nI m := by
  rw [cr_s_win (a := a) (n := m) h (fun k hk q => if_neg (fun z => by have := (hP k hk).mp z; omega))]
  rw [cr_s_cong (g := fun _ => 1) (fun k hk => if_pos ((hP (a + k) (by omega)).mpr (by omega))), cr_s_const, Int32.mul_one]
theorem cr_s_ind2 {a m b l : Nat} {P : Nat → Prop} [DecidablePred P] (h1 : a + m ≤ 16) (h2 : b + l ≤ 16) (hP : ∀ n, n < 256 → (P n ↔ (a ≤ n % 16 ∧ n % 16 < a + m) ∧ b ≤ n / 16 ∧ n / 16 < b + l)) : cr_s (fun n => if P n then 1 else 0) 256 = nI (m * l) := by
  have e : ∀ c, c < 16 → cr_s (fun r => if P (r + 16 * c) then (1 : Int32) else 0) 16 = (if b ≤ c ∧ c < b + l then (1 : Int32) else 0) * nI m := by
    intro c hc
    by_cases q : b ≤ c ∧ c < b + l
    · rw [if_pos q, Int32.one_mul]
      exact cr_s_ind (P := fun r => P (r + 16 * c)) h1 (fun r hr => by rw [hP _ (by omega)]; omega)
    · rw [if_neg q, Int32.zero_mul]
      exact cr_s_zero (fun r hr => if_neg (by rw [hP _ (by omega)]; omega))
  rw [cr_s_256, cr_s_cong e, cr_s_mul, cr_s_ind (P := fun c => b ≤ c ∧ c < b + l) h2 (fun _ _ => Iff.rfl), pk_mul, Nat.mul_comm]
theorem cr_nI_if {P : Prop} [Decidable P] (y : Nat) : nI (if P then y + 1 else y) = nI y + (if P then 1 else 0) := by
  by_cases h : P
  · rw [if_pos h, if_pos h, nI_1]
  · rw [if_neg h, if_neg h, Int32.add_zero]
end
section
/-! HOLDERS: how many places hold a chunk; a free slot; a chunk of one's own -/
theorem cr_up_at (σ : ca_S) (k j : Nat) (v : Int32) (a b : Nat) : ca_up σ k j v a b = if a = k ∧ b = j then v else σ a b := by
  by_cases h : a = k
  · subst h
    rw [ca_upE]
    exact cr_ifc ⟨fun q => ⟨rfl, q⟩, fun q => q.2⟩
  · rw [ca_upN h, if_neg (fun q => h q.1)]
theorem cr_ct1 {P Q : Nat → Bool} {q N x y : Nat} (hq : q < N) (h : ∀ p, p < N → p ≠ q → Q p = P p) (hx : (if P q = true then 1 else 0) = x) (hy : (if Q q = true then 1 else 0) = y) : fb_ct Q N + x = fb_ct P N + y := by
  have e : fb_ct Q N = fb_ct (fun k => if k = q then Q q else P k) N := fb_ct_cong (fun k hk => by
    by_cases z : k = q
    · rw [if_pos z, z]
    · rw [if_neg z]
      exact h k hk z)
  rw [e, ← hx, ← hy]
  exact fb_ct_upd P (Q q) hq
theorem cr_ct2 {P : Nat → Bool} {p q N : Nat} (hp : p < N) (hq : q < N) (hpq : p ≠ q) (h1 : P p = true) (h2 : P q = true) : 2 ≤ fb_ct P N := by
  have e : fb_ct (fun k => if k = q then false else P k) N + 1 = fb_ct P N + 0 := by
    have := fb_ct_upd P false hq
    rw [h2] at this
    exact this
  have z : 0 < fb_ct (fun k => if k = q then false else P k) N := fb_ct_pos.mpr ⟨p, hp, by rw [if_neg hpq]; exact h1⟩
  omega
theorem cr_pig1 (b : Bool) (c : Nat) : ∀ K, fb_sm (fun k => if (b && decide (c = k)) = true then 1 else 0) K ≤ (if c < K then 1 else 0)
  | 0 => Nat.zero_le _
  | K + 1 => by
    have h := cr_pig1 b c K
    rw [fb_sm_succ]
    by_cases e : c = K
    · subst e
      rw [if_neg (Nat.lt_irrefl _)] at h
      rw [if_pos (Nat.lt_succ_self _)]
      split <;> omega
    · have e2 : (b && decide (c = K)) = false := by rw [decide_eq_false e, Bool.and_false]
      rw [e2]
      by_cases e3 : c < K
      · rw [if_pos e3] at h
        rw [if_pos (by omega : c < K + 1)]
        exact h
      · rw [if_neg e3] at h
        rw [if_neg (by omega : ¬ c < K + 1)]
        exact h
theorem cr_pig (P : Nat → Bool) (c : Nat → Nat) (K : Nat) : ∀ N, fb_sm (fun k => fb_ct (fun p => P p && decide (c p = k)) N) K ≤ N
  | 0 => Nat.le_of_eq ((fb_sm_const 0 K).trans (Nat.mul_zero K))
  | N + 1 => by
    have h := cr_pig P c K N
    have h1 := cr_pig1 (P N) (c N) K
    have e : fb_sm (fun k => fb_ct (fun p => P p && decide (c p = k)) (N + 1)) K = fb_sm (fun k => fb_ct (fun p => P p && decide (c p = k)) N) K + fb_sm (fun k => if (P N && decide (c N = k)) = true then 1 else 0) K :=
      fb_sm_add (fun k => fb_ct (fun p => P p && decide (c p = k)) N) (fun k => if (P N && decide (c N = k)) = true then 1 else 0) K
    rw [e]
    have h2 : (if c N < K then 1 else 0) ≤ 1 := by split <;> omega
    omega
theorem cr_pig2 {σ : ca_S} {c : Nat} (hc : c < 80) (h : 2 ≤ cr_n σ c) : ∃ k, k < 80 ∧ cr_n σ k = 0 := by
  refine Classical.byContradiction fun hx => ?_
  have h1 : ∀ k, k < 80 → (if k = c then 2 else 1) ≤ cr_n σ k := by
    intro k hk
    by_cases e : k = c
    · rw [if_pos e, e]
      exact h
    · rw [if_neg e]
      exact Nat.pos_of_ne_zero (fun z => hx ⟨k, hk, z⟩)
  have h2 : fb_sm (fun k => if k = c then 2 else 1) 80 ≤ fb_sm (fun k => cr_n σ k) 80 := fb_sm_le h1
  have h3 : fb_sm (fun k => if k = c then 2 else 1) 80 + 1 = fb_sm (fun _ => 1) 80 + 2 := fb_sm_upd (fun _ => 1) 2 hc
  have h4 : fb_sm (fun _ => 1) 80 = 80 * 1 := fb_sm_const 1 80
  have h5 : fb_sm (fun k => cr_n σ k) 80 ≤ 80 := by
    refine Nat.le_trans (Nat.le_of_eq (fb_sm_cong fun k hk => ?_)) (cr_pig (fun p => decide (¬ σ 0 (p / 16) = 0)) (ca_c σ) 80 80)
    exact fb_ct_cong fun p hp => Bool.decide_and _ _
  omega
theorem cr_n_le (σ : ca_S) (k : Nat) : cr_n σ k ≤ 80 := fb_ct_le _ 80
theorem cr_n_pos {σ : ca_S} {p : Nat} (hp : p < 80) (hl : ¬ σ 0 (p / 16) = 0) : 0 < cr_n σ (ca_c σ p) := fb_ct_pos.mpr ⟨p, hp, decide_eq_true ⟨hl, rfl⟩⟩
theorem cr_n_step {σ u : ca_S} {q : Nat} (hq : q < 80) (hl : ¬ σ 0 (q / 16) = 0) (h0 : u 0 = σ 0) (h : ∀ p, p < 80 → p ≠ q → ca_c u p = ca_c σ p) (k : Nat) : cr_n u k + (if ca_c σ q = k then 1 else 0) = cr_n σ k + (if ca_c u q = k then 1 else 0) := by
  refine cr_ct1 (P := fun p => decide (¬ σ 0 (p / 16) = 0 ∧ ca_c σ p = k)) (Q := fun p => decide (¬ u 0 (p / 16) = 0 ∧ ca_c u p = k)) hq (fun p hp e => ?_) ?_ ?_
  · show decide (¬ u 0 (p / 16) = 0 ∧ ca_c u p = k) = decide (¬ σ 0 (p / 16) = 0 ∧ ca_c σ p = k)
    rw [h0, h p hp e]
  · exact cr_ifc ⟨fun z => (of_decide_eq_true z).2, fun z => decide_eq_true ⟨hl, z⟩⟩
  · exact cr_ifc ⟨fun z => (of_decide_eq_true z).2, fun z => decide_eq_true ⟨by rw [h0]; exact hl, z⟩⟩
/-- a chunk with one holder is held at one place -/
theorem cr_one {σ : ca_S} (h : cr_I σ) {q k : Nat} (hq : q < 80) (hl : ¬ σ 0 (q / 16) = 0) (hk : ca_c σ q = k) (h1 : σ 2 k = 1) {p : Nat} (hp : p < 80) (hlp : ¬ σ 0 (p / 16) = 0) (hkp : ca_c σ p = k) : p = q := by
  refine Classical.byContradiction fun hx => ?_
  have h2 : 2 ≤ cr_n σ k := cr_ct2 hp hq hx (decide_eq_true ⟨hlp, hkp⟩) (decide_eq_true ⟨hl, hk⟩)
  have hk80 : k < 80 := by rw [← hk]; exact (ca_ok_at h.1 hq).1
  have e : nI (cr_n σ k) = nI 1 := (h.2.1 k hk80).symm.trans h1
  have := (nI_eq (by have := cr_n_le σ k; omega) (by omega)).mp e
  omega
theorem cr_fr {σ : ca_S} : ∀ (n c : Nat), (∃ k, c ≤ k ∧ k ≤ c + n ∧ σ 2 k ≤ 0) → σ 2 (ca_fr σ c n) ≤ 0
  | 0, c, ⟨k, h1, h2, h3⟩ => by
    have e : k = c := by omega
    rw [e] at h3
    exact h3
  | n + 1, c, ⟨k, h1, h2, h3⟩ => by
    unfold ca_fr
    split
    · assumption
    · rename_i h
      refine cr_fr n (c + 1) ⟨k, ?_, by omega, h3⟩
      rcases Nat.lt_or_ge c k with q | q
      · omega
      · have e : k = c := by omega
        rw [e] at h3
        exact absurd h3 h
theorem cr_free {σ : ca_S} (h : cr_I σ) {c : Nat} (hc : c < 80) (h2 : 2 ≤ cr_n σ c) : cr_n σ (ca_od σ) = 0 := by
  obtain ⟨k, hk, ek⟩ := cr_pig2 hc h2
  have h3 : σ 2 k ≤ 0 := by
    rw [h.2.1 k hk, ek]
    exact Int32.le_refl _
  have h4 : σ 2 (ca_od σ) ≤ 0 := cr_fr 79 0 ⟨k, by omega, by omega, h3⟩
  rw [h.2.1 _ (ca_od_lt σ)] at h4
  refine Classical.byContradiction fun hx => ?_
  exact nI_nle (n := cr_n σ (ca_od σ)) (by omega) (by have := cr_n_le σ (ca_od σ); omega) h4
theorem cr_sm_cong {σ u : ca_S} {k l : Nat} (h : ∀ i, i < 16 → u 3 (k * 16 + i) = σ 3 (l * 16 + i)) : ca_sm u k = ca_sm σ l :=
  cr_it_cong 16 0 0 (fun j y _ hj => by unfold ca_sm1; rw [h j (by omega)])
theorem cr_gr_cong {σ u : ca_S} {k l : Nat} (h : ∀ i, i < 16 → ca_val u k i = ca_val σ l i) : ca_gr u k = ca_gr σ l := by
  unfold ca_gr
  rw [h 0 (by omega)]
  exact cr_it_cong 15 1 _ (fun j y _ hj => by unfold ca_gr1; rw [h j (by omega)])
theorem cr_cpy_it {σ : ca_S} {c d : Nat} (hcd : c ≠ d) (n : Nat) (hn : n ≤ 16) (a j : Nat) : ca_it (ca_cpy c d) 0 n σ a j = if a = 3 ∧ d * 16 ≤ j ∧ j < d * 16 + n then σ 3 (c * 16 + (j - d * 16)) else σ a j := by
  have key : ∀ a j, ca_it (ca_cpy c d) 0 n σ a j = if a = 3 ∧ d * 16 ≤ j ∧ j < d * 16 + (0 + n) then σ 3 (c * 16 + (j - d * 16)) else σ a j := by
    refine ca_it_ind (f := ca_cpy c d) (P := fun m (y : ca_S) => ∀ a j, y a j = if a = 3 ∧ d * 16 ≤ j ∧ j < d * 16 + m then σ 3 (c * 16 + (j - d * 16)) else σ a j) n 0 σ ?_ ?_
    · intro a j
      rw [if_neg (by omega)]
    · intro m y _ hm hy a j
      have hy : ∀ a j, y a j = if a = 3 ∧ d * 16 ≤ j ∧ j < d * 16 + m then σ 3 (c * 16 + (j - d * 16)) else σ a j := hy
      show ca_up y 3 (d * 16 + m) (y 3 (c * 16 + m)) a j = if a = 3 ∧ d * 16 ≤ j ∧ j < d * 16 + (m + 1) then σ 3 (c * 16 + (j - d * 16)) else σ a j
      rw [cr_up_at]
      by_cases e : a = 3 ∧ j = d * 16 + m
      · rw [if_pos e, hy, if_neg (by omega), if_pos (by omega)]
        exact congrArg (σ 3) (by omega)
      · rw [if_neg e, hy]
        exact cr_ifc (by omega)
  rw [key, Nat.zero_add]
/-- what own does when it copies -/
theorem cr_owX {σ : ca_S} {c d pl : Nat} (hcd : c ≠ d) :
    ca_owX c d pl σ 0 = σ 0 ∧ (∀ p, ca_owX c d pl σ 1 p = if p = 64 + pl then nI d else σ 1 p) ∧
    (∀ k, ca_owX c d pl σ 2 k = if k = d then 1 else if k = c then σ 2 c - 1 else σ 2 k) ∧
    (∀ k i, i < 16 → ca_owX c d pl σ 3 (k * 16 + i) = σ 3 ((if k = d then c else k) * 16 + i)) ∧
    (∀ a, a = 4 ∨ a = 5 ∨ a = 7 ∨ a = 9 → ∀ k, ca_owX c d pl σ a k = σ a (if k = d then c else k)) ∧
    (∀ a, a = 6 ∨ a = 8 → ∀ k, ca_owX c d pl σ a k = if k = d then vp_nar .boolean (σ a c) else σ a k) := by
  unfold ca_owX ca_dec ca_cp ca_cpb
  refine ⟨?_, ?_, ?_, ?_, ?_, ?_⟩
  · funext j
    simp [cr_up_at, cr_cpy_it hcd 16 (Nat.le_refl _)]
  · intro p
    simp [cr_up_at, cr_cpy_it hcd 16 (Nat.le_refl _)]
  · intro k
    simp [cr_up_at, cr_cpy_it hcd 16 (Nat.le_refl _)]
  · intro k i hi
    simp only [cr_up_at]
    simp only [cr_cpy_it hcd 16 (Nat.le_refl _)]
    by_cases e : k = d
    · subst e
      simp
      intro z
      omega
    · simp [e]
      intro h1 h2
      exact absurd (show k = d by omega) e
  · intro a ha k
    rcases ha with rfl | rfl | rfl | rfl <;> by_cases e : k = d <;> simp [e, cr_up_at, cr_cpy_it hcd 16 (Nat.le_refl _)]
  · intro a ha k
    rcases ha with rfl | rfl <;> by_cases e : k = d <;> simp [e, cr_up_at, cr_cpy_it hcd 16 (Nat.le_refl _)]
theorem cr_nar {x : Int32} (h : ¬ vp_nar .boolean x = 0) : ¬ x = 0 := fun e => by
  rw [e] at h
  exact h (by decide)
/-- own: the present array's place pl has a chunk of its own behind it, and no array that there is reads otherwise -/
theorem cr_own {σ : ca_S} (h : cr_I σ) {pl : Nat} (hp : pl < 16) : cr_I (ca_owS σ pl) ∧ ca_owC σ pl < 80 ∧ ca_c (ca_owS σ pl) (64 + pl) = ca_owC σ pl ∧ ca_owS σ pl 2 (ca_owC σ pl) = 1 ∧ ca_owS σ pl 0 = σ 0 ∧ ∀ p, p < 80 → ¬ σ 0 (p / 16) = 0 → ∀ i, i < 16 → cr_U (ca_owS σ pl) p i = cr_U σ p i := by
  have hc80 : ca_oc σ pl < 80 := (ca_ok_at h.1 (p := 64 + pl) (by omega)).1
  have hl : ¬ σ 0 ((64 + pl) / 16) = 0 := by
    rw [show (64 + pl) / 16 = 4 by omega]
    exact h.2.2.1
  by_cases e : σ 2 (ca_oc σ pl) = 1
  · have e1 : ca_owS σ pl = σ := if_pos e
    have e2 : ca_owC σ pl = ca_oc σ pl := if_pos e
    rw [e1, e2]
    exact ⟨h, hc80, rfl, e, rfl, fun _ _ _ _ _ => rfl⟩
  · have e1 : ca_owS σ pl = ca_owX (ca_oc σ pl) (ca_od σ) pl σ := if_neg e
    have e2 : ca_owC σ pl = ca_od σ := if_neg e
    have hd80 := ca_od_lt σ
    rw [e1, e2]
    have hn1 : 0 < cr_n σ (ca_oc σ pl) := cr_n_pos (p := 64 + pl) (by omega) hl
    have hn2 : cr_n σ (ca_oc σ pl) ≠ 1 := fun z => e (by rw [h.2.1 _ hc80, z]; rfl)
    have hd0 : cr_n σ (ca_od σ) = 0 := cr_free h hc80 (by omega)
    have hok := ca_ok_owX h.1 (c := ca_oc σ pl) (d := ca_od σ) (pl := pl) hd80
    have hcE : ca_c σ (64 + pl) = ca_oc σ pl := rfl
    generalize ca_oc σ pl = c at *
    generalize ca_od σ = d at *
    have hcd : c ≠ d := fun z => by rw [z] at hn1; omega
    obtain ⟨x0, x1, x2, x3, x4, x6⟩ := cr_owX (σ := σ) (pl := pl) hcd
    generalize ca_owX c d pl σ = u at *
    have ec : ∀ p, ca_c u p = if p = 64 + pl then d else ca_c σ p := by
      intro p
      unfold ca_c
      rw [x1]
      by_cases z : p = 64 + pl
      · rw [if_pos z, if_pos z]
        exact nI_clamp (by omega)
      · rw [if_neg z, if_neg z]
    have ev : ∀ k i, i < 16 → ca_val u k i = ca_val σ (if k = d then c else k) i := by
      intro k i hi
      unfold ca_val
      rw [x3 k i hi, x4 4 (by omega) k, x4 5 (by omega) k]
    have ecq : ca_c u (64 + pl) = d := by rw [ec, if_pos rfl]
    refine ⟨⟨hok, ?_, ?_, ?_⟩, hd80, ecq, ?_, x0, ?_⟩
    · intro k hk
      have hs := cr_n_step (σ := σ) (u := u) (q := 64 + pl) (by omega) hl x0 (fun p _ hpq => by rw [ec, if_neg hpq]) k
      rw [ecq, hcE] at hs
      rw [x2]
      by_cases k1 : k = d
      · rw [if_pos k1]
        rw [k1] at hs ⊢
        rw [if_neg hcd, if_pos rfl, hd0] at hs
        rw [show cr_n u d = 1 by omega]
        rfl
      · rw [if_neg k1]
        by_cases k2 : k = c
        · rw [if_pos k2]
          rw [k2] at hs ⊢
          rw [if_pos rfl, if_neg (fun z => hcd z.symm)] at hs
          rw [h.2.1 c hc80, show cr_n σ c = cr_n u c + 1 by omega]
          exact nI_pred _
        · rw [if_neg k2]
          rw [if_neg (fun z => k2 z.symm), if_neg (fun z => k1 z.symm)] at hs
          rw [h.2.1 k hk, show cr_n σ k = cr_n u k by omega]
    · rw [x0]
      exact h.2.2.1
    · intro k hk
      have hK : cr_K σ (if k = d then c else k) := h.2.2.2 _ (by split <;> omega)
      unfold cr_K at hK ⊢
      rw [cr_sm_cong (fun i hi => x3 k i hi), cr_gr_cong (fun i hi => ev k i hi), x4 7 (by omega) k, x4 9 (by omega) k, x6 6 (by omega) k, x6 8 (by omega) k]
      by_cases z : k = d
      · rw [if_pos z] at hK ⊢
        rw [if_pos z, if_pos z]
        exact ⟨fun q => hK.1 (cr_nar q), fun q => hK.2 (cr_nar q)⟩
      · rw [if_neg z] at hK ⊢
        rw [if_neg z, if_neg z]
        exact hK
    · rw [x2, if_pos rfl]
    · intro p hp80 hlp i hi
      unfold cr_U
      rw [ec]
      by_cases z : p = 64 + pl
      · rw [if_pos z, ev d i hi, if_pos rfl, z, hcE]
      · rw [if_neg z, ev _ i hi, if_neg (fun q => ?_)]
        have := cr_n_pos hp80 hlp
        rw [q, hd0] at this
        omega
end
section
/-! A CHUNK OF ONE'S OWN CHANGED: writeCell, changeWhole -/
theorem cr_edit {σ u : ca_S} (h : cr_I σ) {q k : Nat} (hq : q < 80) (hl : ¬ σ 0 (q / 16) = 0) (hk : ca_c σ q = k) (h1 : σ 2 k = 1) (e0 : u 0 = σ 0) (e1 : u 1 = σ 1) (e2 : u 2 = σ 2) (e3 : ∀ j, j ≠ k → ∀ i, i < 16 → u 3 (j * 16 + i) = σ 3 (j * 16 + i)) (e4 : ∀ a, 4 ≤ a → a < 10 → ∀ j, j ≠ k → u a j = σ a j) (hK : cr_K u k) : cr_I u ∧ ∀ p, p < 80 → ¬ σ 0 (p / 16) = 0 → p ≠ q → ∀ i, i < 16 → cr_U u p i = cr_U σ p i := by
  have ec : ∀ p, ca_c u p = ca_c σ p := fun p => by unfold ca_c; rw [e1]
  have ev : ∀ j, j ≠ k → ∀ i, i < 16 → ca_val u j i = ca_val σ j i := fun j hj i hi => by
    unfold ca_val
    rw [e3 j hj i hi, e4 4 (by omega) (by omega) j hj, e4 5 (by omega) (by omega) j hj]
  have en : ∀ j, cr_n u j = cr_n σ j := fun j => fb_ct_cong fun p _ => by rw [e0, ec]
  refine ⟨⟨?_, ?_, ?_, ?_⟩, ?_⟩
  · intro p hp
    rw [e1]
    exact h.1 p hp
  · intro j hj
    rw [e2, en]
    exact h.2.1 j hj
  · rw [e0]
    exact h.2.2.1
  · intro j hj
    by_cases e : j = k
    · rw [e]
      exact hK
    · have := h.2.2.2 j hj
      unfold cr_K at this ⊢
      rw [e4 6 (by omega) (by omega) j e, e4 7 (by omega) (by omega) j e, e4 8 (by omega) (by omega) j e, e4 9 (by omega) (by omega) j e, cr_sm_cong (e3 j e), cr_gr_cong (ev j e)]
      exact this
  · intro p hp hlp hpq i hi
    unfold cr_U
    rw [ec]
    exact ev _ (fun z => hpq (cr_one h hq hl hk h1 hp hlp z)) i hi
/-- u is a good state; its versions are σ's; its present array is g -/
def cr_W (σ u : ca_S) (g : Nat → Nat → Int32) : Prop := cr_I u ∧ u 0 = σ 0 ∧ (∀ a, 10 ≤ a → u a = σ a) ∧ (∀ p, p < 64 → ¬ σ 0 (p / 16) = 0 → ∀ i, i < 16 → cr_U u p i = cr_U σ p i) ∧ ∀ p, p < 16 → ∀ i, i < 16 → cr_U u (64 + p) i = g p i
theorem cr_W_refl {σ : ca_S} (h : cr_I σ) : cr_W σ σ (fun p i => cr_U σ (64 + p) i) := ⟨h, rfl, fun _ _ => rfl, fun _ _ _ _ _ => rfl, fun _ _ _ _ => rfl⟩
theorem cr_W_trans {σ u v : ca_S} {g g' : Nat → Nat → Int32} (h1 : cr_W σ u g) (h2 : cr_W u v g') : cr_W σ v g' :=
  ⟨h2.1, h2.2.1.trans h1.2.1, fun a ha => (h2.2.2.1 a ha).trans (h1.2.2.1 a ha), fun p hp hl i hi => (h2.2.2.2.1 p hp (by rw [h1.2.1]; exact hl) i hi).trans (h1.2.2.2.1 p hp hl i hi), h2.2.2.2.2⟩
theorem cr_W_cong {σ u : ca_S} {g g' : Nat → Nat → Int32} (h : cr_W σ u g) (e : ∀ p, p < 16 → ∀ i, i < 16 → g p i = g' p i) : cr_W σ u g' :=
  ⟨h.1, h.2.1, h.2.2.1, h.2.2.2.1, fun p hp i hi => (h.2.2.2.2 p hp i hi).trans (e p hp i hi)⟩
theorem cr_W_own {σ u : ca_S} (h : cr_I σ) {pl : Nat} (hp : pl < 16) (g : Nat → Int32) (e0 : u 0 = ca_owS σ pl 0) (e1 : u 1 = ca_owS σ pl 1) (e2 : u 2 = ca_owS σ pl 2) (e3 : ∀ j, j ≠ ca_owC σ pl → ∀ i, i < 16 → u 3 (j * 16 + i) = ca_owS σ pl 3 (j * 16 + i)) (e4 : ∀ a, 4 ≤ a → a < 10 → ∀ j, j ≠ ca_owC σ pl → u a j = ca_owS σ pl a j) (hf : ∀ a, 10 ≤ a → u a = ca_owS σ pl a) (hK : cr_K u (ca_owC σ pl)) (hv : ∀ i, i < 16 → ca_val u (ca_owC σ pl) i = g i) : cr_W σ u (fun p i => if p = pl then g i else cr_U σ (64 + p) i) := by
  obtain ⟨hI, hk80, hk, h1, h0, hU⟩ := cr_own h hp
  have hl : ¬ σ 0 ((64 + pl) / 16) = 0 := by
    rw [show (64 + pl) / 16 = 4 by omega]
    exact h.2.2.1
  have hl' : ¬ ca_owS σ pl 0 ((64 + pl) / 16) = 0 := by rw [h0]; exact hl
  obtain ⟨hI2, hU2⟩ := cr_edit hI (q := 64 + pl) (by omega) hl' hk h1 e0 e1 e2 e3 e4 hK
  have hU3 : ∀ p, p < 80 → ¬ σ 0 (p / 16) = 0 → p ≠ 64 + pl → ∀ i, i < 16 → cr_U u p i = cr_U σ p i := fun p hp80 hlp hpq i hi =>
    (hU2 p hp80 (by rw [h0]; exact hlp) hpq i hi).trans (hU p hp80 hlp i hi)
  refine ⟨hI2, e0.trans h0, fun a ha => (hf a ha).trans (ca_far_owS ha), fun p hp64 hlp i hi => hU3 p (by omega) hlp (by omega) i hi, fun p hp16 i hi => ?_⟩
  show cr_U u (64 + p) i = if p = pl then g i else cr_U σ (64 + p) i
  by_cases e : p = pl
  · rw [if_pos e, e]
    unfold cr_U
    have : ca_c u (64 + pl) = ca_owC σ pl := by rw [← hk]; unfold ca_c; rw [e1]
    rw [this]
    exact hv i hi
  · rw [if_neg e]
    exact hU3 (64 + p) (by omega) (by rw [show (64 + p) / 16 = 4 by omega]; exact h.2.2.1) (by omega) i hi
theorem cr_stl_it {σ : ca_S} {c : Nat} (n : Nat) (hn : n ≤ 16) (a j : Nat) : ca_it (ca_stl c) 0 n σ a j = if a = 3 ∧ c * 16 ≤ j ∧ j < c * 16 + n then ca_val σ c (j - c * 16) else σ a j := by
  have key : ∀ a j, ca_it (ca_stl c) 0 n σ a j = if a = 3 ∧ c * 16 ≤ j ∧ j < c * 16 + (0 + n) then ca_val σ c (j - c * 16) else σ a j := by
    refine ca_it_ind (f := ca_stl c) (P := fun m (y : ca_S) => ∀ a j, y a j = if a = 3 ∧ c * 16 ≤ j ∧ j < c * 16 + m then ca_val σ c (j - c * 16) else σ a j) n 0 σ ?_ ?_
    · intro a j
      rw [if_neg (by omega)]
    · intro m y _ hm hy a j
      have hy : ∀ a j, y a j = if a = 3 ∧ c * 16 ≤ j ∧ j < c * 16 + m then ca_val σ c (j - c * 16) else σ a j := hy
      have hv : ca_val y c m = ca_val σ c m := by
        unfold ca_val
        rw [hy 3, hy 4, hy 5, if_neg (by omega), if_neg (by omega), if_neg (by omega)]
      show ca_up y 3 (c * 16 + m) (ca_val y c m) a j = if a = 3 ∧ c * 16 ≤ j ∧ j < c * 16 + (m + 1) then ca_val σ c (j - c * 16) else σ a j
      rw [cr_up_at, hv]
      by_cases e : a = 3 ∧ j = c * 16 + m
      · rw [if_pos e, if_pos (by omega)]
        exact congrArg (ca_val σ c) (by omega)
      · rw [if_neg e, hy]
        exact cr_ifc (by omega)
  rw [key, Nat.zero_add]
/-- what writeCell does ahead of its write -/
theorem cr_mb {σ : ca_S} {c : Nat} : (∀ a, a ≠ 3 → a ≠ 4 → a ≠ 5 → a ≠ 6 → ca_mb c σ a = σ a) ∧ (∀ j, j ≠ c → ∀ i, i < 16 → ca_mb c σ 3 (j * 16 + i) = σ 3 (j * 16 + i)) ∧ (∀ a, 4 ≤ a → a < 7 → ∀ j, j ≠ c → ca_mb c σ a j = σ a j) ∧ ca_mb c σ 4 c = 1 ∧ ca_mb c σ 5 c = 0 ∧ ∀ i, i < 16 → ca_mb c σ 3 (c * 16 + i) = ca_val σ c i := by
  by_cases e : σ 4 c = 1 ∧ σ 5 c = 0
  · have e1 : ca_mb c σ = σ := if_pos e
    rw [e1]
    refine ⟨fun _ _ _ _ _ => rfl, fun _ _ _ _ => rfl, fun _ _ _ _ _ => rfl, e.1, e.2, fun i _ => ?_⟩
    unfold ca_val
    rw [e.1, e.2, Int32.mul_one, Int32.add_zero]
  · have e1 : ca_mb c σ = ca_set c σ := if_neg e
    rw [e1]
    unfold ca_set
    refine ⟨?_, ?_, ?_, ?_, ?_, ?_⟩
    · intro a h3 h4 h5 h6
      funext j
      simp [cr_up_at, cr_stl_it 16 (Nat.le_refl _), h3, h4, h5, h6]
    · intro j hj i hi
      rw [cr_up_at, if_neg (by omega), cr_up_at, if_neg (by omega), cr_up_at, if_neg (by omega), cr_stl_it 16 (Nat.le_refl _), if_neg (by omega)]
    · intro a h4 h7 j hj
      rw [cr_up_at, if_neg (by omega), cr_up_at, if_neg (by omega), cr_up_at, if_neg (by omega), cr_stl_it 16 (Nat.le_refl _), if_neg (by omega)]
    · simp [cr_up_at]
    · simp [cr_up_at]
    · intro i hi
      rw [cr_up_at, if_neg (by omega), cr_up_at, if_neg (by omega), cr_up_at, if_neg (by omega), cr_stl_it 16 (Nat.le_refl _), if_pos (by omega)]
      exact congrArg (ca_val σ c) (by omega)
theorem cr_W_wc {σ : ca_S} (h : cr_I σ) {r c : Nat} (hr : r < 16) (hc : c < 16) (x : Int32) : cr_W σ (ca_wc r c x σ) (fun p i => if p = ca_pl r c then (if i = ca_wi r c then x else cr_U σ (64 + ca_pl r c) i) else cr_U σ (64 + p) i) := by
  have hp := ca_pl_lt hr hc
  have hw := ca_wi_lt r c
  obtain ⟨hI, hk80, hk, h1, h0, hU⟩ := cr_own h hp
  obtain ⟨m1, m2, m3, m4, m5, m6⟩ := cr_mb (σ := ca_owS σ (ca_pl r c)) (c := ca_owC σ (ca_pl r c))
  refine cr_W_own h hp (fun i => if i = ca_wi r c then x else cr_U σ (64 + ca_pl r c) i) ?_ ?_ ?_ ?_ ?_ ?_ ?_ ?_
  · unfold ca_wc ca_wr
    rw [ca_upN (by omega), ca_upN (by omega), ca_upN (by omega), m1 0 (by omega) (by omega) (by omega) (by omega)]
  · unfold ca_wc ca_wr
    rw [ca_upN (by omega), ca_upN (by omega), ca_upN (by omega), m1 1 (by omega) (by omega) (by omega) (by omega)]
  · unfold ca_wc ca_wr
    rw [ca_upN (by omega), ca_upN (by omega), ca_upN (by omega), m1 2 (by omega) (by omega) (by omega) (by omega)]
  · intro j hj i hi
    unfold ca_wc ca_wr
    rw [cr_up_at, cr_up_at, cr_up_at, if_neg (by omega), if_neg (by omega), if_neg (by omega)]
    exact m2 j hj i hi
  · intro a ha ha2 j hj
    unfold ca_wc ca_wr
    rw [cr_up_at, cr_up_at, cr_up_at, if_neg (by omega), if_neg (by omega), if_neg (by omega)]
    by_cases e : a < 7
    · exact m3 a ha e j hj
    · rw [m1 a (by omega) (by omega) (by omega) (by omega)]
  · intro a ha
    unfold ca_wc ca_wr
    rw [ca_upN (by omega), ca_upN (by omega), ca_upN (by omega), m1 a (by omega) (by omega) (by omega) (by omega)]
  · unfold cr_K
    constructor
    · intro z
      refine absurd ?_ z
      unfold ca_wc ca_wr
      rw [ca_upN (by omega)]
      exact ca_upS
    · intro z
      refine absurd ?_ z
      unfold ca_wc ca_wr
      exact ca_upS
  · intro i hi
    unfold ca_val ca_wc ca_wr
    rw [cr_up_at, cr_up_at, cr_up_at, if_neg (by omega), if_neg (by omega), ca_upN (by omega), ca_upN (by omega), ca_upN (by omega), m4, ca_upN (by omega), ca_upN (by omega), ca_upN (by omega), m5, Int32.mul_one, Int32.add_zero]
    by_cases e : i = ca_wi r c
    · rw [if_pos (by omega), if_pos e]
    · rw [if_neg (by omega), if_neg e, m6 i hi, ← hU (64 + ca_pl r c) (by omega) (by rw [show (64 + ca_pl r c) / 16 = 4 by omega]; exact h.2.2.1) i hi]
      unfold cr_U
      rw [hk]
theorem cr_res_val (w x a f s : Int32) : (if w = 0 then a * 0 + x else if w = 1 then a * f + (s + x) else a * (f * x) + s * x) = ca_res w (a * f + s) x := by
  unfold ca_res
  by_cases h0 : w = 0
  · rw [if_pos h0, if_pos h0, Int32.mul_zero, Int32.zero_add]
  · rw [if_neg h0, if_neg h0]
    by_cases h1 : w = 1
    · rw [if_pos h1, if_pos h1, Int32.add_assoc]
    · rw [if_neg h1, if_neg h1, Int32.add_mul, Int32.mul_assoc]
theorem cr_cwK {σ : ca_S} {k : Nat} {w x : Int32} : (∀ a, a ≠ 4 → a ≠ 5 → ca_cwK k w x σ a = σ a) ∧ (∀ a j, j ≠ k → ca_cwK k w x σ a j = σ a j) ∧ ∀ i, i < 16 → ca_val (ca_cwK k w x σ) k i = ca_res w (ca_val σ k i) x := by
  unfold ca_cwK ca_res ca_add ca_mul
  by_cases h0 : w = 0
  · rw [if_pos h0]
    refine ⟨fun a h4 h5 => by rw [ca_upN h5, ca_upN h4], fun a j hj => by rw [cr_up_at, if_neg (fun z => hj z.2), cr_up_at, if_neg (fun z => hj z.2)], fun i hi => ?_⟩
    rw [if_pos h0]
    unfold ca_val
    simp [cr_up_at]
  · rw [if_neg h0]
    by_cases h1 : w = 1
    · rw [if_pos h1]
      refine ⟨fun a h4 h5 => by rw [ca_upN h5], fun a j hj => by rw [cr_up_at, if_neg (fun z => hj z.2)], fun i hi => ?_⟩
      rw [if_neg h0, if_pos h1]
      unfold ca_val
      simp [cr_up_at, Int32.add_assoc]
    · rw [if_neg h1]
      refine ⟨fun a h4 h5 => by rw [ca_upN h5, ca_upN h4], fun a j hj => by rw [cr_up_at, if_neg (fun z => hj z.2), cr_up_at, if_neg (fun z => hj z.2)], fun i hi => ?_⟩
      rw [if_neg h0, if_neg h1]
      unfold ca_val
      simp [cr_up_at, Int32.add_mul, Int32.mul_assoc]
theorem cr_W_cw {σ : ca_S} (h : cr_I σ) {pl : Nat} (hp : pl < 16) (w x : Int32) : cr_W σ (ca_cw pl w x σ) (fun p i => if p = pl then ca_res w (cr_U σ (64 + pl) i) x else cr_U σ (64 + p) i) := by
  obtain ⟨hI, hk80, hk, h1, h0, hU⟩ := cr_own h hp
  obtain ⟨c1, c2, c3⟩ := cr_cwK (σ := ca_owS σ pl) (k := ca_owC σ pl) (w := w) (x := x)
  refine cr_W_own h hp (fun i => ca_res w (cr_U σ (64 + pl) i) x) ?_ ?_ ?_ ?_ ?_ ?_ ?_ ?_
  · unfold ca_cw
    rw [ca_upN (by omega), c1 0 (by omega) (by omega)]
  · unfold ca_cw
    rw [ca_upN (by omega), c1 1 (by omega) (by omega)]
  · unfold ca_cw
    rw [ca_upN (by omega), c1 2 (by omega) (by omega)]
  · intro j hj i hi
    unfold ca_cw
    rw [ca_upN (by omega), c1 3 (by omega) (by omega)]
  · intro a ha ha2 j hj
    unfold ca_cw
    rw [cr_up_at, if_neg (fun z => hj z.2)]
    exact c2 a j hj
  · intro a ha
    unfold ca_cw
    rw [ca_upN (by omega), c1 a (by omega) (by omega)]
  · have hK := hI.2.2.2 _ hk80
    unfold cr_K at hK ⊢
    constructor
    · intro z
      have e6 : ca_cw pl w x σ 6 = ca_owS σ pl 6 := by
        unfold ca_cw
        rw [ca_upN (by omega), c1 6 (by omega) (by omega)]
      have e7 : ca_cw pl w x σ 7 = ca_owS σ pl 7 := by
        unfold ca_cw
        rw [ca_upN (by omega), c1 7 (by omega) (by omega)]
      rw [e6] at z
      rw [e7, hK.1 z]
      refine (cr_sm_cong fun i hi => ?_).symm
      unfold ca_cw
      rw [ca_upN (by omega), c1 3 (by omega) (by omega)]
    · intro z
      refine absurd ?_ z
      unfold ca_cw
      exact ca_upS
  · intro i hi
    have : ca_val (ca_cw pl w x σ) (ca_owC σ pl) i = ca_val (ca_cwK (ca_owC σ pl) w x (ca_owS σ pl)) (ca_owC σ pl) i := by
      unfold ca_val ca_cw
      rw [ca_upN (by omega), ca_upN (by omega), ca_upN (by omega)]
    rw [this, c3 i hi, ← hU (64 + pl) (by omega) (by rw [show (64 + pl) / 16 = 4 by omega]; exact h.2.2.1) i hi]
    unfold cr_U
    rw [hk]
end
section
/-! REGIONS; fill, add, scale -/
theorem cr_pl_rk {p i : Nat} (hp : p < 16) (hi : i < 16) : ca_pl (ca_r p i) (ca_k p i) = p := by unfold ca_pl ca_r ca_k; omega
theorem cr_wi_rk {p i : Nat} (hp : p < 16) (hi : i < 16) : ca_wi (ca_r p i) (ca_k p i) = i := by unfold ca_wi ca_r ca_k; omega
theorem cr_r_pw {r c : Nat} (hr : r < 16) (hc : c < 16) : ca_r (ca_pl r c) (ca_wi r c) = r := by unfold ca_pl ca_r ca_wi; omega
theorem cr_k_pw {r c : Nat} (hr : r < 16) (hc : c < 16) : ca_k (ca_pl r c) (ca_wi r c) = c := by unfold ca_pl ca_k ca_wi; omega
theorem cr_rd_rk (σ : ca_S) (a : Nat) {p i : Nat} (hp : p < 16) (hi : i < 16) : ca_rd σ a (ca_r p i) (ca_k p i) = cr_U σ (a * 16 + p) i := by
  unfold ca_rd
  rw [cr_pl_rk hp hi, cr_wi_rk hp hi]
  rfl
theorem cr_rd4_rk (σ : ca_S) {p i : Nat} (hp : p < 16) (hi : i < 16) : ca_rd σ 4 (ca_r p i) (ca_k p i) = cr_U σ (64 + p) i := cr_rd_rk σ 4 hp hi
abbrev cr_in (r0 r1 c0 c1 p i : Nat) : Prop := r0 ≤ ca_r p i ∧ ca_r p i ≤ r1 ∧ c0 ≤ ca_k p i ∧ ca_k p i ≤ c1
theorem cr_inR {σ : ca_S} {r0 r1 c0 c1 : Nat} (h : ca_rg σ r0 r1 c0 c1) (h16 : r0 < 16 ∧ r1 < 16 ∧ c0 < 16 ∧ c1 < 16) {a b c d : Nat} (hb : a < 100 ∧ b < 100 ∧ c < 100 ∧ d < 100) : ca_inR σ a b c d ↔ r0 ≤ a ∧ b ≤ r1 ∧ c0 ≤ c ∧ d ≤ c1 := by
  obtain ⟨e1, e2, e3, e4⟩ := h
  show (¬ nI a < σ 10 0 ∧ ¬ σ 11 0 < nI b ∧ ¬ nI c < σ 12 0 ∧ ¬ σ 13 0 < nI d) ↔ _
  rw [e1, e2, e3, e4, nI_ltI (a := a) (b := r0) (by omega) (by omega), nI_ltI (a := r1) (b := b) (by omega) (by omega), nI_ltI (a := c) (b := c0) (by omega) (by omega), nI_ltI (a := c1) (b := d) (by omega) (by omega)]
  omega
theorem cr_insI {σ : ca_S} {r0 r1 c0 c1 : Nat} (h : ca_rg σ r0 r1 c0 c1) (h16 : r0 < 16 ∧ r1 < 16 ∧ c0 < 16 ∧ c1 < 16) {p i : Nat} (hp : p < 16) (hi : i < 16) : ca_ins σ (ca_r p i) (ca_k p i) ↔ cr_in r0 r1 c0 c1 p i := by
  have h1 := ca_r_lt hp hi
  have h2 := ca_k_lt (pl := p) (i := i)
  exact cr_inR h h16 (by omega)
theorem cr_W_cpt {σ : ca_S} {r0 r1 c0 c1 : Nat} (h : cr_I σ) (hg : ca_rg σ r0 r1 c0 c1) (h16 : r0 < 16 ∧ r1 < 16 ∧ c0 < 16 ∧ c1 < 16) {pl : Nat} (hp : pl < 16) (w x : Int32) : cr_W σ (ca_cpt pl w x σ) (fun p i => if p = pl ∧ cr_in r0 r1 c0 c1 p i then ca_res w (cr_U σ (64 + p) i) x else cr_U σ (64 + p) i) := by
  have key : cr_W σ (ca_cpt pl w x σ) (fun p i => if p = pl ∧ i < 0 + 16 ∧ cr_in r0 r1 c0 c1 p i then ca_res w (cr_U σ (64 + p) i) x else cr_U σ (64 + p) i) := by
    refine ca_it_ind (f := ca_cp1 pl w x) (P := fun j y => cr_W σ y (fun p i => if p = pl ∧ i < j ∧ cr_in r0 r1 c0 c1 p i then ca_res w (cr_U σ (64 + p) i) x else cr_U σ (64 + p) i)) 16 0 σ ?_ ?_
    · refine cr_W_cong (cr_W_refl h) (fun p _ i _ => ?_)
      rw [if_neg (by omega)]
    · intro j y _ hj hy
      have hy : cr_W σ y (fun p i => if p = pl ∧ i < j ∧ cr_in r0 r1 c0 c1 p i then ca_res w (cr_U σ (64 + p) i) x else cr_U σ (64 + p) i) := hy
      have hg' : ca_rg y r0 r1 c0 c1 := ca_rg_of hg (fun k h1 _ => hy.2.2.1 k h1)
      have hj16 : j < 16 := by omega
      have hyU : ∀ p, p < 16 → ∀ i, i < 16 → cr_U y (64 + p) i = if p = pl ∧ i < j ∧ cr_in r0 r1 c0 c1 p i then ca_res w (cr_U σ (64 + p) i) x else cr_U σ (64 + p) i := hy.2.2.2.2
      by_cases q : cr_in r0 r1 c0 c1 pl j
      · have e : ca_cp1 pl w x j y = ca_wc (ca_r pl j) (ca_k pl j) (ca_res w (ca_rd y 4 (ca_r pl j) (ca_k pl j)) x) y := if_pos ((cr_insI hg' h16 hp hj16).mpr q)
        rw [e]
        refine cr_W_cong (cr_W_trans hy (cr_W_wc hy.1 (ca_r_lt hp hj16) ca_k_lt _)) (fun p hp16 i hi => ?_)
        rw [cr_pl_rk hp hj16, cr_wi_rk hp hj16, cr_rd4_rk y hp hj16]
        by_cases e1 : p = pl
        · rw [if_pos e1]
          by_cases e2 : i = j
          · rw [if_pos e2, hyU pl hp j hj16, if_neg (by omega), e1, e2, if_pos ⟨rfl, by omega, q⟩]
          · rw [if_neg e2, hyU pl hp i hi, e1]
            exact cr_ifc (by omega)
        · rw [if_neg e1, hyU p hp16 i hi]
          exact cr_ifc (by omega)
      · have e : ca_cp1 pl w x j y = y := if_neg (fun z => q ((cr_insI hg' h16 hp hj16).mp z))
        rw [e]
        refine cr_W_cong hy (fun p hp16 i hi => cr_ifc ⟨fun z => ⟨z.1, by omega, z.2.2⟩, fun z => ⟨z.1, ?_, z.2.2⟩⟩)
        refine Nat.lt_of_le_of_ne (by omega) (fun zz => q ?_)
        rw [← z.1, ← zz]
        exact z.2.2
  exact cr_W_cong key (fun p _ i hi => cr_ifc ⟨fun z => ⟨z.1, z.2.2⟩, fun z => ⟨z.1, by omega, z.2⟩⟩)
theorem cr_cov {k i r0 r1 c0 c1 : Nat} (hk : k < 16) (hi : i < 16) (h : r0 ≤ k / 4 * 4 ∧ k / 4 * 4 + 3 ≤ r1 ∧ c0 ≤ k % 4 * 4 ∧ k % 4 * 4 + 3 ≤ c1) : cr_in r0 r1 c0 c1 k i := by
  unfold cr_in ca_r ca_k
  omega
theorem cr_tou {k i r0 r1 c0 c1 : Nat} (hk : k < 16) (hi : i < 16) (h : cr_in r0 r1 c0 c1 k i) : r0 ≤ k / 4 * 4 + 3 ∧ k / 4 * 4 ≤ r1 ∧ c0 ≤ k % 4 * 4 + 3 ∧ k % 4 * 4 ≤ c1 := by
  unfold cr_in ca_r ca_k at h
  omega
theorem cr_W_ch {σ : ca_S} {r0 r1 c0 c1 : Nat} (h : cr_I σ) (hg : ca_rg σ r0 r1 c0 c1) (h16 : r0 < 16 ∧ r1 < 16 ∧ c0 < 16 ∧ c1 < 16) (w x : Int32) : cr_W σ (ca_it (ca_ch1 w x) 0 16 σ) (fun p i => if cr_in r0 r1 c0 c1 p i then ca_res w (cr_U σ (64 + p) i) x else cr_U σ (64 + p) i) := by
  have key : cr_W σ (ca_it (ca_ch1 w x) 0 16 σ) (fun p i => if p < 0 + 16 ∧ cr_in r0 r1 c0 c1 p i then ca_res w (cr_U σ (64 + p) i) x else cr_U σ (64 + p) i) := by
    refine ca_it_ind (f := ca_ch1 w x) (P := fun k y => cr_W σ y (fun p i => if p < k ∧ cr_in r0 r1 c0 c1 p i then ca_res w (cr_U σ (64 + p) i) x else cr_U σ (64 + p) i)) 16 0 σ ?_ ?_
    · refine cr_W_cong (cr_W_refl h) (fun p _ i _ => ?_)
      rw [if_neg (by omega)]
    · intro k y _ hk hy
      have hy : cr_W σ y (fun p i => if p < k ∧ cr_in r0 r1 c0 c1 p i then ca_res w (cr_U σ (64 + p) i) x else cr_U σ (64 + p) i) := hy
      have hg' : ca_rg y r0 r1 c0 c1 := ca_rg_of hg (fun k h1 _ => hy.2.2.1 k h1)
      have hk16 : k < 16 := by omega
      have hyU : ∀ p, p < 16 → ∀ i, i < 16 → cr_U y (64 + p) i = if p < k ∧ cr_in r0 r1 c0 c1 p i then ca_res w (cr_U σ (64 + p) i) x else cr_U σ (64 + p) i := hy.2.2.2.2
      have hcov : ca_cov y k ↔ r0 ≤ k / 4 * 4 ∧ k / 4 * 4 + 3 ≤ r1 ∧ c0 ≤ k % 4 * 4 ∧ k % 4 * 4 + 3 ≤ c1 := cr_inR hg' h16 (by omega)
      have htou : ca_tou y k ↔ r0 ≤ k / 4 * 4 + 3 ∧ k / 4 * 4 ≤ r1 ∧ c0 ≤ k % 4 * 4 + 3 ∧ k % 4 * 4 ≤ c1 := cr_inR hg' h16 (by omega)
      by_cases q : ca_cov y k
      · have e : ca_ch1 w x k y = ca_cw k w x y := if_pos q
        rw [e]
        refine cr_W_cong (cr_W_trans hy (cr_W_cw hy.1 hk16 w x)) (fun p hp16 i hi => ?_)
        by_cases e1 : p = k
        · rw [if_pos e1, hyU k hk16 i hi, if_neg (by omega), e1, if_pos ⟨by omega, cr_cov hk16 hi (hcov.mp q)⟩]
        · rw [if_neg e1, hyU p hp16 i hi]
          exact cr_ifc (by omega)
      · by_cases q2 : ca_tou y k
        · have e : ca_ch1 w x k y = ca_cpt k w x y := (if_neg q).trans (if_pos q2)
          rw [e]
          refine cr_W_cong (cr_W_trans hy (cr_W_cpt hy.1 hg' h16 hk16 w x)) (fun p hp16 i hi => ?_)
          rw [hyU p hp16 i hi]
          by_cases e1 : p = k
          · rw [if_neg (show ¬ (p < k ∧ cr_in r0 r1 c0 c1 p i) by omega)]
            exact cr_ifc (by omega)
          · rw [if_neg (show ¬ (p = k ∧ cr_in r0 r1 c0 c1 p i) by omega)]
            exact cr_ifc (by omega)
        · have e : ca_ch1 w x k y = y := (if_neg q).trans (if_neg q2)
          rw [e]
          refine cr_W_cong hy (fun p hp16 i hi => cr_ifc ⟨fun z => ⟨by omega, z.2⟩, fun z => ⟨?_, z.2⟩⟩)
          refine Nat.lt_of_le_of_ne (by omega) (fun zz => q2 (htou.mpr (cr_tou hk16 hi ?_)))
          rw [← zz]
          exact z.2
  exact cr_W_cong key (fun p hp i hi => cr_ifc ⟨fun z => z.2, fun z => ⟨by omega, z⟩⟩)
/-! the reference's change -/
theorem cr_bet {n a b : Nat} : cb_bet n a b ↔ ca_mn a b ≤ n ∧ n ≤ ca_mx a b := by
  unfold cb_bet ca_mn ca_mx
  by_cases h : a < b
  · rw [if_pos h, if_pos h]
    omega
  · rw [if_neg h, if_neg h]
    omega
theorem cr_chN (w : Int32) (f t : Nat) (x : Int32) (τ : ca_S) : (∀ a n, (cb_chN w f t x τ).1 a n = if a = 0 ∧ n < 256 ∧ cb_ins n f t then ca_res w (τ 0 n) x else τ a n) ∧ nI (cb_chN w f t x τ).2 = cr_s (fun n => if cb_ins n f t then 1 else 0) 256 := by
  refine ca_it_ind (f := cb_ch1 w f t x) (P := fun j z => (∀ a n, z.1 a n = if a = 0 ∧ n < j ∧ cb_ins n f t then ca_res w (τ 0 n) x else τ a n) ∧ nI z.2 = cr_s (fun n => if cb_ins n f t then 1 else 0) j) 256 0 (τ, 0) ?_ ?_
  · refine ⟨fun a n => ?_, rfl⟩
    rw [if_neg (by omega)]
  · intro j z _ hj hz
    obtain ⟨hz1, hz2⟩ := hz
    by_cases q : cb_ins j f t
    · have e : cb_ch1 w f t x j z = (ca_up z.1 0 j (ca_res w (z.1 0 j) x), z.2 + 1) := if_pos q
      rw [e]
      refine ⟨fun a n => ?_, ?_⟩
      · show ca_up z.1 0 j (ca_res w (z.1 0 j) x) a n = _
        rw [cr_up_at, hz1 0 j, if_neg (show ¬ (0 = 0 ∧ j < j ∧ cb_ins j f t) from fun z => absurd z.2.1 (Nat.lt_irrefl _))]
        by_cases e1 : a = 0 ∧ n = j
        · rw [if_pos e1, if_pos ⟨e1.1, by omega, by rw [e1.2]; exact q⟩, e1.2]
        · rw [if_neg e1, hz1]
          exact cr_ifc ⟨fun z => ⟨z.1, by omega, z.2.2⟩, fun z => ⟨z.1, by omega, z.2.2⟩⟩
      · show nI (z.2 + 1) = _
        rw [nI_succ, hz2, cr_s_succ, if_pos q]
    · have e : cb_ch1 w f t x j z = z := if_neg q
      rw [e]
      refine ⟨fun a n => ?_, ?_⟩
      · rw [hz1]
        refine cr_ifc ⟨fun z => ⟨z.1, by omega, z.2.2⟩, fun z => ⟨z.1, ?_, z.2.2⟩⟩
        refine Nat.lt_of_le_of_ne (by omega) (fun zz => q ?_)
        rw [← zz]
        exact z.2.2
      · rw [hz2, cr_s_succ, if_neg q, Int32.add_zero]
/-! the relation carried along -/
theorem cr_R_W {σ u τ τ' : ca_S} {g : Nat → Nat → Int32} (h : cr_R σ τ) (hw : cr_W σ u g) (h2 : τ' 2 = τ 2) (h3 : τ' 3 = τ 3) (h0 : ∀ r c, r < 16 → c < 16 → g (ca_pl r c) (ca_wi r c) = τ' 0 (r + 16 * c)) : cr_R u τ' := by
  refine ⟨hw.1, fun r c hr hc => ?_, fun v hv => ?_, fun v hv hl r c hr hc => ?_⟩
  · rw [← h0 r c hr hc]
    exact hw.2.2.2.2 _ (ca_pl_lt hr hc) _ (ca_wi_lt r c)
  · rw [hw.2.1, h3]
    exact h.2.2.1 v hv
  · rw [hw.2.1] at hl
    rw [h2, ← h.2.2.2 v hv hl r c hr hc]
    have := ca_pl_lt hr hc
    exact hw.2.2.2.1 (v * 16 + ca_pl r c) (by omega) (by rw [show (v * 16 + ca_pl r c) / 16 = v by omega]; exact hl) _ (ca_wi_lt r c)
theorem cr_val_look {σ u : ca_S} (e : ∀ a, a < 6 → u a = σ a) (k i : Nat) : ca_val u k i = ca_val σ k i := by
  unfold ca_val
  rw [e 3 (by omega), e 4 (by omega), e 5 (by omega)]
theorem cr_U_look {σ u : ca_S} (e : ∀ a, a < 6 → u a = σ a) (p i : Nat) : cr_U u p i = cr_U σ p i := by
  unfold cr_U ca_c
  rw [e 1 (by omega)]
  exact cr_val_look e _ _
theorem cr_I_look {σ u : ca_S} (h : cr_I σ) (e : ∀ a, a < 6 → u a = σ a) (hK : ∀ k, k < 80 → cr_K u k) : cr_I u := by
  refine ⟨fun p hp => ?_, fun k hk => ?_, ?_, hK⟩
  · rw [e 1 (by omega)]
    exact h.1 p hp
  · rw [e 2 (by omega), h.2.1 k hk]
    refine congrArg nI (fb_ct_cong fun p _ => ?_)
    unfold ca_c
    rw [e 0 (by omega), e 1 (by omega)]
  · rw [e 0 (by omega)]
    exact h.2.2.1
theorem cr_R_look {σ u τ : ca_S} (h : cr_R σ τ) (e : ∀ a, a < 6 → u a = σ a) (hK : ∀ k, k < 80 → cr_K u k) : cr_R u τ := by
  refine ⟨cr_I_look h.1 e hK, fun r c hr hc => ?_, fun v hv => ?_, fun v hv hl r c hr hc => ?_⟩
  · rw [← h.2.1 r c hr hc]
    exact cr_U_look e _ _
  · rw [e 0 (by omega)]
    exact h.2.2.1 v hv
  · rw [e 0 (by omega)] at hl
    rw [← h.2.2.2 v hv hl r c hr hc]
    exact cr_U_look e _ _
theorem cr_K_near {σ u : ca_S} (e : ∀ a, a < 10 → u a = σ a) {k : Nat} (h : cr_K σ k) : cr_K u k := by
  unfold cr_K at h ⊢
  rw [e 6 (by omega), e 7 (by omega), e 8 (by omega), e 9 (by omega), cr_sm_cong (σ := σ) (l := k) (fun i _ => by rw [e 3 (by omega)]), cr_gr_cong (σ := σ) (l := k) (fun i _ => cr_val_look (fun a ha => e a (by omega)) k i)]
  exact h
theorem cr_R_near {σ u τ : ca_S} (h : cr_R σ τ) (e : ∀ a, a < 10 → u a = σ a) : cr_R u τ :=
  cr_R_look h (fun a ha => e a (by omega)) (fun k hk => cr_K_near e (h.1.2.2.2 k hk))
theorem cr_reg_near (f t : Nat) (σ : ca_S) (a : Nat) (ha : a < 10) : ca_reg f t σ a = σ a := by
  unfold ca_reg
  rw [ca_upN (by omega), ca_upN (by omega), ca_upN (by omega), ca_upN (by omega)]
theorem cr_cell {x : Int32} : cb_cell x ↔ ¬ ca_bad x := by
  have h1 : (256 : Int32).toInt = 256 := by decide
  have h2 : (255 : Int32).toInt = 255 := by decide
  show (¬ x < 0 ∧ ¬ 256 ≤ x) ↔ ¬ (x < 0 ∨ 255 < x)
  simp only [Int32.le_iff_toInt_le, Int32.lt_iff_toInt_lt, h1, h2]
  omega
theorem cr_cl {x : Int32} (h : ¬ ca_bad x) : x.toNatClampNeg < 256 := by
  obtain ⟨n, hn, e⟩ := ca_bad_nat h
  rw [e, ca_cl (by omega)]
  exact hn
theorem cr_16 {f t : Nat} (hf : f < 256) (ht : t < 256) : ca_mn (f % 16) (t % 16) < 16 ∧ ca_mx (f % 16) (t % 16) < 16 ∧ ca_mn (f / 16) (t / 16) < 16 ∧ ca_mx (f / 16) (t / 16) < 16 := by
  have h1 := ca_mn_le (f % 16) (t % 16)
  have h2 := ca_mn_le (f / 16) (t / 16)
  exact ⟨by omega, ca_mx_lt (by omega) (by omega), by omega, ca_mx_lt (by omega) (by omega)⟩
theorem cr_chNN {σ τ : ca_S} (h : cr_R σ τ) (w x : Int32) {f t : Nat} (hf : f < 256) (ht : t < 256) : ca_sz (ca_chN f t w x σ) = nI (cb_chN w f t x τ).2 ∧ cr_R (ca_chN f t w x σ) (cb_chN w f t x τ).1 := by
  have h16 := cr_16 hf ht
  have hg := ca_rg_reg f t σ
  have hR := cr_R_near h (cr_reg_near f t σ)
  have hw : cr_W (ca_reg f t σ) (ca_chN f t w x σ) _ := cr_W_ch hR.1 hg h16 w x
  obtain ⟨m1, m2⟩ := cr_chN w f t x τ
  have hr := ca_mnx (f % 16) (t % 16)
  have hc := ca_mnx (f / 16) (t / 16)
  have hb : ∀ n, cb_ins n f t ↔ (ca_mn (f % 16) (t % 16) ≤ n % 16 ∧ n % 16 ≤ ca_mx (f % 16) (t % 16)) ∧ ca_mn (f / 16) (t / 16) ≤ n / 16 ∧ n / 16 ≤ ca_mx (f / 16) (t / 16) := by
    intro n
    show (cb_bet (n % 16) (f % 16) (t % 16) ∧ cb_bet (n / 16) (f / 16) (t / 16)) ↔ _
    rw [cr_bet, cr_bet]
  constructor
  · rw [m2, cr_s_ind2 (a := ca_mn (f % 16) (t % 16)) (m := ca_mx (f % 16) (t % 16) + 1 - ca_mn (f % 16) (t % 16)) (b := ca_mn (f / 16) (t / 16)) (l := ca_mx (f / 16) (t / 16) + 1 - ca_mn (f / 16) (t / 16)) (by omega) (by omega) (fun n hn => by rw [hb]; omega)]
    unfold ca_sz
    rw [hw.2.2.1 10 (by omega), hw.2.2.1 11 (by omega), hw.2.2.1 12 (by omega), hw.2.2.1 13 (by omega), hg.1, hg.2.1, hg.2.2.1, hg.2.2.2, pk_sub hr, pk_sub hc, nI_1, nI_1, pk_mul]
    rw [show ca_mx (f % 16) (t % 16) - ca_mn (f % 16) (t % 16) + 1 = ca_mx (f % 16) (t % 16) + 1 - ca_mn (f % 16) (t % 16) by omega, show ca_mx (f / 16) (t / 16) - ca_mn (f / 16) (t / 16) + 1 = ca_mx (f / 16) (t / 16) + 1 - ca_mn (f / 16) (t / 16) by omega]
  · refine cr_R_W hR hw (funext fun n => by rw [m1, if_neg (by omega)]) (funext fun n => by rw [m1, if_neg (by omega)]) (fun r c hr16 hc16 => ?_)
    rw [m1]
    have e : cr_U (ca_reg f t σ) (64 + ca_pl r c) (ca_wi r c) = τ 0 (r + 16 * c) := hR.2.1 r c hr16 hc16
    rw [e]
    refine cr_ifc ?_
    rw [hb]
    unfold cr_in
    rw [cr_r_pw hr16 hc16, cr_k_pw hr16 hc16]
    omega
theorem cr_ch {σ τ : ca_S} (h : cr_R σ τ) (w f t x : Int32) : ca_chR f t w x σ = cb_chR w f t x τ ∧ cr_R (ca_chS f t w x σ) (cb_chS w f t x τ) := by
  unfold ca_chR cb_chR ca_chS cb_chS
  by_cases q : ca_bad f ∨ ca_bad t
  · have q' : ¬ (cb_cell f ∧ cb_cell t) := by
      rw [cr_cell, cr_cell]
      exact fun z => q.elim z.1 z.2
    rw [if_pos q, if_pos q, if_neg q', if_neg q']
    exact ⟨rfl, h⟩
  · have q1 : ¬ ca_bad f := fun z => q (Or.inl z)
    have q2 : ¬ ca_bad t := fun z => q (Or.inr z)
    have q' : cb_cell f ∧ cb_cell t := ⟨cr_cell.mpr q1, cr_cell.mpr q2⟩
    rw [if_neg q, if_neg q, if_pos q', if_pos q']
    exact cr_chNN h w x (cr_cl q1) (cr_cl q2)
end
section
/-! COPY -/
theorem cr_W_wc' {σ : ca_S} (h : cr_I σ) {r c : Nat} (hr : r < 16) (hc : c < 16) (x : Int32) : cr_W σ (ca_wc r c x σ) (fun p i => if ca_r p i = r ∧ ca_k p i = c then x else cr_U σ (64 + p) i) := by
  refine cr_W_cong (cr_W_wc h hr hc x) (fun p hp i hi => ?_)
  by_cases q : ca_r p i = r ∧ ca_k p i = c
  · have e1 : p = ca_pl r c := by rw [← q.1, ← q.2, cr_pl_rk hp hi]
    have e2 : i = ca_wi r c := by rw [← q.1, ← q.2, cr_wi_rk hp hi]
    rw [if_pos e1, if_pos e2, if_pos q]
  · rw [if_neg q]
    by_cases e1 : p = ca_pl r c
    · have e2 : i ≠ ca_wi r c := fun e2 => q (by rw [e1, e2]; exact ⟨cr_r_pw hr hc, cr_k_pw hr hc⟩)
      rw [if_pos e1, if_neg e2, e1]
    · rw [if_neg e1]
theorem cr_rd_far {σ u : ca_S} (e : ∀ a, a < 14 → u a = σ a) (a r c : Nat) : ca_rd u a r c = ca_rd σ a r c := by
  unfold ca_rd ca_val ca_c
  rw [e 1 (by omega), e 3 (by omega), e 4 (by omega), e 5 (by omega)]
theorem cr_mvr {s y : ca_S} {r c0 n : Nat} (hn : c0 + n ≤ 16) (e : ∀ a, a < 14 → y a = s a) : (∀ a, a < 14 → ca_mvr c0 n r y a = s a) ∧ (∀ c, c0 ≤ c → c < c0 + n → ca_mvr c0 n r y 14 (r * 16 + c) = ca_rd s 4 r c) ∧ ∀ j, j < r * 16 → ca_mvr c0 n r y 14 j = y 14 j := by
  refine ca_it_ind (f := ca_mv1 r) (P := fun m (u : ca_S) => (∀ a, a < 14 → u a = s a) ∧ (∀ c, c0 ≤ c → c < m → u 14 (r * 16 + c) = ca_rd s 4 r c) ∧ ∀ j, j < r * 16 → u 14 j = y 14 j) n c0 y ?_ ?_
  · exact ⟨e, fun c h1 h2 => by omega, fun _ _ => rfl⟩
  · intro m u h1 h2 hu
    obtain ⟨u1, u2, u3⟩ := hu
    refine ⟨fun a ha => ?_, fun c hc hc2 => ?_, fun j hj => ?_⟩
    · show ca_up u 14 (r * 16 + m) (ca_rd u 4 r m) a = s a
      rw [ca_upN (by omega)]
      exact u1 a ha
    · show ca_up u 14 (r * 16 + m) (ca_rd u 4 r m) 14 (r * 16 + c) = _
      rw [cr_up_at]
      by_cases z : c = m
      · rw [if_pos ⟨rfl, by omega⟩, z]
        exact cr_rd_far u1 _ _ _
      · rw [if_neg (by omega)]
        exact u2 c hc (by omega)
    · show ca_up u 14 (r * 16 + m) (ca_rd u 4 r m) 14 j = _
      rw [cr_up_at, if_neg (by omega)]
      exact u3 j hj
theorem cr_mvs {s : ca_S} {r0 c0 n m : Nat} (hm : c0 + m ≤ 16) : (∀ a, a < 14 → ca_it (ca_mvr c0 m) r0 n s a = s a) ∧ ∀ r c, r0 ≤ r → r < r0 + n → c0 ≤ c → c < c0 + m → ca_it (ca_mvr c0 m) r0 n s 14 (r * 16 + c) = ca_rd s 4 r c := by
  refine ca_it_ind (f := ca_mvr c0 m) (P := fun k (u : ca_S) => (∀ a, a < 14 → u a = s a) ∧ ∀ r c, r0 ≤ r → r < k → c0 ≤ c → c < c0 + m → u 14 (r * 16 + c) = ca_rd s 4 r c) n r0 s ?_ ?_
  · exact ⟨fun _ _ => rfl, fun r c h1 h2 => by omega⟩
  · intro k u h1 h2 hu
    obtain ⟨u1, u2⟩ := hu
    obtain ⟨v1, v2, v3⟩ := cr_mvr (r := k) hm u1
    refine ⟨v1, fun r c hr hr2 hc hc2 => ?_⟩
    by_cases z : r = k
    · rw [z]
      exact v2 c hc hc2
    · rw [v3 _ (by omega)]
      exact u2 r c hr (by omega) hc hc2
theorem cr_ptr {y : ca_S} (h : cr_I y) {r0 c0 a b m r : Nat} (hR : r + a - r0 < 16) (hm : b + m ≤ 16) : cr_W y (ca_ptr r0 c0 a b m r y) (fun p i => if ca_r p i = r + a - r0 ∧ b ≤ ca_k p i ∧ ca_k p i + c0 < b + (c0 + m) then y 14 (r * 16 + (ca_k p i + c0 - b)) else cr_U y (64 + p) i) := by
  refine ca_it_ind (f := ca_pt1 (r + a - r0) b c0 r) (P := fun c z => cr_W y z (fun p i => if ca_r p i = r + a - r0 ∧ b ≤ ca_k p i ∧ ca_k p i + c0 < b + c then y 14 (r * 16 + (ca_k p i + c0 - b)) else cr_U y (64 + p) i)) m c0 y ?_ ?_
  · refine cr_W_cong (cr_W_refl h) (fun p _ i _ => ?_)
    rw [if_neg (by omega)]
  · intro c z h1 h2 hz
    have hz : cr_W y z (fun p i => if ca_r p i = r + a - r0 ∧ b ≤ ca_k p i ∧ ca_k p i + c0 < b + c then y 14 (r * 16 + (ca_k p i + c0 - b)) else cr_U y (64 + p) i) := hz
    have hzU : ∀ p, p < 16 → ∀ i, i < 16 → cr_U z (64 + p) i = if ca_r p i = r + a - r0 ∧ b ≤ ca_k p i ∧ ca_k p i + c0 < b + c then y 14 (r * 16 + (ca_k p i + c0 - b)) else cr_U y (64 + p) i := hz.2.2.2.2
    have e : ca_pt1 (r + a - r0) b c0 r c z = ca_wc (r + a - r0) (c + b - c0) (z 14 (r * 16 + c)) z := rfl
    rw [e]
    refine cr_W_cong (cr_W_trans hz (cr_W_wc' hz.1 hR (by omega) _)) (fun p hp i hi => ?_)
    by_cases q : ca_r p i = r + a - r0 ∧ ca_k p i = c + b - c0
    · rw [if_pos q, if_pos (by omega), hz.2.2.1 14 (by omega)]
      exact congrArg (y 14) (by omega)
    · rw [if_neg q, hzU p hp i hi]
      exact cr_ifc (by omega)
theorem cr_pts {s : ca_S} (h : cr_I s) {r0 c0 a b n m : Nat} (hn : a + n ≤ 16) (hm : b + m ≤ 16) : cr_W s (ca_it (ca_ptr r0 c0 a b m) r0 n s) (fun p i => if a ≤ ca_r p i ∧ ca_r p i + r0 < a + (r0 + n) ∧ b ≤ ca_k p i ∧ ca_k p i < b + m then s 14 ((ca_r p i + r0 - a) * 16 + (ca_k p i + c0 - b)) else cr_U s (64 + p) i) := by
  refine ca_it_ind (f := ca_ptr r0 c0 a b m) (P := fun k z => cr_W s z (fun p i => if a ≤ ca_r p i ∧ ca_r p i + r0 < a + k ∧ b ≤ ca_k p i ∧ ca_k p i < b + m then s 14 ((ca_r p i + r0 - a) * 16 + (ca_k p i + c0 - b)) else cr_U s (64 + p) i)) n r0 s ?_ ?_
  · refine cr_W_cong (cr_W_refl h) (fun p _ i _ => ?_)
    rw [if_neg (by omega)]
  · intro r z h1 h2 hz
    have hz : cr_W s z (fun p i => if a ≤ ca_r p i ∧ ca_r p i + r0 < a + r ∧ b ≤ ca_k p i ∧ ca_k p i < b + m then s 14 ((ca_r p i + r0 - a) * 16 + (ca_k p i + c0 - b)) else cr_U s (64 + p) i) := hz
    have hzU : ∀ p, p < 16 → ∀ i, i < 16 → cr_U z (64 + p) i = if a ≤ ca_r p i ∧ ca_r p i + r0 < a + r ∧ b ≤ ca_k p i ∧ ca_k p i < b + m then s 14 ((ca_r p i + r0 - a) * 16 + (ca_k p i + c0 - b)) else cr_U s (64 + p) i := hz.2.2.2.2
    refine cr_W_cong (cr_W_trans hz (cr_ptr (r0 := r0) (c0 := c0) (a := a) (b := b) (m := m) (r := r) hz.1 (by omega) hm)) (fun p hp i hi => ?_)
    by_cases q : ca_r p i = r + a - r0 ∧ b ≤ ca_k p i ∧ ca_k p i + c0 < b + (c0 + m)
    · rw [if_pos q, if_pos (by omega), hz.2.2.1 14 (by omega)]
      exact congrArg (s 14) (by omega)
    · rw [if_neg q, hzU p hp i hi]
      exact cr_ifc (by omega)
/-! the reference's copy -/
theorem cr_bf (τ : ca_S) (a n : Nat) : ca_it cb_bf1 0 256 τ a n = if a = 1 ∧ n < 256 then τ 0 n else τ a n := by
  have key : ∀ a n, ca_it cb_bf1 0 256 τ a n = if a = 1 ∧ n < 0 + 256 then τ 0 n else τ a n := by
    refine ca_it_ind (f := cb_bf1) (P := fun j (y : ca_S) => ∀ a n, y a n = if a = 1 ∧ n < j then τ 0 n else τ a n) 256 0 τ ?_ ?_
    · intro a n
      rw [if_neg (by omega)]
    · intro j y _ _ hy a n
      have hy : ∀ a n, y a n = if a = 1 ∧ n < j then τ 0 n else τ a n := hy
      show ca_up y 1 j (y 0 j) a n = _
      rw [cr_up_at]
      by_cases e : a = 1 ∧ n = j
      · rw [if_pos e, if_pos (by omega), hy, if_neg (by omega), e.2]
      · rw [if_neg e, hy]
        exact cr_ifc (by omega)
  exact key a n
abbrev cr_D (r0 r1 c0 c1 am ad n : Nat) : Prop := am ≤ n % 16 ∧ n % 16 + r0 ≤ r1 + am ∧ ad ≤ n / 16 ∧ n / 16 + c0 ≤ c1 + ad
def cr_src (r0 c0 am ad n : Nat) : Nat := n % 16 + r0 - am + 16 * (n / 16 + c0 - ad)
theorem cr_go_iff {r0 r1 c0 c1 am ad j n : Nat} (h16 : r0 < 16 ∧ r1 < 16 ∧ c0 < 16 ∧ c1 < 16) (hj : j < 256) (hn : n < 256) : (cr_D r0 r1 c0 c1 am ad n ∧ cr_src r0 c0 am ad n = j) ↔ ((((r0 ≤ j % 16 ∧ j % 16 ≤ r1) ∧ c0 ≤ j / 16 ∧ j / 16 ≤ c1) ∧ j % 16 - r0 + am < 16 ∧ j / 16 - c0 + ad < 16) ∧ n = j % 16 - r0 + am + 16 * (j / 16 - c0 + ad)) := by
  unfold cr_D cr_src
  obtain ⟨nr, nc, hnr, hnc, en⟩ : ∃ nr nc, nr < 16 ∧ nc < 16 ∧ n = nr + 16 * nc := ⟨n % 16, n / 16, by omega, by omega, by omega⟩
  obtain ⟨jr, jc, hjr, hjc, ej⟩ : ∃ jr jc, jr < 16 ∧ jc < 16 ∧ j = jr + 16 * jc := ⟨j % 16, j / 16, by omega, by omega, by omega⟩
  rw [show n % 16 = nr by omega, show n / 16 = nc by omega, show j % 16 = jr by omega, show j / 16 = jc by omega]
  constructor
  · rintro ⟨⟨h1, h2, h3, h4⟩, h5⟩
    omega
  · rintro ⟨⟨⟨⟨h1, h2⟩, h3, h4⟩, h5, h6⟩, h7⟩
    omega
theorem cr_insB (n f t : Nat) : cb_ins n f t ↔ (ca_mn (f % 16) (t % 16) ≤ n % 16 ∧ n % 16 ≤ ca_mx (f % 16) (t % 16)) ∧ ca_mn (f / 16) (t / 16) ≤ n / 16 ∧ n / 16 ≤ ca_mx (f / 16) (t / 16) := by
  show (cb_bet (n % 16) (f % 16) (t % 16) ∧ cb_bet (n / 16) (f / 16) (t / 16)) ↔ _
  rw [cr_bet, cr_bet]
theorem cr_cyM0 {f t a r0 r1 c0 c1 : Nat} (hgo : ∀ j n, j < 256 → n < 256 → ((cr_D r0 r1 c0 c1 (a % 16) (a / 16) n ∧ cr_src r0 c0 (a % 16) (a / 16) n = j) ↔ (cb_go f t a j ∧ n = cb_to f t a j))) (τ : ca_S) : (∀ n, n < 256 → (cb_cyN f t a τ).1 0 n = if cr_D r0 r1 c0 c1 (a % 16) (a / 16) n ∧ cr_src r0 c0 (a % 16) (a / 16) n < 256 then τ 0 (cr_src r0 c0 (a % 16) (a / 16) n) else τ 0 n) ∧ (∀ k, k ≠ 0 → (cb_cyN f t a τ).1 k = ca_it cb_bf1 0 256 τ k) ∧ nI (cb_cyN f t a τ).2 = cr_s (fun c => if cb_go f t a c then 1 else 0) 256 := by
  unfold cb_cyN
  have hb0 : ∀ n, ca_it cb_bf1 0 256 τ 0 n = τ 0 n := fun n => by rw [cr_bf, if_neg (by omega)]
  have hb1 : ∀ n, n < 256 → ca_it cb_bf1 0 256 τ 1 n = τ 0 n := fun n hn => by rw [cr_bf, if_pos ⟨rfl, hn⟩]
  generalize ca_it cb_bf1 0 256 τ = τb at *
  refine ca_it_ind (f := cb_cy1 f t a) (P := fun j z => (∀ n, n < 256 → z.1 0 n = if cr_D r0 r1 c0 c1 (a % 16) (a / 16) n ∧ cr_src r0 c0 (a % 16) (a / 16) n < j then τ 0 (cr_src r0 c0 (a % 16) (a / 16) n) else τ 0 n) ∧ (∀ k, k ≠ 0 → z.1 k = τb k) ∧ nI z.2 = cr_s (fun c => if cb_go f t a c then 1 else 0) j) 256 0 (τb, 0) ?_ ?_
  · refine ⟨fun n _ => ?_, fun _ _ => rfl, rfl⟩
    rw [if_neg (fun z => by omega)]
    exact hb0 n
  · intro j z _ hj hz
    obtain ⟨z1, z2, z3⟩ := hz
    have hj256 : j < 256 := by omega
    by_cases q : cb_go f t a j
    · have e : cb_cy1 f t a j z = (ca_up z.1 0 (cb_to f t a j) (z.1 1 j), z.2 + 1) := if_pos q
      rw [e]
      refine ⟨fun n hn => ?_, fun k hk => ?_, ?_⟩
      · show ca_up z.1 0 (cb_to f t a j) (z.1 1 j) 0 n = _
        rw [cr_up_at]
        by_cases e1 : n = cb_to f t a j
        · have e2 := (hgo j n hj256 hn).mpr ⟨q, e1⟩
          rw [if_pos ⟨rfl, e1⟩, if_pos ⟨e2.1, by omega⟩, e2.2, z2 1 (by omega)]
          exact hb1 j hj256
        · rw [if_neg (fun z => e1 z.2), z1 n hn]
          refine cr_ifc ⟨fun z => ⟨z.1, by omega⟩, fun z => ⟨z.1, ?_⟩⟩
          refine Nat.lt_of_le_of_ne (by omega) (fun zz => e1 ((hgo j n hj256 hn).mp ⟨z.1, zz⟩).2)
      · show ca_up z.1 0 (cb_to f t a j) (z.1 1 j) k = _
        rw [ca_upN hk]
        exact z2 k hk
      · show nI (z.2 + 1) = _
        rw [nI_succ, z3, cr_s_succ, if_pos q]
    · have e : cb_cy1 f t a j z = z := if_neg q
      rw [e]
      refine ⟨fun n hn => ?_, z2, ?_⟩
      · rw [z1 n hn]
        refine cr_ifc ⟨fun z => ⟨z.1, by omega⟩, fun z => ⟨z.1, ?_⟩⟩
        refine Nat.lt_of_le_of_ne (by omega) (fun zz => q ((hgo j n hj256 hn).mp ⟨z.1, zz⟩).1)
      · rw [z3, cr_s_succ, if_neg q, Int32.add_zero]
theorem cr_cyM {f t a : Nat} (hf : f < 256) (ht : t < 256) (τ : ca_S) : (∀ n, n < 256 → (cb_cyN f t a τ).1 0 n = if cr_D (ca_mn (f % 16) (t % 16)) (ca_mx (f % 16) (t % 16)) (ca_mn (f / 16) (t / 16)) (ca_mx (f / 16) (t / 16)) (a % 16) (a / 16) n ∧ cr_src (ca_mn (f % 16) (t % 16)) (ca_mn (f / 16) (t / 16)) (a % 16) (a / 16) n < 256 then τ 0 (cr_src (ca_mn (f % 16) (t % 16)) (ca_mn (f / 16) (t / 16)) (a % 16) (a / 16) n) else τ 0 n) ∧ (∀ k, k ≠ 0 → (cb_cyN f t a τ).1 k = ca_it cb_bf1 0 256 τ k) ∧ nI (cb_cyN f t a τ).2 = cr_s (fun c => if cb_go f t a c then 1 else 0) 256 := by
  have h16 := cr_16 hf ht
  have hgo : ∀ j n, j < 256 → n < 256 → ((cr_D (ca_mn (f % 16) (t % 16)) (ca_mx (f % 16) (t % 16)) (ca_mn (f / 16) (t / 16)) (ca_mx (f / 16) (t / 16)) (a % 16) (a / 16) n ∧ cr_src (ca_mn (f % 16) (t % 16)) (ca_mn (f / 16) (t / 16)) (a % 16) (a / 16) n = j) ↔ (cb_go f t a j ∧ n = cb_to f t a j)) := by
    intro j n hj hn
    rw [cr_go_iff h16 hj hn]
    show _ ↔ ((cb_ins j f t ∧ _ ∧ _) ∧ _)
    rw [cr_insB]
    rfl
  exact cr_cyM0 hgo τ
theorem cr_cyNN {σ τ : ca_S} (h : cr_R σ τ) {f t a : Nat} (hf : f < 256) (ht : t < 256) (ha : a < 256) : nI (ca_cyC f t a) = nI (cb_cyN f t a τ).2 ∧ cr_R (ca_cyN f t a σ) (cb_cyN f t a τ).1 := by
  have h16 := cr_16 hf ht
  have hr := ca_mnx (f % 16) (t % 16)
  have hc := ca_mnx (f / 16) (t / 16)
  obtain ⟨m1, m2, m3⟩ := cr_cyM (a := a) hf ht τ
  constructor
  · rw [m3]
    unfold ca_cyC
    refine (cr_s_ind2 (a := ca_mn (f % 16) (t % 16)) (b := ca_mn (f / 16) (t / 16)) (by omega) (by omega) (fun n hn => ?_)).symm
    show (cb_ins n f t ∧ _ ∧ _) ↔ _
    rw [cr_insB]
    omega
  · have hR0 := cr_R_near h (cr_reg_near f t σ)
    unfold ca_cyN
    generalize ca_reg f t σ = s0 at *
    clear m3
    generalize ca_mn (f % 16) (t % 16) = r0 at *
    generalize ca_mx (f % 16) (t % 16) = r1 at *
    generalize ca_mn (f / 16) (t / 16) = c0 at *
    generalize ca_mx (f / 16) (t / 16) = c1 at *
    obtain ⟨v1, v2⟩ := cr_mvs (s := s0) (r0 := r0) (c0 := c0) (n := r1 + 1 - r0) (m := c1 + 1 - c0) (by omega)
    generalize ca_it (ca_mvr c0 (c1 + 1 - c0)) r0 (r1 + 1 - r0) s0 = s2 at *
    have hR := cr_R_near hR0 (u := s2) (fun a ha => v1 a (by omega))
    have hw := cr_pts (s := s2) hR.1 (r0 := r0) (c0 := c0) (a := a % 16) (b := a / 16) (n := min (r1 + 1 - r0) (16 - a % 16)) (m := min (c1 + 1 - c0) (16 - a / 16)) (by omega) (by omega)
    refine cr_R_W hR hw ?_ ?_ (fun r c hr16 hc16 => ?_)
    · rw [m2 2 (by omega)]
      funext n
      rw [cr_bf, if_neg (by omega)]
    · rw [m2 3 (by omega)]
      funext n
      rw [cr_bf, if_neg (by omega)]
    · rw [m1 _ (by omega), cr_r_pw hr16 hc16, cr_k_pw hr16 hc16]
      have e : cr_U s2 (64 + ca_pl r c) (ca_wi r c) = τ 0 (r + 16 * c) := hR.2.1 r c hr16 hc16
      rw [e]
      unfold cr_D cr_src
      rw [show (r + 16 * c) % 16 = r by omega, show (r + 16 * c) / 16 = c by omega]
      by_cases q : a % 16 ≤ r ∧ r + r0 < a % 16 + (r0 + min (r1 + 1 - r0) (16 - a % 16)) ∧ a / 16 ≤ c ∧ c < a / 16 + min (c1 + 1 - c0) (16 - a / 16)
      · rw [if_pos q, if_pos (by omega), v2 _ _ (by omega) (by omega) (by omega) (by omega)]
        exact hR0.2.1 _ _ (by omega) (by omega)
      · rw [if_neg q, if_neg (by omega)]
theorem cr_cy {σ τ : ca_S} (h : cr_R σ τ) (f t a : Int32) : ca_cyR f t a = cb_cyR f t a τ ∧ cr_R (ca_cyS f t a σ) (cb_cyS f t a τ) := by
  unfold ca_cyR cb_cyR ca_cyS cb_cyS
  by_cases q : ca_bad f ∨ ca_bad t ∨ ca_bad a
  · have q' : ¬ (cb_cell f ∧ cb_cell t ∧ cb_cell a) := by
      rw [cr_cell, cr_cell, cr_cell]
      exact fun z => q.elim z.1 (fun y => y.elim z.2.1 z.2.2)
    rw [if_pos q, if_pos q, if_neg q', if_neg q']
    exact ⟨rfl, h⟩
  · have q1 : ¬ ca_bad f := fun z => q (Or.inl z)
    have q2 : ¬ ca_bad t := fun z => q (Or.inr (Or.inl z))
    have q3 : ¬ ca_bad a := fun z => q (Or.inr (Or.inr z))
    have q' : cb_cell f ∧ cb_cell t ∧ cb_cell a := ⟨cr_cell.mpr q1, cr_cell.mpr q2, cr_cell.mpr q3⟩
    rw [if_neg q, if_neg q, if_pos q', if_pos q']
    exact cr_cyNN h (cr_cl q1) (cr_cl q2) (cr_cl q3)
end
section
/-! VERSIONS: keep, restore, drop, differ; get, getOf -/
theorem cr_34 {v : Int32} : 4 ≤ v ↔ 3 < v := by
  have h1 : (4 : Int32).toInt = 4 := by decide
  have h2 : (3 : Int32).toInt = 3 := by decide
  simp only [Int32.le_iff_toInt_le, Int32.lt_iff_toInt_lt, h1, h2]
  omega
theorem cr_vn {v : Int32} (h0 : ¬ v < 0) (h3 : ¬ 3 < v) : v.toNatClampNeg < 4 := by
  obtain ⟨n, hn, e⟩ := ca_ver_nat h0 h3
  rw [e, ca_cl (by omega)]
  exact hn
theorem cr_ver {σ τ : ca_S} (h : cr_R σ τ) (v : Int32) : cb_ver τ v ↔ ¬ ca_nov σ v := by
  show (¬ v < 0 ∧ ¬ 4 ≤ v ∧ ¬ τ 3 v.toNatClampNeg = 0) ↔ ¬ (v < 0 ∨ 3 < v ∨ σ 0 v.toNatClampNeg = 0)
  rw [cr_34]
  constructor
  · rintro ⟨h0, h3, h4⟩ z
    rcases z with z | z | z
    · exact h0 z
    · exact h3 z
    · exact h4 ((h.2.2.1 _ (cr_vn h0 h3)).mp z)
  · intro z
    have h0 : ¬ v < 0 := fun q => z (Or.inl q)
    have h3 : ¬ 3 < v := fun q => z (Or.inr (Or.inl q))
    exact ⟨h0, h3, fun q => z (Or.inr (Or.inr ((h.2.2.1 _ (cr_vn h0 h3)).mpr q)))⟩
theorem cr_novN {σ : ca_S} {v : Int32} (h : ¬ ca_nov σ v) : v.toNatClampNeg < 4 ∧ ¬ σ 0 v.toNatClampNeg = 0 := by
  have h0 : ¬ v < 0 := fun q => h (Or.inl q)
  have h3 : ¬ 3 < v := fun q => h (Or.inr (Or.inl q))
  exact ⟨cr_vn h0 h3, fun q => h (Or.inr (Or.inr q))⟩
theorem cr_val_3 {σ u : ca_S} (e : ∀ a, 3 ≤ a → u a = σ a) (k i : Nat) : ca_val u k i = ca_val σ k i := by
  unfold ca_val
  rw [e 3 (by omega), e 4 (by omega), e 5 (by omega)]
theorem cr_K_3 {σ u : ca_S} (e : ∀ a, 3 ≤ a → u a = σ a) {k : Nat} (h : cr_K σ k) : cr_K u k := by
  unfold cr_K at h ⊢
  rw [e 6 (by omega), e 7 (by omega), e 8 (by omega), e 9 (by omega), cr_sm_cong (σ := σ) (l := k) (fun i _ => by rw [e 3 (by omega)]), cr_gr_cong (σ := σ) (l := k) (fun i _ => cr_val_3 e k i)]
  exact h
theorem cr_U_3 {σ u : ca_S} (e : ∀ a, 3 ≤ a → u a = σ a) {p q : Nat} (hc : ca_c u p = ca_c σ q) (i : Nat) : cr_U u p i = cr_U σ q i := by
  unfold cr_U
  rw [hc]
  exact cr_val_3 e _ _
theorem cr_c_nI {σ : ca_S} {p k : Nat} (h : σ 1 p = nI k) (hk : k < 80) : ca_c σ p = k := by
  unfold ca_c
  rw [h]
  exact nI_clamp (by omega)
theorem cr_c_eq {σ u : ca_S} {p q : Nat} (h : u 1 p = σ 1 q) : ca_c u p = ca_c σ q := by
  unfold ca_c
  rw [h]
/-! keep -/
theorem cr_kpI {σ : ca_S} (h : cr_I σ) {v : Nat} (hv : v < 4) (hv0 : σ 0 v = 0) : (∀ n, ca_kpN v σ 0 n = if n = v then 1 else σ 0 n) ∧ (∀ a, 3 ≤ a → ca_kpN v σ a = σ a) ∧ (∀ p, ca_kpN v σ 1 p = if v * 16 ≤ p ∧ p < v * 16 + 16 then nI (ca_c σ (64 + (p - v * 16))) else σ 1 p) ∧ ∀ j, j < 80 → ca_kpN v σ 2 j = nI (fb_ct (fun p => decide ((¬ σ 0 (p / 16) = 0 ∧ ca_c σ p = j) ∨ ((v * 16 ≤ p ∧ p < v * 16 + 16) ∧ ca_c σ (64 + (p - v * 16)) = j))) 80) := by
  refine ca_it_ind (f := ca_kp1 v) (P := fun k (y : ca_S) => (∀ n, y 0 n = if n = v then 1 else σ 0 n) ∧ (∀ a, 3 ≤ a → y a = σ a) ∧ (∀ p, y 1 p = if v * 16 ≤ p ∧ p < v * 16 + k then nI (ca_c σ (64 + (p - v * 16))) else σ 1 p) ∧ ∀ j, j < 80 → y 2 j = nI (fb_ct (fun p => decide ((¬ σ 0 (p / 16) = 0 ∧ ca_c σ p = j) ∨ ((v * 16 ≤ p ∧ p < v * 16 + k) ∧ ca_c σ (64 + (p - v * 16)) = j))) 80)) 16 0 (ca_up σ 0 v 1) ?_ ?_
  · refine ⟨fun n => ?_, fun a ha => ca_upN (by omega), fun p => ?_, fun j hj => ?_⟩
    · rw [cr_up_at]
      exact cr_ifc ⟨fun z => z.2, fun z => ⟨rfl, z⟩⟩
    · rw [ca_upN (by omega), if_neg (by omega)]
    · rw [ca_upN (by omega), h.2.1 j hj]
      refine congrArg nI (fb_ct_cong fun p hp => ?_)
      refine decide_eq_decide.mpr ⟨fun z => Or.inl z, fun z => z.elim id (fun z => by omega)⟩
  · intro k y _ hk hy
    obtain ⟨y0, y3, y1, y2⟩ := hy
    have ec : ca_c y (64 + k) = ca_c σ (64 + k) := cr_c_eq (by rw [y1, if_neg (by omega)])
    have hc80 := (ca_ok_at h.1 (p := 64 + k) (by omega)).1
    have e : ca_kp1 v k y = ca_inc 2 (ca_c σ (64 + k)) (ca_up y 1 (v * 16 + k) (nI (ca_c σ (64 + k)))) := by
      unfold ca_kp1
      rw [ec]
    rw [e]
    unfold ca_inc
    refine ⟨fun n => ?_, fun a ha => ?_, fun p => ?_, fun j hj => ?_⟩
    · rw [ca_upN (by omega), ca_upN (by omega)]
      exact y0 n
    · rw [ca_upN (by omega), ca_upN (by omega)]
      exact y3 a ha
    · rw [ca_upN (by omega), cr_up_at]
      by_cases z : p = v * 16 + k
      · rw [if_pos ⟨rfl, z⟩, if_pos (by omega), show p - v * 16 = k by omega]
      · rw [if_neg (fun q => z q.2), y1]
        exact cr_ifc (by omega)
    · rw [cr_up_at, ca_upN (by omega)]
      have hs := cr_ct1 (P := fun p => decide ((¬ σ 0 (p / 16) = 0 ∧ ca_c σ p = j) ∨ ((v * 16 ≤ p ∧ p < v * 16 + k) ∧ ca_c σ (64 + (p - v * 16)) = j))) (Q := fun p => decide ((¬ σ 0 (p / 16) = 0 ∧ ca_c σ p = j) ∨ ((v * 16 ≤ p ∧ p < v * 16 + (k + 1)) ∧ ca_c σ (64 + (p - v * 16)) = j))) (q := v * 16 + k) (N := 80) (x := 0) (y := if j = ca_c σ (64 + k) then 1 else 0) (by omega)
        (fun p hp hpq => decide_eq_decide.mpr ⟨fun z => z.elim Or.inl (fun z => Or.inr ⟨by omega, z.2⟩), fun z => z.elim Or.inl (fun z => Or.inr ⟨by omega, z.2⟩)⟩)
        (if_neg (fun z => (of_decide_eq_true z).elim (fun z => z.1 (by rw [show (v * 16 + k) / 16 = v by omega]; exact hv0)) (fun z => by omega)))
        (cr_ifc ⟨fun z => (of_decide_eq_true z).elim (fun z => absurd (by rw [show (v * 16 + k) / 16 = v by omega]; exact hv0) z.1) (fun z => by rw [← z.2, show v * 16 + k - v * 16 = k by omega]), fun z => decide_eq_true (Or.inr ⟨by omega, by rw [z, show v * 16 + k - v * 16 = k by omega]⟩)⟩)
      by_cases z : j = ca_c σ (64 + k)
      · rw [if_pos z] at hs
        rw [if_pos ⟨rfl, z⟩, ← z, y2 j hj, ← nI_succ]
        exact congrArg nI (by omega)
      · rw [if_neg z] at hs
        rw [if_neg (fun q => z q.2), y2 j hj]
        exact congrArg nI (by omega)
theorem cr_kpM {v : Nat} (τ : ca_S) : (∀ n, cb_kpN v τ 0 n = τ 0 n) ∧ (∀ n, cb_kpN v τ 2 n = if v * 256 ≤ n ∧ n < v * 256 + 256 then τ 0 (n - v * 256) else τ 2 n) ∧ ∀ n, cb_kpN v τ 3 n = if n = v then 1 else τ 3 n := by
  refine ca_it_ind (f := cb_kp1 v) (P := fun j (y : ca_S) => (∀ n, y 0 n = τ 0 n) ∧ (∀ n, y 2 n = if v * 256 ≤ n ∧ n < v * 256 + j then τ 0 (n - v * 256) else τ 2 n) ∧ ∀ n, y 3 n = if n = v then 1 else τ 3 n) 256 0 (ca_up τ 3 v 1) ?_ ?_
  · refine ⟨fun n => by rw [ca_upN (by omega)], fun n => by rw [ca_upN (by omega), if_neg (by omega)], fun n => ?_⟩
    rw [cr_up_at]
    exact cr_ifc ⟨fun z => z.2, fun z => ⟨rfl, z⟩⟩
  · intro j y _ hj hy
    obtain ⟨y0, y2, y3⟩ := hy
    unfold cb_kp1
    refine ⟨fun n => ?_, fun n => ?_, fun n => ?_⟩
    · rw [ca_upN (by omega)]
      exact y0 n
    · rw [cr_up_at]
      by_cases z : n = v * 256 + j
      · rw [if_pos ⟨rfl, z⟩, if_pos (by omega), y0]
        exact congrArg (τ 0) (by omega)
      · rw [if_neg (fun q => z q.2), y2]
        exact cr_ifc (by omega)
    · rw [ca_upN (by omega)]
      exact y3 n
theorem cr_kpNN {σ τ : ca_S} (h : cr_R σ τ) {v : Nat} (hv : v < 4) (hv0 : σ 0 v = 0) : cr_R (ca_kpN v σ) (cb_kpN v τ) := by
  obtain ⟨x0, x3, x1, x2⟩ := cr_kpI h.1 hv hv0
  obtain ⟨m0, m2, m3⟩ := cr_kpM (v := v) τ
  generalize ca_kpN v σ = u at *
  generalize cb_kpN v τ = τ' at *
  have ecI : ∀ p, v * 16 ≤ p ∧ p < v * 16 + 16 → ca_c u p = ca_c σ (64 + (p - v * 16)) := fun p hp => cr_c_nI (by rw [x1, if_pos hp]) (ca_ok_at h.1.1 (by omega)).1
  have ecO : ∀ p, ¬ (v * 16 ≤ p ∧ p < v * 16 + 16) → ca_c u p = ca_c σ p := fun p hp => cr_c_eq (by rw [x1, if_neg hp])
  refine ⟨⟨fun p hp => ?_, fun j hj => ?_, ?_, fun k hk => cr_K_3 x3 (h.1.2.2.2 k hk)⟩, fun r c hr hc => ?_, fun w hw => ?_, fun w hw hl r c hr hc => ?_⟩
  · rw [x1]
    by_cases z : v * 16 ≤ p ∧ p < v * 16 + 16
    · rw [if_pos z]
      exact ⟨_, (ca_ok_at h.1.1 (by omega)).1, rfl⟩
    · rw [if_neg z]
      exact h.1.1 p hp
  · rw [x2 j hj]
    refine congrArg nI (fb_ct_cong fun p hp => decide_eq_decide.mpr ?_)
    rw [x0]
    by_cases z : v * 16 ≤ p ∧ p < v * 16 + 16
    · rw [ecI p z, if_pos (by omega)]
      refine ⟨fun q => ⟨by decide, q.elim (fun q => absurd (by rw [show p / 16 = v by omega]; exact hv0) q.1) (fun q => q.2)⟩, fun q => Or.inr ⟨z, q.2⟩⟩
    · rw [ecO p z, if_neg (by omega)]
      exact ⟨fun q => q.elim id (fun q => absurd q.1 z), fun q => Or.inl q⟩
  · rw [x0, if_neg (by omega)]
    exact h.1.2.2.1
  · have := ca_pl_lt hr hc
    rw [m0, ← h.2.1 r c hr hc]
    exact cr_U_3 x3 (ecO _ (by omega)) _
  · rw [x0, m3]
    by_cases z : w = v
    · rw [if_pos z, if_pos z]
    · rw [if_neg z, if_neg z]
      exact h.2.2.1 w hw
  · have hpl := ca_pl_lt hr hc
    rw [m2]
    rw [x0] at hl
    by_cases z : w = v
    · rw [if_pos (by omega), show w * 256 + (r + 16 * c) - v * 256 = r + 16 * c by omega, ← h.2.1 r c hr hc]
      refine cr_U_3 x3 ((ecI _ (by omega)).trans ?_) _
      rw [show 64 + (w * 16 + ca_pl r c - v * 16) = 4 * 16 + ca_pl r c by omega]
    · rw [if_neg z] at hl
      rw [if_neg (by omega), ← h.2.2.2 w hw hl r c hr hc]
      exact cr_U_3 x3 (ecO _ (by omega)) _
theorem cr_kp {σ τ : ca_S} (h : cr_R σ τ) (v : Int32) : ca_kpR v σ = cb_kpR v τ ∧ cr_R (ca_kpS v σ) (cb_kpS v τ) := by
  unfold ca_kpR cb_kpR ca_kpS cb_kpS
  by_cases q : v < 0 ∨ 3 < v
  · rw [if_pos q, if_pos q, if_pos q, if_pos q]
    exact ⟨rfl, h⟩
  · rw [if_neg q, if_neg q, if_neg q, if_neg q]
    have hv := cr_vn (fun z => q (Or.inl z)) (fun z => q (Or.inr z))
    have e := h.2.2.1 _ hv
    by_cases z : σ 0 v.toNatClampNeg = 0
    · rw [if_pos z, if_pos (e.mp z), if_pos z, if_pos (e.mp z)]
      exact ⟨rfl, cr_kpNN h hv z⟩
    · have z' : ¬ τ 3 v.toNatClampNeg = 0 := fun q => z (e.mpr q)
      rw [if_neg z, if_neg z', if_neg z, if_neg z']
      exact ⟨rfl, h⟩
/-! restore -/
theorem cr_rs1 {y : ca_S} (h : cr_I y) {v k : Nat} (hv : v < 4) (hk : k < 16) : cr_I (ca_rs1 v k y) ∧ ca_rs1 v k y 0 = y 0 ∧ (∀ a, 3 ≤ a → ca_rs1 v k y a = y a) ∧ ∀ p, ca_c (ca_rs1 v k y) p = if p = 64 + k then ca_c y (v * 16 + k) else ca_c y p := by
  have hb := (ca_ok_at h.1 (p := v * 16 + k) (by omega)).1
  have ha := (ca_ok_at h.1 (p := 64 + k) (by omega)).1
  have x0 : ca_rs1 v k y 0 = y 0 := by
    unfold ca_rs1 ca_inc ca_dec
    rw [ca_upN (by omega), ca_upN (by omega), ca_upN (by omega)]
  have x3 : ∀ a, 3 ≤ a → ca_rs1 v k y a = y a := by
    intro a ha
    unfold ca_rs1 ca_inc ca_dec
    rw [ca_upN (by omega), ca_upN (by omega), ca_upN (by omega)]
  have xc : ∀ p, ca_c (ca_rs1 v k y) p = if p = 64 + k then ca_c y (v * 16 + k) else ca_c y p := by
    intro p
    by_cases z : p = 64 + k
    · rw [if_pos z]
      refine cr_c_nI ?_ hb
      unfold ca_rs1
      rw [z]
      exact ca_upS
    · rw [if_neg z]
      refine cr_c_eq ?_
      unfold ca_rs1 ca_inc ca_dec
      rw [ca_upD z, ca_upN (by omega), ca_upN (by omega)]
  have x2 : ∀ j, ca_rs1 v k y 2 j = (if j = ca_c y (64 + k) then y 2 j - 1 else y 2 j) + (if j = ca_c y (v * 16 + k) then 1 else 0) := by
    intro j
    unfold ca_rs1 ca_inc ca_dec
    rw [ca_upN (by omega), cr_up_at]
    by_cases z : j = ca_c y (v * 16 + k)
    · rw [if_pos ⟨rfl, z⟩, if_pos z, cr_up_at, ← z]
      refine congrArg (· + 1) ?_
      by_cases z2 : j = ca_c y (64 + k)
      · rw [if_pos ⟨rfl, z2⟩, if_pos z2, z2]
      · rw [if_neg (fun q => z2 q.2), if_neg z2]
    · rw [if_neg (fun q => z q.2), if_neg z, Int32.add_zero, cr_up_at]
      by_cases z2 : j = ca_c y (64 + k)
      · rw [if_pos ⟨rfl, z2⟩, if_pos z2, z2]
      · rw [if_neg (fun q => z2 q.2), if_neg z2]
  refine ⟨⟨ca_ok_rs1 h.1 hv hk, fun j hj => ?_, ?_, fun i hi => cr_K_3 x3 (h.2.2.2 i hi)⟩, x0, x3, xc⟩
  · have hs := cr_n_step (σ := y) (u := ca_rs1 v k y) (q := 64 + k) (by omega) (by rw [show (64 + k) / 16 = 4 by omega]; exact h.2.2.1) x0 (fun p _ hpq => by rw [xc, if_neg hpq]) j
    rw [xc, if_pos rfl] at hs
    rw [x2, h.2.1 j hj]
    by_cases z : j = ca_c y (64 + k)
    · rw [if_pos z.symm] at hs
      rw [if_pos z]
      by_cases z2 : j = ca_c y (v * 16 + k)
      · rw [if_pos z2.symm] at hs
        rw [if_pos z2, Int32.sub_add_cancel]
        exact congrArg nI (by omega)
      · rw [if_neg (fun q => z2 q.symm)] at hs
        rw [if_neg z2, Int32.add_zero, show cr_n y j = cr_n (ca_rs1 v k y) j + 1 by omega]
        exact nI_pred _
    · rw [if_neg (fun q => z q.symm)] at hs
      rw [if_neg z]
      by_cases z2 : j = ca_c y (v * 16 + k)
      · rw [if_pos z2.symm] at hs
        rw [if_pos z2, nI_1]
        exact congrArg nI (by omega)
      · rw [if_neg (fun q => z2 q.symm)] at hs
        rw [if_neg z2, Int32.add_zero]
        exact congrArg nI (by omega)
  · rw [x0]
    exact h.2.2.1
theorem cr_rsI {σ : ca_S} (h : cr_I σ) {v : Nat} (hv : v < 4) : cr_I (ca_rsN v σ) ∧ ca_rsN v σ 0 = σ 0 ∧ (∀ a, 3 ≤ a → ca_rsN v σ a = σ a) ∧ ∀ p, ca_c (ca_rsN v σ) p = if 64 ≤ p ∧ p < 64 + 16 then ca_c σ (v * 16 + (p - 64)) else ca_c σ p := by
  refine ca_it_ind (f := ca_rs1 v) (P := fun k y => cr_I y ∧ y 0 = σ 0 ∧ (∀ a, 3 ≤ a → y a = σ a) ∧ ∀ p, ca_c y p = if 64 ≤ p ∧ p < 64 + k then ca_c σ (v * 16 + (p - 64)) else ca_c σ p) 16 0 σ ?_ ?_
  · exact ⟨h, rfl, fun _ _ => rfl, fun p => by rw [if_neg (by omega)]⟩
  · intro k y _ hk hy
    obtain ⟨y1, y2, y3, y4⟩ := hy
    obtain ⟨z1, z2, z3, z4⟩ := cr_rs1 y1 hv (k := k) (by omega)
    refine ⟨z1, z2.trans y2, fun a ha => (z3 a ha).trans (y3 a ha), fun p => ?_⟩
    rw [z4, y4, y4]
    by_cases z : p = 64 + k
    · rw [if_pos z, if_neg (by omega), if_pos (by omega)]
      exact congrArg (ca_c σ) (by omega)
    · rw [if_neg z]
      exact cr_ifc (by omega)
theorem cr_rsM {v : Nat} (τ : ca_S) (a n : Nat) : ca_it (cb_rs1 v) 0 256 τ a n = if a = 0 ∧ n < 256 then τ 2 (v * 256 + n) else τ a n := by
  have key : ∀ a n, ca_it (cb_rs1 v) 0 256 τ a n = if a = 0 ∧ n < 0 + 256 then τ 2 (v * 256 + n) else τ a n := by
    refine ca_it_ind (f := cb_rs1 v) (P := fun j (y : ca_S) => ∀ a n, y a n = if a = 0 ∧ n < j then τ 2 (v * 256 + n) else τ a n) 256 0 τ ?_ ?_
    · intro a n
      rw [if_neg (by omega)]
    · intro j y _ _ hy a n
      have hy : ∀ a n, y a n = if a = 0 ∧ n < j then τ 2 (v * 256 + n) else τ a n := hy
      show ca_up y 0 j (y 2 (v * 256 + j)) a n = _
      rw [cr_up_at]
      by_cases e : a = 0 ∧ n = j
      · rw [if_pos e, if_pos (by omega), hy, if_neg (by omega), e.2]
      · rw [if_neg e, hy]
        exact cr_ifc (by omega)
  exact key a n
theorem cr_R4 {σ τ : ca_S} (h : cr_R σ τ) {p i : Nat} (hp : p < 16) (hi : i < 16) : cr_U σ (64 + p) i = τ 0 (ca_r p i + 16 * ca_k p i) := by
  rw [← h.2.1 _ _ (ca_r_lt hp hi) ca_k_lt, cr_rd4_rk σ hp hi]
theorem cr_Rv {σ τ : ca_S} (h : cr_R σ τ) {v p i : Nat} (hv : v < 4) (hl : ¬ σ 0 v = 0) (hp : p < 16) (hi : i < 16) : cr_U σ (v * 16 + p) i = τ 2 (v * 256 + (ca_r p i + 16 * ca_k p i)) := by
  rw [← h.2.2.2 v hv hl _ _ (ca_r_lt hp hi) ca_k_lt, cr_rd_rk σ v hp hi]
theorem cr_rsNN {σ τ : ca_S} (h : cr_R σ τ) {v : Nat} (hv : v < 4) (hl : ¬ σ 0 v = 0) : cr_R (ca_rsN v σ) (ca_it (cb_rs1 v) 0 256 τ) := by
  obtain ⟨x1, x0, x3, xc⟩ := cr_rsI h.1 hv
  refine ⟨x1, fun r c hr hc => ?_, fun w hw => ?_, fun w hw hlw r c hr hc => ?_⟩
  · have := ca_pl_lt hr hc
    rw [cr_rsM, if_pos (by omega), ← h.2.2.2 v hv hl r c hr hc]
    refine cr_U_3 x3 ?_ _
    rw [xc, if_pos (by omega)]
    exact congrArg (ca_c σ) (by omega)
  · rw [x0, cr_rsM, if_neg (by omega)]
    exact h.2.2.1 w hw
  · have := ca_pl_lt hr hc
    rw [x0] at hlw
    rw [cr_rsM, if_neg (by omega), ← h.2.2.2 w hw hlw r c hr hc]
    refine cr_U_3 x3 ?_ _
    rw [xc, if_neg (by omega)]
theorem cr_da {σ τ : ca_S} (h : cr_R σ τ) {v p : Nat} (hv : v < 4) (hl : ¬ σ 0 v = 0) (hp : p < 16) : nI (ca_da σ v p) = cr_s (fun i => if τ 0 (ca_r p i + 16 * ca_k p i) = τ 2 (v * 256 + (ca_r p i + 16 * ca_k p i)) then 0 else 1) 16 := by
  unfold ca_da
  by_cases z : ca_c σ (v * 16 + p) = ca_c σ (64 + p)
  · rw [if_pos z, nI_0]
    refine (cr_s_zero fun i hi => if_pos ?_).symm
    rw [← cr_R4 h hp hi, ← cr_Rv h hv hl hp hi]
    unfold cr_U
    rw [z]
  · rw [if_neg z]
    refine (cr_it_n (g := fun i => if τ 0 (ca_r p i + 16 * ca_k p i) = τ 2 (v * 256 + (ca_r p i + 16 * ca_k p i)) then 0 else 1) 16 0 0 (fun j y _ hj => ?_)).trans ?_
    · unfold ca_da1
      rw [cr_rd_rk σ v hp (by omega), cr_rd4_rk σ hp (by omega), cr_R4 h hp (by omega), cr_Rv h hv hl hp (by omega)]
      by_cases q : τ 2 (v * 256 + (ca_r p j + 16 * ca_k p j)) = τ 0 (ca_r p j + 16 * ca_k p j)
      · rw [if_pos q, if_pos q.symm, Int32.add_zero]
      · rw [if_neg q, if_neg (fun z => q z.symm), nI_1]
    · rw [nI_0, Int32.zero_add]
      exact cr_s_cong fun i _ => by rw [Nat.zero_add]
theorem cr_df {σ τ : ca_S} (h : cr_R σ τ) {v : Nat} (hv : v < 4) (hl : ¬ σ 0 v = 0) : nI (ca_df σ v) = nI (cb_df τ v) := by
  have e1 : nI (ca_df σ v) = nI 0 + cr_s (fun p => nI (ca_da σ v (0 + p))) 16 := cr_it_n (g := fun p => nI (ca_da σ v p)) 16 0 0 (fun j y _ _ => (nI_add y (ca_da σ v j)).symm)
  have e2 : nI (cb_df τ v) = nI 0 + cr_s (fun c => if τ 0 (0 + c) = τ 2 (v * 256 + (0 + c)) then 0 else 1) 256 := cr_it_n (g := fun c => if τ 0 c = τ 2 (v * 256 + c) then 0 else 1) 256 0 0 (fun j y _ _ => by
    unfold cb_df1
    by_cases q : τ 0 j = τ 2 (v * 256 + j)
    · rw [if_pos q, if_pos q, Int32.add_zero]
    · rw [if_neg q, if_neg q, nI_1])
  rw [e1, e2, cr_s_cells]
  refine congrArg (nI 0 + ·) (cr_s_cong fun p hp => ?_)
  rw [Nat.zero_add, cr_da h hv hl hp]
  exact cr_s_cong fun i hi => by rw [Nat.zero_add]
theorem cr_rs {σ τ : ca_S} (h : cr_R σ τ) (v : Int32) : ca_dfR v σ = cb_dfR v τ ∧ cr_R (ca_rsS v σ) (cb_rsS v τ) := by
  unfold ca_dfR cb_dfR ca_rsS cb_rsS
  by_cases q : ca_nov σ v
  · have q' : ¬ cb_ver τ v := fun z => (cr_ver h v).mp z q
    rw [if_pos q, if_neg q', if_pos q, if_neg q']
    exact ⟨rfl, h⟩
  · have q' := (cr_ver h v).mpr q
    obtain ⟨hv, hl⟩ := cr_novN q
    rw [if_neg q, if_pos q', if_neg q, if_pos q']
    exact ⟨cr_df h hv hl, cr_rsNN h hv hl⟩
/-! drop -/
theorem cr_dpI {σ : ca_S} (h : cr_I σ) {v : Nat} (hv : v < 4) (hl : ¬ σ 0 v = 0) : (∀ a, a ≠ 2 → ca_dpN v σ a = ca_up σ 0 v 0 a) ∧ ∀ j, j < 80 → ca_dpN v σ 2 j = nI (fb_ct (fun p => decide ((¬ σ 0 (p / 16) = 0 ∧ ca_c σ p = j) ∧ ¬ (v * 16 ≤ p ∧ p < v * 16 + 16))) 80) := by
  refine ca_it_ind (f := ca_dp1 v) (P := fun k (y : ca_S) => (∀ a, a ≠ 2 → y a = ca_up σ 0 v 0 a) ∧ ∀ j, j < 80 → y 2 j = nI (fb_ct (fun p => decide ((¬ σ 0 (p / 16) = 0 ∧ ca_c σ p = j) ∧ ¬ (v * 16 ≤ p ∧ p < v * 16 + k))) 80)) 16 0 (ca_up σ 0 v 0) ?_ ?_
  · refine ⟨fun _ _ => rfl, fun j hj => ?_⟩
    rw [ca_upN (by omega), h.2.1 j hj]
    refine congrArg nI (fb_ct_cong fun p hp => ?_)
    exact decide_eq_decide.mpr ⟨fun z => ⟨z, by omega⟩, fun z => z.1⟩
  · intro k y _ hk hy
    obtain ⟨y1, y2⟩ := hy
    have ec : ca_c y (v * 16 + k) = ca_c σ (v * 16 + k) := cr_c_eq (by rw [y1 1 (by omega), ca_upN (by omega)])
    unfold ca_dp1 ca_dec
    rw [ec]
    refine ⟨fun a ha => ?_, fun j hj => ?_⟩
    · rw [ca_upN ha]
      exact y1 a ha
    · have hs := cr_ct1 (P := fun p => decide ((¬ σ 0 (p / 16) = 0 ∧ ca_c σ p = j) ∧ ¬ (v * 16 ≤ p ∧ p < v * 16 + k))) (Q := fun p => decide ((¬ σ 0 (p / 16) = 0 ∧ ca_c σ p = j) ∧ ¬ (v * 16 ≤ p ∧ p < v * 16 + (k + 1)))) (q := v * 16 + k) (N := 80) (x := if j = ca_c σ (v * 16 + k) then 1 else 0) (y := 0) (by omega)
        (fun p hp hpq => decide_eq_decide.mpr ⟨fun z => ⟨z.1, by omega⟩, fun z => ⟨z.1, by omega⟩⟩)
        (cr_ifc ⟨fun z => ((of_decide_eq_true z).1.2).symm, fun z => decide_eq_true ⟨⟨by rw [show (v * 16 + k) / 16 = v by omega]; exact hl, z.symm⟩, by omega⟩⟩)
        (if_neg (fun z => (of_decide_eq_true z).2 (by omega)))
      rw [cr_up_at]
      by_cases z : j = ca_c σ (v * 16 + k)
      · rw [if_pos z] at hs
        rw [if_pos ⟨rfl, z⟩, ← z, y2 j hj, ← hs.trans (Nat.add_zero _)]
        exact nI_pred _
      · rw [if_neg z] at hs
        rw [if_neg (fun q => z q.2), y2 j hj]
        exact congrArg nI (by omega)
theorem cr_dpNN {σ τ : ca_S} (h : cr_R σ τ) {v : Nat} (hv : v < 4) (hl : ¬ σ 0 v = 0) : cr_R (ca_dpN v σ) (ca_up τ 3 v 0) := by
  obtain ⟨x1, x2⟩ := cr_dpI h.1 hv hl
  generalize ca_dpN v σ = u at *
  have x3 : ∀ a, 3 ≤ a → u a = σ a := fun a ha => by rw [x1 a (by omega), ca_upN (by omega)]
  have e1 : u 1 = σ 1 := by rw [x1 1 (by omega), ca_upN (by omega)]
  have xc : ∀ p, ca_c u p = ca_c σ p := fun p => cr_c_eq (by rw [e1])
  have x0 : ∀ n, u 0 n = if n = v then 0 else σ 0 n := fun n => by
    rw [x1 0 (by omega), cr_up_at]
    exact cr_ifc ⟨fun z => z.2, fun z => ⟨rfl, z⟩⟩
  refine ⟨⟨fun p hp => ?_, fun j hj => ?_, ?_, fun k hk => cr_K_3 x3 (h.1.2.2.2 k hk)⟩, fun r c hr hc => ?_, fun w hw => ?_, fun w hw hlw r c hr hc => ?_⟩
  · rw [e1]
    exact h.1.1 p hp
  · rw [x2 j hj]
    refine congrArg nI (fb_ct_cong fun p hp => decide_eq_decide.mpr ?_)
    rw [x0, xc]
    by_cases z : p / 16 = v
    · rw [if_pos z]
      exact ⟨fun q => absurd (by omega) q.2, fun q => absurd rfl q.1⟩
    · rw [if_neg z]
      exact ⟨fun q => q.1, fun q => ⟨q, by omega⟩⟩
  · rw [x0, if_neg (by omega)]
    exact h.1.2.2.1
  · rw [ca_upN (by omega), ← h.2.1 r c hr hc]
    exact cr_U_3 x3 (xc _) _
  · rw [x0, cr_up_at]
    by_cases z : w = v
    · rw [if_pos z, if_pos ⟨rfl, z⟩]
    · rw [if_neg z, if_neg (fun q => z q.2)]
      exact h.2.2.1 w hw
  · rw [x0] at hlw
    by_cases z : w = v
    · rw [if_pos z] at hlw
      exact absurd rfl hlw
    · rw [if_neg z] at hlw
      rw [ca_upN (by omega), ← h.2.2.2 w hw hlw r c hr hc]
      exact cr_U_3 x3 (xc _) _
theorem cr_dp {σ τ : ca_S} (h : cr_R σ τ) (v : Int32) : ca_dpR v σ = cb_dpR v τ ∧ cr_R (ca_dpS v σ) (cb_dpS v τ) := by
  unfold ca_dpR cb_dpR ca_dpS cb_dpS
  by_cases q : ca_nov σ v
  · have q' : ¬ cb_ver τ v := fun z => (cr_ver h v).mp z q
    rw [if_pos q, if_neg q', if_pos q, if_neg q']
    exact ⟨rfl, h⟩
  · have q' := (cr_ver h v).mpr q
    obtain ⟨hv, hl⟩ := cr_novN q
    rw [if_neg q, if_pos q', if_neg q, if_pos q']
    exact ⟨rfl, cr_dpNN h hv hl⟩
/-! get, getOf -/
theorem cr_gt {σ τ : ca_S} (h : cr_R σ τ) (f : Int32) : ca_gtR f σ = cb_gtR f τ := by
  unfold ca_gtR cb_gtR
  by_cases q : ca_bad f
  · rw [if_pos q, if_neg (fun z => cr_cell.mp z q)]
  · have := cr_cl q
    rw [if_neg q, if_pos (cr_cell.mpr q), h.2.1 _ _ (by omega) (by omega)]
    exact congrArg (τ 0) (by omega)
theorem cr_go {σ τ : ca_S} (h : cr_R σ τ) (v f : Int32) : ca_goR v f σ = cb_goR v f τ := by
  unfold ca_goR cb_goR
  by_cases q : ca_bad f
  · rw [if_pos q, if_neg (fun z => cr_cell.mp z q)]
  · have := cr_cl q
    rw [if_neg q, if_pos (cr_cell.mpr q)]
    by_cases q2 : ca_nov σ v
    · rw [if_pos q2, if_neg (fun z => (cr_ver h v).mp z q2)]
    · obtain ⟨hv, hl⟩ := cr_novN q2
      rw [if_neg q2, if_pos ((cr_ver h v).mpr q2), h.2.2.2 _ hv hl _ _ (by omega) (by omega)]
      exact congrArg (τ 2) (by omega)
end
section
/-! QUESTIONS: sum, greatest, count -/
theorem cr_ins_N {f t r0 r1 c0 c1 p i : Nat} (hp : p < 16) (hi : i < 16) (e1 : ca_mn (f % 16) (t % 16) = r0) (e2 : ca_mx (f % 16) (t % 16) = r1) (e3 : ca_mn (f / 16) (t / 16) = c0) (e4 : ca_mx (f / 16) (t / 16) = c1) : cb_ins (ca_r p i + 16 * ca_k p i) f t ↔ cr_in r0 r1 c0 c1 p i := by
  have h1 := ca_r_lt hp hi
  have h2 := ca_k_lt (pl := p) (i := i)
  rw [cr_insB, e1, e2, e3, e4, show (ca_r p i + 16 * ca_k p i) % 16 = ca_r p i by omega, show (ca_r p i + 16 * ca_k p i) / 16 = ca_k p i by omega]
  unfold cr_in
  omega
theorem cr_sm_s (σ : ca_S) (k : Nat) : ca_sm σ k = cr_s (fun i => σ 3 (k * 16 + i)) 16 := by
  refine (cr_it_s (g := fun i => σ 3 (k * 16 + i)) 16 0 0 (fun j y _ _ => rfl)).trans ?_
  rw [Int32.zero_add]
  exact cr_s_cong fun i _ => by rw [Nat.zero_add]
/-- the sum of a whole chunk -/
theorem cr_whole (σ : ca_S) (k : Nat) : ca_sm σ k * σ 4 k + 16 * σ 5 k = cr_s (fun i => ca_val σ k i) 16 := by
  have e : cr_s (fun i => ca_val σ k i) 16 = cr_s (fun i => σ 3 (k * 16 + i) * σ 4 k) 16 + cr_s (fun _ => σ 5 k) 16 := cr_s_add (fun i => σ 3 (k * 16 + i) * σ 4 k) (fun _ => σ 5 k) 16
  rw [e, cr_s_mul, cr_s_const, cr_sm_s]
  rfl
theorem cr_wsS {y : ca_S} {c : Nat} (hc : c < 80) (hK : ∀ j, j < 80 → cr_K y j) : (∀ a, a ≠ 6 → a ≠ 7 → ca_wsS c y a = y a) ∧ (∀ j, j < 80 → cr_K (ca_wsS c y) j) ∧ ca_wsS c y 7 c = ca_sm y c := by
  unfold ca_wsS
  by_cases q : y 6 c = 0
  · rw [if_pos q]
    have e : ∀ a, a ≠ 6 → a ≠ 7 → ca_up (ca_up y 7 c (ca_sm y c)) 6 c 1 a = y a := fun a h6 h7 => by rw [ca_upN h6, ca_upN h7]
    have e7 : ca_up (ca_up y 7 c (ca_sm y c)) 6 c 1 7 c = ca_sm y c := by
      rw [ca_upN (by omega)]
      exact ca_upS
    refine ⟨e, fun j hj => ?_, e7⟩
    have h := hK j hj
    unfold cr_K at h ⊢
    have em : ca_sm (ca_up (ca_up y 7 c (ca_sm y c)) 6 c 1) j = ca_sm y j := cr_sm_cong (fun i _ => by rw [e 3 (by omega) (by omega)])
    have eg : ca_gr (ca_up (ca_up y 7 c (ca_sm y c)) 6 c 1) j = ca_gr y j := cr_gr_cong (fun i _ => by unfold ca_val; rw [e 3 (by omega) (by omega), e 4 (by omega) (by omega), e 5 (by omega) (by omega)])
    rw [e 8 (by omega) (by omega), e 9 (by omega) (by omega), em, eg]
    refine ⟨fun z => ?_, h.2⟩
    by_cases w : j = c
    · rw [w]
      exact e7
    · rw [ca_upD w, ca_upN (by omega)] at z
      rw [ca_upN (by omega), ca_upD w]
      exact h.1 z
  · rw [if_neg q]
    exact ⟨fun _ _ _ => rfl, hK, (hK c hc).1 q⟩
theorem cr_wgS {y : ca_S} {c : Nat} (hc : c < 80) (hK : ∀ j, j < 80 → cr_K y j) : (∀ a, a ≠ 8 → a ≠ 9 → ca_wgS c y a = y a) ∧ (∀ j, j < 80 → cr_K (ca_wgS c y) j) ∧ ca_wgS c y 9 c = ca_gr y c := by
  unfold ca_wgS
  by_cases q : y 8 c = 0
  · rw [if_pos q]
    have e : ∀ a, a ≠ 8 → a ≠ 9 → ca_up (ca_up y 9 c (ca_gr y c)) 8 c 1 a = y a := fun a h6 h7 => by rw [ca_upN h6, ca_upN h7]
    have e7 : ca_up (ca_up y 9 c (ca_gr y c)) 8 c 1 9 c = ca_gr y c := by
      rw [ca_upN (by omega)]
      exact ca_upS
    refine ⟨e, fun j hj => ?_, e7⟩
    have h := hK j hj
    unfold cr_K at h ⊢
    have em : ca_sm (ca_up (ca_up y 9 c (ca_gr y c)) 8 c 1) j = ca_sm y j := cr_sm_cong (fun i _ => by rw [e 3 (by omega) (by omega)])
    have eg : ca_gr (ca_up (ca_up y 9 c (ca_gr y c)) 8 c 1) j = ca_gr y j := cr_gr_cong (fun i _ => by unfold ca_val; rw [e 3 (by omega) (by omega), e 4 (by omega) (by omega), e 5 (by omega) (by omega)])
    rw [e 6 (by omega) (by omega), e 7 (by omega) (by omega), em, eg]
    refine ⟨h.1, fun z => ?_⟩
    by_cases w : j = c
    · rw [w]
      exact e7
    · rw [ca_upD w, ca_upN (by omega)] at z
      rw [ca_upN (by omega), ca_upD w]
      exact h.2 z
  · rw [if_neg q]
    exact ⟨fun _ _ _ => rfl, hK, (hK c hc).2 q⟩
theorem cr_ps {s y : ca_S} {r0 r1 c0 c1 : Nat} (hg : ca_rg y r0 r1 c0 c1) (h16 : r0 < 16 ∧ r1 < 16 ∧ c0 < 16 ∧ c1 < 16) (e : ∀ a, a < 6 → y a = s a) {k : Nat} (hk : k < 16) : ca_ps y k = cr_s (fun i => if cr_in r0 r1 c0 c1 k i then cr_U s (64 + k) i else 0) 16 := by
  refine (cr_it_s (g := fun i => if cr_in r0 r1 c0 c1 k i then cr_U s (64 + k) i else 0) 16 0 0 (fun j z _ hj => ?_)).trans ?_
  · unfold ca_ps1
    have hI := cr_insI hg h16 hk (i := j) (by omega)
    by_cases q : cr_in r0 r1 c0 c1 k j
    · rw [if_pos (hI.mpr q), if_pos q, cr_rd4_rk y hk (by omega), cr_U_look e]
    · rw [if_neg (fun w => q (hI.mp w)), if_neg q, Int32.add_zero]
  · rw [Int32.zero_add]
    exact cr_s_cong fun i _ => by rw [Nat.zero_add]
theorem cr_suI {s : ca_S} {r0 r1 c0 c1 : Nat} (h : cr_I s) (hg : ca_rg s r0 r1 c0 c1) (h16 : r0 < 16 ∧ r1 < 16 ∧ c0 < 16 ∧ c1 < 16) : (∀ a, a ≠ 6 → a ≠ 7 → (ca_it ca_su1 0 16 (s, 0)).1 a = s a) ∧ (∀ j, j < 80 → cr_K (ca_it ca_su1 0 16 (s, 0)).1 j) ∧ (ca_it ca_su1 0 16 (s, 0)).2 = cr_s (fun p => cr_s (fun i => if cr_in r0 r1 c0 c1 p i then cr_U s (64 + p) i else 0) 16) 16 := by
  refine ca_it_ind (f := ca_su1) (P := fun k z => (∀ a, a ≠ 6 → a ≠ 7 → z.1 a = s a) ∧ (∀ j, j < 80 → cr_K z.1 j) ∧ z.2 = cr_s (fun p => cr_s (fun i => if cr_in r0 r1 c0 c1 p i then cr_U s (64 + p) i else 0) 16) k) 16 0 (s, 0) ?_ ?_
  · exact ⟨fun _ _ _ => rfl, h.2.2.2, rfl⟩
  · intro k z _ hk hz
    obtain ⟨z1, z2, z3⟩ := hz
    have hk16 : k < 16 := by omega
    have hg' : ca_rg z.1 r0 r1 c0 c1 := ca_rg_of hg (fun k h1 _ => z1 k (by omega) (by omega))
    have e6 : ∀ a, a < 6 → z.1 a = s a := fun a ha => z1 a (by omega) (by omega)
    have hcov : ca_cov z.1 k ↔ r0 ≤ k / 4 * 4 ∧ k / 4 * 4 + 3 ≤ r1 ∧ c0 ≤ k % 4 * 4 ∧ k % 4 * 4 + 3 ≤ c1 := cr_inR hg' h16 (by omega)
    have htou : ca_tou z.1 k ↔ r0 ≤ k / 4 * 4 + 3 ∧ k / 4 * 4 ≤ r1 ∧ c0 ≤ k % 4 * 4 + 3 ∧ k % 4 * 4 ≤ c1 := cr_inR hg' h16 (by omega)
    have ec : ca_c z.1 (64 + k) = ca_c s (64 + k) := cr_c_eq (by rw [e6 1 (by omega)])
    by_cases q : ca_cov z.1 k
    · have e : ca_su1 k z = (ca_wsS (ca_c z.1 (64 + k)) z.1, z.2 + ca_wsV (ca_c z.1 (64 + k)) (ca_wsS (ca_c z.1 (64 + k)) z.1)) := if_pos q
      rw [e, ec]
      obtain ⟨w1, w2, w3⟩ := cr_wsS (y := z.1) (ca_ok_at h.1 (p := 64 + k) (by omega)).1 z2
      refine ⟨fun a h6 h7 => (w1 a h6 h7).trans (z1 a h6 h7), w2, ?_⟩
      show z.2 + ca_wsV (ca_c s (64 + k)) (ca_wsS (ca_c s (64 + k)) z.1) = _
      rw [z3, cr_s_succ]
      refine congrArg (cr_s _ k + ·) ?_
      unfold ca_wsV
      rw [w3, w1 4 (by omega) (by omega), w1 5 (by omega) (by omega), cr_whole]
      refine cr_s_cong fun i hi => ?_
      rw [if_pos (cr_cov hk16 hi (hcov.mp q))]
      exact cr_val_look e6 _ _
    · by_cases q2 : ca_tou z.1 k
      · have e : ca_su1 k z = (z.1, z.2 + ca_ps z.1 k) := (if_neg q).trans (if_pos q2)
        rw [e]
        refine ⟨z1, z2, ?_⟩
        show z.2 + ca_ps z.1 k = _
        rw [z3, cr_s_succ, cr_ps hg' h16 e6 hk16]
      · have e : ca_su1 k z = z := (if_neg q).trans (if_neg q2)
        rw [e]
        refine ⟨z1, z2, ?_⟩
        rw [z3, cr_s_succ, cr_s_zero (n := 16) (fun i hi => if_neg (fun w => q2 (htou.mpr (cr_tou hk16 hi w)))), Int32.add_zero]
theorem cr_suNN {σ τ : ca_S} (h : cr_R σ τ) {f t : Nat} (hf : f < 256) (ht : t < 256) : (ca_suN f t σ).2 = ca_it (cb_su1 τ f t) 0 256 0 ∧ cr_R (ca_suN f t σ).1 τ := by
  have h16 := cr_16 hf ht
  have hg := ca_rg_reg f t σ
  have hR := cr_R_near h (cr_reg_near f t σ)
  obtain ⟨x1, x2, x3⟩ := cr_suI hR.1 hg h16
  unfold ca_suN
  generalize ca_it ca_su1 0 16 (ca_reg f t σ, 0) = z at *
  refine ⟨?_, cr_R_look hR (fun a ha => x1 a (by omega) (by omega)) x2⟩
  refine x3.trans ?_
  have e : ca_it (cb_su1 τ f t) 0 256 0 = 0 + cr_s (fun c => if cb_ins (0 + c) f t then τ 0 (0 + c) else 0) 256 := cr_it_s (g := fun c => if cb_ins c f t then τ 0 c else 0) 256 0 0 (fun j y _ _ => by
    unfold cb_su1
    by_cases q : cb_ins j f t
    · rw [if_pos q, if_pos q]
    · rw [if_neg q, if_neg q, Int32.add_zero])
  rw [e, Int32.zero_add, cr_s_cells]
  refine cr_s_cong fun p hp => cr_s_cong fun i hi => ?_
  rw [cr_R4 hR hp hi, Nat.zero_add]
  exact cr_ifc (cr_ins_N hp hi rfl rfl rfl rfl).symm
theorem cr_su {σ τ : ca_S} (h : cr_R σ τ) (f t : Int32) : ca_suR f t σ = cb_suR f t τ ∧ cr_R (ca_suS f t σ) τ := by
  unfold ca_suR cb_suR ca_suS
  by_cases q : ca_bad f ∨ ca_bad t
  · have q' : ¬ (cb_cell f ∧ cb_cell t) := by
      rw [cr_cell, cr_cell]
      exact fun z => q.elim z.1 z.2
    rw [if_pos q, if_pos q, if_neg q']
    exact ⟨rfl, h⟩
  · have q1 : ¬ ca_bad f := fun z => q (Or.inl z)
    have q2 : ¬ ca_bad t := fun z => q (Or.inr z)
    have q' : cb_cell f ∧ cb_cell t := ⟨cr_cell.mpr q1, cr_cell.mpr q2⟩
    rw [if_neg q, if_neg q, if_pos q']
    exact cr_suNN h (cr_cl q1) (cr_cl q2)
/-! greatest -/
/-- b is the greatest of b0 and of what has S -/
def cr_B (S : Int32 → Prop) (b0 b : Int32) : Prop := b0 ≤ b ∧ (∀ x, S x → x ≤ b) ∧ (b = b0 ∨ S b)
theorem cr_B_cong {S T : Int32 → Prop} {b0 b : Int32} (h : cr_B S b0 b) (e : ∀ x, S x ↔ T x) : cr_B T b0 b :=
  ⟨h.1, fun x hx => h.2.1 x ((e x).mpr hx), h.2.2.elim Or.inl (fun z => Or.inr ((e b).mp z))⟩
theorem cr_B_0 (b : Int32) : cr_B (fun _ => False) b b := ⟨Int32.le_refl _, fun _ z => z.elim, Or.inl rfl⟩
theorem cr_B_1 (x b : Int32) : cr_B (fun y => y = x) b (if x ≤ b then b else x) := by
  by_cases q : x ≤ b
  · rw [if_pos q]
    exact ⟨Int32.le_refl _, fun y hy => by rw [hy]; exact q, Or.inl rfl⟩
  · rw [if_neg q]
    exact ⟨(Int32.le_total b x).elim id (fun z => absurd z q), fun y hy => by rw [hy]; exact Int32.le_refl _, Or.inr rfl⟩
theorem cr_B_trans {S T : Int32 → Prop} {b0 b b' : Int32} (h1 : cr_B S b0 b) (h2 : cr_B T b b') : cr_B (fun x => S x ∨ T x) b0 b' := by
  refine ⟨Int32.le_trans h1.1 h2.1, fun x hx => hx.elim (fun z => Int32.le_trans (h1.2.1 x z) h2.1) (h2.2.1 x), ?_⟩
  rcases h2.2.2 with z | z
  · rw [z]
    exact h1.2.2.elim Or.inl (fun z => Or.inr (Or.inl z))
  · exact Or.inr (Or.inr z)
theorem cr_B_it {f : Nat → Int32 → Int32} {T : Nat → Int32 → Prop} (n i : Nat) (b : Int32) (h : ∀ j y, i ≤ j → j < i + n → cr_B (T j) y (f j y)) : cr_B (fun x => ∃ j, i ≤ j ∧ j < i + n ∧ T j x) b (ca_it f i n b) := by
  refine ca_it_ind (f := f) (P := fun m y => cr_B (fun x => ∃ j, i ≤ j ∧ j < m ∧ T j x) b y) n i b ?_ ?_
  · exact cr_B_cong (cr_B_0 b) (fun x => ⟨fun z => z.elim, fun ⟨j, h1, h2, _⟩ => by omega⟩)
  · intro m y h1 h2 hy
    refine cr_B_cong (cr_B_trans hy (h m y h1 h2)) (fun x => ⟨fun z => ?_, fun ⟨j, j1, j2, j3⟩ => ?_⟩)
    · rcases z with ⟨j, j1, j2, j3⟩ | z
      · exact ⟨j, j1, by omega, j3⟩
      · exact ⟨m, h1, by omega, z⟩
    · rcases Nat.lt_or_ge j m with q | q
      · exact Or.inl ⟨j, j1, q, j3⟩
      · have e : j = m := by omega
        rw [e] at j3
        exact Or.inr j3
theorem cr_B_one {S T : Int32 → Prop} {a0 a b0 b : Int32} (h1 : cr_B S a0 a) (h2 : cr_B T b0 b) (e : ∀ x, S x ↔ T x) (ha : S a0) (hb : T b0) : a = b := by
  have ha' : S a := h1.2.2.elim (fun z => by rw [z]; exact ha) id
  have hb' : T b := h2.2.2.elim (fun z => by rw [z]; exact hb) id
  exact Int32.le_antisymm (h2.2.1 a ((e a).mp ha')) (h1.2.1 b ((e b).mpr hb'))
theorem cr_gr_B (σ : ca_S) (k : Nat) : (∀ i, i < 16 → ca_val σ k i ≤ ca_gr σ k) ∧ ∃ i, i < 16 ∧ ca_gr σ k = ca_val σ k i := by
  have h : cr_B (fun x => ∃ j, 1 ≤ j ∧ j < 1 + 15 ∧ x = ca_val σ k j) (ca_val σ k 0) (ca_gr σ k) := cr_B_it (T := fun j x => x = ca_val σ k j) 15 1 (ca_val σ k 0) (fun j y _ _ => cr_B_1 _ _)
  refine ⟨fun i hi => ?_, ?_⟩
  · by_cases q : i = 0
    · rw [q]
      exact h.1
    · exact h.2.1 _ ⟨i, by omega, by omega, rfl⟩
  · rcases h.2.2 with z | ⟨j, _, j2, j3⟩
    · exact ⟨0, by omega, z⟩
    · exact ⟨j, by omega, j3⟩
theorem cr_geI {s : ca_S} {r0 r1 c0 c1 : Nat} (h : cr_I s) (hg : ca_rg s r0 r1 c0 c1) (h16 : r0 < 16 ∧ r1 < 16 ∧ c0 < 16 ∧ c1 < 16) (b0 : Int32) : (∀ a, a ≠ 8 → a ≠ 9 → (ca_it ca_ge1 0 16 (s, b0)).1 a = s a) ∧ (∀ j, j < 80 → cr_K (ca_it ca_ge1 0 16 (s, b0)).1 j) ∧ cr_B (fun x => ∃ p, p < 16 ∧ ∃ i, i < 16 ∧ cr_in r0 r1 c0 c1 p i ∧ x = cr_U s (64 + p) i) b0 (ca_it ca_ge1 0 16 (s, b0)).2 := by
  refine ca_it_ind (f := ca_ge1) (P := fun k z => (∀ a, a ≠ 8 → a ≠ 9 → z.1 a = s a) ∧ (∀ j, j < 80 → cr_K z.1 j) ∧ cr_B (fun x => ∃ p, p < k ∧ ∃ i, i < 16 ∧ cr_in r0 r1 c0 c1 p i ∧ x = cr_U s (64 + p) i) b0 z.2) 16 0 (s, b0) ?_ ?_
  · exact ⟨fun _ _ _ => rfl, h.2.2.2, cr_B_cong (cr_B_0 b0) (fun x => ⟨fun z => z.elim, fun ⟨p, hp, _⟩ => by omega⟩)⟩
  · intro k z _ hk hz
    obtain ⟨z1, z2, z3⟩ := hz
    have hk16 : k < 16 := by omega
    have hg' : ca_rg z.1 r0 r1 c0 c1 := ca_rg_of hg (fun k h1 _ => z1 k (by omega) (by omega))
    have e6 : ∀ a, a < 6 → z.1 a = s a := fun a ha => z1 a (by omega) (by omega)
    have hcov : ca_cov z.1 k ↔ r0 ≤ k / 4 * 4 ∧ k / 4 * 4 + 3 ≤ r1 ∧ c0 ≤ k % 4 * 4 ∧ k % 4 * 4 + 3 ≤ c1 := cr_inR hg' h16 (by omega)
    have htou : ca_tou z.1 k ↔ r0 ≤ k / 4 * 4 + 3 ∧ k / 4 * 4 ≤ r1 ∧ c0 ≤ k % 4 * 4 + 3 ∧ k % 4 * 4 ≤ c1 := cr_inR hg' h16 (by omega)
    have ec : ca_c z.1 (64 + k) = ca_c s (64 + k) := cr_c_eq (by rw [e6 1 (by omega)])
    have step : ∀ b', cr_B (fun x => ∃ i, i < 16 ∧ cr_in r0 r1 c0 c1 k i ∧ x = cr_U s (64 + k) i) z.2 b' → cr_B (fun x => ∃ p, p < k + 1 ∧ ∃ i, i < 16 ∧ cr_in r0 r1 c0 c1 p i ∧ x = cr_U s (64 + p) i) b0 b' := by
      intro b' hb
      refine cr_B_cong (cr_B_trans z3 hb) (fun x => ⟨fun w => ?_, fun ⟨p, hp, w⟩ => ?_⟩)
      · rcases w with ⟨p, hp, w⟩ | w
        · exact ⟨p, by omega, w⟩
        · exact ⟨k, by omega, w⟩
      · rcases Nat.lt_or_ge p k with q | q
        · exact Or.inl ⟨p, q, w⟩
        · have e : p = k := by omega
          rw [e] at w
          exact Or.inr w
    by_cases q : ca_cov z.1 k
    · have e : ca_ge1 k z = (ca_wgS (ca_c z.1 (64 + k)) z.1, if ca_wgS (ca_c z.1 (64 + k)) z.1 9 (ca_c z.1 (64 + k)) ≤ z.2 then z.2 else ca_wgS (ca_c z.1 (64 + k)) z.1 9 (ca_c z.1 (64 + k))) := if_pos q
      rw [e, ec]
      obtain ⟨w1, w2, w3⟩ := cr_wgS (y := z.1) (ca_ok_at h.1 (p := 64 + k) (by omega)).1 z2
      refine ⟨fun a h6 h7 => (w1 a h6 h7).trans (z1 a h6 h7), w2, step _ ?_⟩
      rw [w3]
      obtain ⟨g1, g2⟩ := cr_gr_B z.1 (ca_c s (64 + k))
      have hb := cr_B_1 (ca_gr z.1 (ca_c s (64 + k))) z.2
      refine ⟨hb.1, fun x ⟨i, hi, _, hx⟩ => ?_, hb.2.2.elim Or.inl (fun w => Or.inr ?_)⟩
      · refine Int32.le_trans ?_ (hb.2.1 _ rfl)
        rw [hx]
        have := g1 i hi
        rw [cr_val_look e6] at this
        exact this
      · obtain ⟨i, hi, hgi⟩ := g2
        refine ⟨i, hi, cr_cov hk16 hi (hcov.mp q), w.trans (hgi.trans ?_)⟩
        exact cr_val_look e6 _ _
    · by_cases q2 : ca_tou z.1 k
      · have e : ca_ge1 k z = (z.1, ca_pg z.1 k z.2) := (if_neg q).trans (if_pos q2)
        rw [e]
        refine ⟨z1, z2, step _ ?_⟩
        have hb : cr_B (fun x => ∃ i, 0 ≤ i ∧ i < 0 + 16 ∧ cr_in r0 r1 c0 c1 k i ∧ x = cr_U s (64 + k) i) z.2 (ca_pg z.1 k z.2) → cr_B (fun x => ∃ i, i < 16 ∧ cr_in r0 r1 c0 c1 k i ∧ x = cr_U s (64 + k) i) z.2 (ca_pg z.1 k z.2) := fun hb => cr_B_cong hb (fun x => ⟨fun ⟨i, _, i2, i3⟩ => ⟨i, by omega, i3⟩, fun ⟨i, i2, i3⟩ => ⟨i, by omega, by omega, i3⟩⟩)
        refine hb ?_
        unfold ca_pg
        refine cr_B_it (f := ca_pg1 z.1 k) (T := fun i x => cr_in r0 r1 c0 c1 k i ∧ x = cr_U s (64 + k) i) 16 0 z.2 (fun j y _ hj => ?_)
        have hI := cr_insI hg' h16 hk16 (i := j) (by omega)
        unfold ca_pg1
        by_cases q3 : cr_in r0 r1 c0 c1 k j
        · rw [if_pos (hI.mpr q3), cr_rd4_rk z.1 hk16 (by omega), cr_U_look e6]
          exact cr_B_cong (cr_B_1 _ _) (fun x => ⟨fun w => ⟨q3, w⟩, fun w => w.2⟩)
        · rw [if_neg (fun w => q3 (hI.mp w))]
          exact cr_B_cong (cr_B_0 _) (fun x => ⟨fun w => w.elim, fun w => absurd w.1 q3⟩)
      · have e : ca_ge1 k z = z := (if_neg q).trans (if_neg q2)
        rw [e]
        refine ⟨z1, z2, step _ (cr_B_cong (cr_B_0 _) (fun x => ⟨fun w => w.elim, fun ⟨i, hi, w, _⟩ => q2 (htou.mpr (cr_tou hk16 hi w))⟩))⟩
theorem cr_geNN {σ τ : ca_S} (h : cr_R σ τ) {f t : Nat} (hf : f < 256) (ht : t < 256) : (ca_geN f t σ).2 = ca_it (cb_ge1 τ f t) 0 256 (τ 0 f) ∧ cr_R (ca_geN f t σ).1 τ := by
  have h16 := cr_16 hf ht
  have hg := ca_rg_reg f t σ
  have hR := cr_R_near h (cr_reg_near f t σ)
  have hr := ca_mnx (f % 16) (t % 16)
  have hc := ca_mnx (f / 16) (t / 16)
  obtain ⟨x1, x2, x3⟩ := cr_geI hR.1 hg h16 (ca_rd (ca_reg f t σ) 4 (ca_mn (f % 16) (t % 16)) (ca_mn (f / 16) (t / 16)))
  unfold ca_geN
  generalize ca_it ca_ge1 0 16 (ca_reg f t σ, ca_rd (ca_reg f t σ) 4 (ca_mn (f % 16) (t % 16)) (ca_mn (f / 16) (t / 16))) = z at *
  refine ⟨?_, cr_R_look hR (fun a ha => x1 a (by omega) (by omega)) x2⟩
  have hm : cr_B (fun x => ∃ j, 0 ≤ j ∧ j < 0 + 256 ∧ cb_ins j f t ∧ x = τ 0 j) (τ 0 f) (ca_it (cb_ge1 τ f t) 0 256 (τ 0 f)) := cr_B_it (T := fun j x => cb_ins j f t ∧ x = τ 0 j) 256 0 (τ 0 f) (fun j y _ _ => by
    unfold cb_ge1
    by_cases q : cb_ins j f t
    · rw [if_pos q]
      exact cr_B_cong (cr_B_1 _ _) (fun x => ⟨fun w => ⟨q, w⟩, fun w => w.2⟩)
    · rw [if_neg q]
      exact cr_B_cong (cr_B_0 _) (fun x => ⟨fun w => w.elim, fun w => absurd w.1 q⟩))
  refine cr_B_one x3 hm (fun x => ⟨fun ⟨p, hp, i, hi, h1, h2⟩ => ?_, fun ⟨j, _, hj, h1, h2⟩ => ?_⟩) ?_ ?_
  · have h3 := ca_r_lt hp hi
    have h4 := ca_k_lt (pl := p) (i := i)
    exact ⟨ca_r p i + 16 * ca_k p i, by omega, by omega, (cr_ins_N hp hi rfl rfl rfl rfl).mpr h1, h2.trans (cr_R4 hR hp hi)⟩
  · have e1 : ca_r (ca_pl (j % 16) (j / 16)) (ca_wi (j % 16) (j / 16)) = j % 16 := cr_r_pw (by omega) (by omega)
    have e2 : ca_k (ca_pl (j % 16) (j / 16)) (ca_wi (j % 16) (j / 16)) = j / 16 := cr_k_pw (by omega) (by omega)
    have hp : ca_pl (j % 16) (j / 16) < 16 := ca_pl_lt (by omega) (by omega)
    have hi := ca_wi_lt (j % 16) (j / 16)
    have ej : ca_r (ca_pl (j % 16) (j / 16)) (ca_wi (j % 16) (j / 16)) + 16 * ca_k (ca_pl (j % 16) (j / 16)) (ca_wi (j % 16) (j / 16)) = j := by rw [e1, e2]; omega
    refine ⟨_, hp, _, hi, (cr_ins_N hp hi rfl rfl rfl rfl).mp (by rw [ej]; exact h1), ?_⟩
    rw [cr_R4 hR hp hi, ej]
    exact h2
  · refine ⟨_, ca_pl_lt h16.1 h16.2.2.1, _, ca_wi_lt _ _, ?_, rfl⟩
    unfold cr_in
    rw [cr_r_pw h16.1 h16.2.2.1, cr_k_pw h16.1 h16.2.2.1]
    omega
  · refine ⟨f, by omega, by omega, ?_, rfl⟩
    rw [cr_insB]
    have a1 := ca_mn_le (f % 16) (t % 16)
    have a2 := ca_mx_ge (f % 16) (t % 16)
    have a3 := ca_mn_le (f / 16) (t / 16)
    have a4 := ca_mx_ge (f / 16) (t / 16)
    omega
theorem cr_ge {σ τ : ca_S} (h : cr_R σ τ) (f t : Int32) : ca_geR f t σ = cb_geR f t τ ∧ cr_R (ca_geS f t σ) τ := by
  unfold ca_geR cb_geR ca_geS
  by_cases q : ca_bad f ∨ ca_bad t
  · have q' : ¬ (cb_cell f ∧ cb_cell t) := by
      rw [cr_cell, cr_cell]
      exact fun z => q.elim z.1 z.2
    rw [if_pos q, if_pos q, if_neg q']
    exact ⟨rfl, h⟩
  · have q1 : ¬ ca_bad f := fun z => q (Or.inl z)
    have q2 : ¬ ca_bad t := fun z => q (Or.inr z)
    have q' : cb_cell f ∧ cb_cell t := ⟨cr_cell.mpr q1, cr_cell.mpr q2⟩
    rw [if_neg q, if_neg q, if_pos q']
    exact cr_geNN h (cr_cl q1) (cr_cl q2)
/-! count -/
theorem cr_ctNN {σ τ : ca_S} (h : cr_R σ τ) (x : Int32) {f t : Nat} (hf : f < 256) (ht : t < 256) : nI (ca_ctN f t x σ) = nI (ca_it (cb_ct1 τ f t x) 0 256 0) := by
  have h16 := cr_16 hf ht
  have hr := ca_mnx (f % 16) (t % 16)
  have hc := ca_mnx (f / 16) (t / 16)
  have hR := cr_R_near h (cr_reg_near f t σ)
  have hB := fun n => cr_insB n f t
  have e2 : nI (ca_it (cb_ct1 τ f t x) 0 256 0) = nI 0 + cr_s (fun c => if cb_ins (0 + c) f t then (if τ 0 (0 + c) = x then 1 else 0) else 0) 256 := cr_it_n (g := fun c => if cb_ins c f t then (if τ 0 c = x then 1 else 0) else 0) 256 0 0 (fun j y _ _ => by
    unfold cb_ct1
    by_cases q : cb_ins j f t
    · rw [if_pos q, if_pos q]
      exact cr_nI_if y
    · rw [if_neg q, if_neg q, Int32.add_zero])
  rw [e2]
  unfold ca_ctN
  generalize ca_reg f t σ = s at *
  generalize ca_mn (f % 16) (t % 16) = r0 at *
  generalize ca_mx (f % 16) (t % 16) = r1 at *
  generalize ca_mn (f / 16) (t / 16) = c0 at *
  generalize ca_mx (f / 16) (t / 16) = c1 at *
  have e1 : nI (ca_it (ca_ctr s x c0 (c1 + 1 - c0)) r0 (r1 + 1 - r0) 0) = nI 0 + cr_s (fun k => cr_s (fun l => if ca_rd s 4 (r0 + k) (c0 + l) = x then 1 else 0) (c1 + 1 - c0)) (r1 + 1 - r0) :=
    cr_it_n (g := fun r => cr_s (fun l => if ca_rd s 4 r (c0 + l) = x then 1 else 0) (c1 + 1 - c0)) (r1 + 1 - r0) r0 0 (fun r y _ _ => cr_it_n (g := fun c => if ca_rd s 4 r c = x then 1 else 0) (c1 + 1 - c0) c0 y (fun c y _ _ => cr_nI_if y))
  rw [e1]
  refine congrArg (nI 0 + ·) ?_
  rw [cr_s_256]
  refine Eq.symm ((cr_s_swap (fun c r => if cb_ins (0 + (r + 16 * c)) f t then (if τ 0 (0 + (r + 16 * c)) = x then 1 else 0) else 0) 16 16).trans ?_)
  refine (cr_s_win (a := r0) (n := r1 + 1 - r0) (by omega) (fun r hr16 q => cr_s_zero fun c hc16 => if_neg ?_)).trans ?_
  · rw [hB]
    omega
  · refine cr_s_cong fun k hk => ?_
    refine (cr_s_win (a := c0) (n := c1 + 1 - c0) (by omega) (fun c hc16 q => if_neg ?_)).trans ?_
    · rw [hB]
      omega
    · refine cr_s_cong fun l hl => ?_
      rw [if_pos (by rw [hB]; omega), Nat.zero_add, hR.2.1 _ _ (by omega) (by omega)]
theorem cr_ct {σ τ : ca_S} (h : cr_R σ τ) (f t x : Int32) : ca_ctR f t x σ = cb_ctR f t x τ ∧ cr_R (ca_ctS f t σ) τ := by
  unfold ca_ctR cb_ctR ca_ctS
  by_cases q : ca_bad f ∨ ca_bad t
  · have q' : ¬ (cb_cell f ∧ cb_cell t) := by
      rw [cr_cell, cr_cell]
      exact fun z => q.elim z.1 z.2
    rw [if_pos q, if_pos q, if_neg q']
    exact ⟨rfl, h⟩
  · have q1 : ¬ ca_bad f := fun z => q (Or.inl z)
    have q2 : ¬ ca_bad t := fun z => q (Or.inr z)
    have q' : cb_cell f ∧ cb_cell t := ⟨cr_cell.mpr q1, cr_cell.mpr q2⟩
    rw [if_neg q, if_neg q, if_pos q']
    exact ⟨cr_ctNN h x (cr_cl q1) (cr_cl q2), cr_R_near h (cr_reg_near _ _ σ)⟩
end
section
/-! THE START -/
theorem cr_inI : (∀ n, ca_init 0 n = if n = 4 then 1 else 0) ∧ (∀ p, ca_init 1 p = if 64 ≤ p ∧ p < 64 + 16 then nI (p - 64) else 0) ∧ (∀ j, ca_init 2 j = if j < 16 then 1 else 0) ∧ ∀ a n, a = 3 ∨ 5 ≤ a → ca_init a n = 0 := by
  have key : (∀ n, ca_init 0 n = if n = 4 then 1 else 0) ∧ (∀ p, ca_init 1 p = if 64 ≤ p ∧ p < 64 + (0 + 16) then nI (p - 64) else 0) ∧ (∀ j, ca_init 2 j = if j < 0 + 16 then 1 else 0) ∧ ∀ a n, a = 3 ∨ 5 ≤ a → ca_init a n = 0 := by
    unfold ca_init
    refine ca_it_ind (f := ca_in1) (P := fun k (y : ca_S) => (∀ n, y 0 n = if n = 4 then 1 else 0) ∧ (∀ p, y 1 p = if 64 ≤ p ∧ p < 64 + k then nI (p - 64) else 0) ∧ (∀ j, y 2 j = if j < k then 1 else 0) ∧ ∀ a n, a = 3 ∨ 5 ≤ a → y a n = 0) 16 0 (ca_up ca_z 0 4 1) ?_ ?_
    · refine ⟨fun n => ?_, fun p => ?_, fun j => ?_, fun a n ha => ?_⟩
      · rw [cr_up_at]
        exact cr_ifc ⟨fun z => z.2, fun z => ⟨rfl, z⟩⟩
      · rw [ca_upN (by omega), if_neg (by omega)]
        rfl
      · rw [ca_upN (by omega), if_neg (by omega)]
        rfl
      · rw [ca_upN (by omega)]
        rfl
    · intro k y _ hk hy
      obtain ⟨y0, y1, y2, y3⟩ := hy
      unfold ca_in1
      refine ⟨fun n => ?_, fun p => ?_, fun j => ?_, fun a n ha => ?_⟩
      · rw [ca_upN (by omega), ca_upN (by omega), ca_upN (by omega)]
        exact y0 n
      · rw [ca_upN (by omega), ca_upN (by omega), cr_up_at]
        by_cases z : p = 64 + k
        · rw [if_pos ⟨rfl, z⟩, if_pos (by omega), show p - 64 = k by omega]
        · rw [if_neg (fun q => z q.2), y1]
          exact cr_ifc (by omega)
      · rw [ca_upN (by omega), cr_up_at, ca_upN (by omega), y2]
        by_cases z : j = k
        · rw [if_pos ⟨rfl, z⟩, if_pos (by omega)]
        · rw [if_neg (fun q => z q.2)]
          exact cr_ifc (by omega)
      · rw [ca_upN (by omega), ca_upN (by omega), ca_upN (by omega)]
        exact y3 a n ha
  exact key
theorem cr_init : cr_R ca_init ca_z := by
  obtain ⟨x0, x1, x2, x3⟩ := cr_inI
  generalize ca_init = u at *
  have ec : ∀ p, 64 ≤ p ∧ p < 64 + 16 → ca_c u p = p - 64 := fun p hp => cr_c_nI (by rw [x1, if_pos hp]) (by omega)
  have hl : ∀ p, p < 80 → (¬ u 0 (p / 16) = 0 ↔ 64 ≤ p ∧ p < 64 + 16) := by
    intro p hp
    rw [x0]
    by_cases z : p / 16 = 4
    · rw [if_pos z]
      exact ⟨fun _ => by omega, fun _ => by decide⟩
    · rw [if_neg z]
      exact ⟨fun q => absurd rfl q, fun q => by omega⟩
  refine ⟨⟨fun p hp => ?_, fun j hj => ?_, ?_, fun k hk => ⟨fun z => absurd (x3 6 k (by omega)) z, fun z => absurd (x3 8 k (by omega)) z⟩⟩, fun r c hr hc => ?_, fun v hv => ?_, fun v hv hv0 r c hr hc => ?_⟩
  · rw [x1]
    by_cases z : 64 ≤ p ∧ p < 64 + 16
    · rw [if_pos z]
      exact ⟨p - 64, by omega, rfl⟩
    · rw [if_neg z]
      exact ⟨0, by omega, rfl⟩
  · rw [x2]
    by_cases z : j < 16
    · rw [if_pos z]
      have hs : cr_n u j + 0 = fb_ct (fun _ => false) 80 + 1 := by
        refine cr_ct1 (P := fun _ => false) (Q := fun p => decide (¬ u 0 (p / 16) = 0 ∧ ca_c u p = j)) (q := 64 + j) (by omega) (fun p hp hpq => decide_eq_false (fun w => ?_)) rfl (if_pos (decide_eq_true ⟨(hl _ (by omega)).mpr (by omega), (ec _ (by omega)).trans (by omega)⟩))
        have w1 := (hl p hp).mp w.1
        have w2 := (ec p w1).symm.trans w.2
        omega
      have h0 : fb_ct (fun _ => false) 80 = 0 := fb_ct_zero.mpr (fun _ _ => rfl)
      rw [show cr_n u j = 1 by omega]
      rfl
    · rw [if_neg z]
      have h0 : cr_n u j = 0 := fb_ct_zero.mpr (fun p hp => decide_eq_false (fun w => by
        have w1 := (hl p hp).mp w.1
        have w2 := (ec p w1).symm.trans w.2
        omega))
      rw [h0]
      rfl
  · rw [x0, if_pos rfl]
    decide
  · unfold ca_rd ca_val
    rw [x3 3 _ (by omega), x3 5 _ (by omega), Int32.zero_mul, Int32.zero_add]
    rfl
  · rw [x0, if_neg (by omega)]
    exact ⟨fun _ => rfl, fun _ => rfl⟩
  · rw [x0, if_neg (by omega)] at hv0
    exact absurd rfl hv0
end
section
/-! THE CLAIM OUT OF ONE WALK OF THE LAW'S BODY. Your part is whole_start (and what it stands on); all else here is the same for every law, but numbers. -/
def R_law : String := "ChunkArrayLaw"
def lw_P (b : Addr) (xs : List Int32) (args : Array Value) (s : State) : Prop := args = #[.ref b] ∧ s.IntsAt b xs ∧ xs.length ≤ 256 ∧ (Jvm.Cond.and given_1 narrow_1).before args s = true
def lw_Q (_ : Array Value) (s : State) (o : Outcome) (t : State) : Prop := o = .returned (some (.int 1)) ∧ Framed s o t [] 600000 7290000
def lw_Z (below : List Frame) (a : Array Value) (s : State) : State → Prop := fun t => ∃ o, t.status = .running ∧ Ended t below o ∧ lw_Q a s o t
/-- the law's own end, with 1 on the stack, nothing written that was there before, its room as the claim has it -/
theorem lw_ret {p : Program} {l : Launch} {e : Env} {s : State} {m : MethodId} {below : List Frame} {meth : Method} {c : Code} {b : Nat} (hx : p.tables.exec = Jvm.exec) (hb : c.code = code) (hr : meth.sig.returnType = ret) (hlocks : meth.locks = false) {pc : Nat} {H : Heap} {ls : Array Slot} (hdg : decode code pc = .ok (.ireturn, 1)) : W p l e room_1 s m #[Value.ref b] below meth c H [] 600000 7290000 (lw_Z below #[Value.ref b] s) (F0 m pc ls [.int 1]) := by
  intro T hT X
  obtain ⟨fs, hret, hrun, hended, hW, hframe⟩ := X.leave (v := some (.int 1)) (hlocks := hlocks) (fun h => by rw [hr] at h; cases h)
  have hmeth' : T.vm.method? m = some meth := X.method'
  refine ⟨T.setFrames fs, ?_, .returned (some (.int 1)), hrun, hended, rfl, ⟨_, rfl⟩, hW, hframe⟩
  jvm_step X.here [X.here.top, hx, hb, hdg, hmeth', hr, ret, narrow_b1]
  (try refine ⟨rfl, ?_⟩); (try refine ⟨rfl, ?_⟩)
  first | (intro acts; rw [hret _ acts rfl rfl rfl]) | rw [hret _ _ rfl rfl rfl]
  exact Steps.refl _
/-- what holds at the law's entry: the machine, the code, the tables' words (any of lw_tbl by 'hts w (by decide +kernel)'), the script of L ints xs at the cell b, what the Statement gives of the start (any of its parts by flat_of_before) -/
def lw_At (p : Program) (s : State) (m : MethodId) (meth : Method) (c : Code) (b L : Nat) (xs : Nat → Int32) : Prop :=
  p.tables.exec = Jvm.exec ∧ c.code = code ∧ meth.sig.returnType = ret ∧ c.maxLocals = 4 ∧ s.vm.findClass R_law = some m.cls ∧ (∀ w ∈ lw_tbl, w.before #[Value.ref b] s = true) ∧ va_X b L xs s s.heap ∧ b < s.heap.size ∧ meth.locks = false ∧ (Jvm.Cond.and given_1 narrow_1).before #[Value.ref b] s = true
theorem gl_kX0_fill : gw_cal "ChunkArrayLaw" 13 RX0 yX0_fill cX0_fill 4 (some .int) 3 := ⟨lw_V q84 q85 q86 q26 q87, by decide +kernel⟩
theorem gl_kX1_fill : gw_cal "ChunkArrayLaw" 17 RX1 yX1_fill cX1_fill 4 (some .int) 3 := ⟨lw_V q247 q248 q249 q27 q250, by decide +kernel⟩
theorem gl_kX0_add : gw_cal "ChunkArrayLaw" 18 RX0 yX0_add cX0_add 4 (some .int) 3 := ⟨lw_V q152 q153 q154 q26 q155, by decide +kernel⟩
theorem gl_kX1_add : gw_cal "ChunkArrayLaw" 21 RX1 yX1_add cX1_add 4 (some .int) 3 := ⟨lw_V q267 q268 q269 q27 q270, by decide +kernel⟩
theorem gl_kX0_scale : gw_cal "ChunkArrayLaw" 22 RX0 yX0_scale cX0_scale 4 (some .int) 3 := ⟨lw_V q156 q157 q158 q26 q159, by decide +kernel⟩
theorem gl_kX1_scale : gw_cal "ChunkArrayLaw" 25 RX1 yX1_scale cX1_scale 4 (some .int) 3 := ⟨lw_V q271 q272 q273 q27 q274, by decide +kernel⟩
theorem gl_kX0_copy : gw_cal "ChunkArrayLaw" 26 RX0 yX0_copy cX0_copy 9 (some .int) 3 := ⟨lw_V q160 q161 q162 q26 q163, by decide +kernel⟩
theorem gl_kX1_copy : gw_cal "ChunkArrayLaw" 29 RX1 yX1_copy cX1_copy 10 (some .int) 3 := ⟨lw_V q275 q276 q277 q27 q278, by decide +kernel⟩
theorem gl_kX0_keep : gw_cal "ChunkArrayLaw" 30 RX0 yX0_keep cX0_keep 4 (some .int) 1 := ⟨lw_V q164 q165 q166 q26 q167, by decide +kernel⟩
theorem gl_kX1_keep : gw_cal "ChunkArrayLaw" 34 RX1 yX1_keep cX1_keep 3 (some .int) 1 := ⟨lw_V q279 q280 q281 q27 q282, by decide +kernel⟩
theorem gl_kX0_restore : gw_cal "ChunkArrayLaw" 35 RX0 yX0_restore cX0_restore 5 (some .int) 1 := ⟨lw_V q168 q169 q170 q26 q171, by decide +kernel⟩
theorem gl_kX1_restore : gw_cal "ChunkArrayLaw" 38 RX1 yX1_restore cX1_restore 4 (some .int) 1 := ⟨lw_V q283 q284 q285 q27 q286, by decide +kernel⟩
theorem gl_kX0_drop : gw_cal "ChunkArrayLaw" 39 RX0 yX0_drop cX0_drop 3 (some .int) 1 := ⟨lw_V q184 q185 q186 q26 q187, by decide +kernel⟩
theorem gl_kX1_drop : gw_cal "ChunkArrayLaw" 42 RX1 yX1_drop cX1_drop 2 (some .int) 1 := ⟨lw_V q295 q296 q297 q27 q298, by decide +kernel⟩
theorem gl_kX0_get : gw_cal "ChunkArrayLaw" 43 RX0 yX0_get cX0_get 2 (some .int) 1 := ⟨lw_V q188 q189 q190 q26 q191, by decide +kernel⟩
theorem gl_kX1_get : gw_cal "ChunkArrayLaw" 46 RX1 yX1_get cX1_get 2 (some .int) 1 := ⟨lw_V q299 q300 q301 q27 q302, by decide +kernel⟩
theorem gl_kX0_getOf : gw_cal "ChunkArrayLaw" 47 RX0 yX0_getOf cX0_getOf 3 (some .int) 2 := ⟨lw_V q192 q193 q194 q26 q195, by decide +kernel⟩
theorem gl_kX1_getOf : gw_cal "ChunkArrayLaw" 51 RX1 yX1_getOf cX1_getOf 3 (some .int) 2 := ⟨lw_V q303 q304 q305 q27 q306, by decide +kernel⟩
theorem gl_kX0_sum : gw_cal "ChunkArrayLaw" 52 RX0 yX0_sum cX0_sum 7 (some .int) 2 := ⟨lw_V q196 q197 q198 q26 q199, by decide +kernel⟩
theorem gl_kX1_sum : gw_cal "ChunkArrayLaw" 55 RX1 yX1_sum cX1_sum 5 (some .int) 2 := ⟨lw_V q307 q308 q309 q27 q310, by decide +kernel⟩
theorem gl_kX0_greatest : gw_cal "ChunkArrayLaw" 56 RX0 yX0_greatest cX0_greatest 8 (some .int) 2 := ⟨lw_V q208 q209 q210 q26 q211, by decide +kernel⟩
theorem gl_kX1_greatest : gw_cal "ChunkArrayLaw" 59 RX1 yX1_greatest cX1_greatest 5 (some .int) 2 := ⟨lw_V q311 q312 q313 q27 q314, by decide +kernel⟩
theorem gl_kX0_differ : gw_cal "ChunkArrayLaw" 60 RX0 yX0_differ cX0_differ 2 (some .int) 1 := ⟨lw_V q220 q221 q222 q26 q223, by decide +kernel⟩
theorem gl_kX1_differ : gw_cal "ChunkArrayLaw" 63 RX1 yX1_differ cX1_differ 4 (some .int) 1 := ⟨lw_V q315 q288 q289 q27 q290, by decide +kernel⟩
theorem gl_kX0_count : gw_cal "ChunkArrayLaw" 64 RX0 yX0_count cX0_count 8 (some .int) 3 := ⟨lw_V q224 q225 q226 q26 q227, by decide +kernel⟩
theorem gl_kX1_count : gw_cal "ChunkArrayLaw" 67 RX1 yX1_count cX1_count 6 (some .int) 3 := ⟨lw_V q316 q317 q318 q27 q319, by decide +kernel⟩
abbrev gl_A (s : State) : Nat → Prop := fun q => s.heap.size ≤ q
set_option maxHeartbeats 1000000 in
set_option maxRecDepth 100000 in
theorem gl_case0 {p : Program} {e : Env} {s : State} {m : MethodId} {below : List Frame} {meth : Method} {c : Code} (l : Launch) {b L : Nat} {xs : Nat → Int32} (hL : L ≤ 256) (C0 : lw_At p s m meth c b L xs) {D : va_G} {dZ dI : ClassId} {h h2 : Nat} {q q2 : Nat → Nat} (cx : gw_cx p s m #[Value.ref b] c code 4 "ChunkArrayLaw" D (xw_T dZ dI) (gl_A s)) {i : Nat} (hi : i + 4 ≤ L) (next : ∀ (σ τ : ca_S) (H : Heap) (locs : List Loc) (ls : Array Slot), cr_R σ τ → gl_W D (gl_A s) s.heap dZ dI h q h2 q2 σ τ H locs → lv_has ls 4 [(3, .int (nI i)), (2, .ref h2), (1, .ref h), (0, .ref b)] → W p l e room_1 s m #[Value.ref b] below meth c H locs 17 3740 (lw_Z below #[Value.ref b] s) (F0 m 529 ls [])) {σ τ : ca_S} (hR : cr_R σ τ) {H : Heap} {locs : List Loc} {ls : Array Slot} (hw : gl_W D (gl_A s) s.heap dZ dI h q h2 q2 σ τ H locs) (hl : lv_has ls 4 [(3, .int (nI i)), (2, .ref h2), (1, .ref h), (0, .ref b)]) : W p l e room_1 s m #[Value.ref b] below meth c H locs 17 3740 (lw_Z below #[Value.ref b] s) (F0 m 100 ls []) := by
  have hx := cx.1
  have hb := cx.2.1
  obtain ⟨-, -, hr, hml, -, -, hX, hbl, hlocks, -⟩ := id C0
  have hbA : ¬ gl_A s b := Nat.not_le.mpr hbl
  have hok : ca_ok σ := hR.1.1
  refine lv_aload_n hx hb dL_law_100 rfl (lv_at hl 2 rfl) ?_
  refine lv_aload_n hx hb dL_law_101 rfl (lv_at hl 3 rfl) ?_
  refine lv_iload_n hx hb dL_law_102 rfl (lv_at hl 0 rfl) ?_
  refine lv_iconst (v := nI 1) hx hb dL_law_103 (by decide) ?_
  refine nw_add hx hb dL_law_104 ?_
  refine va_sld hx hb hX hbl hbA hw.2.2 (vp_in_nI (n := i + 1) (by omega) (by omega)) dL_law_105 ?_
  refine gw_top (w := xs (i + 1)) (by rw [ca_cl (n := i + 1) (by omega)]) ?_
  refine lv_aload_n hx hb dL_law_106 rfl (lv_at hl 3 rfl) ?_
  refine lv_iload_n hx hb dL_law_107 rfl (lv_at hl 0 rfl) ?_
  refine lv_iconst (v := nI 2) hx hb dL_law_108 (by decide) ?_
  refine nw_add hx hb dL_law_109 ?_
  refine va_sld hx hb hX hbl hbA hw.2.2 (vp_in_nI (n := i + 2) (by omega) (by omega)) dL_law_110 ?_
  refine gw_top (w := xs (i + 2)) (by rw [ca_cl (n := i + 2) (by omega)]) ?_
  refine lv_aload_n hx hb dL_law_111 rfl (lv_at hl 3 rfl) ?_
  refine lv_iload_n hx hb dL_law_112 rfl (lv_at hl 0 rfl) ?_
  refine lv_iconst (v := nI 3) hx hb dL_law_113 (by decide) ?_
  refine nw_add hx hb dL_law_114 ?_
  refine va_sld hx hb hX hbl hbA hw.2.2 (vp_in_nI (n := i + 3) (by omega) (by omega)) dL_law_115 ?_
  refine gw_top (w := xs (i + 3)) (by rw [ca_cl (n := i + 3) (by omega)]) ?_
  refine gl_callX (As := [.int (xs (i + 1)), .int (xs (i + 2)), .int (xs (i + 3))]) (rest := []) cx (mtX0_fill l D dZ dI h q σ hok (xs (i + 1)) (xs (i + 2)) (xs (i + 3))) gl_kX0_fill ⟨Nat.le_of_ble_eq_true rfl, Nat.le_of_ble_eq_true rfl, rfl, rfl⟩ hl.1 rfl rfl (Nat.le_of_ble_eq_true rfl) dL_law_116 ⟨Nat.le_of_ble_eq_true rfl, Nat.le_of_ble_eq_true rfl⟩ hw (fun H locs hw => ?_)
  refine lv_aload_n hx hb dL_law_119 rfl (lv_at hl 1 rfl) ?_
  refine lv_aload_n hx hb dL_law_120 rfl (lv_at hl 3 rfl) ?_
  refine lv_iload_n hx hb dL_law_121 rfl (lv_at hl 0 rfl) ?_
  refine lv_iconst (v := nI 1) hx hb dL_law_122 (by decide) ?_
  refine nw_add hx hb dL_law_123 ?_
  refine va_sld hx hb hX hbl hbA hw.2.2 (vp_in_nI (n := i + 1) (by omega) (by omega)) dL_law_124 ?_
  refine gw_top (w := xs (i + 1)) (by rw [ca_cl (n := i + 1) (by omega)]) ?_
  refine lv_aload_n hx hb dL_law_125 rfl (lv_at hl 3 rfl) ?_
  refine lv_iload_n hx hb dL_law_126 rfl (lv_at hl 0 rfl) ?_
  refine lv_iconst (v := nI 2) hx hb dL_law_127 (by decide) ?_
  refine nw_add hx hb dL_law_128 ?_
  refine va_sld hx hb hX hbl hbA hw.2.2 (vp_in_nI (n := i + 2) (by omega) (by omega)) dL_law_129 ?_
  refine gw_top (w := xs (i + 2)) (by rw [ca_cl (n := i + 2) (by omega)]) ?_
  refine lv_aload_n hx hb dL_law_130 rfl (lv_at hl 3 rfl) ?_
  refine lv_iload_n hx hb dL_law_131 rfl (lv_at hl 0 rfl) ?_
  refine lv_iconst (v := nI 3) hx hb dL_law_132 (by decide) ?_
  refine nw_add hx hb dL_law_133 ?_
  refine va_sld hx hb hX hbl hbA hw.2.2 (vp_in_nI (n := i + 3) (by omega) (by omega)) dL_law_134 ?_
  refine gw_top (w := xs (i + 3)) (by rw [ca_cl (n := i + 3) (by omega)]) ?_
  refine gl_callM (As := [.int (xs (i + 1)), .int (xs (i + 2)), .int (xs (i + 3))]) (rest := [.int (ca_chR (xs (i + 1)) (xs (i + 2)) 0 (xs (i + 3)) σ)]) cx (mtX1_fill l D dZ dI h2 q2 τ (xs (i + 1)) (xs (i + 2)) (xs (i + 3))) gl_kX1_fill ⟨Nat.le_of_ble_eq_true rfl, Nat.le_of_ble_eq_true rfl, rfl, rfl⟩ hl.1 rfl rfl (Nat.le_of_ble_eq_true rfl) dL_law_135 ⟨Nat.le_of_ble_eq_true rfl, Nat.le_of_ble_eq_true rfl⟩ hw (fun H locs hw => ?_)
  refine lv_icmp_eq (tgt := 529) hx hb dL_law_138 (by decide) (fun h1 => ?_) (fun h1 => ?_)
  · exact next _ _ _ _ _ (cr_ch hR 0 (xs (i + 1)) (xs (i + 2)) (xs (i + 3))).2 hw hl
  · exact absurd (cr_ch hR 0 (xs (i + 1)) (xs (i + 2)) (xs (i + 3))).1 h1
set_option maxHeartbeats 1000000 in
set_option maxRecDepth 100000 in
theorem gl_case1 {p : Program} {e : Env} {s : State} {m : MethodId} {below : List Frame} {meth : Method} {c : Code} (l : Launch) {b L : Nat} {xs : Nat → Int32} (hL : L ≤ 256) (C0 : lw_At p s m meth c b L xs) {D : va_G} {dZ dI : ClassId} {h h2 : Nat} {q q2 : Nat → Nat} (cx : gw_cx p s m #[Value.ref b] c code 4 "ChunkArrayLaw" D (xw_T dZ dI) (gl_A s)) {i : Nat} (hi : i + 4 ≤ L) (next : ∀ (σ τ : ca_S) (H : Heap) (locs : List Loc) (ls : Array Slot), cr_R σ τ → gl_W D (gl_A s) s.heap dZ dI h q h2 q2 σ τ H locs → lv_has ls 4 [(3, .int (nI i)), (2, .ref h2), (1, .ref h), (0, .ref b)] → W p l e room_1 s m #[Value.ref b] below meth c H locs 17 3740 (lw_Z below #[Value.ref b] s) (F0 m 529 ls [])) {σ τ : ca_S} (hR : cr_R σ τ) {H : Heap} {locs : List Loc} {ls : Array Slot} (hw : gl_W D (gl_A s) s.heap dZ dI h q h2 q2 σ τ H locs) (hl : lv_has ls 4 [(3, .int (nI i)), (2, .ref h2), (1, .ref h), (0, .ref b)]) : W p l e room_1 s m #[Value.ref b] below meth c H locs 17 3740 (lw_Z below #[Value.ref b] s) (F0 m 143 ls []) := by
  have hx := cx.1
  have hb := cx.2.1
  obtain ⟨-, -, hr, hml, -, -, hX, hbl, hlocks, -⟩ := id C0
  have hbA : ¬ gl_A s b := Nat.not_le.mpr hbl
  have hok : ca_ok σ := hR.1.1
  refine lv_aload_n hx hb dL_law_143 rfl (lv_at hl 2 rfl) ?_
  refine lv_aload_n hx hb dL_law_144 rfl (lv_at hl 3 rfl) ?_
  refine lv_iload_n hx hb dL_law_145 rfl (lv_at hl 0 rfl) ?_
  refine lv_iconst (v := nI 1) hx hb dL_law_146 (by decide) ?_
  refine nw_add hx hb dL_law_147 ?_
  refine va_sld hx hb hX hbl hbA hw.2.2 (vp_in_nI (n := i + 1) (by omega) (by omega)) dL_law_148 ?_
  refine gw_top (w := xs (i + 1)) (by rw [ca_cl (n := i + 1) (by omega)]) ?_
  refine lv_aload_n hx hb dL_law_149 rfl (lv_at hl 3 rfl) ?_
  refine lv_iload_n hx hb dL_law_150 rfl (lv_at hl 0 rfl) ?_
  refine lv_iconst (v := nI 2) hx hb dL_law_151 (by decide) ?_
  refine nw_add hx hb dL_law_152 ?_
  refine va_sld hx hb hX hbl hbA hw.2.2 (vp_in_nI (n := i + 2) (by omega) (by omega)) dL_law_153 ?_
  refine gw_top (w := xs (i + 2)) (by rw [ca_cl (n := i + 2) (by omega)]) ?_
  refine lv_aload_n hx hb dL_law_154 rfl (lv_at hl 3 rfl) ?_
  refine lv_iload_n hx hb dL_law_155 rfl (lv_at hl 0 rfl) ?_
  refine lv_iconst (v := nI 3) hx hb dL_law_156 (by decide) ?_
  refine nw_add hx hb dL_law_157 ?_
  refine va_sld hx hb hX hbl hbA hw.2.2 (vp_in_nI (n := i + 3) (by omega) (by omega)) dL_law_158 ?_
  refine gw_top (w := xs (i + 3)) (by rw [ca_cl (n := i + 3) (by omega)]) ?_
  refine gl_callX (As := [.int (xs (i + 1)), .int (xs (i + 2)), .int (xs (i + 3))]) (rest := []) cx (mtX0_add l D dZ dI h q σ hok (xs (i + 1)) (xs (i + 2)) (xs (i + 3))) gl_kX0_add ⟨Nat.le_of_ble_eq_true rfl, Nat.le_of_ble_eq_true rfl, rfl, rfl⟩ hl.1 rfl rfl (Nat.le_of_ble_eq_true rfl) dL_law_159 ⟨Nat.le_of_ble_eq_true rfl, Nat.le_of_ble_eq_true rfl⟩ hw (fun H locs hw => ?_)
  refine lv_aload_n hx hb dL_law_162 rfl (lv_at hl 1 rfl) ?_
  refine lv_aload_n hx hb dL_law_163 rfl (lv_at hl 3 rfl) ?_
  refine lv_iload_n hx hb dL_law_164 rfl (lv_at hl 0 rfl) ?_
  refine lv_iconst (v := nI 1) hx hb dL_law_165 (by decide) ?_
  refine nw_add hx hb dL_law_166 ?_
  refine va_sld hx hb hX hbl hbA hw.2.2 (vp_in_nI (n := i + 1) (by omega) (by omega)) dL_law_167 ?_
  refine gw_top (w := xs (i + 1)) (by rw [ca_cl (n := i + 1) (by omega)]) ?_
  refine lv_aload_n hx hb dL_law_168 rfl (lv_at hl 3 rfl) ?_
  refine lv_iload_n hx hb dL_law_169 rfl (lv_at hl 0 rfl) ?_
  refine lv_iconst (v := nI 2) hx hb dL_law_170 (by decide) ?_
  refine nw_add hx hb dL_law_171 ?_
  refine va_sld hx hb hX hbl hbA hw.2.2 (vp_in_nI (n := i + 2) (by omega) (by omega)) dL_law_172 ?_
  refine gw_top (w := xs (i + 2)) (by rw [ca_cl (n := i + 2) (by omega)]) ?_
  refine lv_aload_n hx hb dL_law_173 rfl (lv_at hl 3 rfl) ?_
  refine lv_iload_n hx hb dL_law_174 rfl (lv_at hl 0 rfl) ?_
  refine lv_iconst (v := nI 3) hx hb dL_law_175 (by decide) ?_
  refine nw_add hx hb dL_law_176 ?_
  refine va_sld hx hb hX hbl hbA hw.2.2 (vp_in_nI (n := i + 3) (by omega) (by omega)) dL_law_177 ?_
  refine gw_top (w := xs (i + 3)) (by rw [ca_cl (n := i + 3) (by omega)]) ?_
  refine gl_callM (As := [.int (xs (i + 1)), .int (xs (i + 2)), .int (xs (i + 3))]) (rest := [.int (ca_chR (xs (i + 1)) (xs (i + 2)) 1 (xs (i + 3)) σ)]) cx (mtX1_add l D dZ dI h2 q2 τ (xs (i + 1)) (xs (i + 2)) (xs (i + 3))) gl_kX1_add ⟨Nat.le_of_ble_eq_true rfl, Nat.le_of_ble_eq_true rfl, rfl, rfl⟩ hl.1 rfl rfl (Nat.le_of_ble_eq_true rfl) dL_law_178 ⟨Nat.le_of_ble_eq_true rfl, Nat.le_of_ble_eq_true rfl⟩ hw (fun H locs hw => ?_)
  refine lv_icmp_eq (tgt := 529) hx hb dL_law_181 (by decide) (fun h1 => ?_) (fun h1 => ?_)
  · exact next _ _ _ _ _ (cr_ch hR 1 (xs (i + 1)) (xs (i + 2)) (xs (i + 3))).2 hw hl
  · exact absurd (cr_ch hR 1 (xs (i + 1)) (xs (i + 2)) (xs (i + 3))).1 h1
set_option maxHeartbeats 1000000 in
set_option maxRecDepth 100000 in
theorem gl_case2 {p : Program} {e : Env} {s : State} {m : MethodId} {below : List Frame} {meth : Method} {c : Code} (l : Launch) {b L : Nat} {xs : Nat → Int32} (hL : L ≤ 256) (C0 : lw_At p s m meth c b L xs) {D : va_G} {dZ dI : ClassId} {h h2 : Nat} {q q2 : Nat → Nat} (cx : gw_cx p s m #[Value.ref b] c code 4 "ChunkArrayLaw" D (xw_T dZ dI) (gl_A s)) {i : Nat} (hi : i + 4 ≤ L) (next : ∀ (σ τ : ca_S) (H : Heap) (locs : List Loc) (ls : Array Slot), cr_R σ τ → gl_W D (gl_A s) s.heap dZ dI h q h2 q2 σ τ H locs → lv_has ls 4 [(3, .int (nI i)), (2, .ref h2), (1, .ref h), (0, .ref b)] → W p l e room_1 s m #[Value.ref b] below meth c H locs 17 3740 (lw_Z below #[Value.ref b] s) (F0 m 529 ls [])) {σ τ : ca_S} (hR : cr_R σ τ) {H : Heap} {locs : List Loc} {ls : Array Slot} (hw : gl_W D (gl_A s) s.heap dZ dI h q h2 q2 σ τ H locs) (hl : lv_has ls 4 [(3, .int (nI i)), (2, .ref h2), (1, .ref h), (0, .ref b)]) : W p l e room_1 s m #[Value.ref b] below meth c H locs 17 3740 (lw_Z below #[Value.ref b] s) (F0 m 186 ls []) := by
  have hx := cx.1
  have hb := cx.2.1
  obtain ⟨-, -, hr, hml, -, -, hX, hbl, hlocks, -⟩ := id C0
  have hbA : ¬ gl_A s b := Nat.not_le.mpr hbl
  have hok : ca_ok σ := hR.1.1
  refine lv_aload_n hx hb dL_law_186 rfl (lv_at hl 2 rfl) ?_
  refine lv_aload_n hx hb dL_law_187 rfl (lv_at hl 3 rfl) ?_
  refine lv_iload_n hx hb dL_law_188 rfl (lv_at hl 0 rfl) ?_
  refine lv_iconst (v := nI 1) hx hb dL_law_189 (by decide) ?_
  refine nw_add hx hb dL_law_190 ?_
  refine va_sld hx hb hX hbl hbA hw.2.2 (vp_in_nI (n := i + 1) (by omega) (by omega)) dL_law_191 ?_
  refine gw_top (w := xs (i + 1)) (by rw [ca_cl (n := i + 1) (by omega)]) ?_
  refine lv_aload_n hx hb dL_law_192 rfl (lv_at hl 3 rfl) ?_
  refine lv_iload_n hx hb dL_law_193 rfl (lv_at hl 0 rfl) ?_
  refine lv_iconst (v := nI 2) hx hb dL_law_194 (by decide) ?_
  refine nw_add hx hb dL_law_195 ?_
  refine va_sld hx hb hX hbl hbA hw.2.2 (vp_in_nI (n := i + 2) (by omega) (by omega)) dL_law_196 ?_
  refine gw_top (w := xs (i + 2)) (by rw [ca_cl (n := i + 2) (by omega)]) ?_
  refine lv_aload_n hx hb dL_law_197 rfl (lv_at hl 3 rfl) ?_
  refine lv_iload_n hx hb dL_law_198 rfl (lv_at hl 0 rfl) ?_
  refine lv_iconst (v := nI 3) hx hb dL_law_199 (by decide) ?_
  refine nw_add hx hb dL_law_200 ?_
  refine va_sld hx hb hX hbl hbA hw.2.2 (vp_in_nI (n := i + 3) (by omega) (by omega)) dL_law_201 ?_
  refine gw_top (w := xs (i + 3)) (by rw [ca_cl (n := i + 3) (by omega)]) ?_
  refine gl_callX (As := [.int (xs (i + 1)), .int (xs (i + 2)), .int (xs (i + 3))]) (rest := []) cx (mtX0_scale l D dZ dI h q σ hok (xs (i + 1)) (xs (i + 2)) (xs (i + 3))) gl_kX0_scale ⟨Nat.le_of_ble_eq_true rfl, Nat.le_of_ble_eq_true rfl, rfl, rfl⟩ hl.1 rfl rfl (Nat.le_of_ble_eq_true rfl) dL_law_202 ⟨Nat.le_of_ble_eq_true rfl, Nat.le_of_ble_eq_true rfl⟩ hw (fun H locs hw => ?_)
  refine lv_aload_n hx hb dL_law_205 rfl (lv_at hl 1 rfl) ?_
  refine lv_aload_n hx hb dL_law_206 rfl (lv_at hl 3 rfl) ?_
  refine lv_iload_n hx hb dL_law_207 rfl (lv_at hl 0 rfl) ?_
  refine lv_iconst (v := nI 1) hx hb dL_law_208 (by decide) ?_
  refine nw_add hx hb dL_law_209 ?_
  refine va_sld hx hb hX hbl hbA hw.2.2 (vp_in_nI (n := i + 1) (by omega) (by omega)) dL_law_210 ?_
  refine gw_top (w := xs (i + 1)) (by rw [ca_cl (n := i + 1) (by omega)]) ?_
  refine lv_aload_n hx hb dL_law_211 rfl (lv_at hl 3 rfl) ?_
  refine lv_iload_n hx hb dL_law_212 rfl (lv_at hl 0 rfl) ?_
  refine lv_iconst (v := nI 2) hx hb dL_law_213 (by decide) ?_
  refine nw_add hx hb dL_law_214 ?_
  refine va_sld hx hb hX hbl hbA hw.2.2 (vp_in_nI (n := i + 2) (by omega) (by omega)) dL_law_215 ?_
  refine gw_top (w := xs (i + 2)) (by rw [ca_cl (n := i + 2) (by omega)]) ?_
  refine lv_aload_n hx hb dL_law_216 rfl (lv_at hl 3 rfl) ?_
  refine lv_iload_n hx hb dL_law_217 rfl (lv_at hl 0 rfl) ?_
  refine lv_iconst (v := nI 3) hx hb dL_law_218 (by decide) ?_
  refine nw_add hx hb dL_law_219 ?_
  refine va_sld hx hb hX hbl hbA hw.2.2 (vp_in_nI (n := i + 3) (by omega) (by omega)) dL_law_220 ?_
  refine gw_top (w := xs (i + 3)) (by rw [ca_cl (n := i + 3) (by omega)]) ?_
  refine gl_callM (As := [.int (xs (i + 1)), .int (xs (i + 2)), .int (xs (i + 3))]) (rest := [.int (ca_chR (xs (i + 1)) (xs (i + 2)) 2 (xs (i + 3)) σ)]) cx (mtX1_scale l D dZ dI h2 q2 τ (xs (i + 1)) (xs (i + 2)) (xs (i + 3))) gl_kX1_scale ⟨Nat.le_of_ble_eq_true rfl, Nat.le_of_ble_eq_true rfl, rfl, rfl⟩ hl.1 rfl rfl (Nat.le_of_ble_eq_true rfl) dL_law_221 ⟨Nat.le_of_ble_eq_true rfl, Nat.le_of_ble_eq_true rfl⟩ hw (fun H locs hw => ?_)
  refine lv_icmp_eq (tgt := 529) hx hb dL_law_224 (by decide) (fun h1 => ?_) (fun h1 => ?_)
  · exact next _ _ _ _ _ (cr_ch hR 2 (xs (i + 1)) (xs (i + 2)) (xs (i + 3))).2 hw hl
  · exact absurd (cr_ch hR 2 (xs (i + 1)) (xs (i + 2)) (xs (i + 3))).1 h1
set_option maxHeartbeats 1000000 in
set_option maxRecDepth 100000 in
theorem gl_case3 {p : Program} {e : Env} {s : State} {m : MethodId} {below : List Frame} {meth : Method} {c : Code} (l : Launch) {b L : Nat} {xs : Nat → Int32} (hL : L ≤ 256) (C0 : lw_At p s m meth c b L xs) {D : va_G} {dZ dI : ClassId} {h h2 : Nat} {q q2 : Nat → Nat} (cx : gw_cx p s m #[Value.ref b] c code 4 "ChunkArrayLaw" D (xw_T dZ dI) (gl_A s)) {i : Nat} (hi : i + 4 ≤ L) (next : ∀ (σ τ : ca_S) (H : Heap) (locs : List Loc) (ls : Array Slot), cr_R σ τ → gl_W D (gl_A s) s.heap dZ dI h q h2 q2 σ τ H locs → lv_has ls 4 [(3, .int (nI i)), (2, .ref h2), (1, .ref h), (0, .ref b)] → W p l e room_1 s m #[Value.ref b] below meth c H locs 17 3740 (lw_Z below #[Value.ref b] s) (F0 m 529 ls [])) {σ τ : ca_S} (hR : cr_R σ τ) {H : Heap} {locs : List Loc} {ls : Array Slot} (hw : gl_W D (gl_A s) s.heap dZ dI h q h2 q2 σ τ H locs) (hl : lv_has ls 4 [(3, .int (nI i)), (2, .ref h2), (1, .ref h), (0, .ref b)]) : W p l e room_1 s m #[Value.ref b] below meth c H locs 17 3740 (lw_Z below #[Value.ref b] s) (F0 m 229 ls []) := by
  have hx := cx.1
  have hb := cx.2.1
  obtain ⟨-, -, hr, hml, -, -, hX, hbl, hlocks, -⟩ := id C0
  have hbA : ¬ gl_A s b := Nat.not_le.mpr hbl
  have hok : ca_ok σ := hR.1.1
  refine lv_aload_n hx hb dL_law_229 rfl (lv_at hl 2 rfl) ?_
  refine lv_aload_n hx hb dL_law_230 rfl (lv_at hl 3 rfl) ?_
  refine lv_iload_n hx hb dL_law_231 rfl (lv_at hl 0 rfl) ?_
  refine lv_iconst (v := nI 1) hx hb dL_law_232 (by decide) ?_
  refine nw_add hx hb dL_law_233 ?_
  refine va_sld hx hb hX hbl hbA hw.2.2 (vp_in_nI (n := i + 1) (by omega) (by omega)) dL_law_234 ?_
  refine gw_top (w := xs (i + 1)) (by rw [ca_cl (n := i + 1) (by omega)]) ?_
  refine lv_aload_n hx hb dL_law_235 rfl (lv_at hl 3 rfl) ?_
  refine lv_iload_n hx hb dL_law_236 rfl (lv_at hl 0 rfl) ?_
  refine lv_iconst (v := nI 2) hx hb dL_law_237 (by decide) ?_
  refine nw_add hx hb dL_law_238 ?_
  refine va_sld hx hb hX hbl hbA hw.2.2 (vp_in_nI (n := i + 2) (by omega) (by omega)) dL_law_239 ?_
  refine gw_top (w := xs (i + 2)) (by rw [ca_cl (n := i + 2) (by omega)]) ?_
  refine lv_aload_n hx hb dL_law_240 rfl (lv_at hl 3 rfl) ?_
  refine lv_iload_n hx hb dL_law_241 rfl (lv_at hl 0 rfl) ?_
  refine lv_iconst (v := nI 3) hx hb dL_law_242 (by decide) ?_
  refine nw_add hx hb dL_law_243 ?_
  refine va_sld hx hb hX hbl hbA hw.2.2 (vp_in_nI (n := i + 3) (by omega) (by omega)) dL_law_244 ?_
  refine gw_top (w := xs (i + 3)) (by rw [ca_cl (n := i + 3) (by omega)]) ?_
  refine gl_callX (As := [.int (xs (i + 1)), .int (xs (i + 2)), .int (xs (i + 3))]) (rest := []) cx (mtX0_copy l D dZ dI h q σ hok (xs (i + 1)) (xs (i + 2)) (xs (i + 3))) gl_kX0_copy ⟨Nat.le_of_ble_eq_true rfl, Nat.le_of_ble_eq_true rfl, rfl, rfl⟩ hl.1 rfl rfl (Nat.le_of_ble_eq_true rfl) dL_law_245 ⟨Nat.le_of_ble_eq_true rfl, Nat.le_of_ble_eq_true rfl⟩ hw (fun H locs hw => ?_)
  refine lv_aload_n hx hb dL_law_248 rfl (lv_at hl 1 rfl) ?_
  refine lv_aload_n hx hb dL_law_249 rfl (lv_at hl 3 rfl) ?_
  refine lv_iload_n hx hb dL_law_250 rfl (lv_at hl 0 rfl) ?_
  refine lv_iconst (v := nI 1) hx hb dL_law_251 (by decide) ?_
  refine nw_add hx hb dL_law_252 ?_
  refine va_sld hx hb hX hbl hbA hw.2.2 (vp_in_nI (n := i + 1) (by omega) (by omega)) dL_law_253 ?_
  refine gw_top (w := xs (i + 1)) (by rw [ca_cl (n := i + 1) (by omega)]) ?_
  refine lv_aload_n hx hb dL_law_254 rfl (lv_at hl 3 rfl) ?_
  refine lv_iload_n hx hb dL_law_255 rfl (lv_at hl 0 rfl) ?_
  refine lv_iconst (v := nI 2) hx hb dL_law_256 (by decide) ?_
  refine nw_add hx hb dL_law_257 ?_
  refine va_sld hx hb hX hbl hbA hw.2.2 (vp_in_nI (n := i + 2) (by omega) (by omega)) dL_law_258 ?_
  refine gw_top (w := xs (i + 2)) (by rw [ca_cl (n := i + 2) (by omega)]) ?_
  refine lv_aload_n hx hb dL_law_259 rfl (lv_at hl 3 rfl) ?_
  refine lv_iload_n hx hb dL_law_260 rfl (lv_at hl 0 rfl) ?_
  refine lv_iconst (v := nI 3) hx hb dL_law_261 (by decide) ?_
  refine nw_add hx hb dL_law_262 ?_
  refine va_sld hx hb hX hbl hbA hw.2.2 (vp_in_nI (n := i + 3) (by omega) (by omega)) dL_law_263 ?_
  refine gw_top (w := xs (i + 3)) (by rw [ca_cl (n := i + 3) (by omega)]) ?_
  refine gl_callM (As := [.int (xs (i + 1)), .int (xs (i + 2)), .int (xs (i + 3))]) (rest := [.int (ca_cyR (xs (i + 1)) (xs (i + 2)) (xs (i + 3)))]) cx (mtX1_copy l D dZ dI h2 q2 τ (xs (i + 1)) (xs (i + 2)) (xs (i + 3))) gl_kX1_copy ⟨Nat.le_of_ble_eq_true rfl, Nat.le_of_ble_eq_true rfl, rfl, rfl⟩ hl.1 rfl rfl (Nat.le_of_ble_eq_true rfl) dL_law_264 ⟨Nat.le_of_ble_eq_true rfl, Nat.le_of_ble_eq_true rfl⟩ hw (fun H locs hw => ?_)
  refine lv_icmp_eq (tgt := 529) hx hb dL_law_267 (by decide) (fun h1 => ?_) (fun h1 => ?_)
  · exact next _ _ _ _ _ (cr_cy hR (xs (i + 1)) (xs (i + 2)) (xs (i + 3))).2 hw hl
  · exact absurd (cr_cy hR (xs (i + 1)) (xs (i + 2)) (xs (i + 3))).1 h1
set_option maxHeartbeats 1000000 in
set_option maxRecDepth 100000 in
theorem gl_case4 {p : Program} {e : Env} {s : State} {m : MethodId} {below : List Frame} {meth : Method} {c : Code} (l : Launch) {b L : Nat} {xs : Nat → Int32} (hL : L ≤ 256) (C0 : lw_At p s m meth c b L xs) {D : va_G} {dZ dI : ClassId} {h h2 : Nat} {q q2 : Nat → Nat} (cx : gw_cx p s m #[Value.ref b] c code 4 "ChunkArrayLaw" D (xw_T dZ dI) (gl_A s)) {i : Nat} (hi : i + 4 ≤ L) (next : ∀ (σ τ : ca_S) (H : Heap) (locs : List Loc) (ls : Array Slot), cr_R σ τ → gl_W D (gl_A s) s.heap dZ dI h q h2 q2 σ τ H locs → lv_has ls 4 [(3, .int (nI i)), (2, .ref h2), (1, .ref h), (0, .ref b)] → W p l e room_1 s m #[Value.ref b] below meth c H locs 17 3740 (lw_Z below #[Value.ref b] s) (F0 m 529 ls [])) {σ τ : ca_S} (hR : cr_R σ τ) {H : Heap} {locs : List Loc} {ls : Array Slot} (hw : gl_W D (gl_A s) s.heap dZ dI h q h2 q2 σ τ H locs) (hl : lv_has ls 4 [(3, .int (nI i)), (2, .ref h2), (1, .ref h), (0, .ref b)]) : W p l e room_1 s m #[Value.ref b] below meth c H locs 17 3740 (lw_Z below #[Value.ref b] s) (F0 m 272 ls []) := by
  have hx := cx.1
  have hb := cx.2.1
  obtain ⟨-, -, hr, hml, -, -, hX, hbl, hlocks, -⟩ := id C0
  have hbA : ¬ gl_A s b := Nat.not_le.mpr hbl
  have hok : ca_ok σ := hR.1.1
  refine lv_aload_n hx hb dL_law_272 rfl (lv_at hl 2 rfl) ?_
  refine lv_aload_n hx hb dL_law_273 rfl (lv_at hl 3 rfl) ?_
  refine lv_iload_n hx hb dL_law_274 rfl (lv_at hl 0 rfl) ?_
  refine lv_iconst (v := nI 1) hx hb dL_law_275 (by decide) ?_
  refine nw_add hx hb dL_law_276 ?_
  refine va_sld hx hb hX hbl hbA hw.2.2 (vp_in_nI (n := i + 1) (by omega) (by omega)) dL_law_277 ?_
  refine gw_top (w := xs (i + 1)) (by rw [ca_cl (n := i + 1) (by omega)]) ?_
  refine gl_callX (As := [.int (xs (i + 1))]) (rest := []) cx (mtX0_keep l D dZ dI h q σ hok (xs (i + 1))) gl_kX0_keep ⟨Nat.le_of_ble_eq_true rfl, Nat.le_of_ble_eq_true rfl, rfl, rfl⟩ hl.1 rfl rfl (Nat.le_of_ble_eq_true rfl) dL_law_278 ⟨Nat.le_of_ble_eq_true rfl, Nat.le_of_ble_eq_true rfl⟩ hw (fun H locs hw => ?_)
  refine lv_aload_n hx hb dL_law_281 rfl (lv_at hl 1 rfl) ?_
  refine lv_aload_n hx hb dL_law_282 rfl (lv_at hl 3 rfl) ?_
  refine lv_iload_n hx hb dL_law_283 rfl (lv_at hl 0 rfl) ?_
  refine lv_iconst (v := nI 1) hx hb dL_law_284 (by decide) ?_
  refine nw_add hx hb dL_law_285 ?_
  refine va_sld hx hb hX hbl hbA hw.2.2 (vp_in_nI (n := i + 1) (by omega) (by omega)) dL_law_286 ?_
  refine gw_top (w := xs (i + 1)) (by rw [ca_cl (n := i + 1) (by omega)]) ?_
  refine gl_callM (As := [.int (xs (i + 1))]) (rest := [.int (ca_kpR (xs (i + 1)) σ)]) cx (mtX1_keep l D dZ dI h2 q2 τ (xs (i + 1))) gl_kX1_keep ⟨Nat.le_of_ble_eq_true rfl, Nat.le_of_ble_eq_true rfl, rfl, rfl⟩ hl.1 rfl rfl (Nat.le_of_ble_eq_true rfl) dL_law_287 ⟨Nat.le_of_ble_eq_true rfl, Nat.le_of_ble_eq_true rfl⟩ hw (fun H locs hw => ?_)
  refine lv_icmp_eq (tgt := 529) hx hb dL_law_290 (by decide) (fun h1 => ?_) (fun h1 => ?_)
  · exact next _ _ _ _ _ (cr_kp hR (xs (i + 1))).2 hw hl
  · exact absurd (cr_kp hR (xs (i + 1))).1 h1
set_option maxHeartbeats 1000000 in
set_option maxRecDepth 100000 in
theorem gl_case5 {p : Program} {e : Env} {s : State} {m : MethodId} {below : List Frame} {meth : Method} {c : Code} (l : Launch) {b L : Nat} {xs : Nat → Int32} (hL : L ≤ 256) (C0 : lw_At p s m meth c b L xs) {D : va_G} {dZ dI : ClassId} {h h2 : Nat} {q q2 : Nat → Nat} (cx : gw_cx p s m #[Value.ref b] c code 4 "ChunkArrayLaw" D (xw_T dZ dI) (gl_A s)) {i : Nat} (hi : i + 4 ≤ L) (next : ∀ (σ τ : ca_S) (H : Heap) (locs : List Loc) (ls : Array Slot), cr_R σ τ → gl_W D (gl_A s) s.heap dZ dI h q h2 q2 σ τ H locs → lv_has ls 4 [(3, .int (nI i)), (2, .ref h2), (1, .ref h), (0, .ref b)] → W p l e room_1 s m #[Value.ref b] below meth c H locs 17 3740 (lw_Z below #[Value.ref b] s) (F0 m 529 ls [])) {σ τ : ca_S} (hR : cr_R σ τ) {H : Heap} {locs : List Loc} {ls : Array Slot} (hw : gl_W D (gl_A s) s.heap dZ dI h q h2 q2 σ τ H locs) (hl : lv_has ls 4 [(3, .int (nI i)), (2, .ref h2), (1, .ref h), (0, .ref b)]) : W p l e room_1 s m #[Value.ref b] below meth c H locs 17 3740 (lw_Z below #[Value.ref b] s) (F0 m 295 ls []) := by
  have hx := cx.1
  have hb := cx.2.1
  obtain ⟨-, -, hr, hml, -, -, hX, hbl, hlocks, -⟩ := id C0
  have hbA : ¬ gl_A s b := Nat.not_le.mpr hbl
  have hok : ca_ok σ := hR.1.1
  refine lv_aload_n hx hb dL_law_295 rfl (lv_at hl 2 rfl) ?_
  refine lv_aload_n hx hb dL_law_296 rfl (lv_at hl 3 rfl) ?_
  refine lv_iload_n hx hb dL_law_297 rfl (lv_at hl 0 rfl) ?_
  refine lv_iconst (v := nI 1) hx hb dL_law_298 (by decide) ?_
  refine nw_add hx hb dL_law_299 ?_
  refine va_sld hx hb hX hbl hbA hw.2.2 (vp_in_nI (n := i + 1) (by omega) (by omega)) dL_law_300 ?_
  refine gw_top (w := xs (i + 1)) (by rw [ca_cl (n := i + 1) (by omega)]) ?_
  refine gl_callX (As := [.int (xs (i + 1))]) (rest := []) cx (mtX0_restore l D dZ dI h q σ hok (xs (i + 1))) gl_kX0_restore ⟨Nat.le_of_ble_eq_true rfl, Nat.le_of_ble_eq_true rfl, rfl, rfl⟩ hl.1 rfl rfl (Nat.le_of_ble_eq_true rfl) dL_law_301 ⟨Nat.le_of_ble_eq_true rfl, Nat.le_of_ble_eq_true rfl⟩ hw (fun H locs hw => ?_)
  refine lv_aload_n hx hb dL_law_304 rfl (lv_at hl 1 rfl) ?_
  refine lv_aload_n hx hb dL_law_305 rfl (lv_at hl 3 rfl) ?_
  refine lv_iload_n hx hb dL_law_306 rfl (lv_at hl 0 rfl) ?_
  refine lv_iconst (v := nI 1) hx hb dL_law_307 (by decide) ?_
  refine nw_add hx hb dL_law_308 ?_
  refine va_sld hx hb hX hbl hbA hw.2.2 (vp_in_nI (n := i + 1) (by omega) (by omega)) dL_law_309 ?_
  refine gw_top (w := xs (i + 1)) (by rw [ca_cl (n := i + 1) (by omega)]) ?_
  refine gl_callM (As := [.int (xs (i + 1))]) (rest := [.int (ca_dfR (xs (i + 1)) σ)]) cx (mtX1_restore l D dZ dI h2 q2 τ (xs (i + 1))) gl_kX1_restore ⟨Nat.le_of_ble_eq_true rfl, Nat.le_of_ble_eq_true rfl, rfl, rfl⟩ hl.1 rfl rfl (Nat.le_of_ble_eq_true rfl) dL_law_310 ⟨Nat.le_of_ble_eq_true rfl, Nat.le_of_ble_eq_true rfl⟩ hw (fun H locs hw => ?_)
  refine lv_icmp_eq (tgt := 529) hx hb dL_law_313 (by decide) (fun h1 => ?_) (fun h1 => ?_)
  · exact next _ _ _ _ _ (cr_rs hR (xs (i + 1))).2 hw hl
  · exact absurd (cr_rs hR (xs (i + 1))).1 h1
set_option maxHeartbeats 1000000 in
set_option maxRecDepth 100000 in
theorem gl_case6 {p : Program} {e : Env} {s : State} {m : MethodId} {below : List Frame} {meth : Method} {c : Code} (l : Launch) {b L : Nat} {xs : Nat → Int32} (hL : L ≤ 256) (C0 : lw_At p s m meth c b L xs) {D : va_G} {dZ dI : ClassId} {h h2 : Nat} {q q2 : Nat → Nat} (cx : gw_cx p s m #[Value.ref b] c code 4 "ChunkArrayLaw" D (xw_T dZ dI) (gl_A s)) {i : Nat} (hi : i + 4 ≤ L) (next : ∀ (σ τ : ca_S) (H : Heap) (locs : List Loc) (ls : Array Slot), cr_R σ τ → gl_W D (gl_A s) s.heap dZ dI h q h2 q2 σ τ H locs → lv_has ls 4 [(3, .int (nI i)), (2, .ref h2), (1, .ref h), (0, .ref b)] → W p l e room_1 s m #[Value.ref b] below meth c H locs 17 3740 (lw_Z below #[Value.ref b] s) (F0 m 529 ls [])) {σ τ : ca_S} (hR : cr_R σ τ) {H : Heap} {locs : List Loc} {ls : Array Slot} (hw : gl_W D (gl_A s) s.heap dZ dI h q h2 q2 σ τ H locs) (hl : lv_has ls 4 [(3, .int (nI i)), (2, .ref h2), (1, .ref h), (0, .ref b)]) : W p l e room_1 s m #[Value.ref b] below meth c H locs 17 3740 (lw_Z below #[Value.ref b] s) (F0 m 318 ls []) := by
  have hx := cx.1
  have hb := cx.2.1
  obtain ⟨-, -, hr, hml, -, -, hX, hbl, hlocks, -⟩ := id C0
  have hbA : ¬ gl_A s b := Nat.not_le.mpr hbl
  have hok : ca_ok σ := hR.1.1
  refine lv_aload_n hx hb dL_law_318 rfl (lv_at hl 2 rfl) ?_
  refine lv_aload_n hx hb dL_law_319 rfl (lv_at hl 3 rfl) ?_
  refine lv_iload_n hx hb dL_law_320 rfl (lv_at hl 0 rfl) ?_
  refine lv_iconst (v := nI 1) hx hb dL_law_321 (by decide) ?_
  refine nw_add hx hb dL_law_322 ?_
  refine va_sld hx hb hX hbl hbA hw.2.2 (vp_in_nI (n := i + 1) (by omega) (by omega)) dL_law_323 ?_
  refine gw_top (w := xs (i + 1)) (by rw [ca_cl (n := i + 1) (by omega)]) ?_
  refine gl_callX (As := [.int (xs (i + 1))]) (rest := []) cx (mtX0_drop l D dZ dI h q σ hok (xs (i + 1))) gl_kX0_drop ⟨Nat.le_of_ble_eq_true rfl, Nat.le_of_ble_eq_true rfl, rfl, rfl⟩ hl.1 rfl rfl (Nat.le_of_ble_eq_true rfl) dL_law_324 ⟨Nat.le_of_ble_eq_true rfl, Nat.le_of_ble_eq_true rfl⟩ hw (fun H locs hw => ?_)
  refine lv_aload_n hx hb dL_law_327 rfl (lv_at hl 1 rfl) ?_
  refine lv_aload_n hx hb dL_law_328 rfl (lv_at hl 3 rfl) ?_
  refine lv_iload_n hx hb dL_law_329 rfl (lv_at hl 0 rfl) ?_
  refine lv_iconst (v := nI 1) hx hb dL_law_330 (by decide) ?_
  refine nw_add hx hb dL_law_331 ?_
  refine va_sld hx hb hX hbl hbA hw.2.2 (vp_in_nI (n := i + 1) (by omega) (by omega)) dL_law_332 ?_
  refine gw_top (w := xs (i + 1)) (by rw [ca_cl (n := i + 1) (by omega)]) ?_
  refine gl_callM (As := [.int (xs (i + 1))]) (rest := [.int (ca_dpR (xs (i + 1)) σ)]) cx (mtX1_drop l D dZ dI h2 q2 τ (xs (i + 1))) gl_kX1_drop ⟨Nat.le_of_ble_eq_true rfl, Nat.le_of_ble_eq_true rfl, rfl, rfl⟩ hl.1 rfl rfl (Nat.le_of_ble_eq_true rfl) dL_law_333 ⟨Nat.le_of_ble_eq_true rfl, Nat.le_of_ble_eq_true rfl⟩ hw (fun H locs hw => ?_)
  refine lv_icmp_eq (tgt := 529) hx hb dL_law_336 (by decide) (fun h1 => ?_) (fun h1 => ?_)
  · exact next _ _ _ _ _ (cr_dp hR (xs (i + 1))).2 hw hl
  · exact absurd (cr_dp hR (xs (i + 1))).1 h1
set_option maxHeartbeats 1000000 in
set_option maxRecDepth 100000 in
theorem gl_case7 {p : Program} {e : Env} {s : State} {m : MethodId} {below : List Frame} {meth : Method} {c : Code} (l : Launch) {b L : Nat} {xs : Nat → Int32} (hL : L ≤ 256) (C0 : lw_At p s m meth c b L xs) {D : va_G} {dZ dI : ClassId} {h h2 : Nat} {q q2 : Nat → Nat} (cx : gw_cx p s m #[Value.ref b] c code 4 "ChunkArrayLaw" D (xw_T dZ dI) (gl_A s)) {i : Nat} (hi : i + 4 ≤ L) (next : ∀ (σ τ : ca_S) (H : Heap) (locs : List Loc) (ls : Array Slot), cr_R σ τ → gl_W D (gl_A s) s.heap dZ dI h q h2 q2 σ τ H locs → lv_has ls 4 [(3, .int (nI i)), (2, .ref h2), (1, .ref h), (0, .ref b)] → W p l e room_1 s m #[Value.ref b] below meth c H locs 17 3740 (lw_Z below #[Value.ref b] s) (F0 m 529 ls [])) {σ τ : ca_S} (hR : cr_R σ τ) {H : Heap} {locs : List Loc} {ls : Array Slot} (hw : gl_W D (gl_A s) s.heap dZ dI h q h2 q2 σ τ H locs) (hl : lv_has ls 4 [(3, .int (nI i)), (2, .ref h2), (1, .ref h), (0, .ref b)]) : W p l e room_1 s m #[Value.ref b] below meth c H locs 17 3740 (lw_Z below #[Value.ref b] s) (F0 m 341 ls []) := by
  have hx := cx.1
  have hb := cx.2.1
  obtain ⟨-, -, hr, hml, -, -, hX, hbl, hlocks, -⟩ := id C0
  have hbA : ¬ gl_A s b := Nat.not_le.mpr hbl
  have hok : ca_ok σ := hR.1.1
  refine lv_aload_n hx hb dL_law_341 rfl (lv_at hl 2 rfl) ?_
  refine lv_aload_n hx hb dL_law_342 rfl (lv_at hl 3 rfl) ?_
  refine lv_iload_n hx hb dL_law_343 rfl (lv_at hl 0 rfl) ?_
  refine lv_iconst (v := nI 1) hx hb dL_law_344 (by decide) ?_
  refine nw_add hx hb dL_law_345 ?_
  refine va_sld hx hb hX hbl hbA hw.2.2 (vp_in_nI (n := i + 1) (by omega) (by omega)) dL_law_346 ?_
  refine gw_top (w := xs (i + 1)) (by rw [ca_cl (n := i + 1) (by omega)]) ?_
  refine gl_callX (As := [.int (xs (i + 1))]) (rest := []) cx (mtX0_get l D dZ dI h q σ hok (xs (i + 1))) gl_kX0_get ⟨Nat.le_of_ble_eq_true rfl, Nat.le_of_ble_eq_true rfl, rfl, rfl⟩ hl.1 rfl rfl (Nat.le_of_ble_eq_true rfl) dL_law_347 ⟨Nat.le_of_ble_eq_true rfl, Nat.le_of_ble_eq_true rfl⟩ hw (fun H locs hw => ?_)
  refine lv_aload_n hx hb dL_law_350 rfl (lv_at hl 1 rfl) ?_
  refine lv_aload_n hx hb dL_law_351 rfl (lv_at hl 3 rfl) ?_
  refine lv_iload_n hx hb dL_law_352 rfl (lv_at hl 0 rfl) ?_
  refine lv_iconst (v := nI 1) hx hb dL_law_353 (by decide) ?_
  refine nw_add hx hb dL_law_354 ?_
  refine va_sld hx hb hX hbl hbA hw.2.2 (vp_in_nI (n := i + 1) (by omega) (by omega)) dL_law_355 ?_
  refine gw_top (w := xs (i + 1)) (by rw [ca_cl (n := i + 1) (by omega)]) ?_
  refine gl_callM (As := [.int (xs (i + 1))]) (rest := [.int (ca_gtR (xs (i + 1)) σ)]) cx (mtX1_get l D dZ dI h2 q2 τ (xs (i + 1))) gl_kX1_get ⟨Nat.le_of_ble_eq_true rfl, Nat.le_of_ble_eq_true rfl, rfl, rfl⟩ hl.1 rfl rfl (Nat.le_of_ble_eq_true rfl) dL_law_356 ⟨Nat.le_of_ble_eq_true rfl, Nat.le_of_ble_eq_true rfl⟩ hw (fun H locs hw => ?_)
  refine lv_icmp_eq (tgt := 529) hx hb dL_law_359 (by decide) (fun h1 => ?_) (fun h1 => ?_)
  · exact next _ _ _ _ _ ((⟨cr_gt hR (xs (i + 1)), hR⟩ : _ ∧ _)).2 hw hl
  · exact absurd ((⟨cr_gt hR (xs (i + 1)), hR⟩ : _ ∧ _)).1 h1
set_option maxHeartbeats 1000000 in
set_option maxRecDepth 100000 in
theorem gl_case8 {p : Program} {e : Env} {s : State} {m : MethodId} {below : List Frame} {meth : Method} {c : Code} (l : Launch) {b L : Nat} {xs : Nat → Int32} (hL : L ≤ 256) (C0 : lw_At p s m meth c b L xs) {D : va_G} {dZ dI : ClassId} {h h2 : Nat} {q q2 : Nat → Nat} (cx : gw_cx p s m #[Value.ref b] c code 4 "ChunkArrayLaw" D (xw_T dZ dI) (gl_A s)) {i : Nat} (hi : i + 4 ≤ L) (next : ∀ (σ τ : ca_S) (H : Heap) (locs : List Loc) (ls : Array Slot), cr_R σ τ → gl_W D (gl_A s) s.heap dZ dI h q h2 q2 σ τ H locs → lv_has ls 4 [(3, .int (nI i)), (2, .ref h2), (1, .ref h), (0, .ref b)] → W p l e room_1 s m #[Value.ref b] below meth c H locs 17 3740 (lw_Z below #[Value.ref b] s) (F0 m 529 ls [])) {σ τ : ca_S} (hR : cr_R σ τ) {H : Heap} {locs : List Loc} {ls : Array Slot} (hw : gl_W D (gl_A s) s.heap dZ dI h q h2 q2 σ τ H locs) (hl : lv_has ls 4 [(3, .int (nI i)), (2, .ref h2), (1, .ref h), (0, .ref b)]) : W p l e room_1 s m #[Value.ref b] below meth c H locs 17 3740 (lw_Z below #[Value.ref b] s) (F0 m 364 ls []) := by
  have hx := cx.1
  have hb := cx.2.1
  obtain ⟨-, -, hr, hml, -, -, hX, hbl, hlocks, -⟩ := id C0
  have hbA : ¬ gl_A s b := Nat.not_le.mpr hbl
  have hok : ca_ok σ := hR.1.1
  refine lv_aload_n hx hb dL_law_364 rfl (lv_at hl 2 rfl) ?_
  refine lv_aload_n hx hb dL_law_365 rfl (lv_at hl 3 rfl) ?_
  refine lv_iload_n hx hb dL_law_366 rfl (lv_at hl 0 rfl) ?_
  refine lv_iconst (v := nI 1) hx hb dL_law_367 (by decide) ?_
  refine nw_add hx hb dL_law_368 ?_
  refine va_sld hx hb hX hbl hbA hw.2.2 (vp_in_nI (n := i + 1) (by omega) (by omega)) dL_law_369 ?_
  refine gw_top (w := xs (i + 1)) (by rw [ca_cl (n := i + 1) (by omega)]) ?_
  refine lv_aload_n hx hb dL_law_370 rfl (lv_at hl 3 rfl) ?_
  refine lv_iload_n hx hb dL_law_371 rfl (lv_at hl 0 rfl) ?_
  refine lv_iconst (v := nI 2) hx hb dL_law_372 (by decide) ?_
  refine nw_add hx hb dL_law_373 ?_
  refine va_sld hx hb hX hbl hbA hw.2.2 (vp_in_nI (n := i + 2) (by omega) (by omega)) dL_law_374 ?_
  refine gw_top (w := xs (i + 2)) (by rw [ca_cl (n := i + 2) (by omega)]) ?_
  refine gl_callX (As := [.int (xs (i + 1)), .int (xs (i + 2))]) (rest := []) cx (mtX0_getOf l D dZ dI h q σ hok (xs (i + 1)) (xs (i + 2))) gl_kX0_getOf ⟨Nat.le_of_ble_eq_true rfl, Nat.le_of_ble_eq_true rfl, rfl, rfl⟩ hl.1 rfl rfl (Nat.le_of_ble_eq_true rfl) dL_law_375 ⟨Nat.le_of_ble_eq_true rfl, Nat.le_of_ble_eq_true rfl⟩ hw (fun H locs hw => ?_)
  refine lv_aload_n hx hb dL_law_378 rfl (lv_at hl 1 rfl) ?_
  refine lv_aload_n hx hb dL_law_379 rfl (lv_at hl 3 rfl) ?_
  refine lv_iload_n hx hb dL_law_380 rfl (lv_at hl 0 rfl) ?_
  refine lv_iconst (v := nI 1) hx hb dL_law_381 (by decide) ?_
  refine nw_add hx hb dL_law_382 ?_
  refine va_sld hx hb hX hbl hbA hw.2.2 (vp_in_nI (n := i + 1) (by omega) (by omega)) dL_law_383 ?_
  refine gw_top (w := xs (i + 1)) (by rw [ca_cl (n := i + 1) (by omega)]) ?_
  refine lv_aload_n hx hb dL_law_384 rfl (lv_at hl 3 rfl) ?_
  refine lv_iload_n hx hb dL_law_385 rfl (lv_at hl 0 rfl) ?_
  refine lv_iconst (v := nI 2) hx hb dL_law_386 (by decide) ?_
  refine nw_add hx hb dL_law_387 ?_
  refine va_sld hx hb hX hbl hbA hw.2.2 (vp_in_nI (n := i + 2) (by omega) (by omega)) dL_law_388 ?_
  refine gw_top (w := xs (i + 2)) (by rw [ca_cl (n := i + 2) (by omega)]) ?_
  refine gl_callM (As := [.int (xs (i + 1)), .int (xs (i + 2))]) (rest := [.int (ca_goR (xs (i + 1)) (xs (i + 2)) σ)]) cx (mtX1_getOf l D dZ dI h2 q2 τ (xs (i + 1)) (xs (i + 2))) gl_kX1_getOf ⟨Nat.le_of_ble_eq_true rfl, Nat.le_of_ble_eq_true rfl, rfl, rfl⟩ hl.1 rfl rfl (Nat.le_of_ble_eq_true rfl) dL_law_389 ⟨Nat.le_of_ble_eq_true rfl, Nat.le_of_ble_eq_true rfl⟩ hw (fun H locs hw => ?_)
  refine lv_icmp_eq (tgt := 529) hx hb dL_law_392 (by decide) (fun h1 => ?_) (fun h1 => ?_)
  · exact next _ _ _ _ _ ((⟨cr_go hR (xs (i + 1)) (xs (i + 2)), hR⟩ : _ ∧ _)).2 hw hl
  · exact absurd ((⟨cr_go hR (xs (i + 1)) (xs (i + 2)), hR⟩ : _ ∧ _)).1 h1
set_option maxHeartbeats 1000000 in
set_option maxRecDepth 100000 in
theorem gl_case9 {p : Program} {e : Env} {s : State} {m : MethodId} {below : List Frame} {meth : Method} {c : Code} (l : Launch) {b L : Nat} {xs : Nat → Int32} (hL : L ≤ 256) (C0 : lw_At p s m meth c b L xs) {D : va_G} {dZ dI : ClassId} {h h2 : Nat} {q q2 : Nat → Nat} (cx : gw_cx p s m #[Value.ref b] c code 4 "ChunkArrayLaw" D (xw_T dZ dI) (gl_A s)) {i : Nat} (hi : i + 4 ≤ L) (next : ∀ (σ τ : ca_S) (H : Heap) (locs : List Loc) (ls : Array Slot), cr_R σ τ → gl_W D (gl_A s) s.heap dZ dI h q h2 q2 σ τ H locs → lv_has ls 4 [(3, .int (nI i)), (2, .ref h2), (1, .ref h), (0, .ref b)] → W p l e room_1 s m #[Value.ref b] below meth c H locs 17 3740 (lw_Z below #[Value.ref b] s) (F0 m 529 ls [])) {σ τ : ca_S} (hR : cr_R σ τ) {H : Heap} {locs : List Loc} {ls : Array Slot} (hw : gl_W D (gl_A s) s.heap dZ dI h q h2 q2 σ τ H locs) (hl : lv_has ls 4 [(3, .int (nI i)), (2, .ref h2), (1, .ref h), (0, .ref b)]) : W p l e room_1 s m #[Value.ref b] below meth c H locs 17 3740 (lw_Z below #[Value.ref b] s) (F0 m 397 ls []) := by
  have hx := cx.1
  have hb := cx.2.1
  obtain ⟨-, -, hr, hml, -, -, hX, hbl, hlocks, -⟩ := id C0
  have hbA : ¬ gl_A s b := Nat.not_le.mpr hbl
  have hok : ca_ok σ := hR.1.1
  refine lv_aload_n hx hb dL_law_397 rfl (lv_at hl 2 rfl) ?_
  refine lv_aload_n hx hb dL_law_398 rfl (lv_at hl 3 rfl) ?_
  refine lv_iload_n hx hb dL_law_399 rfl (lv_at hl 0 rfl) ?_
  refine lv_iconst (v := nI 1) hx hb dL_law_400 (by decide) ?_
  refine nw_add hx hb dL_law_401 ?_
  refine va_sld hx hb hX hbl hbA hw.2.2 (vp_in_nI (n := i + 1) (by omega) (by omega)) dL_law_402 ?_
  refine gw_top (w := xs (i + 1)) (by rw [ca_cl (n := i + 1) (by omega)]) ?_
  refine lv_aload_n hx hb dL_law_403 rfl (lv_at hl 3 rfl) ?_
  refine lv_iload_n hx hb dL_law_404 rfl (lv_at hl 0 rfl) ?_
  refine lv_iconst (v := nI 2) hx hb dL_law_405 (by decide) ?_
  refine nw_add hx hb dL_law_406 ?_
  refine va_sld hx hb hX hbl hbA hw.2.2 (vp_in_nI (n := i + 2) (by omega) (by omega)) dL_law_407 ?_
  refine gw_top (w := xs (i + 2)) (by rw [ca_cl (n := i + 2) (by omega)]) ?_
  refine gl_callX (As := [.int (xs (i + 1)), .int (xs (i + 2))]) (rest := []) cx (mtX0_sum l D dZ dI h q σ hok (xs (i + 1)) (xs (i + 2))) gl_kX0_sum ⟨Nat.le_of_ble_eq_true rfl, Nat.le_of_ble_eq_true rfl, rfl, rfl⟩ hl.1 rfl rfl (Nat.le_of_ble_eq_true rfl) dL_law_408 ⟨Nat.le_of_ble_eq_true rfl, Nat.le_of_ble_eq_true rfl⟩ hw (fun H locs hw => ?_)
  refine lv_aload_n hx hb dL_law_411 rfl (lv_at hl 1 rfl) ?_
  refine lv_aload_n hx hb dL_law_412 rfl (lv_at hl 3 rfl) ?_
  refine lv_iload_n hx hb dL_law_413 rfl (lv_at hl 0 rfl) ?_
  refine lv_iconst (v := nI 1) hx hb dL_law_414 (by decide) ?_
  refine nw_add hx hb dL_law_415 ?_
  refine va_sld hx hb hX hbl hbA hw.2.2 (vp_in_nI (n := i + 1) (by omega) (by omega)) dL_law_416 ?_
  refine gw_top (w := xs (i + 1)) (by rw [ca_cl (n := i + 1) (by omega)]) ?_
  refine lv_aload_n hx hb dL_law_417 rfl (lv_at hl 3 rfl) ?_
  refine lv_iload_n hx hb dL_law_418 rfl (lv_at hl 0 rfl) ?_
  refine lv_iconst (v := nI 2) hx hb dL_law_419 (by decide) ?_
  refine nw_add hx hb dL_law_420 ?_
  refine va_sld hx hb hX hbl hbA hw.2.2 (vp_in_nI (n := i + 2) (by omega) (by omega)) dL_law_421 ?_
  refine gw_top (w := xs (i + 2)) (by rw [ca_cl (n := i + 2) (by omega)]) ?_
  refine gl_callM (As := [.int (xs (i + 1)), .int (xs (i + 2))]) (rest := [.int (ca_suR (xs (i + 1)) (xs (i + 2)) σ)]) cx (mtX1_sum l D dZ dI h2 q2 τ (xs (i + 1)) (xs (i + 2))) gl_kX1_sum ⟨Nat.le_of_ble_eq_true rfl, Nat.le_of_ble_eq_true rfl, rfl, rfl⟩ hl.1 rfl rfl (Nat.le_of_ble_eq_true rfl) dL_law_422 ⟨Nat.le_of_ble_eq_true rfl, Nat.le_of_ble_eq_true rfl⟩ hw (fun H locs hw => ?_)
  refine lv_icmp_eq (tgt := 529) hx hb dL_law_425 (by decide) (fun h1 => ?_) (fun h1 => ?_)
  · exact next _ _ _ _ _ (cr_su hR (xs (i + 1)) (xs (i + 2))).2 hw hl
  · exact absurd (cr_su hR (xs (i + 1)) (xs (i + 2))).1 h1
set_option maxHeartbeats 1000000 in
set_option maxRecDepth 100000 in
theorem gl_case10 {p : Program} {e : Env} {s : State} {m : MethodId} {below : List Frame} {meth : Method} {c : Code} (l : Launch) {b L : Nat} {xs : Nat → Int32} (hL : L ≤ 256) (C0 : lw_At p s m meth c b L xs) {D : va_G} {dZ dI : ClassId} {h h2 : Nat} {q q2 : Nat → Nat} (cx : gw_cx p s m #[Value.ref b] c code 4 "ChunkArrayLaw" D (xw_T dZ dI) (gl_A s)) {i : Nat} (hi : i + 4 ≤ L) (next : ∀ (σ τ : ca_S) (H : Heap) (locs : List Loc) (ls : Array Slot), cr_R σ τ → gl_W D (gl_A s) s.heap dZ dI h q h2 q2 σ τ H locs → lv_has ls 4 [(3, .int (nI i)), (2, .ref h2), (1, .ref h), (0, .ref b)] → W p l e room_1 s m #[Value.ref b] below meth c H locs 17 3740 (lw_Z below #[Value.ref b] s) (F0 m 529 ls [])) {σ τ : ca_S} (hR : cr_R σ τ) {H : Heap} {locs : List Loc} {ls : Array Slot} (hw : gl_W D (gl_A s) s.heap dZ dI h q h2 q2 σ τ H locs) (hl : lv_has ls 4 [(3, .int (nI i)), (2, .ref h2), (1, .ref h), (0, .ref b)]) : W p l e room_1 s m #[Value.ref b] below meth c H locs 17 3740 (lw_Z below #[Value.ref b] s) (F0 m 430 ls []) := by
  have hx := cx.1
  have hb := cx.2.1
  obtain ⟨-, -, hr, hml, -, -, hX, hbl, hlocks, -⟩ := id C0
  have hbA : ¬ gl_A s b := Nat.not_le.mpr hbl
  have hok : ca_ok σ := hR.1.1
  refine lv_aload_n hx hb dL_law_430 rfl (lv_at hl 2 rfl) ?_
  refine lv_aload_n hx hb dL_law_431 rfl (lv_at hl 3 rfl) ?_
  refine lv_iload_n hx hb dL_law_432 rfl (lv_at hl 0 rfl) ?_
  refine lv_iconst (v := nI 1) hx hb dL_law_433 (by decide) ?_
  refine nw_add hx hb dL_law_434 ?_
  refine va_sld hx hb hX hbl hbA hw.2.2 (vp_in_nI (n := i + 1) (by omega) (by omega)) dL_law_435 ?_
  refine gw_top (w := xs (i + 1)) (by rw [ca_cl (n := i + 1) (by omega)]) ?_
  refine lv_aload_n hx hb dL_law_436 rfl (lv_at hl 3 rfl) ?_
  refine lv_iload_n hx hb dL_law_437 rfl (lv_at hl 0 rfl) ?_
  refine lv_iconst (v := nI 2) hx hb dL_law_438 (by decide) ?_
  refine nw_add hx hb dL_law_439 ?_
  refine va_sld hx hb hX hbl hbA hw.2.2 (vp_in_nI (n := i + 2) (by omega) (by omega)) dL_law_440 ?_
  refine gw_top (w := xs (i + 2)) (by rw [ca_cl (n := i + 2) (by omega)]) ?_
  refine gl_callX (As := [.int (xs (i + 1)), .int (xs (i + 2))]) (rest := []) cx (mtX0_greatest l D dZ dI h q σ hok (xs (i + 1)) (xs (i + 2))) gl_kX0_greatest ⟨Nat.le_of_ble_eq_true rfl, Nat.le_of_ble_eq_true rfl, rfl, rfl⟩ hl.1 rfl rfl (Nat.le_of_ble_eq_true rfl) dL_law_441 ⟨Nat.le_of_ble_eq_true rfl, Nat.le_of_ble_eq_true rfl⟩ hw (fun H locs hw => ?_)
  refine lv_aload_n hx hb dL_law_444 rfl (lv_at hl 1 rfl) ?_
  refine lv_aload_n hx hb dL_law_445 rfl (lv_at hl 3 rfl) ?_
  refine lv_iload_n hx hb dL_law_446 rfl (lv_at hl 0 rfl) ?_
  refine lv_iconst (v := nI 1) hx hb dL_law_447 (by decide) ?_
  refine nw_add hx hb dL_law_448 ?_
  refine va_sld hx hb hX hbl hbA hw.2.2 (vp_in_nI (n := i + 1) (by omega) (by omega)) dL_law_449 ?_
  refine gw_top (w := xs (i + 1)) (by rw [ca_cl (n := i + 1) (by omega)]) ?_
  refine lv_aload_n hx hb dL_law_450 rfl (lv_at hl 3 rfl) ?_
  refine lv_iload_n hx hb dL_law_451 rfl (lv_at hl 0 rfl) ?_
  refine lv_iconst (v := nI 2) hx hb dL_law_452 (by decide) ?_
  refine nw_add hx hb dL_law_453 ?_
  refine va_sld hx hb hX hbl hbA hw.2.2 (vp_in_nI (n := i + 2) (by omega) (by omega)) dL_law_454 ?_
  refine gw_top (w := xs (i + 2)) (by rw [ca_cl (n := i + 2) (by omega)]) ?_
  refine gl_callM (As := [.int (xs (i + 1)), .int (xs (i + 2))]) (rest := [.int (ca_geR (xs (i + 1)) (xs (i + 2)) σ)]) cx (mtX1_greatest l D dZ dI h2 q2 τ (xs (i + 1)) (xs (i + 2))) gl_kX1_greatest ⟨Nat.le_of_ble_eq_true rfl, Nat.le_of_ble_eq_true rfl, rfl, rfl⟩ hl.1 rfl rfl (Nat.le_of_ble_eq_true rfl) dL_law_455 ⟨Nat.le_of_ble_eq_true rfl, Nat.le_of_ble_eq_true rfl⟩ hw (fun H locs hw => ?_)
  refine lv_icmp_eq (tgt := 529) hx hb dL_law_458 (by decide) (fun h1 => ?_) (fun h1 => ?_)
  · exact next _ _ _ _ _ (cr_ge hR (xs (i + 1)) (xs (i + 2))).2 hw hl
  · exact absurd (cr_ge hR (xs (i + 1)) (xs (i + 2))).1 h1
set_option maxHeartbeats 1000000 in
set_option maxRecDepth 100000 in
theorem gl_case11 {p : Program} {e : Env} {s : State} {m : MethodId} {below : List Frame} {meth : Method} {c : Code} (l : Launch) {b L : Nat} {xs : Nat → Int32} (hL : L ≤ 256) (C0 : lw_At p s m meth c b L xs) {D : va_G} {dZ dI : ClassId} {h h2 : Nat} {q q2 : Nat → Nat} (cx : gw_cx p s m #[Value.ref b] c code 4 "ChunkArrayLaw" D (xw_T dZ dI) (gl_A s)) {i : Nat} (hi : i + 4 ≤ L) (next : ∀ (σ τ : ca_S) (H : Heap) (locs : List Loc) (ls : Array Slot), cr_R σ τ → gl_W D (gl_A s) s.heap dZ dI h q h2 q2 σ τ H locs → lv_has ls 4 [(3, .int (nI i)), (2, .ref h2), (1, .ref h), (0, .ref b)] → W p l e room_1 s m #[Value.ref b] below meth c H locs 17 3740 (lw_Z below #[Value.ref b] s) (F0 m 529 ls [])) {σ τ : ca_S} (hR : cr_R σ τ) {H : Heap} {locs : List Loc} {ls : Array Slot} (hw : gl_W D (gl_A s) s.heap dZ dI h q h2 q2 σ τ H locs) (hl : lv_has ls 4 [(3, .int (nI i)), (2, .ref h2), (1, .ref h), (0, .ref b)]) : W p l e room_1 s m #[Value.ref b] below meth c H locs 17 3740 (lw_Z below #[Value.ref b] s) (F0 m 463 ls []) := by
  have hx := cx.1
  have hb := cx.2.1
  obtain ⟨-, -, hr, hml, -, -, hX, hbl, hlocks, -⟩ := id C0
  have hbA : ¬ gl_A s b := Nat.not_le.mpr hbl
  have hok : ca_ok σ := hR.1.1
  refine lv_aload_n hx hb dL_law_463 rfl (lv_at hl 2 rfl) ?_
  refine lv_aload_n hx hb dL_law_464 rfl (lv_at hl 3 rfl) ?_
  refine lv_iload_n hx hb dL_law_465 rfl (lv_at hl 0 rfl) ?_
  refine lv_iconst (v := nI 1) hx hb dL_law_466 (by decide) ?_
  refine nw_add hx hb dL_law_467 ?_
  refine va_sld hx hb hX hbl hbA hw.2.2 (vp_in_nI (n := i + 1) (by omega) (by omega)) dL_law_468 ?_
  refine gw_top (w := xs (i + 1)) (by rw [ca_cl (n := i + 1) (by omega)]) ?_
  refine gl_callX (As := [.int (xs (i + 1))]) (rest := []) cx (mtX0_differ l D dZ dI h q σ hok (xs (i + 1))) gl_kX0_differ ⟨Nat.le_of_ble_eq_true rfl, Nat.le_of_ble_eq_true rfl, rfl, rfl⟩ hl.1 rfl rfl (Nat.le_of_ble_eq_true rfl) dL_law_469 ⟨Nat.le_of_ble_eq_true rfl, Nat.le_of_ble_eq_true rfl⟩ hw (fun H locs hw => ?_)
  refine lv_aload_n hx hb dL_law_472 rfl (lv_at hl 1 rfl) ?_
  refine lv_aload_n hx hb dL_law_473 rfl (lv_at hl 3 rfl) ?_
  refine lv_iload_n hx hb dL_law_474 rfl (lv_at hl 0 rfl) ?_
  refine lv_iconst (v := nI 1) hx hb dL_law_475 (by decide) ?_
  refine nw_add hx hb dL_law_476 ?_
  refine va_sld hx hb hX hbl hbA hw.2.2 (vp_in_nI (n := i + 1) (by omega) (by omega)) dL_law_477 ?_
  refine gw_top (w := xs (i + 1)) (by rw [ca_cl (n := i + 1) (by omega)]) ?_
  refine gl_callM (As := [.int (xs (i + 1))]) (rest := [.int (ca_dfR (xs (i + 1)) σ)]) cx (mtX1_differ l D dZ dI h2 q2 τ (xs (i + 1))) gl_kX1_differ ⟨Nat.le_of_ble_eq_true rfl, Nat.le_of_ble_eq_true rfl, rfl, rfl⟩ hl.1 rfl rfl (Nat.le_of_ble_eq_true rfl) dL_law_478 ⟨Nat.le_of_ble_eq_true rfl, Nat.le_of_ble_eq_true rfl⟩ hw (fun H locs hw => ?_)
  refine lv_icmp_eq (tgt := 529) hx hb dL_law_481 (by decide) (fun h1 => ?_) (fun h1 => ?_)
  · exact next _ _ _ _ _ ((⟨(cr_rs hR (xs (i + 1))).1, hR⟩ : _ ∧ _)).2 hw hl
  · exact absurd ((⟨(cr_rs hR (xs (i + 1))).1, hR⟩ : _ ∧ _)).1 h1
set_option maxHeartbeats 1000000 in
set_option maxRecDepth 100000 in
theorem gl_case12 {p : Program} {e : Env} {s : State} {m : MethodId} {below : List Frame} {meth : Method} {c : Code} (l : Launch) {b L : Nat} {xs : Nat → Int32} (hL : L ≤ 256) (C0 : lw_At p s m meth c b L xs) {D : va_G} {dZ dI : ClassId} {h h2 : Nat} {q q2 : Nat → Nat} (cx : gw_cx p s m #[Value.ref b] c code 4 "ChunkArrayLaw" D (xw_T dZ dI) (gl_A s)) {i : Nat} (hi : i + 4 ≤ L) (next : ∀ (σ τ : ca_S) (H : Heap) (locs : List Loc) (ls : Array Slot), cr_R σ τ → gl_W D (gl_A s) s.heap dZ dI h q h2 q2 σ τ H locs → lv_has ls 4 [(3, .int (nI i)), (2, .ref h2), (1, .ref h), (0, .ref b)] → W p l e room_1 s m #[Value.ref b] below meth c H locs 17 3740 (lw_Z below #[Value.ref b] s) (F0 m 529 ls [])) {σ τ : ca_S} (hR : cr_R σ τ) {H : Heap} {locs : List Loc} {ls : Array Slot} (hw : gl_W D (gl_A s) s.heap dZ dI h q h2 q2 σ τ H locs) (hl : lv_has ls 4 [(3, .int (nI i)), (2, .ref h2), (1, .ref h), (0, .ref b)]) : W p l e room_1 s m #[Value.ref b] below meth c H locs 17 3740 (lw_Z below #[Value.ref b] s) (F0 m 486 ls []) := by
  have hx := cx.1
  have hb := cx.2.1
  obtain ⟨-, -, hr, hml, -, -, hX, hbl, hlocks, -⟩ := id C0
  have hbA : ¬ gl_A s b := Nat.not_le.mpr hbl
  have hok : ca_ok σ := hR.1.1
  refine lv_aload_n hx hb dL_law_486 rfl (lv_at hl 2 rfl) ?_
  refine lv_aload_n hx hb dL_law_487 rfl (lv_at hl 3 rfl) ?_
  refine lv_iload_n hx hb dL_law_488 rfl (lv_at hl 0 rfl) ?_
  refine lv_iconst (v := nI 1) hx hb dL_law_489 (by decide) ?_
  refine nw_add hx hb dL_law_490 ?_
  refine va_sld hx hb hX hbl hbA hw.2.2 (vp_in_nI (n := i + 1) (by omega) (by omega)) dL_law_491 ?_
  refine gw_top (w := xs (i + 1)) (by rw [ca_cl (n := i + 1) (by omega)]) ?_
  refine lv_aload_n hx hb dL_law_492 rfl (lv_at hl 3 rfl) ?_
  refine lv_iload_n hx hb dL_law_493 rfl (lv_at hl 0 rfl) ?_
  refine lv_iconst (v := nI 2) hx hb dL_law_494 (by decide) ?_
  refine nw_add hx hb dL_law_495 ?_
  refine va_sld hx hb hX hbl hbA hw.2.2 (vp_in_nI (n := i + 2) (by omega) (by omega)) dL_law_496 ?_
  refine gw_top (w := xs (i + 2)) (by rw [ca_cl (n := i + 2) (by omega)]) ?_
  refine lv_aload_n hx hb dL_law_497 rfl (lv_at hl 3 rfl) ?_
  refine lv_iload_n hx hb dL_law_498 rfl (lv_at hl 0 rfl) ?_
  refine lv_iconst (v := nI 3) hx hb dL_law_499 (by decide) ?_
  refine nw_add hx hb dL_law_500 ?_
  refine va_sld hx hb hX hbl hbA hw.2.2 (vp_in_nI (n := i + 3) (by omega) (by omega)) dL_law_501 ?_
  refine gw_top (w := xs (i + 3)) (by rw [ca_cl (n := i + 3) (by omega)]) ?_
  refine gl_callX (As := [.int (xs (i + 1)), .int (xs (i + 2)), .int (xs (i + 3))]) (rest := []) cx (mtX0_count l D dZ dI h q σ hok (xs (i + 1)) (xs (i + 2)) (xs (i + 3))) gl_kX0_count ⟨Nat.le_of_ble_eq_true rfl, Nat.le_of_ble_eq_true rfl, rfl, rfl⟩ hl.1 rfl rfl (Nat.le_of_ble_eq_true rfl) dL_law_502 ⟨Nat.le_of_ble_eq_true rfl, Nat.le_of_ble_eq_true rfl⟩ hw (fun H locs hw => ?_)
  refine lv_aload_n hx hb dL_law_505 rfl (lv_at hl 1 rfl) ?_
  refine lv_aload_n hx hb dL_law_506 rfl (lv_at hl 3 rfl) ?_
  refine lv_iload_n hx hb dL_law_507 rfl (lv_at hl 0 rfl) ?_
  refine lv_iconst (v := nI 1) hx hb dL_law_508 (by decide) ?_
  refine nw_add hx hb dL_law_509 ?_
  refine va_sld hx hb hX hbl hbA hw.2.2 (vp_in_nI (n := i + 1) (by omega) (by omega)) dL_law_510 ?_
  refine gw_top (w := xs (i + 1)) (by rw [ca_cl (n := i + 1) (by omega)]) ?_
  refine lv_aload_n hx hb dL_law_511 rfl (lv_at hl 3 rfl) ?_
  refine lv_iload_n hx hb dL_law_512 rfl (lv_at hl 0 rfl) ?_
  refine lv_iconst (v := nI 2) hx hb dL_law_513 (by decide) ?_
  refine nw_add hx hb dL_law_514 ?_
  refine va_sld hx hb hX hbl hbA hw.2.2 (vp_in_nI (n := i + 2) (by omega) (by omega)) dL_law_515 ?_
  refine gw_top (w := xs (i + 2)) (by rw [ca_cl (n := i + 2) (by omega)]) ?_
  refine lv_aload_n hx hb dL_law_516 rfl (lv_at hl 3 rfl) ?_
  refine lv_iload_n hx hb dL_law_517 rfl (lv_at hl 0 rfl) ?_
  refine lv_iconst (v := nI 3) hx hb dL_law_518 (by decide) ?_
  refine nw_add hx hb dL_law_519 ?_
  refine va_sld hx hb hX hbl hbA hw.2.2 (vp_in_nI (n := i + 3) (by omega) (by omega)) dL_law_520 ?_
  refine gw_top (w := xs (i + 3)) (by rw [ca_cl (n := i + 3) (by omega)]) ?_
  refine gl_callM (As := [.int (xs (i + 1)), .int (xs (i + 2)), .int (xs (i + 3))]) (rest := [.int (ca_ctR (xs (i + 1)) (xs (i + 2)) (xs (i + 3)) σ)]) cx (mtX1_count l D dZ dI h2 q2 τ (xs (i + 1)) (xs (i + 2)) (xs (i + 3))) gl_kX1_count ⟨Nat.le_of_ble_eq_true rfl, Nat.le_of_ble_eq_true rfl, rfl, rfl⟩ hl.1 rfl rfl (Nat.le_of_ble_eq_true rfl) dL_law_521 ⟨Nat.le_of_ble_eq_true rfl, Nat.le_of_ble_eq_true rfl⟩ hw (fun H locs hw => ?_)
  refine lv_icmp_eq (tgt := 529) hx hb dL_law_524 (by decide) (fun h1 => ?_) (fun h1 => ?_)
  · exact next _ _ _ _ _ (cr_ct hR (xs (i + 1)) (xs (i + 2)) (xs (i + 3))).2 hw hl
  · exact absurd (cr_ct hR (xs (i + 1)) (xs (i + 2)) (xs (i + 3))).1 h1
set_option maxHeartbeats 1000000 in
set_option maxRecDepth 100000 in
theorem gl_loop {p : Program} {e : Env} {s : State} {m : MethodId} {below : List Frame} {meth : Method} {c : Code} (l : Launch) {b L : Nat} {xs : Nat → Int32} (hL : L ≤ 256) (C0 : lw_At p s m meth c b L xs) {D : va_G} {dZ dI : ClassId} {h h2 : Nat} {q q2 : Nat → Nat} (cx : gw_cx p s m #[Value.ref b] c code 4 "ChunkArrayLaw" D (xw_T dZ dI) (gl_A s)) : ∀ (n i : Nat) (σ τ : ca_S), i ≤ 300 → L < i + n → cr_R σ τ → ∀ (H : Heap) (locs : List Loc) (ls : Array Slot), gl_W D (gl_A s) s.heap dZ dI h q h2 q2 σ τ H locs → lv_has ls 4 [(3, .int (nI i)), (2, .ref h2), (1, .ref h), (0, .ref b)] → W p l e room_1 s m #[Value.ref b] below meth c H locs 17 3740 (lw_Z below #[Value.ref b] s) (F0 m 18 ls []) := by
  have hx := cx.1
  have hb := cx.2.1
  obtain ⟨-, -, hr, hml, -, -, hX, hbl, hlocks, -⟩ := id C0
  have hbA : ¬ gl_A s b := Nat.not_le.mpr hbl
  have hend : ∀ (i : Nat) (σ τ : ca_S) (H : Heap) (locs : List Loc) (ls : Array Slot), gl_W D (gl_A s) s.heap dZ dI h q h2 q2 σ τ H locs → W p l e room_1 s m #[Value.ref b] below meth c H locs 17 3740 (lw_Z below #[Value.ref b] s) (F0 m 535 ls []) := by
    intro i σ τ H locs ls hw
    refine lv_iconst (v := 1) hx hb dL_law_535 (by decide) ?_
    refine va_forget (fun q hq => hw.2.2.2.2 q hq) ?_
    refine W.widen (k := 600000) (n := 7290000) (Nat.le_of_ble_eq_true rfl) (Nat.le_of_ble_eq_true rfl) ?_
    exact lw_ret hx hb hr hlocks dL_law_536
  intro n
  induction n with
  | zero =>
      intro i σ τ hi hn hR H locs ls hw hl
      refine lv_iload_n hx hb dL_law_18 rfl (lv_at hl 0 rfl) ?_
      refine lv_aload_n hx hb dL_law_19 rfl (lv_at hl 3 rfl) ?_
      refine va_slen hx hb hX hbl hbA hw.2.2 dL_law_20 ?_
      refine lv_iconst (v := nI 4) hx hb dL_law_21 (by decide) ?_
      refine lv_isub hx hb dL_law_22 ?_
      refine lv_icmp_gt (tgt := 535) hx hb dL_law_23 (by decide) (fun h1 => ?_) (fun h1 => ?_)
      · exact hend i σ τ H locs ls hw
      · exact absurd ((gl_gt (i := i) (L := L) (by omega) (by omega)).mpr (by omega)) h1
  | succ n ih =>
      intro i σ τ hi hn hR H locs ls hw hl
      refine lv_iload_n hx hb dL_law_18 rfl (lv_at hl 0 rfl) ?_
      refine lv_aload_n hx hb dL_law_19 rfl (lv_at hl 3 rfl) ?_
      refine va_slen hx hb hX hbl hbA hw.2.2 dL_law_20 ?_
      refine lv_iconst (v := nI 4) hx hb dL_law_21 (by decide) ?_
      refine lv_isub hx hb dL_law_22 ?_
      refine lv_icmp_gt (tgt := 535) hx hb dL_law_23 (by decide) (fun h1 => ?_) (fun h1 => ?_)
      · exact hend i σ τ H locs ls hw
      · have h3 : i + 4 ≤ L := Nat.le_of_not_lt (fun z => h1 ((gl_gt (i := i) (L := L) (by omega) (by omega)).mpr z))
        have next : ∀ (σ τ : ca_S) (H : Heap) (locs : List Loc) (ls : Array Slot), cr_R σ τ → gl_W D (gl_A s) s.heap dZ dI h q h2 q2 σ τ H locs → lv_has ls 4 [(3, .int (nI i)), (2, .ref h2), (1, .ref h), (0, .ref b)] → W p l e room_1 s m #[Value.ref b] below meth c H locs 17 3740 (lw_Z below #[Value.ref b] s) (F0 m 529 ls []) := by
          intro σ τ H locs ls hR hw hl
          refine lv_iinc (v := nI (i + 4)) (lv' := [(3, .int (nI (i + 4))), (2, .ref h2), (1, .ref h), (0, .ref b)]) hx hb dL_law_529 hl (k := 0) rfl (nI_add _ 4) (by decide) rfl (fun ls hl => ?_)
          refine lv_goto (tgt := 18) hx hb dL_law_532 (by decide) ?_
          exact ih (i + 4) σ τ (by omega) (by omega) hR H locs ls hw hl
        refine lv_aload_n hx hb dL_law_26 rfl (lv_at hl 3 rfl) ?_
        refine lv_iload_n hx hb dL_law_27 rfl (lv_at hl 0 rfl) ?_
        refine va_sld hx hb hX hbl hbA hw.2.2 (vp_in_nI (n := i) (by omega) (by omega)) dL_law_28 ?_
        refine gw_top (w := xs (i)) (by rw [ca_cl (n := i) (by omega)]) ?_
        refine lv_bipush (v := nI 15) hx hb dL_law_29 (by decide) ?_
        refine lv_iand hx hb dL_law_31 ?_
        obtain ⟨j, hj, ej⟩ := pk_andE (xs i) (m := nI 15) 4 (by decide)
        refine gw_top ej ?_
        have hj : j < 16 := hj
        rcases (show j = 0 ∨ j = 1 ∨ j = 2 ∨ j = 3 ∨ j = 4 ∨ j = 5 ∨ j = 6 ∨ j = 7 ∨ j = 8 ∨ j = 9 ∨ j = 10 ∨ j = 11 ∨ j = 12 ∨ j = 13 ∨ j = 14 ∨ j = 15 by omega) with rfl | rfl | rfl | rfl | rfl | rfl | rfl | rfl | rfl | rfl | rfl | rfl | rfl | rfl | rfl | rfl
        · refine lv_tableIn (off := 68) (tgt := 100) hx hb dL_law_32 (by decide) (by decide) (by decide) (by decide) ?_
          exact gl_case0 l hL C0 cx h3 next hR hw hl
        · refine lv_tableIn (off := 111) (tgt := 143) hx hb dL_law_32 (by decide) (by decide) (by decide) (by decide) ?_
          exact gl_case1 l hL C0 cx h3 next hR hw hl
        · refine lv_tableIn (off := 154) (tgt := 186) hx hb dL_law_32 (by decide) (by decide) (by decide) (by decide) ?_
          exact gl_case2 l hL C0 cx h3 next hR hw hl
        · refine lv_tableIn (off := 197) (tgt := 229) hx hb dL_law_32 (by decide) (by decide) (by decide) (by decide) ?_
          exact gl_case3 l hL C0 cx h3 next hR hw hl
        · refine lv_tableIn (off := 240) (tgt := 272) hx hb dL_law_32 (by decide) (by decide) (by decide) (by decide) ?_
          exact gl_case4 l hL C0 cx h3 next hR hw hl
        · refine lv_tableIn (off := 263) (tgt := 295) hx hb dL_law_32 (by decide) (by decide) (by decide) (by decide) ?_
          exact gl_case5 l hL C0 cx h3 next hR hw hl
        · refine lv_tableIn (off := 286) (tgt := 318) hx hb dL_law_32 (by decide) (by decide) (by decide) (by decide) ?_
          exact gl_case6 l hL C0 cx h3 next hR hw hl
        · refine lv_tableIn (off := 309) (tgt := 341) hx hb dL_law_32 (by decide) (by decide) (by decide) (by decide) ?_
          exact gl_case7 l hL C0 cx h3 next hR hw hl
        · refine lv_tableIn (off := 332) (tgt := 364) hx hb dL_law_32 (by decide) (by decide) (by decide) (by decide) ?_
          exact gl_case8 l hL C0 cx h3 next hR hw hl
        · refine lv_tableIn (off := 365) (tgt := 397) hx hb dL_law_32 (by decide) (by decide) (by decide) (by decide) ?_
          exact gl_case9 l hL C0 cx h3 next hR hw hl
        · refine lv_tableIn (off := 398) (tgt := 430) hx hb dL_law_32 (by decide) (by decide) (by decide) (by decide) ?_
          exact gl_case10 l hL C0 cx h3 next hR hw hl
        · refine lv_tableIn (off := 431) (tgt := 463) hx hb dL_law_32 (by decide) (by decide) (by decide) (by decide) ?_
          exact gl_case11 l hL C0 cx h3 next hR hw hl
        · refine lv_tableIn (off := 454) (tgt := 486) hx hb dL_law_32 (by decide) (by decide) (by decide) (by decide) ?_
          exact gl_case12 l hL C0 cx h3 next hR hw hl
        · refine lv_tableOut (tgt := 529) hx hb dL_law_32 (by decide) (by decide) ?_
          exact next σ τ H locs ls hR hw hl
        · refine lv_tableOut (tgt := 529) hx hb dL_law_32 (by decide) (by decide) ?_
          exact next σ τ H locs ls hR hw hl
        · refine lv_tableOut (tgt := 529) hx hb dL_law_32 (by decide) (by decide) ?_
          exact next σ τ H locs ls hR hw hl
set_option maxHeartbeats 1000000 in
set_option maxRecDepth 100000 in
/-- THE LAW, from its entry -/
theorem whole_start {p : Program} {e : Env} {s : State} {m : MethodId} {below : List Frame} {meth : Method} {c : Code} (l : Launch) {b L : Nat} {xs : Nat → Int32} (hL : L ≤ 256) (C0 : lw_At p s m meth c b L xs) : W p l e room_1 s m #[Value.ref b] below meth c s.heap [] 0 0 (lw_Z below #[Value.ref b] s) (entryFrame m ([Value.ref b] : List Value).toArray 4) := by
  obtain ⟨hx, hb, hr, hml, hown, hts0, hX, hbl, hlocks, hgv⟩ := id C0
  have hts : ∀ w ∈ lw_all, w.before #[Value.ref b] s = true := fun w h => hts0 w (lw_all_tbl h)
  have hA : ∀ q : Nat, s.heap.size ≤ q → gl_A s q := fun _ h => h
  have hbA : ¬ gl_A s b := Nat.not_le.mpr hbl
  obtain ⟨c0, iS0, hKn0⟩ := u_known (C := RX0) (T := TX0) (N := 15) (n := 15) hts0 (fun w h => lw_all_tbl (in_X0 w h)) (hts _ q29)
  obtain ⟨c1, iS1, hKn1⟩ := u_known (C := RX1) (T := TX1) (N := 4) (n := 4) hts0 (fun w h => lw_all_tbl (in_X1 w h)) (hts _ q229)
  obtain ⟨D, hKc⟩ : ∃ D : va_G, ∀ (k : Nat) (q : vw_C), gw_cl[k]? = some q → u_Kn s q.1 q.2.1 q.2.2 (D.1 k) (D.2 k) := by
    refine ⟨(fun k => if k = 0 then c0 else c1, fun k => if k = 0 then iS0 else iS1), ?_⟩
    intro k q hq
    match k, hq with
    | 0, hq => cases hq; exact hKn0
    | 1, hq => cases hq; exact hKn1
    | k + 2, hq => simp [gw_cl] at hq
  have hS : va_S (gl_A s) s.heap s.heap [] := va_S.rf
  have hK : va_K D gw_cl [] s := ⟨hKc, fun k q h => by simp at h⟩
  have hP : va_P D gw_cl [] s.heap := fun k q h => by simp at h
  have hD : va_D (gl_A s) [] := ⟨fun i j p q h => by simp at h, fun k q h => by simp at h⟩
  have hl := lv_entry ([.ref b]) (n := 4) (Nat.le_of_ble_eq_true rfl)
  rw [lg_entry_eq]
  generalize (lg_sl ([.ref b]) ++ List.replicate (4 - (lg_sl ([.ref b])).length) Slot.unset).toArray = ls at hl ⊢
  have hl : lv_has ls 4 [(0, .ref b)] := hl
  have hf0 : ∀ j, j < 15 → defaultValue (tyX0 j) = vp_V xw_f0 j := by decide
  have hf1 : ∀ j, j < 4 → defaultValue (tyX1 j) = vp_V mw_f0 j := by decide
  refine va_new (ci := 0) (fs := xw_f0) (C := RX0) (T := TX0) (N := 15) hx hb hts in_X0 tyX0 tyX0_ok hown (hts _ q28) (hts _ q29) (hts _ q26) hK hP hD hS hA rfl hf0 (Nat.le_of_ble_eq_true rfl) (Nat.le_of_ble_eq_true rfl) dL_law_0 (fun h H hP hD hS => ?_)
  have hP : va_P D gw_cl [(h, .inr (0, xw_f0))] H := hP
  have hD : va_D (gl_A s) [(h, .inr (0, xw_f0))] := hD
  refine lv_dup hx hb dL_law_3 rfl ?_
  have hFc := va_free (wc := [(h, .inr (0, xw_f0))]) hD hS hA [0] rfl
  refine va_callv (va_runI (As := []) (rest := [.ref h]) ⟨hx, hb, hml, hown, hts⟩ (mtX0_init l D h H.size) (cwI 0 hts (lw_meth q32) rfl rfl rfl (hts _ q26) (hts _ q30) (hts _ q31) rfl (by decide +kernel) ⟨Nat.le_of_ble_eq_true rfl, Nat.le_of_ble_eq_true rfl⟩) ⟨fun a U g mk q => by obtain ⟨q0, q1, qP, qK, qD⟩ := q; exact ⟨q0, q1, qP, va_K.moved (u := U) (U := U.calling g mk a) (Vm.Alike.refl U.vm) qK, qD⟩, fun U hU hW => ⟨rfl, by rw [hU], by rw [hU]; exact hP, va_K.moved hW.alike hK, hD.weaken (fun _ _ _ _ => trivial)⟩⟩ rfl rfl hl.1 rfl (lv_room (Nat.le_of_ble_eq_true rfl)) dL_law_4 ⟨Nat.le_of_ble_eq_true rfl, Nat.le_of_ble_eq_true rfl⟩) hS (fun q _ h => hFc q h) hFc (fun u t H1 locs ht hvm hw1 hB hz1 hk1 hS => ?_)
  obtain ⟨q, dZ, dI⟩ := u
  obtain ⟨hP1, hK1, hD1⟩ := hB
  have hP1 : va_P D gw_cl (xw_ws dZ dI h q ca_init) H1 := by rw [← ht]; exact hP1
  have hK : va_K D gw_cl (xw_T dZ dI) s := va_K.moved hvm.symm hK1
  have hD1 : va_D (gl_A s) (xw_ws dZ dI h q ca_init) := hD1.weaken (fun k x _ hx => hFc x.1 hx)
  refine lv_astore_n (lv' := [(1, .ref h), (0, .ref b)]) hx hb dL_law_7 rfl hl (by decide) rfl (fun ls hl => ?_)
  refine va_new (ci := 1) (fs := mw_f0) (C := RX1) (T := TX1) (N := 4) hx hb hts in_X1 tyX1 tyX1_ok hown (hts _ q228) (hts _ q229) (hts _ q27) hK hP1 hD1 hS hA rfl hf1 (Nat.le_of_ble_eq_true rfl) (Nat.le_of_ble_eq_true rfl) dL_law_8 (fun h2 H hP hD hS => ?_)
  refine lv_dup hx hb dL_law_11 rfl ?_
  have hPc := hP.sub (ws' := [(h2, .inr (1, mw_f0))]) [12] rfl
  have hDc := hD.sub (ws' := [(h2, .inr (1, mw_f0))]) [12] (by decide) rfl
  have hFc := va_free (wc := [(h2, .inr (1, mw_f0))]) hD hS hA [12] rfl
  refine va_callv (va_runI (As := []) (rest := [.ref h2]) ⟨hx, hb, hml, hown, hts⟩ (mtX1_init l D dZ dI h2 H.size) (cwI 0 hts (lw_meth q232) rfl rfl rfl (hts _ q27) (hts _ q230) (hts _ q231) rfl (by decide +kernel) ⟨Nat.le_of_ble_eq_true rfl, Nat.le_of_ble_eq_true rfl⟩) ⟨fun a U g mk q => by obtain ⟨q0, q1, qP, qK, qD⟩ := q; exact ⟨q0, q1, qP, va_K.moved (u := U) (U := U.calling g mk a) (Vm.Alike.refl U.vm) qK, qD⟩, fun U hU hW => ⟨rfl, by rw [hU], by rw [hU]; exact hPc, va_K.moved hW.alike hK, hDc.weaken (fun _ _ _ _ => trivial)⟩⟩ rfl rfl hl.1 rfl (lv_room (Nat.le_of_ble_eq_true rfl)) dL_law_12 ⟨Nat.le_of_ble_eq_true rfl, Nat.le_of_ble_eq_true rfl⟩) hS (fun q _ h => hFc q h) hFc (fun q2 t H1 locs ht hvm hw1 hB hz1 hk1 hS => ?_)
  obtain ⟨hP1, hK1, hD1⟩ := hB
  rw [ht] at hP1
  obtain ⟨hP, hD⟩ := va_join (wr := xw_ws dZ dI h q ca_init) (w1 := mw_ws dZ dI h2 q2 ca_z) hP hD [12] [0, 1, 2, 3, 4, 5, 6, 7, 8, 9, 10, 11] rfl rfl (by decide) (by decide) hk1 hFc hP1 hD1
  refine lv_astore_n (lv' := [(2, .ref h2), (1, .ref h), (0, .ref b)]) hx hb dL_law_15 rfl hl (by decide) rfl (fun ls hl => ?_)
  refine lv_iconst (v := nI 0) hx hb dL_law_16 (by decide) ?_
  refine lv_istore_n (lv' := [(3, .int (nI 0)), (2, .ref h2), (1, .ref h), (0, .ref b)]) hx hb dL_law_17 rfl hl (by decide) rfl (fun ls hl => ?_)
  refine W.widen (k := 17) (n := 3740) (Nat.le_of_ble_eq_true rfl) (Nat.le_of_ble_eq_true rfl) ?_
  have cx : gw_cx p s m #[Value.ref b] c code 4 "ChunkArrayLaw" D (xw_T dZ dI) (gl_A s) := ⟨hx, hb, hml, hown, hts, hK, hA⟩
  exact gl_loop l hL C0 cx (L + 1) 0 ca_init ca_z (by omega) (by omega) cr_init _ _ _ ⟨hP, hD, hS⟩ hl
end
section
set_option maxHeartbeats 4000000 in
theorem lw_walk (l : Launch) (b : Addr) (xs : List Int32) : MetFree l x (headSpec (Jvm.Cond.code x code maxLocals ret :: tables_1) room_1) (lw_P b xs) (fun _ _ _ _ _ => True) lw_Q := by
  refine MetFree.of_bodyS (code := code) (maxLocals := maxLocals) (ret := ret) (by decide) ?_ ?_
  · intro args s m h hn
    obtain ⟨meth, c, h1, h2, h3, h4, h5, h6, -, -⟩ := Cond.code_spec hn (atoms_spec (ws := Jvm.Cond.code x code maxLocals ret :: tables_1) h _ List.mem_cons_self)
    exact ⟨meth, c, h1, h2, h3, h4, h5, h6⟩
  · intro p e s m args below meth c s₁ B hml0 hP _
    obtain ⟨rfl, hx, hbd, hgv⟩ := hP
    obtain ⟨scr, harrAt, hlist, hof, hsmall⟩ := hx
    obtain ⟨hcb, hkn, -, -⟩ := State.arrayAt?_spec harrAt
    have hown : s.vm.findClass R_law = some m.cls := findClass_of_methodNamed B.named
    have hts0 : ∀ c ∈ (Jvm.Cond.code x code maxLocals ret :: tables_1), c.before #[Value.ref b] s = true := atoms_spec (ws := Jvm.Cond.code x code maxLocals ret :: tables_1) B.pre
    have hts : ∀ w ∈ lw_tbl, w.before #[Value.ref b] s = true := k2_hts_sels lw_privs (fun w hw => hts0 w (List.mem_cons_of_mem _ hw)) lw_privs_ok
    have hml : c.maxLocals = 4 := B.maxLocals_eq (hts0 _ List.mem_cons_self)
    have X₀ : Stand p l e room_1 s m #[Value.ref b] below meth c s₁ [] 0 0 := Stand.of_body B
    have hh0 : s₁.heap = s.heap := by rw [B.state]; rfl
    have hsz : scr.slots.size = xs.length := by rw [← Array.length_toList, hlist, List.length_map]
    have hval : ∀ j : Nat, j < xs.length → scr.slots[j]? = some (.int (xs.getD j 0)) := fun j hj => by
      rw [← Array.getElem?_toList, hlist]
      simp [hj]
    have hbl : b < s.heap.size := (Array.getElem?_eq_some_iff.mp hcb).1
    have hX : va_X b xs.length (fun j => xs.getD j 0) s s.heap := ⟨scr, hcb, hof, hkn, hsz, hval⟩
    have K : W p l e room_1 s m #[Value.ref b] below meth c s₁.heap [] 0 0 (lw_Z below #[Value.ref b] s) (entryFrame m ([Value.ref b] : List Value).toArray 4) := by
      rw [hh0]
      exact whole_start l hbd ⟨B.exec, B.bytes, B.returns, hml, hown, hts, hX, hbl, B.notSynchronized, hgv⟩
    obtain ⟨t, a1, o, b1, b2, b3⟩ := K s₁ rfl X₀
    exact ⟨t, o, a1, b1, b2, b3⟩
theorem lw_pre_spec {args : Array Value} {s : State} (h : (Jvm.Cond.and given_1 narrow_1).before args s = true) (hr : rest_1_c.before args s = true) : ∃ (b : Addr) (xs : List Int32), lw_P b xs args s := by
  have hs := flat_of_before _ h
  have hq := flat_of_before _ hr
  have hc : (Cond.count 1).before args s = true := hs _ (by decide +kernel)
  have harr : (Cond.arrayOf (.arg 0) .int).before args s = true := hs _ (by decide +kernel)
  have hle : (Cond.le (.length (.arg 0)) (.int 256)).before args s = true := hs _ (by decide +kernel)
  have hlen : (Cond.isInt (.length (.arg 0))).before args s = true := hq _ (by decide +kernel)
  have hall : (Cond.all (.arg 0) (.isInt (.elem (.arg 0) (.index 0)))).before args s = true := hq _ (by decide +kernel)
  obtain ⟨b, xs, hb, hx⟩ := State.ints_of_pre rfl harr hlen hall
  have hsm : xs.length < 2 ^ 31 := hx.choose_spec.2.2.2
  have hev : (Term.length (.arg 0)).eval args s none [] s = some (.int xs.length.toInt32) := hx.length_eval hb
  have hv := Cond.le_ints hev (show (Term.int 256).eval args s none [] s = some (.int 256) from rfl)
  have hd : xs.length.toInt32 ≤ 256 := by
    simpa [Cond.before, Cond.holds, hv] using hle
  have hN : xs.length ≤ 256 := (Int32.ofNat_le_ofNat hsm (by decide)).mp (show Int32.ofNat xs.length ≤ Int32.ofNat 256 from hd)
  exact ⟨b, xs, Cond.one_arg hc (show args[0]? = some (.ref b) from hb), hx, hN, h⟩
theorem lw_comes (l : Launch) : Comes l x (Jvm.Cond.code x code maxLocals ret :: tables_1) room_1 (fun tb e args s => Calls_1 tb e args s ∧ rest_1 tb e args s ∧ Pre_1 tb e args s)
    (fun _ _ args s o t => lw_Q args s o t) := by
  intro p e ha hc hk s m args below hf hfit hheap happ hpre
  obtain ⟨b, xs, hP⟩ := lw_pre_spec hpre.2.2 hpre.2.1
  obtain ⟨k, o, h1, h2, h3, hQ⟩ := lw_walk l b xs p e ha hc hk s m args below hf ((Spec.applies_iff_loose hf).mp happ).1 hP trivial
  exact ⟨k, o, h1, h2, h3, hQ⟩
theorem lw_frame {s t : State} {o : Outcome} {args : Array Value} (h : Framed s o t [] 600000 7290000) :
    Framed s o t (fieldLocs frame_1_writes args s ++ arrayLocs frame_1_arrays args s ++ staticLocs frame_1_statics s) 600000 7290000 := h
theorem lw_limb (L : Cond) (hL : ∀ (args : Array Value) (s t : State), L.after args s (.returned (some (.int 1))) t = true) :
    ArmFor flags0 classFile x code maxLocals ret World_1 tables_1 room_1 Calls_1 rest_1 Pre_1
      (fun tb e a s o t => postC L tb e a s o t ∧ Framed s o t (fieldLocs frame_1_writes a s ++ arrayLocs frame_1_arrays a s ++ staticLocs frame_1_statics s) 600000 7290000) := by
  intro l _ _ _ p e ha hc hk s m args below hf hfit hheap happ hpre
  obtain ⟨k, o, h1, h2, h3, rfl, hF⟩ := lw_comes l p e ha hc hk s m args below hf hfit hheap happ hpre
  exact ⟨k, _, h1, h2, h3, hL args s _, lw_frame hF⟩
theorem i_vc : Claimed_1_1 ∧ Claimed_1_2 := ⟨lw_limb limb_1_1 (fun args s t => by simp [limb_1_1, Cond.after, Cond.holds, Cond.value]), lw_limb limb_1_2 (fun args s t => Cond.after_iff.mpr (by
  first | (rw [show limb_1_2 = Cond.eq .result (.int 1) from rfl, Cond.eq_ints (x := 1) (y := 1) rfl rfl]; simp; done) | (simp [limb_1_2, Cond.value, Term.eval]; done)))⟩
end
