section
-- ===== PART A: goes FIRST, ahead of the names: the tables' words, and 'selects' of the private methods out of them =====
/-- a private method of a class that the tables say can be made, by its rows of tables_1 -/
def lw_okq (q : MethodName × Nat) : Prop := (q.1.cls ≠ "java/lang/invoke/MethodHandle" ∧ q.1.cls ≠ "java/lang/invoke/VarHandle") ∧ Cond.instantiable q.1.cls q.2 ∈ tables_1 ∧ Cond.privateMethod q.1 ∈ tables_1 ∧ Cond.instanceMethod q.1 ∈ tables_1
set_option maxRecDepth 100000
theorem lw_t1 {w : Cond} (h : w ∈ tables_1_1) : w ∈ tables_1 := List.mem_append_left _ h
theorem lw_t2 {w : Cond} (h : w ∈ tables_1_2) : w ∈ tables_1 := List.mem_append_right _ h
theorem lw_p0 : lw_okq (⟨"PolygonFrame", "pass", "(I[I[II)Z"⟩, 19) := ⟨⟨by decide +kernel, by decide +kernel⟩, lw_t1 (List.mem_of_getElem? (i := 4) rfl), lw_t1 (List.mem_of_getElem? (i := 97) rfl), lw_t1 (List.mem_of_getElem? (i := 98) rfl)⟩
theorem lw_p1 : lw_okq (⟨"PolygonFrame", "isGood", "(III)Z"⟩, 19) := ⟨⟨by decide +kernel, by decide +kernel⟩, lw_t1 (List.mem_of_getElem? (i := 4) rfl), lw_t1 (List.mem_of_getElem? (i := 101) rfl), lw_t1 (List.mem_of_getElem? (i := 102) rfl)⟩
theorem lw_p2 : lw_okq (⟨"PolygonFrame", "putCut", "(IIIII)Z"⟩, 19) := ⟨⟨by decide +kernel, by decide +kernel⟩, lw_t1 (List.mem_of_getElem? (i := 4) rfl), lw_t1 (List.mem_of_getElem? (i := 105) rfl), lw_t1 (List.mem_of_getElem? (i := 106) rfl)⟩
theorem lw_p3 : lw_okq (⟨"PolygonFrame", "put", "(II)Z"⟩, 19) := ⟨⟨by decide +kernel, by decide +kernel⟩, lw_t1 (List.mem_of_getElem? (i := 4) rfl), lw_t1 (List.mem_of_getElem? (i := 115) rfl), lw_t1 (List.mem_of_getElem? (i := 116) rfl)⟩
theorem lw_p4 : lw_okq (⟨"PolygonFrame", "lowOf", "(I)I"⟩, 19) := ⟨⟨by decide +kernel, by decide +kernel⟩, lw_t1 (List.mem_of_getElem? (i := 4) rfl), lw_t1 (List.mem_of_getElem? (i := 135) rfl), lw_t1 (List.mem_of_getElem? (i := 136) rfl)⟩
theorem lw_p5 : lw_okq (⟨"PolygonFrame", "nextOf", "(I)I"⟩, 19) := ⟨⟨by decide +kernel, by decide +kernel⟩, lw_t1 (List.mem_of_getElem? (i := 4) rfl), lw_t1 (List.mem_of_getElem? (i := 139) rfl), lw_t1 (List.mem_of_getElem? (i := 140) rfl)⟩
theorem lw_p6 : lw_okq (⟨"PolygonFrame", "highOf", "(I)I"⟩, 19) := ⟨⟨by decide +kernel, by decide +kernel⟩, lw_t1 (List.mem_of_getElem? (i := 4) rfl), lw_t1 (List.mem_of_getElem? (i := 143) rfl), lw_t1 (List.mem_of_getElem? (i := 144) rfl)⟩
theorem lw_p7 : lw_okq (⟨"PolygonFrame", "makeTable", "()I"⟩, 19) := ⟨⟨by decide +kernel, by decide +kernel⟩, lw_t1 (List.mem_of_getElem? (i := 4) rfl), lw_t1 (List.mem_of_getElem? (i := 151) rfl), lw_t1 (List.mem_of_getElem? (i := 152) rfl)⟩
theorem lw_p8 : lw_okq (⟨"PolygonFrame", "lastBefore", "(II)I"⟩, 19) := ⟨⟨by decide +kernel, by decide +kernel⟩, lw_t1 (List.mem_of_getElem? (i := 4) rfl), lw_t1 (List.mem_of_getElem? (i := 155) rfl), lw_t1 (List.mem_of_getElem? (i := 156) rfl)⟩
theorem lw_p9 : lw_okq (⟨"PolygonFrame", "sortActive", "(I)V"⟩, 19) := ⟨⟨by decide +kernel, by decide +kernel⟩, lw_t1 (List.mem_of_getElem? (i := 4) rfl), lw_t1 (List.mem_of_getElem? (i := 159) rfl), lw_t1 (List.mem_of_getElem? (i := 160) rfl)⟩
theorem lw_p10 : lw_okq (⟨"PolygonFrame", "paint", "(IIII)I"⟩, 19) := ⟨⟨by decide +kernel, by decide +kernel⟩, lw_t1 (List.mem_of_getElem? (i := 4) rfl), lw_t1 (List.mem_of_getElem? (i := 163) rfl), lw_t1 (List.mem_of_getElem? (i := 164) rfl)⟩
theorem lw_p11 : lw_okq (⟨"PolygonFrameModel", "pass", "(I)V"⟩, 17) := ⟨⟨by decide +kernel, by decide +kernel⟩, lw_t1 (List.mem_of_getElem? (i := 174) rfl), lw_t2 (List.mem_of_getElem? (i := 18) rfl), lw_t2 (List.mem_of_getElem? (i := 19) rfl)⟩
theorem lw_p12 : lw_okq (⟨"PolygonFrameModel", "depth", "(III)I"⟩, 17) := ⟨⟨by decide +kernel, by decide +kernel⟩, lw_t1 (List.mem_of_getElem? (i := 174) rfl), lw_t2 (List.mem_of_getElem? (i := 22) rfl), lw_t2 (List.mem_of_getElem? (i := 23) rfl)⟩
theorem lw_p13 : lw_okq (⟨"PolygonFrameModel", "cut", "(IIIII)V"⟩, 17) := ⟨⟨by decide +kernel, by decide +kernel⟩, lw_t1 (List.mem_of_getElem? (i := 174) rfl), lw_t2 (List.mem_of_getElem? (i := 26) rfl), lw_t2 (List.mem_of_getElem? (i := 27) rfl)⟩
theorem lw_p14 : lw_okq (⟨"PolygonFrameModel", "add", "(II)V"⟩, 17) := ⟨⟨by decide +kernel, by decide +kernel⟩, lw_t1 (List.mem_of_getElem? (i := 174) rfl), lw_t2 (List.mem_of_getElem? (i := 33) rfl), lw_t2 (List.mem_of_getElem? (i := 34) rfl)⟩
theorem lw_p15 : lw_okq (⟨"PolygonFrameModel", "isVertex", "(I)Z"⟩, 17) := ⟨⟨by decide +kernel, by decide +kernel⟩, lw_t1 (List.mem_of_getElem? (i := 174) rfl), lw_t2 (List.mem_of_getElem? (i := 41) rfl), lw_t2 (List.mem_of_getElem? (i := 42) rfl)⟩
def lw_privs_1 : List (MethodName × Nat) := [(⟨"PolygonFrame", "pass", "(I[I[II)Z"⟩, 19), (⟨"PolygonFrame", "isGood", "(III)Z"⟩, 19), (⟨"PolygonFrame", "putCut", "(IIIII)Z"⟩, 19), (⟨"PolygonFrame", "put", "(II)Z"⟩, 19), (⟨"PolygonFrame", "lowOf", "(I)I"⟩, 19), (⟨"PolygonFrame", "nextOf", "(I)I"⟩, 19), (⟨"PolygonFrame", "highOf", "(I)I"⟩, 19), (⟨"PolygonFrame", "makeTable", "()I"⟩, 19), (⟨"PolygonFrame", "lastBefore", "(II)I"⟩, 19), (⟨"PolygonFrame", "sortActive", "(I)V"⟩, 19), (⟨"PolygonFrame", "paint", "(IIII)I"⟩, 19), (⟨"PolygonFrameModel", "pass", "(I)V"⟩, 17), (⟨"PolygonFrameModel", "depth", "(III)I"⟩, 17), (⟨"PolygonFrameModel", "cut", "(IIIII)V"⟩, 17), (⟨"PolygonFrameModel", "add", "(II)V"⟩, 17), (⟨"PolygonFrameModel", "isVertex", "(I)Z"⟩, 17)]
theorem lw_r1 : ∀ q ∈ lw_privs_1, lw_okq q := List.forall_mem_cons.mpr ⟨lw_p0, List.forall_mem_cons.mpr ⟨lw_p1, List.forall_mem_cons.mpr ⟨lw_p2, List.forall_mem_cons.mpr ⟨lw_p3, List.forall_mem_cons.mpr ⟨lw_p4, List.forall_mem_cons.mpr ⟨lw_p5, List.forall_mem_cons.mpr ⟨lw_p6, List.forall_mem_cons.mpr ⟨lw_p7, List.forall_mem_cons.mpr ⟨lw_p8, List.forall_mem_cons.mpr ⟨lw_p9, List.forall_mem_cons.mpr ⟨lw_p10, List.forall_mem_cons.mpr ⟨lw_p11, List.forall_mem_cons.mpr ⟨lw_p12, List.forall_mem_cons.mpr ⟨lw_p13, List.forall_mem_cons.mpr ⟨lw_p14, List.forall_mem_cons.mpr ⟨lw_p15, fun _ h => absurd h List.not_mem_nil⟩⟩⟩⟩⟩⟩⟩⟩⟩⟩⟩⟩⟩⟩⟩⟩
def lw_privs : List (MethodName × Nat) := lw_privs_1
def lw_tbl : List Cond := k2_sels lw_privs ++ tables_1
theorem lw_privs_ok : ∀ q ∈ lw_privs, lw_okq q := lw_r1
-- ===== ONE list of words for every method: the tables' words that hold all through a run =====
def lw_all : List Cond := lw_tbl.filter goodWord
/-- a word of the tables by its place: claim/WORDS.tsv -/
theorem lw_w {w : Cond} (i : Nat) (h : lw_tbl[i]? = some w) (g : goodWord w = true) : w ∈ lw_all := List.mem_filter.mpr ⟨List.mem_of_getElem? h, g⟩
theorem lw_all_tbl {w : Cond} (h : w ∈ lw_all) : w ∈ lw_tbl := (List.mem_filter.mp h).1
theorem lw_self : GoodIn lw_all lw_all := fun w h => ⟨h, good_of_word (List.mem_filter.mp h).2⟩
/-- a class's field words, by their places -/
theorem lw_in (ws : List Cond) (ps : List Nat) (hp : ws = ps.filterMap (fun i => lw_tbl[i]?)) (hg : ws.all goodWord = true) : ∀ w ∈ ws, w ∈ lw_all := by
  intro w h
  have h1 := List.all_eq_true.mp hg w h
  rw [hp] at h
  obtain ⟨i, -, hi⟩ := List.mem_filterMap.mp h
  exact lw_w i hi h1
/-- the words of a contract for the method y with code b, L locals, answer r -/
abbrev ws_ (y : MethodName) (b : ByteArray) (L : Nat) (r : Option FieldType) : List Cond := Cond.code y b L r :: lw_all
theorem lw_meth {y : MethodName} {b : ByteArray} {L : Nat} {r : Option FieldType} (h : Cond.code y b L r ∈ lw_all) : GoodIn lw_all (ws_ y b L r) := by
  intro w hw
  rcases List.mem_cons.mp hw with e | e
  · rw [e]
    exact lw_self _ h
  · exact lw_self _ e
theorem lw_app {a c : List Cond} (ha : ∀ w ∈ a, w ∈ lw_all) (hc : GoodIn lw_all c) : GoodIn lw_all (a ++ c) := by
  intro w hw
  rcases List.mem_append.mp hw with e | e
  · exact lw_self w (ha w e)
  · exact hc w e
/-- what a call through an object asks: cwV n hts (lw_V ..) -/
theorem lw_V {own : String} {idx : Nat} {C : String} {y : MethodName} {b : ByteArray} {L : Nat} {r : Option FieldType} (h1 : Cond.methodLink own idx y ∈ lw_all) (h2 : Cond.instanceMethod y ∈ lw_all) (h3 : Cond.selects C y y ∈ lw_all) (h4 : Cond.initialized C ∈ lw_all) (h5 : Cond.code y b L r ∈ lw_all) : GoodIn lw_all (wsV own idx C y (ws_ y b L r)) := by
  refine lw_app ?_ (lw_meth h5)
  intro w hw
  simp only [List.mem_cons, List.not_mem_nil, or_false] at hw
  rcases hw with e | e | e | e
  · rw [e]; exact h1
  · rw [e]; exact h2
  · rw [e]; exact h3
  · rw [e]; exact h4
/-- what a static call asks: va_cwS n hts (lw_S ..) -/
theorem lw_S {own : String} {idx : Nat} {y : MethodName} {b : ByteArray} {L : Nat} {r : Option FieldType} (h1 : Cond.methodLink own idx y ∈ lw_all) (h2 : Cond.static y ∈ lw_all) (h3 : Cond.initialized y.cls ∈ lw_all) (h4 : Cond.code y b L r ∈ lw_all) : GoodIn lw_all (va_wsS own idx y (ws_ y b L r)) := by
  refine lw_app ?_ (lw_meth h4)
  intro w hw
  simp only [List.mem_cons, List.not_mem_nil, or_false] at hw
  rcases hw with e | e | e
  · rw [e]; exact h1
  · rw [e]; exact h2
  · rw [e]; exact h3
/-- the words of a contract for a method WITH HANDLERS (hh: its table) -/
abbrev wsW_ (y : MethodName) (b : ByteArray) (L : Nat) (r : Option FieldType) (hh : List (Nat × Nat × Nat × Nat)) : List Cond := Cond.codeWith y b L r hh :: lw_all
theorem lw_methW {y : MethodName} {b : ByteArray} {L : Nat} {r : Option FieldType} {hh : List (Nat × Nat × Nat × Nat)} (h : Cond.codeWith y b L r hh ∈ lw_all) : GoodIn lw_all (wsW_ y b L r hh) := by
  intro w hw
  rcases List.mem_cons.mp hw with e | e
  · rw [e]
    exact lw_self _ h
  · exact lw_self _ e
/-- any list of words by their places (lw_in), good -/
theorem lw_good {ws : List Cond} (h : ∀ w ∈ ws, w ∈ lw_all) : GoodIn lw_all ws := fun w hw => lw_self w (h w hw)
/-- what a call of a method with handlers asks: vx_cwVW n hts (lw_VW ..), vx_cwSW n hts (lw_SW ..) -/
theorem lw_VW {own : String} {idx : Nat} {C : String} {y : MethodName} {b : ByteArray} {L : Nat} {r : Option FieldType} {hh : List (Nat × Nat × Nat × Nat)} (h1 : Cond.methodLink own idx y ∈ lw_all) (h2 : Cond.instanceMethod y ∈ lw_all) (h3 : Cond.selects C y y ∈ lw_all) (h4 : Cond.initialized C ∈ lw_all) (h5 : Cond.codeWith y b L r hh ∈ lw_all) : GoodIn lw_all (wsV own idx C y (wsW_ y b L r hh)) := by
  refine lw_app ?_ (lw_methW h5)
  intro w hw
  simp only [List.mem_cons, List.not_mem_nil, or_false] at hw
  rcases hw with e | e | e | e
  · rw [e]; exact h1
  · rw [e]; exact h2
  · rw [e]; exact h3
  · rw [e]; exact h4
theorem lw_SW {own : String} {idx : Nat} {y : MethodName} {b : ByteArray} {L : Nat} {r : Option FieldType} {hh : List (Nat × Nat × Nat × Nat)} (h1 : Cond.methodLink own idx y ∈ lw_all) (h2 : Cond.static y ∈ lw_all) (h3 : Cond.initialized y.cls ∈ lw_all) (h4 : Cond.codeWith y b L r hh ∈ lw_all) : GoodIn lw_all (va_wsS own idx y (wsW_ y b L r hh)) := by
  refine lw_app ?_ (lw_methW h4)
  intro w hw
  simp only [List.mem_cons, List.not_mem_nil, or_false] at hw
  rcases hw with e | e | e
  · rw [e]; exact h1
  · rw [e]; exact h2
  · rw [e]; exact h3
/-- a word by its place in its run of the tables -/
theorem lw_at {r : List Cond} (hr : ∀ w ∈ r, w ∈ lw_tbl) {w : Cond} (i : Nat) (h : r[i]? = some w) : w ∈ lw_tbl := hr w (List.mem_of_getElem? h)
theorem lw_g {w : Cond} (h : w ∈ lw_tbl) (g : goodWord w = true) : w ∈ lw_all := List.mem_filter.mpr ⟨h, g⟩
theorem lw_ms : ∀ w ∈ k2_sels lw_privs, w ∈ lw_tbl := fun w h => show w ∈ k2_sels lw_privs ++ tables_1 from List.mem_append_left _ h
theorem lw_m1 : ∀ w ∈ tables_1_1, w ∈ lw_tbl := fun w h => show w ∈ k2_sels lw_privs ++ tables_1 from List.mem_append_right (k2_sels lw_privs) (show w ∈ tables_1 from List.mem_append_left _ h)
theorem lw_m2 : ∀ w ∈ tables_1_2, w ∈ lw_tbl := fun w h => show w ∈ k2_sels lw_privs ++ tables_1 from List.mem_append_right (k2_sels lw_privs) (show w ∈ tables_1 from List.mem_append_right _ h)
theorem qs0 : (Cond.selects "PolygonFrame" ⟨"PolygonFrame", "pass", "(I[I[II)Z"⟩ ⟨"PolygonFrame", "pass", "(I[I[II)Z"⟩) ∈ lw_all := lw_g (lw_at lw_ms 0 rfl) rfl
theorem qs1 : (Cond.selects "PolygonFrame" ⟨"PolygonFrame", "isGood", "(III)Z"⟩ ⟨"PolygonFrame", "isGood", "(III)Z"⟩) ∈ lw_all := lw_g (lw_at lw_ms 1 rfl) rfl
theorem qs2 : (Cond.selects "PolygonFrame" ⟨"PolygonFrame", "putCut", "(IIIII)Z"⟩ ⟨"PolygonFrame", "putCut", "(IIIII)Z"⟩) ∈ lw_all := lw_g (lw_at lw_ms 2 rfl) rfl
theorem qs3 : (Cond.selects "PolygonFrame" ⟨"PolygonFrame", "put", "(II)Z"⟩ ⟨"PolygonFrame", "put", "(II)Z"⟩) ∈ lw_all := lw_g (lw_at lw_ms 3 rfl) rfl
theorem qs4 : (Cond.selects "PolygonFrame" ⟨"PolygonFrame", "lowOf", "(I)I"⟩ ⟨"PolygonFrame", "lowOf", "(I)I"⟩) ∈ lw_all := lw_g (lw_at lw_ms 4 rfl) rfl
theorem qs5 : (Cond.selects "PolygonFrame" ⟨"PolygonFrame", "nextOf", "(I)I"⟩ ⟨"PolygonFrame", "nextOf", "(I)I"⟩) ∈ lw_all := lw_g (lw_at lw_ms 5 rfl) rfl
theorem qs6 : (Cond.selects "PolygonFrame" ⟨"PolygonFrame", "highOf", "(I)I"⟩ ⟨"PolygonFrame", "highOf", "(I)I"⟩) ∈ lw_all := lw_g (lw_at lw_ms 6 rfl) rfl
theorem qs7 : (Cond.selects "PolygonFrame" ⟨"PolygonFrame", "makeTable", "()I"⟩ ⟨"PolygonFrame", "makeTable", "()I"⟩) ∈ lw_all := lw_g (lw_at lw_ms 7 rfl) rfl
theorem qs8 : (Cond.selects "PolygonFrame" ⟨"PolygonFrame", "lastBefore", "(II)I"⟩ ⟨"PolygonFrame", "lastBefore", "(II)I"⟩) ∈ lw_all := lw_g (lw_at lw_ms 8 rfl) rfl
theorem qs9 : (Cond.selects "PolygonFrame" ⟨"PolygonFrame", "sortActive", "(I)V"⟩ ⟨"PolygonFrame", "sortActive", "(I)V"⟩) ∈ lw_all := lw_g (lw_at lw_ms 9 rfl) rfl
theorem qs10 : (Cond.selects "PolygonFrame" ⟨"PolygonFrame", "paint", "(IIII)I"⟩ ⟨"PolygonFrame", "paint", "(IIII)I"⟩) ∈ lw_all := lw_g (lw_at lw_ms 10 rfl) rfl
theorem qs11 : (Cond.selects "PolygonFrameModel" ⟨"PolygonFrameModel", "pass", "(I)V"⟩ ⟨"PolygonFrameModel", "pass", "(I)V"⟩) ∈ lw_all := lw_g (lw_at lw_ms 11 rfl) rfl
theorem qs12 : (Cond.selects "PolygonFrameModel" ⟨"PolygonFrameModel", "depth", "(III)I"⟩ ⟨"PolygonFrameModel", "depth", "(III)I"⟩) ∈ lw_all := lw_g (lw_at lw_ms 12 rfl) rfl
theorem qs13 : (Cond.selects "PolygonFrameModel" ⟨"PolygonFrameModel", "cut", "(IIIII)V"⟩ ⟨"PolygonFrameModel", "cut", "(IIIII)V"⟩) ∈ lw_all := lw_g (lw_at lw_ms 13 rfl) rfl
theorem qs14 : (Cond.selects "PolygonFrameModel" ⟨"PolygonFrameModel", "add", "(II)V"⟩ ⟨"PolygonFrameModel", "add", "(II)V"⟩) ∈ lw_all := lw_g (lw_at lw_ms 14 rfl) rfl
theorem qs15 : (Cond.selects "PolygonFrameModel" ⟨"PolygonFrameModel", "isVertex", "(I)Z"⟩ ⟨"PolygonFrameModel", "isVertex", "(I)Z"⟩) ∈ lw_all := lw_g (lw_at lw_ms 15 rfl) rfl
end
section
/-! PolygonFrame -/
set_option maxRecDepth 100000
def RX1 : String := "PolygonFrame"
def TX1 : u_T := fun k => match k with
  | 0 => ("PolygonFrame", "px", "[I", true)
  | 1 => ("PolygonFrame", "py", "[I", true)
  | 2 => ("PolygonFrame", "qx", "[I", true)
  | 3 => ("PolygonFrame", "qy", "[I", true)
  | 4 => ("PolygonFrame", "frame", "[I", true)
  | 5 => ("PolygonFrame", "table", "[I", true)
  | 6 => ("PolygonFrame", "active", "[I", true)
  | 7 => ("PolygonFrame", "last", "[I", true)
  | 8 => ("PolygonFrame", "w", "I", true)
  | 9 => ("PolygonFrame", "h", "I", true)
  | 10 => ("PolygonFrame", "vertCap", "I", true)
  | 11 => ("PolygonFrame", "n", "I", false)
  | 12 => ("PolygonFrame", "cx0", "I", false)
  | 13 => ("PolygonFrame", "cy0", "I", false)
  | 14 => ("PolygonFrame", "cx1", "I", false)
  | 15 => ("PolygonFrame", "cy1", "I", false)
  | 16 => ("PolygonFrame", "many", "I", false)
  | 17 => ("PolygonFrame", "sx", "[I", true)
  | _ => ("PolygonFrame", "sy", "[I", true)
def tyX1 : Nat → FieldType := fun k => match k with
  | 0 => .array .int
  | 1 => .array .int
  | 2 => .array .int
  | 3 => .array .int
  | 4 => .array .int
  | 5 => .array .int
  | 6 => .array .int
  | 7 => .array .int
  | 8 => .int
  | 9 => .int
  | 10 => .int
  | 11 => .int
  | 12 => .int
  | 13 => .int
  | 14 => .int
  | 15 => .int
  | 16 => .int
  | 17 => .array .int
  | _ => .array .int
abbrev wsX10 : List Cond := u_ws RX1 TX1 19
set_option maxRecDepth 100000 in
theorem nmX1 : ∀ a, a < 19 → ∀ b, b < 19 → a ≠ b → (TX1 a).2.1 ≠ (TX1 b).2.1 := by decide +kernel
set_option maxRecDepth 100000 in
theorem tyX1_ok : ∀ k, k < 19 → parseFieldDescriptor (TX1 k).2.2.1 = some (tyX1 k) := by decide +kernel
abbrev cX1_init : ByteArray := prog_1_method_1_code
def yX1_init : MethodName := ⟨RX1, "<init>", "(III)V"⟩
theorem dX1_init_0 : decode cX1_init 0 = .ok (.aload_n 0, 1) := by decide +kernel
theorem dX1_init_1 : decode cX1_init 1 = .ok (.invokespecial 1, 3) := by decide +kernel
theorem dX1_init_4 : decode cX1_init 4 = .ok (.aload_n 0, 1) := by decide +kernel
theorem dX1_init_5 : decode cX1_init 5 = .ok (.bipush 60, 2) := by decide +kernel
theorem dX1_init_7 : decode cX1_init 7 = .ok (.newarray .int, 2) := by decide +kernel
theorem dX1_init_9 : decode cX1_init 9 = .ok (.putfield 7, 3) := by decide +kernel
theorem dX1_init_12 : decode cX1_init 12 = .ok (.aload_n 0, 1) := by decide +kernel
theorem dX1_init_13 : decode cX1_init 13 = .ok (.bipush 60, 2) := by decide +kernel
theorem dX1_init_15 : decode cX1_init 15 = .ok (.newarray .int, 2) := by decide +kernel
theorem dX1_init_17 : decode cX1_init 17 = .ok (.putfield 13, 3) := by decide +kernel
theorem dX1_init_20 : decode cX1_init 20 = .ok (.aload_n 0, 1) := by decide +kernel
theorem dX1_init_21 : decode cX1_init 21 = .ok (.bipush 60, 2) := by decide +kernel
theorem dX1_init_23 : decode cX1_init 23 = .ok (.newarray .int, 2) := by decide +kernel
theorem dX1_init_25 : decode cX1_init 25 = .ok (.putfield 16, 3) := by decide +kernel
theorem dX1_init_28 : decode cX1_init 28 = .ok (.aload_n 0, 1) := by decide +kernel
theorem dX1_init_29 : decode cX1_init 29 = .ok (.bipush 60, 2) := by decide +kernel
theorem dX1_init_31 : decode cX1_init 31 = .ok (.newarray .int, 2) := by decide +kernel
theorem dX1_init_33 : decode cX1_init 33 = .ok (.putfield 19, 3) := by decide +kernel
theorem dX1_init_36 : decode cX1_init 36 = .ok (.aload_n 0, 1) := by decide +kernel
theorem dX1_init_37 : decode cX1_init 37 = .ok (.sipush 576, 3) := by decide +kernel
theorem dX1_init_40 : decode cX1_init 40 = .ok (.newarray .int, 2) := by decide +kernel
theorem dX1_init_42 : decode cX1_init 42 = .ok (.putfield 22, 3) := by decide +kernel
theorem dX1_init_45 : decode cX1_init 45 = .ok (.aload_n 0, 1) := by decide +kernel
theorem dX1_init_46 : decode cX1_init 46 = .ok (.bipush 60, 2) := by decide +kernel
theorem dX1_init_48 : decode cX1_init 48 = .ok (.newarray .int, 2) := by decide +kernel
theorem dX1_init_50 : decode cX1_init 50 = .ok (.putfield 25, 3) := by decide +kernel
theorem dX1_init_53 : decode cX1_init 53 = .ok (.aload_n 0, 1) := by decide +kernel
theorem dX1_init_54 : decode cX1_init 54 = .ok (.bipush 60, 2) := by decide +kernel
theorem dX1_init_56 : decode cX1_init 56 = .ok (.newarray .int, 2) := by decide +kernel
theorem dX1_init_58 : decode cX1_init 58 = .ok (.putfield 28, 3) := by decide +kernel
theorem dX1_init_61 : decode cX1_init 61 = .ok (.aload_n 0, 1) := by decide +kernel
theorem dX1_init_62 : decode cX1_init 62 = .ok (.bipush 60, 2) := by decide +kernel
theorem dX1_init_64 : decode cX1_init 64 = .ok (.newarray .int, 2) := by decide +kernel
theorem dX1_init_66 : decode cX1_init 66 = .ok (.putfield 31, 3) := by decide +kernel
theorem dX1_init_69 : decode cX1_init 69 = .ok (.aload_n 0, 1) := by decide +kernel
theorem dX1_init_70 : decode cX1_init 70 = .ok (.sipush (-16384), 3) := by decide +kernel
theorem dX1_init_73 : decode cX1_init 73 = .ok (.putfield 34, 3) := by decide +kernel
theorem dX1_init_76 : decode cX1_init 76 = .ok (.aload_n 0, 1) := by decide +kernel
theorem dX1_init_77 : decode cX1_init 77 = .ok (.sipush (-16384), 3) := by decide +kernel
theorem dX1_init_80 : decode cX1_init 80 = .ok (.putfield 38, 3) := by decide +kernel
theorem dX1_init_83 : decode cX1_init 83 = .ok (.aload_n 0, 1) := by decide +kernel
theorem dX1_init_84 : decode cX1_init 84 = .ok (.sipush 16384, 3) := by decide +kernel
theorem dX1_init_87 : decode cX1_init 87 = .ok (.putfield 41, 3) := by decide +kernel
theorem dX1_init_90 : decode cX1_init 90 = .ok (.aload_n 0, 1) := by decide +kernel
theorem dX1_init_91 : decode cX1_init 91 = .ok (.sipush 16384, 3) := by decide +kernel
theorem dX1_init_94 : decode cX1_init 94 = .ok (.putfield 44, 3) := by decide +kernel
theorem dX1_init_97 : decode cX1_init 97 = .ok (.aload_n 0, 1) := by decide +kernel
theorem dX1_init_98 : decode cX1_init 98 = .ok (.bipush 60, 2) := by decide +kernel
theorem dX1_init_100 : decode cX1_init 100 = .ok (.newarray .int, 2) := by decide +kernel
theorem dX1_init_102 : decode cX1_init 102 = .ok (.putfield 47, 3) := by decide +kernel
theorem dX1_init_105 : decode cX1_init 105 = .ok (.aload_n 0, 1) := by decide +kernel
theorem dX1_init_106 : decode cX1_init 106 = .ok (.bipush 60, 2) := by decide +kernel
theorem dX1_init_108 : decode cX1_init 108 = .ok (.newarray .int, 2) := by decide +kernel
theorem dX1_init_110 : decode cX1_init 110 = .ok (.putfield 50, 3) := by decide +kernel
theorem dX1_init_113 : decode cX1_init 113 = .ok (.aload_n 0, 1) := by decide +kernel
theorem dX1_init_114 : decode cX1_init 114 = .ok (.iload_n 1, 1) := by decide +kernel
theorem dX1_init_115 : decode cX1_init 115 = .ok (.iconst 1, 1) := by decide +kernel
theorem dX1_init_116 : decode cX1_init 116 = .ok (.bipush 24, 2) := by decide +kernel
theorem dX1_init_118 : decode cX1_init 118 = .ok (.invokestatic 53, 3) := by decide +kernel
theorem dX1_init_121 : decode cX1_init 121 = .ok (.putfield 57, 3) := by decide +kernel
theorem dX1_init_124 : decode cX1_init 124 = .ok (.aload_n 0, 1) := by decide +kernel
theorem dX1_init_125 : decode cX1_init 125 = .ok (.iload_n 2, 1) := by decide +kernel
theorem dX1_init_126 : decode cX1_init 126 = .ok (.iconst 1, 1) := by decide +kernel
theorem dX1_init_127 : decode cX1_init 127 = .ok (.bipush 24, 2) := by decide +kernel
theorem dX1_init_129 : decode cX1_init 129 = .ok (.invokestatic 53, 3) := by decide +kernel
theorem dX1_init_132 : decode cX1_init 132 = .ok (.putfield 60, 3) := by decide +kernel
theorem dX1_init_135 : decode cX1_init 135 = .ok (.aload_n 0, 1) := by decide +kernel
theorem dX1_init_136 : decode cX1_init 136 = .ok (.iload_n 3, 1) := by decide +kernel
theorem dX1_init_137 : decode cX1_init 137 = .ok (.iconst 3, 1) := by decide +kernel
theorem dX1_init_138 : decode cX1_init 138 = .ok (.bipush 60, 2) := by decide +kernel
theorem dX1_init_140 : decode cX1_init 140 = .ok (.invokestatic 53, 3) := by decide +kernel
theorem dX1_init_143 : decode cX1_init 143 = .ok (.putfield 63, 3) := by decide +kernel
theorem dX1_init_146 : decode cX1_init 146 = .ok (.return_, 1) := by decide +kernel
abbrev cX1_within : ByteArray := prog_1_method_2_code
def yX1_within : MethodName := ⟨RX1, "within", "(III)I"⟩
theorem dX1_within_0 : decode cX1_within 0 = .ok (.iload_n 0, 1) := by decide +kernel
theorem dX1_within_1 : decode cX1_within 1 = .ok (.iload_n 1, 1) := by decide +kernel
theorem dX1_within_2 : decode cX1_within 2 = .ok (.if_icmp .ge 7, 3) := by decide +kernel
theorem dX1_within_5 : decode cX1_within 5 = .ok (.iload_n 1, 1) := by decide +kernel
theorem dX1_within_6 : decode cX1_within 6 = .ok (.goto 13, 3) := by decide +kernel
theorem dX1_within_9 : decode cX1_within 9 = .ok (.iload_n 0, 1) := by decide +kernel
theorem dX1_within_10 : decode cX1_within 10 = .ok (.iload_n 2, 1) := by decide +kernel
theorem dX1_within_11 : decode cX1_within 11 = .ok (.if_icmp .le 7, 3) := by decide +kernel
theorem dX1_within_14 : decode cX1_within 14 = .ok (.iload_n 2, 1) := by decide +kernel
theorem dX1_within_15 : decode cX1_within 15 = .ok (.goto 4, 3) := by decide +kernel
theorem dX1_within_18 : decode cX1_within 18 = .ok (.iload_n 0, 1) := by decide +kernel
theorem dX1_within_19 : decode cX1_within 19 = .ok (.ireturn, 1) := by decide +kernel
abbrev cX1_clear : ByteArray := prog_1_method_4_code
def yX1_clear : MethodName := ⟨RX1, "clear", "(I)V"⟩
theorem dX1_clear_0 : decode cX1_clear 0 = .ok (.iconst 0, 1) := by decide +kernel
theorem dX1_clear_1 : decode cX1_clear 1 = .ok (.istore_n 2, 1) := by decide +kernel
theorem dX1_clear_2 : decode cX1_clear 2 = .ok (.iload_n 2, 1) := by decide +kernel
theorem dX1_clear_3 : decode cX1_clear 3 = .ok (.aload_n 0, 1) := by decide +kernel
theorem dX1_clear_4 : decode cX1_clear 4 = .ok (.getfield 57, 3) := by decide +kernel
theorem dX1_clear_7 : decode cX1_clear 7 = .ok (.aload_n 0, 1) := by decide +kernel
theorem dX1_clear_8 : decode cX1_clear 8 = .ok (.getfield 60, 3) := by decide +kernel
theorem dX1_clear_11 : decode cX1_clear 11 = .ok (.imul, 1) := by decide +kernel
theorem dX1_clear_12 : decode cX1_clear 12 = .ok (.if_icmp .ge 16, 3) := by decide +kernel
theorem dX1_clear_15 : decode cX1_clear 15 = .ok (.aload_n 0, 1) := by decide +kernel
theorem dX1_clear_16 : decode cX1_clear 16 = .ok (.getfield 22, 3) := by decide +kernel
theorem dX1_clear_19 : decode cX1_clear 19 = .ok (.iload_n 2, 1) := by decide +kernel
theorem dX1_clear_20 : decode cX1_clear 20 = .ok (.iload_n 1, 1) := by decide +kernel
theorem dX1_clear_21 : decode cX1_clear 21 = .ok (.iastore, 1) := by decide +kernel
theorem dX1_clear_22 : decode cX1_clear 22 = .ok (.iinc 2 1, 3) := by decide +kernel
theorem dX1_clear_25 : decode cX1_clear 25 = .ok (.goto (-23), 3) := by decide +kernel
theorem dX1_clear_28 : decode cX1_clear 28 = .ok (.return_, 1) := by decide +kernel
abbrev cX1_begin : ByteArray := prog_1_method_5_code
def yX1_begin : MethodName := ⟨RX1, "begin", "()V"⟩
theorem dX1_begin_0 : decode cX1_begin 0 = .ok (.aload_n 0, 1) := by decide +kernel
theorem dX1_begin_1 : decode cX1_begin 1 = .ok (.iconst 0, 1) := by decide +kernel
theorem dX1_begin_2 : decode cX1_begin 2 = .ok (.putfield 66, 3) := by decide +kernel
theorem dX1_begin_5 : decode cX1_begin 5 = .ok (.return_, 1) := by decide +kernel
abbrev cX1_vertex : ByteArray := prog_1_method_6_code
def yX1_vertex : MethodName := ⟨RX1, "vertex", "(II)Z"⟩
theorem dX1_vertex_0 : decode cX1_vertex 0 = .ok (.aload_n 0, 1) := by decide +kernel
theorem dX1_vertex_1 : decode cX1_vertex 1 = .ok (.getfield 66, 3) := by decide +kernel
theorem dX1_vertex_4 : decode cX1_vertex 4 = .ok (.aload_n 0, 1) := by decide +kernel
theorem dX1_vertex_5 : decode cX1_vertex 5 = .ok (.getfield 63, 3) := by decide +kernel
theorem dX1_vertex_8 : decode cX1_vertex 8 = .ok (.if_icmp .eq 17, 3) := by decide +kernel
theorem dX1_vertex_11 : decode cX1_vertex 11 = .ok (.iload_n 1, 1) := by decide +kernel
theorem dX1_vertex_12 : decode cX1_vertex 12 = .ok (.invokestatic 69, 3) := by decide +kernel
theorem dX1_vertex_15 : decode cX1_vertex 15 = .ok (.ifCond .ne 10, 3) := by decide +kernel
theorem dX1_vertex_18 : decode cX1_vertex 18 = .ok (.iload_n 2, 1) := by decide +kernel
theorem dX1_vertex_19 : decode cX1_vertex 19 = .ok (.invokestatic 69, 3) := by decide +kernel
theorem dX1_vertex_22 : decode cX1_vertex 22 = .ok (.ifCond .eq 5, 3) := by decide +kernel
theorem dX1_vertex_25 : decode cX1_vertex 25 = .ok (.iconst 0, 1) := by decide +kernel
theorem dX1_vertex_26 : decode cX1_vertex 26 = .ok (.ireturn, 1) := by decide +kernel
theorem dX1_vertex_27 : decode cX1_vertex 27 = .ok (.aload_n 0, 1) := by decide +kernel
theorem dX1_vertex_28 : decode cX1_vertex 28 = .ok (.getfield 7, 3) := by decide +kernel
theorem dX1_vertex_31 : decode cX1_vertex 31 = .ok (.aload_n 0, 1) := by decide +kernel
theorem dX1_vertex_32 : decode cX1_vertex 32 = .ok (.getfield 66, 3) := by decide +kernel
theorem dX1_vertex_35 : decode cX1_vertex 35 = .ok (.iload_n 1, 1) := by decide +kernel
theorem dX1_vertex_36 : decode cX1_vertex 36 = .ok (.iastore, 1) := by decide +kernel
theorem dX1_vertex_37 : decode cX1_vertex 37 = .ok (.aload_n 0, 1) := by decide +kernel
theorem dX1_vertex_38 : decode cX1_vertex 38 = .ok (.getfield 13, 3) := by decide +kernel
theorem dX1_vertex_41 : decode cX1_vertex 41 = .ok (.aload_n 0, 1) := by decide +kernel
theorem dX1_vertex_42 : decode cX1_vertex 42 = .ok (.getfield 66, 3) := by decide +kernel
theorem dX1_vertex_45 : decode cX1_vertex 45 = .ok (.iload_n 2, 1) := by decide +kernel
theorem dX1_vertex_46 : decode cX1_vertex 46 = .ok (.iastore, 1) := by decide +kernel
theorem dX1_vertex_47 : decode cX1_vertex 47 = .ok (.aload_n 0, 1) := by decide +kernel
theorem dX1_vertex_48 : decode cX1_vertex 48 = .ok (.dup, 1) := by decide +kernel
theorem dX1_vertex_49 : decode cX1_vertex 49 = .ok (.getfield 66, 3) := by decide +kernel
theorem dX1_vertex_52 : decode cX1_vertex 52 = .ok (.iconst 1, 1) := by decide +kernel
theorem dX1_vertex_53 : decode cX1_vertex 53 = .ok (.iadd, 1) := by decide +kernel
theorem dX1_vertex_54 : decode cX1_vertex 54 = .ok (.putfield 66, 3) := by decide +kernel
theorem dX1_vertex_57 : decode cX1_vertex 57 = .ok (.iconst 1, 1) := by decide +kernel
theorem dX1_vertex_58 : decode cX1_vertex 58 = .ok (.ireturn, 1) := by decide +kernel
abbrev cX1_isFar : ByteArray := prog_1_method_3_code
def yX1_isFar : MethodName := ⟨RX1, "isFar", "(I)Z"⟩
theorem dX1_isFar_0 : decode cX1_isFar 0 = .ok (.iload_n 0, 1) := by decide +kernel
theorem dX1_isFar_1 : decode cX1_isFar 1 = .ok (.sipush (-16384), 3) := by decide +kernel
theorem dX1_isFar_4 : decode cX1_isFar 4 = .ok (.if_icmp .lt 10, 3) := by decide +kernel
theorem dX1_isFar_7 : decode cX1_isFar 7 = .ok (.iload_n 0, 1) := by decide +kernel
theorem dX1_isFar_8 : decode cX1_isFar 8 = .ok (.sipush 16384, 3) := by decide +kernel
theorem dX1_isFar_11 : decode cX1_isFar 11 = .ok (.if_icmp .le 7, 3) := by decide +kernel
theorem dX1_isFar_14 : decode cX1_isFar 14 = .ok (.iconst 1, 1) := by decide +kernel
theorem dX1_isFar_15 : decode cX1_isFar 15 = .ok (.goto 4, 3) := by decide +kernel
theorem dX1_isFar_18 : decode cX1_isFar 18 = .ok (.iconst 0, 1) := by decide +kernel
theorem dX1_isFar_19 : decode cX1_isFar 19 = .ok (.ireturn, 1) := by decide +kernel
abbrev cX1_setClip : ByteArray := prog_1_method_7_code
def yX1_setClip : MethodName := ⟨RX1, "setClip", "(IIII)Z"⟩
theorem dX1_setClip_0 : decode cX1_setClip 0 = .ok (.iload_n 1, 1) := by decide +kernel
theorem dX1_setClip_1 : decode cX1_setClip 1 = .ok (.iload_n 3, 1) := by decide +kernel
theorem dX1_setClip_2 : decode cX1_setClip 2 = .ok (.if_icmp .gt 38, 3) := by decide +kernel
theorem dX1_setClip_5 : decode cX1_setClip 5 = .ok (.iload_n 2, 1) := by decide +kernel
theorem dX1_setClip_6 : decode cX1_setClip 6 = .ok (.iload 4, 2) := by decide +kernel
theorem dX1_setClip_8 : decode cX1_setClip 8 = .ok (.if_icmp .gt 32, 3) := by decide +kernel
theorem dX1_setClip_11 : decode cX1_setClip 11 = .ok (.iload_n 1, 1) := by decide +kernel
theorem dX1_setClip_12 : decode cX1_setClip 12 = .ok (.invokestatic 69, 3) := by decide +kernel
theorem dX1_setClip_15 : decode cX1_setClip 15 = .ok (.ifCond .ne 25, 3) := by decide +kernel
theorem dX1_setClip_18 : decode cX1_setClip 18 = .ok (.iload_n 2, 1) := by decide +kernel
theorem dX1_setClip_19 : decode cX1_setClip 19 = .ok (.invokestatic 69, 3) := by decide +kernel
theorem dX1_setClip_22 : decode cX1_setClip 22 = .ok (.ifCond .ne 18, 3) := by decide +kernel
theorem dX1_setClip_25 : decode cX1_setClip 25 = .ok (.iload_n 3, 1) := by decide +kernel
theorem dX1_setClip_26 : decode cX1_setClip 26 = .ok (.invokestatic 69, 3) := by decide +kernel
theorem dX1_setClip_29 : decode cX1_setClip 29 = .ok (.ifCond .ne 11, 3) := by decide +kernel
theorem dX1_setClip_32 : decode cX1_setClip 32 = .ok (.iload 4, 2) := by decide +kernel
theorem dX1_setClip_34 : decode cX1_setClip 34 = .ok (.invokestatic 69, 3) := by decide +kernel
theorem dX1_setClip_37 : decode cX1_setClip 37 = .ok (.ifCond .eq 5, 3) := by decide +kernel
theorem dX1_setClip_40 : decode cX1_setClip 40 = .ok (.iconst 0, 1) := by decide +kernel
theorem dX1_setClip_41 : decode cX1_setClip 41 = .ok (.ireturn, 1) := by decide +kernel
theorem dX1_setClip_42 : decode cX1_setClip 42 = .ok (.aload_n 0, 1) := by decide +kernel
theorem dX1_setClip_43 : decode cX1_setClip 43 = .ok (.iload_n 1, 1) := by decide +kernel
theorem dX1_setClip_44 : decode cX1_setClip 44 = .ok (.putfield 34, 3) := by decide +kernel
theorem dX1_setClip_47 : decode cX1_setClip 47 = .ok (.aload_n 0, 1) := by decide +kernel
theorem dX1_setClip_48 : decode cX1_setClip 48 = .ok (.iload_n 2, 1) := by decide +kernel
theorem dX1_setClip_49 : decode cX1_setClip 49 = .ok (.putfield 38, 3) := by decide +kernel
theorem dX1_setClip_52 : decode cX1_setClip 52 = .ok (.aload_n 0, 1) := by decide +kernel
theorem dX1_setClip_53 : decode cX1_setClip 53 = .ok (.iload_n 3, 1) := by decide +kernel
theorem dX1_setClip_54 : decode cX1_setClip 54 = .ok (.putfield 41, 3) := by decide +kernel
theorem dX1_setClip_57 : decode cX1_setClip 57 = .ok (.aload_n 0, 1) := by decide +kernel
theorem dX1_setClip_58 : decode cX1_setClip 58 = .ok (.iload 4, 2) := by decide +kernel
theorem dX1_setClip_60 : decode cX1_setClip 60 = .ok (.putfield 44, 3) := by decide +kernel
theorem dX1_setClip_63 : decode cX1_setClip 63 = .ok (.iconst 1, 1) := by decide +kernel
theorem dX1_setClip_64 : decode cX1_setClip 64 = .ok (.ireturn, 1) := by decide +kernel
abbrev cX1_clip : ByteArray := prog_1_method_14_code
def yX1_clip : MethodName := ⟨RX1, "clip", "()I"⟩
theorem dX1_clip_0 : decode cX1_clip 0 = .ok (.iconst 0, 1) := by decide +kernel
theorem dX1_clip_1 : decode cX1_clip 1 = .ok (.istore_n 1, 1) := by decide +kernel
theorem dX1_clip_2 : decode cX1_clip 2 = .ok (.iload_n 1, 1) := by decide +kernel
theorem dX1_clip_3 : decode cX1_clip 3 = .ok (.aload_n 0, 1) := by decide +kernel
theorem dX1_clip_4 : decode cX1_clip 4 = .ok (.getfield 66, 3) := by decide +kernel
theorem dX1_clip_7 : decode cX1_clip 7 = .ok (.if_icmp .ge 33, 3) := by decide +kernel
theorem dX1_clip_10 : decode cX1_clip 10 = .ok (.aload_n 0, 1) := by decide +kernel
theorem dX1_clip_11 : decode cX1_clip 11 = .ok (.getfield 47, 3) := by decide +kernel
theorem dX1_clip_14 : decode cX1_clip 14 = .ok (.iload_n 1, 1) := by decide +kernel
theorem dX1_clip_15 : decode cX1_clip 15 = .ok (.aload_n 0, 1) := by decide +kernel
theorem dX1_clip_16 : decode cX1_clip 16 = .ok (.getfield 7, 3) := by decide +kernel
theorem dX1_clip_19 : decode cX1_clip 19 = .ok (.iload_n 1, 1) := by decide +kernel
theorem dX1_clip_20 : decode cX1_clip 20 = .ok (.iaload, 1) := by decide +kernel
theorem dX1_clip_21 : decode cX1_clip 21 = .ok (.iastore, 1) := by decide +kernel
theorem dX1_clip_22 : decode cX1_clip 22 = .ok (.aload_n 0, 1) := by decide +kernel
theorem dX1_clip_23 : decode cX1_clip 23 = .ok (.getfield 50, 3) := by decide +kernel
theorem dX1_clip_26 : decode cX1_clip 26 = .ok (.iload_n 1, 1) := by decide +kernel
theorem dX1_clip_27 : decode cX1_clip 27 = .ok (.aload_n 0, 1) := by decide +kernel
theorem dX1_clip_28 : decode cX1_clip 28 = .ok (.getfield 13, 3) := by decide +kernel
theorem dX1_clip_31 : decode cX1_clip 31 = .ok (.iload_n 1, 1) := by decide +kernel
theorem dX1_clip_32 : decode cX1_clip 32 = .ok (.iaload, 1) := by decide +kernel
theorem dX1_clip_33 : decode cX1_clip 33 = .ok (.iastore, 1) := by decide +kernel
theorem dX1_clip_34 : decode cX1_clip 34 = .ok (.iinc 1 1, 3) := by decide +kernel
theorem dX1_clip_37 : decode cX1_clip 37 = .ok (.goto (-35), 3) := by decide +kernel
theorem dX1_clip_40 : decode cX1_clip 40 = .ok (.aload_n 0, 1) := by decide +kernel
theorem dX1_clip_41 : decode cX1_clip 41 = .ok (.getfield 66, 3) := by decide +kernel
theorem dX1_clip_44 : decode cX1_clip 44 = .ok (.istore_n 1, 1) := by decide +kernel
theorem dX1_clip_45 : decode cX1_clip 45 = .ok (.iconst 0, 1) := by decide +kernel
theorem dX1_clip_46 : decode cX1_clip 46 = .ok (.istore_n 2, 1) := by decide +kernel
theorem dX1_clip_47 : decode cX1_clip 47 = .ok (.iload_n 2, 1) := by decide +kernel
theorem dX1_clip_48 : decode cX1_clip 48 = .ok (.iconst 4, 1) := by decide +kernel
theorem dX1_clip_49 : decode cX1_clip 49 = .ok (.if_icmp .ge 70, 3) := by decide +kernel
theorem dX1_clip_52 : decode cX1_clip 52 = .ok (.aload_n 0, 1) := by decide +kernel
theorem dX1_clip_53 : decode cX1_clip 53 = .ok (.iload_n 2, 1) := by decide +kernel
theorem dX1_clip_54 : decode cX1_clip 54 = .ok (.aload_n 0, 1) := by decide +kernel
theorem dX1_clip_55 : decode cX1_clip 55 = .ok (.getfield 47, 3) := by decide +kernel
theorem dX1_clip_58 : decode cX1_clip 58 = .ok (.aload_n 0, 1) := by decide +kernel
theorem dX1_clip_59 : decode cX1_clip 59 = .ok (.getfield 50, 3) := by decide +kernel
theorem dX1_clip_62 : decode cX1_clip 62 = .ok (.iload_n 1, 1) := by decide +kernel
theorem dX1_clip_63 : decode cX1_clip 63 = .ok (.invokevirtual 96, 3) := by decide +kernel
theorem dX1_clip_66 : decode cX1_clip 66 = .ok (.ifCond .ne 5, 3) := by decide +kernel
theorem dX1_clip_69 : decode cX1_clip 69 = .ok (.iconst (-1), 1) := by decide +kernel
theorem dX1_clip_70 : decode cX1_clip 70 = .ok (.ireturn, 1) := by decide +kernel
theorem dX1_clip_71 : decode cX1_clip 71 = .ok (.aload_n 0, 1) := by decide +kernel
theorem dX1_clip_72 : decode cX1_clip 72 = .ok (.getfield 77, 3) := by decide +kernel
theorem dX1_clip_75 : decode cX1_clip 75 = .ok (.istore_n 1, 1) := by decide +kernel
theorem dX1_clip_76 : decode cX1_clip 76 = .ok (.iconst 0, 1) := by decide +kernel
theorem dX1_clip_77 : decode cX1_clip 77 = .ok (.istore_n 3, 1) := by decide +kernel
theorem dX1_clip_78 : decode cX1_clip 78 = .ok (.iload_n 3, 1) := by decide +kernel
theorem dX1_clip_79 : decode cX1_clip 79 = .ok (.iload_n 1, 1) := by decide +kernel
theorem dX1_clip_80 : decode cX1_clip 80 = .ok (.if_icmp .ge 33, 3) := by decide +kernel
theorem dX1_clip_83 : decode cX1_clip 83 = .ok (.aload_n 0, 1) := by decide +kernel
theorem dX1_clip_84 : decode cX1_clip 84 = .ok (.getfield 47, 3) := by decide +kernel
theorem dX1_clip_87 : decode cX1_clip 87 = .ok (.iload_n 3, 1) := by decide +kernel
theorem dX1_clip_88 : decode cX1_clip 88 = .ok (.aload_n 0, 1) := by decide +kernel
theorem dX1_clip_89 : decode cX1_clip 89 = .ok (.getfield 16, 3) := by decide +kernel
theorem dX1_clip_92 : decode cX1_clip 92 = .ok (.iload_n 3, 1) := by decide +kernel
theorem dX1_clip_93 : decode cX1_clip 93 = .ok (.iaload, 1) := by decide +kernel
theorem dX1_clip_94 : decode cX1_clip 94 = .ok (.iastore, 1) := by decide +kernel
theorem dX1_clip_95 : decode cX1_clip 95 = .ok (.aload_n 0, 1) := by decide +kernel
theorem dX1_clip_96 : decode cX1_clip 96 = .ok (.getfield 50, 3) := by decide +kernel
theorem dX1_clip_99 : decode cX1_clip 99 = .ok (.iload_n 3, 1) := by decide +kernel
theorem dX1_clip_100 : decode cX1_clip 100 = .ok (.aload_n 0, 1) := by decide +kernel
theorem dX1_clip_101 : decode cX1_clip 101 = .ok (.getfield 19, 3) := by decide +kernel
theorem dX1_clip_104 : decode cX1_clip 104 = .ok (.iload_n 3, 1) := by decide +kernel
theorem dX1_clip_105 : decode cX1_clip 105 = .ok (.iaload, 1) := by decide +kernel
theorem dX1_clip_106 : decode cX1_clip 106 = .ok (.iastore, 1) := by decide +kernel
theorem dX1_clip_107 : decode cX1_clip 107 = .ok (.iinc 3 1, 3) := by decide +kernel
theorem dX1_clip_110 : decode cX1_clip 110 = .ok (.goto (-32), 3) := by decide +kernel
theorem dX1_clip_113 : decode cX1_clip 113 = .ok (.iinc 2 1, 3) := by decide +kernel
theorem dX1_clip_116 : decode cX1_clip 116 = .ok (.goto (-69), 3) := by decide +kernel
theorem dX1_clip_119 : decode cX1_clip 119 = .ok (.aload_n 0, 1) := by decide +kernel
theorem dX1_clip_120 : decode cX1_clip 120 = .ok (.iload_n 1, 1) := by decide +kernel
theorem dX1_clip_121 : decode cX1_clip 121 = .ok (.putfield 66, 3) := by decide +kernel
theorem dX1_clip_124 : decode cX1_clip 124 = .ok (.iconst 0, 1) := by decide +kernel
theorem dX1_clip_125 : decode cX1_clip 125 = .ok (.istore_n 2, 1) := by decide +kernel
theorem dX1_clip_126 : decode cX1_clip 126 = .ok (.iload_n 2, 1) := by decide +kernel
theorem dX1_clip_127 : decode cX1_clip 127 = .ok (.aload_n 0, 1) := by decide +kernel
theorem dX1_clip_128 : decode cX1_clip 128 = .ok (.getfield 66, 3) := by decide +kernel
theorem dX1_clip_131 : decode cX1_clip 131 = .ok (.if_icmp .ge 33, 3) := by decide +kernel
theorem dX1_clip_134 : decode cX1_clip 134 = .ok (.aload_n 0, 1) := by decide +kernel
theorem dX1_clip_135 : decode cX1_clip 135 = .ok (.getfield 7, 3) := by decide +kernel
theorem dX1_clip_138 : decode cX1_clip 138 = .ok (.iload_n 2, 1) := by decide +kernel
theorem dX1_clip_139 : decode cX1_clip 139 = .ok (.aload_n 0, 1) := by decide +kernel
theorem dX1_clip_140 : decode cX1_clip 140 = .ok (.getfield 47, 3) := by decide +kernel
theorem dX1_clip_143 : decode cX1_clip 143 = .ok (.iload_n 2, 1) := by decide +kernel
theorem dX1_clip_144 : decode cX1_clip 144 = .ok (.iaload, 1) := by decide +kernel
theorem dX1_clip_145 : decode cX1_clip 145 = .ok (.iastore, 1) := by decide +kernel
theorem dX1_clip_146 : decode cX1_clip 146 = .ok (.aload_n 0, 1) := by decide +kernel
theorem dX1_clip_147 : decode cX1_clip 147 = .ok (.getfield 13, 3) := by decide +kernel
theorem dX1_clip_150 : decode cX1_clip 150 = .ok (.iload_n 2, 1) := by decide +kernel
theorem dX1_clip_151 : decode cX1_clip 151 = .ok (.aload_n 0, 1) := by decide +kernel
theorem dX1_clip_152 : decode cX1_clip 152 = .ok (.getfield 50, 3) := by decide +kernel
theorem dX1_clip_155 : decode cX1_clip 155 = .ok (.iload_n 2, 1) := by decide +kernel
theorem dX1_clip_156 : decode cX1_clip 156 = .ok (.iaload, 1) := by decide +kernel
theorem dX1_clip_157 : decode cX1_clip 157 = .ok (.iastore, 1) := by decide +kernel
theorem dX1_clip_158 : decode cX1_clip 158 = .ok (.iinc 2 1, 3) := by decide +kernel
theorem dX1_clip_161 : decode cX1_clip 161 = .ok (.goto (-35), 3) := by decide +kernel
theorem dX1_clip_164 : decode cX1_clip 164 = .ok (.aload_n 0, 1) := by decide +kernel
theorem dX1_clip_165 : decode cX1_clip 165 = .ok (.getfield 66, 3) := by decide +kernel
theorem dX1_clip_168 : decode cX1_clip 168 = .ok (.ireturn, 1) := by decide +kernel
abbrev cX1_pass : ByteArray := prog_1_method_13_code
def yX1_pass : MethodName := ⟨RX1, "pass", "(I[I[II)Z"⟩
theorem dX1_pass_0 : decode cX1_pass 0 = .ok (.aload_n 0, 1) := by decide +kernel
theorem dX1_pass_1 : decode cX1_pass 1 = .ok (.iconst 0, 1) := by decide +kernel
theorem dX1_pass_2 : decode cX1_pass 2 = .ok (.putfield 77, 3) := by decide +kernel
theorem dX1_pass_5 : decode cX1_pass 5 = .ok (.iconst 0, 1) := by decide +kernel
theorem dX1_pass_6 : decode cX1_pass 6 = .ok (.istore 5, 2) := by decide +kernel
theorem dX1_pass_8 : decode cX1_pass 8 = .ok (.iload 5, 2) := by decide +kernel
theorem dX1_pass_10 : decode cX1_pass 10 = .ok (.iload 4, 2) := by decide +kernel
theorem dX1_pass_12 : decode cX1_pass 12 = .ok (.if_icmp .ge 112, 3) := by decide +kernel
theorem dX1_pass_15 : decode cX1_pass 15 = .ok (.iload 5, 2) := by decide +kernel
theorem dX1_pass_17 : decode cX1_pass 17 = .ok (.ifCond .ne 10, 3) := by decide +kernel
theorem dX1_pass_20 : decode cX1_pass 20 = .ok (.iload 4, 2) := by decide +kernel
theorem dX1_pass_22 : decode cX1_pass 22 = .ok (.iconst 1, 1) := by decide +kernel
theorem dX1_pass_23 : decode cX1_pass 23 = .ok (.isub, 1) := by decide +kernel
theorem dX1_pass_24 : decode cX1_pass 24 = .ok (.goto 7, 3) := by decide +kernel
theorem dX1_pass_27 : decode cX1_pass 27 = .ok (.iload 5, 2) := by decide +kernel
theorem dX1_pass_29 : decode cX1_pass 29 = .ok (.iconst 1, 1) := by decide +kernel
theorem dX1_pass_30 : decode cX1_pass 30 = .ok (.isub, 1) := by decide +kernel
theorem dX1_pass_31 : decode cX1_pass 31 = .ok (.istore 6, 2) := by decide +kernel
theorem dX1_pass_33 : decode cX1_pass 33 = .ok (.aload_n 0, 1) := by decide +kernel
theorem dX1_pass_34 : decode cX1_pass 34 = .ok (.iload_n 1, 1) := by decide +kernel
theorem dX1_pass_35 : decode cX1_pass 35 = .ok (.aload_n 2, 1) := by decide +kernel
theorem dX1_pass_36 : decode cX1_pass 36 = .ok (.iload 5, 2) := by decide +kernel
theorem dX1_pass_38 : decode cX1_pass 38 = .ok (.iaload, 1) := by decide +kernel
theorem dX1_pass_39 : decode cX1_pass 39 = .ok (.aload_n 3, 1) := by decide +kernel
theorem dX1_pass_40 : decode cX1_pass 40 = .ok (.iload 5, 2) := by decide +kernel
theorem dX1_pass_42 : decode cX1_pass 42 = .ok (.iaload, 1) := by decide +kernel
theorem dX1_pass_43 : decode cX1_pass 43 = .ok (.invokevirtual 88, 3) := by decide +kernel
theorem dX1_pass_46 : decode cX1_pass 46 = .ok (.istore 7, 2) := by decide +kernel
theorem dX1_pass_48 : decode cX1_pass 48 = .ok (.aload_n 0, 1) := by decide +kernel
theorem dX1_pass_49 : decode cX1_pass 49 = .ok (.iload_n 1, 1) := by decide +kernel
theorem dX1_pass_50 : decode cX1_pass 50 = .ok (.aload_n 2, 1) := by decide +kernel
theorem dX1_pass_51 : decode cX1_pass 51 = .ok (.iload 6, 2) := by decide +kernel
theorem dX1_pass_53 : decode cX1_pass 53 = .ok (.iaload, 1) := by decide +kernel
theorem dX1_pass_54 : decode cX1_pass 54 = .ok (.aload_n 3, 1) := by decide +kernel
theorem dX1_pass_55 : decode cX1_pass 55 = .ok (.iload 6, 2) := by decide +kernel
theorem dX1_pass_57 : decode cX1_pass 57 = .ok (.iaload, 1) := by decide +kernel
theorem dX1_pass_58 : decode cX1_pass 58 = .ok (.invokevirtual 88, 3) := by decide +kernel
theorem dX1_pass_61 : decode cX1_pass 61 = .ok (.istore 8, 2) := by decide +kernel
theorem dX1_pass_63 : decode cX1_pass 63 = .ok (.iload 7, 2) := by decide +kernel
theorem dX1_pass_65 : decode cX1_pass 65 = .ok (.iload 8, 2) := by decide +kernel
theorem dX1_pass_67 : decode cX1_pass 67 = .ok (.if_icmp .eq 29, 3) := by decide +kernel
theorem dX1_pass_70 : decode cX1_pass 70 = .ok (.aload_n 0, 1) := by decide +kernel
theorem dX1_pass_71 : decode cX1_pass 71 = .ok (.iload_n 1, 1) := by decide +kernel
theorem dX1_pass_72 : decode cX1_pass 72 = .ok (.aload_n 2, 1) := by decide +kernel
theorem dX1_pass_73 : decode cX1_pass 73 = .ok (.iload 6, 2) := by decide +kernel
theorem dX1_pass_75 : decode cX1_pass 75 = .ok (.iaload, 1) := by decide +kernel
theorem dX1_pass_76 : decode cX1_pass 76 = .ok (.aload_n 3, 1) := by decide +kernel
theorem dX1_pass_77 : decode cX1_pass 77 = .ok (.iload 6, 2) := by decide +kernel
theorem dX1_pass_79 : decode cX1_pass 79 = .ok (.iaload, 1) := by decide +kernel
theorem dX1_pass_80 : decode cX1_pass 80 = .ok (.aload_n 2, 1) := by decide +kernel
theorem dX1_pass_81 : decode cX1_pass 81 = .ok (.iload 5, 2) := by decide +kernel
theorem dX1_pass_83 : decode cX1_pass 83 = .ok (.iaload, 1) := by decide +kernel
theorem dX1_pass_84 : decode cX1_pass 84 = .ok (.aload_n 3, 1) := by decide +kernel
theorem dX1_pass_85 : decode cX1_pass 85 = .ok (.iload 5, 2) := by decide +kernel
theorem dX1_pass_87 : decode cX1_pass 87 = .ok (.iaload, 1) := by decide +kernel
theorem dX1_pass_88 : decode cX1_pass 88 = .ok (.invokevirtual 92, 3) := by decide +kernel
theorem dX1_pass_91 : decode cX1_pass 91 = .ok (.ifCond .ne 5, 3) := by decide +kernel
theorem dX1_pass_94 : decode cX1_pass 94 = .ok (.iconst 0, 1) := by decide +kernel
theorem dX1_pass_95 : decode cX1_pass 95 = .ok (.ireturn, 1) := by decide +kernel
theorem dX1_pass_96 : decode cX1_pass 96 = .ok (.iload 7, 2) := by decide +kernel
theorem dX1_pass_98 : decode cX1_pass 98 = .ok (.ifCond .eq 20, 3) := by decide +kernel
theorem dX1_pass_101 : decode cX1_pass 101 = .ok (.aload_n 0, 1) := by decide +kernel
theorem dX1_pass_102 : decode cX1_pass 102 = .ok (.aload_n 2, 1) := by decide +kernel
theorem dX1_pass_103 : decode cX1_pass 103 = .ok (.iload 5, 2) := by decide +kernel
theorem dX1_pass_105 : decode cX1_pass 105 = .ok (.iaload, 1) := by decide +kernel
theorem dX1_pass_106 : decode cX1_pass 106 = .ok (.aload_n 3, 1) := by decide +kernel
theorem dX1_pass_107 : decode cX1_pass 107 = .ok (.iload 5, 2) := by decide +kernel
theorem dX1_pass_109 : decode cX1_pass 109 = .ok (.iaload, 1) := by decide +kernel
theorem dX1_pass_110 : decode cX1_pass 110 = .ok (.invokevirtual 84, 3) := by decide +kernel
theorem dX1_pass_113 : decode cX1_pass 113 = .ok (.ifCond .ne 5, 3) := by decide +kernel
theorem dX1_pass_116 : decode cX1_pass 116 = .ok (.iconst 0, 1) := by decide +kernel
theorem dX1_pass_117 : decode cX1_pass 117 = .ok (.ireturn, 1) := by decide +kernel
theorem dX1_pass_118 : decode cX1_pass 118 = .ok (.iinc 5 1, 3) := by decide +kernel
theorem dX1_pass_121 : decode cX1_pass 121 = .ok (.goto (-113), 3) := by decide +kernel
theorem dX1_pass_124 : decode cX1_pass 124 = .ok (.iconst 1, 1) := by decide +kernel
theorem dX1_pass_125 : decode cX1_pass 125 = .ok (.ireturn, 1) := by decide +kernel
end
section
set_option maxRecDepth 100000
abbrev cX1_isGood : ByteArray := prog_1_method_9_code
def yX1_isGood : MethodName := ⟨RX1, "isGood", "(III)Z"⟩
theorem dX1_isGood_0 : decode cX1_isGood 0 = .ok (.iload_n 1, 1) := by decide +kernel
theorem dX1_isGood_1 : decode cX1_isGood 1 = .ok (.tableswitch 69 0 2 #[27, 41, 55], 27) := by decide +kernel
theorem dX1_isGood_28 : decode cX1_isGood 28 = .ok (.iload_n 2, 1) := by decide +kernel
theorem dX1_isGood_29 : decode cX1_isGood 29 = .ok (.aload_n 0, 1) := by decide +kernel
theorem dX1_isGood_30 : decode cX1_isGood 30 = .ok (.getfield 34, 3) := by decide +kernel
theorem dX1_isGood_33 : decode cX1_isGood 33 = .ok (.if_icmp .lt 7, 3) := by decide +kernel
theorem dX1_isGood_36 : decode cX1_isGood 36 = .ok (.iconst 1, 1) := by decide +kernel
theorem dX1_isGood_37 : decode cX1_isGood 37 = .ok (.goto 4, 3) := by decide +kernel
theorem dX1_isGood_40 : decode cX1_isGood 40 = .ok (.iconst 0, 1) := by decide +kernel
theorem dX1_isGood_41 : decode cX1_isGood 41 = .ok (.ireturn, 1) := by decide +kernel
theorem dX1_isGood_42 : decode cX1_isGood 42 = .ok (.iload_n 2, 1) := by decide +kernel
theorem dX1_isGood_43 : decode cX1_isGood 43 = .ok (.aload_n 0, 1) := by decide +kernel
theorem dX1_isGood_44 : decode cX1_isGood 44 = .ok (.getfield 41, 3) := by decide +kernel
theorem dX1_isGood_47 : decode cX1_isGood 47 = .ok (.if_icmp .gt 7, 3) := by decide +kernel
theorem dX1_isGood_50 : decode cX1_isGood 50 = .ok (.iconst 1, 1) := by decide +kernel
theorem dX1_isGood_51 : decode cX1_isGood 51 = .ok (.goto 4, 3) := by decide +kernel
theorem dX1_isGood_54 : decode cX1_isGood 54 = .ok (.iconst 0, 1) := by decide +kernel
theorem dX1_isGood_55 : decode cX1_isGood 55 = .ok (.ireturn, 1) := by decide +kernel
theorem dX1_isGood_56 : decode cX1_isGood 56 = .ok (.iload_n 3, 1) := by decide +kernel
theorem dX1_isGood_57 : decode cX1_isGood 57 = .ok (.aload_n 0, 1) := by decide +kernel
theorem dX1_isGood_58 : decode cX1_isGood 58 = .ok (.getfield 38, 3) := by decide +kernel
theorem dX1_isGood_61 : decode cX1_isGood 61 = .ok (.if_icmp .lt 7, 3) := by decide +kernel
theorem dX1_isGood_64 : decode cX1_isGood 64 = .ok (.iconst 1, 1) := by decide +kernel
theorem dX1_isGood_65 : decode cX1_isGood 65 = .ok (.goto 4, 3) := by decide +kernel
theorem dX1_isGood_68 : decode cX1_isGood 68 = .ok (.iconst 0, 1) := by decide +kernel
theorem dX1_isGood_69 : decode cX1_isGood 69 = .ok (.ireturn, 1) := by decide +kernel
theorem dX1_isGood_70 : decode cX1_isGood 70 = .ok (.iload_n 3, 1) := by decide +kernel
theorem dX1_isGood_71 : decode cX1_isGood 71 = .ok (.aload_n 0, 1) := by decide +kernel
theorem dX1_isGood_72 : decode cX1_isGood 72 = .ok (.getfield 44, 3) := by decide +kernel
theorem dX1_isGood_75 : decode cX1_isGood 75 = .ok (.if_icmp .gt 7, 3) := by decide +kernel
theorem dX1_isGood_78 : decode cX1_isGood 78 = .ok (.iconst 1, 1) := by decide +kernel
theorem dX1_isGood_79 : decode cX1_isGood 79 = .ok (.goto 4, 3) := by decide +kernel
theorem dX1_isGood_82 : decode cX1_isGood 82 = .ok (.iconst 0, 1) := by decide +kernel
theorem dX1_isGood_83 : decode cX1_isGood 83 = .ok (.ireturn, 1) := by decide +kernel
abbrev cX1_putCut : ByteArray := prog_1_method_12_code
def yX1_putCut : MethodName := ⟨RX1, "putCut", "(IIIII)Z"⟩
theorem dX1_putCut_0 : decode cX1_putCut 0 = .ok (.iload_n 1, 1) := by decide +kernel
theorem dX1_putCut_1 : decode cX1_putCut 1 = .ok (.iconst 2, 1) := by decide +kernel
theorem dX1_putCut_2 : decode cX1_putCut 2 = .ok (.if_icmp .ge 38, 3) := by decide +kernel
theorem dX1_putCut_5 : decode cX1_putCut 5 = .ok (.iload_n 1, 1) := by decide +kernel
theorem dX1_putCut_6 : decode cX1_putCut 6 = .ok (.ifCond .ne 10, 3) := by decide +kernel
theorem dX1_putCut_9 : decode cX1_putCut 9 = .ok (.aload_n 0, 1) := by decide +kernel
theorem dX1_putCut_10 : decode cX1_putCut 10 = .ok (.getfield 34, 3) := by decide +kernel
theorem dX1_putCut_13 : decode cX1_putCut 13 = .ok (.goto 7, 3) := by decide +kernel
theorem dX1_putCut_16 : decode cX1_putCut 16 = .ok (.aload_n 0, 1) := by decide +kernel
theorem dX1_putCut_17 : decode cX1_putCut 17 = .ok (.getfield 41, 3) := by decide +kernel
theorem dX1_putCut_20 : decode cX1_putCut 20 = .ok (.istore 6, 2) := by decide +kernel
theorem dX1_putCut_22 : decode cX1_putCut 22 = .ok (.aload_n 0, 1) := by decide +kernel
theorem dX1_putCut_23 : decode cX1_putCut 23 = .ok (.iload 6, 2) := by decide +kernel
theorem dX1_putCut_25 : decode cX1_putCut 25 = .ok (.iload_n 2, 1) := by decide +kernel
theorem dX1_putCut_26 : decode cX1_putCut 26 = .ok (.iload_n 3, 1) := by decide +kernel
theorem dX1_putCut_27 : decode cX1_putCut 27 = .ok (.iload 4, 2) := by decide +kernel
theorem dX1_putCut_29 : decode cX1_putCut 29 = .ok (.iload 5, 2) := by decide +kernel
theorem dX1_putCut_31 : decode cX1_putCut 31 = .ok (.iload 6, 2) := by decide +kernel
theorem dX1_putCut_33 : decode cX1_putCut 33 = .ok (.invokestatic 80, 3) := by decide +kernel
theorem dX1_putCut_36 : decode cX1_putCut 36 = .ok (.invokevirtual 84, 3) := by decide +kernel
theorem dX1_putCut_39 : decode cX1_putCut 39 = .ok (.ireturn, 1) := by decide +kernel
theorem dX1_putCut_40 : decode cX1_putCut 40 = .ok (.iload_n 1, 1) := by decide +kernel
theorem dX1_putCut_41 : decode cX1_putCut 41 = .ok (.iconst 2, 1) := by decide +kernel
theorem dX1_putCut_42 : decode cX1_putCut 42 = .ok (.if_icmp .ne 10, 3) := by decide +kernel
theorem dX1_putCut_45 : decode cX1_putCut 45 = .ok (.aload_n 0, 1) := by decide +kernel
theorem dX1_putCut_46 : decode cX1_putCut 46 = .ok (.getfield 38, 3) := by decide +kernel
theorem dX1_putCut_49 : decode cX1_putCut 49 = .ok (.goto 7, 3) := by decide +kernel
theorem dX1_putCut_52 : decode cX1_putCut 52 = .ok (.aload_n 0, 1) := by decide +kernel
theorem dX1_putCut_53 : decode cX1_putCut 53 = .ok (.getfield 44, 3) := by decide +kernel
theorem dX1_putCut_56 : decode cX1_putCut 56 = .ok (.istore 6, 2) := by decide +kernel
theorem dX1_putCut_58 : decode cX1_putCut 58 = .ok (.aload_n 0, 1) := by decide +kernel
theorem dX1_putCut_59 : decode cX1_putCut 59 = .ok (.iload_n 3, 1) := by decide +kernel
theorem dX1_putCut_60 : decode cX1_putCut 60 = .ok (.iload_n 2, 1) := by decide +kernel
theorem dX1_putCut_61 : decode cX1_putCut 61 = .ok (.iload 5, 2) := by decide +kernel
theorem dX1_putCut_63 : decode cX1_putCut 63 = .ok (.iload 4, 2) := by decide +kernel
theorem dX1_putCut_65 : decode cX1_putCut 65 = .ok (.iload 6, 2) := by decide +kernel
theorem dX1_putCut_67 : decode cX1_putCut 67 = .ok (.invokestatic 80, 3) := by decide +kernel
theorem dX1_putCut_70 : decode cX1_putCut 70 = .ok (.iload 6, 2) := by decide +kernel
theorem dX1_putCut_72 : decode cX1_putCut 72 = .ok (.invokevirtual 84, 3) := by decide +kernel
theorem dX1_putCut_75 : decode cX1_putCut 75 = .ok (.ireturn, 1) := by decide +kernel
abbrev cX1_cut : ByteArray := prog_1_method_10_code
def yX1_cut : MethodName := ⟨RX1, "cut", "(IIIII)I"⟩
theorem dX1_cut_0 : decode cX1_cut 0 = .ok (.iload_n 1, 1) := by decide +kernel
theorem dX1_cut_1 : decode cX1_cut 1 = .ok (.i2l, 1) := by decide +kernel
theorem dX1_cut_2 : decode cX1_cut 2 = .ok (.iload_n 3, 1) := by decide +kernel
theorem dX1_cut_3 : decode cX1_cut 3 = .ok (.iload_n 1, 1) := by decide +kernel
theorem dX1_cut_4 : decode cX1_cut 4 = .ok (.isub, 1) := by decide +kernel
theorem dX1_cut_5 : decode cX1_cut 5 = .ok (.i2l, 1) := by decide +kernel
theorem dX1_cut_6 : decode cX1_cut 6 = .ok (.iload 4, 2) := by decide +kernel
theorem dX1_cut_8 : decode cX1_cut 8 = .ok (.iload_n 0, 1) := by decide +kernel
theorem dX1_cut_9 : decode cX1_cut 9 = .ok (.isub, 1) := by decide +kernel
theorem dX1_cut_10 : decode cX1_cut 10 = .ok (.i2l, 1) := by decide +kernel
theorem dX1_cut_11 : decode cX1_cut 11 = .ok (.lmul, 1) := by decide +kernel
theorem dX1_cut_12 : decode cX1_cut 12 = .ok (.iload_n 2, 1) := by decide +kernel
theorem dX1_cut_13 : decode cX1_cut 13 = .ok (.iload_n 0, 1) := by decide +kernel
theorem dX1_cut_14 : decode cX1_cut 14 = .ok (.isub, 1) := by decide +kernel
theorem dX1_cut_15 : decode cX1_cut 15 = .ok (.i2l, 1) := by decide +kernel
theorem dX1_cut_16 : decode cX1_cut 16 = .ok (.invokestatic 73, 3) := by decide +kernel
theorem dX1_cut_19 : decode cX1_cut 19 = .ok (.ladd, 1) := by decide +kernel
theorem dX1_cut_20 : decode cX1_cut 20 = .ok (.l2i, 1) := by decide +kernel
theorem dX1_cut_21 : decode cX1_cut 21 = .ok (.ireturn, 1) := by decide +kernel
abbrev cX1_floorOf : ByteArray := prog_1_method_8_code
def yX1_floorOf : MethodName := ⟨RX1, "floorOf", "(JJ)J"⟩
theorem dX1_floorOf_0 : decode cX1_floorOf 0 = .ok (.lload_n 0, 1) := by decide +kernel
theorem dX1_floorOf_1 : decode cX1_floorOf 1 = .ok (.lload_n 2, 1) := by decide +kernel
theorem dX1_floorOf_2 : decode cX1_floorOf 2 = .ok (.ldiv, 1) := by decide +kernel
theorem dX1_floorOf_3 : decode cX1_floorOf 3 = .ok (.lstore 4, 2) := by decide +kernel
theorem dX1_floorOf_5 : decode cX1_floorOf 5 = .ok (.lload_n 0, 1) := by decide +kernel
theorem dX1_floorOf_6 : decode cX1_floorOf 6 = .ok (.lload_n 2, 1) := by decide +kernel
theorem dX1_floorOf_7 : decode cX1_floorOf 7 = .ok (.lrem, 1) := by decide +kernel
theorem dX1_floorOf_8 : decode cX1_floorOf 8 = .ok (.lconst 0, 1) := by decide +kernel
theorem dX1_floorOf_9 : decode cX1_floorOf 9 = .ok (.lcmp, 1) := by decide +kernel
theorem dX1_floorOf_10 : decode cX1_floorOf 10 = .ok (.ifCond .eq 35, 3) := by decide +kernel
theorem dX1_floorOf_13 : decode cX1_floorOf 13 = .ok (.lload_n 0, 1) := by decide +kernel
theorem dX1_floorOf_14 : decode cX1_floorOf 14 = .ok (.lconst 0, 1) := by decide +kernel
theorem dX1_floorOf_15 : decode cX1_floorOf 15 = .ok (.lcmp, 1) := by decide +kernel
theorem dX1_floorOf_16 : decode cX1_floorOf 16 = .ok (.ifCond .ge 7, 3) := by decide +kernel
theorem dX1_floorOf_19 : decode cX1_floorOf 19 = .ok (.iconst 1, 1) := by decide +kernel
theorem dX1_floorOf_20 : decode cX1_floorOf 20 = .ok (.goto 4, 3) := by decide +kernel
theorem dX1_floorOf_23 : decode cX1_floorOf 23 = .ok (.iconst 0, 1) := by decide +kernel
theorem dX1_floorOf_24 : decode cX1_floorOf 24 = .ok (.lload_n 2, 1) := by decide +kernel
theorem dX1_floorOf_25 : decode cX1_floorOf 25 = .ok (.lconst 0, 1) := by decide +kernel
theorem dX1_floorOf_26 : decode cX1_floorOf 26 = .ok (.lcmp, 1) := by decide +kernel
theorem dX1_floorOf_27 : decode cX1_floorOf 27 = .ok (.ifCond .ge 7, 3) := by decide +kernel
theorem dX1_floorOf_30 : decode cX1_floorOf 30 = .ok (.iconst 1, 1) := by decide +kernel
theorem dX1_floorOf_31 : decode cX1_floorOf 31 = .ok (.goto 4, 3) := by decide +kernel
theorem dX1_floorOf_34 : decode cX1_floorOf 34 = .ok (.iconst 0, 1) := by decide +kernel
theorem dX1_floorOf_35 : decode cX1_floorOf 35 = .ok (.if_icmp .eq 10, 3) := by decide +kernel
theorem dX1_floorOf_38 : decode cX1_floorOf 38 = .ok (.lload 4, 2) := by decide +kernel
theorem dX1_floorOf_40 : decode cX1_floorOf 40 = .ok (.lconst 1, 1) := by decide +kernel
theorem dX1_floorOf_41 : decode cX1_floorOf 41 = .ok (.lsub, 1) := by decide +kernel
theorem dX1_floorOf_42 : decode cX1_floorOf 42 = .ok (.goto 5, 3) := by decide +kernel
theorem dX1_floorOf_45 : decode cX1_floorOf 45 = .ok (.lload 4, 2) := by decide +kernel
theorem dX1_floorOf_47 : decode cX1_floorOf 47 = .ok (.lreturn, 1) := by decide +kernel
abbrev cX1_put : ByteArray := prog_1_method_11_code
def yX1_put : MethodName := ⟨RX1, "put", "(II)Z"⟩
theorem dX1_put_0 : decode cX1_put 0 = .ok (.aload_n 0, 1) := by decide +kernel
theorem dX1_put_1 : decode cX1_put 1 = .ok (.getfield 77, 3) := by decide +kernel
theorem dX1_put_4 : decode cX1_put 4 = .ok (.aload_n 0, 1) := by decide +kernel
theorem dX1_put_5 : decode cX1_put 5 = .ok (.getfield 63, 3) := by decide +kernel
theorem dX1_put_8 : decode cX1_put 8 = .ok (.if_icmp .ne 5, 3) := by decide +kernel
theorem dX1_put_11 : decode cX1_put 11 = .ok (.iconst 0, 1) := by decide +kernel
theorem dX1_put_12 : decode cX1_put 12 = .ok (.ireturn, 1) := by decide +kernel
theorem dX1_put_13 : decode cX1_put 13 = .ok (.aload_n 0, 1) := by decide +kernel
theorem dX1_put_14 : decode cX1_put 14 = .ok (.getfield 16, 3) := by decide +kernel
theorem dX1_put_17 : decode cX1_put 17 = .ok (.aload_n 0, 1) := by decide +kernel
theorem dX1_put_18 : decode cX1_put 18 = .ok (.getfield 77, 3) := by decide +kernel
theorem dX1_put_21 : decode cX1_put 21 = .ok (.iload_n 1, 1) := by decide +kernel
theorem dX1_put_22 : decode cX1_put 22 = .ok (.iastore, 1) := by decide +kernel
theorem dX1_put_23 : decode cX1_put 23 = .ok (.aload_n 0, 1) := by decide +kernel
theorem dX1_put_24 : decode cX1_put 24 = .ok (.getfield 19, 3) := by decide +kernel
theorem dX1_put_27 : decode cX1_put 27 = .ok (.aload_n 0, 1) := by decide +kernel
theorem dX1_put_28 : decode cX1_put 28 = .ok (.getfield 77, 3) := by decide +kernel
theorem dX1_put_31 : decode cX1_put 31 = .ok (.iload_n 2, 1) := by decide +kernel
theorem dX1_put_32 : decode cX1_put 32 = .ok (.iastore, 1) := by decide +kernel
theorem dX1_put_33 : decode cX1_put 33 = .ok (.aload_n 0, 1) := by decide +kernel
theorem dX1_put_34 : decode cX1_put 34 = .ok (.dup, 1) := by decide +kernel
theorem dX1_put_35 : decode cX1_put 35 = .ok (.getfield 77, 3) := by decide +kernel
theorem dX1_put_38 : decode cX1_put 38 = .ok (.iconst 1, 1) := by decide +kernel
theorem dX1_put_39 : decode cX1_put 39 = .ok (.iadd, 1) := by decide +kernel
theorem dX1_put_40 : decode cX1_put 40 = .ok (.putfield 77, 3) := by decide +kernel
theorem dX1_put_43 : decode cX1_put 43 = .ok (.iconst 1, 1) := by decide +kernel
theorem dX1_put_44 : decode cX1_put 44 = .ok (.ireturn, 1) := by decide +kernel
abbrev cX1_vx : ByteArray := prog_1_method_15_code
def yX1_vx : MethodName := ⟨RX1, "vx", "(I)I"⟩
theorem dX1_vx_0 : decode cX1_vx 0 = .ok (.iload_n 1, 1) := by decide +kernel
theorem dX1_vx_1 : decode cX1_vx 1 = .ok (.ifCond .lt 20, 3) := by decide +kernel
theorem dX1_vx_4 : decode cX1_vx 4 = .ok (.iload_n 1, 1) := by decide +kernel
theorem dX1_vx_5 : decode cX1_vx 5 = .ok (.aload_n 0, 1) := by decide +kernel
theorem dX1_vx_6 : decode cX1_vx 6 = .ok (.getfield 66, 3) := by decide +kernel
theorem dX1_vx_9 : decode cX1_vx 9 = .ok (.if_icmp .ge 12, 3) := by decide +kernel
theorem dX1_vx_12 : decode cX1_vx 12 = .ok (.aload_n 0, 1) := by decide +kernel
theorem dX1_vx_13 : decode cX1_vx 13 = .ok (.getfield 7, 3) := by decide +kernel
theorem dX1_vx_16 : decode cX1_vx 16 = .ok (.iload_n 1, 1) := by decide +kernel
theorem dX1_vx_17 : decode cX1_vx 17 = .ok (.iaload, 1) := by decide +kernel
theorem dX1_vx_18 : decode cX1_vx 18 = .ok (.goto 6, 3) := by decide +kernel
theorem dX1_vx_21 : decode cX1_vx 21 = .ok (.sipush (-32768), 3) := by decide +kernel
theorem dX1_vx_24 : decode cX1_vx 24 = .ok (.ireturn, 1) := by decide +kernel
abbrev cX1_vy : ByteArray := prog_1_method_16_code
def yX1_vy : MethodName := ⟨RX1, "vy", "(I)I"⟩
theorem dX1_vy_0 : decode cX1_vy 0 = .ok (.iload_n 1, 1) := by decide +kernel
theorem dX1_vy_1 : decode cX1_vy 1 = .ok (.ifCond .lt 20, 3) := by decide +kernel
theorem dX1_vy_4 : decode cX1_vy 4 = .ok (.iload_n 1, 1) := by decide +kernel
theorem dX1_vy_5 : decode cX1_vy 5 = .ok (.aload_n 0, 1) := by decide +kernel
theorem dX1_vy_6 : decode cX1_vy 6 = .ok (.getfield 66, 3) := by decide +kernel
theorem dX1_vy_9 : decode cX1_vy 9 = .ok (.if_icmp .ge 12, 3) := by decide +kernel
theorem dX1_vy_12 : decode cX1_vy 12 = .ok (.aload_n 0, 1) := by decide +kernel
theorem dX1_vy_13 : decode cX1_vy 13 = .ok (.getfield 13, 3) := by decide +kernel
theorem dX1_vy_16 : decode cX1_vy 16 = .ok (.iload_n 1, 1) := by decide +kernel
theorem dX1_vy_17 : decode cX1_vy 17 = .ok (.iaload, 1) := by decide +kernel
theorem dX1_vy_18 : decode cX1_vy 18 = .ok (.goto 6, 3) := by decide +kernel
theorem dX1_vy_21 : decode cX1_vy 21 = .ok (.sipush (-32768), 3) := by decide +kernel
theorem dX1_vy_24 : decode cX1_vy 24 = .ok (.ireturn, 1) := by decide +kernel
abbrev cX1_vertices : ByteArray := prog_1_method_17_code
def yX1_vertices : MethodName := ⟨RX1, "vertices", "()I"⟩
theorem dX1_vertices_0 : decode cX1_vertices 0 = .ok (.aload_n 0, 1) := by decide +kernel
theorem dX1_vertices_1 : decode cX1_vertices 1 = .ok (.getfield 66, 3) := by decide +kernel
theorem dX1_vertices_4 : decode cX1_vertices 4 = .ok (.ireturn, 1) := by decide +kernel
abbrev cX1_inside : ByteArray := prog_1_method_21_code
def yX1_inside : MethodName := ⟨RX1, "inside", "(II)Z"⟩
theorem dX1_inside_0 : decode cX1_inside 0 = .ok (.iconst 0, 1) := by decide +kernel
theorem dX1_inside_1 : decode cX1_inside 1 = .ok (.istore_n 3, 1) := by decide +kernel
theorem dX1_inside_2 : decode cX1_inside 2 = .ok (.iconst 0, 1) := by decide +kernel
theorem dX1_inside_3 : decode cX1_inside 3 = .ok (.istore 4, 2) := by decide +kernel
theorem dX1_inside_5 : decode cX1_inside 5 = .ok (.iload 4, 2) := by decide +kernel
theorem dX1_inside_7 : decode cX1_inside 7 = .ok (.aload_n 0, 1) := by decide +kernel
theorem dX1_inside_8 : decode cX1_inside 8 = .ok (.getfield 66, 3) := by decide +kernel
theorem dX1_inside_11 : decode cX1_inside 11 = .ok (.if_icmp .ge 124, 3) := by decide +kernel
theorem dX1_inside_14 : decode cX1_inside 14 = .ok (.aload_n 0, 1) := by decide +kernel
theorem dX1_inside_15 : decode cX1_inside 15 = .ok (.iload 4, 2) := by decide +kernel
theorem dX1_inside_17 : decode cX1_inside 17 = .ok (.invokevirtual 104, 3) := by decide +kernel
theorem dX1_inside_20 : decode cX1_inside 20 = .ok (.istore 5, 2) := by decide +kernel
theorem dX1_inside_22 : decode cX1_inside 22 = .ok (.aload_n 0, 1) := by decide +kernel
theorem dX1_inside_23 : decode cX1_inside 23 = .ok (.iload 4, 2) := by decide +kernel
theorem dX1_inside_25 : decode cX1_inside 25 = .ok (.invokevirtual 107, 3) := by decide +kernel
theorem dX1_inside_28 : decode cX1_inside 28 = .ok (.istore 6, 2) := by decide +kernel
theorem dX1_inside_30 : decode cX1_inside 30 = .ok (.aload_n 0, 1) := by decide +kernel
theorem dX1_inside_31 : decode cX1_inside 31 = .ok (.getfield 13, 3) := by decide +kernel
theorem dX1_inside_34 : decode cX1_inside 34 = .ok (.iload 5, 2) := by decide +kernel
theorem dX1_inside_36 : decode cX1_inside 36 = .ok (.iaload, 1) := by decide +kernel
theorem dX1_inside_37 : decode cX1_inside 37 = .ok (.iload_n 2, 1) := by decide +kernel
theorem dX1_inside_38 : decode cX1_inside 38 = .ok (.if_icmp .gt 91, 3) := by decide +kernel
theorem dX1_inside_41 : decode cX1_inside 41 = .ok (.aload_n 0, 1) := by decide +kernel
theorem dX1_inside_42 : decode cX1_inside 42 = .ok (.getfield 13, 3) := by decide +kernel
theorem dX1_inside_45 : decode cX1_inside 45 = .ok (.iload 6, 2) := by decide +kernel
theorem dX1_inside_47 : decode cX1_inside 47 = .ok (.iaload, 1) := by decide +kernel
theorem dX1_inside_48 : decode cX1_inside 48 = .ok (.iload_n 2, 1) := by decide +kernel
theorem dX1_inside_49 : decode cX1_inside 49 = .ok (.if_icmp .gt 6, 3) := by decide +kernel
theorem dX1_inside_52 : decode cX1_inside 52 = .ok (.goto 77, 3) := by decide +kernel
theorem dX1_inside_55 : decode cX1_inside 55 = .ok (.aload_n 0, 1) := by decide +kernel
theorem dX1_inside_56 : decode cX1_inside 56 = .ok (.getfield 7, 3) := by decide +kernel
theorem dX1_inside_59 : decode cX1_inside 59 = .ok (.iload 5, 2) := by decide +kernel
theorem dX1_inside_61 : decode cX1_inside 61 = .ok (.iaload, 1) := by decide +kernel
theorem dX1_inside_62 : decode cX1_inside 62 = .ok (.i2l, 1) := by decide +kernel
theorem dX1_inside_63 : decode cX1_inside 63 = .ok (.iload_n 1, 1) := by decide +kernel
theorem dX1_inside_64 : decode cX1_inside 64 = .ok (.i2l, 1) := by decide +kernel
theorem dX1_inside_65 : decode cX1_inside 65 = .ok (.lsub, 1) := by decide +kernel
theorem dX1_inside_66 : decode cX1_inside 66 = .ok (.aload_n 0, 1) := by decide +kernel
theorem dX1_inside_67 : decode cX1_inside 67 = .ok (.getfield 13, 3) := by decide +kernel
theorem dX1_inside_70 : decode cX1_inside 70 = .ok (.iload 6, 2) := by decide +kernel
theorem dX1_inside_72 : decode cX1_inside 72 = .ok (.iaload, 1) := by decide +kernel
theorem dX1_inside_73 : decode cX1_inside 73 = .ok (.aload_n 0, 1) := by decide +kernel
theorem dX1_inside_74 : decode cX1_inside 74 = .ok (.getfield 13, 3) := by decide +kernel
theorem dX1_inside_77 : decode cX1_inside 77 = .ok (.iload 5, 2) := by decide +kernel
theorem dX1_inside_79 : decode cX1_inside 79 = .ok (.iaload, 1) := by decide +kernel
theorem dX1_inside_80 : decode cX1_inside 80 = .ok (.isub, 1) := by decide +kernel
theorem dX1_inside_81 : decode cX1_inside 81 = .ok (.i2l, 1) := by decide +kernel
theorem dX1_inside_82 : decode cX1_inside 82 = .ok (.lmul, 1) := by decide +kernel
theorem dX1_inside_83 : decode cX1_inside 83 = .ok (.iload_n 2, 1) := by decide +kernel
theorem dX1_inside_84 : decode cX1_inside 84 = .ok (.i2l, 1) := by decide +kernel
theorem dX1_inside_85 : decode cX1_inside 85 = .ok (.aload_n 0, 1) := by decide +kernel
theorem dX1_inside_86 : decode cX1_inside 86 = .ok (.getfield 13, 3) := by decide +kernel
theorem dX1_inside_89 : decode cX1_inside 89 = .ok (.iload 5, 2) := by decide +kernel
theorem dX1_inside_91 : decode cX1_inside 91 = .ok (.iaload, 1) := by decide +kernel
theorem dX1_inside_92 : decode cX1_inside 92 = .ok (.i2l, 1) := by decide +kernel
theorem dX1_inside_93 : decode cX1_inside 93 = .ok (.lsub, 1) := by decide +kernel
theorem dX1_inside_94 : decode cX1_inside 94 = .ok (.aload_n 0, 1) := by decide +kernel
theorem dX1_inside_95 : decode cX1_inside 95 = .ok (.getfield 7, 3) := by decide +kernel
theorem dX1_inside_98 : decode cX1_inside 98 = .ok (.iload 6, 2) := by decide +kernel
theorem dX1_inside_100 : decode cX1_inside 100 = .ok (.iaload, 1) := by decide +kernel
theorem dX1_inside_101 : decode cX1_inside 101 = .ok (.aload_n 0, 1) := by decide +kernel
theorem dX1_inside_102 : decode cX1_inside 102 = .ok (.getfield 7, 3) := by decide +kernel
theorem dX1_inside_105 : decode cX1_inside 105 = .ok (.iload 5, 2) := by decide +kernel
theorem dX1_inside_107 : decode cX1_inside 107 = .ok (.iaload, 1) := by decide +kernel
theorem dX1_inside_108 : decode cX1_inside 108 = .ok (.isub, 1) := by decide +kernel
theorem dX1_inside_109 : decode cX1_inside 109 = .ok (.i2l, 1) := by decide +kernel
theorem dX1_inside_110 : decode cX1_inside 110 = .ok (.lmul, 1) := by decide +kernel
theorem dX1_inside_111 : decode cX1_inside 111 = .ok (.ladd, 1) := by decide +kernel
theorem dX1_inside_112 : decode cX1_inside 112 = .ok (.lstore 7, 2) := by decide +kernel
theorem dX1_inside_114 : decode cX1_inside 114 = .ok (.iload_n 3, 1) := by decide +kernel
theorem dX1_inside_115 : decode cX1_inside 115 = .ok (.lload 7, 2) := by decide +kernel
theorem dX1_inside_117 : decode cX1_inside 117 = .ok (.lconst 0, 1) := by decide +kernel
theorem dX1_inside_118 : decode cX1_inside 118 = .ok (.lcmp, 1) := by decide +kernel
theorem dX1_inside_119 : decode cX1_inside 119 = .ok (.ifCond .le 7, 3) := by decide +kernel
theorem dX1_inside_122 : decode cX1_inside 122 = .ok (.iconst 1, 1) := by decide +kernel
theorem dX1_inside_123 : decode cX1_inside 123 = .ok (.goto 4, 3) := by decide +kernel
theorem dX1_inside_126 : decode cX1_inside 126 = .ok (.iconst 0, 1) := by decide +kernel
theorem dX1_inside_127 : decode cX1_inside 127 = .ok (.ixor, 1) := by decide +kernel
theorem dX1_inside_128 : decode cX1_inside 128 = .ok (.istore_n 3, 1) := by decide +kernel
theorem dX1_inside_129 : decode cX1_inside 129 = .ok (.iinc 4 1, 3) := by decide +kernel
theorem dX1_inside_132 : decode cX1_inside 132 = .ok (.goto (-127), 3) := by decide +kernel
theorem dX1_inside_135 : decode cX1_inside 135 = .ok (.iload_n 3, 1) := by decide +kernel
theorem dX1_inside_136 : decode cX1_inside 136 = .ok (.ireturn, 1) := by decide +kernel
abbrev cX1_lowOf : ByteArray := prog_1_method_19_code
def yX1_lowOf : MethodName := ⟨RX1, "lowOf", "(I)I"⟩
theorem dX1_lowOf_0 : decode cX1_lowOf 0 = .ok (.aload_n 0, 1) := by decide +kernel
theorem dX1_lowOf_1 : decode cX1_lowOf 1 = .ok (.getfield 13, 3) := by decide +kernel
theorem dX1_lowOf_4 : decode cX1_lowOf 4 = .ok (.iload_n 1, 1) := by decide +kernel
theorem dX1_lowOf_5 : decode cX1_lowOf 5 = .ok (.iaload, 1) := by decide +kernel
theorem dX1_lowOf_6 : decode cX1_lowOf 6 = .ok (.aload_n 0, 1) := by decide +kernel
theorem dX1_lowOf_7 : decode cX1_lowOf 7 = .ok (.getfield 13, 3) := by decide +kernel
theorem dX1_lowOf_10 : decode cX1_lowOf 10 = .ok (.aload_n 0, 1) := by decide +kernel
theorem dX1_lowOf_11 : decode cX1_lowOf 11 = .ok (.iload_n 1, 1) := by decide +kernel
theorem dX1_lowOf_12 : decode cX1_lowOf 12 = .ok (.invokevirtual 100, 3) := by decide +kernel
theorem dX1_lowOf_15 : decode cX1_lowOf 15 = .ok (.iaload, 1) := by decide +kernel
theorem dX1_lowOf_16 : decode cX1_lowOf 16 = .ok (.if_icmp .gt 7, 3) := by decide +kernel
theorem dX1_lowOf_19 : decode cX1_lowOf 19 = .ok (.iload_n 1, 1) := by decide +kernel
theorem dX1_lowOf_20 : decode cX1_lowOf 20 = .ok (.goto 8, 3) := by decide +kernel
theorem dX1_lowOf_23 : decode cX1_lowOf 23 = .ok (.aload_n 0, 1) := by decide +kernel
theorem dX1_lowOf_24 : decode cX1_lowOf 24 = .ok (.iload_n 1, 1) := by decide +kernel
theorem dX1_lowOf_25 : decode cX1_lowOf 25 = .ok (.invokevirtual 100, 3) := by decide +kernel
theorem dX1_lowOf_28 : decode cX1_lowOf 28 = .ok (.ireturn, 1) := by decide +kernel
abbrev cX1_nextOf : ByteArray := prog_1_method_18_code
def yX1_nextOf : MethodName := ⟨RX1, "nextOf", "(I)I"⟩
theorem dX1_nextOf_0 : decode cX1_nextOf 0 = .ok (.iload_n 1, 1) := by decide +kernel
theorem dX1_nextOf_1 : decode cX1_nextOf 1 = .ok (.iconst 1, 1) := by decide +kernel
theorem dX1_nextOf_2 : decode cX1_nextOf 2 = .ok (.iadd, 1) := by decide +kernel
theorem dX1_nextOf_3 : decode cX1_nextOf 3 = .ok (.aload_n 0, 1) := by decide +kernel
theorem dX1_nextOf_4 : decode cX1_nextOf 4 = .ok (.getfield 66, 3) := by decide +kernel
theorem dX1_nextOf_7 : decode cX1_nextOf 7 = .ok (.if_icmp .ne 7, 3) := by decide +kernel
theorem dX1_nextOf_10 : decode cX1_nextOf 10 = .ok (.iconst 0, 1) := by decide +kernel
theorem dX1_nextOf_11 : decode cX1_nextOf 11 = .ok (.goto 6, 3) := by decide +kernel
theorem dX1_nextOf_14 : decode cX1_nextOf 14 = .ok (.iload_n 1, 1) := by decide +kernel
theorem dX1_nextOf_15 : decode cX1_nextOf 15 = .ok (.iconst 1, 1) := by decide +kernel
theorem dX1_nextOf_16 : decode cX1_nextOf 16 = .ok (.iadd, 1) := by decide +kernel
theorem dX1_nextOf_17 : decode cX1_nextOf 17 = .ok (.ireturn, 1) := by decide +kernel
abbrev cX1_highOf : ByteArray := prog_1_method_20_code
def yX1_highOf : MethodName := ⟨RX1, "highOf", "(I)I"⟩
theorem dX1_highOf_0 : decode cX1_highOf 0 = .ok (.aload_n 0, 1) := by decide +kernel
theorem dX1_highOf_1 : decode cX1_highOf 1 = .ok (.getfield 13, 3) := by decide +kernel
theorem dX1_highOf_4 : decode cX1_highOf 4 = .ok (.iload_n 1, 1) := by decide +kernel
theorem dX1_highOf_5 : decode cX1_highOf 5 = .ok (.iaload, 1) := by decide +kernel
theorem dX1_highOf_6 : decode cX1_highOf 6 = .ok (.aload_n 0, 1) := by decide +kernel
theorem dX1_highOf_7 : decode cX1_highOf 7 = .ok (.getfield 13, 3) := by decide +kernel
theorem dX1_highOf_10 : decode cX1_highOf 10 = .ok (.aload_n 0, 1) := by decide +kernel
theorem dX1_highOf_11 : decode cX1_highOf 11 = .ok (.iload_n 1, 1) := by decide +kernel
theorem dX1_highOf_12 : decode cX1_highOf 12 = .ok (.invokevirtual 100, 3) := by decide +kernel
theorem dX1_highOf_15 : decode cX1_highOf 15 = .ok (.iaload, 1) := by decide +kernel
theorem dX1_highOf_16 : decode cX1_highOf 16 = .ok (.if_icmp .gt 11, 3) := by decide +kernel
theorem dX1_highOf_19 : decode cX1_highOf 19 = .ok (.aload_n 0, 1) := by decide +kernel
theorem dX1_highOf_20 : decode cX1_highOf 20 = .ok (.iload_n 1, 1) := by decide +kernel
theorem dX1_highOf_21 : decode cX1_highOf 21 = .ok (.invokevirtual 100, 3) := by decide +kernel
theorem dX1_highOf_24 : decode cX1_highOf 24 = .ok (.goto 4, 3) := by decide +kernel
theorem dX1_highOf_27 : decode cX1_highOf 27 = .ok (.iload_n 1, 1) := by decide +kernel
theorem dX1_highOf_28 : decode cX1_highOf 28 = .ok (.ireturn, 1) := by decide +kernel
abbrev cX1_fill : ByteArray := prog_1_method_26_code
def yX1_fill : MethodName := ⟨RX1, "fill", "(I)I"⟩
theorem dX1_fill_0 : decode cX1_fill 0 = .ok (.aload_n 0, 1) := by decide +kernel
theorem dX1_fill_1 : decode cX1_fill 1 = .ok (.invokevirtual 110, 3) := by decide +kernel
theorem dX1_fill_4 : decode cX1_fill 4 = .ok (.istore_n 2, 1) := by decide +kernel
theorem dX1_fill_5 : decode cX1_fill 5 = .ok (.iconst 0, 1) := by decide +kernel
theorem dX1_fill_6 : decode cX1_fill 6 = .ok (.istore_n 3, 1) := by decide +kernel
theorem dX1_fill_7 : decode cX1_fill 7 = .ok (.iconst 0, 1) := by decide +kernel
theorem dX1_fill_8 : decode cX1_fill 8 = .ok (.istore 4, 2) := by decide +kernel
theorem dX1_fill_10 : decode cX1_fill 10 = .ok (.iconst 0, 1) := by decide +kernel
theorem dX1_fill_11 : decode cX1_fill 11 = .ok (.istore 5, 2) := by decide +kernel
theorem dX1_fill_13 : decode cX1_fill 13 = .ok (.iconst 0, 1) := by decide +kernel
theorem dX1_fill_14 : decode cX1_fill 14 = .ok (.istore 6, 2) := by decide +kernel
theorem dX1_fill_16 : decode cX1_fill 16 = .ok (.iload 6, 2) := by decide +kernel
theorem dX1_fill_18 : decode cX1_fill 18 = .ok (.aload_n 0, 1) := by decide +kernel
theorem dX1_fill_19 : decode cX1_fill 19 = .ok (.getfield 60, 3) := by decide +kernel
theorem dX1_fill_22 : decode cX1_fill 22 = .ok (.if_icmp .ge 194, 3) := by decide +kernel
theorem dX1_fill_25 : decode cX1_fill 25 = .ok (.iload_n 3, 1) := by decide +kernel
theorem dX1_fill_26 : decode cX1_fill 26 = .ok (.iload_n 2, 1) := by decide +kernel
theorem dX1_fill_27 : decode cX1_fill 27 = .ok (.if_icmp .ge 45, 3) := by decide +kernel
theorem dX1_fill_30 : decode cX1_fill 30 = .ok (.aload_n 0, 1) := by decide +kernel
theorem dX1_fill_31 : decode cX1_fill 31 = .ok (.getfield 13, 3) := by decide +kernel
theorem dX1_fill_34 : decode cX1_fill 34 = .ok (.aload_n 0, 1) := by decide +kernel
theorem dX1_fill_35 : decode cX1_fill 35 = .ok (.aload_n 0, 1) := by decide +kernel
theorem dX1_fill_36 : decode cX1_fill 36 = .ok (.getfield 25, 3) := by decide +kernel
theorem dX1_fill_39 : decode cX1_fill 39 = .ok (.iload_n 3, 1) := by decide +kernel
theorem dX1_fill_40 : decode cX1_fill 40 = .ok (.iaload, 1) := by decide +kernel
theorem dX1_fill_41 : decode cX1_fill 41 = .ok (.invokevirtual 104, 3) := by decide +kernel
theorem dX1_fill_44 : decode cX1_fill 44 = .ok (.iaload, 1) := by decide +kernel
theorem dX1_fill_45 : decode cX1_fill 45 = .ok (.iload 6, 2) := by decide +kernel
theorem dX1_fill_47 : decode cX1_fill 47 = .ok (.if_icmp .gt 25, 3) := by decide +kernel
theorem dX1_fill_50 : decode cX1_fill 50 = .ok (.aload_n 0, 1) := by decide +kernel
theorem dX1_fill_51 : decode cX1_fill 51 = .ok (.getfield 28, 3) := by decide +kernel
theorem dX1_fill_54 : decode cX1_fill 54 = .ok (.iload 4, 2) := by decide +kernel
theorem dX1_fill_56 : decode cX1_fill 56 = .ok (.aload_n 0, 1) := by decide +kernel
theorem dX1_fill_57 : decode cX1_fill 57 = .ok (.getfield 25, 3) := by decide +kernel
theorem dX1_fill_60 : decode cX1_fill 60 = .ok (.iload_n 3, 1) := by decide +kernel
theorem dX1_fill_61 : decode cX1_fill 61 = .ok (.iaload, 1) := by decide +kernel
theorem dX1_fill_62 : decode cX1_fill 62 = .ok (.iastore, 1) := by decide +kernel
theorem dX1_fill_63 : decode cX1_fill 63 = .ok (.iinc 4 1, 3) := by decide +kernel
theorem dX1_fill_66 : decode cX1_fill 66 = .ok (.iinc 3 1, 3) := by decide +kernel
theorem dX1_fill_69 : decode cX1_fill 69 = .ok (.goto (-44), 3) := by decide +kernel
theorem dX1_fill_72 : decode cX1_fill 72 = .ok (.iconst 0, 1) := by decide +kernel
theorem dX1_fill_73 : decode cX1_fill 73 = .ok (.istore 7, 2) := by decide +kernel
theorem dX1_fill_75 : decode cX1_fill 75 = .ok (.iconst 0, 1) := by decide +kernel
theorem dX1_fill_76 : decode cX1_fill 76 = .ok (.istore 8, 2) := by decide +kernel
theorem dX1_fill_78 : decode cX1_fill 78 = .ok (.iload 8, 2) := by decide +kernel
theorem dX1_fill_80 : decode cX1_fill 80 = .ok (.iload 4, 2) := by decide +kernel
theorem dX1_fill_82 : decode cX1_fill 82 = .ok (.if_icmp .ge 70, 3) := by decide +kernel
theorem dX1_fill_85 : decode cX1_fill 85 = .ok (.aload_n 0, 1) := by decide +kernel
theorem dX1_fill_86 : decode cX1_fill 86 = .ok (.getfield 13, 3) := by decide +kernel
theorem dX1_fill_89 : decode cX1_fill 89 = .ok (.aload_n 0, 1) := by decide +kernel
theorem dX1_fill_90 : decode cX1_fill 90 = .ok (.aload_n 0, 1) := by decide +kernel
theorem dX1_fill_91 : decode cX1_fill 91 = .ok (.getfield 28, 3) := by decide +kernel
theorem dX1_fill_94 : decode cX1_fill 94 = .ok (.iload 8, 2) := by decide +kernel
theorem dX1_fill_96 : decode cX1_fill 96 = .ok (.iaload, 1) := by decide +kernel
theorem dX1_fill_97 : decode cX1_fill 97 = .ok (.invokevirtual 107, 3) := by decide +kernel
theorem dX1_fill_100 : decode cX1_fill 100 = .ok (.iaload, 1) := by decide +kernel
theorem dX1_fill_101 : decode cX1_fill 101 = .ok (.iload 6, 2) := by decide +kernel
theorem dX1_fill_103 : decode cX1_fill 103 = .ok (.if_icmp .gt 6, 3) := by decide +kernel
theorem dX1_fill_106 : decode cX1_fill 106 = .ok (.goto 40, 3) := by decide +kernel
theorem dX1_fill_109 : decode cX1_fill 109 = .ok (.aload_n 0, 1) := by decide +kernel
theorem dX1_fill_110 : decode cX1_fill 110 = .ok (.getfield 28, 3) := by decide +kernel
theorem dX1_fill_113 : decode cX1_fill 113 = .ok (.iload 7, 2) := by decide +kernel
theorem dX1_fill_115 : decode cX1_fill 115 = .ok (.aload_n 0, 1) := by decide +kernel
theorem dX1_fill_116 : decode cX1_fill 116 = .ok (.getfield 28, 3) := by decide +kernel
theorem dX1_fill_119 : decode cX1_fill 119 = .ok (.iload 8, 2) := by decide +kernel
theorem dX1_fill_121 : decode cX1_fill 121 = .ok (.iaload, 1) := by decide +kernel
theorem dX1_fill_122 : decode cX1_fill 122 = .ok (.iastore, 1) := by decide +kernel
theorem dX1_fill_123 : decode cX1_fill 123 = .ok (.aload_n 0, 1) := by decide +kernel
theorem dX1_fill_124 : decode cX1_fill 124 = .ok (.getfield 31, 3) := by decide +kernel
theorem dX1_fill_127 : decode cX1_fill 127 = .ok (.iload 7, 2) := by decide +kernel
theorem dX1_fill_129 : decode cX1_fill 129 = .ok (.aload_n 0, 1) := by decide +kernel
theorem dX1_fill_130 : decode cX1_fill 130 = .ok (.aload_n 0, 1) := by decide +kernel
theorem dX1_fill_131 : decode cX1_fill 131 = .ok (.getfield 28, 3) := by decide +kernel
theorem dX1_fill_134 : decode cX1_fill 134 = .ok (.iload 8, 2) := by decide +kernel
theorem dX1_fill_136 : decode cX1_fill 136 = .ok (.iaload, 1) := by decide +kernel
theorem dX1_fill_137 : decode cX1_fill 137 = .ok (.iload 6, 2) := by decide +kernel
theorem dX1_fill_139 : decode cX1_fill 139 = .ok (.invokevirtual 114, 3) := by decide +kernel
theorem dX1_fill_142 : decode cX1_fill 142 = .ok (.iastore, 1) := by decide +kernel
theorem dX1_fill_143 : decode cX1_fill 143 = .ok (.iinc 7 1, 3) := by decide +kernel
theorem dX1_fill_146 : decode cX1_fill 146 = .ok (.iinc 8 1, 3) := by decide +kernel
theorem dX1_fill_149 : decode cX1_fill 149 = .ok (.goto (-71), 3) := by decide +kernel
theorem dX1_fill_152 : decode cX1_fill 152 = .ok (.iload 7, 2) := by decide +kernel
theorem dX1_fill_154 : decode cX1_fill 154 = .ok (.istore 4, 2) := by decide +kernel
theorem dX1_fill_156 : decode cX1_fill 156 = .ok (.aload_n 0, 1) := by decide +kernel
theorem dX1_fill_157 : decode cX1_fill 157 = .ok (.iload 4, 2) := by decide +kernel
theorem dX1_fill_159 : decode cX1_fill 159 = .ok (.invokevirtual 118, 3) := by decide +kernel
theorem dX1_fill_162 : decode cX1_fill 162 = .ok (.iconst 0, 1) := by decide +kernel
theorem dX1_fill_163 : decode cX1_fill 163 = .ok (.istore 8, 2) := by decide +kernel
theorem dX1_fill_165 : decode cX1_fill 165 = .ok (.iload 8, 2) := by decide +kernel
theorem dX1_fill_167 : decode cX1_fill 167 = .ok (.iconst 1, 1) := by decide +kernel
theorem dX1_fill_168 : decode cX1_fill 168 = .ok (.iadd, 1) := by decide +kernel
theorem dX1_fill_169 : decode cX1_fill 169 = .ok (.iload 4, 2) := by decide +kernel
theorem dX1_fill_171 : decode cX1_fill 171 = .ok (.if_icmp .ge 39, 3) := by decide +kernel
theorem dX1_fill_174 : decode cX1_fill 174 = .ok (.iload 5, 2) := by decide +kernel
theorem dX1_fill_176 : decode cX1_fill 176 = .ok (.aload_n 0, 1) := by decide +kernel
theorem dX1_fill_177 : decode cX1_fill 177 = .ok (.iload 6, 2) := by decide +kernel
theorem dX1_fill_179 : decode cX1_fill 179 = .ok (.aload_n 0, 1) := by decide +kernel
theorem dX1_fill_180 : decode cX1_fill 180 = .ok (.getfield 31, 3) := by decide +kernel
theorem dX1_fill_183 : decode cX1_fill 183 = .ok (.iload 8, 2) := by decide +kernel
theorem dX1_fill_185 : decode cX1_fill 185 = .ok (.iaload, 1) := by decide +kernel
theorem dX1_fill_186 : decode cX1_fill 186 = .ok (.iconst 1, 1) := by decide +kernel
theorem dX1_fill_187 : decode cX1_fill 187 = .ok (.iadd, 1) := by decide +kernel
theorem dX1_fill_188 : decode cX1_fill 188 = .ok (.aload_n 0, 1) := by decide +kernel
theorem dX1_fill_189 : decode cX1_fill 189 = .ok (.getfield 31, 3) := by decide +kernel
theorem dX1_fill_192 : decode cX1_fill 192 = .ok (.iload 8, 2) := by decide +kernel
theorem dX1_fill_194 : decode cX1_fill 194 = .ok (.iconst 1, 1) := by decide +kernel
theorem dX1_fill_195 : decode cX1_fill 195 = .ok (.iadd, 1) := by decide +kernel
theorem dX1_fill_196 : decode cX1_fill 196 = .ok (.iaload, 1) := by decide +kernel
theorem dX1_fill_197 : decode cX1_fill 197 = .ok (.iload_n 1, 1) := by decide +kernel
theorem dX1_fill_198 : decode cX1_fill 198 = .ok (.invokevirtual 122, 3) := by decide +kernel
theorem dX1_fill_201 : decode cX1_fill 201 = .ok (.iadd, 1) := by decide +kernel
theorem dX1_fill_202 : decode cX1_fill 202 = .ok (.istore 5, 2) := by decide +kernel
theorem dX1_fill_204 : decode cX1_fill 204 = .ok (.iinc 8 2, 3) := by decide +kernel
theorem dX1_fill_207 : decode cX1_fill 207 = .ok (.goto (-42), 3) := by decide +kernel
theorem dX1_fill_210 : decode cX1_fill 210 = .ok (.iinc 6 1, 3) := by decide +kernel
theorem dX1_fill_213 : decode cX1_fill 213 = .ok (.goto (-197), 3) := by decide +kernel
theorem dX1_fill_216 : decode cX1_fill 216 = .ok (.iload 5, 2) := by decide +kernel
theorem dX1_fill_218 : decode cX1_fill 218 = .ok (.ireturn, 1) := by decide +kernel
end
section
set_option maxRecDepth 100000
abbrev cX1_makeTable : ByteArray := prog_1_method_23_code
def yX1_makeTable : MethodName := ⟨RX1, "makeTable", "()I"⟩
theorem dX1_makeTable_0 : decode cX1_makeTable 0 = .ok (.iconst 0, 1) := by decide +kernel
theorem dX1_makeTable_1 : decode cX1_makeTable 1 = .ok (.istore_n 1, 1) := by decide +kernel
theorem dX1_makeTable_2 : decode cX1_makeTable 2 = .ok (.iconst 0, 1) := by decide +kernel
theorem dX1_makeTable_3 : decode cX1_makeTable 3 = .ok (.istore_n 2, 1) := by decide +kernel
theorem dX1_makeTable_4 : decode cX1_makeTable 4 = .ok (.iload_n 2, 1) := by decide +kernel
theorem dX1_makeTable_5 : decode cX1_makeTable 5 = .ok (.aload_n 0, 1) := by decide +kernel
theorem dX1_makeTable_6 : decode cX1_makeTable 6 = .ok (.getfield 66, 3) := by decide +kernel
theorem dX1_makeTable_9 : decode cX1_makeTable 9 = .ok (.if_icmp .ge 97, 3) := by decide +kernel
theorem dX1_makeTable_12 : decode cX1_makeTable 12 = .ok (.aload_n 0, 1) := by decide +kernel
theorem dX1_makeTable_13 : decode cX1_makeTable 13 = .ok (.getfield 13, 3) := by decide +kernel
theorem dX1_makeTable_16 : decode cX1_makeTable 16 = .ok (.iload_n 2, 1) := by decide +kernel
theorem dX1_makeTable_17 : decode cX1_makeTable 17 = .ok (.iaload, 1) := by decide +kernel
theorem dX1_makeTable_18 : decode cX1_makeTable 18 = .ok (.aload_n 0, 1) := by decide +kernel
theorem dX1_makeTable_19 : decode cX1_makeTable 19 = .ok (.getfield 13, 3) := by decide +kernel
theorem dX1_makeTable_22 : decode cX1_makeTable 22 = .ok (.aload_n 0, 1) := by decide +kernel
theorem dX1_makeTable_23 : decode cX1_makeTable 23 = .ok (.iload_n 2, 1) := by decide +kernel
theorem dX1_makeTable_24 : decode cX1_makeTable 24 = .ok (.invokevirtual 100, 3) := by decide +kernel
theorem dX1_makeTable_27 : decode cX1_makeTable 27 = .ok (.iaload, 1) := by decide +kernel
theorem dX1_makeTable_28 : decode cX1_makeTable 28 = .ok (.if_icmp .ne 6, 3) := by decide +kernel
theorem dX1_makeTable_31 : decode cX1_makeTable 31 = .ok (.goto 69, 3) := by decide +kernel
theorem dX1_makeTable_34 : decode cX1_makeTable 34 = .ok (.iload_n 1, 1) := by decide +kernel
theorem dX1_makeTable_35 : decode cX1_makeTable 35 = .ok (.istore_n 3, 1) := by decide +kernel
theorem dX1_makeTable_36 : decode cX1_makeTable 36 = .ok (.iinc 1 1, 3) := by decide +kernel
theorem dX1_makeTable_39 : decode cX1_makeTable 39 = .ok (.iload_n 3, 1) := by decide +kernel
theorem dX1_makeTable_40 : decode cX1_makeTable 40 = .ok (.ifCond .le 53, 3) := by decide +kernel
theorem dX1_makeTable_43 : decode cX1_makeTable 43 = .ok (.aload_n 0, 1) := by decide +kernel
theorem dX1_makeTable_44 : decode cX1_makeTable 44 = .ok (.getfield 13, 3) := by decide +kernel
theorem dX1_makeTable_47 : decode cX1_makeTable 47 = .ok (.aload_n 0, 1) := by decide +kernel
theorem dX1_makeTable_48 : decode cX1_makeTable 48 = .ok (.aload_n 0, 1) := by decide +kernel
theorem dX1_makeTable_49 : decode cX1_makeTable 49 = .ok (.getfield 25, 3) := by decide +kernel
theorem dX1_makeTable_52 : decode cX1_makeTable 52 = .ok (.iload_n 3, 1) := by decide +kernel
theorem dX1_makeTable_53 : decode cX1_makeTable 53 = .ok (.iconst 1, 1) := by decide +kernel
theorem dX1_makeTable_54 : decode cX1_makeTable 54 = .ok (.isub, 1) := by decide +kernel
theorem dX1_makeTable_55 : decode cX1_makeTable 55 = .ok (.iaload, 1) := by decide +kernel
theorem dX1_makeTable_56 : decode cX1_makeTable 56 = .ok (.invokevirtual 104, 3) := by decide +kernel
theorem dX1_makeTable_59 : decode cX1_makeTable 59 = .ok (.iaload, 1) := by decide +kernel
theorem dX1_makeTable_60 : decode cX1_makeTable 60 = .ok (.aload_n 0, 1) := by decide +kernel
theorem dX1_makeTable_61 : decode cX1_makeTable 61 = .ok (.getfield 13, 3) := by decide +kernel
theorem dX1_makeTable_64 : decode cX1_makeTable 64 = .ok (.aload_n 0, 1) := by decide +kernel
theorem dX1_makeTable_65 : decode cX1_makeTable 65 = .ok (.iload_n 2, 1) := by decide +kernel
theorem dX1_makeTable_66 : decode cX1_makeTable 66 = .ok (.invokevirtual 104, 3) := by decide +kernel
theorem dX1_makeTable_69 : decode cX1_makeTable 69 = .ok (.iaload, 1) := by decide +kernel
theorem dX1_makeTable_70 : decode cX1_makeTable 70 = .ok (.if_icmp .le 23, 3) := by decide +kernel
theorem dX1_makeTable_73 : decode cX1_makeTable 73 = .ok (.aload_n 0, 1) := by decide +kernel
theorem dX1_makeTable_74 : decode cX1_makeTable 74 = .ok (.getfield 25, 3) := by decide +kernel
theorem dX1_makeTable_77 : decode cX1_makeTable 77 = .ok (.iload_n 3, 1) := by decide +kernel
theorem dX1_makeTable_78 : decode cX1_makeTable 78 = .ok (.aload_n 0, 1) := by decide +kernel
theorem dX1_makeTable_79 : decode cX1_makeTable 79 = .ok (.getfield 25, 3) := by decide +kernel
theorem dX1_makeTable_82 : decode cX1_makeTable 82 = .ok (.iload_n 3, 1) := by decide +kernel
theorem dX1_makeTable_83 : decode cX1_makeTable 83 = .ok (.iconst 1, 1) := by decide +kernel
theorem dX1_makeTable_84 : decode cX1_makeTable 84 = .ok (.isub, 1) := by decide +kernel
theorem dX1_makeTable_85 : decode cX1_makeTable 85 = .ok (.iaload, 1) := by decide +kernel
theorem dX1_makeTable_86 : decode cX1_makeTable 86 = .ok (.iastore, 1) := by decide +kernel
theorem dX1_makeTable_87 : decode cX1_makeTable 87 = .ok (.iinc 3 (-1), 3) := by decide +kernel
theorem dX1_makeTable_90 : decode cX1_makeTable 90 = .ok (.goto (-51), 3) := by decide +kernel
theorem dX1_makeTable_93 : decode cX1_makeTable 93 = .ok (.aload_n 0, 1) := by decide +kernel
theorem dX1_makeTable_94 : decode cX1_makeTable 94 = .ok (.getfield 25, 3) := by decide +kernel
theorem dX1_makeTable_97 : decode cX1_makeTable 97 = .ok (.iload_n 3, 1) := by decide +kernel
theorem dX1_makeTable_98 : decode cX1_makeTable 98 = .ok (.iload_n 2, 1) := by decide +kernel
theorem dX1_makeTable_99 : decode cX1_makeTable 99 = .ok (.iastore, 1) := by decide +kernel
theorem dX1_makeTable_100 : decode cX1_makeTable 100 = .ok (.iinc 2 1, 3) := by decide +kernel
theorem dX1_makeTable_103 : decode cX1_makeTable 103 = .ok (.goto (-99), 3) := by decide +kernel
theorem dX1_makeTable_106 : decode cX1_makeTable 106 = .ok (.iload_n 1, 1) := by decide +kernel
theorem dX1_makeTable_107 : decode cX1_makeTable 107 = .ok (.ireturn, 1) := by decide +kernel
abbrev cX1_lastBefore : ByteArray := prog_1_method_22_code
def yX1_lastBefore : MethodName := ⟨RX1, "lastBefore", "(II)I"⟩
theorem dX1_lastBefore_0 : decode cX1_lastBefore 0 = .ok (.aload_n 0, 1) := by decide +kernel
theorem dX1_lastBefore_1 : decode cX1_lastBefore 1 = .ok (.iload_n 1, 1) := by decide +kernel
theorem dX1_lastBefore_2 : decode cX1_lastBefore 2 = .ok (.invokevirtual 104, 3) := by decide +kernel
theorem dX1_lastBefore_5 : decode cX1_lastBefore 5 = .ok (.istore_n 3, 1) := by decide +kernel
theorem dX1_lastBefore_6 : decode cX1_lastBefore 6 = .ok (.aload_n 0, 1) := by decide +kernel
theorem dX1_lastBefore_7 : decode cX1_lastBefore 7 = .ok (.iload_n 1, 1) := by decide +kernel
theorem dX1_lastBefore_8 : decode cX1_lastBefore 8 = .ok (.invokevirtual 107, 3) := by decide +kernel
theorem dX1_lastBefore_11 : decode cX1_lastBefore 11 = .ok (.istore 4, 2) := by decide +kernel
theorem dX1_lastBefore_13 : decode cX1_lastBefore 13 = .ok (.aload_n 0, 1) := by decide +kernel
theorem dX1_lastBefore_14 : decode cX1_lastBefore 14 = .ok (.getfield 7, 3) := by decide +kernel
theorem dX1_lastBefore_17 : decode cX1_lastBefore 17 = .ok (.iload_n 3, 1) := by decide +kernel
theorem dX1_lastBefore_18 : decode cX1_lastBefore 18 = .ok (.iaload, 1) := by decide +kernel
theorem dX1_lastBefore_19 : decode cX1_lastBefore 19 = .ok (.i2l, 1) := by decide +kernel
theorem dX1_lastBefore_20 : decode cX1_lastBefore 20 = .ok (.aload_n 0, 1) := by decide +kernel
theorem dX1_lastBefore_21 : decode cX1_lastBefore 21 = .ok (.getfield 13, 3) := by decide +kernel
theorem dX1_lastBefore_24 : decode cX1_lastBefore 24 = .ok (.iload 4, 2) := by decide +kernel
theorem dX1_lastBefore_26 : decode cX1_lastBefore 26 = .ok (.iaload, 1) := by decide +kernel
theorem dX1_lastBefore_27 : decode cX1_lastBefore 27 = .ok (.aload_n 0, 1) := by decide +kernel
theorem dX1_lastBefore_28 : decode cX1_lastBefore 28 = .ok (.getfield 13, 3) := by decide +kernel
theorem dX1_lastBefore_31 : decode cX1_lastBefore 31 = .ok (.iload_n 3, 1) := by decide +kernel
theorem dX1_lastBefore_32 : decode cX1_lastBefore 32 = .ok (.iaload, 1) := by decide +kernel
theorem dX1_lastBefore_33 : decode cX1_lastBefore 33 = .ok (.isub, 1) := by decide +kernel
theorem dX1_lastBefore_34 : decode cX1_lastBefore 34 = .ok (.i2l, 1) := by decide +kernel
theorem dX1_lastBefore_35 : decode cX1_lastBefore 35 = .ok (.lmul, 1) := by decide +kernel
theorem dX1_lastBefore_36 : decode cX1_lastBefore 36 = .ok (.iload_n 2, 1) := by decide +kernel
theorem dX1_lastBefore_37 : decode cX1_lastBefore 37 = .ok (.aload_n 0, 1) := by decide +kernel
theorem dX1_lastBefore_38 : decode cX1_lastBefore 38 = .ok (.getfield 13, 3) := by decide +kernel
theorem dX1_lastBefore_41 : decode cX1_lastBefore 41 = .ok (.iload_n 3, 1) := by decide +kernel
theorem dX1_lastBefore_42 : decode cX1_lastBefore 42 = .ok (.iaload, 1) := by decide +kernel
theorem dX1_lastBefore_43 : decode cX1_lastBefore 43 = .ok (.isub, 1) := by decide +kernel
theorem dX1_lastBefore_44 : decode cX1_lastBefore 44 = .ok (.i2l, 1) := by decide +kernel
theorem dX1_lastBefore_45 : decode cX1_lastBefore 45 = .ok (.aload_n 0, 1) := by decide +kernel
theorem dX1_lastBefore_46 : decode cX1_lastBefore 46 = .ok (.getfield 7, 3) := by decide +kernel
theorem dX1_lastBefore_49 : decode cX1_lastBefore 49 = .ok (.iload 4, 2) := by decide +kernel
theorem dX1_lastBefore_51 : decode cX1_lastBefore 51 = .ok (.iaload, 1) := by decide +kernel
theorem dX1_lastBefore_52 : decode cX1_lastBefore 52 = .ok (.aload_n 0, 1) := by decide +kernel
theorem dX1_lastBefore_53 : decode cX1_lastBefore 53 = .ok (.getfield 7, 3) := by decide +kernel
theorem dX1_lastBefore_56 : decode cX1_lastBefore 56 = .ok (.iload_n 3, 1) := by decide +kernel
theorem dX1_lastBefore_57 : decode cX1_lastBefore 57 = .ok (.iaload, 1) := by decide +kernel
theorem dX1_lastBefore_58 : decode cX1_lastBefore 58 = .ok (.isub, 1) := by decide +kernel
theorem dX1_lastBefore_59 : decode cX1_lastBefore 59 = .ok (.i2l, 1) := by decide +kernel
theorem dX1_lastBefore_60 : decode cX1_lastBefore 60 = .ok (.lmul, 1) := by decide +kernel
theorem dX1_lastBefore_61 : decode cX1_lastBefore 61 = .ok (.ladd, 1) := by decide +kernel
theorem dX1_lastBefore_62 : decode cX1_lastBefore 62 = .ok (.lstore 5, 2) := by decide +kernel
theorem dX1_lastBefore_64 : decode cX1_lastBefore 64 = .ok (.lload 5, 2) := by decide +kernel
theorem dX1_lastBefore_66 : decode cX1_lastBefore 66 = .ok (.lconst 1, 1) := by decide +kernel
theorem dX1_lastBefore_67 : decode cX1_lastBefore 67 = .ok (.lsub, 1) := by decide +kernel
theorem dX1_lastBefore_68 : decode cX1_lastBefore 68 = .ok (.aload_n 0, 1) := by decide +kernel
theorem dX1_lastBefore_69 : decode cX1_lastBefore 69 = .ok (.getfield 13, 3) := by decide +kernel
theorem dX1_lastBefore_72 : decode cX1_lastBefore 72 = .ok (.iload 4, 2) := by decide +kernel
theorem dX1_lastBefore_74 : decode cX1_lastBefore 74 = .ok (.iaload, 1) := by decide +kernel
theorem dX1_lastBefore_75 : decode cX1_lastBefore 75 = .ok (.aload_n 0, 1) := by decide +kernel
theorem dX1_lastBefore_76 : decode cX1_lastBefore 76 = .ok (.getfield 13, 3) := by decide +kernel
theorem dX1_lastBefore_79 : decode cX1_lastBefore 79 = .ok (.iload_n 3, 1) := by decide +kernel
theorem dX1_lastBefore_80 : decode cX1_lastBefore 80 = .ok (.iaload, 1) := by decide +kernel
theorem dX1_lastBefore_81 : decode cX1_lastBefore 81 = .ok (.isub, 1) := by decide +kernel
theorem dX1_lastBefore_82 : decode cX1_lastBefore 82 = .ok (.i2l, 1) := by decide +kernel
theorem dX1_lastBefore_83 : decode cX1_lastBefore 83 = .ok (.invokestatic 73, 3) := by decide +kernel
theorem dX1_lastBefore_86 : decode cX1_lastBefore 86 = .ok (.l2i, 1) := by decide +kernel
theorem dX1_lastBefore_87 : decode cX1_lastBefore 87 = .ok (.ireturn, 1) := by decide +kernel
abbrev cX1_sortActive : ByteArray := prog_1_method_24_code
def yX1_sortActive : MethodName := ⟨RX1, "sortActive", "(I)V"⟩
theorem dX1_sortActive_0 : decode cX1_sortActive 0 = .ok (.iconst 1, 1) := by decide +kernel
theorem dX1_sortActive_1 : decode cX1_sortActive 1 = .ok (.istore_n 2, 1) := by decide +kernel
theorem dX1_sortActive_2 : decode cX1_sortActive 2 = .ok (.iload_n 2, 1) := by decide +kernel
theorem dX1_sortActive_3 : decode cX1_sortActive 3 = .ok (.iload_n 1, 1) := by decide +kernel
theorem dX1_sortActive_4 : decode cX1_sortActive 4 = .ok (.if_icmp .ge 101, 3) := by decide +kernel
theorem dX1_sortActive_7 : decode cX1_sortActive 7 = .ok (.aload_n 0, 1) := by decide +kernel
theorem dX1_sortActive_8 : decode cX1_sortActive 8 = .ok (.getfield 28, 3) := by decide +kernel
theorem dX1_sortActive_11 : decode cX1_sortActive 11 = .ok (.iload_n 2, 1) := by decide +kernel
theorem dX1_sortActive_12 : decode cX1_sortActive 12 = .ok (.iaload, 1) := by decide +kernel
theorem dX1_sortActive_13 : decode cX1_sortActive 13 = .ok (.istore_n 3, 1) := by decide +kernel
theorem dX1_sortActive_14 : decode cX1_sortActive 14 = .ok (.aload_n 0, 1) := by decide +kernel
theorem dX1_sortActive_15 : decode cX1_sortActive 15 = .ok (.getfield 31, 3) := by decide +kernel
theorem dX1_sortActive_18 : decode cX1_sortActive 18 = .ok (.iload_n 2, 1) := by decide +kernel
theorem dX1_sortActive_19 : decode cX1_sortActive 19 = .ok (.iaload, 1) := by decide +kernel
theorem dX1_sortActive_20 : decode cX1_sortActive 20 = .ok (.istore 4, 2) := by decide +kernel
theorem dX1_sortActive_22 : decode cX1_sortActive 22 = .ok (.iload_n 2, 1) := by decide +kernel
theorem dX1_sortActive_23 : decode cX1_sortActive 23 = .ok (.istore 5, 2) := by decide +kernel
theorem dX1_sortActive_25 : decode cX1_sortActive 25 = .ok (.iload 5, 2) := by decide +kernel
theorem dX1_sortActive_27 : decode cX1_sortActive 27 = .ok (.ifCond .le 55, 3) := by decide +kernel
theorem dX1_sortActive_30 : decode cX1_sortActive 30 = .ok (.aload_n 0, 1) := by decide +kernel
theorem dX1_sortActive_31 : decode cX1_sortActive 31 = .ok (.getfield 31, 3) := by decide +kernel
theorem dX1_sortActive_34 : decode cX1_sortActive 34 = .ok (.iload 5, 2) := by decide +kernel
theorem dX1_sortActive_36 : decode cX1_sortActive 36 = .ok (.iconst 1, 1) := by decide +kernel
theorem dX1_sortActive_37 : decode cX1_sortActive 37 = .ok (.isub, 1) := by decide +kernel
theorem dX1_sortActive_38 : decode cX1_sortActive 38 = .ok (.iaload, 1) := by decide +kernel
theorem dX1_sortActive_39 : decode cX1_sortActive 39 = .ok (.iload 4, 2) := by decide +kernel
theorem dX1_sortActive_41 : decode cX1_sortActive 41 = .ok (.if_icmp .le 41, 3) := by decide +kernel
theorem dX1_sortActive_44 : decode cX1_sortActive 44 = .ok (.aload_n 0, 1) := by decide +kernel
theorem dX1_sortActive_45 : decode cX1_sortActive 45 = .ok (.getfield 28, 3) := by decide +kernel
theorem dX1_sortActive_48 : decode cX1_sortActive 48 = .ok (.iload 5, 2) := by decide +kernel
theorem dX1_sortActive_50 : decode cX1_sortActive 50 = .ok (.aload_n 0, 1) := by decide +kernel
theorem dX1_sortActive_51 : decode cX1_sortActive 51 = .ok (.getfield 28, 3) := by decide +kernel
theorem dX1_sortActive_54 : decode cX1_sortActive 54 = .ok (.iload 5, 2) := by decide +kernel
theorem dX1_sortActive_56 : decode cX1_sortActive 56 = .ok (.iconst 1, 1) := by decide +kernel
theorem dX1_sortActive_57 : decode cX1_sortActive 57 = .ok (.isub, 1) := by decide +kernel
theorem dX1_sortActive_58 : decode cX1_sortActive 58 = .ok (.iaload, 1) := by decide +kernel
theorem dX1_sortActive_59 : decode cX1_sortActive 59 = .ok (.iastore, 1) := by decide +kernel
theorem dX1_sortActive_60 : decode cX1_sortActive 60 = .ok (.aload_n 0, 1) := by decide +kernel
theorem dX1_sortActive_61 : decode cX1_sortActive 61 = .ok (.getfield 31, 3) := by decide +kernel
theorem dX1_sortActive_64 : decode cX1_sortActive 64 = .ok (.iload 5, 2) := by decide +kernel
theorem dX1_sortActive_66 : decode cX1_sortActive 66 = .ok (.aload_n 0, 1) := by decide +kernel
theorem dX1_sortActive_67 : decode cX1_sortActive 67 = .ok (.getfield 31, 3) := by decide +kernel
theorem dX1_sortActive_70 : decode cX1_sortActive 70 = .ok (.iload 5, 2) := by decide +kernel
theorem dX1_sortActive_72 : decode cX1_sortActive 72 = .ok (.iconst 1, 1) := by decide +kernel
theorem dX1_sortActive_73 : decode cX1_sortActive 73 = .ok (.isub, 1) := by decide +kernel
theorem dX1_sortActive_74 : decode cX1_sortActive 74 = .ok (.iaload, 1) := by decide +kernel
theorem dX1_sortActive_75 : decode cX1_sortActive 75 = .ok (.iastore, 1) := by decide +kernel
theorem dX1_sortActive_76 : decode cX1_sortActive 76 = .ok (.iinc 5 (-1), 3) := by decide +kernel
theorem dX1_sortActive_79 : decode cX1_sortActive 79 = .ok (.goto (-54), 3) := by decide +kernel
theorem dX1_sortActive_82 : decode cX1_sortActive 82 = .ok (.aload_n 0, 1) := by decide +kernel
theorem dX1_sortActive_83 : decode cX1_sortActive 83 = .ok (.getfield 28, 3) := by decide +kernel
theorem dX1_sortActive_86 : decode cX1_sortActive 86 = .ok (.iload 5, 2) := by decide +kernel
theorem dX1_sortActive_88 : decode cX1_sortActive 88 = .ok (.iload_n 3, 1) := by decide +kernel
theorem dX1_sortActive_89 : decode cX1_sortActive 89 = .ok (.iastore, 1) := by decide +kernel
theorem dX1_sortActive_90 : decode cX1_sortActive 90 = .ok (.aload_n 0, 1) := by decide +kernel
theorem dX1_sortActive_91 : decode cX1_sortActive 91 = .ok (.getfield 31, 3) := by decide +kernel
theorem dX1_sortActive_94 : decode cX1_sortActive 94 = .ok (.iload 5, 2) := by decide +kernel
theorem dX1_sortActive_96 : decode cX1_sortActive 96 = .ok (.iload 4, 2) := by decide +kernel
theorem dX1_sortActive_98 : decode cX1_sortActive 98 = .ok (.iastore, 1) := by decide +kernel
theorem dX1_sortActive_99 : decode cX1_sortActive 99 = .ok (.iinc 2 1, 3) := by decide +kernel
theorem dX1_sortActive_102 : decode cX1_sortActive 102 = .ok (.goto (-100), 3) := by decide +kernel
theorem dX1_sortActive_105 : decode cX1_sortActive 105 = .ok (.return_, 1) := by decide +kernel
abbrev cX1_paint : ByteArray := prog_1_method_25_code
def yX1_paint : MethodName := ⟨RX1, "paint", "(IIII)I"⟩
theorem dX1_paint_0 : decode cX1_paint 0 = .ok (.iconst 0, 1) := by decide +kernel
theorem dX1_paint_1 : decode cX1_paint 1 = .ok (.istore 5, 2) := by decide +kernel
theorem dX1_paint_3 : decode cX1_paint 3 = .ok (.iload_n 2, 1) := by decide +kernel
theorem dX1_paint_4 : decode cX1_paint 4 = .ok (.ifCond .ge 7, 3) := by decide +kernel
theorem dX1_paint_7 : decode cX1_paint 7 = .ok (.iconst 0, 1) := by decide +kernel
theorem dX1_paint_8 : decode cX1_paint 8 = .ok (.goto 4, 3) := by decide +kernel
theorem dX1_paint_11 : decode cX1_paint 11 = .ok (.iload_n 2, 1) := by decide +kernel
theorem dX1_paint_12 : decode cX1_paint 12 = .ok (.istore 6, 2) := by decide +kernel
theorem dX1_paint_14 : decode cX1_paint 14 = .ok (.iload 6, 2) := by decide +kernel
theorem dX1_paint_16 : decode cX1_paint 16 = .ok (.iload_n 3, 1) := by decide +kernel
theorem dX1_paint_17 : decode cX1_paint 17 = .ok (.if_icmp .gt 37, 3) := by decide +kernel
theorem dX1_paint_20 : decode cX1_paint 20 = .ok (.iload 6, 2) := by decide +kernel
theorem dX1_paint_22 : decode cX1_paint 22 = .ok (.aload_n 0, 1) := by decide +kernel
theorem dX1_paint_23 : decode cX1_paint 23 = .ok (.getfield 57, 3) := by decide +kernel
theorem dX1_paint_26 : decode cX1_paint 26 = .ok (.if_icmp .ge 28, 3) := by decide +kernel
theorem dX1_paint_29 : decode cX1_paint 29 = .ok (.aload_n 0, 1) := by decide +kernel
theorem dX1_paint_30 : decode cX1_paint 30 = .ok (.getfield 22, 3) := by decide +kernel
theorem dX1_paint_33 : decode cX1_paint 33 = .ok (.aload_n 0, 1) := by decide +kernel
theorem dX1_paint_34 : decode cX1_paint 34 = .ok (.getfield 57, 3) := by decide +kernel
theorem dX1_paint_37 : decode cX1_paint 37 = .ok (.iload_n 1, 1) := by decide +kernel
theorem dX1_paint_38 : decode cX1_paint 38 = .ok (.imul, 1) := by decide +kernel
theorem dX1_paint_39 : decode cX1_paint 39 = .ok (.iload 6, 2) := by decide +kernel
theorem dX1_paint_41 : decode cX1_paint 41 = .ok (.iadd, 1) := by decide +kernel
theorem dX1_paint_42 : decode cX1_paint 42 = .ok (.iload 4, 2) := by decide +kernel
theorem dX1_paint_44 : decode cX1_paint 44 = .ok (.iastore, 1) := by decide +kernel
theorem dX1_paint_45 : decode cX1_paint 45 = .ok (.iinc 5 1, 3) := by decide +kernel
theorem dX1_paint_48 : decode cX1_paint 48 = .ok (.iinc 6 1, 3) := by decide +kernel
theorem dX1_paint_51 : decode cX1_paint 51 = .ok (.goto (-37), 3) := by decide +kernel
theorem dX1_paint_54 : decode cX1_paint 54 = .ok (.iload 5, 2) := by decide +kernel
theorem dX1_paint_56 : decode cX1_paint 56 = .ok (.ireturn, 1) := by decide +kernel
abbrev cX1_pixel : ByteArray := prog_1_method_27_code
def yX1_pixel : MethodName := ⟨RX1, "pixel", "(II)I"⟩
theorem dX1_pixel_0 : decode cX1_pixel 0 = .ok (.iload_n 1, 1) := by decide +kernel
theorem dX1_pixel_1 : decode cX1_pixel 1 = .ok (.ifCond .lt 39, 3) := by decide +kernel
theorem dX1_pixel_4 : decode cX1_pixel 4 = .ok (.iload_n 1, 1) := by decide +kernel
theorem dX1_pixel_5 : decode cX1_pixel 5 = .ok (.aload_n 0, 1) := by decide +kernel
theorem dX1_pixel_6 : decode cX1_pixel 6 = .ok (.getfield 57, 3) := by decide +kernel
theorem dX1_pixel_9 : decode cX1_pixel 9 = .ok (.if_icmp .ge 31, 3) := by decide +kernel
theorem dX1_pixel_12 : decode cX1_pixel 12 = .ok (.iload_n 2, 1) := by decide +kernel
theorem dX1_pixel_13 : decode cX1_pixel 13 = .ok (.ifCond .lt 27, 3) := by decide +kernel
theorem dX1_pixel_16 : decode cX1_pixel 16 = .ok (.iload_n 2, 1) := by decide +kernel
theorem dX1_pixel_17 : decode cX1_pixel 17 = .ok (.aload_n 0, 1) := by decide +kernel
theorem dX1_pixel_18 : decode cX1_pixel 18 = .ok (.getfield 60, 3) := by decide +kernel
theorem dX1_pixel_21 : decode cX1_pixel 21 = .ok (.if_icmp .ge 19, 3) := by decide +kernel
theorem dX1_pixel_24 : decode cX1_pixel 24 = .ok (.aload_n 0, 1) := by decide +kernel
theorem dX1_pixel_25 : decode cX1_pixel 25 = .ok (.getfield 22, 3) := by decide +kernel
theorem dX1_pixel_28 : decode cX1_pixel 28 = .ok (.aload_n 0, 1) := by decide +kernel
theorem dX1_pixel_29 : decode cX1_pixel 29 = .ok (.getfield 57, 3) := by decide +kernel
theorem dX1_pixel_32 : decode cX1_pixel 32 = .ok (.iload_n 2, 1) := by decide +kernel
theorem dX1_pixel_33 : decode cX1_pixel 33 = .ok (.imul, 1) := by decide +kernel
theorem dX1_pixel_34 : decode cX1_pixel 34 = .ok (.iload_n 1, 1) := by decide +kernel
theorem dX1_pixel_35 : decode cX1_pixel 35 = .ok (.iadd, 1) := by decide +kernel
theorem dX1_pixel_36 : decode cX1_pixel 36 = .ok (.iaload, 1) := by decide +kernel
theorem dX1_pixel_37 : decode cX1_pixel 37 = .ok (.goto 4, 3) := by decide +kernel
theorem dX1_pixel_40 : decode cX1_pixel 40 = .ok (.iconst (-1), 1) := by decide +kernel
theorem dX1_pixel_41 : decode cX1_pixel 41 = .ok (.ireturn, 1) := by decide +kernel
theorem q17 : (Jvm.Cond.initialized "PolygonFrame") ∈ lw_all := lw_g (lw_at lw_m1 1 rfl) rfl
theorem q20 : (Jvm.Cond.instantiable "PolygonFrame" (19 : Nat)) ∈ lw_all := lw_g (lw_at lw_m1 4 rfl) rfl
theorem q22 : (Jvm.Cond.instanceMethod ({ cls := "PolygonFrame", name := "<init>", desc := "(III)V" } : Jvm.MethodName)) ∈ lw_all := lw_g (lw_at lw_m1 6 rfl) rfl
theorem q23 : (Jvm.Cond.code ({ cls := "PolygonFrame", name := "<init>", desc := "(III)V" } : Jvm.MethodName) prog_1_method_1_code (4 : Nat) (Option.none : Option Jvm.ClassFile.FieldType)) ∈ lw_all := lw_g (lw_at lw_m1 7 rfl) rfl
theorem q24 : (Jvm.Cond.methodLink "PolygonFrame" (1 : Nat) ({ cls := "java/lang/Object", name := "<init>", desc := "()V" } : Jvm.MethodName)) ∈ lw_all := lw_g (lw_at lw_m1 8 rfl) rfl
theorem q27 : (Jvm.Cond.methodLink "PolygonFrame" (53 : Nat) ({ cls := "PolygonFrame", name := "within", desc := "(III)I" } : Jvm.MethodName)) ∈ lw_all := lw_g (lw_at lw_m1 11 rfl) rfl
theorem q28 : (Jvm.Cond.static ({ cls := "PolygonFrame", name := "within", desc := "(III)I" } : Jvm.MethodName)) ∈ lw_all := lw_g (lw_at lw_m1 12 rfl) rfl
theorem q29 : (Jvm.Cond.code ({ cls := "PolygonFrame", name := "within", desc := "(III)I" } : Jvm.MethodName) prog_1_method_2_code (3 : Nat) (Option.some Jvm.ClassFile.FieldType.int)) ∈ lw_all := lw_g (lw_at lw_m1 13 rfl) rfl
theorem q30 : (Jvm.Cond.fieldLink "PolygonFrame" (7 : Nat) "PolygonFrame" "px" "[I") ∈ lw_all := lw_g (lw_at lw_m1 14 rfl) rfl
theorem q31 : (Jvm.Cond.fieldLink "PolygonFrame" (13 : Nat) "PolygonFrame" "py" "[I") ∈ lw_all := lw_g (lw_at lw_m1 15 rfl) rfl
theorem q32 : (Jvm.Cond.fieldLink "PolygonFrame" (16 : Nat) "PolygonFrame" "qx" "[I") ∈ lw_all := lw_g (lw_at lw_m1 16 rfl) rfl
theorem q33 : (Jvm.Cond.fieldLink "PolygonFrame" (19 : Nat) "PolygonFrame" "qy" "[I") ∈ lw_all := lw_g (lw_at lw_m1 17 rfl) rfl
theorem q34 : (Jvm.Cond.fieldLink "PolygonFrame" (22 : Nat) "PolygonFrame" "frame" "[I") ∈ lw_all := lw_g (lw_at lw_m1 18 rfl) rfl
theorem q35 : (Jvm.Cond.fieldLink "PolygonFrame" (25 : Nat) "PolygonFrame" "table" "[I") ∈ lw_all := lw_g (lw_at lw_m1 19 rfl) rfl
theorem q36 : (Jvm.Cond.fieldLink "PolygonFrame" (28 : Nat) "PolygonFrame" "active" "[I") ∈ lw_all := lw_g (lw_at lw_m1 20 rfl) rfl
theorem q37 : (Jvm.Cond.fieldLink "PolygonFrame" (31 : Nat) "PolygonFrame" "last" "[I") ∈ lw_all := lw_g (lw_at lw_m1 21 rfl) rfl
theorem q38 : (Jvm.Cond.fieldLink "PolygonFrame" (57 : Nat) "PolygonFrame" "w" "I") ∈ lw_all := lw_g (lw_at lw_m1 22 rfl) rfl
theorem q39 : (Jvm.Cond.fieldLink "PolygonFrame" (60 : Nat) "PolygonFrame" "h" "I") ∈ lw_all := lw_g (lw_at lw_m1 23 rfl) rfl
theorem q40 : (Jvm.Cond.fieldLink "PolygonFrame" (63 : Nat) "PolygonFrame" "vertCap" "I") ∈ lw_all := lw_g (lw_at lw_m1 24 rfl) rfl
theorem q41 : (Jvm.Cond.fieldLink "PolygonFrame" (66 : Nat) "PolygonFrame" "n" "I") ∈ lw_all := lw_g (lw_at lw_m1 25 rfl) rfl
theorem q42 : (Jvm.Cond.fieldLink "PolygonFrame" (34 : Nat) "PolygonFrame" "cx0" "I") ∈ lw_all := lw_g (lw_at lw_m1 26 rfl) rfl
theorem q43 : (Jvm.Cond.fieldLink "PolygonFrame" (38 : Nat) "PolygonFrame" "cy0" "I") ∈ lw_all := lw_g (lw_at lw_m1 27 rfl) rfl
theorem q44 : (Jvm.Cond.fieldLink "PolygonFrame" (41 : Nat) "PolygonFrame" "cx1" "I") ∈ lw_all := lw_g (lw_at lw_m1 28 rfl) rfl
theorem q45 : (Jvm.Cond.fieldLink "PolygonFrame" (44 : Nat) "PolygonFrame" "cy1" "I") ∈ lw_all := lw_g (lw_at lw_m1 29 rfl) rfl
theorem q46 : (Jvm.Cond.fieldLink "PolygonFrame" (77 : Nat) "PolygonFrame" "many" "I") ∈ lw_all := lw_g (lw_at lw_m1 30 rfl) rfl
theorem q47 : (Jvm.Cond.fieldLink "PolygonFrame" (47 : Nat) "PolygonFrame" "sx" "[I") ∈ lw_all := lw_g (lw_at lw_m1 31 rfl) rfl
theorem q48 : (Jvm.Cond.fieldLink "PolygonFrame" (50 : Nat) "PolygonFrame" "sy" "[I") ∈ lw_all := lw_g (lw_at lw_m1 32 rfl) rfl
theorem q49 : (Jvm.Cond.laysFinal "PolygonFrame" "PolygonFrame" "px" "[I") ∈ lw_all := lw_g (lw_at lw_m1 33 rfl) rfl
theorem q50 : (Jvm.Cond.soleField "PolygonFrame" "px") ∈ lw_all := lw_g (lw_at lw_m1 34 rfl) rfl
theorem q51 : (Jvm.Cond.laysFinal "PolygonFrame" "PolygonFrame" "py" "[I") ∈ lw_all := lw_g (lw_at lw_m1 35 rfl) rfl
theorem q52 : (Jvm.Cond.soleField "PolygonFrame" "py") ∈ lw_all := lw_g (lw_at lw_m1 36 rfl) rfl
theorem q53 : (Jvm.Cond.laysFinal "PolygonFrame" "PolygonFrame" "qx" "[I") ∈ lw_all := lw_g (lw_at lw_m1 37 rfl) rfl
theorem q54 : (Jvm.Cond.soleField "PolygonFrame" "qx") ∈ lw_all := lw_g (lw_at lw_m1 38 rfl) rfl
theorem q55 : (Jvm.Cond.laysFinal "PolygonFrame" "PolygonFrame" "qy" "[I") ∈ lw_all := lw_g (lw_at lw_m1 39 rfl) rfl
theorem q56 : (Jvm.Cond.soleField "PolygonFrame" "qy") ∈ lw_all := lw_g (lw_at lw_m1 40 rfl) rfl
theorem q57 : (Jvm.Cond.laysFinal "PolygonFrame" "PolygonFrame" "frame" "[I") ∈ lw_all := lw_g (lw_at lw_m1 41 rfl) rfl
theorem q58 : (Jvm.Cond.soleField "PolygonFrame" "frame") ∈ lw_all := lw_g (lw_at lw_m1 42 rfl) rfl
theorem q59 : (Jvm.Cond.laysFinal "PolygonFrame" "PolygonFrame" "table" "[I") ∈ lw_all := lw_g (lw_at lw_m1 43 rfl) rfl
theorem q60 : (Jvm.Cond.soleField "PolygonFrame" "table") ∈ lw_all := lw_g (lw_at lw_m1 44 rfl) rfl
theorem q61 : (Jvm.Cond.laysFinal "PolygonFrame" "PolygonFrame" "active" "[I") ∈ lw_all := lw_g (lw_at lw_m1 45 rfl) rfl
theorem q62 : (Jvm.Cond.soleField "PolygonFrame" "active") ∈ lw_all := lw_g (lw_at lw_m1 46 rfl) rfl
theorem q63 : (Jvm.Cond.laysFinal "PolygonFrame" "PolygonFrame" "last" "[I") ∈ lw_all := lw_g (lw_at lw_m1 47 rfl) rfl
theorem q64 : (Jvm.Cond.soleField "PolygonFrame" "last") ∈ lw_all := lw_g (lw_at lw_m1 48 rfl) rfl
theorem q65 : (Jvm.Cond.laysFinal "PolygonFrame" "PolygonFrame" "w" "I") ∈ lw_all := lw_g (lw_at lw_m1 49 rfl) rfl
theorem q66 : (Jvm.Cond.soleField "PolygonFrame" "w") ∈ lw_all := lw_g (lw_at lw_m1 50 rfl) rfl
theorem q67 : (Jvm.Cond.laysFinal "PolygonFrame" "PolygonFrame" "h" "I") ∈ lw_all := lw_g (lw_at lw_m1 51 rfl) rfl
theorem q68 : (Jvm.Cond.soleField "PolygonFrame" "h") ∈ lw_all := lw_g (lw_at lw_m1 52 rfl) rfl
theorem q69 : (Jvm.Cond.laysFinal "PolygonFrame" "PolygonFrame" "vertCap" "I") ∈ lw_all := lw_g (lw_at lw_m1 53 rfl) rfl
theorem q70 : (Jvm.Cond.soleField "PolygonFrame" "vertCap") ∈ lw_all := lw_g (lw_at lw_m1 54 rfl) rfl
theorem q71 : (Jvm.Cond.lays "PolygonFrame" "PolygonFrame" "n" "I") ∈ lw_all := lw_g (lw_at lw_m1 55 rfl) rfl
theorem q72 : (Jvm.Cond.soleField "PolygonFrame" "n") ∈ lw_all := lw_g (lw_at lw_m1 56 rfl) rfl
theorem q73 : (Jvm.Cond.lays "PolygonFrame" "PolygonFrame" "cx0" "I") ∈ lw_all := lw_g (lw_at lw_m1 57 rfl) rfl
theorem q74 : (Jvm.Cond.soleField "PolygonFrame" "cx0") ∈ lw_all := lw_g (lw_at lw_m1 58 rfl) rfl
theorem q75 : (Jvm.Cond.lays "PolygonFrame" "PolygonFrame" "cy0" "I") ∈ lw_all := lw_g (lw_at lw_m1 59 rfl) rfl
theorem q76 : (Jvm.Cond.soleField "PolygonFrame" "cy0") ∈ lw_all := lw_g (lw_at lw_m1 60 rfl) rfl
theorem q77 : (Jvm.Cond.lays "PolygonFrame" "PolygonFrame" "cx1" "I") ∈ lw_all := lw_g (lw_at lw_m1 61 rfl) rfl
theorem q78 : (Jvm.Cond.soleField "PolygonFrame" "cx1") ∈ lw_all := lw_g (lw_at lw_m1 62 rfl) rfl
theorem q79 : (Jvm.Cond.lays "PolygonFrame" "PolygonFrame" "cy1" "I") ∈ lw_all := lw_g (lw_at lw_m1 63 rfl) rfl
theorem q80 : (Jvm.Cond.soleField "PolygonFrame" "cy1") ∈ lw_all := lw_g (lw_at lw_m1 64 rfl) rfl
theorem q81 : (Jvm.Cond.lays "PolygonFrame" "PolygonFrame" "many" "I") ∈ lw_all := lw_g (lw_at lw_m1 65 rfl) rfl
theorem q82 : (Jvm.Cond.soleField "PolygonFrame" "many") ∈ lw_all := lw_g (lw_at lw_m1 66 rfl) rfl
theorem q83 : (Jvm.Cond.laysFinal "PolygonFrame" "PolygonFrame" "sx" "[I") ∈ lw_all := lw_g (lw_at lw_m1 67 rfl) rfl
theorem q84 : (Jvm.Cond.soleField "PolygonFrame" "sx") ∈ lw_all := lw_g (lw_at lw_m1 68 rfl) rfl
theorem q85 : (Jvm.Cond.laysFinal "PolygonFrame" "PolygonFrame" "sy" "[I") ∈ lw_all := lw_g (lw_at lw_m1 69 rfl) rfl
theorem q86 : (Jvm.Cond.soleField "PolygonFrame" "sy") ∈ lw_all := lw_g (lw_at lw_m1 70 rfl) rfl
theorem q87 : (Jvm.Cond.superclass "PolygonFrame" "java/lang/Object") ∈ lw_all := lw_g (lw_at lw_m1 71 rfl) rfl
theorem q90 : (Jvm.Cond.instanceMethod ({ cls := "PolygonFrame", name := "clear", desc := "(I)V" } : Jvm.MethodName)) ∈ lw_all := lw_g (lw_at lw_m1 74 rfl) rfl
theorem q91 : (Jvm.Cond.selects "PolygonFrame" ({ cls := "PolygonFrame", name := "clear", desc := "(I)V" } : Jvm.MethodName) ({ cls := "PolygonFrame", name := "clear", desc := "(I)V" } : Jvm.MethodName)) ∈ lw_all := lw_g (lw_at lw_m1 75 rfl) rfl
theorem q92 : (Jvm.Cond.code ({ cls := "PolygonFrame", name := "clear", desc := "(I)V" } : Jvm.MethodName) prog_1_method_4_code (3 : Nat) (Option.none : Option Jvm.ClassFile.FieldType)) ∈ lw_all := lw_g (lw_at lw_m1 76 rfl) rfl
theorem q94 : (Jvm.Cond.instanceMethod ({ cls := "PolygonFrame", name := "begin", desc := "()V" } : Jvm.MethodName)) ∈ lw_all := lw_g (lw_at lw_m1 78 rfl) rfl
theorem q95 : (Jvm.Cond.selects "PolygonFrame" ({ cls := "PolygonFrame", name := "begin", desc := "()V" } : Jvm.MethodName) ({ cls := "PolygonFrame", name := "begin", desc := "()V" } : Jvm.MethodName)) ∈ lw_all := lw_g (lw_at lw_m1 79 rfl) rfl
theorem q96 : (Jvm.Cond.code ({ cls := "PolygonFrame", name := "begin", desc := "()V" } : Jvm.MethodName) prog_1_method_5_code (1 : Nat) (Option.none : Option Jvm.ClassFile.FieldType)) ∈ lw_all := lw_g (lw_at lw_m1 80 rfl) rfl
theorem q98 : (Jvm.Cond.instanceMethod ({ cls := "PolygonFrame", name := "vertex", desc := "(II)Z" } : Jvm.MethodName)) ∈ lw_all := lw_g (lw_at lw_m1 82 rfl) rfl
theorem q99 : (Jvm.Cond.selects "PolygonFrame" ({ cls := "PolygonFrame", name := "vertex", desc := "(II)Z" } : Jvm.MethodName) ({ cls := "PolygonFrame", name := "vertex", desc := "(II)Z" } : Jvm.MethodName)) ∈ lw_all := lw_g (lw_at lw_m1 83 rfl) rfl
theorem q100 : (Jvm.Cond.code ({ cls := "PolygonFrame", name := "vertex", desc := "(II)Z" } : Jvm.MethodName) prog_1_method_6_code (3 : Nat) (Option.some Jvm.ClassFile.FieldType.boolean)) ∈ lw_all := lw_g (lw_at lw_m1 84 rfl) rfl
theorem q101 : (Jvm.Cond.methodLink "PolygonFrame" (69 : Nat) ({ cls := "PolygonFrame", name := "isFar", desc := "(I)Z" } : Jvm.MethodName)) ∈ lw_all := lw_g (lw_at lw_m1 85 rfl) rfl
theorem q102 : (Jvm.Cond.static ({ cls := "PolygonFrame", name := "isFar", desc := "(I)Z" } : Jvm.MethodName)) ∈ lw_all := lw_g (lw_at lw_m1 86 rfl) rfl
theorem q103 : (Jvm.Cond.code ({ cls := "PolygonFrame", name := "isFar", desc := "(I)Z" } : Jvm.MethodName) prog_1_method_3_code (1 : Nat) (Option.some Jvm.ClassFile.FieldType.boolean)) ∈ lw_all := lw_g (lw_at lw_m1 87 rfl) rfl
theorem q105 : (Jvm.Cond.instanceMethod ({ cls := "PolygonFrame", name := "setClip", desc := "(IIII)Z" } : Jvm.MethodName)) ∈ lw_all := lw_g (lw_at lw_m1 89 rfl) rfl
theorem q106 : (Jvm.Cond.selects "PolygonFrame" ({ cls := "PolygonFrame", name := "setClip", desc := "(IIII)Z" } : Jvm.MethodName) ({ cls := "PolygonFrame", name := "setClip", desc := "(IIII)Z" } : Jvm.MethodName)) ∈ lw_all := lw_g (lw_at lw_m1 90 rfl) rfl
theorem q107 : (Jvm.Cond.code ({ cls := "PolygonFrame", name := "setClip", desc := "(IIII)Z" } : Jvm.MethodName) prog_1_method_7_code (5 : Nat) (Option.some Jvm.ClassFile.FieldType.boolean)) ∈ lw_all := lw_g (lw_at lw_m1 91 rfl) rfl
theorem q109 : (Jvm.Cond.instanceMethod ({ cls := "PolygonFrame", name := "clip", desc := "()I" } : Jvm.MethodName)) ∈ lw_all := lw_g (lw_at lw_m1 93 rfl) rfl
theorem q110 : (Jvm.Cond.selects "PolygonFrame" ({ cls := "PolygonFrame", name := "clip", desc := "()I" } : Jvm.MethodName) ({ cls := "PolygonFrame", name := "clip", desc := "()I" } : Jvm.MethodName)) ∈ lw_all := lw_g (lw_at lw_m1 94 rfl) rfl
theorem q111 : (Jvm.Cond.code ({ cls := "PolygonFrame", name := "clip", desc := "()I" } : Jvm.MethodName) prog_1_method_14_code (4 : Nat) (Option.some Jvm.ClassFile.FieldType.int)) ∈ lw_all := lw_g (lw_at lw_m1 95 rfl) rfl
theorem q112 : (Jvm.Cond.methodLink "PolygonFrame" (96 : Nat) ({ cls := "PolygonFrame", name := "pass", desc := "(I[I[II)Z" } : Jvm.MethodName)) ∈ lw_all := lw_g (lw_at lw_m1 96 rfl) rfl
theorem q113 : (Jvm.Cond.privateMethod ({ cls := "PolygonFrame", name := "pass", desc := "(I[I[II)Z" } : Jvm.MethodName)) ∈ lw_tbl := lw_at lw_m1 97 rfl
theorem q114 : (Jvm.Cond.instanceMethod ({ cls := "PolygonFrame", name := "pass", desc := "(I[I[II)Z" } : Jvm.MethodName)) ∈ lw_all := lw_g (lw_at lw_m1 98 rfl) rfl
theorem q115 : (Jvm.Cond.code ({ cls := "PolygonFrame", name := "pass", desc := "(I[I[II)Z" } : Jvm.MethodName) prog_1_method_13_code (9 : Nat) (Option.some Jvm.ClassFile.FieldType.boolean)) ∈ lw_all := lw_g (lw_at lw_m1 99 rfl) rfl
theorem q116 : (Jvm.Cond.methodLink "PolygonFrame" (88 : Nat) ({ cls := "PolygonFrame", name := "isGood", desc := "(III)Z" } : Jvm.MethodName)) ∈ lw_all := lw_g (lw_at lw_m1 100 rfl) rfl
theorem q117 : (Jvm.Cond.privateMethod ({ cls := "PolygonFrame", name := "isGood", desc := "(III)Z" } : Jvm.MethodName)) ∈ lw_tbl := lw_at lw_m1 101 rfl
theorem q118 : (Jvm.Cond.instanceMethod ({ cls := "PolygonFrame", name := "isGood", desc := "(III)Z" } : Jvm.MethodName)) ∈ lw_all := lw_g (lw_at lw_m1 102 rfl) rfl
theorem q119 : (Jvm.Cond.code ({ cls := "PolygonFrame", name := "isGood", desc := "(III)Z" } : Jvm.MethodName) prog_1_method_9_code (4 : Nat) (Option.some Jvm.ClassFile.FieldType.boolean)) ∈ lw_all := lw_g (lw_at lw_m1 103 rfl) rfl
theorem q120 : (Jvm.Cond.methodLink "PolygonFrame" (92 : Nat) ({ cls := "PolygonFrame", name := "putCut", desc := "(IIIII)Z" } : Jvm.MethodName)) ∈ lw_all := lw_g (lw_at lw_m1 104 rfl) rfl
theorem q121 : (Jvm.Cond.privateMethod ({ cls := "PolygonFrame", name := "putCut", desc := "(IIIII)Z" } : Jvm.MethodName)) ∈ lw_tbl := lw_at lw_m1 105 rfl
theorem q122 : (Jvm.Cond.instanceMethod ({ cls := "PolygonFrame", name := "putCut", desc := "(IIIII)Z" } : Jvm.MethodName)) ∈ lw_all := lw_g (lw_at lw_m1 106 rfl) rfl
theorem q123 : (Jvm.Cond.code ({ cls := "PolygonFrame", name := "putCut", desc := "(IIIII)Z" } : Jvm.MethodName) prog_1_method_12_code (7 : Nat) (Option.some Jvm.ClassFile.FieldType.boolean)) ∈ lw_all := lw_g (lw_at lw_m1 107 rfl) rfl
theorem q124 : (Jvm.Cond.methodLink "PolygonFrame" (80 : Nat) ({ cls := "PolygonFrame", name := "cut", desc := "(IIIII)I" } : Jvm.MethodName)) ∈ lw_all := lw_g (lw_at lw_m1 108 rfl) rfl
theorem q125 : (Jvm.Cond.static ({ cls := "PolygonFrame", name := "cut", desc := "(IIIII)I" } : Jvm.MethodName)) ∈ lw_all := lw_g (lw_at lw_m1 109 rfl) rfl
theorem q126 : (Jvm.Cond.code ({ cls := "PolygonFrame", name := "cut", desc := "(IIIII)I" } : Jvm.MethodName) prog_1_method_10_code (5 : Nat) (Option.some Jvm.ClassFile.FieldType.int)) ∈ lw_all := lw_g (lw_at lw_m1 110 rfl) rfl
theorem q127 : (Jvm.Cond.methodLink "PolygonFrame" (73 : Nat) ({ cls := "PolygonFrame", name := "floorOf", desc := "(JJ)J" } : Jvm.MethodName)) ∈ lw_all := lw_g (lw_at lw_m1 111 rfl) rfl
theorem q128 : (Jvm.Cond.static ({ cls := "PolygonFrame", name := "floorOf", desc := "(JJ)J" } : Jvm.MethodName)) ∈ lw_all := lw_g (lw_at lw_m1 112 rfl) rfl
theorem q129 : (Jvm.Cond.code ({ cls := "PolygonFrame", name := "floorOf", desc := "(JJ)J" } : Jvm.MethodName) prog_1_method_8_code (6 : Nat) (Option.some Jvm.ClassFile.FieldType.long)) ∈ lw_all := lw_g (lw_at lw_m1 113 rfl) rfl
theorem q130 : (Jvm.Cond.methodLink "PolygonFrame" (84 : Nat) ({ cls := "PolygonFrame", name := "put", desc := "(II)Z" } : Jvm.MethodName)) ∈ lw_all := lw_g (lw_at lw_m1 114 rfl) rfl
theorem q131 : (Jvm.Cond.privateMethod ({ cls := "PolygonFrame", name := "put", desc := "(II)Z" } : Jvm.MethodName)) ∈ lw_tbl := lw_at lw_m1 115 rfl
theorem q132 : (Jvm.Cond.instanceMethod ({ cls := "PolygonFrame", name := "put", desc := "(II)Z" } : Jvm.MethodName)) ∈ lw_all := lw_g (lw_at lw_m1 116 rfl) rfl
theorem q133 : (Jvm.Cond.code ({ cls := "PolygonFrame", name := "put", desc := "(II)Z" } : Jvm.MethodName) prog_1_method_11_code (3 : Nat) (Option.some Jvm.ClassFile.FieldType.boolean)) ∈ lw_all := lw_g (lw_at lw_m1 117 rfl) rfl
theorem q135 : (Jvm.Cond.instanceMethod ({ cls := "PolygonFrame", name := "vx", desc := "(I)I" } : Jvm.MethodName)) ∈ lw_all := lw_g (lw_at lw_m1 119 rfl) rfl
theorem q136 : (Jvm.Cond.selects "PolygonFrame" ({ cls := "PolygonFrame", name := "vx", desc := "(I)I" } : Jvm.MethodName) ({ cls := "PolygonFrame", name := "vx", desc := "(I)I" } : Jvm.MethodName)) ∈ lw_all := lw_g (lw_at lw_m1 120 rfl) rfl
theorem q137 : (Jvm.Cond.code ({ cls := "PolygonFrame", name := "vx", desc := "(I)I" } : Jvm.MethodName) prog_1_method_15_code (2 : Nat) (Option.some Jvm.ClassFile.FieldType.int)) ∈ lw_all := lw_g (lw_at lw_m1 121 rfl) rfl
theorem q139 : (Jvm.Cond.instanceMethod ({ cls := "PolygonFrame", name := "vy", desc := "(I)I" } : Jvm.MethodName)) ∈ lw_all := lw_g (lw_at lw_m1 123 rfl) rfl
theorem q140 : (Jvm.Cond.selects "PolygonFrame" ({ cls := "PolygonFrame", name := "vy", desc := "(I)I" } : Jvm.MethodName) ({ cls := "PolygonFrame", name := "vy", desc := "(I)I" } : Jvm.MethodName)) ∈ lw_all := lw_g (lw_at lw_m1 124 rfl) rfl
theorem q141 : (Jvm.Cond.code ({ cls := "PolygonFrame", name := "vy", desc := "(I)I" } : Jvm.MethodName) prog_1_method_16_code (2 : Nat) (Option.some Jvm.ClassFile.FieldType.int)) ∈ lw_all := lw_g (lw_at lw_m1 125 rfl) rfl
theorem q143 : (Jvm.Cond.instanceMethod ({ cls := "PolygonFrame", name := "vertices", desc := "()I" } : Jvm.MethodName)) ∈ lw_all := lw_g (lw_at lw_m1 127 rfl) rfl
theorem q144 : (Jvm.Cond.selects "PolygonFrame" ({ cls := "PolygonFrame", name := "vertices", desc := "()I" } : Jvm.MethodName) ({ cls := "PolygonFrame", name := "vertices", desc := "()I" } : Jvm.MethodName)) ∈ lw_all := lw_g (lw_at lw_m1 128 rfl) rfl
theorem q145 : (Jvm.Cond.code ({ cls := "PolygonFrame", name := "vertices", desc := "()I" } : Jvm.MethodName) prog_1_method_17_code (1 : Nat) (Option.some Jvm.ClassFile.FieldType.int)) ∈ lw_all := lw_g (lw_at lw_m1 129 rfl) rfl
theorem q147 : (Jvm.Cond.instanceMethod ({ cls := "PolygonFrame", name := "inside", desc := "(II)Z" } : Jvm.MethodName)) ∈ lw_all := lw_g (lw_at lw_m1 131 rfl) rfl
theorem q148 : (Jvm.Cond.selects "PolygonFrame" ({ cls := "PolygonFrame", name := "inside", desc := "(II)Z" } : Jvm.MethodName) ({ cls := "PolygonFrame", name := "inside", desc := "(II)Z" } : Jvm.MethodName)) ∈ lw_all := lw_g (lw_at lw_m1 132 rfl) rfl
theorem q149 : (Jvm.Cond.code ({ cls := "PolygonFrame", name := "inside", desc := "(II)Z" } : Jvm.MethodName) prog_1_method_21_code (9 : Nat) (Option.some Jvm.ClassFile.FieldType.boolean)) ∈ lw_all := lw_g (lw_at lw_m1 133 rfl) rfl
theorem q150 : (Jvm.Cond.methodLink "PolygonFrame" (104 : Nat) ({ cls := "PolygonFrame", name := "lowOf", desc := "(I)I" } : Jvm.MethodName)) ∈ lw_all := lw_g (lw_at lw_m1 134 rfl) rfl
theorem q151 : (Jvm.Cond.privateMethod ({ cls := "PolygonFrame", name := "lowOf", desc := "(I)I" } : Jvm.MethodName)) ∈ lw_tbl := lw_at lw_m1 135 rfl
theorem q152 : (Jvm.Cond.instanceMethod ({ cls := "PolygonFrame", name := "lowOf", desc := "(I)I" } : Jvm.MethodName)) ∈ lw_all := lw_g (lw_at lw_m1 136 rfl) rfl
theorem q153 : (Jvm.Cond.code ({ cls := "PolygonFrame", name := "lowOf", desc := "(I)I" } : Jvm.MethodName) prog_1_method_19_code (2 : Nat) (Option.some Jvm.ClassFile.FieldType.int)) ∈ lw_all := lw_g (lw_at lw_m1 137 rfl) rfl
theorem q154 : (Jvm.Cond.methodLink "PolygonFrame" (100 : Nat) ({ cls := "PolygonFrame", name := "nextOf", desc := "(I)I" } : Jvm.MethodName)) ∈ lw_all := lw_g (lw_at lw_m1 138 rfl) rfl
theorem q155 : (Jvm.Cond.privateMethod ({ cls := "PolygonFrame", name := "nextOf", desc := "(I)I" } : Jvm.MethodName)) ∈ lw_tbl := lw_at lw_m1 139 rfl
theorem q156 : (Jvm.Cond.instanceMethod ({ cls := "PolygonFrame", name := "nextOf", desc := "(I)I" } : Jvm.MethodName)) ∈ lw_all := lw_g (lw_at lw_m1 140 rfl) rfl
theorem q157 : (Jvm.Cond.code ({ cls := "PolygonFrame", name := "nextOf", desc := "(I)I" } : Jvm.MethodName) prog_1_method_18_code (2 : Nat) (Option.some Jvm.ClassFile.FieldType.int)) ∈ lw_all := lw_g (lw_at lw_m1 141 rfl) rfl
theorem q158 : (Jvm.Cond.methodLink "PolygonFrame" (107 : Nat) ({ cls := "PolygonFrame", name := "highOf", desc := "(I)I" } : Jvm.MethodName)) ∈ lw_all := lw_g (lw_at lw_m1 142 rfl) rfl
theorem q159 : (Jvm.Cond.privateMethod ({ cls := "PolygonFrame", name := "highOf", desc := "(I)I" } : Jvm.MethodName)) ∈ lw_tbl := lw_at lw_m1 143 rfl
theorem q160 : (Jvm.Cond.instanceMethod ({ cls := "PolygonFrame", name := "highOf", desc := "(I)I" } : Jvm.MethodName)) ∈ lw_all := lw_g (lw_at lw_m1 144 rfl) rfl
theorem q161 : (Jvm.Cond.code ({ cls := "PolygonFrame", name := "highOf", desc := "(I)I" } : Jvm.MethodName) prog_1_method_20_code (2 : Nat) (Option.some Jvm.ClassFile.FieldType.int)) ∈ lw_all := lw_g (lw_at lw_m1 145 rfl) rfl
theorem q163 : (Jvm.Cond.instanceMethod ({ cls := "PolygonFrame", name := "fill", desc := "(I)I" } : Jvm.MethodName)) ∈ lw_all := lw_g (lw_at lw_m1 147 rfl) rfl
theorem q164 : (Jvm.Cond.selects "PolygonFrame" ({ cls := "PolygonFrame", name := "fill", desc := "(I)I" } : Jvm.MethodName) ({ cls := "PolygonFrame", name := "fill", desc := "(I)I" } : Jvm.MethodName)) ∈ lw_all := lw_g (lw_at lw_m1 148 rfl) rfl
theorem q165 : (Jvm.Cond.code ({ cls := "PolygonFrame", name := "fill", desc := "(I)I" } : Jvm.MethodName) prog_1_method_26_code (9 : Nat) (Option.some Jvm.ClassFile.FieldType.int)) ∈ lw_all := lw_g (lw_at lw_m1 149 rfl) rfl
theorem q166 : (Jvm.Cond.methodLink "PolygonFrame" (110 : Nat) ({ cls := "PolygonFrame", name := "makeTable", desc := "()I" } : Jvm.MethodName)) ∈ lw_all := lw_g (lw_at lw_m1 150 rfl) rfl
theorem q167 : (Jvm.Cond.privateMethod ({ cls := "PolygonFrame", name := "makeTable", desc := "()I" } : Jvm.MethodName)) ∈ lw_tbl := lw_at lw_m1 151 rfl
theorem q168 : (Jvm.Cond.instanceMethod ({ cls := "PolygonFrame", name := "makeTable", desc := "()I" } : Jvm.MethodName)) ∈ lw_all := lw_g (lw_at lw_m1 152 rfl) rfl
theorem q169 : (Jvm.Cond.code ({ cls := "PolygonFrame", name := "makeTable", desc := "()I" } : Jvm.MethodName) prog_1_method_23_code (4 : Nat) (Option.some Jvm.ClassFile.FieldType.int)) ∈ lw_all := lw_g (lw_at lw_m1 153 rfl) rfl
theorem q170 : (Jvm.Cond.methodLink "PolygonFrame" (114 : Nat) ({ cls := "PolygonFrame", name := "lastBefore", desc := "(II)I" } : Jvm.MethodName)) ∈ lw_all := lw_g (lw_at lw_m1 154 rfl) rfl
theorem q171 : (Jvm.Cond.privateMethod ({ cls := "PolygonFrame", name := "lastBefore", desc := "(II)I" } : Jvm.MethodName)) ∈ lw_tbl := lw_at lw_m1 155 rfl
theorem q172 : (Jvm.Cond.instanceMethod ({ cls := "PolygonFrame", name := "lastBefore", desc := "(II)I" } : Jvm.MethodName)) ∈ lw_all := lw_g (lw_at lw_m1 156 rfl) rfl
theorem q173 : (Jvm.Cond.code ({ cls := "PolygonFrame", name := "lastBefore", desc := "(II)I" } : Jvm.MethodName) prog_1_method_22_code (7 : Nat) (Option.some Jvm.ClassFile.FieldType.int)) ∈ lw_all := lw_g (lw_at lw_m1 157 rfl) rfl
theorem q174 : (Jvm.Cond.methodLink "PolygonFrame" (118 : Nat) ({ cls := "PolygonFrame", name := "sortActive", desc := "(I)V" } : Jvm.MethodName)) ∈ lw_all := lw_g (lw_at lw_m1 158 rfl) rfl
theorem q175 : (Jvm.Cond.privateMethod ({ cls := "PolygonFrame", name := "sortActive", desc := "(I)V" } : Jvm.MethodName)) ∈ lw_tbl := lw_at lw_m1 159 rfl
theorem q176 : (Jvm.Cond.instanceMethod ({ cls := "PolygonFrame", name := "sortActive", desc := "(I)V" } : Jvm.MethodName)) ∈ lw_all := lw_g (lw_at lw_m1 160 rfl) rfl
theorem q177 : (Jvm.Cond.code ({ cls := "PolygonFrame", name := "sortActive", desc := "(I)V" } : Jvm.MethodName) prog_1_method_24_code (6 : Nat) (Option.none : Option Jvm.ClassFile.FieldType)) ∈ lw_all := lw_g (lw_at lw_m1 161 rfl) rfl
theorem q178 : (Jvm.Cond.methodLink "PolygonFrame" (122 : Nat) ({ cls := "PolygonFrame", name := "paint", desc := "(IIII)I" } : Jvm.MethodName)) ∈ lw_all := lw_g (lw_at lw_m1 162 rfl) rfl
theorem q179 : (Jvm.Cond.privateMethod ({ cls := "PolygonFrame", name := "paint", desc := "(IIII)I" } : Jvm.MethodName)) ∈ lw_tbl := lw_at lw_m1 163 rfl
theorem q180 : (Jvm.Cond.instanceMethod ({ cls := "PolygonFrame", name := "paint", desc := "(IIII)I" } : Jvm.MethodName)) ∈ lw_all := lw_g (lw_at lw_m1 164 rfl) rfl
theorem q181 : (Jvm.Cond.code ({ cls := "PolygonFrame", name := "paint", desc := "(IIII)I" } : Jvm.MethodName) prog_1_method_25_code (7 : Nat) (Option.some Jvm.ClassFile.FieldType.int)) ∈ lw_all := lw_g (lw_at lw_m1 165 rfl) rfl
theorem q183 : (Jvm.Cond.instanceMethod ({ cls := "PolygonFrame", name := "pixel", desc := "(II)I" } : Jvm.MethodName)) ∈ lw_all := lw_g (lw_at lw_m1 167 rfl) rfl
theorem q184 : (Jvm.Cond.selects "PolygonFrame" ({ cls := "PolygonFrame", name := "pixel", desc := "(II)I" } : Jvm.MethodName) ({ cls := "PolygonFrame", name := "pixel", desc := "(II)I" } : Jvm.MethodName)) ∈ lw_all := lw_g (lw_at lw_m1 168 rfl) rfl
theorem q185 : (Jvm.Cond.code ({ cls := "PolygonFrame", name := "pixel", desc := "(II)I" } : Jvm.MethodName) prog_1_method_27_code (3 : Nat) (Option.some Jvm.ClassFile.FieldType.int)) ∈ lw_all := lw_g (lw_at lw_m1 169 rfl) rfl
theorem in_X1 : ∀ w ∈ wsX10, w ∈ lw_all := lw_in wsX10 [49, 51, 53, 55, 57, 59, 61, 63, 65, 67, 69, 71, 73, 75, 77, 79, 81, 83, 85] (by decide +kernel) (by decide +kernel)
end
section
/-! PolygonFrameModel -/
set_option maxRecDepth 100000
def RX2 : String := "PolygonFrameModel"
def TX2 : u_T := fun k => match k with
  | 0 => ("PolygonFrameModel", "wide", "I", true)
  | 1 => ("PolygonFrameModel", "high", "I", true)
  | 2 => ("PolygonFrameModel", "most", "I", true)
  | 3 => ("PolygonFrameModel", "pixels", "[I", true)
  | 4 => ("PolygonFrameModel", "xs", "[I", true)
  | 5 => ("PolygonFrameModel", "ys", "[I", true)
  | 6 => ("PolygonFrameModel", "size", "I", false)
  | 7 => ("PolygonFrameModel", "fromX", "[I", true)
  | 8 => ("PolygonFrameModel", "fromY", "[I", true)
  | 9 => ("PolygonFrameModel", "toX", "[I", true)
  | 10 => ("PolygonFrameModel", "toY", "[I", true)
  | 11 => ("PolygonFrameModel", "from", "I", false)
  | 12 => ("PolygonFrameModel", "to", "I", false)
  | 13 => ("PolygonFrameModel", "left", "I", false)
  | 14 => ("PolygonFrameModel", "right", "I", false)
  | 15 => ("PolygonFrameModel", "low", "I", false)
  | _ => ("PolygonFrameModel", "top", "I", false)
def tyX2 : Nat → FieldType := fun k => match k with
  | 0 => .int
  | 1 => .int
  | 2 => .int
  | 3 => .array .int
  | 4 => .array .int
  | 5 => .array .int
  | 6 => .int
  | 7 => .array .int
  | 8 => .array .int
  | 9 => .array .int
  | 10 => .array .int
  | 11 => .int
  | 12 => .int
  | 13 => .int
  | 14 => .int
  | 15 => .int
  | _ => .int
abbrev wsX20 : List Cond := u_ws RX2 TX2 17
set_option maxRecDepth 100000 in
theorem nmX2 : ∀ a, a < 17 → ∀ b, b < 17 → a ≠ b → (TX2 a).2.1 ≠ (TX2 b).2.1 := by decide +kernel
set_option maxRecDepth 100000 in
theorem tyX2_ok : ∀ k, k < 17 → parseFieldDescriptor (TX2 k).2.2.1 = some (tyX2 k) := by decide +kernel
abbrev cX2_init : ByteArray := prog_3_method_1_code
def yX2_init : MethodName := ⟨RX2, "<init>", "(III)V"⟩
theorem dX2_init_0 : decode cX2_init 0 = .ok (.aload_n 0, 1) := by decide +kernel
theorem dX2_init_1 : decode cX2_init 1 = .ok (.invokespecial 1, 3) := by decide +kernel
theorem dX2_init_4 : decode cX2_init 4 = .ok (.aload_n 0, 1) := by decide +kernel
theorem dX2_init_5 : decode cX2_init 5 = .ok (.sipush 576, 3) := by decide +kernel
theorem dX2_init_8 : decode cX2_init 8 = .ok (.newarray .int, 2) := by decide +kernel
theorem dX2_init_10 : decode cX2_init 10 = .ok (.putfield 7, 3) := by decide +kernel
theorem dX2_init_13 : decode cX2_init 13 = .ok (.aload_n 0, 1) := by decide +kernel
theorem dX2_init_14 : decode cX2_init 14 = .ok (.bipush 60, 2) := by decide +kernel
theorem dX2_init_16 : decode cX2_init 16 = .ok (.newarray .int, 2) := by decide +kernel
theorem dX2_init_18 : decode cX2_init 18 = .ok (.putfield 13, 3) := by decide +kernel
theorem dX2_init_21 : decode cX2_init 21 = .ok (.aload_n 0, 1) := by decide +kernel
theorem dX2_init_22 : decode cX2_init 22 = .ok (.bipush 60, 2) := by decide +kernel
theorem dX2_init_24 : decode cX2_init 24 = .ok (.newarray .int, 2) := by decide +kernel
theorem dX2_init_26 : decode cX2_init 26 = .ok (.putfield 16, 3) := by decide +kernel
theorem dX2_init_29 : decode cX2_init 29 = .ok (.aload_n 0, 1) := by decide +kernel
theorem dX2_init_30 : decode cX2_init 30 = .ok (.bipush 60, 2) := by decide +kernel
theorem dX2_init_32 : decode cX2_init 32 = .ok (.newarray .int, 2) := by decide +kernel
theorem dX2_init_34 : decode cX2_init 34 = .ok (.putfield 19, 3) := by decide +kernel
theorem dX2_init_37 : decode cX2_init 37 = .ok (.aload_n 0, 1) := by decide +kernel
theorem dX2_init_38 : decode cX2_init 38 = .ok (.bipush 60, 2) := by decide +kernel
theorem dX2_init_40 : decode cX2_init 40 = .ok (.newarray .int, 2) := by decide +kernel
theorem dX2_init_42 : decode cX2_init 42 = .ok (.putfield 22, 3) := by decide +kernel
theorem dX2_init_45 : decode cX2_init 45 = .ok (.aload_n 0, 1) := by decide +kernel
theorem dX2_init_46 : decode cX2_init 46 = .ok (.bipush 60, 2) := by decide +kernel
theorem dX2_init_48 : decode cX2_init 48 = .ok (.newarray .int, 2) := by decide +kernel
theorem dX2_init_50 : decode cX2_init 50 = .ok (.putfield 25, 3) := by decide +kernel
theorem dX2_init_53 : decode cX2_init 53 = .ok (.aload_n 0, 1) := by decide +kernel
theorem dX2_init_54 : decode cX2_init 54 = .ok (.bipush 60, 2) := by decide +kernel
theorem dX2_init_56 : decode cX2_init 56 = .ok (.newarray .int, 2) := by decide +kernel
theorem dX2_init_58 : decode cX2_init 58 = .ok (.putfield 28, 3) := by decide +kernel
theorem dX2_init_61 : decode cX2_init 61 = .ok (.aload_n 0, 1) := by decide +kernel
theorem dX2_init_62 : decode cX2_init 62 = .ok (.sipush (-16384), 3) := by decide +kernel
theorem dX2_init_65 : decode cX2_init 65 = .ok (.putfield 31, 3) := by decide +kernel
theorem dX2_init_68 : decode cX2_init 68 = .ok (.aload_n 0, 1) := by decide +kernel
theorem dX2_init_69 : decode cX2_init 69 = .ok (.sipush 16384, 3) := by decide +kernel
theorem dX2_init_72 : decode cX2_init 72 = .ok (.putfield 35, 3) := by decide +kernel
theorem dX2_init_75 : decode cX2_init 75 = .ok (.aload_n 0, 1) := by decide +kernel
theorem dX2_init_76 : decode cX2_init 76 = .ok (.sipush (-16384), 3) := by decide +kernel
theorem dX2_init_79 : decode cX2_init 79 = .ok (.putfield 38, 3) := by decide +kernel
theorem dX2_init_82 : decode cX2_init 82 = .ok (.aload_n 0, 1) := by decide +kernel
theorem dX2_init_83 : decode cX2_init 83 = .ok (.sipush 16384, 3) := by decide +kernel
theorem dX2_init_86 : decode cX2_init 86 = .ok (.putfield 41, 3) := by decide +kernel
theorem dX2_init_89 : decode cX2_init 89 = .ok (.aload_n 0, 1) := by decide +kernel
theorem dX2_init_90 : decode cX2_init 90 = .ok (.iload_n 1, 1) := by decide +kernel
theorem dX2_init_91 : decode cX2_init 91 = .ok (.iconst 1, 1) := by decide +kernel
theorem dX2_init_92 : decode cX2_init 92 = .ok (.bipush 24, 2) := by decide +kernel
theorem dX2_init_94 : decode cX2_init 94 = .ok (.invokestatic 44, 3) := by decide +kernel
theorem dX2_init_97 : decode cX2_init 97 = .ok (.putfield 48, 3) := by decide +kernel
theorem dX2_init_100 : decode cX2_init 100 = .ok (.aload_n 0, 1) := by decide +kernel
theorem dX2_init_101 : decode cX2_init 101 = .ok (.iload_n 2, 1) := by decide +kernel
theorem dX2_init_102 : decode cX2_init 102 = .ok (.iconst 1, 1) := by decide +kernel
theorem dX2_init_103 : decode cX2_init 103 = .ok (.bipush 24, 2) := by decide +kernel
theorem dX2_init_105 : decode cX2_init 105 = .ok (.invokestatic 44, 3) := by decide +kernel
theorem dX2_init_108 : decode cX2_init 108 = .ok (.putfield 51, 3) := by decide +kernel
theorem dX2_init_111 : decode cX2_init 111 = .ok (.aload_n 0, 1) := by decide +kernel
theorem dX2_init_112 : decode cX2_init 112 = .ok (.iload_n 3, 1) := by decide +kernel
theorem dX2_init_113 : decode cX2_init 113 = .ok (.iconst 3, 1) := by decide +kernel
theorem dX2_init_114 : decode cX2_init 114 = .ok (.bipush 60, 2) := by decide +kernel
theorem dX2_init_116 : decode cX2_init 116 = .ok (.invokestatic 44, 3) := by decide +kernel
theorem dX2_init_119 : decode cX2_init 119 = .ok (.putfield 54, 3) := by decide +kernel
theorem dX2_init_122 : decode cX2_init 122 = .ok (.return_, 1) := by decide +kernel
abbrev cX2_between : ByteArray := prog_3_method_2_code
def yX2_between : MethodName := ⟨RX2, "between", "(III)I"⟩
theorem dX2_between_0 : decode cX2_between 0 = .ok (.iload_n 0, 1) := by decide +kernel
theorem dX2_between_1 : decode cX2_between 1 = .ok (.iload_n 1, 1) := by decide +kernel
theorem dX2_between_2 : decode cX2_between 2 = .ok (.if_icmp .ge 7, 3) := by decide +kernel
theorem dX2_between_5 : decode cX2_between 5 = .ok (.iload_n 1, 1) := by decide +kernel
theorem dX2_between_6 : decode cX2_between 6 = .ok (.goto 13, 3) := by decide +kernel
theorem dX2_between_9 : decode cX2_between 9 = .ok (.iload_n 0, 1) := by decide +kernel
theorem dX2_between_10 : decode cX2_between 10 = .ok (.iload_n 2, 1) := by decide +kernel
theorem dX2_between_11 : decode cX2_between 11 = .ok (.if_icmp .le 7, 3) := by decide +kernel
theorem dX2_between_14 : decode cX2_between 14 = .ok (.iload_n 2, 1) := by decide +kernel
theorem dX2_between_15 : decode cX2_between 15 = .ok (.goto 4, 3) := by decide +kernel
theorem dX2_between_18 : decode cX2_between 18 = .ok (.iload_n 0, 1) := by decide +kernel
theorem dX2_between_19 : decode cX2_between 19 = .ok (.ireturn, 1) := by decide +kernel
abbrev cX2_clear : ByteArray := prog_3_method_3_code
def yX2_clear : MethodName := ⟨RX2, "clear", "(I)V"⟩
theorem dX2_clear_0 : decode cX2_clear 0 = .ok (.iconst 0, 1) := by decide +kernel
theorem dX2_clear_1 : decode cX2_clear 1 = .ok (.istore_n 2, 1) := by decide +kernel
theorem dX2_clear_2 : decode cX2_clear 2 = .ok (.iload_n 2, 1) := by decide +kernel
theorem dX2_clear_3 : decode cX2_clear 3 = .ok (.sipush 576, 3) := by decide +kernel
theorem dX2_clear_6 : decode cX2_clear 6 = .ok (.if_icmp .ge 16, 3) := by decide +kernel
theorem dX2_clear_9 : decode cX2_clear 9 = .ok (.aload_n 0, 1) := by decide +kernel
theorem dX2_clear_10 : decode cX2_clear 10 = .ok (.getfield 7, 3) := by decide +kernel
theorem dX2_clear_13 : decode cX2_clear 13 = .ok (.iload_n 2, 1) := by decide +kernel
theorem dX2_clear_14 : decode cX2_clear 14 = .ok (.iload_n 1, 1) := by decide +kernel
theorem dX2_clear_15 : decode cX2_clear 15 = .ok (.iastore, 1) := by decide +kernel
theorem dX2_clear_16 : decode cX2_clear 16 = .ok (.iinc 2 1, 3) := by decide +kernel
theorem dX2_clear_19 : decode cX2_clear 19 = .ok (.goto (-17), 3) := by decide +kernel
theorem dX2_clear_22 : decode cX2_clear 22 = .ok (.return_, 1) := by decide +kernel
abbrev cX2_begin : ByteArray := prog_3_method_4_code
def yX2_begin : MethodName := ⟨RX2, "begin", "()V"⟩
theorem dX2_begin_0 : decode cX2_begin 0 = .ok (.aload_n 0, 1) := by decide +kernel
theorem dX2_begin_1 : decode cX2_begin 1 = .ok (.iconst 0, 1) := by decide +kernel
theorem dX2_begin_2 : decode cX2_begin 2 = .ok (.putfield 57, 3) := by decide +kernel
theorem dX2_begin_5 : decode cX2_begin 5 = .ok (.return_, 1) := by decide +kernel
abbrev cX2_vertex : ByteArray := prog_3_method_6_code
def yX2_vertex : MethodName := ⟨RX2, "vertex", "(II)Z"⟩
theorem dX2_vertex_0 : decode cX2_vertex 0 = .ok (.aload_n 0, 1) := by decide +kernel
theorem dX2_vertex_1 : decode cX2_vertex 1 = .ok (.getfield 57, 3) := by decide +kernel
theorem dX2_vertex_4 : decode cX2_vertex 4 = .ok (.aload_n 0, 1) := by decide +kernel
theorem dX2_vertex_5 : decode cX2_vertex 5 = .ok (.getfield 54, 3) := by decide +kernel
theorem dX2_vertex_8 : decode cX2_vertex 8 = .ok (.if_icmp .eq 17, 3) := by decide +kernel
theorem dX2_vertex_11 : decode cX2_vertex 11 = .ok (.iload_n 1, 1) := by decide +kernel
theorem dX2_vertex_12 : decode cX2_vertex 12 = .ok (.invokestatic 60, 3) := by decide +kernel
theorem dX2_vertex_15 : decode cX2_vertex 15 = .ok (.ifCond .eq 10, 3) := by decide +kernel
theorem dX2_vertex_18 : decode cX2_vertex 18 = .ok (.iload_n 2, 1) := by decide +kernel
theorem dX2_vertex_19 : decode cX2_vertex 19 = .ok (.invokestatic 60, 3) := by decide +kernel
theorem dX2_vertex_22 : decode cX2_vertex 22 = .ok (.ifCond .ne 5, 3) := by decide +kernel
theorem dX2_vertex_25 : decode cX2_vertex 25 = .ok (.iconst 0, 1) := by decide +kernel
theorem dX2_vertex_26 : decode cX2_vertex 26 = .ok (.ireturn, 1) := by decide +kernel
theorem dX2_vertex_27 : decode cX2_vertex 27 = .ok (.aload_n 0, 1) := by decide +kernel
theorem dX2_vertex_28 : decode cX2_vertex 28 = .ok (.getfield 13, 3) := by decide +kernel
theorem dX2_vertex_31 : decode cX2_vertex 31 = .ok (.aload_n 0, 1) := by decide +kernel
theorem dX2_vertex_32 : decode cX2_vertex 32 = .ok (.getfield 57, 3) := by decide +kernel
theorem dX2_vertex_35 : decode cX2_vertex 35 = .ok (.iload_n 1, 1) := by decide +kernel
theorem dX2_vertex_36 : decode cX2_vertex 36 = .ok (.iastore, 1) := by decide +kernel
theorem dX2_vertex_37 : decode cX2_vertex 37 = .ok (.aload_n 0, 1) := by decide +kernel
theorem dX2_vertex_38 : decode cX2_vertex 38 = .ok (.getfield 16, 3) := by decide +kernel
theorem dX2_vertex_41 : decode cX2_vertex 41 = .ok (.aload_n 0, 1) := by decide +kernel
theorem dX2_vertex_42 : decode cX2_vertex 42 = .ok (.getfield 57, 3) := by decide +kernel
theorem dX2_vertex_45 : decode cX2_vertex 45 = .ok (.iload_n 2, 1) := by decide +kernel
theorem dX2_vertex_46 : decode cX2_vertex 46 = .ok (.iastore, 1) := by decide +kernel
theorem dX2_vertex_47 : decode cX2_vertex 47 = .ok (.aload_n 0, 1) := by decide +kernel
theorem dX2_vertex_48 : decode cX2_vertex 48 = .ok (.dup, 1) := by decide +kernel
theorem dX2_vertex_49 : decode cX2_vertex 49 = .ok (.getfield 57, 3) := by decide +kernel
theorem dX2_vertex_52 : decode cX2_vertex 52 = .ok (.iconst 1, 1) := by decide +kernel
theorem dX2_vertex_53 : decode cX2_vertex 53 = .ok (.iadd, 1) := by decide +kernel
theorem dX2_vertex_54 : decode cX2_vertex 54 = .ok (.putfield 57, 3) := by decide +kernel
theorem dX2_vertex_57 : decode cX2_vertex 57 = .ok (.iconst 1, 1) := by decide +kernel
theorem dX2_vertex_58 : decode cX2_vertex 58 = .ok (.ireturn, 1) := by decide +kernel
abbrev cX2_isNear : ByteArray := prog_3_method_5_code
def yX2_isNear : MethodName := ⟨RX2, "isNear", "(I)Z"⟩
theorem dX2_isNear_0 : decode cX2_isNear 0 = .ok (.iload_n 0, 1) := by decide +kernel
theorem dX2_isNear_1 : decode cX2_isNear 1 = .ok (.sipush (-16384), 3) := by decide +kernel
theorem dX2_isNear_4 : decode cX2_isNear 4 = .ok (.if_icmp .lt 14, 3) := by decide +kernel
theorem dX2_isNear_7 : decode cX2_isNear 7 = .ok (.iload_n 0, 1) := by decide +kernel
theorem dX2_isNear_8 : decode cX2_isNear 8 = .ok (.sipush 16384, 3) := by decide +kernel
theorem dX2_isNear_11 : decode cX2_isNear 11 = .ok (.if_icmp .gt 7, 3) := by decide +kernel
theorem dX2_isNear_14 : decode cX2_isNear 14 = .ok (.iconst 1, 1) := by decide +kernel
theorem dX2_isNear_15 : decode cX2_isNear 15 = .ok (.goto 4, 3) := by decide +kernel
theorem dX2_isNear_18 : decode cX2_isNear 18 = .ok (.iconst 0, 1) := by decide +kernel
theorem dX2_isNear_19 : decode cX2_isNear 19 = .ok (.ireturn, 1) := by decide +kernel
abbrev cX2_setClip : ByteArray := prog_3_method_7_code
def yX2_setClip : MethodName := ⟨RX2, "setClip", "(IIII)Z"⟩
theorem dX2_setClip_0 : decode cX2_setClip 0 = .ok (.iload_n 1, 1) := by decide +kernel
theorem dX2_setClip_1 : decode cX2_setClip 1 = .ok (.invokestatic 60, 3) := by decide +kernel
theorem dX2_setClip_4 : decode cX2_setClip 4 = .ok (.ifCond .eq 36, 3) := by decide +kernel
theorem dX2_setClip_7 : decode cX2_setClip 7 = .ok (.iload_n 2, 1) := by decide +kernel
theorem dX2_setClip_8 : decode cX2_setClip 8 = .ok (.invokestatic 60, 3) := by decide +kernel
theorem dX2_setClip_11 : decode cX2_setClip 11 = .ok (.ifCond .eq 29, 3) := by decide +kernel
theorem dX2_setClip_14 : decode cX2_setClip 14 = .ok (.iload_n 3, 1) := by decide +kernel
theorem dX2_setClip_15 : decode cX2_setClip 15 = .ok (.invokestatic 60, 3) := by decide +kernel
theorem dX2_setClip_18 : decode cX2_setClip 18 = .ok (.ifCond .eq 22, 3) := by decide +kernel
theorem dX2_setClip_21 : decode cX2_setClip 21 = .ok (.iload 4, 2) := by decide +kernel
theorem dX2_setClip_23 : decode cX2_setClip 23 = .ok (.invokestatic 60, 3) := by decide +kernel
theorem dX2_setClip_26 : decode cX2_setClip 26 = .ok (.ifCond .eq 14, 3) := by decide +kernel
theorem dX2_setClip_29 : decode cX2_setClip 29 = .ok (.iload_n 1, 1) := by decide +kernel
theorem dX2_setClip_30 : decode cX2_setClip 30 = .ok (.iload_n 3, 1) := by decide +kernel
theorem dX2_setClip_31 : decode cX2_setClip 31 = .ok (.if_icmp .gt 9, 3) := by decide +kernel
theorem dX2_setClip_34 : decode cX2_setClip 34 = .ok (.iload_n 2, 1) := by decide +kernel
theorem dX2_setClip_35 : decode cX2_setClip 35 = .ok (.iload 4, 2) := by decide +kernel
theorem dX2_setClip_37 : decode cX2_setClip 37 = .ok (.if_icmp .le 5, 3) := by decide +kernel
theorem dX2_setClip_40 : decode cX2_setClip 40 = .ok (.iconst 0, 1) := by decide +kernel
theorem dX2_setClip_41 : decode cX2_setClip 41 = .ok (.ireturn, 1) := by decide +kernel
theorem dX2_setClip_42 : decode cX2_setClip 42 = .ok (.aload_n 0, 1) := by decide +kernel
theorem dX2_setClip_43 : decode cX2_setClip 43 = .ok (.iload_n 1, 1) := by decide +kernel
theorem dX2_setClip_44 : decode cX2_setClip 44 = .ok (.putfield 31, 3) := by decide +kernel
theorem dX2_setClip_47 : decode cX2_setClip 47 = .ok (.aload_n 0, 1) := by decide +kernel
theorem dX2_setClip_48 : decode cX2_setClip 48 = .ok (.iload_n 3, 1) := by decide +kernel
theorem dX2_setClip_49 : decode cX2_setClip 49 = .ok (.putfield 35, 3) := by decide +kernel
theorem dX2_setClip_52 : decode cX2_setClip 52 = .ok (.aload_n 0, 1) := by decide +kernel
theorem dX2_setClip_53 : decode cX2_setClip 53 = .ok (.iload_n 2, 1) := by decide +kernel
theorem dX2_setClip_54 : decode cX2_setClip 54 = .ok (.putfield 38, 3) := by decide +kernel
theorem dX2_setClip_57 : decode cX2_setClip 57 = .ok (.aload_n 0, 1) := by decide +kernel
theorem dX2_setClip_58 : decode cX2_setClip 58 = .ok (.iload 4, 2) := by decide +kernel
theorem dX2_setClip_60 : decode cX2_setClip 60 = .ok (.putfield 41, 3) := by decide +kernel
theorem dX2_setClip_63 : decode cX2_setClip 63 = .ok (.iconst 1, 1) := by decide +kernel
theorem dX2_setClip_64 : decode cX2_setClip 64 = .ok (.ireturn, 1) := by decide +kernel
abbrev cX2_clip : ByteArray := prog_3_method_13_code
def yX2_clip : MethodName := ⟨RX2, "clip", "()I"⟩
theorem dX2_clip_0 : decode cX2_clip 0 = .ok (.aload_n 0, 1) := by decide +kernel
theorem dX2_clip_1 : decode cX2_clip 1 = .ok (.aload_n 0, 1) := by decide +kernel
theorem dX2_clip_2 : decode cX2_clip 2 = .ok (.getfield 57, 3) := by decide +kernel
theorem dX2_clip_5 : decode cX2_clip 5 = .ok (.putfield 75, 3) := by decide +kernel
theorem dX2_clip_8 : decode cX2_clip 8 = .ok (.iconst 0, 1) := by decide +kernel
theorem dX2_clip_9 : decode cX2_clip 9 = .ok (.istore_n 1, 1) := by decide +kernel
theorem dX2_clip_10 : decode cX2_clip 10 = .ok (.iload_n 1, 1) := by decide +kernel
theorem dX2_clip_11 : decode cX2_clip 11 = .ok (.aload_n 0, 1) := by decide +kernel
theorem dX2_clip_12 : decode cX2_clip 12 = .ok (.getfield 57, 3) := by decide +kernel
theorem dX2_clip_15 : decode cX2_clip 15 = .ok (.if_icmp .ge 33, 3) := by decide +kernel
theorem dX2_clip_18 : decode cX2_clip 18 = .ok (.aload_n 0, 1) := by decide +kernel
theorem dX2_clip_19 : decode cX2_clip 19 = .ok (.getfield 19, 3) := by decide +kernel
theorem dX2_clip_22 : decode cX2_clip 22 = .ok (.iload_n 1, 1) := by decide +kernel
theorem dX2_clip_23 : decode cX2_clip 23 = .ok (.aload_n 0, 1) := by decide +kernel
theorem dX2_clip_24 : decode cX2_clip 24 = .ok (.getfield 13, 3) := by decide +kernel
theorem dX2_clip_27 : decode cX2_clip 27 = .ok (.iload_n 1, 1) := by decide +kernel
theorem dX2_clip_28 : decode cX2_clip 28 = .ok (.iaload, 1) := by decide +kernel
theorem dX2_clip_29 : decode cX2_clip 29 = .ok (.iastore, 1) := by decide +kernel
theorem dX2_clip_30 : decode cX2_clip 30 = .ok (.aload_n 0, 1) := by decide +kernel
theorem dX2_clip_31 : decode cX2_clip 31 = .ok (.getfield 22, 3) := by decide +kernel
theorem dX2_clip_34 : decode cX2_clip 34 = .ok (.iload_n 1, 1) := by decide +kernel
theorem dX2_clip_35 : decode cX2_clip 35 = .ok (.aload_n 0, 1) := by decide +kernel
theorem dX2_clip_36 : decode cX2_clip 36 = .ok (.getfield 16, 3) := by decide +kernel
theorem dX2_clip_39 : decode cX2_clip 39 = .ok (.iload_n 1, 1) := by decide +kernel
theorem dX2_clip_40 : decode cX2_clip 40 = .ok (.iaload, 1) := by decide +kernel
theorem dX2_clip_41 : decode cX2_clip 41 = .ok (.iastore, 1) := by decide +kernel
theorem dX2_clip_42 : decode cX2_clip 42 = .ok (.iinc 1 1, 3) := by decide +kernel
theorem dX2_clip_45 : decode cX2_clip 45 = .ok (.goto (-35), 3) := by decide +kernel
theorem dX2_clip_48 : decode cX2_clip 48 = .ok (.iconst 0, 1) := by decide +kernel
theorem dX2_clip_49 : decode cX2_clip 49 = .ok (.istore_n 1, 1) := by decide +kernel
theorem dX2_clip_50 : decode cX2_clip 50 = .ok (.iload_n 1, 1) := by decide +kernel
theorem dX2_clip_51 : decode cX2_clip 51 = .ok (.iconst 4, 1) := by decide +kernel
theorem dX2_clip_52 : decode cX2_clip 52 = .ok (.if_icmp .ge 75, 3) := by decide +kernel
theorem dX2_clip_55 : decode cX2_clip 55 = .ok (.aload_n 0, 1) := by decide +kernel
theorem dX2_clip_56 : decode cX2_clip 56 = .ok (.iload_n 1, 1) := by decide +kernel
theorem dX2_clip_57 : decode cX2_clip 57 = .ok (.invokevirtual 85, 3) := by decide +kernel
theorem dX2_clip_60 : decode cX2_clip 60 = .ok (.aload_n 0, 1) := by decide +kernel
theorem dX2_clip_61 : decode cX2_clip 61 = .ok (.getfield 64, 3) := by decide +kernel
theorem dX2_clip_64 : decode cX2_clip 64 = .ok (.aload_n 0, 1) := by decide +kernel
theorem dX2_clip_65 : decode cX2_clip 65 = .ok (.getfield 54, 3) := by decide +kernel
theorem dX2_clip_68 : decode cX2_clip 68 = .ok (.if_icmp .le 5, 3) := by decide +kernel
theorem dX2_clip_71 : decode cX2_clip 71 = .ok (.iconst (-1), 1) := by decide +kernel
theorem dX2_clip_72 : decode cX2_clip 72 = .ok (.ireturn, 1) := by decide +kernel
theorem dX2_clip_73 : decode cX2_clip 73 = .ok (.aload_n 0, 1) := by decide +kernel
theorem dX2_clip_74 : decode cX2_clip 74 = .ok (.aload_n 0, 1) := by decide +kernel
theorem dX2_clip_75 : decode cX2_clip 75 = .ok (.getfield 64, 3) := by decide +kernel
theorem dX2_clip_78 : decode cX2_clip 78 = .ok (.putfield 75, 3) := by decide +kernel
theorem dX2_clip_81 : decode cX2_clip 81 = .ok (.iconst 0, 1) := by decide +kernel
theorem dX2_clip_82 : decode cX2_clip 82 = .ok (.istore_n 2, 1) := by decide +kernel
theorem dX2_clip_83 : decode cX2_clip 83 = .ok (.iload_n 2, 1) := by decide +kernel
theorem dX2_clip_84 : decode cX2_clip 84 = .ok (.aload_n 0, 1) := by decide +kernel
theorem dX2_clip_85 : decode cX2_clip 85 = .ok (.getfield 64, 3) := by decide +kernel
theorem dX2_clip_88 : decode cX2_clip 88 = .ok (.if_icmp .ge 33, 3) := by decide +kernel
theorem dX2_clip_91 : decode cX2_clip 91 = .ok (.aload_n 0, 1) := by decide +kernel
theorem dX2_clip_92 : decode cX2_clip 92 = .ok (.getfield 19, 3) := by decide +kernel
theorem dX2_clip_95 : decode cX2_clip 95 = .ok (.iload_n 2, 1) := by decide +kernel
theorem dX2_clip_96 : decode cX2_clip 96 = .ok (.aload_n 0, 1) := by decide +kernel
theorem dX2_clip_97 : decode cX2_clip 97 = .ok (.getfield 25, 3) := by decide +kernel
theorem dX2_clip_100 : decode cX2_clip 100 = .ok (.iload_n 2, 1) := by decide +kernel
theorem dX2_clip_101 : decode cX2_clip 101 = .ok (.iaload, 1) := by decide +kernel
theorem dX2_clip_102 : decode cX2_clip 102 = .ok (.iastore, 1) := by decide +kernel
theorem dX2_clip_103 : decode cX2_clip 103 = .ok (.aload_n 0, 1) := by decide +kernel
theorem dX2_clip_104 : decode cX2_clip 104 = .ok (.getfield 22, 3) := by decide +kernel
theorem dX2_clip_107 : decode cX2_clip 107 = .ok (.iload_n 2, 1) := by decide +kernel
theorem dX2_clip_108 : decode cX2_clip 108 = .ok (.aload_n 0, 1) := by decide +kernel
theorem dX2_clip_109 : decode cX2_clip 109 = .ok (.getfield 28, 3) := by decide +kernel
theorem dX2_clip_112 : decode cX2_clip 112 = .ok (.iload_n 2, 1) := by decide +kernel
theorem dX2_clip_113 : decode cX2_clip 113 = .ok (.iaload, 1) := by decide +kernel
theorem dX2_clip_114 : decode cX2_clip 114 = .ok (.iastore, 1) := by decide +kernel
theorem dX2_clip_115 : decode cX2_clip 115 = .ok (.iinc 2 1, 3) := by decide +kernel
theorem dX2_clip_118 : decode cX2_clip 118 = .ok (.goto (-35), 3) := by decide +kernel
theorem dX2_clip_121 : decode cX2_clip 121 = .ok (.iinc 1 1, 3) := by decide +kernel
theorem dX2_clip_124 : decode cX2_clip 124 = .ok (.goto (-74), 3) := by decide +kernel
theorem dX2_clip_127 : decode cX2_clip 127 = .ok (.aload_n 0, 1) := by decide +kernel
theorem dX2_clip_128 : decode cX2_clip 128 = .ok (.aload_n 0, 1) := by decide +kernel
theorem dX2_clip_129 : decode cX2_clip 129 = .ok (.getfield 75, 3) := by decide +kernel
theorem dX2_clip_132 : decode cX2_clip 132 = .ok (.putfield 57, 3) := by decide +kernel
theorem dX2_clip_135 : decode cX2_clip 135 = .ok (.iconst 0, 1) := by decide +kernel
theorem dX2_clip_136 : decode cX2_clip 136 = .ok (.istore_n 1, 1) := by decide +kernel
theorem dX2_clip_137 : decode cX2_clip 137 = .ok (.iload_n 1, 1) := by decide +kernel
theorem dX2_clip_138 : decode cX2_clip 138 = .ok (.aload_n 0, 1) := by decide +kernel
theorem dX2_clip_139 : decode cX2_clip 139 = .ok (.getfield 57, 3) := by decide +kernel
theorem dX2_clip_142 : decode cX2_clip 142 = .ok (.if_icmp .ge 33, 3) := by decide +kernel
theorem dX2_clip_145 : decode cX2_clip 145 = .ok (.aload_n 0, 1) := by decide +kernel
theorem dX2_clip_146 : decode cX2_clip 146 = .ok (.getfield 13, 3) := by decide +kernel
theorem dX2_clip_149 : decode cX2_clip 149 = .ok (.iload_n 1, 1) := by decide +kernel
theorem dX2_clip_150 : decode cX2_clip 150 = .ok (.aload_n 0, 1) := by decide +kernel
theorem dX2_clip_151 : decode cX2_clip 151 = .ok (.getfield 19, 3) := by decide +kernel
theorem dX2_clip_154 : decode cX2_clip 154 = .ok (.iload_n 1, 1) := by decide +kernel
theorem dX2_clip_155 : decode cX2_clip 155 = .ok (.iaload, 1) := by decide +kernel
theorem dX2_clip_156 : decode cX2_clip 156 = .ok (.iastore, 1) := by decide +kernel
theorem dX2_clip_157 : decode cX2_clip 157 = .ok (.aload_n 0, 1) := by decide +kernel
theorem dX2_clip_158 : decode cX2_clip 158 = .ok (.getfield 16, 3) := by decide +kernel
theorem dX2_clip_161 : decode cX2_clip 161 = .ok (.iload_n 1, 1) := by decide +kernel
theorem dX2_clip_162 : decode cX2_clip 162 = .ok (.aload_n 0, 1) := by decide +kernel
theorem dX2_clip_163 : decode cX2_clip 163 = .ok (.getfield 22, 3) := by decide +kernel
theorem dX2_clip_166 : decode cX2_clip 166 = .ok (.iload_n 1, 1) := by decide +kernel
theorem dX2_clip_167 : decode cX2_clip 167 = .ok (.iaload, 1) := by decide +kernel
theorem dX2_clip_168 : decode cX2_clip 168 = .ok (.iastore, 1) := by decide +kernel
theorem dX2_clip_169 : decode cX2_clip 169 = .ok (.iinc 1 1, 3) := by decide +kernel
theorem dX2_clip_172 : decode cX2_clip 172 = .ok (.goto (-35), 3) := by decide +kernel
theorem dX2_clip_175 : decode cX2_clip 175 = .ok (.aload_n 0, 1) := by decide +kernel
theorem dX2_clip_176 : decode cX2_clip 176 = .ok (.getfield 57, 3) := by decide +kernel
theorem dX2_clip_179 : decode cX2_clip 179 = .ok (.ireturn, 1) := by decide +kernel
abbrev cX2_pass : ByteArray := prog_3_method_12_code
def yX2_pass : MethodName := ⟨RX2, "pass", "(I)V"⟩
theorem dX2_pass_0 : decode cX2_pass 0 = .ok (.aload_n 0, 1) := by decide +kernel
theorem dX2_pass_1 : decode cX2_pass 1 = .ok (.iconst 0, 1) := by decide +kernel
theorem dX2_pass_2 : decode cX2_pass 2 = .ok (.putfield 64, 3) := by decide +kernel
theorem dX2_pass_5 : decode cX2_pass 5 = .ok (.iconst 0, 1) := by decide +kernel
theorem dX2_pass_6 : decode cX2_pass 6 = .ok (.istore_n 2, 1) := by decide +kernel
theorem dX2_pass_7 : decode cX2_pass 7 = .ok (.iload_n 2, 1) := by decide +kernel
theorem dX2_pass_8 : decode cX2_pass 8 = .ok (.aload_n 0, 1) := by decide +kernel
theorem dX2_pass_9 : decode cX2_pass 9 = .ok (.getfield 75, 3) := by decide +kernel
theorem dX2_pass_12 : decode cX2_pass 12 = .ok (.if_icmp .ge 137, 3) := by decide +kernel
theorem dX2_pass_15 : decode cX2_pass 15 = .ok (.iload_n 2, 1) := by decide +kernel
theorem dX2_pass_16 : decode cX2_pass 16 = .ok (.ifCond .ne 12, 3) := by decide +kernel
theorem dX2_pass_19 : decode cX2_pass 19 = .ok (.aload_n 0, 1) := by decide +kernel
theorem dX2_pass_20 : decode cX2_pass 20 = .ok (.getfield 75, 3) := by decide +kernel
theorem dX2_pass_23 : decode cX2_pass 23 = .ok (.iconst 1, 1) := by decide +kernel
theorem dX2_pass_24 : decode cX2_pass 24 = .ok (.isub, 1) := by decide +kernel
theorem dX2_pass_25 : decode cX2_pass 25 = .ok (.goto 6, 3) := by decide +kernel
theorem dX2_pass_28 : decode cX2_pass 28 = .ok (.iload_n 2, 1) := by decide +kernel
theorem dX2_pass_29 : decode cX2_pass 29 = .ok (.iconst 1, 1) := by decide +kernel
theorem dX2_pass_30 : decode cX2_pass 30 = .ok (.isub, 1) := by decide +kernel
theorem dX2_pass_31 : decode cX2_pass 31 = .ok (.istore_n 3, 1) := by decide +kernel
theorem dX2_pass_32 : decode cX2_pass 32 = .ok (.aload_n 0, 1) := by decide +kernel
theorem dX2_pass_33 : decode cX2_pass 33 = .ok (.iload_n 1, 1) := by decide +kernel
theorem dX2_pass_34 : decode cX2_pass 34 = .ok (.aload_n 0, 1) := by decide +kernel
theorem dX2_pass_35 : decode cX2_pass 35 = .ok (.getfield 19, 3) := by decide +kernel
theorem dX2_pass_38 : decode cX2_pass 38 = .ok (.iload_n 2, 1) := by decide +kernel
theorem dX2_pass_39 : decode cX2_pass 39 = .ok (.iaload, 1) := by decide +kernel
theorem dX2_pass_40 : decode cX2_pass 40 = .ok (.aload_n 0, 1) := by decide +kernel
theorem dX2_pass_41 : decode cX2_pass 41 = .ok (.getfield 22, 3) := by decide +kernel
theorem dX2_pass_44 : decode cX2_pass 44 = .ok (.iload_n 2, 1) := by decide +kernel
theorem dX2_pass_45 : decode cX2_pass 45 = .ok (.iaload, 1) := by decide +kernel
theorem dX2_pass_46 : decode cX2_pass 46 = .ok (.invokevirtual 78, 3) := by decide +kernel
theorem dX2_pass_49 : decode cX2_pass 49 = .ok (.ifCond .lt 7, 3) := by decide +kernel
theorem dX2_pass_52 : decode cX2_pass 52 = .ok (.iconst 1, 1) := by decide +kernel
theorem dX2_pass_53 : decode cX2_pass 53 = .ok (.goto 4, 3) := by decide +kernel
theorem dX2_pass_56 : decode cX2_pass 56 = .ok (.iconst 0, 1) := by decide +kernel
theorem dX2_pass_57 : decode cX2_pass 57 = .ok (.istore 4, 2) := by decide +kernel
theorem dX2_pass_59 : decode cX2_pass 59 = .ok (.aload_n 0, 1) := by decide +kernel
theorem dX2_pass_60 : decode cX2_pass 60 = .ok (.iload_n 1, 1) := by decide +kernel
theorem dX2_pass_61 : decode cX2_pass 61 = .ok (.aload_n 0, 1) := by decide +kernel
theorem dX2_pass_62 : decode cX2_pass 62 = .ok (.getfield 19, 3) := by decide +kernel
theorem dX2_pass_65 : decode cX2_pass 65 = .ok (.iload_n 3, 1) := by decide +kernel
theorem dX2_pass_66 : decode cX2_pass 66 = .ok (.iaload, 1) := by decide +kernel
theorem dX2_pass_67 : decode cX2_pass 67 = .ok (.aload_n 0, 1) := by decide +kernel
theorem dX2_pass_68 : decode cX2_pass 68 = .ok (.getfield 22, 3) := by decide +kernel
theorem dX2_pass_71 : decode cX2_pass 71 = .ok (.iload_n 3, 1) := by decide +kernel
theorem dX2_pass_72 : decode cX2_pass 72 = .ok (.iaload, 1) := by decide +kernel
theorem dX2_pass_73 : decode cX2_pass 73 = .ok (.invokevirtual 78, 3) := by decide +kernel
theorem dX2_pass_76 : decode cX2_pass 76 = .ok (.ifCond .lt 7, 3) := by decide +kernel
theorem dX2_pass_79 : decode cX2_pass 79 = .ok (.iconst 1, 1) := by decide +kernel
theorem dX2_pass_80 : decode cX2_pass 80 = .ok (.goto 4, 3) := by decide +kernel
theorem dX2_pass_83 : decode cX2_pass 83 = .ok (.iconst 0, 1) := by decide +kernel
theorem dX2_pass_84 : decode cX2_pass 84 = .ok (.istore 5, 2) := by decide +kernel
theorem dX2_pass_86 : decode cX2_pass 86 = .ok (.iload 4, 2) := by decide +kernel
theorem dX2_pass_88 : decode cX2_pass 88 = .ok (.iload 5, 2) := by decide +kernel
theorem dX2_pass_90 : decode cX2_pass 90 = .ok (.if_icmp .eq 32, 3) := by decide +kernel
theorem dX2_pass_93 : decode cX2_pass 93 = .ok (.aload_n 0, 1) := by decide +kernel
theorem dX2_pass_94 : decode cX2_pass 94 = .ok (.iload_n 1, 1) := by decide +kernel
theorem dX2_pass_95 : decode cX2_pass 95 = .ok (.aload_n 0, 1) := by decide +kernel
theorem dX2_pass_96 : decode cX2_pass 96 = .ok (.getfield 19, 3) := by decide +kernel
theorem dX2_pass_99 : decode cX2_pass 99 = .ok (.iload_n 3, 1) := by decide +kernel
theorem dX2_pass_100 : decode cX2_pass 100 = .ok (.iaload, 1) := by decide +kernel
theorem dX2_pass_101 : decode cX2_pass 101 = .ok (.aload_n 0, 1) := by decide +kernel
theorem dX2_pass_102 : decode cX2_pass 102 = .ok (.getfield 22, 3) := by decide +kernel
theorem dX2_pass_105 : decode cX2_pass 105 = .ok (.iload_n 3, 1) := by decide +kernel
theorem dX2_pass_106 : decode cX2_pass 106 = .ok (.iaload, 1) := by decide +kernel
theorem dX2_pass_107 : decode cX2_pass 107 = .ok (.aload_n 0, 1) := by decide +kernel
theorem dX2_pass_108 : decode cX2_pass 108 = .ok (.getfield 19, 3) := by decide +kernel
theorem dX2_pass_111 : decode cX2_pass 111 = .ok (.iload_n 2, 1) := by decide +kernel
theorem dX2_pass_112 : decode cX2_pass 112 = .ok (.iaload, 1) := by decide +kernel
theorem dX2_pass_113 : decode cX2_pass 113 = .ok (.aload_n 0, 1) := by decide +kernel
theorem dX2_pass_114 : decode cX2_pass 114 = .ok (.getfield 22, 3) := by decide +kernel
theorem dX2_pass_117 : decode cX2_pass 117 = .ok (.iload_n 2, 1) := by decide +kernel
theorem dX2_pass_118 : decode cX2_pass 118 = .ok (.iaload, 1) := by decide +kernel
theorem dX2_pass_119 : decode cX2_pass 119 = .ok (.invokevirtual 81, 3) := by decide +kernel
theorem dX2_pass_122 : decode cX2_pass 122 = .ok (.iload 4, 2) := by decide +kernel
theorem dX2_pass_124 : decode cX2_pass 124 = .ok (.ifCond .eq 19, 3) := by decide +kernel
theorem dX2_pass_127 : decode cX2_pass 127 = .ok (.aload_n 0, 1) := by decide +kernel
theorem dX2_pass_128 : decode cX2_pass 128 = .ok (.aload_n 0, 1) := by decide +kernel
theorem dX2_pass_129 : decode cX2_pass 129 = .ok (.getfield 19, 3) := by decide +kernel
theorem dX2_pass_132 : decode cX2_pass 132 = .ok (.iload_n 2, 1) := by decide +kernel
theorem dX2_pass_133 : decode cX2_pass 133 = .ok (.iaload, 1) := by decide +kernel
theorem dX2_pass_134 : decode cX2_pass 134 = .ok (.aload_n 0, 1) := by decide +kernel
theorem dX2_pass_135 : decode cX2_pass 135 = .ok (.getfield 22, 3) := by decide +kernel
theorem dX2_pass_138 : decode cX2_pass 138 = .ok (.iload_n 2, 1) := by decide +kernel
theorem dX2_pass_139 : decode cX2_pass 139 = .ok (.iaload, 1) := by decide +kernel
theorem dX2_pass_140 : decode cX2_pass 140 = .ok (.invokevirtual 71, 3) := by decide +kernel
theorem dX2_pass_143 : decode cX2_pass 143 = .ok (.iinc 2 1, 3) := by decide +kernel
theorem dX2_pass_146 : decode cX2_pass 146 = .ok (.goto (-139), 3) := by decide +kernel
theorem dX2_pass_149 : decode cX2_pass 149 = .ok (.return_, 1) := by decide +kernel
end
section
set_option maxRecDepth 100000
abbrev cX2_depth : ByteArray := prog_3_method_8_code
def yX2_depth : MethodName := ⟨RX2, "depth", "(III)I"⟩
theorem dX2_depth_0 : decode cX2_depth 0 = .ok (.iload_n 1, 1) := by decide +kernel
theorem dX2_depth_1 : decode cX2_depth 1 = .ok (.ifCond .ne 12, 3) := by decide +kernel
theorem dX2_depth_4 : decode cX2_depth 4 = .ok (.iload_n 2, 1) := by decide +kernel
theorem dX2_depth_5 : decode cX2_depth 5 = .ok (.aload_n 0, 1) := by decide +kernel
theorem dX2_depth_6 : decode cX2_depth 6 = .ok (.getfield 31, 3) := by decide +kernel
theorem dX2_depth_9 : decode cX2_depth 9 = .ok (.isub, 1) := by decide +kernel
theorem dX2_depth_10 : decode cX2_depth 10 = .ok (.goto 37, 3) := by decide +kernel
theorem dX2_depth_13 : decode cX2_depth 13 = .ok (.iload_n 1, 1) := by decide +kernel
theorem dX2_depth_14 : decode cX2_depth 14 = .ok (.iconst 1, 1) := by decide +kernel
theorem dX2_depth_15 : decode cX2_depth 15 = .ok (.if_icmp .ne 12, 3) := by decide +kernel
theorem dX2_depth_18 : decode cX2_depth 18 = .ok (.aload_n 0, 1) := by decide +kernel
theorem dX2_depth_19 : decode cX2_depth 19 = .ok (.getfield 35, 3) := by decide +kernel
theorem dX2_depth_22 : decode cX2_depth 22 = .ok (.iload_n 2, 1) := by decide +kernel
theorem dX2_depth_23 : decode cX2_depth 23 = .ok (.isub, 1) := by decide +kernel
theorem dX2_depth_24 : decode cX2_depth 24 = .ok (.goto 23, 3) := by decide +kernel
theorem dX2_depth_27 : decode cX2_depth 27 = .ok (.iload_n 1, 1) := by decide +kernel
theorem dX2_depth_28 : decode cX2_depth 28 = .ok (.iconst 2, 1) := by decide +kernel
theorem dX2_depth_29 : decode cX2_depth 29 = .ok (.if_icmp .ne 12, 3) := by decide +kernel
theorem dX2_depth_32 : decode cX2_depth 32 = .ok (.iload_n 3, 1) := by decide +kernel
theorem dX2_depth_33 : decode cX2_depth 33 = .ok (.aload_n 0, 1) := by decide +kernel
theorem dX2_depth_34 : decode cX2_depth 34 = .ok (.getfield 38, 3) := by decide +kernel
theorem dX2_depth_37 : decode cX2_depth 37 = .ok (.isub, 1) := by decide +kernel
theorem dX2_depth_38 : decode cX2_depth 38 = .ok (.goto 9, 3) := by decide +kernel
theorem dX2_depth_41 : decode cX2_depth 41 = .ok (.aload_n 0, 1) := by decide +kernel
theorem dX2_depth_42 : decode cX2_depth 42 = .ok (.getfield 41, 3) := by decide +kernel
theorem dX2_depth_45 : decode cX2_depth 45 = .ok (.iload_n 3, 1) := by decide +kernel
theorem dX2_depth_46 : decode cX2_depth 46 = .ok (.isub, 1) := by decide +kernel
theorem dX2_depth_47 : decode cX2_depth 47 = .ok (.ireturn, 1) := by decide +kernel
abbrev cX2_cut : ByteArray := prog_3_method_11_code
def yX2_cut : MethodName := ⟨RX2, "cut", "(IIIII)V"⟩
theorem dX2_cut_0 : decode cX2_cut 0 = .ok (.iload_n 1, 1) := by decide +kernel
theorem dX2_cut_1 : decode cX2_cut 1 = .ok (.iconst 2, 1) := by decide +kernel
theorem dX2_cut_2 : decode cX2_cut 2 = .ok (.if_icmp .ge 47, 3) := by decide +kernel
theorem dX2_cut_5 : decode cX2_cut 5 = .ok (.iload_n 1, 1) := by decide +kernel
theorem dX2_cut_6 : decode cX2_cut 6 = .ok (.ifCond .ne 10, 3) := by decide +kernel
theorem dX2_cut_9 : decode cX2_cut 9 = .ok (.aload_n 0, 1) := by decide +kernel
theorem dX2_cut_10 : decode cX2_cut 10 = .ok (.getfield 31, 3) := by decide +kernel
theorem dX2_cut_13 : decode cX2_cut 13 = .ok (.goto 7, 3) := by decide +kernel
theorem dX2_cut_16 : decode cX2_cut 16 = .ok (.aload_n 0, 1) := by decide +kernel
theorem dX2_cut_17 : decode cX2_cut 17 = .ok (.getfield 35, 3) := by decide +kernel
theorem dX2_cut_20 : decode cX2_cut 20 = .ok (.istore 6, 2) := by decide +kernel
theorem dX2_cut_22 : decode cX2_cut 22 = .ok (.aload_n 0, 1) := by decide +kernel
theorem dX2_cut_23 : decode cX2_cut 23 = .ok (.iload 6, 2) := by decide +kernel
theorem dX2_cut_25 : decode cX2_cut 25 = .ok (.iload_n 3, 1) := by decide +kernel
theorem dX2_cut_26 : decode cX2_cut 26 = .ok (.iload 5, 2) := by decide +kernel
theorem dX2_cut_28 : decode cX2_cut 28 = .ok (.iload_n 3, 1) := by decide +kernel
theorem dX2_cut_29 : decode cX2_cut 29 = .ok (.isub, 1) := by decide +kernel
theorem dX2_cut_30 : decode cX2_cut 30 = .ok (.iload 6, 2) := by decide +kernel
theorem dX2_cut_32 : decode cX2_cut 32 = .ok (.iload_n 2, 1) := by decide +kernel
theorem dX2_cut_33 : decode cX2_cut 33 = .ok (.isub, 1) := by decide +kernel
theorem dX2_cut_34 : decode cX2_cut 34 = .ok (.imul, 1) := by decide +kernel
theorem dX2_cut_35 : decode cX2_cut 35 = .ok (.iload 4, 2) := by decide +kernel
theorem dX2_cut_37 : decode cX2_cut 37 = .ok (.iload_n 2, 1) := by decide +kernel
theorem dX2_cut_38 : decode cX2_cut 38 = .ok (.isub, 1) := by decide +kernel
theorem dX2_cut_39 : decode cX2_cut 39 = .ok (.invokestatic 67, 3) := by decide +kernel
theorem dX2_cut_42 : decode cX2_cut 42 = .ok (.iadd, 1) := by decide +kernel
theorem dX2_cut_43 : decode cX2_cut 43 = .ok (.invokevirtual 71, 3) := by decide +kernel
theorem dX2_cut_46 : decode cX2_cut 46 = .ok (.goto 45, 3) := by decide +kernel
theorem dX2_cut_49 : decode cX2_cut 49 = .ok (.iload_n 1, 1) := by decide +kernel
theorem dX2_cut_50 : decode cX2_cut 50 = .ok (.iconst 2, 1) := by decide +kernel
theorem dX2_cut_51 : decode cX2_cut 51 = .ok (.if_icmp .ne 10, 3) := by decide +kernel
theorem dX2_cut_54 : decode cX2_cut 54 = .ok (.aload_n 0, 1) := by decide +kernel
theorem dX2_cut_55 : decode cX2_cut 55 = .ok (.getfield 38, 3) := by decide +kernel
theorem dX2_cut_58 : decode cX2_cut 58 = .ok (.goto 7, 3) := by decide +kernel
theorem dX2_cut_61 : decode cX2_cut 61 = .ok (.aload_n 0, 1) := by decide +kernel
theorem dX2_cut_62 : decode cX2_cut 62 = .ok (.getfield 41, 3) := by decide +kernel
theorem dX2_cut_65 : decode cX2_cut 65 = .ok (.istore 6, 2) := by decide +kernel
theorem dX2_cut_67 : decode cX2_cut 67 = .ok (.aload_n 0, 1) := by decide +kernel
theorem dX2_cut_68 : decode cX2_cut 68 = .ok (.iload_n 2, 1) := by decide +kernel
theorem dX2_cut_69 : decode cX2_cut 69 = .ok (.iload 4, 2) := by decide +kernel
theorem dX2_cut_71 : decode cX2_cut 71 = .ok (.iload_n 2, 1) := by decide +kernel
theorem dX2_cut_72 : decode cX2_cut 72 = .ok (.isub, 1) := by decide +kernel
theorem dX2_cut_73 : decode cX2_cut 73 = .ok (.iload 6, 2) := by decide +kernel
theorem dX2_cut_75 : decode cX2_cut 75 = .ok (.iload_n 3, 1) := by decide +kernel
theorem dX2_cut_76 : decode cX2_cut 76 = .ok (.isub, 1) := by decide +kernel
theorem dX2_cut_77 : decode cX2_cut 77 = .ok (.imul, 1) := by decide +kernel
theorem dX2_cut_78 : decode cX2_cut 78 = .ok (.iload 5, 2) := by decide +kernel
theorem dX2_cut_80 : decode cX2_cut 80 = .ok (.iload_n 3, 1) := by decide +kernel
theorem dX2_cut_81 : decode cX2_cut 81 = .ok (.isub, 1) := by decide +kernel
theorem dX2_cut_82 : decode cX2_cut 82 = .ok (.invokestatic 67, 3) := by decide +kernel
theorem dX2_cut_85 : decode cX2_cut 85 = .ok (.iadd, 1) := by decide +kernel
theorem dX2_cut_86 : decode cX2_cut 86 = .ok (.iload 6, 2) := by decide +kernel
theorem dX2_cut_88 : decode cX2_cut 88 = .ok (.invokevirtual 71, 3) := by decide +kernel
theorem dX2_cut_91 : decode cX2_cut 91 = .ok (.return_, 1) := by decide +kernel
abbrev cX2_quotient : ByteArray := prog_3_method_9_code
def yX2_quotient : MethodName := ⟨RX2, "quotient", "(II)I"⟩
theorem dX2_quotient_0 : decode cX2_quotient 0 = .ok (.iload_n 0, 1) := by decide +kernel
theorem dX2_quotient_1 : decode cX2_quotient 1 = .ok (.iload_n 1, 1) := by decide +kernel
theorem dX2_quotient_2 : decode cX2_quotient 2 = .ok (.idiv, 1) := by decide +kernel
theorem dX2_quotient_3 : decode cX2_quotient 3 = .ok (.istore_n 2, 1) := by decide +kernel
theorem dX2_quotient_4 : decode cX2_quotient 4 = .ok (.iload_n 2, 1) := by decide +kernel
theorem dX2_quotient_5 : decode cX2_quotient 5 = .ok (.iload_n 1, 1) := by decide +kernel
theorem dX2_quotient_6 : decode cX2_quotient 6 = .ok (.imul, 1) := by decide +kernel
theorem dX2_quotient_7 : decode cX2_quotient 7 = .ok (.iload_n 0, 1) := by decide +kernel
theorem dX2_quotient_8 : decode cX2_quotient 8 = .ok (.if_icmp .eq 30, 3) := by decide +kernel
theorem dX2_quotient_11 : decode cX2_quotient 11 = .ok (.iload_n 0, 1) := by decide +kernel
theorem dX2_quotient_12 : decode cX2_quotient 12 = .ok (.ifCond .ge 7, 3) := by decide +kernel
theorem dX2_quotient_15 : decode cX2_quotient 15 = .ok (.iconst 1, 1) := by decide +kernel
theorem dX2_quotient_16 : decode cX2_quotient 16 = .ok (.goto 4, 3) := by decide +kernel
theorem dX2_quotient_19 : decode cX2_quotient 19 = .ok (.iconst 0, 1) := by decide +kernel
theorem dX2_quotient_20 : decode cX2_quotient 20 = .ok (.iload_n 1, 1) := by decide +kernel
theorem dX2_quotient_21 : decode cX2_quotient 21 = .ok (.ifCond .ge 7, 3) := by decide +kernel
theorem dX2_quotient_24 : decode cX2_quotient 24 = .ok (.iconst 1, 1) := by decide +kernel
theorem dX2_quotient_25 : decode cX2_quotient 25 = .ok (.goto 4, 3) := by decide +kernel
theorem dX2_quotient_28 : decode cX2_quotient 28 = .ok (.iconst 0, 1) := by decide +kernel
theorem dX2_quotient_29 : decode cX2_quotient 29 = .ok (.if_icmp .eq 9, 3) := by decide +kernel
theorem dX2_quotient_32 : decode cX2_quotient 32 = .ok (.iload_n 2, 1) := by decide +kernel
theorem dX2_quotient_33 : decode cX2_quotient 33 = .ok (.iconst 1, 1) := by decide +kernel
theorem dX2_quotient_34 : decode cX2_quotient 34 = .ok (.isub, 1) := by decide +kernel
theorem dX2_quotient_35 : decode cX2_quotient 35 = .ok (.goto 4, 3) := by decide +kernel
theorem dX2_quotient_38 : decode cX2_quotient 38 = .ok (.iload_n 2, 1) := by decide +kernel
theorem dX2_quotient_39 : decode cX2_quotient 39 = .ok (.ireturn, 1) := by decide +kernel
abbrev cX2_add : ByteArray := prog_3_method_10_code
def yX2_add : MethodName := ⟨RX2, "add", "(II)V"⟩
theorem dX2_add_0 : decode cX2_add 0 = .ok (.aload_n 0, 1) := by decide +kernel
theorem dX2_add_1 : decode cX2_add 1 = .ok (.getfield 64, 3) := by decide +kernel
theorem dX2_add_4 : decode cX2_add 4 = .ok (.aload_n 0, 1) := by decide +kernel
theorem dX2_add_5 : decode cX2_add 5 = .ok (.getfield 54, 3) := by decide +kernel
theorem dX2_add_8 : decode cX2_add 8 = .ok (.if_icmp .ge 23, 3) := by decide +kernel
theorem dX2_add_11 : decode cX2_add 11 = .ok (.aload_n 0, 1) := by decide +kernel
theorem dX2_add_12 : decode cX2_add 12 = .ok (.getfield 25, 3) := by decide +kernel
theorem dX2_add_15 : decode cX2_add 15 = .ok (.aload_n 0, 1) := by decide +kernel
theorem dX2_add_16 : decode cX2_add 16 = .ok (.getfield 64, 3) := by decide +kernel
theorem dX2_add_19 : decode cX2_add 19 = .ok (.iload_n 1, 1) := by decide +kernel
theorem dX2_add_20 : decode cX2_add 20 = .ok (.iastore, 1) := by decide +kernel
theorem dX2_add_21 : decode cX2_add 21 = .ok (.aload_n 0, 1) := by decide +kernel
theorem dX2_add_22 : decode cX2_add 22 = .ok (.getfield 28, 3) := by decide +kernel
theorem dX2_add_25 : decode cX2_add 25 = .ok (.aload_n 0, 1) := by decide +kernel
theorem dX2_add_26 : decode cX2_add 26 = .ok (.getfield 64, 3) := by decide +kernel
theorem dX2_add_29 : decode cX2_add 29 = .ok (.iload_n 2, 1) := by decide +kernel
theorem dX2_add_30 : decode cX2_add 30 = .ok (.iastore, 1) := by decide +kernel
theorem dX2_add_31 : decode cX2_add 31 = .ok (.aload_n 0, 1) := by decide +kernel
theorem dX2_add_32 : decode cX2_add 32 = .ok (.dup, 1) := by decide +kernel
theorem dX2_add_33 : decode cX2_add 33 = .ok (.getfield 64, 3) := by decide +kernel
theorem dX2_add_36 : decode cX2_add 36 = .ok (.iconst 1, 1) := by decide +kernel
theorem dX2_add_37 : decode cX2_add 37 = .ok (.iadd, 1) := by decide +kernel
theorem dX2_add_38 : decode cX2_add 38 = .ok (.putfield 64, 3) := by decide +kernel
theorem dX2_add_41 : decode cX2_add 41 = .ok (.return_, 1) := by decide +kernel
abbrev cX2_vx : ByteArray := prog_3_method_15_code
def yX2_vx : MethodName := ⟨RX2, "vx", "(I)I"⟩
theorem dX2_vx_0 : decode cX2_vx 0 = .ok (.aload_n 0, 1) := by decide +kernel
theorem dX2_vx_1 : decode cX2_vx 1 = .ok (.iload_n 1, 1) := by decide +kernel
theorem dX2_vx_2 : decode cX2_vx 2 = .ok (.invokevirtual 89, 3) := by decide +kernel
theorem dX2_vx_5 : decode cX2_vx 5 = .ok (.ifCond .eq 12, 3) := by decide +kernel
theorem dX2_vx_8 : decode cX2_vx 8 = .ok (.aload_n 0, 1) := by decide +kernel
theorem dX2_vx_9 : decode cX2_vx 9 = .ok (.getfield 13, 3) := by decide +kernel
theorem dX2_vx_12 : decode cX2_vx 12 = .ok (.iload_n 1, 1) := by decide +kernel
theorem dX2_vx_13 : decode cX2_vx 13 = .ok (.iaload, 1) := by decide +kernel
theorem dX2_vx_14 : decode cX2_vx 14 = .ok (.goto 6, 3) := by decide +kernel
theorem dX2_vx_17 : decode cX2_vx 17 = .ok (.sipush (-32768), 3) := by decide +kernel
theorem dX2_vx_20 : decode cX2_vx 20 = .ok (.ireturn, 1) := by decide +kernel
abbrev cX2_isVertex : ByteArray := prog_3_method_14_code
def yX2_isVertex : MethodName := ⟨RX2, "isVertex", "(I)Z"⟩
theorem dX2_isVertex_0 : decode cX2_isVertex 0 = .ok (.iload_n 1, 1) := by decide +kernel
theorem dX2_isVertex_1 : decode cX2_isVertex 1 = .ok (.ifCond .lt 15, 3) := by decide +kernel
theorem dX2_isVertex_4 : decode cX2_isVertex 4 = .ok (.iload_n 1, 1) := by decide +kernel
theorem dX2_isVertex_5 : decode cX2_isVertex 5 = .ok (.aload_n 0, 1) := by decide +kernel
theorem dX2_isVertex_6 : decode cX2_isVertex 6 = .ok (.getfield 57, 3) := by decide +kernel
theorem dX2_isVertex_9 : decode cX2_isVertex 9 = .ok (.if_icmp .ge 7, 3) := by decide +kernel
theorem dX2_isVertex_12 : decode cX2_isVertex 12 = .ok (.iconst 1, 1) := by decide +kernel
theorem dX2_isVertex_13 : decode cX2_isVertex 13 = .ok (.goto 4, 3) := by decide +kernel
theorem dX2_isVertex_16 : decode cX2_isVertex 16 = .ok (.iconst 0, 1) := by decide +kernel
theorem dX2_isVertex_17 : decode cX2_isVertex 17 = .ok (.ireturn, 1) := by decide +kernel
abbrev cX2_vy : ByteArray := prog_3_method_16_code
def yX2_vy : MethodName := ⟨RX2, "vy", "(I)I"⟩
theorem dX2_vy_0 : decode cX2_vy 0 = .ok (.aload_n 0, 1) := by decide +kernel
theorem dX2_vy_1 : decode cX2_vy 1 = .ok (.iload_n 1, 1) := by decide +kernel
theorem dX2_vy_2 : decode cX2_vy 2 = .ok (.invokevirtual 89, 3) := by decide +kernel
theorem dX2_vy_5 : decode cX2_vy 5 = .ok (.ifCond .eq 12, 3) := by decide +kernel
theorem dX2_vy_8 : decode cX2_vy 8 = .ok (.aload_n 0, 1) := by decide +kernel
theorem dX2_vy_9 : decode cX2_vy 9 = .ok (.getfield 16, 3) := by decide +kernel
theorem dX2_vy_12 : decode cX2_vy 12 = .ok (.iload_n 1, 1) := by decide +kernel
theorem dX2_vy_13 : decode cX2_vy 13 = .ok (.iaload, 1) := by decide +kernel
theorem dX2_vy_14 : decode cX2_vy 14 = .ok (.goto 6, 3) := by decide +kernel
theorem dX2_vy_17 : decode cX2_vy 17 = .ok (.sipush (-32768), 3) := by decide +kernel
theorem dX2_vy_20 : decode cX2_vy 20 = .ok (.ireturn, 1) := by decide +kernel
abbrev cX2_inside : ByteArray := prog_3_method_18_code
def yX2_inside : MethodName := ⟨RX2, "inside", "(II)Z"⟩
theorem dX2_inside_0 : decode cX2_inside 0 = .ok (.iconst 0, 1) := by decide +kernel
theorem dX2_inside_1 : decode cX2_inside 1 = .ok (.istore_n 3, 1) := by decide +kernel
theorem dX2_inside_2 : decode cX2_inside 2 = .ok (.iconst 0, 1) := by decide +kernel
theorem dX2_inside_3 : decode cX2_inside 3 = .ok (.istore 4, 2) := by decide +kernel
theorem dX2_inside_5 : decode cX2_inside 5 = .ok (.iload 4, 2) := by decide +kernel
theorem dX2_inside_7 : decode cX2_inside 7 = .ok (.aload_n 0, 1) := by decide +kernel
theorem dX2_inside_8 : decode cX2_inside 8 = .ok (.getfield 57, 3) := by decide +kernel
theorem dX2_inside_11 : decode cX2_inside 11 = .ok (.if_icmp .ge 82, 3) := by decide +kernel
theorem dX2_inside_14 : decode cX2_inside 14 = .ok (.iload 4, 2) := by decide +kernel
theorem dX2_inside_16 : decode cX2_inside 16 = .ok (.iconst 1, 1) := by decide +kernel
theorem dX2_inside_17 : decode cX2_inside 17 = .ok (.iadd, 1) := by decide +kernel
theorem dX2_inside_18 : decode cX2_inside 18 = .ok (.aload_n 0, 1) := by decide +kernel
theorem dX2_inside_19 : decode cX2_inside 19 = .ok (.getfield 57, 3) := by decide +kernel
theorem dX2_inside_22 : decode cX2_inside 22 = .ok (.if_icmp .ne 7, 3) := by decide +kernel
theorem dX2_inside_25 : decode cX2_inside 25 = .ok (.iconst 0, 1) := by decide +kernel
theorem dX2_inside_26 : decode cX2_inside 26 = .ok (.goto 7, 3) := by decide +kernel
theorem dX2_inside_29 : decode cX2_inside 29 = .ok (.iload 4, 2) := by decide +kernel
theorem dX2_inside_31 : decode cX2_inside 31 = .ok (.iconst 1, 1) := by decide +kernel
theorem dX2_inside_32 : decode cX2_inside 32 = .ok (.iadd, 1) := by decide +kernel
theorem dX2_inside_33 : decode cX2_inside 33 = .ok (.istore 5, 2) := by decide +kernel
theorem dX2_inside_35 : decode cX2_inside 35 = .ok (.aload_n 0, 1) := by decide +kernel
theorem dX2_inside_36 : decode cX2_inside 36 = .ok (.getfield 13, 3) := by decide +kernel
theorem dX2_inside_39 : decode cX2_inside 39 = .ok (.iload 4, 2) := by decide +kernel
theorem dX2_inside_41 : decode cX2_inside 41 = .ok (.iaload, 1) := by decide +kernel
theorem dX2_inside_42 : decode cX2_inside 42 = .ok (.i2l, 1) := by decide +kernel
theorem dX2_inside_43 : decode cX2_inside 43 = .ok (.aload_n 0, 1) := by decide +kernel
theorem dX2_inside_44 : decode cX2_inside 44 = .ok (.getfield 16, 3) := by decide +kernel
theorem dX2_inside_47 : decode cX2_inside 47 = .ok (.iload 4, 2) := by decide +kernel
theorem dX2_inside_49 : decode cX2_inside 49 = .ok (.iaload, 1) := by decide +kernel
theorem dX2_inside_50 : decode cX2_inside 50 = .ok (.i2l, 1) := by decide +kernel
theorem dX2_inside_51 : decode cX2_inside 51 = .ok (.aload_n 0, 1) := by decide +kernel
theorem dX2_inside_52 : decode cX2_inside 52 = .ok (.getfield 13, 3) := by decide +kernel
theorem dX2_inside_55 : decode cX2_inside 55 = .ok (.iload 5, 2) := by decide +kernel
theorem dX2_inside_57 : decode cX2_inside 57 = .ok (.iaload, 1) := by decide +kernel
theorem dX2_inside_58 : decode cX2_inside 58 = .ok (.i2l, 1) := by decide +kernel
theorem dX2_inside_59 : decode cX2_inside 59 = .ok (.aload_n 0, 1) := by decide +kernel
theorem dX2_inside_60 : decode cX2_inside 60 = .ok (.getfield 16, 3) := by decide +kernel
theorem dX2_inside_63 : decode cX2_inside 63 = .ok (.iload 5, 2) := by decide +kernel
theorem dX2_inside_65 : decode cX2_inside 65 = .ok (.iaload, 1) := by decide +kernel
theorem dX2_inside_66 : decode cX2_inside 66 = .ok (.i2l, 1) := by decide +kernel
theorem dX2_inside_67 : decode cX2_inside 67 = .ok (.iload_n 1, 1) := by decide +kernel
theorem dX2_inside_68 : decode cX2_inside 68 = .ok (.i2l, 1) := by decide +kernel
theorem dX2_inside_69 : decode cX2_inside 69 = .ok (.iload_n 2, 1) := by decide +kernel
theorem dX2_inside_70 : decode cX2_inside 70 = .ok (.i2l, 1) := by decide +kernel
theorem dX2_inside_71 : decode cX2_inside 71 = .ok (.invokestatic 92, 3) := by decide +kernel
theorem dX2_inside_74 : decode cX2_inside 74 = .ok (.ifCond .eq 13, 3) := by decide +kernel
theorem dX2_inside_77 : decode cX2_inside 77 = .ok (.iload_n 3, 1) := by decide +kernel
theorem dX2_inside_78 : decode cX2_inside 78 = .ok (.ifCond .ne 7, 3) := by decide +kernel
theorem dX2_inside_81 : decode cX2_inside 81 = .ok (.iconst 1, 1) := by decide +kernel
theorem dX2_inside_82 : decode cX2_inside 82 = .ok (.goto 4, 3) := by decide +kernel
theorem dX2_inside_85 : decode cX2_inside 85 = .ok (.iconst 0, 1) := by decide +kernel
theorem dX2_inside_86 : decode cX2_inside 86 = .ok (.istore_n 3, 1) := by decide +kernel
theorem dX2_inside_87 : decode cX2_inside 87 = .ok (.iinc 4 1, 3) := by decide +kernel
theorem dX2_inside_90 : decode cX2_inside 90 = .ok (.goto (-85), 3) := by decide +kernel
theorem dX2_inside_93 : decode cX2_inside 93 = .ok (.iload_n 3, 1) := by decide +kernel
theorem dX2_inside_94 : decode cX2_inside 94 = .ok (.ireturn, 1) := by decide +kernel
abbrev cX2_crosses : ByteArray := prog_3_method_17_code
def yX2_crosses : MethodName := ⟨RX2, "crosses", "(JJJJJJ)Z"⟩
theorem dX2_crosses_0 : decode cX2_crosses 0 = .ok (.lload_n 2, 1) := by decide +kernel
theorem dX2_crosses_1 : decode cX2_crosses 1 = .ok (.lload 10, 2) := by decide +kernel
theorem dX2_crosses_3 : decode cX2_crosses 3 = .ok (.lcmp, 1) := by decide +kernel
theorem dX2_crosses_4 : decode cX2_crosses 4 = .ok (.ifCond .gt 7, 3) := by decide +kernel
theorem dX2_crosses_7 : decode cX2_crosses 7 = .ok (.iconst 1, 1) := by decide +kernel
theorem dX2_crosses_8 : decode cX2_crosses 8 = .ok (.goto 4, 3) := by decide +kernel
theorem dX2_crosses_11 : decode cX2_crosses 11 = .ok (.iconst 0, 1) := by decide +kernel
theorem dX2_crosses_12 : decode cX2_crosses 12 = .ok (.lload 6, 2) := by decide +kernel
theorem dX2_crosses_14 : decode cX2_crosses 14 = .ok (.lload 10, 2) := by decide +kernel
theorem dX2_crosses_16 : decode cX2_crosses 16 = .ok (.lcmp, 1) := by decide +kernel
theorem dX2_crosses_17 : decode cX2_crosses 17 = .ok (.ifCond .gt 7, 3) := by decide +kernel
theorem dX2_crosses_20 : decode cX2_crosses 20 = .ok (.iconst 1, 1) := by decide +kernel
theorem dX2_crosses_21 : decode cX2_crosses 21 = .ok (.goto 4, 3) := by decide +kernel
theorem dX2_crosses_24 : decode cX2_crosses 24 = .ok (.iconst 0, 1) := by decide +kernel
theorem dX2_crosses_25 : decode cX2_crosses 25 = .ok (.if_icmp .ne 5, 3) := by decide +kernel
theorem dX2_crosses_28 : decode cX2_crosses 28 = .ok (.iconst 0, 1) := by decide +kernel
theorem dX2_crosses_29 : decode cX2_crosses 29 = .ok (.ireturn, 1) := by decide +kernel
theorem dX2_crosses_30 : decode cX2_crosses 30 = .ok (.lload_n 2, 1) := by decide +kernel
theorem dX2_crosses_31 : decode cX2_crosses 31 = .ok (.lload 10, 2) := by decide +kernel
theorem dX2_crosses_33 : decode cX2_crosses 33 = .ok (.lcmp, 1) := by decide +kernel
theorem dX2_crosses_34 : decode cX2_crosses 34 = .ok (.ifCond .gt 7, 3) := by decide +kernel
theorem dX2_crosses_37 : decode cX2_crosses 37 = .ok (.iconst 1, 1) := by decide +kernel
theorem dX2_crosses_38 : decode cX2_crosses 38 = .ok (.goto 4, 3) := by decide +kernel
theorem dX2_crosses_41 : decode cX2_crosses 41 = .ok (.iconst 0, 1) := by decide +kernel
theorem dX2_crosses_42 : decode cX2_crosses 42 = .ok (.istore 12, 2) := by decide +kernel
theorem dX2_crosses_44 : decode cX2_crosses 44 = .ok (.iload 12, 2) := by decide +kernel
theorem dX2_crosses_46 : decode cX2_crosses 46 = .ok (.ifCond .eq 7, 3) := by decide +kernel
theorem dX2_crosses_49 : decode cX2_crosses 49 = .ok (.lload_n 0, 1) := by decide +kernel
theorem dX2_crosses_50 : decode cX2_crosses 50 = .ok (.goto 5, 3) := by decide +kernel
theorem dX2_crosses_53 : decode cX2_crosses 53 = .ok (.lload 4, 2) := by decide +kernel
theorem dX2_crosses_55 : decode cX2_crosses 55 = .ok (.lstore 13, 2) := by decide +kernel
theorem dX2_crosses_57 : decode cX2_crosses 57 = .ok (.iload 12, 2) := by decide +kernel
theorem dX2_crosses_59 : decode cX2_crosses 59 = .ok (.ifCond .eq 7, 3) := by decide +kernel
theorem dX2_crosses_62 : decode cX2_crosses 62 = .ok (.lload_n 2, 1) := by decide +kernel
theorem dX2_crosses_63 : decode cX2_crosses 63 = .ok (.goto 5, 3) := by decide +kernel
theorem dX2_crosses_66 : decode cX2_crosses 66 = .ok (.lload 6, 2) := by decide +kernel
theorem dX2_crosses_68 : decode cX2_crosses 68 = .ok (.lstore 15, 2) := by decide +kernel
theorem dX2_crosses_70 : decode cX2_crosses 70 = .ok (.iload 12, 2) := by decide +kernel
theorem dX2_crosses_72 : decode cX2_crosses 72 = .ok (.ifCond .eq 10, 3) := by decide +kernel
theorem dX2_crosses_75 : decode cX2_crosses 75 = .ok (.lload 4, 2) := by decide +kernel
theorem dX2_crosses_77 : decode cX2_crosses 77 = .ok (.lload_n 0, 1) := by decide +kernel
theorem dX2_crosses_78 : decode cX2_crosses 78 = .ok (.lsub, 1) := by decide +kernel
theorem dX2_crosses_79 : decode cX2_crosses 79 = .ok (.goto 7, 3) := by decide +kernel
theorem dX2_crosses_82 : decode cX2_crosses 82 = .ok (.lload_n 0, 1) := by decide +kernel
theorem dX2_crosses_83 : decode cX2_crosses 83 = .ok (.lload 4, 2) := by decide +kernel
theorem dX2_crosses_85 : decode cX2_crosses 85 = .ok (.lsub, 1) := by decide +kernel
theorem dX2_crosses_86 : decode cX2_crosses 86 = .ok (.lstore 17, 2) := by decide +kernel
theorem dX2_crosses_88 : decode cX2_crosses 88 = .ok (.iload 12, 2) := by decide +kernel
theorem dX2_crosses_90 : decode cX2_crosses 90 = .ok (.ifCond .eq 10, 3) := by decide +kernel
theorem dX2_crosses_93 : decode cX2_crosses 93 = .ok (.lload 6, 2) := by decide +kernel
theorem dX2_crosses_95 : decode cX2_crosses 95 = .ok (.lload_n 2, 1) := by decide +kernel
theorem dX2_crosses_96 : decode cX2_crosses 96 = .ok (.lsub, 1) := by decide +kernel
theorem dX2_crosses_97 : decode cX2_crosses 97 = .ok (.goto 7, 3) := by decide +kernel
theorem dX2_crosses_100 : decode cX2_crosses 100 = .ok (.lload_n 2, 1) := by decide +kernel
theorem dX2_crosses_101 : decode cX2_crosses 101 = .ok (.lload 6, 2) := by decide +kernel
theorem dX2_crosses_103 : decode cX2_crosses 103 = .ok (.lsub, 1) := by decide +kernel
theorem dX2_crosses_104 : decode cX2_crosses 104 = .ok (.lstore 19, 2) := by decide +kernel
theorem dX2_crosses_106 : decode cX2_crosses 106 = .ok (.lload 17, 2) := by decide +kernel
theorem dX2_crosses_108 : decode cX2_crosses 108 = .ok (.lload 10, 2) := by decide +kernel
theorem dX2_crosses_110 : decode cX2_crosses 110 = .ok (.lload 15, 2) := by decide +kernel
theorem dX2_crosses_112 : decode cX2_crosses 112 = .ok (.lsub, 1) := by decide +kernel
theorem dX2_crosses_113 : decode cX2_crosses 113 = .ok (.lmul, 1) := by decide +kernel
theorem dX2_crosses_114 : decode cX2_crosses 114 = .ok (.lload 8, 2) := by decide +kernel
theorem dX2_crosses_116 : decode cX2_crosses 116 = .ok (.lload 13, 2) := by decide +kernel
theorem dX2_crosses_118 : decode cX2_crosses 118 = .ok (.lsub, 1) := by decide +kernel
theorem dX2_crosses_119 : decode cX2_crosses 119 = .ok (.lload 19, 2) := by decide +kernel
theorem dX2_crosses_121 : decode cX2_crosses 121 = .ok (.lmul, 1) := by decide +kernel
theorem dX2_crosses_122 : decode cX2_crosses 122 = .ok (.lcmp, 1) := by decide +kernel
theorem dX2_crosses_123 : decode cX2_crosses 123 = .ok (.ifCond .le 7, 3) := by decide +kernel
theorem dX2_crosses_126 : decode cX2_crosses 126 = .ok (.iconst 1, 1) := by decide +kernel
theorem dX2_crosses_127 : decode cX2_crosses 127 = .ok (.goto 4, 3) := by decide +kernel
theorem dX2_crosses_130 : decode cX2_crosses 130 = .ok (.iconst 0, 1) := by decide +kernel
theorem dX2_crosses_131 : decode cX2_crosses 131 = .ok (.ireturn, 1) := by decide +kernel
abbrev cX2_fill : ByteArray := prog_3_method_19_code
def yX2_fill : MethodName := ⟨RX2, "fill", "(I)I"⟩
theorem dX2_fill_0 : decode cX2_fill 0 = .ok (.iconst 0, 1) := by decide +kernel
theorem dX2_fill_1 : decode cX2_fill 1 = .ok (.istore_n 2, 1) := by decide +kernel
theorem dX2_fill_2 : decode cX2_fill 2 = .ok (.iconst 0, 1) := by decide +kernel
theorem dX2_fill_3 : decode cX2_fill 3 = .ok (.istore_n 3, 1) := by decide +kernel
theorem dX2_fill_4 : decode cX2_fill 4 = .ok (.iload_n 3, 1) := by decide +kernel
theorem dX2_fill_5 : decode cX2_fill 5 = .ok (.aload_n 0, 1) := by decide +kernel
theorem dX2_fill_6 : decode cX2_fill 6 = .ok (.getfield 51, 3) := by decide +kernel
theorem dX2_fill_9 : decode cX2_fill 9 = .ok (.if_icmp .ge 53, 3) := by decide +kernel
theorem dX2_fill_12 : decode cX2_fill 12 = .ok (.iconst 0, 1) := by decide +kernel
theorem dX2_fill_13 : decode cX2_fill 13 = .ok (.istore 4, 2) := by decide +kernel
theorem dX2_fill_15 : decode cX2_fill 15 = .ok (.iload 4, 2) := by decide +kernel
theorem dX2_fill_17 : decode cX2_fill 17 = .ok (.aload_n 0, 1) := by decide +kernel
theorem dX2_fill_18 : decode cX2_fill 18 = .ok (.getfield 48, 3) := by decide +kernel
theorem dX2_fill_21 : decode cX2_fill 21 = .ok (.if_icmp .ge 35, 3) := by decide +kernel
theorem dX2_fill_24 : decode cX2_fill 24 = .ok (.aload_n 0, 1) := by decide +kernel
theorem dX2_fill_25 : decode cX2_fill 25 = .ok (.iload 4, 2) := by decide +kernel
theorem dX2_fill_27 : decode cX2_fill 27 = .ok (.iload_n 3, 1) := by decide +kernel
theorem dX2_fill_28 : decode cX2_fill 28 = .ok (.invokevirtual 96, 3) := by decide +kernel
theorem dX2_fill_31 : decode cX2_fill 31 = .ok (.ifCond .eq 19, 3) := by decide +kernel
theorem dX2_fill_34 : decode cX2_fill 34 = .ok (.aload_n 0, 1) := by decide +kernel
theorem dX2_fill_35 : decode cX2_fill 35 = .ok (.getfield 7, 3) := by decide +kernel
theorem dX2_fill_38 : decode cX2_fill 38 = .ok (.bipush 24, 2) := by decide +kernel
theorem dX2_fill_40 : decode cX2_fill 40 = .ok (.iload_n 3, 1) := by decide +kernel
theorem dX2_fill_41 : decode cX2_fill 41 = .ok (.imul, 1) := by decide +kernel
theorem dX2_fill_42 : decode cX2_fill 42 = .ok (.iload 4, 2) := by decide +kernel
theorem dX2_fill_44 : decode cX2_fill 44 = .ok (.iadd, 1) := by decide +kernel
theorem dX2_fill_45 : decode cX2_fill 45 = .ok (.iload_n 1, 1) := by decide +kernel
theorem dX2_fill_46 : decode cX2_fill 46 = .ok (.iastore, 1) := by decide +kernel
theorem dX2_fill_47 : decode cX2_fill 47 = .ok (.iinc 2 1, 3) := by decide +kernel
theorem dX2_fill_50 : decode cX2_fill 50 = .ok (.iinc 4 1, 3) := by decide +kernel
theorem dX2_fill_53 : decode cX2_fill 53 = .ok (.goto (-38), 3) := by decide +kernel
theorem dX2_fill_56 : decode cX2_fill 56 = .ok (.iinc 3 1, 3) := by decide +kernel
theorem dX2_fill_59 : decode cX2_fill 59 = .ok (.goto (-55), 3) := by decide +kernel
theorem dX2_fill_62 : decode cX2_fill 62 = .ok (.iload_n 2, 1) := by decide +kernel
theorem dX2_fill_63 : decode cX2_fill 63 = .ok (.ireturn, 1) := by decide +kernel
abbrev cX2_pixel : ByteArray := prog_3_method_20_code
def yX2_pixel : MethodName := ⟨RX2, "pixel", "(II)I"⟩
theorem dX2_pixel_0 : decode cX2_pixel 0 = .ok (.iload_n 1, 1) := by decide +kernel
theorem dX2_pixel_1 : decode cX2_pixel 1 = .ok (.ifCond .lt 37, 3) := by decide +kernel
theorem dX2_pixel_4 : decode cX2_pixel 4 = .ok (.iload_n 1, 1) := by decide +kernel
theorem dX2_pixel_5 : decode cX2_pixel 5 = .ok (.aload_n 0, 1) := by decide +kernel
theorem dX2_pixel_6 : decode cX2_pixel 6 = .ok (.getfield 48, 3) := by decide +kernel
theorem dX2_pixel_9 : decode cX2_pixel 9 = .ok (.if_icmp .ge 29, 3) := by decide +kernel
theorem dX2_pixel_12 : decode cX2_pixel 12 = .ok (.iload_n 2, 1) := by decide +kernel
theorem dX2_pixel_13 : decode cX2_pixel 13 = .ok (.ifCond .lt 25, 3) := by decide +kernel
theorem dX2_pixel_16 : decode cX2_pixel 16 = .ok (.iload_n 2, 1) := by decide +kernel
theorem dX2_pixel_17 : decode cX2_pixel 17 = .ok (.aload_n 0, 1) := by decide +kernel
theorem dX2_pixel_18 : decode cX2_pixel 18 = .ok (.getfield 51, 3) := by decide +kernel
theorem dX2_pixel_21 : decode cX2_pixel 21 = .ok (.if_icmp .ge 17, 3) := by decide +kernel
theorem dX2_pixel_24 : decode cX2_pixel 24 = .ok (.aload_n 0, 1) := by decide +kernel
theorem dX2_pixel_25 : decode cX2_pixel 25 = .ok (.getfield 7, 3) := by decide +kernel
theorem dX2_pixel_28 : decode cX2_pixel 28 = .ok (.bipush 24, 2) := by decide +kernel
theorem dX2_pixel_30 : decode cX2_pixel 30 = .ok (.iload_n 2, 1) := by decide +kernel
theorem dX2_pixel_31 : decode cX2_pixel 31 = .ok (.imul, 1) := by decide +kernel
theorem dX2_pixel_32 : decode cX2_pixel 32 = .ok (.iload_n 1, 1) := by decide +kernel
theorem dX2_pixel_33 : decode cX2_pixel 33 = .ok (.iadd, 1) := by decide +kernel
theorem dX2_pixel_34 : decode cX2_pixel 34 = .ok (.iaload, 1) := by decide +kernel
theorem dX2_pixel_35 : decode cX2_pixel 35 = .ok (.goto 4, 3) := by decide +kernel
theorem dX2_pixel_38 : decode cX2_pixel 38 = .ok (.iconst (-1), 1) := by decide +kernel
theorem dX2_pixel_39 : decode cX2_pixel 39 = .ok (.ireturn, 1) := by decide +kernel
abbrev cX2_vertices : ByteArray := prog_3_method_21_code
def yX2_vertices : MethodName := ⟨RX2, "vertices", "()I"⟩
theorem dX2_vertices_0 : decode cX2_vertices 0 = .ok (.aload_n 0, 1) := by decide +kernel
theorem dX2_vertices_1 : decode cX2_vertices 1 = .ok (.getfield 57, 3) := by decide +kernel
theorem dX2_vertices_4 : decode cX2_vertices 4 = .ok (.ireturn, 1) := by decide +kernel
theorem q18 : (Jvm.Cond.initialized "PolygonFrameModel") ∈ lw_all := lw_g (lw_at lw_m1 2 rfl) rfl
theorem q190 : (Jvm.Cond.instantiable "PolygonFrameModel" (17 : Nat)) ∈ lw_all := lw_g (lw_at lw_m1 174 rfl) rfl
theorem q192 : (Jvm.Cond.instanceMethod ({ cls := "PolygonFrameModel", name := "<init>", desc := "(III)V" } : Jvm.MethodName)) ∈ lw_all := lw_g (lw_at lw_m1 176 rfl) rfl
theorem q193 : (Jvm.Cond.code ({ cls := "PolygonFrameModel", name := "<init>", desc := "(III)V" } : Jvm.MethodName) prog_3_method_1_code (4 : Nat) (Option.none : Option Jvm.ClassFile.FieldType)) ∈ lw_all := lw_g (lw_at lw_m1 177 rfl) rfl
theorem q194 : (Jvm.Cond.methodLink "PolygonFrameModel" (1 : Nat) ({ cls := "java/lang/Object", name := "<init>", desc := "()V" } : Jvm.MethodName)) ∈ lw_all := lw_g (lw_at lw_m1 178 rfl) rfl
theorem q195 : (Jvm.Cond.methodLink "PolygonFrameModel" (44 : Nat) ({ cls := "PolygonFrameModel", name := "between", desc := "(III)I" } : Jvm.MethodName)) ∈ lw_all := lw_g (lw_at lw_m1 179 rfl) rfl
theorem q196 : (Jvm.Cond.static ({ cls := "PolygonFrameModel", name := "between", desc := "(III)I" } : Jvm.MethodName)) ∈ lw_all := lw_g (lw_at lw_m1 180 rfl) rfl
theorem q197 : (Jvm.Cond.code ({ cls := "PolygonFrameModel", name := "between", desc := "(III)I" } : Jvm.MethodName) prog_3_method_2_code (3 : Nat) (Option.some Jvm.ClassFile.FieldType.int)) ∈ lw_all := lw_g (lw_at lw_m1 181 rfl) rfl
theorem q198 : (Jvm.Cond.fieldLink "PolygonFrameModel" (48 : Nat) "PolygonFrameModel" "wide" "I") ∈ lw_all := lw_g (lw_at lw_m1 182 rfl) rfl
theorem q199 : (Jvm.Cond.fieldLink "PolygonFrameModel" (51 : Nat) "PolygonFrameModel" "high" "I") ∈ lw_all := lw_g (lw_at lw_m1 183 rfl) rfl
theorem q200 : (Jvm.Cond.fieldLink "PolygonFrameModel" (54 : Nat) "PolygonFrameModel" "most" "I") ∈ lw_all := lw_g (lw_at lw_m1 184 rfl) rfl
theorem q201 : (Jvm.Cond.fieldLink "PolygonFrameModel" (7 : Nat) "PolygonFrameModel" "pixels" "[I") ∈ lw_all := lw_g (lw_at lw_m1 185 rfl) rfl
theorem q202 : (Jvm.Cond.fieldLink "PolygonFrameModel" (13 : Nat) "PolygonFrameModel" "xs" "[I") ∈ lw_all := lw_g (lw_at lw_m1 186 rfl) rfl
theorem q203 : (Jvm.Cond.fieldLink "PolygonFrameModel" (16 : Nat) "PolygonFrameModel" "ys" "[I") ∈ lw_all := lw_g (lw_at lw_m1 187 rfl) rfl
theorem q204 : (Jvm.Cond.fieldLink "PolygonFrameModel" (57 : Nat) "PolygonFrameModel" "size" "I") ∈ lw_all := lw_g (lw_at lw_m1 188 rfl) rfl
theorem q205 : (Jvm.Cond.fieldLink "PolygonFrameModel" (19 : Nat) "PolygonFrameModel" "fromX" "[I") ∈ lw_all := lw_g (lw_at lw_m1 189 rfl) rfl
theorem q206 : (Jvm.Cond.fieldLink "PolygonFrameModel" (22 : Nat) "PolygonFrameModel" "fromY" "[I") ∈ lw_all := lw_g (lw_at lw_m1 190 rfl) rfl
theorem q207 : (Jvm.Cond.fieldLink "PolygonFrameModel" (25 : Nat) "PolygonFrameModel" "toX" "[I") ∈ lw_all := lw_g (lw_at lw_m1 191 rfl) rfl
theorem q208 : (Jvm.Cond.fieldLink "PolygonFrameModel" (28 : Nat) "PolygonFrameModel" "toY" "[I") ∈ lw_all := lw_g (lw_at lw_m1 192 rfl) rfl
theorem q209 : (Jvm.Cond.fieldLink "PolygonFrameModel" (75 : Nat) "PolygonFrameModel" "from" "I") ∈ lw_all := lw_g (lw_at lw_m1 193 rfl) rfl
theorem q210 : (Jvm.Cond.fieldLink "PolygonFrameModel" (64 : Nat) "PolygonFrameModel" "to" "I") ∈ lw_all := lw_g (lw_at lw_m1 194 rfl) rfl
theorem q211 : (Jvm.Cond.fieldLink "PolygonFrameModel" (31 : Nat) "PolygonFrameModel" "left" "I") ∈ lw_all := lw_g (lw_at lw_m1 195 rfl) rfl
theorem q212 : (Jvm.Cond.fieldLink "PolygonFrameModel" (35 : Nat) "PolygonFrameModel" "right" "I") ∈ lw_all := lw_g (lw_at lw_m1 196 rfl) rfl
theorem q213 : (Jvm.Cond.fieldLink "PolygonFrameModel" (38 : Nat) "PolygonFrameModel" "low" "I") ∈ lw_all := lw_g (lw_at lw_m1 197 rfl) rfl
theorem q214 : (Jvm.Cond.fieldLink "PolygonFrameModel" (41 : Nat) "PolygonFrameModel" "top" "I") ∈ lw_all := lw_g (lw_at lw_m1 198 rfl) rfl
theorem q215 : (Jvm.Cond.laysFinal "PolygonFrameModel" "PolygonFrameModel" "wide" "I") ∈ lw_all := lw_g (lw_at lw_m1 199 rfl) rfl
theorem q216 : (Jvm.Cond.soleField "PolygonFrameModel" "wide") ∈ lw_all := lw_g (lw_at lw_m1 200 rfl) rfl
theorem q217 : (Jvm.Cond.laysFinal "PolygonFrameModel" "PolygonFrameModel" "high" "I") ∈ lw_all := lw_g (lw_at lw_m1 201 rfl) rfl
theorem q218 : (Jvm.Cond.soleField "PolygonFrameModel" "high") ∈ lw_all := lw_g (lw_at lw_m1 202 rfl) rfl
theorem q219 : (Jvm.Cond.laysFinal "PolygonFrameModel" "PolygonFrameModel" "most" "I") ∈ lw_all := lw_g (lw_at lw_m1 203 rfl) rfl
theorem q220 : (Jvm.Cond.soleField "PolygonFrameModel" "most") ∈ lw_all := lw_g (lw_at lw_m1 204 rfl) rfl
theorem q221 : (Jvm.Cond.laysFinal "PolygonFrameModel" "PolygonFrameModel" "pixels" "[I") ∈ lw_all := lw_g (lw_at lw_m1 205 rfl) rfl
theorem q222 : (Jvm.Cond.soleField "PolygonFrameModel" "pixels") ∈ lw_all := lw_g (lw_at lw_m1 206 rfl) rfl
theorem q223 : (Jvm.Cond.laysFinal "PolygonFrameModel" "PolygonFrameModel" "xs" "[I") ∈ lw_all := lw_g (lw_at lw_m1 207 rfl) rfl
theorem q224 : (Jvm.Cond.soleField "PolygonFrameModel" "xs") ∈ lw_all := lw_g (lw_at lw_m1 208 rfl) rfl
theorem q225 : (Jvm.Cond.laysFinal "PolygonFrameModel" "PolygonFrameModel" "ys" "[I") ∈ lw_all := lw_g (lw_at lw_m1 209 rfl) rfl
theorem q226 : (Jvm.Cond.soleField "PolygonFrameModel" "ys") ∈ lw_all := lw_g (lw_at lw_m1 210 rfl) rfl
theorem q227 : (Jvm.Cond.lays "PolygonFrameModel" "PolygonFrameModel" "size" "I") ∈ lw_all := lw_g (lw_at lw_m1 211 rfl) rfl
theorem q228 : (Jvm.Cond.soleField "PolygonFrameModel" "size") ∈ lw_all := lw_g (lw_at lw_m1 212 rfl) rfl
theorem q229 : (Jvm.Cond.laysFinal "PolygonFrameModel" "PolygonFrameModel" "fromX" "[I") ∈ lw_all := lw_g (lw_at lw_m1 213 rfl) rfl
theorem q230 : (Jvm.Cond.soleField "PolygonFrameModel" "fromX") ∈ lw_all := lw_g (lw_at lw_m1 214 rfl) rfl
theorem q231 : (Jvm.Cond.laysFinal "PolygonFrameModel" "PolygonFrameModel" "fromY" "[I") ∈ lw_all := lw_g (lw_at lw_m1 215 rfl) rfl
theorem q232 : (Jvm.Cond.soleField "PolygonFrameModel" "fromY") ∈ lw_all := lw_g (lw_at lw_m1 216 rfl) rfl
theorem q233 : (Jvm.Cond.laysFinal "PolygonFrameModel" "PolygonFrameModel" "toX" "[I") ∈ lw_all := lw_g (lw_at lw_m1 217 rfl) rfl
theorem q234 : (Jvm.Cond.soleField "PolygonFrameModel" "toX") ∈ lw_all := lw_g (lw_at lw_m1 218 rfl) rfl
theorem q235 : (Jvm.Cond.laysFinal "PolygonFrameModel" "PolygonFrameModel" "toY" "[I") ∈ lw_all := lw_g (lw_at lw_m1 219 rfl) rfl
theorem q236 : (Jvm.Cond.soleField "PolygonFrameModel" "toY") ∈ lw_all := lw_g (lw_at lw_m1 220 rfl) rfl
theorem q237 : (Jvm.Cond.lays "PolygonFrameModel" "PolygonFrameModel" "from" "I") ∈ lw_all := lw_g (lw_at lw_m1 221 rfl) rfl
theorem q238 : (Jvm.Cond.soleField "PolygonFrameModel" "from") ∈ lw_all := lw_g (lw_at lw_m1 222 rfl) rfl
theorem q239 : (Jvm.Cond.lays "PolygonFrameModel" "PolygonFrameModel" "to" "I") ∈ lw_all := lw_g (lw_at lw_m1 223 rfl) rfl
theorem q240 : (Jvm.Cond.soleField "PolygonFrameModel" "to") ∈ lw_all := lw_g (lw_at lw_m1 224 rfl) rfl
theorem q241 : (Jvm.Cond.lays "PolygonFrameModel" "PolygonFrameModel" "left" "I") ∈ lw_all := lw_g (lw_at lw_m1 225 rfl) rfl
theorem q242 : (Jvm.Cond.soleField "PolygonFrameModel" "left") ∈ lw_all := lw_g (lw_at lw_m1 226 rfl) rfl
theorem q243 : (Jvm.Cond.lays "PolygonFrameModel" "PolygonFrameModel" "right" "I") ∈ lw_all := lw_g (lw_at lw_m1 227 rfl) rfl
theorem q244 : (Jvm.Cond.soleField "PolygonFrameModel" "right") ∈ lw_all := lw_g (lw_at lw_m1 228 rfl) rfl
theorem q245 : (Jvm.Cond.lays "PolygonFrameModel" "PolygonFrameModel" "low" "I") ∈ lw_all := lw_g (lw_at lw_m1 229 rfl) rfl
theorem q246 : (Jvm.Cond.soleField "PolygonFrameModel" "low") ∈ lw_all := lw_g (lw_at lw_m1 230 rfl) rfl
theorem q247 : (Jvm.Cond.lays "PolygonFrameModel" "PolygonFrameModel" "top" "I") ∈ lw_all := lw_g (lw_at lw_m1 231 rfl) rfl
theorem q248 : (Jvm.Cond.soleField "PolygonFrameModel" "top") ∈ lw_all := lw_g (lw_at lw_m1 232 rfl) rfl
theorem q249 : (Jvm.Cond.superclass "PolygonFrameModel" "java/lang/Object") ∈ lw_all := lw_g (lw_at lw_m1 233 rfl) rfl
theorem q251 : (Jvm.Cond.instanceMethod ({ cls := "PolygonFrameModel", name := "clear", desc := "(I)V" } : Jvm.MethodName)) ∈ lw_all := lw_g (lw_at lw_m1 235 rfl) rfl
theorem q252 : (Jvm.Cond.selects "PolygonFrameModel" ({ cls := "PolygonFrameModel", name := "clear", desc := "(I)V" } : Jvm.MethodName) ({ cls := "PolygonFrameModel", name := "clear", desc := "(I)V" } : Jvm.MethodName)) ∈ lw_all := lw_g (lw_at lw_m1 236 rfl) rfl
theorem q253 : (Jvm.Cond.code ({ cls := "PolygonFrameModel", name := "clear", desc := "(I)V" } : Jvm.MethodName) prog_3_method_3_code (3 : Nat) (Option.none : Option Jvm.ClassFile.FieldType)) ∈ lw_all := lw_g (lw_at lw_m1 237 rfl) rfl
theorem q255 : (Jvm.Cond.instanceMethod ({ cls := "PolygonFrameModel", name := "begin", desc := "()V" } : Jvm.MethodName)) ∈ lw_all := lw_g (lw_at lw_m1 239 rfl) rfl
theorem q256 : (Jvm.Cond.selects "PolygonFrameModel" ({ cls := "PolygonFrameModel", name := "begin", desc := "()V" } : Jvm.MethodName) ({ cls := "PolygonFrameModel", name := "begin", desc := "()V" } : Jvm.MethodName)) ∈ lw_all := lw_g (lw_at lw_m2 0 rfl) rfl
theorem q257 : (Jvm.Cond.code ({ cls := "PolygonFrameModel", name := "begin", desc := "()V" } : Jvm.MethodName) prog_3_method_4_code (1 : Nat) (Option.none : Option Jvm.ClassFile.FieldType)) ∈ lw_all := lw_g (lw_at lw_m2 1 rfl) rfl
theorem q259 : (Jvm.Cond.instanceMethod ({ cls := "PolygonFrameModel", name := "vertex", desc := "(II)Z" } : Jvm.MethodName)) ∈ lw_all := lw_g (lw_at lw_m2 3 rfl) rfl
theorem q260 : (Jvm.Cond.selects "PolygonFrameModel" ({ cls := "PolygonFrameModel", name := "vertex", desc := "(II)Z" } : Jvm.MethodName) ({ cls := "PolygonFrameModel", name := "vertex", desc := "(II)Z" } : Jvm.MethodName)) ∈ lw_all := lw_g (lw_at lw_m2 4 rfl) rfl
theorem q261 : (Jvm.Cond.code ({ cls := "PolygonFrameModel", name := "vertex", desc := "(II)Z" } : Jvm.MethodName) prog_3_method_6_code (3 : Nat) (Option.some Jvm.ClassFile.FieldType.boolean)) ∈ lw_all := lw_g (lw_at lw_m2 5 rfl) rfl
theorem q262 : (Jvm.Cond.methodLink "PolygonFrameModel" (60 : Nat) ({ cls := "PolygonFrameModel", name := "isNear", desc := "(I)Z" } : Jvm.MethodName)) ∈ lw_all := lw_g (lw_at lw_m2 6 rfl) rfl
theorem q263 : (Jvm.Cond.static ({ cls := "PolygonFrameModel", name := "isNear", desc := "(I)Z" } : Jvm.MethodName)) ∈ lw_all := lw_g (lw_at lw_m2 7 rfl) rfl
theorem q264 : (Jvm.Cond.code ({ cls := "PolygonFrameModel", name := "isNear", desc := "(I)Z" } : Jvm.MethodName) prog_3_method_5_code (1 : Nat) (Option.some Jvm.ClassFile.FieldType.boolean)) ∈ lw_all := lw_g (lw_at lw_m2 8 rfl) rfl
theorem q266 : (Jvm.Cond.instanceMethod ({ cls := "PolygonFrameModel", name := "setClip", desc := "(IIII)Z" } : Jvm.MethodName)) ∈ lw_all := lw_g (lw_at lw_m2 10 rfl) rfl
theorem q267 : (Jvm.Cond.selects "PolygonFrameModel" ({ cls := "PolygonFrameModel", name := "setClip", desc := "(IIII)Z" } : Jvm.MethodName) ({ cls := "PolygonFrameModel", name := "setClip", desc := "(IIII)Z" } : Jvm.MethodName)) ∈ lw_all := lw_g (lw_at lw_m2 11 rfl) rfl
theorem q268 : (Jvm.Cond.code ({ cls := "PolygonFrameModel", name := "setClip", desc := "(IIII)Z" } : Jvm.MethodName) prog_3_method_7_code (5 : Nat) (Option.some Jvm.ClassFile.FieldType.boolean)) ∈ lw_all := lw_g (lw_at lw_m2 12 rfl) rfl
theorem q270 : (Jvm.Cond.instanceMethod ({ cls := "PolygonFrameModel", name := "clip", desc := "()I" } : Jvm.MethodName)) ∈ lw_all := lw_g (lw_at lw_m2 14 rfl) rfl
theorem q271 : (Jvm.Cond.selects "PolygonFrameModel" ({ cls := "PolygonFrameModel", name := "clip", desc := "()I" } : Jvm.MethodName) ({ cls := "PolygonFrameModel", name := "clip", desc := "()I" } : Jvm.MethodName)) ∈ lw_all := lw_g (lw_at lw_m2 15 rfl) rfl
theorem q272 : (Jvm.Cond.code ({ cls := "PolygonFrameModel", name := "clip", desc := "()I" } : Jvm.MethodName) prog_3_method_13_code (3 : Nat) (Option.some Jvm.ClassFile.FieldType.int)) ∈ lw_all := lw_g (lw_at lw_m2 16 rfl) rfl
theorem q273 : (Jvm.Cond.methodLink "PolygonFrameModel" (85 : Nat) ({ cls := "PolygonFrameModel", name := "pass", desc := "(I)V" } : Jvm.MethodName)) ∈ lw_all := lw_g (lw_at lw_m2 17 rfl) rfl
theorem q274 : (Jvm.Cond.privateMethod ({ cls := "PolygonFrameModel", name := "pass", desc := "(I)V" } : Jvm.MethodName)) ∈ lw_tbl := lw_at lw_m2 18 rfl
theorem q275 : (Jvm.Cond.instanceMethod ({ cls := "PolygonFrameModel", name := "pass", desc := "(I)V" } : Jvm.MethodName)) ∈ lw_all := lw_g (lw_at lw_m2 19 rfl) rfl
theorem q276 : (Jvm.Cond.code ({ cls := "PolygonFrameModel", name := "pass", desc := "(I)V" } : Jvm.MethodName) prog_3_method_12_code (6 : Nat) (Option.none : Option Jvm.ClassFile.FieldType)) ∈ lw_all := lw_g (lw_at lw_m2 20 rfl) rfl
theorem q277 : (Jvm.Cond.methodLink "PolygonFrameModel" (78 : Nat) ({ cls := "PolygonFrameModel", name := "depth", desc := "(III)I" } : Jvm.MethodName)) ∈ lw_all := lw_g (lw_at lw_m2 21 rfl) rfl
theorem q278 : (Jvm.Cond.privateMethod ({ cls := "PolygonFrameModel", name := "depth", desc := "(III)I" } : Jvm.MethodName)) ∈ lw_tbl := lw_at lw_m2 22 rfl
theorem q279 : (Jvm.Cond.instanceMethod ({ cls := "PolygonFrameModel", name := "depth", desc := "(III)I" } : Jvm.MethodName)) ∈ lw_all := lw_g (lw_at lw_m2 23 rfl) rfl
theorem q280 : (Jvm.Cond.code ({ cls := "PolygonFrameModel", name := "depth", desc := "(III)I" } : Jvm.MethodName) prog_3_method_8_code (4 : Nat) (Option.some Jvm.ClassFile.FieldType.int)) ∈ lw_all := lw_g (lw_at lw_m2 24 rfl) rfl
theorem q281 : (Jvm.Cond.methodLink "PolygonFrameModel" (81 : Nat) ({ cls := "PolygonFrameModel", name := "cut", desc := "(IIIII)V" } : Jvm.MethodName)) ∈ lw_all := lw_g (lw_at lw_m2 25 rfl) rfl
theorem q282 : (Jvm.Cond.privateMethod ({ cls := "PolygonFrameModel", name := "cut", desc := "(IIIII)V" } : Jvm.MethodName)) ∈ lw_tbl := lw_at lw_m2 26 rfl
theorem q283 : (Jvm.Cond.instanceMethod ({ cls := "PolygonFrameModel", name := "cut", desc := "(IIIII)V" } : Jvm.MethodName)) ∈ lw_all := lw_g (lw_at lw_m2 27 rfl) rfl
theorem q284 : (Jvm.Cond.code ({ cls := "PolygonFrameModel", name := "cut", desc := "(IIIII)V" } : Jvm.MethodName) prog_3_method_11_code (7 : Nat) (Option.none : Option Jvm.ClassFile.FieldType)) ∈ lw_all := lw_g (lw_at lw_m2 28 rfl) rfl
theorem q285 : (Jvm.Cond.methodLink "PolygonFrameModel" (67 : Nat) ({ cls := "PolygonFrameModel", name := "quotient", desc := "(II)I" } : Jvm.MethodName)) ∈ lw_all := lw_g (lw_at lw_m2 29 rfl) rfl
theorem q286 : (Jvm.Cond.static ({ cls := "PolygonFrameModel", name := "quotient", desc := "(II)I" } : Jvm.MethodName)) ∈ lw_all := lw_g (lw_at lw_m2 30 rfl) rfl
theorem q287 : (Jvm.Cond.code ({ cls := "PolygonFrameModel", name := "quotient", desc := "(II)I" } : Jvm.MethodName) prog_3_method_9_code (3 : Nat) (Option.some Jvm.ClassFile.FieldType.int)) ∈ lw_all := lw_g (lw_at lw_m2 31 rfl) rfl
theorem q288 : (Jvm.Cond.methodLink "PolygonFrameModel" (71 : Nat) ({ cls := "PolygonFrameModel", name := "add", desc := "(II)V" } : Jvm.MethodName)) ∈ lw_all := lw_g (lw_at lw_m2 32 rfl) rfl
theorem q289 : (Jvm.Cond.privateMethod ({ cls := "PolygonFrameModel", name := "add", desc := "(II)V" } : Jvm.MethodName)) ∈ lw_tbl := lw_at lw_m2 33 rfl
theorem q290 : (Jvm.Cond.instanceMethod ({ cls := "PolygonFrameModel", name := "add", desc := "(II)V" } : Jvm.MethodName)) ∈ lw_all := lw_g (lw_at lw_m2 34 rfl) rfl
theorem q291 : (Jvm.Cond.code ({ cls := "PolygonFrameModel", name := "add", desc := "(II)V" } : Jvm.MethodName) prog_3_method_10_code (3 : Nat) (Option.none : Option Jvm.ClassFile.FieldType)) ∈ lw_all := lw_g (lw_at lw_m2 35 rfl) rfl
theorem q293 : (Jvm.Cond.instanceMethod ({ cls := "PolygonFrameModel", name := "vx", desc := "(I)I" } : Jvm.MethodName)) ∈ lw_all := lw_g (lw_at lw_m2 37 rfl) rfl
theorem q294 : (Jvm.Cond.selects "PolygonFrameModel" ({ cls := "PolygonFrameModel", name := "vx", desc := "(I)I" } : Jvm.MethodName) ({ cls := "PolygonFrameModel", name := "vx", desc := "(I)I" } : Jvm.MethodName)) ∈ lw_all := lw_g (lw_at lw_m2 38 rfl) rfl
theorem q295 : (Jvm.Cond.code ({ cls := "PolygonFrameModel", name := "vx", desc := "(I)I" } : Jvm.MethodName) prog_3_method_15_code (2 : Nat) (Option.some Jvm.ClassFile.FieldType.int)) ∈ lw_all := lw_g (lw_at lw_m2 39 rfl) rfl
theorem q296 : (Jvm.Cond.methodLink "PolygonFrameModel" (89 : Nat) ({ cls := "PolygonFrameModel", name := "isVertex", desc := "(I)Z" } : Jvm.MethodName)) ∈ lw_all := lw_g (lw_at lw_m2 40 rfl) rfl
theorem q297 : (Jvm.Cond.privateMethod ({ cls := "PolygonFrameModel", name := "isVertex", desc := "(I)Z" } : Jvm.MethodName)) ∈ lw_tbl := lw_at lw_m2 41 rfl
theorem q298 : (Jvm.Cond.instanceMethod ({ cls := "PolygonFrameModel", name := "isVertex", desc := "(I)Z" } : Jvm.MethodName)) ∈ lw_all := lw_g (lw_at lw_m2 42 rfl) rfl
theorem q299 : (Jvm.Cond.code ({ cls := "PolygonFrameModel", name := "isVertex", desc := "(I)Z" } : Jvm.MethodName) prog_3_method_14_code (2 : Nat) (Option.some Jvm.ClassFile.FieldType.boolean)) ∈ lw_all := lw_g (lw_at lw_m2 43 rfl) rfl
theorem q301 : (Jvm.Cond.instanceMethod ({ cls := "PolygonFrameModel", name := "vy", desc := "(I)I" } : Jvm.MethodName)) ∈ lw_all := lw_g (lw_at lw_m2 45 rfl) rfl
theorem q302 : (Jvm.Cond.selects "PolygonFrameModel" ({ cls := "PolygonFrameModel", name := "vy", desc := "(I)I" } : Jvm.MethodName) ({ cls := "PolygonFrameModel", name := "vy", desc := "(I)I" } : Jvm.MethodName)) ∈ lw_all := lw_g (lw_at lw_m2 46 rfl) rfl
theorem q303 : (Jvm.Cond.code ({ cls := "PolygonFrameModel", name := "vy", desc := "(I)I" } : Jvm.MethodName) prog_3_method_16_code (2 : Nat) (Option.some Jvm.ClassFile.FieldType.int)) ∈ lw_all := lw_g (lw_at lw_m2 47 rfl) rfl
theorem q305 : (Jvm.Cond.instanceMethod ({ cls := "PolygonFrameModel", name := "inside", desc := "(II)Z" } : Jvm.MethodName)) ∈ lw_all := lw_g (lw_at lw_m2 49 rfl) rfl
theorem q306 : (Jvm.Cond.selects "PolygonFrameModel" ({ cls := "PolygonFrameModel", name := "inside", desc := "(II)Z" } : Jvm.MethodName) ({ cls := "PolygonFrameModel", name := "inside", desc := "(II)Z" } : Jvm.MethodName)) ∈ lw_all := lw_g (lw_at lw_m2 50 rfl) rfl
theorem q307 : (Jvm.Cond.code ({ cls := "PolygonFrameModel", name := "inside", desc := "(II)Z" } : Jvm.MethodName) prog_3_method_18_code (6 : Nat) (Option.some Jvm.ClassFile.FieldType.boolean)) ∈ lw_all := lw_g (lw_at lw_m2 51 rfl) rfl
theorem q308 : (Jvm.Cond.methodLink "PolygonFrameModel" (92 : Nat) ({ cls := "PolygonFrameModel", name := "crosses", desc := "(JJJJJJ)Z" } : Jvm.MethodName)) ∈ lw_all := lw_g (lw_at lw_m2 52 rfl) rfl
theorem q309 : (Jvm.Cond.static ({ cls := "PolygonFrameModel", name := "crosses", desc := "(JJJJJJ)Z" } : Jvm.MethodName)) ∈ lw_all := lw_g (lw_at lw_m2 53 rfl) rfl
theorem q310 : (Jvm.Cond.code ({ cls := "PolygonFrameModel", name := "crosses", desc := "(JJJJJJ)Z" } : Jvm.MethodName) prog_3_method_17_code (21 : Nat) (Option.some Jvm.ClassFile.FieldType.boolean)) ∈ lw_all := lw_g (lw_at lw_m2 54 rfl) rfl
theorem q312 : (Jvm.Cond.instanceMethod ({ cls := "PolygonFrameModel", name := "fill", desc := "(I)I" } : Jvm.MethodName)) ∈ lw_all := lw_g (lw_at lw_m2 56 rfl) rfl
theorem q313 : (Jvm.Cond.selects "PolygonFrameModel" ({ cls := "PolygonFrameModel", name := "fill", desc := "(I)I" } : Jvm.MethodName) ({ cls := "PolygonFrameModel", name := "fill", desc := "(I)I" } : Jvm.MethodName)) ∈ lw_all := lw_g (lw_at lw_m2 57 rfl) rfl
theorem q314 : (Jvm.Cond.code ({ cls := "PolygonFrameModel", name := "fill", desc := "(I)I" } : Jvm.MethodName) prog_3_method_19_code (5 : Nat) (Option.some Jvm.ClassFile.FieldType.int)) ∈ lw_all := lw_g (lw_at lw_m2 58 rfl) rfl
theorem q315 : (Jvm.Cond.methodLink "PolygonFrameModel" (96 : Nat) ({ cls := "PolygonFrameModel", name := "inside", desc := "(II)Z" } : Jvm.MethodName)) ∈ lw_all := lw_g (lw_at lw_m2 59 rfl) rfl
theorem q317 : (Jvm.Cond.instanceMethod ({ cls := "PolygonFrameModel", name := "pixel", desc := "(II)I" } : Jvm.MethodName)) ∈ lw_all := lw_g (lw_at lw_m2 61 rfl) rfl
theorem q318 : (Jvm.Cond.selects "PolygonFrameModel" ({ cls := "PolygonFrameModel", name := "pixel", desc := "(II)I" } : Jvm.MethodName) ({ cls := "PolygonFrameModel", name := "pixel", desc := "(II)I" } : Jvm.MethodName)) ∈ lw_all := lw_g (lw_at lw_m2 62 rfl) rfl
theorem q319 : (Jvm.Cond.code ({ cls := "PolygonFrameModel", name := "pixel", desc := "(II)I" } : Jvm.MethodName) prog_3_method_20_code (3 : Nat) (Option.some Jvm.ClassFile.FieldType.int)) ∈ lw_all := lw_g (lw_at lw_m2 63 rfl) rfl
theorem q321 : (Jvm.Cond.instanceMethod ({ cls := "PolygonFrameModel", name := "vertices", desc := "()I" } : Jvm.MethodName)) ∈ lw_all := lw_g (lw_at lw_m2 65 rfl) rfl
theorem q322 : (Jvm.Cond.selects "PolygonFrameModel" ({ cls := "PolygonFrameModel", name := "vertices", desc := "()I" } : Jvm.MethodName) ({ cls := "PolygonFrameModel", name := "vertices", desc := "()I" } : Jvm.MethodName)) ∈ lw_all := lw_g (lw_at lw_m2 66 rfl) rfl
theorem q323 : (Jvm.Cond.code ({ cls := "PolygonFrameModel", name := "vertices", desc := "()I" } : Jvm.MethodName) prog_3_method_21_code (1 : Nat) (Option.some Jvm.ClassFile.FieldType.int)) ∈ lw_all := lw_g (lw_at lw_m2 67 rfl) rfl
theorem in_X2 : ∀ w ∈ wsX20, w ∈ lw_all := lw_in wsX20 [215, 217, 219, 221, 223, 225, 227, 229, 231, 233, 235, 237, 239, 241, 243, 245, 247] (by decide +kernel) (by decide +kernel)
end
section
/-! PolygonFrameLaw -/
set_option maxRecDepth 100000
def RX0 : String := "PolygonFrameLaw"
abbrev cX0_cell : ByteArray := method_2_code
def yX0_cell : MethodName := ⟨RX0, "cell", "([II)I"⟩
theorem dX0_cell_0 : decode cX0_cell 0 = .ok (.iload_n 1, 1) := by decide +kernel
theorem dX0_cell_1 : decode cX0_cell 1 = .ok (.aload_n 0, 1) := by decide +kernel
theorem dX0_cell_2 : decode cX0_cell 2 = .ok (.arraylength, 1) := by decide +kernel
theorem dX0_cell_3 : decode cX0_cell 3 = .ok (.if_icmp .ge 9, 3) := by decide +kernel
theorem dX0_cell_6 : decode cX0_cell 6 = .ok (.aload_n 0, 1) := by decide +kernel
theorem dX0_cell_7 : decode cX0_cell 7 = .ok (.iload_n 1, 1) := by decide +kernel
theorem dX0_cell_8 : decode cX0_cell 8 = .ok (.iaload, 1) := by decide +kernel
theorem dX0_cell_9 : decode cX0_cell 9 = .ok (.goto 4, 3) := by decide +kernel
theorem dX0_cell_12 : decode cX0_cell 12 = .ok (.iconst 0, 1) := by decide +kernel
theorem dX0_cell_13 : decode cX0_cell 13 = .ok (.ireturn, 1) := by decide +kernel
theorem q16 : (Jvm.Cond.initialized "PolygonFrameLaw") ∈ lw_all := lw_g (lw_at lw_m1 0 rfl) rfl
theorem q19 : (Jvm.Cond.classLink "PolygonFrameLaw" (7 : Nat) "PolygonFrame") ∈ lw_all := lw_g (lw_at lw_m1 3 rfl) rfl
theorem q21 : (Jvm.Cond.methodLink "PolygonFrameLaw" (15 : Nat) ({ cls := "PolygonFrame", name := "<init>", desc := "(III)V" } : Jvm.MethodName)) ∈ lw_all := lw_g (lw_at lw_m1 5 rfl) rfl
theorem q89 : (Jvm.Cond.methodLink "PolygonFrameLaw" (21 : Nat) ({ cls := "PolygonFrame", name := "clear", desc := "(I)V" } : Jvm.MethodName)) ∈ lw_all := lw_g (lw_at lw_m1 73 rfl) rfl
theorem q93 : (Jvm.Cond.methodLink "PolygonFrameLaw" (26 : Nat) ({ cls := "PolygonFrame", name := "begin", desc := "()V" } : Jvm.MethodName)) ∈ lw_all := lw_g (lw_at lw_m1 77 rfl) rfl
theorem q97 : (Jvm.Cond.methodLink "PolygonFrameLaw" (30 : Nat) ({ cls := "PolygonFrame", name := "vertex", desc := "(II)Z" } : Jvm.MethodName)) ∈ lw_all := lw_g (lw_at lw_m1 81 rfl) rfl
theorem q104 : (Jvm.Cond.methodLink "PolygonFrameLaw" (35 : Nat) ({ cls := "PolygonFrame", name := "setClip", desc := "(IIII)Z" } : Jvm.MethodName)) ∈ lw_all := lw_g (lw_at lw_m1 88 rfl) rfl
theorem q108 : (Jvm.Cond.methodLink "PolygonFrameLaw" (40 : Nat) ({ cls := "PolygonFrame", name := "clip", desc := "()I" } : Jvm.MethodName)) ∈ lw_all := lw_g (lw_at lw_m1 92 rfl) rfl
theorem q134 : (Jvm.Cond.methodLink "PolygonFrameLaw" (45 : Nat) ({ cls := "PolygonFrame", name := "vx", desc := "(I)I" } : Jvm.MethodName)) ∈ lw_all := lw_g (lw_at lw_m1 118 rfl) rfl
theorem q138 : (Jvm.Cond.methodLink "PolygonFrameLaw" (50 : Nat) ({ cls := "PolygonFrame", name := "vy", desc := "(I)I" } : Jvm.MethodName)) ∈ lw_all := lw_g (lw_at lw_m1 122 rfl) rfl
theorem q142 : (Jvm.Cond.methodLink "PolygonFrameLaw" (67 : Nat) ({ cls := "PolygonFrame", name := "vertices", desc := "()I" } : Jvm.MethodName)) ∈ lw_all := lw_g (lw_at lw_m1 126 rfl) rfl
theorem q146 : (Jvm.Cond.methodLink "PolygonFrameLaw" (58 : Nat) ({ cls := "PolygonFrame", name := "inside", desc := "(II)Z" } : Jvm.MethodName)) ∈ lw_all := lw_g (lw_at lw_m1 130 rfl) rfl
theorem q162 : (Jvm.Cond.methodLink "PolygonFrameLaw" (54 : Nat) ({ cls := "PolygonFrame", name := "fill", desc := "(I)I" } : Jvm.MethodName)) ∈ lw_all := lw_g (lw_at lw_m1 146 rfl) rfl
theorem q182 : (Jvm.Cond.methodLink "PolygonFrameLaw" (62 : Nat) ({ cls := "PolygonFrame", name := "pixel", desc := "(II)I" } : Jvm.MethodName)) ∈ lw_all := lw_g (lw_at lw_m1 166 rfl) rfl
theorem q186 : (Jvm.Cond.methodLink "PolygonFrameLaw" (9 : Nat) ({ cls := "PolygonFrameLaw", name := "cell", desc := "([II)I" } : Jvm.MethodName)) ∈ lw_all := lw_g (lw_at lw_m1 170 rfl) rfl
theorem q187 : (Jvm.Cond.static ({ cls := "PolygonFrameLaw", name := "cell", desc := "([II)I" } : Jvm.MethodName)) ∈ lw_all := lw_g (lw_at lw_m1 171 rfl) rfl
theorem q188 : (Jvm.Cond.code ({ cls := "PolygonFrameLaw", name := "cell", desc := "([II)I" } : Jvm.MethodName) method_2_code (2 : Nat) (Option.some Jvm.ClassFile.FieldType.int)) ∈ lw_all := lw_g (lw_at lw_m1 172 rfl) rfl
theorem q189 : (Jvm.Cond.classLink "PolygonFrameLaw" (18 : Nat) "PolygonFrameModel") ∈ lw_all := lw_g (lw_at lw_m1 173 rfl) rfl
theorem q191 : (Jvm.Cond.methodLink "PolygonFrameLaw" (20 : Nat) ({ cls := "PolygonFrameModel", name := "<init>", desc := "(III)V" } : Jvm.MethodName)) ∈ lw_all := lw_g (lw_at lw_m1 175 rfl) rfl
theorem q250 : (Jvm.Cond.methodLink "PolygonFrameLaw" (25 : Nat) ({ cls := "PolygonFrameModel", name := "clear", desc := "(I)V" } : Jvm.MethodName)) ∈ lw_all := lw_g (lw_at lw_m1 234 rfl) rfl
theorem q254 : (Jvm.Cond.methodLink "PolygonFrameLaw" (29 : Nat) ({ cls := "PolygonFrameModel", name := "begin", desc := "()V" } : Jvm.MethodName)) ∈ lw_all := lw_g (lw_at lw_m1 238 rfl) rfl
theorem q258 : (Jvm.Cond.methodLink "PolygonFrameLaw" (34 : Nat) ({ cls := "PolygonFrameModel", name := "vertex", desc := "(II)Z" } : Jvm.MethodName)) ∈ lw_all := lw_g (lw_at lw_m2 2 rfl) rfl
theorem q265 : (Jvm.Cond.methodLink "PolygonFrameLaw" (39 : Nat) ({ cls := "PolygonFrameModel", name := "setClip", desc := "(IIII)Z" } : Jvm.MethodName)) ∈ lw_all := lw_g (lw_at lw_m2 9 rfl) rfl
theorem q269 : (Jvm.Cond.methodLink "PolygonFrameLaw" (44 : Nat) ({ cls := "PolygonFrameModel", name := "clip", desc := "()I" } : Jvm.MethodName)) ∈ lw_all := lw_g (lw_at lw_m2 13 rfl) rfl
theorem q292 : (Jvm.Cond.methodLink "PolygonFrameLaw" (49 : Nat) ({ cls := "PolygonFrameModel", name := "vx", desc := "(I)I" } : Jvm.MethodName)) ∈ lw_all := lw_g (lw_at lw_m2 36 rfl) rfl
theorem q300 : (Jvm.Cond.methodLink "PolygonFrameLaw" (53 : Nat) ({ cls := "PolygonFrameModel", name := "vy", desc := "(I)I" } : Jvm.MethodName)) ∈ lw_all := lw_g (lw_at lw_m2 44 rfl) rfl
theorem q304 : (Jvm.Cond.methodLink "PolygonFrameLaw" (61 : Nat) ({ cls := "PolygonFrameModel", name := "inside", desc := "(II)Z" } : Jvm.MethodName)) ∈ lw_all := lw_g (lw_at lw_m2 48 rfl) rfl
theorem q311 : (Jvm.Cond.methodLink "PolygonFrameLaw" (57 : Nat) ({ cls := "PolygonFrameModel", name := "fill", desc := "(I)I" } : Jvm.MethodName)) ∈ lw_all := lw_g (lw_at lw_m2 55 rfl) rfl
theorem q316 : (Jvm.Cond.methodLink "PolygonFrameLaw" (66 : Nat) ({ cls := "PolygonFrameModel", name := "pixel", desc := "(II)I" } : Jvm.MethodName)) ∈ lw_all := lw_g (lw_at lw_m2 60 rfl) rfl
theorem q320 : (Jvm.Cond.methodLink "PolygonFrameLaw" (70 : Nat) ({ cls := "PolygonFrameModel", name := "vertices", desc := "()I" } : Jvm.MethodName)) ∈ lw_all := lw_g (lw_at lw_m2 64 rfl) rfl

/-! java/lang/Object -/
set_option maxRecDepth 100000
def RJ0 : String := "java/lang/Object"
abbrev cJ0_init : ByteArray := object_method_1_code
def yJ0_init : MethodName := ⟨RJ0, "<init>", "()V"⟩
theorem dJ0_init_0 : decode cJ0_init 0 = .ok (.return_, 1) := by decide +kernel
theorem q25 : (Jvm.Cond.instanceMethod ({ cls := "java/lang/Object", name := "<init>", desc := "()V" } : Jvm.MethodName)) ∈ lw_all := lw_g (lw_at lw_m1 9 rfl) rfl
theorem q26 : (Jvm.Cond.code ({ cls := "java/lang/Object", name := "<init>", desc := "()V" } : Jvm.MethodName) object_method_1_code (1 : Nat) (Option.none : Option Jvm.ClassFile.FieldType)) ∈ lw_all := lw_g (lw_at lw_m1 10 rfl) rfl

theorem q88 : (Jvm.Cond.arrayClass Jvm.ClassFile.FieldType.int) ∈ lw_all := lw_g (lw_at lw_m1 72 rfl) rfl
set_option maxRecDepth 100000

/-! the law's own entry -/
set_option maxRecDepth 100000
abbrev cL_law : ByteArray := code
theorem dL_law_0 : decode cL_law 0 = .ok (.new 7, 3) := by decide +kernel
theorem dL_law_3 : decode cL_law 3 = .ok (.dup, 1) := by decide +kernel
theorem dL_law_4 : decode cL_law 4 = .ok (.aload_n 0, 1) := by decide +kernel
theorem dL_law_5 : decode cL_law 5 = .ok (.iconst 0, 1) := by decide +kernel
theorem dL_law_6 : decode cL_law 6 = .ok (.invokestatic 9, 3) := by decide +kernel
theorem dL_law_9 : decode cL_law 9 = .ok (.aload_n 0, 1) := by decide +kernel
theorem dL_law_10 : decode cL_law 10 = .ok (.iconst 1, 1) := by decide +kernel
theorem dL_law_11 : decode cL_law 11 = .ok (.invokestatic 9, 3) := by decide +kernel
theorem dL_law_14 : decode cL_law 14 = .ok (.aload_n 0, 1) := by decide +kernel
theorem dL_law_15 : decode cL_law 15 = .ok (.iconst 2, 1) := by decide +kernel
theorem dL_law_16 : decode cL_law 16 = .ok (.invokestatic 9, 3) := by decide +kernel
theorem dL_law_19 : decode cL_law 19 = .ok (.invokespecial 15, 3) := by decide +kernel
theorem dL_law_22 : decode cL_law 22 = .ok (.astore_n 1, 1) := by decide +kernel
theorem dL_law_23 : decode cL_law 23 = .ok (.new 18, 3) := by decide +kernel
theorem dL_law_26 : decode cL_law 26 = .ok (.dup, 1) := by decide +kernel
theorem dL_law_27 : decode cL_law 27 = .ok (.aload_n 0, 1) := by decide +kernel
theorem dL_law_28 : decode cL_law 28 = .ok (.iconst 0, 1) := by decide +kernel
theorem dL_law_29 : decode cL_law 29 = .ok (.invokestatic 9, 3) := by decide +kernel
theorem dL_law_32 : decode cL_law 32 = .ok (.aload_n 0, 1) := by decide +kernel
theorem dL_law_33 : decode cL_law 33 = .ok (.iconst 1, 1) := by decide +kernel
theorem dL_law_34 : decode cL_law 34 = .ok (.invokestatic 9, 3) := by decide +kernel
theorem dL_law_37 : decode cL_law 37 = .ok (.aload_n 0, 1) := by decide +kernel
theorem dL_law_38 : decode cL_law 38 = .ok (.iconst 2, 1) := by decide +kernel
theorem dL_law_39 : decode cL_law 39 = .ok (.invokestatic 9, 3) := by decide +kernel
theorem dL_law_42 : decode cL_law 42 = .ok (.invokespecial 20, 3) := by decide +kernel
theorem dL_law_45 : decode cL_law 45 = .ok (.astore_n 2, 1) := by decide +kernel
theorem dL_law_46 : decode cL_law 46 = .ok (.iconst 3, 1) := by decide +kernel
theorem dL_law_47 : decode cL_law 47 = .ok (.istore_n 3, 1) := by decide +kernel
theorem dL_law_48 : decode cL_law 48 = .ok (.iload_n 3, 1) := by decide +kernel
theorem dL_law_49 : decode cL_law 49 = .ok (.aload_n 0, 1) := by decide +kernel
theorem dL_law_50 : decode cL_law 50 = .ok (.arraylength, 1) := by decide +kernel
theorem dL_law_51 : decode cL_law 51 = .ok (.iconst 5, 1) := by decide +kernel
theorem dL_law_52 : decode cL_law 52 = .ok (.isub, 1) := by decide +kernel
theorem dL_law_53 : decode cL_law 53 = .ok (.if_icmp .gt 352, 3) := by decide +kernel
theorem dL_law_56 : decode cL_law 56 = .ok (.aload_n 0, 1) := by decide +kernel
theorem dL_law_57 : decode cL_law 57 = .ok (.iload_n 3, 1) := by decide +kernel
theorem dL_law_58 : decode cL_law 58 = .ok (.iaload, 1) := by decide +kernel
theorem dL_law_59 : decode cL_law 59 = .ok (.bipush 15, 2) := by decide +kernel
theorem dL_law_61 : decode cL_law 61 = .ok (.iand, 1) := by decide +kernel
theorem dL_law_62 : decode cL_law 62 = .ok (.tableswitch 337 0 10 #[58, 79, 90, 123, 176, 189, 212, 235, 258, 291, 324], 58) := by decide +kernel
theorem dL_law_120 : decode cL_law 120 = .ok (.aload_n 1, 1) := by decide +kernel
theorem dL_law_121 : decode cL_law 121 = .ok (.aload_n 0, 1) := by decide +kernel
theorem dL_law_122 : decode cL_law 122 = .ok (.iload_n 3, 1) := by decide +kernel
theorem dL_law_123 : decode cL_law 123 = .ok (.iconst 1, 1) := by decide +kernel
theorem dL_law_124 : decode cL_law 124 = .ok (.iadd, 1) := by decide +kernel
theorem dL_law_125 : decode cL_law 125 = .ok (.iaload, 1) := by decide +kernel
theorem dL_law_126 : decode cL_law 126 = .ok (.invokevirtual 21, 3) := by decide +kernel
theorem dL_law_129 : decode cL_law 129 = .ok (.aload_n 2, 1) := by decide +kernel
theorem dL_law_130 : decode cL_law 130 = .ok (.aload_n 0, 1) := by decide +kernel
theorem dL_law_131 : decode cL_law 131 = .ok (.iload_n 3, 1) := by decide +kernel
theorem dL_law_132 : decode cL_law 132 = .ok (.iconst 1, 1) := by decide +kernel
theorem dL_law_133 : decode cL_law 133 = .ok (.iadd, 1) := by decide +kernel
theorem dL_law_134 : decode cL_law 134 = .ok (.iaload, 1) := by decide +kernel
theorem dL_law_135 : decode cL_law 135 = .ok (.invokevirtual 25, 3) := by decide +kernel
theorem dL_law_138 : decode cL_law 138 = .ok (.goto 261, 3) := by decide +kernel
theorem dL_law_141 : decode cL_law 141 = .ok (.aload_n 1, 1) := by decide +kernel
theorem dL_law_142 : decode cL_law 142 = .ok (.invokevirtual 26, 3) := by decide +kernel
theorem dL_law_145 : decode cL_law 145 = .ok (.aload_n 2, 1) := by decide +kernel
theorem dL_law_146 : decode cL_law 146 = .ok (.invokevirtual 29, 3) := by decide +kernel
theorem dL_law_149 : decode cL_law 149 = .ok (.goto 250, 3) := by decide +kernel
theorem dL_law_152 : decode cL_law 152 = .ok (.aload_n 1, 1) := by decide +kernel
theorem dL_law_153 : decode cL_law 153 = .ok (.aload_n 0, 1) := by decide +kernel
theorem dL_law_154 : decode cL_law 154 = .ok (.iload_n 3, 1) := by decide +kernel
theorem dL_law_155 : decode cL_law 155 = .ok (.iconst 1, 1) := by decide +kernel
theorem dL_law_156 : decode cL_law 156 = .ok (.iadd, 1) := by decide +kernel
theorem dL_law_157 : decode cL_law 157 = .ok (.iaload, 1) := by decide +kernel
theorem dL_law_158 : decode cL_law 158 = .ok (.aload_n 0, 1) := by decide +kernel
theorem dL_law_159 : decode cL_law 159 = .ok (.iload_n 3, 1) := by decide +kernel
theorem dL_law_160 : decode cL_law 160 = .ok (.iconst 2, 1) := by decide +kernel
theorem dL_law_161 : decode cL_law 161 = .ok (.iadd, 1) := by decide +kernel
theorem dL_law_162 : decode cL_law 162 = .ok (.iaload, 1) := by decide +kernel
theorem dL_law_163 : decode cL_law 163 = .ok (.invokevirtual 30, 3) := by decide +kernel
theorem dL_law_166 : decode cL_law 166 = .ok (.aload_n 2, 1) := by decide +kernel
theorem dL_law_167 : decode cL_law 167 = .ok (.aload_n 0, 1) := by decide +kernel
theorem dL_law_168 : decode cL_law 168 = .ok (.iload_n 3, 1) := by decide +kernel
theorem dL_law_169 : decode cL_law 169 = .ok (.iconst 1, 1) := by decide +kernel
theorem dL_law_170 : decode cL_law 170 = .ok (.iadd, 1) := by decide +kernel
theorem dL_law_171 : decode cL_law 171 = .ok (.iaload, 1) := by decide +kernel
theorem dL_law_172 : decode cL_law 172 = .ok (.aload_n 0, 1) := by decide +kernel
theorem dL_law_173 : decode cL_law 173 = .ok (.iload_n 3, 1) := by decide +kernel
theorem dL_law_174 : decode cL_law 174 = .ok (.iconst 2, 1) := by decide +kernel
theorem dL_law_175 : decode cL_law 175 = .ok (.iadd, 1) := by decide +kernel
theorem dL_law_176 : decode cL_law 176 = .ok (.iaload, 1) := by decide +kernel
theorem dL_law_177 : decode cL_law 177 = .ok (.invokevirtual 34, 3) := by decide +kernel
theorem dL_law_180 : decode cL_law 180 = .ok (.if_icmp .eq 219, 3) := by decide +kernel
theorem dL_law_183 : decode cL_law 183 = .ok (.iconst 0, 1) := by decide +kernel
theorem dL_law_184 : decode cL_law 184 = .ok (.ireturn, 1) := by decide +kernel
theorem dL_law_185 : decode cL_law 185 = .ok (.aload_n 1, 1) := by decide +kernel
theorem dL_law_186 : decode cL_law 186 = .ok (.aload_n 0, 1) := by decide +kernel
theorem dL_law_187 : decode cL_law 187 = .ok (.iload_n 3, 1) := by decide +kernel
theorem dL_law_188 : decode cL_law 188 = .ok (.iconst 1, 1) := by decide +kernel
theorem dL_law_189 : decode cL_law 189 = .ok (.iadd, 1) := by decide +kernel
theorem dL_law_190 : decode cL_law 190 = .ok (.iaload, 1) := by decide +kernel
theorem dL_law_191 : decode cL_law 191 = .ok (.aload_n 0, 1) := by decide +kernel
theorem dL_law_192 : decode cL_law 192 = .ok (.iload_n 3, 1) := by decide +kernel
theorem dL_law_193 : decode cL_law 193 = .ok (.iconst 2, 1) := by decide +kernel
theorem dL_law_194 : decode cL_law 194 = .ok (.iadd, 1) := by decide +kernel
theorem dL_law_195 : decode cL_law 195 = .ok (.iaload, 1) := by decide +kernel
theorem dL_law_196 : decode cL_law 196 = .ok (.aload_n 0, 1) := by decide +kernel
theorem dL_law_197 : decode cL_law 197 = .ok (.iload_n 3, 1) := by decide +kernel
theorem dL_law_198 : decode cL_law 198 = .ok (.iconst 3, 1) := by decide +kernel
theorem dL_law_199 : decode cL_law 199 = .ok (.iadd, 1) := by decide +kernel
theorem dL_law_200 : decode cL_law 200 = .ok (.iaload, 1) := by decide +kernel
theorem dL_law_201 : decode cL_law 201 = .ok (.aload_n 0, 1) := by decide +kernel
theorem dL_law_202 : decode cL_law 202 = .ok (.iload_n 3, 1) := by decide +kernel
theorem dL_law_203 : decode cL_law 203 = .ok (.iconst 4, 1) := by decide +kernel
theorem dL_law_204 : decode cL_law 204 = .ok (.iadd, 1) := by decide +kernel
theorem dL_law_205 : decode cL_law 205 = .ok (.iaload, 1) := by decide +kernel
theorem dL_law_206 : decode cL_law 206 = .ok (.invokevirtual 35, 3) := by decide +kernel
theorem dL_law_209 : decode cL_law 209 = .ok (.aload_n 2, 1) := by decide +kernel
theorem dL_law_210 : decode cL_law 210 = .ok (.aload_n 0, 1) := by decide +kernel
theorem dL_law_211 : decode cL_law 211 = .ok (.iload_n 3, 1) := by decide +kernel
theorem dL_law_212 : decode cL_law 212 = .ok (.iconst 1, 1) := by decide +kernel
theorem dL_law_213 : decode cL_law 213 = .ok (.iadd, 1) := by decide +kernel
theorem dL_law_214 : decode cL_law 214 = .ok (.iaload, 1) := by decide +kernel
theorem dL_law_215 : decode cL_law 215 = .ok (.aload_n 0, 1) := by decide +kernel
theorem dL_law_216 : decode cL_law 216 = .ok (.iload_n 3, 1) := by decide +kernel
theorem dL_law_217 : decode cL_law 217 = .ok (.iconst 2, 1) := by decide +kernel
theorem dL_law_218 : decode cL_law 218 = .ok (.iadd, 1) := by decide +kernel
theorem dL_law_219 : decode cL_law 219 = .ok (.iaload, 1) := by decide +kernel
theorem dL_law_220 : decode cL_law 220 = .ok (.aload_n 0, 1) := by decide +kernel
theorem dL_law_221 : decode cL_law 221 = .ok (.iload_n 3, 1) := by decide +kernel
theorem dL_law_222 : decode cL_law 222 = .ok (.iconst 3, 1) := by decide +kernel
theorem dL_law_223 : decode cL_law 223 = .ok (.iadd, 1) := by decide +kernel
theorem dL_law_224 : decode cL_law 224 = .ok (.iaload, 1) := by decide +kernel
theorem dL_law_225 : decode cL_law 225 = .ok (.aload_n 0, 1) := by decide +kernel
theorem dL_law_226 : decode cL_law 226 = .ok (.iload_n 3, 1) := by decide +kernel
theorem dL_law_227 : decode cL_law 227 = .ok (.iconst 4, 1) := by decide +kernel
theorem dL_law_228 : decode cL_law 228 = .ok (.iadd, 1) := by decide +kernel
theorem dL_law_229 : decode cL_law 229 = .ok (.iaload, 1) := by decide +kernel
theorem dL_law_230 : decode cL_law 230 = .ok (.invokevirtual 39, 3) := by decide +kernel
theorem dL_law_233 : decode cL_law 233 = .ok (.if_icmp .eq 166, 3) := by decide +kernel
theorem dL_law_236 : decode cL_law 236 = .ok (.iconst 0, 1) := by decide +kernel
theorem dL_law_237 : decode cL_law 237 = .ok (.ireturn, 1) := by decide +kernel
theorem dL_law_238 : decode cL_law 238 = .ok (.aload_n 1, 1) := by decide +kernel
theorem dL_law_239 : decode cL_law 239 = .ok (.invokevirtual 40, 3) := by decide +kernel
theorem dL_law_242 : decode cL_law 242 = .ok (.aload_n 2, 1) := by decide +kernel
theorem dL_law_243 : decode cL_law 243 = .ok (.invokevirtual 44, 3) := by decide +kernel
theorem dL_law_246 : decode cL_law 246 = .ok (.if_icmp .eq 153, 3) := by decide +kernel
theorem dL_law_249 : decode cL_law 249 = .ok (.iconst 0, 1) := by decide +kernel
theorem dL_law_250 : decode cL_law 250 = .ok (.ireturn, 1) := by decide +kernel
theorem dL_law_251 : decode cL_law 251 = .ok (.aload_n 1, 1) := by decide +kernel
theorem dL_law_252 : decode cL_law 252 = .ok (.aload_n 0, 1) := by decide +kernel
theorem dL_law_253 : decode cL_law 253 = .ok (.iload_n 3, 1) := by decide +kernel
theorem dL_law_254 : decode cL_law 254 = .ok (.iconst 1, 1) := by decide +kernel
theorem dL_law_255 : decode cL_law 255 = .ok (.iadd, 1) := by decide +kernel
theorem dL_law_256 : decode cL_law 256 = .ok (.iaload, 1) := by decide +kernel
theorem dL_law_257 : decode cL_law 257 = .ok (.invokevirtual 45, 3) := by decide +kernel
theorem dL_law_260 : decode cL_law 260 = .ok (.aload_n 2, 1) := by decide +kernel
theorem dL_law_261 : decode cL_law 261 = .ok (.aload_n 0, 1) := by decide +kernel
theorem dL_law_262 : decode cL_law 262 = .ok (.iload_n 3, 1) := by decide +kernel
theorem dL_law_263 : decode cL_law 263 = .ok (.iconst 1, 1) := by decide +kernel
theorem dL_law_264 : decode cL_law 264 = .ok (.iadd, 1) := by decide +kernel
theorem dL_law_265 : decode cL_law 265 = .ok (.iaload, 1) := by decide +kernel
theorem dL_law_266 : decode cL_law 266 = .ok (.invokevirtual 49, 3) := by decide +kernel
theorem dL_law_269 : decode cL_law 269 = .ok (.if_icmp .eq 130, 3) := by decide +kernel
theorem dL_law_272 : decode cL_law 272 = .ok (.iconst 0, 1) := by decide +kernel
theorem dL_law_273 : decode cL_law 273 = .ok (.ireturn, 1) := by decide +kernel
theorem dL_law_274 : decode cL_law 274 = .ok (.aload_n 1, 1) := by decide +kernel
theorem dL_law_275 : decode cL_law 275 = .ok (.aload_n 0, 1) := by decide +kernel
theorem dL_law_276 : decode cL_law 276 = .ok (.iload_n 3, 1) := by decide +kernel
theorem dL_law_277 : decode cL_law 277 = .ok (.iconst 1, 1) := by decide +kernel
theorem dL_law_278 : decode cL_law 278 = .ok (.iadd, 1) := by decide +kernel
theorem dL_law_279 : decode cL_law 279 = .ok (.iaload, 1) := by decide +kernel
theorem dL_law_280 : decode cL_law 280 = .ok (.invokevirtual 50, 3) := by decide +kernel
theorem dL_law_283 : decode cL_law 283 = .ok (.aload_n 2, 1) := by decide +kernel
theorem dL_law_284 : decode cL_law 284 = .ok (.aload_n 0, 1) := by decide +kernel
theorem dL_law_285 : decode cL_law 285 = .ok (.iload_n 3, 1) := by decide +kernel
theorem dL_law_286 : decode cL_law 286 = .ok (.iconst 1, 1) := by decide +kernel
theorem dL_law_287 : decode cL_law 287 = .ok (.iadd, 1) := by decide +kernel
theorem dL_law_288 : decode cL_law 288 = .ok (.iaload, 1) := by decide +kernel
theorem dL_law_289 : decode cL_law 289 = .ok (.invokevirtual 53, 3) := by decide +kernel
theorem dL_law_292 : decode cL_law 292 = .ok (.if_icmp .eq 107, 3) := by decide +kernel
theorem dL_law_295 : decode cL_law 295 = .ok (.iconst 0, 1) := by decide +kernel
theorem dL_law_296 : decode cL_law 296 = .ok (.ireturn, 1) := by decide +kernel
theorem dL_law_297 : decode cL_law 297 = .ok (.aload_n 1, 1) := by decide +kernel
theorem dL_law_298 : decode cL_law 298 = .ok (.aload_n 0, 1) := by decide +kernel
theorem dL_law_299 : decode cL_law 299 = .ok (.iload_n 3, 1) := by decide +kernel
theorem dL_law_300 : decode cL_law 300 = .ok (.iconst 1, 1) := by decide +kernel
theorem dL_law_301 : decode cL_law 301 = .ok (.iadd, 1) := by decide +kernel
theorem dL_law_302 : decode cL_law 302 = .ok (.iaload, 1) := by decide +kernel
theorem dL_law_303 : decode cL_law 303 = .ok (.invokevirtual 54, 3) := by decide +kernel
theorem dL_law_306 : decode cL_law 306 = .ok (.aload_n 2, 1) := by decide +kernel
theorem dL_law_307 : decode cL_law 307 = .ok (.aload_n 0, 1) := by decide +kernel
theorem dL_law_308 : decode cL_law 308 = .ok (.iload_n 3, 1) := by decide +kernel
theorem dL_law_309 : decode cL_law 309 = .ok (.iconst 1, 1) := by decide +kernel
theorem dL_law_310 : decode cL_law 310 = .ok (.iadd, 1) := by decide +kernel
theorem dL_law_311 : decode cL_law 311 = .ok (.iaload, 1) := by decide +kernel
theorem dL_law_312 : decode cL_law 312 = .ok (.invokevirtual 57, 3) := by decide +kernel
theorem dL_law_315 : decode cL_law 315 = .ok (.if_icmp .eq 84, 3) := by decide +kernel
theorem dL_law_318 : decode cL_law 318 = .ok (.iconst 0, 1) := by decide +kernel
theorem dL_law_319 : decode cL_law 319 = .ok (.ireturn, 1) := by decide +kernel
theorem dL_law_320 : decode cL_law 320 = .ok (.aload_n 1, 1) := by decide +kernel
theorem dL_law_321 : decode cL_law 321 = .ok (.aload_n 0, 1) := by decide +kernel
theorem dL_law_322 : decode cL_law 322 = .ok (.iload_n 3, 1) := by decide +kernel
theorem dL_law_323 : decode cL_law 323 = .ok (.iconst 1, 1) := by decide +kernel
theorem dL_law_324 : decode cL_law 324 = .ok (.iadd, 1) := by decide +kernel
theorem dL_law_325 : decode cL_law 325 = .ok (.iaload, 1) := by decide +kernel
theorem dL_law_326 : decode cL_law 326 = .ok (.aload_n 0, 1) := by decide +kernel
theorem dL_law_327 : decode cL_law 327 = .ok (.iload_n 3, 1) := by decide +kernel
theorem dL_law_328 : decode cL_law 328 = .ok (.iconst 2, 1) := by decide +kernel
theorem dL_law_329 : decode cL_law 329 = .ok (.iadd, 1) := by decide +kernel
theorem dL_law_330 : decode cL_law 330 = .ok (.iaload, 1) := by decide +kernel
theorem dL_law_331 : decode cL_law 331 = .ok (.invokevirtual 58, 3) := by decide +kernel
theorem dL_law_334 : decode cL_law 334 = .ok (.aload_n 2, 1) := by decide +kernel
theorem dL_law_335 : decode cL_law 335 = .ok (.aload_n 0, 1) := by decide +kernel
theorem dL_law_336 : decode cL_law 336 = .ok (.iload_n 3, 1) := by decide +kernel
theorem dL_law_337 : decode cL_law 337 = .ok (.iconst 1, 1) := by decide +kernel
theorem dL_law_338 : decode cL_law 338 = .ok (.iadd, 1) := by decide +kernel
theorem dL_law_339 : decode cL_law 339 = .ok (.iaload, 1) := by decide +kernel
theorem dL_law_340 : decode cL_law 340 = .ok (.aload_n 0, 1) := by decide +kernel
theorem dL_law_341 : decode cL_law 341 = .ok (.iload_n 3, 1) := by decide +kernel
theorem dL_law_342 : decode cL_law 342 = .ok (.iconst 2, 1) := by decide +kernel
theorem dL_law_343 : decode cL_law 343 = .ok (.iadd, 1) := by decide +kernel
theorem dL_law_344 : decode cL_law 344 = .ok (.iaload, 1) := by decide +kernel
theorem dL_law_345 : decode cL_law 345 = .ok (.invokevirtual 61, 3) := by decide +kernel
theorem dL_law_348 : decode cL_law 348 = .ok (.if_icmp .eq 51, 3) := by decide +kernel
theorem dL_law_351 : decode cL_law 351 = .ok (.iconst 0, 1) := by decide +kernel
theorem dL_law_352 : decode cL_law 352 = .ok (.ireturn, 1) := by decide +kernel
theorem dL_law_353 : decode cL_law 353 = .ok (.aload_n 1, 1) := by decide +kernel
theorem dL_law_354 : decode cL_law 354 = .ok (.aload_n 0, 1) := by decide +kernel
theorem dL_law_355 : decode cL_law 355 = .ok (.iload_n 3, 1) := by decide +kernel
theorem dL_law_356 : decode cL_law 356 = .ok (.iconst 1, 1) := by decide +kernel
theorem dL_law_357 : decode cL_law 357 = .ok (.iadd, 1) := by decide +kernel
theorem dL_law_358 : decode cL_law 358 = .ok (.iaload, 1) := by decide +kernel
theorem dL_law_359 : decode cL_law 359 = .ok (.aload_n 0, 1) := by decide +kernel
theorem dL_law_360 : decode cL_law 360 = .ok (.iload_n 3, 1) := by decide +kernel
theorem dL_law_361 : decode cL_law 361 = .ok (.iconst 2, 1) := by decide +kernel
theorem dL_law_362 : decode cL_law 362 = .ok (.iadd, 1) := by decide +kernel
theorem dL_law_363 : decode cL_law 363 = .ok (.iaload, 1) := by decide +kernel
theorem dL_law_364 : decode cL_law 364 = .ok (.invokevirtual 62, 3) := by decide +kernel
theorem dL_law_367 : decode cL_law 367 = .ok (.aload_n 2, 1) := by decide +kernel
theorem dL_law_368 : decode cL_law 368 = .ok (.aload_n 0, 1) := by decide +kernel
theorem dL_law_369 : decode cL_law 369 = .ok (.iload_n 3, 1) := by decide +kernel
theorem dL_law_370 : decode cL_law 370 = .ok (.iconst 1, 1) := by decide +kernel
theorem dL_law_371 : decode cL_law 371 = .ok (.iadd, 1) := by decide +kernel
theorem dL_law_372 : decode cL_law 372 = .ok (.iaload, 1) := by decide +kernel
theorem dL_law_373 : decode cL_law 373 = .ok (.aload_n 0, 1) := by decide +kernel
theorem dL_law_374 : decode cL_law 374 = .ok (.iload_n 3, 1) := by decide +kernel
theorem dL_law_375 : decode cL_law 375 = .ok (.iconst 2, 1) := by decide +kernel
theorem dL_law_376 : decode cL_law 376 = .ok (.iadd, 1) := by decide +kernel
theorem dL_law_377 : decode cL_law 377 = .ok (.iaload, 1) := by decide +kernel
theorem dL_law_378 : decode cL_law 378 = .ok (.invokevirtual 66, 3) := by decide +kernel
theorem dL_law_381 : decode cL_law 381 = .ok (.if_icmp .eq 18, 3) := by decide +kernel
theorem dL_law_384 : decode cL_law 384 = .ok (.iconst 0, 1) := by decide +kernel
theorem dL_law_385 : decode cL_law 385 = .ok (.ireturn, 1) := by decide +kernel
theorem dL_law_386 : decode cL_law 386 = .ok (.aload_n 1, 1) := by decide +kernel
theorem dL_law_387 : decode cL_law 387 = .ok (.invokevirtual 67, 3) := by decide +kernel
theorem dL_law_390 : decode cL_law 390 = .ok (.aload_n 2, 1) := by decide +kernel
theorem dL_law_391 : decode cL_law 391 = .ok (.invokevirtual 70, 3) := by decide +kernel
theorem dL_law_394 : decode cL_law 394 = .ok (.if_icmp .eq 5, 3) := by decide +kernel
theorem dL_law_397 : decode cL_law 397 = .ok (.iconst 0, 1) := by decide +kernel
theorem dL_law_398 : decode cL_law 398 = .ok (.ireturn, 1) := by decide +kernel
theorem dL_law_399 : decode cL_law 399 = .ok (.iinc 3 5, 3) := by decide +kernel
theorem dL_law_402 : decode cL_law 402 = .ok (.goto (-354), 3) := by decide +kernel
theorem dL_law_405 : decode cL_law 405 = .ok (.iconst 1, 1) := by decide +kernel
theorem dL_law_406 : decode cL_law 406 = .ok (.ireturn, 1) := by decide +kernel
end
section
/-! BASE: the worlds of the two classes, and rows by which a method is walked (my own, over the kit's) -/
set_option maxRecDepth 100000
abbrev vwCl : List vw_C := [(RX1, TX1, 19), (RX2, TX2, 17)]
abbrev oP (a : Nat → Nat) (w h C n : Nat) (x0 y0 x1 y1 : Int32) (mn : Nat) : List Value := [.ref (a 1), .ref (a 2), .ref (a 3), .ref (a 4), .ref (a 5), .ref (a 6), .ref (a 7), .ref (a 8), .int (nI w), .int (nI h), .int (nI C), .int (nI n), .int x0, .int y0, .int x1, .int y1, .int (nI mn), .ref (a 9), .ref (a 10)]
abbrev wP (d : ClassId) (a : Nat → Nat) (px py qx qy fr tb ac la sx sy : Nat → Int32) (w h C n : Nat) (x0 y0 x1 y1 : Int32) (mn : Nat) : va_W := [(a 0, .inr (0, oP a w h C n x0 y0 x1 y1 mn)), (a 1, .inl (d, 60, .inl px)), (a 2, .inl (d, 60, .inl py)), (a 3, .inl (d, 60, .inl qx)), (a 4, .inl (d, 60, .inl qy)), (a 5, .inl (d, 576, .inl fr)), (a 6, .inl (d, 60, .inl tb)), (a 7, .inl (d, 60, .inl ac)), (a 8, .inl (d, 60, .inl la)), (a 9, .inl (d, 60, .inl sx)), (a 10, .inl (d, 60, .inl sy))]
abbrev oM (b : Nat → Nat) (w h C n fm tn : Nat) (x0 x1 y0 y1 : Int32) : List Value := [.int (nI w), .int (nI h), .int (nI C), .ref (b 1), .ref (b 2), .ref (b 3), .int (nI n), .ref (b 4), .ref (b 5), .ref (b 6), .ref (b 7), .int (nI fm), .int (nI tn), .int x0, .int x1, .int y0, .int y1]
abbrev wM (d : ClassId) (b : Nat → Nat) (pi xs ys fx fy tx ty : Nat → Int32) (w h C n fm tn : Nat) (x0 x1 y0 y1 : Int32) : va_W := [(b 0, .inr (1, oM b w h C n fm tn x0 x1 y0 y1)), (b 1, .inl (d, 576, .inl pi)), (b 2, .inl (d, 60, .inl xs)), (b 3, .inl (d, 60, .inl ys)), (b 4, .inl (d, 60, .inl fx)), (b 5, .inl (d, 60, .inl fy)), (b 6, .inl (d, 60, .inl tx)), (b 7, .inl (d, 60, .inl ty))]
abbrev PcR (av : List Value) (D : va_G) (ws : va_W) (tys : List (ClassId × FieldType)) : Array Value → State → Prop := va_Pc av (fun U => va_P D vwCl ws U.heap ∧ va_K D vwCl tys U)
abbrev PcM (av : List Value) (D : va_G) (ws : va_W) (tys : List (ClassId × FieldType)) (sz : Nat) : Array Value → State → Prop := va_Pc av (fun U => U.heap.size = sz ∧ va_P D vwCl ws U.heap ∧ va_K D vwCl tys U ∧ va_D (fun _ => True) ws)
abbrev PcS (av : List Value) : Array Value → State → Prop := fun v _ => v = av.toArray
abbrev QB (D : va_G) (tys : List (ClassId × FieldType)) (A : Nat → Prop) (ws : va_W) (t : State) : Prop := va_P D vwCl ws t.heap ∧ va_K D vwCl tys t ∧ va_D A ws
abbrev rm_ (f k : Nat) : Room := { frames := f, cells := 0, slots := 0, locals := k }
theorem fbR {av : List Value} {D : va_G} {ws : va_W} {tys : List (ClassId × FieldType)} : FrameBlind (PcR av D ws tys) := fun a U g mk q => ⟨q.1, q.2.1, va_K.moved (u := U) (U := U.calling g mk a) (Vm.Alike.refl U.vm) q.2.2⟩
theorem fbM {av : List Value} {D : va_G} {ws : va_W} {tys : List (ClassId × FieldType)} {sz : Nat} : FrameBlind (PcM av D ws tys sz) := fun a U g mk q => ⟨q.1, q.2.1, q.2.2.1, va_K.moved (u := U) (U := U.calling g mk a) (Vm.Alike.refl U.vm) q.2.2.2.1, q.2.2.2.2⟩
/-- what a callee's words are, once a method: through an object, static -/
def VI (C : String) (y : MethodName) (b : ByteArray) (L : Nat) (r : Option FieldType) (n : Nat) : Prop := Cond.instanceMethod y ∈ lw_all ∧ Cond.selects C y y ∈ lw_all ∧ Cond.initialized C ∈ lw_all ∧ Cond.code y b L r ∈ lw_all ∧ (y.cls = C ∧ y.cls ≠ "java/lang/invoke/MethodHandle" ∧ y.cls ≠ "java/lang/invoke/VarHandle" ∧ (parseMethodDescriptor y.desc).map (fun d => d.parameters.length) = some n)
def SI (y : MethodName) (b : ByteArray) (L : Nat) (r : Option FieldType) (n : Nat) : Prop := Cond.static y ∈ lw_all ∧ Cond.initialized y.cls ∈ lw_all ∧ Cond.code y b L r ∈ lw_all ∧ (y.cls ≠ "java/lang/invoke/MethodHandle" ∧ y.cls ≠ "java/lang/invoke/VarHandle" ∧ (parseMethodDescriptor y.desc).map (fun d => d.parameters.length) = some n)
section XB
variable {p : Program} {l : Launch} {e : Env} {R : Room} {s : State} {m : MethodId} {args : Array Value} {below : List Frame} {meth : Method} {c : Code} {H : Heap} {locs : List Loc} {cells slots : Nat} {Q : State → Prop}
variable {cc : ByteArray} {pc nL : Nat} {ls : Array Slot} {rest st0 : List Value} {D : va_G} {A : Nat → Prop} {a : Nat} {tys : List (ClassId × FieldType)} {ws : va_W} {H0 : Heap}
theorem xtopi {x y : Int32} (h : x = y) (k : W p l e R s m args below meth c H locs cells slots Q (F0 m pc ls (.int y :: rest))) : W p l e R s m args below meth c H locs cells slots Q (F0 m pc ls (.int x :: rest)) := by
  subst h
  exact k
theorem xtopl {x y : Int64} (h : x = y) (k : W p l e R s m args below meth c H locs cells slots Q (F0 m pc ls (.long y :: rest))) : W p l e R s m args below meth c H locs cells slots Q (F0 m pc ls (.long x :: rest)) := by
  subst h
  exact k
theorem xald (hx : p.tables.exec = Jvm.exec) (hb : c.code = cc) (hK : va_K D vwCl tys s) (hP : va_P D vwCl ws H) (q0 t0 : Nat) {cA : ClassId} {n : Nat} {f : Nat → Int32} (ha : ws[q0]? = some (a, .inl (cA, n, .inl f))) (ht : tys[t0]? = some (cA, .int)) {j : Nat} (hn : n < 2 ^ 31) (hdg : decode cc pc = .ok (.iaload, 1)) (hj : j < n)
    (kk : W p l e R s m args below meth c H locs cells slots Q (F0 m (pc + 1) ls (.int (f j) :: rest))) : W p l e R s m args below meth c H locs cells slots Q (F0 m pc ls (.int (nI j) :: .ref a :: rest)) := by
  refine va_iald hx hb hK hP q0 t0 ha ht (vp_in_nI hj hn) hdg ?_
  rw [nI_clamp (Nat.lt_trans hj hn)]
  exact kk
theorem xast (hx : p.tables.exec = Jvm.exec) (hb : c.code = cc) (hK : va_K D vwCl tys s) (hP : va_P D vwCl ws H) (hD : va_D A ws) (hS : va_S A H0 H locs) (q0 t0 : Nat) {cA : ClassId} {n : Nat} {f : Nat → Int32} (ha : ws[q0]? = some (a, .inl (cA, n, .inl f))) (ht : tys[t0]? = some (cA, .int)) {j : Nat} {x : Int32} (hn : n < 2 ^ 31) (hdg : decode cc pc = .ok (.iastore, 1)) (hj : j < n)
    (kk : ∀ (H1 : Heap) (locs1 : List Loc), va_P D vwCl (ws.set q0 (a, .inl (cA, n, .inl (upd f j x)))) H1 → va_D A (ws.set q0 (a, .inl (cA, n, .inl (upd f j x)))) → va_S A H0 H1 locs1 → W p l e R s m args below meth c H1 locs1 cells slots Q (F0 m (pc + 1) ls rest)) : W p l e R s m args below meth c H locs cells slots Q (F0 m pc ls (.int x :: .int (nI j) :: .ref a :: rest)) := by
  refine va_iast hx hb hK hP hD hS q0 t0 ha ht (vp_in_nI hj hn) hdg ?_
  rw [nI_clamp (Nat.lt_trans hj hn)]
  exact kk
/-- a field of an object of the first class, of the second -/
theorem xget1 (S : CallFix p m c cc nL s args lw_all RX1) (hK : va_K D vwCl tys s) (hP : va_P D vwCl ws H) (q0 : Nat) {fs : List Value} (he : ws[q0]? = some (a, .inr (0, fs))) (k : Nat) (hk : k < 19) {index : Nat} (hq : Cond.fieldLink RX1 index RX1 (TX1 k).2.1 (TX1 k).2.2.1 ∈ lw_all) (h1 : (TX1 k).1 = RX1) {v : Value} (hv : fs[k]? = some v) (hdg : decode cc pc = .ok (.getfield index, 3))
    (kk : W p l e R s m args below meth c H locs cells slots Q (F0 m (pc + 3) ls (v :: rest))) : W p l e R s m args below meth c H locs cells slots Q (F0 m pc ls (.ref a :: rest)) :=
  va_get (own := RX1) (ref := RX1) (C := RX1) (T := TX1) (N := 19) (ci := 0) S.1 S.2.1 S.2.2.2.2 in_X1 S.2.2.2.1 hK hP q0 he rfl k hk (S.2.2.2.2 _ hq) (fun x h => by rw [h1] at h; exact h) hv hdg kk
theorem xget2 (S : CallFix p m c cc nL s args lw_all RX2) (hK : va_K D vwCl tys s) (hP : va_P D vwCl ws H) (q0 : Nat) {fs : List Value} (he : ws[q0]? = some (a, .inr (1, fs))) (k : Nat) (hk : k < 17) {index : Nat} (hq : Cond.fieldLink RX2 index RX2 (TX2 k).2.1 (TX2 k).2.2.1 ∈ lw_all) (h1 : (TX2 k).1 = RX2) {v : Value} (hv : fs[k]? = some v) (hdg : decode cc pc = .ok (.getfield index, 3))
    (kk : W p l e R s m args below meth c H locs cells slots Q (F0 m (pc + 3) ls (v :: rest))) : W p l e R s m args below meth c H locs cells slots Q (F0 m pc ls (.ref a :: rest)) :=
  va_get (own := RX2) (ref := RX2) (C := RX2) (T := TX2) (N := 17) (ci := 1) S.1 S.2.1 S.2.2.2.2 in_X2 S.2.2.2.1 hK hP q0 he rfl k hk (S.2.2.2.2 _ hq) (fun x h => by rw [h1] at h; exact h) hv hdg kk
/-- an int field is written -/
theorem xput1 (S : CallFix p m c cc nL s args lw_all RX1) (hK : va_K D vwCl tys s) (hP : va_P D vwCl ws H) (hD : va_D A ws) (hS : va_S A H0 H locs) (q0 : Nat) {fs : List Value} (he : ws[q0]? = some (a, .inr (0, fs))) (k : Nat) (hk : k < 19) {index : Nat} (hq : Cond.fieldLink RX1 index RX1 (TX1 k).2.1 (TX1 k).2.2.1 ∈ lw_all) (h1 : (TX1 k).1 = RX1) (hfin : (TX1 k).2.2.2 = false) (hd : parseFieldDescriptor (TX1 k).2.2.1 = some .int) {x : Int32} (hl : k < fs.length) (hdg : decode cc pc = .ok (.putfield index, 3))
    (kk : ∀ (H1 : Heap) (locs1 : List Loc), va_P D vwCl (ws.set q0 (a, .inr (0, fs.set k (.int x)))) H1 → va_D A (ws.set q0 (a, .inr (0, fs.set k (.int x)))) → va_S A H0 H1 locs1 → W p l e R s m args below meth c H1 locs1 cells slots Q (F0 m (pc + 3) ls rest)) : W p l e R s m args below meth c H locs cells slots Q (F0 m pc ls (.int x :: .ref a :: rest)) :=
  va_put (own := RX1) (ref := RX1) (C := RX1) (T := TX1) (N := 19) (ci := 0) (v := .int x) (ty := .int) S.1 S.2.1 S.2.2.2.2 in_X1 tyX1 tyX1_ok nmX1 S.2.2.2.1 hK hP hD hS q0 he rfl k hk (S.2.2.2.2 _ hq) (fun x h => by rw [h1] at h; exact h) hfin hd rfl rfl hl hdg kk
theorem xput2 (S : CallFix p m c cc nL s args lw_all RX2) (hK : va_K D vwCl tys s) (hP : va_P D vwCl ws H) (hD : va_D A ws) (hS : va_S A H0 H locs) (q0 : Nat) {fs : List Value} (he : ws[q0]? = some (a, .inr (1, fs))) (k : Nat) (hk : k < 17) {index : Nat} (hq : Cond.fieldLink RX2 index RX2 (TX2 k).2.1 (TX2 k).2.2.1 ∈ lw_all) (h1 : (TX2 k).1 = RX2) (hfin : (TX2 k).2.2.2 = false) (hd : parseFieldDescriptor (TX2 k).2.2.1 = some .int) {x : Int32} (hl : k < fs.length) (hdg : decode cc pc = .ok (.putfield index, 3))
    (kk : ∀ (H1 : Heap) (locs1 : List Loc), va_P D vwCl (ws.set q0 (a, .inr (1, fs.set k (.int x)))) H1 → va_D A (ws.set q0 (a, .inr (1, fs.set k (.int x)))) → va_S A H0 H1 locs1 → W p l e R s m args below meth c H1 locs1 cells slots Q (F0 m (pc + 3) ls rest)) : W p l e R s m args below meth c H locs cells slots Q (F0 m pc ls (.int x :: .ref a :: rest)) :=
  va_put (own := RX2) (ref := RX2) (C := RX2) (T := TX2) (N := 17) (ci := 1) (v := .int x) (ty := .int) S.1 S.2.1 S.2.2.2.2 in_X2 tyX2 tyX2_ok nmX2 S.2.2.2.1 hK hP hD hS q0 he rfl k hk (S.2.2.2.2 _ hq) (fun x h => by rw [h1] at h; exact h) hfin hd rfl rfl hl hdg kk
/-- a call that changes nothing, of a method of the object b, with an int answer -/
theorem xcRi {own : String} {idx : Nat} {y : MethodName} {b : Nat} {bytes : ByteArray} {maxL : Nat} {ret : Option FieldType} {rm : Room} (As : List Value) {post : Int32 → Prop} {q : vw_C} {ci q0 : Nat} {fs : List Value}
    (S : CallFix p m c cc nL s args lw_all own) (hM : Met l y (ws_ y bytes maxL ret) rm (PcR (.ref b :: As) D ws tys) (vp_Si post) 0 0 (fun _ => False)) (hl : Cond.methodLink own idx y ∈ lw_all) (hv : VI q.1 y bytes maxL ret As.length) (hrm : rm.cells = 0 ∧ rm.slots = 0) (hR : rm.frames + 1 ≤ R.frames ∧ 8 + (maxL + 11) + rm.locals ≤ R.locals) (hf : cells ≤ R.cells ∧ slots ≤ R.slots)
    (hK : va_K D vwCl tys s) (hP : va_P D vwCl ws H) (hc : vwCl[ci]? = some q) (he : ws[q0]? = some (b, .inr (ci, fs))) (hsz : ls.size = nL) (hst : st0 = As.reverse ++ .ref b :: rest) (hw : (rest.map fun v => v.category).sum ≤ 8) (hdg : decode cc pc = .ok (.invokevirtual idx, 3))
    (kk : ∀ r : Int32, post r → W p l e R s m args below meth c H locs cells slots Q (F0 m (pc + 3) ls (.int r :: rest))) : W p l e R s m args below meth c H locs cells slots Q (F0 m pc ls st0) :=
  vp_callSi (W.runV (As := As) (rest := rest) S hM (cwV As.length S.2.2.2.2 (lw_V hl hv.1 hv.2.1 hv.2.2.1 hv.2.2.2.1) rfl hrm.1 hrm.2 hv.2.2.2.2 hR) ⟨fbR, va_recv hK hP hc he, fun U hU hW => ⟨rfl, by rw [hU]; exact hP, va_K.moved hW.alike hK⟩⟩ rfl rfl hsz hst (lv_room hw) hdg hf) kk
/-- a static call that changes nothing, with an int, a long answer -/
theorem xcSi {own : String} {idx : Nat} {y : MethodName} {bytes : ByteArray} {maxL : Nat} {ret : Option FieldType} {rm : Room} (As : List Value) {post : Int32 → Prop}
    (S : CallFix p m c cc nL s args lw_all own) (hM : Met l y (ws_ y bytes maxL ret) rm (PcS As) (vp_Si post) 0 0 (fun _ => False)) (hl : Cond.methodLink own idx y ∈ lw_all) (hv : SI y bytes maxL ret As.length) (hrm : rm.cells = 0 ∧ rm.slots = 0) (hR : rm.frames + 1 ≤ R.frames ∧ 8 + (maxL + 11) + rm.locals ≤ R.locals) (hf : cells ≤ R.cells ∧ slots ≤ R.slots)
    (hsz : ls.size = nL) (hst : st0 = As.reverse ++ rest) (hw : (rest.map fun v => v.category).sum ≤ 8) (hdg : decode cc pc = .ok (.invokestatic idx, 3))
    (kk : ∀ r : Int32, post r → W p l e R s m args below meth c H locs cells slots Q (F0 m (pc + 3) ls (.int r :: rest))) : W p l e R s m args below meth c H locs cells slots Q (F0 m pc ls st0) :=
  vp_callSi (W.runS (As := As) (rest := rest) S hM (va_cwS As.length S.2.2.2.2 (lw_S hl hv.1 hv.2.1 hv.2.2.1) rfl hrm.1 hrm.2 hv.2.2.2 hR) preEq rfl rfl hsz hst (lv_room hw) hdg hf) kk
theorem xcSl {own : String} {idx : Nat} {y : MethodName} {bytes : ByteArray} {maxL : Nat} {ret : Option FieldType} {rm : Room} (As : List Value) {post : Int64 → Prop}
    (S : CallFix p m c cc nL s args lw_all own) (hM : Met l y (ws_ y bytes maxL ret) rm (PcS As) (vp_Sl post) 0 0 (fun _ => False)) (hl : Cond.methodLink own idx y ∈ lw_all) (hv : SI y bytes maxL ret As.length) (hrm : rm.cells = 0 ∧ rm.slots = 0) (hR : rm.frames + 1 ≤ R.frames ∧ 8 + (maxL + 11) + rm.locals ≤ R.locals) (hf : cells ≤ R.cells ∧ slots ≤ R.slots)
    (hsz : ls.size = nL) (hst : st0 = As.reverse ++ rest) (hw : (rest.map fun v => v.category).sum ≤ 8) (hdg : decode cc pc = .ok (.invokestatic idx, 3))
    (kk : ∀ r : Int64, post r → W p l e R s m args below meth c H locs cells slots Q (F0 m (pc + 3) ls (.long r :: rest))) : W p l e R s m args below meth c H locs cells slots Q (F0 m pc ls st0) :=
  vp_callSl (W.runS (As := As) (rest := rest) S hM (va_cwS As.length S.2.2.2.2 (lw_S hl hv.1 hv.2.1 hv.2.2.1) rfl hrm.1 hrm.2 hv.2.2.2 hR) preEq rfl rfl hsz hst (lv_room hw) hdg hf) kk
theorem xfree {X : va_W} (hD : va_D A X) (hS : va_S A H0 H locs) (hA : ∀ q, H0.size ≤ q → A q) : ∀ q, va_A X H.size q → A q := by
  intro q hq
  rcases hq with ⟨k, e, h⟩ | h
  · exact hD.2 k (q, e) h
  · exact hA q (Nat.le_trans hS.1 h)
/-- a call that changes the object's own world: an int answer, none -/
theorem xcMi {own : String} {idx : Nat} {y : MethodName} {b : Nat} {bytes : ByteArray} {maxL : Nat} {ret : Option FieldType} {rm : Room} (As : List Value) {U : Type} {post : Int32 → U → Prop} {wf : U → va_W} {q : vw_C} {ci q0 : Nat} {fs : List Value}
    (S : CallFix p m c cc nL s args lw_all own) (hM : Met l y (ws_ y bytes maxL ret) rm (PcM (.ref b :: As) D ws tys H.size) (va_Qi post (fun u t => QB D tys (va_A ws H.size) (wf u) t) (va_A ws H.size)) 0 0 (va_A ws H.size)) (hl : Cond.methodLink own idx y ∈ lw_all) (hv : VI q.1 y bytes maxL ret As.length) (hrm : rm.cells = 0 ∧ rm.slots = 0) (hR : rm.frames + 1 ≤ R.frames ∧ 8 + (maxL + 11) + rm.locals ≤ R.locals) (hf : cells ≤ R.cells ∧ slots ≤ R.slots)
    (hK : va_K D vwCl tys s) (hP : va_P D vwCl ws H) (hD : va_D A ws) (hS : va_S A H0 H locs) (hA : ∀ q, H0.size ≤ q → A q) (hc : vwCl[ci]? = some q) (he : ws[q0]? = some (b, .inr (ci, fs))) (hsz : ls.size = nL) (hst : st0 = As.reverse ++ .ref b :: rest) (hw : (rest.map fun v => v.category).sum ≤ 8) (hdg : decode cc pc = .ok (.invokevirtual idx, 3))
    (kk : ∀ (r : Int32) (u : U) (H1 : Heap) (locs1 : List Loc), post r u → va_P D vwCl (wf u) H1 → va_D A (wf u) → va_S A H0 H1 locs1 → W p l e R s m args below meth c H1 locs1 cells slots Q (F0 m (pc + 3) ls (.int r :: rest))) : W p l e R s m args below meth c H locs cells slots Q (F0 m pc ls st0) := by
  have hF := xfree hD hS hA
  refine va_calli (va_runV (As := As) (rest := rest) S hM (cwV As.length S.2.2.2.2 (lw_V hl hv.1 hv.2.1 hv.2.2.1 hv.2.2.2.1) rfl hrm.1 hrm.2 hv.2.2.2.2 hR) ⟨fbM, va_recv hK hP hc he, fun U hU hW => ⟨rfl, by rw [hU], by rw [hU]; exact hP, va_K.moved hW.alike hK, hD.weaken (fun _ _ _ _ => trivial)⟩⟩ rfl rfl hsz hst (lv_room hw) hdg hf) hS (fun q _ h => hF q h) hF (fun r u t H1 locs1 ht hvm hp hB hz hk hS1 => ?_)
  obtain ⟨hP1, -, hD1⟩ := hB
  rw [ht] at hP1
  exact kk r u H1 locs1 hp hP1 (hD1.weaken (fun _ q _ h => hF q.1 h)) hS1
theorem xcMv {own : String} {idx : Nat} {y : MethodName} {b : Nat} {bytes : ByteArray} {maxL : Nat} {ret : Option FieldType} {rm : Room} (As : List Value) {U : Type} {post : U → Prop} {wf : U → va_W} {q : vw_C} {ci q0 : Nat} {fs : List Value}
    (S : CallFix p m c cc nL s args lw_all own) (hM : Met l y (ws_ y bytes maxL ret) rm (PcM (.ref b :: As) D ws tys H.size) (va_Qv post (fun u t => QB D tys (va_A ws H.size) (wf u) t) (va_A ws H.size)) 0 0 (va_A ws H.size)) (hl : Cond.methodLink own idx y ∈ lw_all) (hv : VI q.1 y bytes maxL ret As.length) (hrm : rm.cells = 0 ∧ rm.slots = 0) (hR : rm.frames + 1 ≤ R.frames ∧ 8 + (maxL + 11) + rm.locals ≤ R.locals) (hf : cells ≤ R.cells ∧ slots ≤ R.slots)
    (hK : va_K D vwCl tys s) (hP : va_P D vwCl ws H) (hD : va_D A ws) (hS : va_S A H0 H locs) (hA : ∀ q, H0.size ≤ q → A q) (hc : vwCl[ci]? = some q) (he : ws[q0]? = some (b, .inr (ci, fs))) (hsz : ls.size = nL) (hst : st0 = As.reverse ++ .ref b :: rest) (hw : (rest.map fun v => v.category).sum ≤ 8) (hdg : decode cc pc = .ok (.invokevirtual idx, 3))
    (kk : ∀ (u : U) (H1 : Heap) (locs1 : List Loc), post u → va_P D vwCl (wf u) H1 → va_D A (wf u) → va_S A H0 H1 locs1 → W p l e R s m args below meth c H1 locs1 cells slots Q (F0 m (pc + 3) ls rest)) : W p l e R s m args below meth c H locs cells slots Q (F0 m pc ls st0) := by
  have hF := xfree hD hS hA
  refine va_callv (va_runV (As := As) (rest := rest) S hM (cwV As.length S.2.2.2.2 (lw_V hl hv.1 hv.2.1 hv.2.2.1 hv.2.2.2.1) rfl hrm.1 hrm.2 hv.2.2.2.2 hR) ⟨fbM, va_recv hK hP hc he, fun U hU hW => ⟨rfl, by rw [hU], by rw [hU]; exact hP, va_K.moved hW.alike hK, hD.weaken (fun _ _ _ _ => trivial)⟩⟩ rfl rfl hsz hst (lv_room hw) hdg hf) hS (fun q _ h => hF q h) hF (fun u t H1 locs1 ht hvm hp hB hz hk hS1 => ?_)
  obtain ⟨hP1, -, hD1⟩ := hB
  rw [ht] at hP1
  exact kk u H1 locs1 hp hP1 (hD1.weaken (fun _ q _ h => hF q.1 h)) hS1
/-- a loop: any state of it, by a measure that falls; the heap moves, or not -/
theorem xloop {α : Type} (μ : α → Nat) (J : α → Heap → List Loc → JFrame → Prop)
    (h : ∀ (x : α) (H : Heap) (locs : List Loc) (g : JFrame), J x H locs g → (∀ (x' : α) (H' : Heap) (locs' : List Loc) (g' : JFrame), μ x' < μ x → J x' H' locs' g' → W p l e R s m args below meth c H' locs' cells slots Q g') → W p l e R s m args below meth c H locs cells slots Q g)
    (x : α) {g : JFrame} (hJ : J x H locs g) : W p l e R s m args below meth c H locs cells slots Q g := by
  have key : ∀ (n : Nat) (x : α) (H : Heap) (locs : List Loc) (g : JFrame), μ x < n → J x H locs g → W p l e R s m args below meth c H locs cells slots Q g := by
    intro n
    induction n with
    | zero => intro x H locs g h0; exact absurd h0 (Nat.not_lt_zero _)
    | succ n ih => intro x H locs g h0 hJ; exact h x H locs g hJ (fun x' H' locs' g' h1 h2 => ih x' H' locs' g' (Nat.lt_of_lt_of_le h1 (Nat.le_of_lt_succ h0)) h2)
  exact key (μ x + 1) x H locs g (Nat.lt_succ_self _) hJ
theorem xloopR {α : Type} (μ : α → Nat) (J : α → JFrame → Prop)
    (h : ∀ (x : α) (g : JFrame), J x g → (∀ (x' : α) (g' : JFrame), μ x' < μ x → J x' g' → W p l e R s m args below meth c H locs cells slots Q g') → W p l e R s m args below meth c H locs cells slots Q g)
    (x : α) {g : JFrame} (hJ : J x g) : W p l e R s m args below meth c H locs cells slots Q g := by
  have key : ∀ (n : Nat) (x : α) (g : JFrame), μ x < n → J x g → W p l e R s m args below meth c H locs cells slots Q g := by
    intro n
    induction n with
    | zero => intro x g h0; exact absurd h0 (Nat.not_lt_zero _)
    | succ n ih => intro x g h0 hJ; exact h x g hJ (fun x' g' h1 h2 => ih x' g' (Nat.lt_of_lt_of_le h1 (Nat.le_of_lt_succ h0)) h2)
  exact key (μ x + 1) x g (Nat.lt_succ_self _) hJ
/-- ways that meet again: the heap moves, or not -/
theorem xjoin {α : Type} (J : α → Heap → List Loc → JFrame → Prop) {g : JFrame} (h1 : (∀ (x : α) (H' : Heap) (locs' : List Loc) (g' : JFrame), J x H' locs' g' → W p l e R s m args below meth c H' locs' cells slots Q g') → W p l e R s m args below meth c H locs cells slots Q g)
    (h2 : ∀ (x : α) (H' : Heap) (locs' : List Loc) (g' : JFrame), J x H' locs' g' → W p l e R s m args below meth c H' locs' cells slots Q g') : W p l e R s m args below meth c H locs cells slots Q g := h1 h2
theorem xjoinR {α : Type} (J : α → JFrame → Prop) {g : JFrame} (h1 : (∀ (x : α) (g' : JFrame), J x g' → W p l e R s m args below meth c H locs cells slots Q g') → W p l e R s m args below meth c H locs cells slots Q g)
    (h2 : ∀ (x : α) (g' : JFrame), J x g' → W p l e R s m args below meth c H locs cells slots Q g') : W p l e R s m args below meth c H locs cells slots Q g := h1 h2
theorem xmeet {g g2 : JFrame} (h1 : W p l e R s m args below meth c H locs cells slots Q g2 → W p l e R s m args below meth c H locs cells slots Q g) (h2 : W p l e R s m args below meth c H locs cells slots Q g2) : W p l e R s m args below meth c H locs cells slots Q g := h1 h2
/-- the ends -/
theorem xretSi (hx : p.tables.exec = Jvm.exec) (hb : c.code = cc) {ty : FieldType} (hr : meth.sig.returnType = some ty) (hlk : meth.locks = false) {v : Int32} {post : Int32 → Prop} {free : Addr → Prop} (hdg : decode cc pc = .ok (.ireturn, 1)) (hn : narrow ty (.int v) = .int v) (hp : post v) : W p l e R s m args below meth c s.heap [] cells slots (MQ below (vp_Si post) args s cells slots free) (F0 m pc ls [.int v]) :=
  W.zret hx hb hr hn (fun t ht _ => ⟨v, rfl, hp, ht⟩) (fun _ h => by cases h) hdg hlk
theorem xretSl (hx : p.tables.exec = Jvm.exec) (hb : c.code = cc) (hr : meth.sig.returnType = some .long) (hlk : meth.locks = false) {v : Int64} {post : Int64 → Prop} {free : Addr → Prop} (hdg : decode cc pc = .ok (.lreturn, 1)) (hp : post v) : W p l e R s m args below meth c s.heap [] cells slots (MQ below (vp_Sl post) args s cells slots free) (F0 m pc ls [.long v]) :=
  W.lret hx hb hr (fun t ht _ => ⟨v, rfl, hp, ht⟩) (fun _ h => by cases h) hdg hlk
theorem xretMi (hx : p.tables.exec = Jvm.exec) (hb : c.code = cc) {ty : FieldType} (hr : meth.sig.returnType = some ty) (hlk : meth.locks = false) {v : Int32} {U : Type} {post : Int32 → U → Prop} {wf : U → va_W} (hK : va_K D vwCl tys s) (hS : va_S A s.heap H locs) (hdg : decode cc pc = .ok (.ireturn, 1)) (hn : narrow ty (.int v) = .int v) (u : U) (hP : va_P D vwCl (wf u) H) (hD : va_D A (wf u)) (hp : post v u) : W p l e R s m args below meth c H locs cells slots (MQ below (va_Qi post (fun u t => QB D tys A (wf u) t) A) args s cells slots A) (F0 m pc ls [.int v]) :=
  W.zret hx hb hr hn (fun t ht hW => ⟨⟨v, u, rfl, hp, by rw [ht]; exact hP, va_K.moved hW.alike hK, hD⟩, hS.F ht⟩) hS.2.2 hdg hlk
theorem xretMv (hx : p.tables.exec = Jvm.exec) (hb : c.code = cc) (hr : meth.sig.returnType = none) (hlk : meth.locks = false) {U : Type} {post : U → Prop} {wf : U → va_W} (hK : va_K D vwCl tys s) (hS : va_S A s.heap H locs) (hdg : decode cc pc = .ok (.return_, 1)) (u : U) (hP : va_P D vwCl (wf u) H) (hD : va_D A (wf u)) (hp : post u) : W p l e R s m args below meth c H locs cells slots (MQ below (va_Qv post (fun u t => QB D tys A (wf u) t) A) args s cells slots A) (F0 m pc ls []) :=
  W.vret hx hb hr (fun t ht hW => ⟨⟨u, rfl, hp, by rw [ht]; exact hP, va_K.moved hW.alike hK, hD⟩, hS.F ht⟩) hS.2.2 hdg hlk
end XB
/-- contracts from walks: of a static method; of one that changes nothing; of one that changes its world -/
theorem xMetS {l : Launch} {y : MethodName} {bytes : ByteArray} {maxL : Nat} {ret : Option FieldType} {rm : Room} {av : List Value} {Qc : Array Value → State → Outcome → State → Prop} (hy : plainName y.cls = true) (hn : (lg_sl av).length ≤ maxL)
    (body : ∀ (p : Program) (e : Env) (s : State) (m : MethodId) (below : List Frame) (meth : Method) (c : Code) (ls : Array Slot), CallFix p m c bytes maxL s av.toArray lw_all y.cls → meth.sig.returnType = ret → meth.locks = false → lv_has ls maxL (lv_args 0 av) → W p l e rm s m av.toArray below meth c s.heap [] 0 0 (MQ below Qc av.toArray s 0 0 (fun _ => False)) (F0 m 0 ls [])) : Met l y (ws_ y bytes maxL ret) rm (PcS av) Qc 0 0 (fun _ => False) := by
  refine Met.ofW (cc := bytes) (maxL := maxL) (ret := ret) hy rfl ?_
  intro p e s m args below meth c s₁ B hml hv
  have hv : args = av.toArray := hv
  subst hv
  have hts := atoms_spec (ws := ws_ y bytes maxL ret) B.pre
  have hts : ∀ w ∈ lw_all, w.before _ s = true := fun w h => hts w (List.mem_cons_of_mem _ h)
  have hown : s.vm.findClass y.cls = some m.cls := findClass_of_methodNamed B.named
  have hl := lv_entry av (n := maxL) hn
  rw [lg_entry_eq]
  exact body p e s m below meth c _ ⟨B.exec, B.bytes, hml, hown, hts⟩ B.returns B.notSynchronized hl
theorem xMetR {l : Launch} {y : MethodName} {bytes : ByteArray} {maxL : Nat} {ret : Option FieldType} {rm : Room} {av : List Value} {D : va_G} {ws : va_W} {tys : List (ClassId × FieldType)} {Qc : Array Value → State → Outcome → State → Prop} (hy : plainName y.cls = true) (hn : (lg_sl av).length ≤ maxL)
    (body : ∀ (p : Program) (e : Env) (s : State) (m : MethodId) (below : List Frame) (meth : Method) (c : Code) (ls : Array Slot), CallFix p m c bytes maxL s av.toArray lw_all y.cls → meth.sig.returnType = ret → meth.locks = false → lv_has ls maxL (lv_args 0 av) → va_P D vwCl ws s.heap → va_K D vwCl tys s → W p l e rm s m av.toArray below meth c s.heap [] 0 0 (MQ below Qc av.toArray s 0 0 (fun _ => False)) (F0 m 0 ls [])) : Met l y (ws_ y bytes maxL ret) rm (PcR av D ws tys) Qc 0 0 (fun _ => False) := by
  refine Met.ofW (cc := bytes) (maxL := maxL) (ret := ret) hy rfl ?_
  intro p e s m args below meth c s₁ B hml hv
  obtain ⟨rfl, hP, hK⟩ := hv
  have hts := atoms_spec (ws := ws_ y bytes maxL ret) B.pre
  have hts : ∀ w ∈ lw_all, w.before _ s = true := fun w h => hts w (List.mem_cons_of_mem _ h)
  have hown : s.vm.findClass y.cls = some m.cls := findClass_of_methodNamed B.named
  have hl := lv_entry av (n := maxL) hn
  rw [lg_entry_eq]
  exact body p e s m below meth c _ ⟨B.exec, B.bytes, hml, hown, hts⟩ B.returns B.notSynchronized hl hP hK
theorem xMetM {l : Launch} {y : MethodName} {bytes : ByteArray} {maxL : Nat} {ret : Option FieldType} {rm : Room} {av : List Value} {D : va_G} {ws : va_W} {tys : List (ClassId × FieldType)} {sz mc ms : Nat} {Qf : (Nat → Prop) → Array Value → State → Outcome → State → Prop} (hy : plainName y.cls = true) (hn : (lg_sl av).length ≤ maxL)
    (body : ∀ (p : Program) (e : Env) (s : State) (m : MethodId) (below : List Frame) (meth : Method) (c : Code) (ls : Array Slot) (A : Nat → Prop) (H : Heap) (locs : List Loc), CallFix p m c bytes maxL s av.toArray lw_all y.cls → meth.sig.returnType = ret → meth.locks = false → lv_has ls maxL (lv_args 0 av) → va_P D vwCl ws H → va_K D vwCl tys s → va_D A ws → va_S A s.heap H locs → (∀ q, s.heap.size ≤ q → A q) → (y.name = "<init>" → meth.name = "<init>") → W p l e rm s m av.toArray below meth c H locs 0 0 (MQ below (Qf A) av.toArray s mc ms A) (F0 m 0 ls [])) : Met l y (ws_ y bytes maxL ret) rm (PcM av D ws tys sz) (Qf (va_A ws sz)) mc ms (va_A ws sz) := by
  refine Met.ofW (cc := bytes) (maxL := maxL) (ret := ret) hy rfl ?_
  intro p e s m args below meth c s₁ B hml hv
  obtain ⟨rfl, hsz, hP, hK, hD0⟩ := hv
  subst hsz
  have hts := atoms_spec (ws := ws_ y bytes maxL ret) B.pre
  have hts : ∀ w ∈ lw_all, w.before _ s = true := fun w h => hts w (List.mem_cons_of_mem _ h)
  have hown : s.vm.findClass y.cls = some m.cls := findClass_of_methodNamed B.named
  have hl := lv_entry av (n := maxL) hn
  rw [lg_entry_eq]
  exact body p e s m below meth c _ (va_A ws s.heap.size) s.heap [] ⟨B.exec, B.bytes, hml, hown, hts⟩ B.returns B.notSynchronized hl hP hK hD0.self va_S.rf (fun q h => Or.inr h) (fun h => ((name_of_methodNamed B.named B.method).1).trans h)
/-- numbers -/
theorem nI_inc (k : Nat) : nI k + Int32.ofInt 1 = nI (k + 1) := nI_1 k
theorem nI_inc2 (k : Nat) : nI k + Int32.ofInt 2 = nI (k + 2) := nI_add k 2
theorem nI_inc5 (k : Nat) : nI k + Int32.ofInt 5 = nI (k + 5) := nI_add k 5
theorem nI_dec {k : Nat} (h : 0 < k) : nI k + Int32.ofInt (-1) = nI (k - 1) := sb_m1 h
theorem xle {a b : Nat} (h : nI a ≤ nI b) (ha : a < 2 ^ 31) (hb : b < 2 ^ 31) : a ≤ b := (nI_leI ha hb).mp h
theorem xnle {a b : Nat} (h : ¬ nI a ≤ nI b) (ha : a < 2 ^ 31) (hb : b < 2 ^ 31) : b < a := Nat.not_le.mp (fun q => h ((nI_leI ha hb).mpr q))
theorem xlt {a b : Nat} (h : nI a < nI b) (ha : a < 2 ^ 31) (hb : b < 2 ^ 31) : a < b := (nI_ltI ha hb).mp h
theorem xnlt {a b : Nat} (h : ¬ nI a < nI b) (ha : a < 2 ^ 31) (hb : b < 2 ^ 31) : b ≤ a := Nat.not_lt.mp (fun q => h ((nI_ltI ha hb).mpr q))
theorem xeq {a b : Nat} (h : nI a = nI b) (ha : a < 2 ^ 31) (hb : b < 2 ^ 31) : a = b := (nI_eq ha hb).mp h
theorem xne {a b : Nat} (h : ¬ nI a = nI b) (ha : a < 2 ^ 31) (hb : b < 2 ^ 31) : a ≠ b := fun q => h ((nI_eq ha hb).mpr q)
end
section
/-! PURE: the words of the contracts -/
set_option maxRecDepth 100000
def bI (b : Bool) : Int32 := if b then 1 else 0
def clampI (v lo hi : Int32) : Int32 := if lo ≤ v then (if v ≤ hi then v else hi) else lo
def far (v : Int32) : Bool := decide (v < -16384) || !decide (v ≤ 16384)
def nxt (n k : Nat) : Nat := if k + 1 = n then 0 else k + 1
def prv (n k : Nat) : Nat := if k = 0 then n - 1 else k - 1
def loV (f : Nat → Int32) (n k : Nat) : Nat := if f (nxt n k) < f k then nxt n k else k
def hiV (f : Nat → Int32) (n k : Nat) : Nat := if f (nxt n k) < f k then k else nxt n k
theorem nxt_lt {n k : Nat} (h : k < n) : nxt n k < n := by
  unfold nxt
  split <;> omega
theorem prv_lt {n k : Nat} (h : k < n) : prv n k < n := by
  unfold prv
  split <;> omega
theorem loV_lt {f : Nat → Int32} {n k : Nat} (h : k < n) : loV f n k < n := by
  unfold loV
  split
  · exact nxt_lt h
  · exact h
theorem hiV_lt {f : Nat → Int32} {n k : Nat} (h : k < n) : hiV f n k < n := by
  unfold hiV
  split
  · exact h
  · exact nxt_lt h
theorem bI_t : bI true = 1 := rfl
theorem bI_f : bI false = 0 := rfl
theorem bI_nar (b : Bool) : narrow .boolean (.int (bI b)) = .int (bI b) := by cases b <;> rfl
theorem bI_0 {b : Bool} (h : bI b = 0) : b = false := by
  cases b
  · rfl
  · exact absurd h (by decide)
theorem bI_1 {b : Bool} (h : ¬ bI b = 0) : b = true := by
  cases b
  · exact absurd rfl h
  · rfl
theorem bI_inj {b c : Bool} (h : bI b = bI c) : b = c := by
  cases b <;> cases c <;> first | rfl | exact absurd h (by decide)
/-- near the origin -/
def Nr (v : Int32) : Prop := -16384 ≤ v.toInt ∧ v.toInt ≤ 16384
theorem far_iff {v : Int32} : far v = false ↔ Nr v := by
  unfold far Nr
  simp only [Bool.or_eq_false_iff, decide_eq_false_iff_not, Bool.not_eq_false', decide_eq_true_eq, Int32.lt_iff_toInt_lt, Int32.le_iff_toInt_le]
  have h1 : (-16384 : Int32).toInt = -16384 := by decide
  have h2 : (16384 : Int32).toInt = 16384 := by decide
  omega
end
section
/-! PURE: machine numbers and whole numbers; the quotient rounded down; the cut -/
set_option maxRecDepth 100000
theorem m64 {x : Int} (h1 : -9223372036854775808 ≤ x) (h2 : x < 9223372036854775808) : x.bmod (2 ^ 64) = x := by
  rw [show (2 ^ 64 : Nat) = 18446744073709551616 from rfl]
  exact Int.bmod_eq_of_le_mul_two (by omega) (by omega)
theorem m32 {x : Int} (h1 : -2147483648 ≤ x) (h2 : x < 2147483648) : x.bmod (2 ^ 32) = x := by
  rw [show (2 ^ 32 : Nat) = 4294967296 from rfl]
  exact Int.bmod_eq_of_le_mul_two (by omega) (by omega)
theorem nAb {x : Int} {k : Nat} (h1 : -(k : Int) ≤ x) (h2 : x ≤ k) : x.natAbs ≤ k := by omega
theorem prodK {x y : Int} {k j : Nat} (hx : x.natAbs ≤ k) (hy : y.natAbs ≤ j) : (x * y).natAbs ≤ k * j := by
  rw [Int.natAbs_mul]
  exact Nat.mul_le_mul hx hy
theorem subT {x y : Int32} (hx : Nr x) (hy : Nr y) : (x - y).toInt = x.toInt - y.toInt := by
  rw [Int32.toInt_sub]
  unfold Nr at hx hy
  exact m32 (by omega) (by omega)
theorem tdiv_mul_le (a b : Int) : (a.tdiv b * b).natAbs ≤ a.natAbs := by
  rw [Int.natAbs_mul, Int.natAbs_tdiv]
  exact Nat.div_mul_le_self _ _
theorem tdiv_le (a b : Int) : (a.tdiv b).natAbs ≤ a.natAbs := by
  rw [Int.natAbs_tdiv]
  exact Nat.div_le_self _ _
theorem flI_rem {a b : Int} (h : a - a.tdiv b * b = 0) : a.fdiv b = a.tdiv b := by
  have hd : b ∣ a := ⟨a.tdiv b, by rw [Int.mul_comm]; omega⟩
  rw [Int.fdiv_eq_tdiv, if_pos hd]
  omega
theorem flI_same {a b : Int} (h : (0 ≤ a ∧ 0 ≤ b) ∨ (¬ 0 ≤ a ∧ ¬ 0 ≤ b)) : a.fdiv b = a.tdiv b := by
  rw [Int.fdiv_eq_tdiv]
  by_cases hd : b ∣ a
  · rw [if_pos hd]
    omega
  · rw [if_neg hd]
    rcases h with ⟨h1, h2⟩ | ⟨h1, h2⟩
    · rw [if_pos h1, if_pos h2]
      omega
    · rw [if_neg h1, if_neg h2, Int.sign_eq_neg_one_of_neg (by omega)]
      omega
theorem flI_diff {a b : Int} (hb : b ≠ 0) (hr : ¬ a - a.tdiv b * b = 0) (h : (0 ≤ a ∧ ¬ 0 ≤ b) ∨ (¬ 0 ≤ a ∧ 0 ≤ b)) : a.fdiv b = a.tdiv b - 1 := by
  have hd : ¬ b ∣ a := fun hd => hr (by rw [Int.tdiv_mul_cancel hd]; omega)
  rw [Int.fdiv_eq_tdiv, if_neg hd]
  rcases h with ⟨h1, h2⟩ | ⟨h1, h2⟩
  · rw [if_pos h1, if_neg h2]
  · rw [if_neg h1, if_pos h2, Int.sign_eq_one_of_pos (by omega)]
theorem fl_ne {b : Int64} (h : b.toInt ≠ 0) : ¬ b = 0 := by
  intro e
  subst e
  exact h (by decide)
section FL
variable {a b : Int64} (hb0 : b.toInt ≠ 0) (ha : -2305843009213693952 ≤ a.toInt) (ha2 : a.toInt ≤ 2305843009213693952)
theorem fl_div (ha : -2305843009213693952 ≤ a.toInt) : (a / b).toInt = a.toInt.tdiv b.toInt := by
  refine Int64.toInt_div_of_ne_left a b ?_
  intro e
  subst e
  exact absurd ha (by decide)
theorem fl_rest (ha : -2305843009213693952 ≤ a.toInt) (ha2 : a.toInt ≤ 2305843009213693952) : (a - a / b * b).toInt = a.toInt - a.toInt.tdiv b.toInt * b.toInt := by
  have h := tdiv_mul_le a.toInt b.toInt
  generalize hg : a.toInt.tdiv b.toInt * b.toInt = g at h
  rw [Int64.toInt_sub, Int64.toInt_mul, fl_div ha, hg, m64 (x := g) (by omega) (by omega), m64 (by omega) (by omega)]
theorem fl_rem (hb0 : b.toInt ≠ 0) (ha : -2305843009213693952 ≤ a.toInt) (ha2 : a.toInt ≤ 2305843009213693952) (h : a - a / b * b = 0) : (a / b).toInt = a.toInt.fdiv b.toInt := by
  have h1 : a.toInt - a.toInt.tdiv b.toInt * b.toInt = 0 := by
    rw [← fl_rest ha ha2, h]
    decide
  rw [fl_div ha, flI_rem h1]
theorem fl_sgn {a : Int64} : 0 ≤ a ↔ 0 ≤ a.toInt := by
  rw [Int64.le_iff_toInt_le]
  exact Iff.rfl
theorem fl_same (hb0 : b.toInt ≠ 0) (ha : -2305843009213693952 ≤ a.toInt) (ha2 : a.toInt ≤ 2305843009213693952) (h : (0 ≤ a ∧ 0 ≤ b) ∨ (¬ 0 ≤ a ∧ ¬ 0 ≤ b)) : (a / b).toInt = a.toInt.fdiv b.toInt := by
  rw [fl_sgn, fl_sgn] at h
  rw [fl_div ha, flI_same h]
theorem fl_diff (hb0 : b.toInt ≠ 0) (ha : -2305843009213693952 ≤ a.toInt) (ha2 : a.toInt ≤ 2305843009213693952) (hr : ¬ a - a / b * b = 0) (h : (0 ≤ a ∧ ¬ 0 ≤ b) ∨ (¬ 0 ≤ a ∧ 0 ≤ b)) : (a / b - 1).toInt = a.toInt.fdiv b.toInt := by
  rw [fl_sgn, fl_sgn] at h
  have h1 : ¬ a.toInt - a.toInt.tdiv b.toInt * b.toInt = 0 := by
    rw [← fl_rest ha ha2]
    exact fun q => hr (Int64.toInt_inj.mp (q.trans (by decide)))
  have h2 := tdiv_le a.toInt b.toInt
  rw [Int64.toInt_sub, fl_div ha, flI_diff hb0 h1 h]
  have h3 : (1 : Int64).toInt = 1 := by decide
  rw [h3]
  exact m64 (by omega) (by omega)
end FL
/-- where a line crosses a coordinate of one sort: the other one -/
def cutI (a b c d s : Int32) : Int32 := Int32.ofInt (b.toInt + ((d.toInt - b.toInt) * (s.toInt - a.toInt)).fdiv (c.toInt - a.toInt))
theorem cut_h0 {a c : Int32} (na : Nr a) (nc : Nr c) (nac : c.toInt ≠ a.toInt) : ((c - a).toInt64).toInt ≠ 0 := by
  rw [Int32.toInt_toInt64, subT nc na]
  omega
theorem cut_pr {a b d s : Int32} (nb : Nr b) (nd : Nr d) (na : Nr a) (ns : Nr s) : ((d - b).toInt64 * (s - a).toInt64).toInt = (d.toInt - b.toInt) * (s.toInt - a.toInt) ∧ ((d.toInt - b.toInt) * (s.toInt - a.toInt)).natAbs ≤ 32768 * 32768 := by
  have h : ((d.toInt - b.toInt) * (s.toInt - a.toInt)).natAbs ≤ 32768 * 32768 := by
    unfold Nr at na nb nd ns
    exact prodK (by omega) (by omega)
  refine ⟨?_, h⟩
  rw [Int64.toInt_mul, Int32.toInt_toInt64, Int32.toInt_toInt64, subT nd nb, subT ns na]
  generalize (d.toInt - b.toInt) * (s.toInt - a.toInt) = g at h ⊢
  exact m64 (by omega) (by omega)
theorem cut_h1 {a b d s : Int32} (nb : Nr b) (nd : Nr d) (na : Nr a) (ns : Nr s) : -2305843009213693952 ≤ ((d - b).toInt64 * (s - a).toInt64).toInt ∧ ((d - b).toInt64 * (s - a).toInt64).toInt ≤ 2305843009213693952 := by
  obtain ⟨h1, h2⟩ := cut_pr nb nd na ns
  rw [h1]
  generalize (d.toInt - b.toInt) * (s.toInt - a.toInt) = g at h2 ⊢
  omega
theorem cut_end {a b c d s : Int32} {r : Int64} (na : Nr a) (nb : Nr b) (nc : Nr c) (nd : Nr d) (ns : Nr s) (h : r.toInt = ((d - b).toInt64 * (s - a).toInt64).toInt.fdiv (c - a).toInt64.toInt) : (b.toInt64 + r).toInt32 = cutI a b c d s := by
  rw [(cut_pr nb nd na ns).1, Int32.toInt_toInt64, subT nc na] at h
  refine Int32.toInt_inj.mp ?_
  rw [Int64.toInt_toInt32, Int64.toInt_add, Int32.toInt_toInt64, h]
  unfold cutI
  rw [Int32.toInt_ofInt]
  exact Int.bmod_bmod_of_dvd (by decide)
def goodB (sd : Nat) (x0 y0 x1 y1 x y : Int32) : Bool := match sd with
  | 0 => !decide (x < x0)
  | 1 => !decide (x1 < x)
  | 2 => !decide (y < y0)
  | _ => !decide (y1 < y)
def vxI (f : Nat → Int32) (n : Nat) (i : Int32) : Int32 := if i < 0 then -32768 else if nI n ≤ i then -32768 else f i.toNatClampNeg
theorem vx_in {n : Nat} {i : Int32} (hn : n ≤ 60) (h1 : ¬ i < 0) (h2 : ¬ nI n ≤ i) : ∃ j : Nat, j < n ∧ i = nI j := by
  rcases pk_ix i (n := n) (by omega) with h | h | h
  · exact absurd h h1
  · exact absurd h h2
  · exact h
theorem vxI_in {f : Nat → Int32} {n j : Nat} (hj : j < n) (hn : n ≤ 60) : f j = vxI f n (nI j) := by
  unfold vxI
  rw [if_neg (nI_pos (by omega)), if_neg (nI_ge hj (by omega)), nI_clamp (by omega)]
theorem vxI_neg {f : Nat → Int32} {n : Nat} {i : Int32} (h : i < 0) : -32768 = vxI f n i := by
  unfold vxI
  rw [if_pos h]
theorem vxI_big {f : Nat → Int32} {n : Nat} {i : Int32} (h : ¬ i < 0) (h2 : nI n ≤ i) : -32768 = vxI f n i := by
  unfold vxI
  rw [if_neg h, if_pos h2]
/-- the pixel (x, y) of rows of sd places -/
def pixI (sd : Nat) (f : Nat → Int32) (w h : Nat) (x y : Int32) : Int32 := if x < 0 ∨ nI w ≤ x ∨ y < 0 ∨ nI h ≤ y then -1 else f (sd * y.toNatClampNeg + x.toNatClampNeg)
theorem row_lt {sd w h i j : Nat} (hw : w ≤ sd) (hi : i < w) (hj : j < h) : sd * j + i < sd * h := by
  have h1 : sd * j + sd = sd * (j + 1) := by rw [Nat.mul_add, Nat.mul_one]
  have h2 : sd * (j + 1) ≤ sd * h := Nat.mul_le_mul_left sd (by omega)
  omega
theorem pix_lt {w h i j : Nat} (hw : w ≤ 24) (hh : h ≤ 24) (hi : i < w) (hj : j < h) : w * j + i < 576 := by
  have h1 := row_lt (Nat.le_refl w) hi hj
  have h2 : w * h ≤ 24 * 24 := Nat.mul_le_mul hw hh
  omega
theorem pixI_in {sd w h i j : Nat} {f : Nat → Int32} (hw : w ≤ 24) (hh : h ≤ 24) (hi : i < w) (hj : j < h) : f (sd * j + i) = pixI sd f w h (nI i) (nI j) := by
  unfold pixI
  rw [if_neg, nI_clamp (by omega), nI_clamp (by omega)]
  rintro (q | q | q | q)
  · exact nI_pos (by omega) q
  · exact nI_ge hi (by omega) q
  · exact nI_pos (by omega) q
  · exact nI_ge hj (by omega) q
theorem pixI_out {sd w h : Nat} {f : Nat → Int32} {x y : Int32} (q : x < 0 ∨ nI w ≤ x ∨ y < 0 ∨ nI h ≤ y) : -1 = pixI sd f w h x y := by
  unfold pixI
  rw [if_pos q]
theorem upd_all {f : Nat → Int32} {k : Nat} {v : Int32} (h : ∀ j, j < k → f j = v) : ∀ j, j < k + 1 → upd f k v j = v := by
  intro j hj
  by_cases e : j = k
  · subst e
    exact pk_us
  · rw [pk_un e]
    exact h j (by omega)
def vtxI (px py : Nat → Int32) (n C : Nat) (x y : Int32) : Int32 × (Nat → Int32) × (Nat → Int32) × Nat := if n = C ∨ far x = true ∨ far y = true then (0, px, py, n) else (1, upd px n x, upd py n y, n + 1)
def clpI (x0 y0 x1 y1 a0 b0 a1 b1 : Int32) : Int32 × Int32 × Int32 × Int32 × Int32 := if a1 < a0 ∨ b1 < b0 ∨ far a0 = true ∨ far b0 = true ∨ far a1 = true ∨ far b1 = true then (0, x0, y0, x1, y1) else (1, a0, b0, a1, b1)
def putI (qx qy : Nat → Int32) (mn C : Nat) (x y : Int32) : Int32 × (Nat → Int32) × (Nat → Int32) × Nat := if mn = C then (0, qx, qy, mn) else (1, upd qx mn x, upd qy mn y, mn + 1)
end
section
/-! what a callee is asked for, once a method -/
set_option maxRecDepth 100000
theorem siX0_cell : SI yX0_cell cX0_cell 2 (some .int) 2 := ⟨q187, q16, q188, by decide +kernel⟩
theorem siX1_within : SI yX1_within cX1_within 3 (some .int) 3 := ⟨q28, q17, q29, by decide +kernel⟩
theorem viX1_clear : VI RX1 yX1_clear cX1_clear 3 none 1 := ⟨q90, q91, q17, q92, by decide +kernel⟩
theorem viX1_begin : VI RX1 yX1_begin cX1_begin 1 none 0 := ⟨q94, q95, q17, q96, by decide +kernel⟩
theorem viX1_vertex : VI RX1 yX1_vertex cX1_vertex 3 (some .boolean) 2 := ⟨q98, q99, q17, q100, by decide +kernel⟩
theorem siX1_isFar : SI yX1_isFar cX1_isFar 1 (some .boolean) 1 := ⟨q102, q17, q103, by decide +kernel⟩
theorem viX1_setClip : VI RX1 yX1_setClip cX1_setClip 5 (some .boolean) 4 := ⟨q105, q106, q17, q107, by decide +kernel⟩
theorem viX1_clip : VI RX1 yX1_clip cX1_clip 4 (some .int) 0 := ⟨q109, q110, q17, q111, by decide +kernel⟩
theorem viX1_pass : VI RX1 yX1_pass cX1_pass 9 (some .boolean) 4 := ⟨q114, qs0, q17, q115, by decide +kernel⟩
theorem viX1_isGood : VI RX1 yX1_isGood cX1_isGood 4 (some .boolean) 3 := ⟨q118, qs1, q17, q119, by decide +kernel⟩
theorem viX1_putCut : VI RX1 yX1_putCut cX1_putCut 7 (some .boolean) 5 := ⟨q122, qs2, q17, q123, by decide +kernel⟩
theorem siX1_cut : SI yX1_cut cX1_cut 5 (some .int) 5 := ⟨q125, q17, q126, by decide +kernel⟩
theorem siX1_floorOf : SI yX1_floorOf cX1_floorOf 6 (some .long) 2 := ⟨q128, q17, q129, by decide +kernel⟩
theorem viX1_put : VI RX1 yX1_put cX1_put 3 (some .boolean) 2 := ⟨q132, qs3, q17, q133, by decide +kernel⟩
theorem viX1_vx : VI RX1 yX1_vx cX1_vx 2 (some .int) 1 := ⟨q135, q136, q17, q137, by decide +kernel⟩
theorem viX1_vy : VI RX1 yX1_vy cX1_vy 2 (some .int) 1 := ⟨q139, q140, q17, q141, by decide +kernel⟩
theorem viX1_vertices : VI RX1 yX1_vertices cX1_vertices 1 (some .int) 0 := ⟨q143, q144, q17, q145, by decide +kernel⟩
theorem viX1_inside : VI RX1 yX1_inside cX1_inside 9 (some .boolean) 2 := ⟨q147, q148, q17, q149, by decide +kernel⟩
theorem viX1_lowOf : VI RX1 yX1_lowOf cX1_lowOf 2 (some .int) 1 := ⟨q152, qs4, q17, q153, by decide +kernel⟩
theorem viX1_nextOf : VI RX1 yX1_nextOf cX1_nextOf 2 (some .int) 1 := ⟨q156, qs5, q17, q157, by decide +kernel⟩
theorem viX1_highOf : VI RX1 yX1_highOf cX1_highOf 2 (some .int) 1 := ⟨q160, qs6, q17, q161, by decide +kernel⟩
theorem viX1_fill : VI RX1 yX1_fill cX1_fill 9 (some .int) 1 := ⟨q163, q164, q17, q165, by decide +kernel⟩
theorem viX1_makeTable : VI RX1 yX1_makeTable cX1_makeTable 4 (some .int) 0 := ⟨q168, qs7, q17, q169, by decide +kernel⟩
theorem viX1_lastBefore : VI RX1 yX1_lastBefore cX1_lastBefore 7 (some .int) 2 := ⟨q172, qs8, q17, q173, by decide +kernel⟩
theorem viX1_sortActive : VI RX1 yX1_sortActive cX1_sortActive 6 none 1 := ⟨q176, qs9, q17, q177, by decide +kernel⟩
theorem viX1_paint : VI RX1 yX1_paint cX1_paint 7 (some .int) 4 := ⟨q180, qs10, q17, q181, by decide +kernel⟩
theorem viX1_pixel : VI RX1 yX1_pixel cX1_pixel 3 (some .int) 2 := ⟨q183, q184, q17, q185, by decide +kernel⟩
theorem siX2_between : SI yX2_between cX2_between 3 (some .int) 3 := ⟨q196, q18, q197, by decide +kernel⟩
theorem viX2_clear : VI RX2 yX2_clear cX2_clear 3 none 1 := ⟨q251, q252, q18, q253, by decide +kernel⟩
theorem viX2_begin : VI RX2 yX2_begin cX2_begin 1 none 0 := ⟨q255, q256, q18, q257, by decide +kernel⟩
theorem viX2_vertex : VI RX2 yX2_vertex cX2_vertex 3 (some .boolean) 2 := ⟨q259, q260, q18, q261, by decide +kernel⟩
theorem siX2_isNear : SI yX2_isNear cX2_isNear 1 (some .boolean) 1 := ⟨q263, q18, q264, by decide +kernel⟩
theorem viX2_setClip : VI RX2 yX2_setClip cX2_setClip 5 (some .boolean) 4 := ⟨q266, q267, q18, q268, by decide +kernel⟩
theorem viX2_clip : VI RX2 yX2_clip cX2_clip 3 (some .int) 0 := ⟨q270, q271, q18, q272, by decide +kernel⟩
theorem viX2_pass : VI RX2 yX2_pass cX2_pass 6 none 1 := ⟨q275, qs11, q18, q276, by decide +kernel⟩
theorem viX2_depth : VI RX2 yX2_depth cX2_depth 4 (some .int) 3 := ⟨q279, qs12, q18, q280, by decide +kernel⟩
theorem viX2_cut : VI RX2 yX2_cut cX2_cut 7 none 5 := ⟨q283, qs13, q18, q284, by decide +kernel⟩
theorem siX2_quotient : SI yX2_quotient cX2_quotient 3 (some .int) 2 := ⟨q286, q18, q287, by decide +kernel⟩
theorem viX2_add : VI RX2 yX2_add cX2_add 3 none 2 := ⟨q290, qs14, q18, q291, by decide +kernel⟩
theorem viX2_vx : VI RX2 yX2_vx cX2_vx 2 (some .int) 1 := ⟨q293, q294, q18, q295, by decide +kernel⟩
theorem viX2_isVertex : VI RX2 yX2_isVertex cX2_isVertex 2 (some .boolean) 1 := ⟨q298, qs15, q18, q299, by decide +kernel⟩
theorem viX2_vy : VI RX2 yX2_vy cX2_vy 2 (some .int) 1 := ⟨q301, q302, q18, q303, by decide +kernel⟩
theorem viX2_inside : VI RX2 yX2_inside cX2_inside 6 (some .boolean) 2 := ⟨q305, q306, q18, q307, by decide +kernel⟩
theorem siX2_crosses : SI yX2_crosses cX2_crosses 21 (some .boolean) 6 := ⟨q309, q18, q310, by decide +kernel⟩
theorem viX2_fill : VI RX2 yX2_fill cX2_fill 5 (some .int) 1 := ⟨q312, q313, q18, q314, by decide +kernel⟩
theorem viX2_pixel : VI RX2 yX2_pixel cX2_pixel 3 (some .int) 2 := ⟨q317, q318, q18, q319, by decide +kernel⟩
theorem viX2_vertices : VI RX2 yX2_vertices cX2_vertices 1 (some .int) 0 := ⟨q321, q322, q18, q323, by decide +kernel⟩
end
section
/-! PolygonFrame: its static methods, and those that read -/
set_option maxHeartbeats 4000000 in
set_option maxRecDepth 100000 in
/-- within(v, lo, hi): v, held between -/
theorem mtX1_within (l : Launch) (v lo hi : Int32) : Met l yX1_within (ws_ yX1_within cX1_within 3 (some .int)) (rm_ 0 0) (PcS [.int v, .int lo, .int hi]) (vp_Si (fun r => r = clampI v lo hi)) 0 0 (fun _ => False) := by
  refine xMetS (by decide) (Nat.le_of_ble_eq_true rfl) ?_
  intro p e s m below meth c ls S hr hlk hl
  have S : CallFix p m c cX1_within 3 s _ lw_all RX1 := S
  have hx := S.1
  have hb := S.2.1
  have hl : lv_has ls 3 [(0, .int v), (1, .int lo), (2, .int hi)] := hl
  refine lv_iload_n hx hb dX1_within_0 rfl (lv_at hl 0 rfl) ?_
  refine lv_iload_n hx hb dX1_within_1 rfl (lv_at hl 1 rfl) ?_
  refine lv_icmp_ge (tgt := 9) hx hb dX1_within_2 (by decide) (fun c_2 => ?_) (fun c_2 => ?_)
  · refine lv_iload_n hx hb dX1_within_9 rfl (lv_at hl 0 rfl) ?_
    refine lv_iload_n hx hb dX1_within_10 rfl (lv_at hl 2 rfl) ?_
    refine lv_icmp_le (tgt := 18) hx hb dX1_within_11 (by decide) (fun c_11 => ?_) (fun c_11 => ?_)
    · refine lv_iload_n hx hb dX1_within_18 rfl (lv_at hl 0 rfl) ?_
      exact xretSi hx hb hr hlk dX1_within_19 (rfl) (by simp [clampI, c_2, c_11])
    · refine lv_iload_n hx hb dX1_within_14 rfl (lv_at hl 2 rfl) ?_
      refine lv_goto (tgt := 19) hx hb dX1_within_15 (by decide) ?_
      exact xretSi hx hb hr hlk dX1_within_19 (rfl) (by simp [clampI, c_2, c_11])
  · refine lv_iload_n hx hb dX1_within_5 rfl (lv_at hl 1 rfl) ?_
    refine lv_goto (tgt := 19) hx hb dX1_within_6 (by decide) ?_
    exact xretSi hx hb hr hlk dX1_within_19 (rfl) (by simp [clampI, c_2])

set_option maxHeartbeats 4000000 in
set_option maxRecDepth 100000 in
/-- isFar(v) -/
theorem mtX1_isFar (l : Launch) (v : Int32) : Met l yX1_isFar (ws_ yX1_isFar cX1_isFar 1 (some .boolean)) (rm_ 0 0) (PcS [.int v]) (vp_Si (fun r => r = bI (far v))) 0 0 (fun _ => False) := by
  refine xMetS (by decide) (Nat.le_of_ble_eq_true rfl) ?_
  intro p e s m below meth c ls S hr hlk hl
  have S : CallFix p m c cX1_isFar 1 s _ lw_all RX1 := S
  have hx := S.1
  have hb := S.2.1
  have hl : lv_has ls 1 [(0, .int v)] := hl
  refine lv_iload_n hx hb dX1_isFar_0 rfl (lv_at hl 0 rfl) ?_
  refine lv_sipush (v := (-16384)) hx hb dX1_isFar_1 (by decide) ?_
  refine lv_icmp_lt (tgt := 14) hx hb dX1_isFar_4 (by decide) (fun c_4 => ?_) (fun c_4 => ?_)
  · refine lv_iconst (v := 1) hx hb dX1_isFar_14 (by decide) ?_
    refine lv_goto (tgt := 19) hx hb dX1_isFar_15 (by decide) ?_
    exact xretSi hx hb hr hlk dX1_isFar_19 (rfl) (by simp [bI, far, c_4])
  · refine lv_iload_n hx hb dX1_isFar_7 rfl (lv_at hl 0 rfl) ?_
    refine lv_sipush (v := 16384) hx hb dX1_isFar_8 (by decide) ?_
    refine lv_icmp_le (tgt := 18) hx hb dX1_isFar_11 (by decide) (fun c_11 => ?_) (fun c_11 => ?_)
    · refine lv_iconst (v := 0) hx hb dX1_isFar_18 (by decide) ?_
      exact xretSi hx hb hr hlk dX1_isFar_19 (rfl) (by simp [bI, far, c_4, c_11])
    · refine lv_iconst (v := 1) hx hb dX1_isFar_14 (by decide) ?_
      refine lv_goto (tgt := 19) hx hb dX1_isFar_15 (by decide) ?_
      exact xretSi hx hb hr hlk dX1_isFar_19 (rfl) (by simp [bI, far, c_4, c_11])

set_option maxHeartbeats 4000000 in
set_option maxRecDepth 100000 in
/-- floorOf(a, b): the quotient, rounded down -/
theorem mtX1_floorOf (l : Launch) (a b : Int64) (hb0 : b.toInt ≠ 0) (ha : -2305843009213693952 ≤ a.toInt) (ha2 : a.toInt ≤ 2305843009213693952) : Met l yX1_floorOf (ws_ yX1_floorOf cX1_floorOf 6 (some .long)) (rm_ 0 0) (PcS [.long a, .long b]) (vp_Sl (fun r => r.toInt = a.toInt.fdiv b.toInt)) 0 0 (fun _ => False) := by
  refine xMetS (by decide) (Nat.le_of_ble_eq_true rfl) ?_
  intro p e s m below meth c ls S hr hlk hl
  have S : CallFix p m c cX1_floorOf 6 s _ lw_all RX1 := S
  have hx := S.1
  have hb := S.2.1
  have hl : lv_has ls 6 [(0, .long a), (2, .long b)] := hl
  refine lv_lload_n hx hb dX1_floorOf_0 rfl (lv_at hl 0 rfl) ?_
  refine lv_lload_n hx hb dX1_floorOf_1 rfl (lv_at hl 1 rfl) ?_
  refine lv_ldiv hx hb dX1_floorOf_2 (fl_ne hb0) ?_
  refine lv_lstore (lv' := [(4, .long (a / b)), (0, .long a), (2, .long b)]) hx hb dX1_floorOf_3 hl (by decide) rfl (fun ls hl => ?_)
  refine lv_lload_n hx hb dX1_floorOf_5 rfl (lv_at hl 1 rfl) ?_
  refine lv_lload_n hx hb dX1_floorOf_6 rfl (lv_at hl 2 rfl) ?_
  refine lv_lrem hx hb dX1_floorOf_7 (fl_ne hb0) ?_
  refine lv_lconst (v := 0) hx hb dX1_floorOf_8 rfl ?_
  refine W.lcmp hx hb dX1_floorOf_9 ?_
  refine lv_if_eq (tgt := 45) hx hb dX1_floorOf_10 (by decide) (fun c_10 => ?_) (fun c_10 => ?_)
  · have c_10 : a - a / b * b = 0 := (lg_cmp_eq _ _).mp c_10
    refine lv_lload hx hb dX1_floorOf_45 (lv_at hl 0 rfl) ?_
    exact xretSl hx hb hr hlk dX1_floorOf_47 (fl_rem hb0 ha ha2 c_10)
  · have c_10 : ¬ (a - a / b * b = 0) := fun q_ => c_10 ((lg_cmp_eq _ _).mpr q_)
    refine lv_lload_n hx hb dX1_floorOf_13 rfl (lv_at hl 1 rfl) ?_
    refine lv_lconst (v := 0) hx hb dX1_floorOf_14 rfl ?_
    refine W.lcmp hx hb dX1_floorOf_15 ?_
    refine lv_if_ge (tgt := 23) hx hb dX1_floorOf_16 (by decide) (fun c_16 => ?_) (fun c_16 => ?_)
    · have c_16 : 0 ≤ a := (lg_cmp_ge _ _).mp c_16
      refine lv_iconst (v := 0) hx hb dX1_floorOf_23 (by decide) ?_
      refine lv_lload_n hx hb dX1_floorOf_24 rfl (lv_at hl 2 rfl) ?_
      refine lv_lconst (v := 0) hx hb dX1_floorOf_25 rfl ?_
      refine W.lcmp hx hb dX1_floorOf_26 ?_
      refine lv_if_ge (tgt := 34) hx hb dX1_floorOf_27 (by decide) (fun c_27 => ?_) (fun c_27 => ?_)
      · have c_27 : 0 ≤ b := (lg_cmp_ge _ _).mp c_27
        refine lv_iconst (v := 0) hx hb dX1_floorOf_34 (by decide) ?_
        refine lv_icmp_eq (tgt := 45) hx hb dX1_floorOf_35 (by decide) (fun c_35 => ?_) (fun c_35 => ?_)
        · refine lv_lload hx hb dX1_floorOf_45 (lv_at hl 0 rfl) ?_
          exact xretSl hx hb hr hlk dX1_floorOf_47 (fl_same hb0 ha ha2 (by exact Or.inl ⟨c_16, c_27⟩))
        · exact absurd (by decide) c_35
      · have c_27 : ¬ (0 ≤ b) := fun q_ => c_27 ((lg_cmp_ge _ _).mpr q_)
        refine lv_iconst (v := 1) hx hb dX1_floorOf_30 (by decide) ?_
        refine lv_goto (tgt := 35) hx hb dX1_floorOf_31 (by decide) ?_
        refine lv_icmp_eq (tgt := 45) hx hb dX1_floorOf_35 (by decide) (fun c_35 => ?_) (fun c_35 => ?_)
        · exact absurd c_35 (by decide)
        · refine lv_lload hx hb dX1_floorOf_38 (lv_at hl 0 rfl) ?_
          refine lv_lconst (v := 1) hx hb dX1_floorOf_40 rfl ?_
          refine lv_lsub hx hb dX1_floorOf_41 ?_
          refine lv_goto (tgt := 47) hx hb dX1_floorOf_42 (by decide) ?_
          exact xretSl hx hb hr hlk dX1_floorOf_47 (fl_diff hb0 ha ha2 c_10 (by exact Or.inl ⟨c_16, c_27⟩))
    · have c_16 : ¬ (0 ≤ a) := fun q_ => c_16 ((lg_cmp_ge _ _).mpr q_)
      refine lv_iconst (v := 1) hx hb dX1_floorOf_19 (by decide) ?_
      refine lv_goto (tgt := 24) hx hb dX1_floorOf_20 (by decide) ?_
      refine lv_lload_n hx hb dX1_floorOf_24 rfl (lv_at hl 2 rfl) ?_
      refine lv_lconst (v := 0) hx hb dX1_floorOf_25 rfl ?_
      refine W.lcmp hx hb dX1_floorOf_26 ?_
      refine lv_if_ge (tgt := 34) hx hb dX1_floorOf_27 (by decide) (fun c_27 => ?_) (fun c_27 => ?_)
      · have c_27 : 0 ≤ b := (lg_cmp_ge _ _).mp c_27
        refine lv_iconst (v := 0) hx hb dX1_floorOf_34 (by decide) ?_
        refine lv_icmp_eq (tgt := 45) hx hb dX1_floorOf_35 (by decide) (fun c_35 => ?_) (fun c_35 => ?_)
        · exact absurd c_35 (by decide)
        · refine lv_lload hx hb dX1_floorOf_38 (lv_at hl 0 rfl) ?_
          refine lv_lconst (v := 1) hx hb dX1_floorOf_40 rfl ?_
          refine lv_lsub hx hb dX1_floorOf_41 ?_
          refine lv_goto (tgt := 47) hx hb dX1_floorOf_42 (by decide) ?_
          exact xretSl hx hb hr hlk dX1_floorOf_47 (fl_diff hb0 ha ha2 c_10 (by exact Or.inr ⟨c_16, c_27⟩))
      · have c_27 : ¬ (0 ≤ b) := fun q_ => c_27 ((lg_cmp_ge _ _).mpr q_)
        refine lv_iconst (v := 1) hx hb dX1_floorOf_30 (by decide) ?_
        refine lv_goto (tgt := 35) hx hb dX1_floorOf_31 (by decide) ?_
        refine lv_icmp_eq (tgt := 45) hx hb dX1_floorOf_35 (by decide) (fun c_35 => ?_) (fun c_35 => ?_)
        · refine lv_lload hx hb dX1_floorOf_45 (lv_at hl 0 rfl) ?_
          exact xretSl hx hb hr hlk dX1_floorOf_47 (fl_same hb0 ha ha2 (by exact Or.inr ⟨c_16, c_27⟩))
        · exact absurd (by decide) c_35

set_option maxHeartbeats 4000000 in
set_option maxRecDepth 100000 in
/-- cut: where the line crosses -/
theorem mtX1_cut (l : Launch) (a b c0 d0 s0 : Int32) (na : Nr a) (nb : Nr b) (nc : Nr c0) (nd : Nr d0) (ns : Nr s0) (nac : c0.toInt ≠ a.toInt) : Met l yX1_cut (ws_ yX1_cut cX1_cut 5 (some .int)) (rm_ 1 25) (PcS [.int a, .int b, .int c0, .int d0, .int s0]) (vp_Si (fun r => r = cutI a b c0 d0 s0)) 0 0 (fun _ => False) := by
  refine xMetS (by decide) (Nat.le_of_ble_eq_true rfl) ?_
  intro p e s m below meth c ls S hr hlk hl
  have S : CallFix p m c cX1_cut 5 s _ lw_all RX1 := S
  have hx := S.1
  have hb := S.2.1
  have hl : lv_has ls 5 [(0, .int a), (1, .int b), (2, .int c0), (3, .int d0), (4, .int s0)] := hl
  refine lv_iload_n hx hb dX1_cut_0 rfl (lv_at hl 1 rfl) ?_
  refine lv_i2l (v := b.toInt64) hx hb dX1_cut_1 rfl ?_
  refine lv_iload_n hx hb dX1_cut_2 rfl (lv_at hl 3 rfl) ?_
  refine lv_iload_n hx hb dX1_cut_3 rfl (lv_at hl 1 rfl) ?_
  refine lv_isub hx hb dX1_cut_4 ?_
  refine lv_i2l (v := (d0 - b).toInt64) hx hb dX1_cut_5 rfl ?_
  refine lv_iload hx hb dX1_cut_6 (lv_at hl 4 rfl) ?_
  refine lv_iload_n hx hb dX1_cut_8 rfl (lv_at hl 0 rfl) ?_
  refine lv_isub hx hb dX1_cut_9 ?_
  refine lv_i2l (v := (s0 - a).toInt64) hx hb dX1_cut_10 rfl ?_
  refine lv_lmul hx hb dX1_cut_11 ?_
  refine lv_iload_n hx hb dX1_cut_12 rfl (lv_at hl 2 rfl) ?_
  refine lv_iload_n hx hb dX1_cut_13 rfl (lv_at hl 0 rfl) ?_
  refine lv_isub hx hb dX1_cut_14 ?_
  refine lv_i2l (v := (c0 - a).toInt64) hx hb dX1_cut_15 rfl ?_
  refine xcSl [.long (((d0 - b).toInt64) * ((s0 - a).toInt64)), .long ((c0 - a).toInt64)] S (mtX1_floorOf l (((d0 - b).toInt64) * ((s0 - a).toInt64)) ((c0 - a).toInt64) (cut_h0 na nc nac) (cut_h1 nb nd na ns).1 (cut_h1 nb nd na ns).2) q127 siX1_floorOf ⟨rfl, rfl⟩ ⟨Nat.le_of_ble_eq_true rfl, Nat.le_of_ble_eq_true rfl⟩ ⟨Nat.le_of_ble_eq_true rfl, Nat.le_of_ble_eq_true rfl⟩ hl.1 (rest := [.long b.toInt64]) rfl (Nat.le_of_ble_eq_true rfl) dX1_cut_16 (fun r_ h_ => ?_)
  obtain ⟨r_1, hr_1⟩ : ∃ z, z = r_ := ⟨_, rfl⟩
  rw [← hr_1] at h_ ⊢
  have pr_1 := h_
  refine lv_ladd hx hb dX1_cut_19 ?_
  refine lv_l2i (v := (b.toInt64 + r_1).toInt32) hx hb dX1_cut_20 rfl ?_
  exact xretSi hx hb hr hlk dX1_cut_21 (rfl) (cut_end na nb nc nd ns pr_1)

set_option maxHeartbeats 4000000 in
set_option maxRecDepth 100000 in
/-- nextOf(k) -/
theorem mtX1_nextOf (l : Launch) (D : va_G) (d : ClassId) (a : Nat → Nat) (px py qx qy fr tb ac la sx sy : Nat → Int32) (w h C n : Nat) (x0 y0 x1 y1 : Int32) (mn : Nat) (k : Nat) (hk : k < n) (hn : n ≤ 60) : Met l yX1_nextOf (ws_ yX1_nextOf cX1_nextOf 2 (some .int)) (rm_ 0 0) (PcR [.ref (a 0), .int (nI k)] D (wP d a px py qx qy fr tb ac la sx sy w h C n x0 y0 x1 y1 mn) [(d, .int)]) (vp_Si (fun r => r = nI (nxt n k))) 0 0 (fun _ => False) := by
  refine xMetR (by decide) (Nat.le_of_ble_eq_true rfl) ?_
  intro p e s m below meth c ls S hr hlk hl hP hK
  have S : CallFix p m c cX1_nextOf 2 s _ lw_all RX1 := S
  have hx := S.1
  have hb := S.2.1
  have hl : lv_has ls 2 [(0, .ref (a 0)), (1, .int (nI k))] := hl
  refine lv_iload_n hx hb dX1_nextOf_0 rfl (lv_at hl 1 rfl) ?_
  refine lv_iconst (v := 1) hx hb dX1_nextOf_1 (by decide) ?_
  refine lv_iadd hx hb dX1_nextOf_2 ?_
  refine xtopi (y := nI (k + 1)) (nI_add k 1) ?_
  refine lv_aload_n hx hb dX1_nextOf_3 rfl (lv_at hl 0 rfl) ?_
  refine xget1 S hK hP 0 rfl 11 (by decide) q41 rfl (v := .int (nI n)) rfl dX1_nextOf_4 ?_
  refine lv_icmp_ne (tgt := 14) hx hb dX1_nextOf_7 (by decide) (fun c_7 => ?_) (fun c_7 => ?_)
  · have c_7 : (k + 1) ≠ n := xne (a := (k + 1)) (b := n) c_7 (by omega) (by omega)
    refine lv_iload_n hx hb dX1_nextOf_14 rfl (lv_at hl 1 rfl) ?_
    refine lv_iconst (v := 1) hx hb dX1_nextOf_15 (by decide) ?_
    refine lv_iadd hx hb dX1_nextOf_16 ?_
    refine xtopi (y := nI (k + 1)) (nI_add k 1) ?_
    exact xretSi hx hb hr hlk dX1_nextOf_17 (rfl) (by simp [nxt, nI_0, c_7])
  · have c_7 : (k + 1) = n := xeq (a := (k + 1)) (b := n) c_7 (by omega) (by omega)
    refine lv_iconst (v := 0) hx hb dX1_nextOf_10 (by decide) ?_
    refine lv_goto (tgt := 17) hx hb dX1_nextOf_11 (by decide) ?_
    exact xretSi hx hb hr hlk dX1_nextOf_17 (rfl) (by simp [nxt, nI_0, c_7])

set_option maxHeartbeats 4000000 in
set_option maxRecDepth 100000 in
/-- lowOf(k): its end -/
theorem mtX1_lowOf (l : Launch) (D : va_G) (d : ClassId) (a : Nat → Nat) (px py qx qy fr tb ac la sx sy : Nat → Int32) (w h C n : Nat) (x0 y0 x1 y1 : Int32) (mn : Nat) (k : Nat) (hk : k < n) (hn : n ≤ 60) : Met l yX1_lowOf (ws_ yX1_lowOf cX1_lowOf 2 (some .int)) (rm_ 1 21) (PcR [.ref (a 0), .int (nI k)] D (wP d a px py qx qy fr tb ac la sx sy w h C n x0 y0 x1 y1 mn) [(d, .int)]) (vp_Si (fun r => r = nI (loV py n k))) 0 0 (fun _ => False) := by
  refine xMetR (by decide) (Nat.le_of_ble_eq_true rfl) ?_
  intro p e s m below meth c ls S hr hlk hl hP hK
  have S : CallFix p m c cX1_lowOf 2 s _ lw_all RX1 := S
  have hx := S.1
  have hb := S.2.1
  have hl : lv_has ls 2 [(0, .ref (a 0)), (1, .int (nI k))] := hl
  have hnx := nxt_lt hk
  refine lv_aload_n hx hb dX1_lowOf_0 rfl (lv_at hl 0 rfl) ?_
  refine xget1 S hK hP 0 rfl 1 (by decide) q31 rfl (v := .ref (a 2)) rfl dX1_lowOf_1 ?_
  refine lv_iload_n hx hb dX1_lowOf_4 rfl (lv_at hl 1 rfl) ?_
  refine xald (j := k) hx hb hK hP 2 0 rfl rfl (by decide) dX1_lowOf_5 (by omega) ?_
  refine lv_aload_n hx hb dX1_lowOf_6 rfl (lv_at hl 0 rfl) ?_
  refine xget1 S hK hP 0 rfl 1 (by decide) q31 rfl (v := .ref (a 2)) rfl dX1_lowOf_7 ?_
  refine lv_aload_n hx hb dX1_lowOf_10 rfl (lv_at hl 0 rfl) ?_
  refine lv_iload_n hx hb dX1_lowOf_11 rfl (lv_at hl 1 rfl) ?_
  refine xcRi [.int (nI k)] S (mtX1_nextOf l D d a px py qx qy fr tb ac la sx sy w h C n x0 y0 x1 y1 mn k (by omega) (by omega)) q154 viX1_nextOf ⟨rfl, rfl⟩ ⟨Nat.le_of_ble_eq_true rfl, Nat.le_of_ble_eq_true rfl⟩ ⟨Nat.le_of_ble_eq_true rfl, Nat.le_of_ble_eq_true rfl⟩ hK hP (ci := 0) (q0 := 0) rfl rfl hl.1 (rest := [.ref (a 2), .int (py k)]) rfl (Nat.le_of_ble_eq_true rfl) dX1_lowOf_12 (fun r_ h_ => ?_)
  obtain rfl := h_
  refine xald (j := nxt n k) hx hb hK hP 2 0 rfl rfl (by decide) dX1_lowOf_15 (by omega) ?_
  refine lv_icmp_gt (tgt := 23) hx hb dX1_lowOf_16 (by decide) (fun c_16 => ?_) (fun c_16 => ?_)
  · refine lv_aload_n hx hb dX1_lowOf_23 rfl (lv_at hl 0 rfl) ?_
    refine lv_iload_n hx hb dX1_lowOf_24 rfl (lv_at hl 1 rfl) ?_
    refine xcRi [.int (nI k)] S (mtX1_nextOf l D d a px py qx qy fr tb ac la sx sy w h C n x0 y0 x1 y1 mn k (by omega) (by omega)) q154 viX1_nextOf ⟨rfl, rfl⟩ ⟨Nat.le_of_ble_eq_true rfl, Nat.le_of_ble_eq_true rfl⟩ ⟨Nat.le_of_ble_eq_true rfl, Nat.le_of_ble_eq_true rfl⟩ hK hP (ci := 0) (q0 := 0) rfl rfl hl.1 (rest := []) rfl (Nat.le_of_ble_eq_true rfl) dX1_lowOf_25 (fun r_ h_ => ?_)
    obtain rfl := h_
    exact xretSi hx hb hr hlk dX1_lowOf_28 (rfl) (by simp [loV, c_16])
  · refine lv_iload_n hx hb dX1_lowOf_19 rfl (lv_at hl 1 rfl) ?_
    refine lv_goto (tgt := 28) hx hb dX1_lowOf_20 (by decide) ?_
    exact xretSi hx hb hr hlk dX1_lowOf_28 (rfl) (by simp [loV, c_16])

set_option maxHeartbeats 4000000 in
set_option maxRecDepth 100000 in
/-- highOf(k): its end -/
theorem mtX1_highOf (l : Launch) (D : va_G) (d : ClassId) (a : Nat → Nat) (px py qx qy fr tb ac la sx sy : Nat → Int32) (w h C n : Nat) (x0 y0 x1 y1 : Int32) (mn : Nat) (k : Nat) (hk : k < n) (hn : n ≤ 60) : Met l yX1_highOf (ws_ yX1_highOf cX1_highOf 2 (some .int)) (rm_ 1 21) (PcR [.ref (a 0), .int (nI k)] D (wP d a px py qx qy fr tb ac la sx sy w h C n x0 y0 x1 y1 mn) [(d, .int)]) (vp_Si (fun r => r = nI (hiV py n k))) 0 0 (fun _ => False) := by
  refine xMetR (by decide) (Nat.le_of_ble_eq_true rfl) ?_
  intro p e s m below meth c ls S hr hlk hl hP hK
  have S : CallFix p m c cX1_highOf 2 s _ lw_all RX1 := S
  have hx := S.1
  have hb := S.2.1
  have hl : lv_has ls 2 [(0, .ref (a 0)), (1, .int (nI k))] := hl
  have hnx := nxt_lt hk
  refine lv_aload_n hx hb dX1_highOf_0 rfl (lv_at hl 0 rfl) ?_
  refine xget1 S hK hP 0 rfl 1 (by decide) q31 rfl (v := .ref (a 2)) rfl dX1_highOf_1 ?_
  refine lv_iload_n hx hb dX1_highOf_4 rfl (lv_at hl 1 rfl) ?_
  refine xald (j := k) hx hb hK hP 2 0 rfl rfl (by decide) dX1_highOf_5 (by omega) ?_
  refine lv_aload_n hx hb dX1_highOf_6 rfl (lv_at hl 0 rfl) ?_
  refine xget1 S hK hP 0 rfl 1 (by decide) q31 rfl (v := .ref (a 2)) rfl dX1_highOf_7 ?_
  refine lv_aload_n hx hb dX1_highOf_10 rfl (lv_at hl 0 rfl) ?_
  refine lv_iload_n hx hb dX1_highOf_11 rfl (lv_at hl 1 rfl) ?_
  refine xcRi [.int (nI k)] S (mtX1_nextOf l D d a px py qx qy fr tb ac la sx sy w h C n x0 y0 x1 y1 mn k (by omega) (by omega)) q154 viX1_nextOf ⟨rfl, rfl⟩ ⟨Nat.le_of_ble_eq_true rfl, Nat.le_of_ble_eq_true rfl⟩ ⟨Nat.le_of_ble_eq_true rfl, Nat.le_of_ble_eq_true rfl⟩ hK hP (ci := 0) (q0 := 0) rfl rfl hl.1 (rest := [.ref (a 2), .int (py k)]) rfl (Nat.le_of_ble_eq_true rfl) dX1_highOf_12 (fun r_ h_ => ?_)
  obtain rfl := h_
  refine xald (j := nxt n k) hx hb hK hP 2 0 rfl rfl (by decide) dX1_highOf_15 (by omega) ?_
  refine lv_icmp_gt (tgt := 27) hx hb dX1_highOf_16 (by decide) (fun c_16 => ?_) (fun c_16 => ?_)
  · refine lv_iload_n hx hb dX1_highOf_27 rfl (lv_at hl 1 rfl) ?_
    exact xretSi hx hb hr hlk dX1_highOf_28 (rfl) (by simp [hiV, c_16])
  · refine lv_aload_n hx hb dX1_highOf_19 rfl (lv_at hl 0 rfl) ?_
    refine lv_iload_n hx hb dX1_highOf_20 rfl (lv_at hl 1 rfl) ?_
    refine xcRi [.int (nI k)] S (mtX1_nextOf l D d a px py qx qy fr tb ac la sx sy w h C n x0 y0 x1 y1 mn k (by omega) (by omega)) q154 viX1_nextOf ⟨rfl, rfl⟩ ⟨Nat.le_of_ble_eq_true rfl, Nat.le_of_ble_eq_true rfl⟩ ⟨Nat.le_of_ble_eq_true rfl, Nat.le_of_ble_eq_true rfl⟩ hK hP (ci := 0) (q0 := 0) rfl rfl hl.1 (rest := []) rfl (Nat.le_of_ble_eq_true rfl) dX1_highOf_21 (fun r_ h_ => ?_)
    obtain rfl := h_
    refine lv_goto (tgt := 28) hx hb dX1_highOf_24 (by decide) ?_
    exact xretSi hx hb hr hlk dX1_highOf_28 (rfl) (by simp [hiV, c_16])

set_option maxHeartbeats 4000000 in
set_option maxRecDepth 100000 in
/-- isGood(side, x, y) -/
theorem mtX1_isGood (l : Launch) (D : va_G) (d : ClassId) (a : Nat → Nat) (px py qx qy fr tb ac la sx sy : Nat → Int32) (w h C n : Nat) (x0 y0 x1 y1 : Int32) (mn : Nat) (sd : Nat) (x y : Int32) (hsd : sd < 4) : Met l yX1_isGood (ws_ yX1_isGood cX1_isGood 4 (some .boolean)) (rm_ 0 0) (PcR [.ref (a 0), .int (nI sd), .int x, .int y] D (wP d a px py qx qy fr tb ac la sx sy w h C n x0 y0 x1 y1 mn) [(d, .int)]) (vp_Si (fun r => r = bI (goodB sd x0 y0 x1 y1 x y))) 0 0 (fun _ => False) := by
  refine xMetR (by decide) (Nat.le_of_ble_eq_true rfl) ?_
  intro p e s m below meth c ls S hr hlk hl hP hK
  have S : CallFix p m c cX1_isGood 4 s _ lw_all RX1 := S
  have hx := S.1
  have hb := S.2.1
  have hl : lv_has ls 4 [(0, .ref (a 0)), (1, .int (nI sd)), (2, .int x), (3, .int y)] := hl
  refine lv_iload_n hx hb dX1_isGood_0 rfl (lv_at hl 1 rfl) ?_
  rcases (show sd = 0 ∨ sd = 1 ∨ sd = 2 ∨ sd = 3 by omega) with h_ | h_ | h_ | h_ <;> subst h_
  · refine lv_tableIn (off := 27) (tgt := 28) hx hb dX1_isGood_1 (by decide) (by decide) rfl (by decide) ?_
    refine lv_iload_n hx hb dX1_isGood_28 rfl (lv_at hl 2 rfl) ?_
    refine lv_aload_n hx hb dX1_isGood_29 rfl (lv_at hl 0 rfl) ?_
    refine xget1 S hK hP 0 rfl 12 (by decide) q42 rfl (v := .int x0) rfl dX1_isGood_30 ?_
    refine lv_icmp_lt (tgt := 40) hx hb dX1_isGood_33 (by decide) (fun c_33 => ?_) (fun c_33 => ?_)
    · refine lv_iconst (v := 0) hx hb dX1_isGood_40 (by decide) ?_
      exact xretSi hx hb hr hlk dX1_isGood_41 (rfl) (by simp [bI, goodB, c_33])
    · refine lv_iconst (v := 1) hx hb dX1_isGood_36 (by decide) ?_
      refine lv_goto (tgt := 41) hx hb dX1_isGood_37 (by decide) ?_
      exact xretSi hx hb hr hlk dX1_isGood_41 (rfl) (by simp [bI, goodB, c_33])
  · refine lv_tableIn (off := 41) (tgt := 42) hx hb dX1_isGood_1 (by decide) (by decide) rfl (by decide) ?_
    refine lv_iload_n hx hb dX1_isGood_42 rfl (lv_at hl 2 rfl) ?_
    refine lv_aload_n hx hb dX1_isGood_43 rfl (lv_at hl 0 rfl) ?_
    refine xget1 S hK hP 0 rfl 14 (by decide) q44 rfl (v := .int x1) rfl dX1_isGood_44 ?_
    refine lv_icmp_gt (tgt := 54) hx hb dX1_isGood_47 (by decide) (fun c_47 => ?_) (fun c_47 => ?_)
    · refine lv_iconst (v := 0) hx hb dX1_isGood_54 (by decide) ?_
      exact xretSi hx hb hr hlk dX1_isGood_55 (rfl) (by simp [bI, goodB, c_47])
    · refine lv_iconst (v := 1) hx hb dX1_isGood_50 (by decide) ?_
      refine lv_goto (tgt := 55) hx hb dX1_isGood_51 (by decide) ?_
      exact xretSi hx hb hr hlk dX1_isGood_55 (rfl) (by simp [bI, goodB, c_47])
  · refine lv_tableIn (off := 55) (tgt := 56) hx hb dX1_isGood_1 (by decide) (by decide) rfl (by decide) ?_
    refine lv_iload_n hx hb dX1_isGood_56 rfl (lv_at hl 3 rfl) ?_
    refine lv_aload_n hx hb dX1_isGood_57 rfl (lv_at hl 0 rfl) ?_
    refine xget1 S hK hP 0 rfl 13 (by decide) q43 rfl (v := .int y0) rfl dX1_isGood_58 ?_
    refine lv_icmp_lt (tgt := 68) hx hb dX1_isGood_61 (by decide) (fun c_61 => ?_) (fun c_61 => ?_)
    · refine lv_iconst (v := 0) hx hb dX1_isGood_68 (by decide) ?_
      exact xretSi hx hb hr hlk dX1_isGood_69 (rfl) (by simp [bI, goodB, c_61])
    · refine lv_iconst (v := 1) hx hb dX1_isGood_64 (by decide) ?_
      refine lv_goto (tgt := 69) hx hb dX1_isGood_65 (by decide) ?_
      exact xretSi hx hb hr hlk dX1_isGood_69 (rfl) (by simp [bI, goodB, c_61])
  · refine lv_tableOut (tgt := 70) hx hb dX1_isGood_1 (by decide) (by decide) ?_
    refine lv_iload_n hx hb dX1_isGood_70 rfl (lv_at hl 3 rfl) ?_
    refine lv_aload_n hx hb dX1_isGood_71 rfl (lv_at hl 0 rfl) ?_
    refine xget1 S hK hP 0 rfl 15 (by decide) q45 rfl (v := .int y1) rfl dX1_isGood_72 ?_
    refine lv_icmp_gt (tgt := 82) hx hb dX1_isGood_75 (by decide) (fun c_75 => ?_) (fun c_75 => ?_)
    · refine lv_iconst (v := 0) hx hb dX1_isGood_82 (by decide) ?_
      exact xretSi hx hb hr hlk dX1_isGood_83 (rfl) (by simp [bI, goodB, c_75])
    · refine lv_iconst (v := 1) hx hb dX1_isGood_78 (by decide) ?_
      refine lv_goto (tgt := 83) hx hb dX1_isGood_79 (by decide) ?_
      exact xretSi hx hb hr hlk dX1_isGood_83 (rfl) (by simp [bI, goodB, c_75])

set_option maxHeartbeats 4000000 in
set_option maxRecDepth 100000 in
/-- vx(i) -/
theorem mtX1_vx (l : Launch) (D : va_G) (d : ClassId) (a : Nat → Nat) (px py qx qy fr tb ac la sx sy : Nat → Int32) (w h C n : Nat) (x0 y0 x1 y1 : Int32) (mn : Nat) (i : Int32) (hn : n ≤ 60) : Met l yX1_vx (ws_ yX1_vx cX1_vx 2 (some .int)) (rm_ 0 0) (PcR [.ref (a 0), .int i] D (wP d a px py qx qy fr tb ac la sx sy w h C n x0 y0 x1 y1 mn) [(d, .int)]) (vp_Si (fun r => r = vxI px n i)) 0 0 (fun _ => False) := by
  refine xMetR (by decide) (Nat.le_of_ble_eq_true rfl) ?_
  intro p e s m below meth c ls S hr hlk hl hP hK
  have S : CallFix p m c cX1_vx 2 s _ lw_all RX1 := S
  have hx := S.1
  have hb := S.2.1
  have hl : lv_has ls 2 [(0, .ref (a 0)), (1, .int i)] := hl
  refine lv_iload_n hx hb dX1_vx_0 rfl (lv_at hl 1 rfl) ?_
  refine lv_if_lt (tgt := 21) hx hb dX1_vx_1 (by decide) (fun c_1 => ?_) (fun c_1 => ?_)
  · refine lv_sipush (v := (-32768)) hx hb dX1_vx_21 (by decide) ?_
    exact xretSi hx hb hr hlk dX1_vx_24 (rfl) (vxI_neg c_1)
  · refine lv_iload_n hx hb dX1_vx_4 rfl (lv_at hl 1 rfl) ?_
    refine lv_aload_n hx hb dX1_vx_5 rfl (lv_at hl 0 rfl) ?_
    refine xget1 S hK hP 0 rfl 11 (by decide) q41 rfl (v := .int (nI n)) rfl dX1_vx_6 ?_
    refine lv_icmp_ge (tgt := 21) hx hb dX1_vx_9 (by decide) (fun c_9 => ?_) (fun c_9 => ?_)
    · refine lv_sipush (v := (-32768)) hx hb dX1_vx_21 (by decide) ?_
      exact xretSi hx hb hr hlk dX1_vx_24 (rfl) (vxI_big c_1 c_9)
    · obtain ⟨j, hj, rfl⟩ := vx_in hn c_1 c_9
      refine lv_aload_n hx hb dX1_vx_12 rfl (lv_at hl 0 rfl) ?_
      refine xget1 S hK hP 0 rfl 0 (by decide) q30 rfl (v := .ref (a 1)) rfl dX1_vx_13 ?_
      refine lv_iload_n hx hb dX1_vx_16 rfl (lv_at hl 1 rfl) ?_
      refine xald (j := j) hx hb hK hP 1 0 rfl rfl (by decide) dX1_vx_17 (by omega) ?_
      refine lv_goto (tgt := 24) hx hb dX1_vx_18 (by decide) ?_
      exact xretSi hx hb hr hlk dX1_vx_24 (rfl) (vxI_in hj hn)

set_option maxHeartbeats 4000000 in
set_option maxRecDepth 100000 in
/-- vy(i) -/
theorem mtX1_vy (l : Launch) (D : va_G) (d : ClassId) (a : Nat → Nat) (px py qx qy fr tb ac la sx sy : Nat → Int32) (w h C n : Nat) (x0 y0 x1 y1 : Int32) (mn : Nat) (i : Int32) (hn : n ≤ 60) : Met l yX1_vy (ws_ yX1_vy cX1_vy 2 (some .int)) (rm_ 0 0) (PcR [.ref (a 0), .int i] D (wP d a px py qx qy fr tb ac la sx sy w h C n x0 y0 x1 y1 mn) [(d, .int)]) (vp_Si (fun r => r = vxI py n i)) 0 0 (fun _ => False) := by
  refine xMetR (by decide) (Nat.le_of_ble_eq_true rfl) ?_
  intro p e s m below meth c ls S hr hlk hl hP hK
  have S : CallFix p m c cX1_vy 2 s _ lw_all RX1 := S
  have hx := S.1
  have hb := S.2.1
  have hl : lv_has ls 2 [(0, .ref (a 0)), (1, .int i)] := hl
  refine lv_iload_n hx hb dX1_vy_0 rfl (lv_at hl 1 rfl) ?_
  refine lv_if_lt (tgt := 21) hx hb dX1_vy_1 (by decide) (fun c_1 => ?_) (fun c_1 => ?_)
  · refine lv_sipush (v := (-32768)) hx hb dX1_vy_21 (by decide) ?_
    exact xretSi hx hb hr hlk dX1_vy_24 (rfl) (vxI_neg c_1)
  · refine lv_iload_n hx hb dX1_vy_4 rfl (lv_at hl 1 rfl) ?_
    refine lv_aload_n hx hb dX1_vy_5 rfl (lv_at hl 0 rfl) ?_
    refine xget1 S hK hP 0 rfl 11 (by decide) q41 rfl (v := .int (nI n)) rfl dX1_vy_6 ?_
    refine lv_icmp_ge (tgt := 21) hx hb dX1_vy_9 (by decide) (fun c_9 => ?_) (fun c_9 => ?_)
    · refine lv_sipush (v := (-32768)) hx hb dX1_vy_21 (by decide) ?_
      exact xretSi hx hb hr hlk dX1_vy_24 (rfl) (vxI_big c_1 c_9)
    · obtain ⟨j, hj, rfl⟩ := vx_in hn c_1 c_9
      refine lv_aload_n hx hb dX1_vy_12 rfl (lv_at hl 0 rfl) ?_
      refine xget1 S hK hP 0 rfl 1 (by decide) q31 rfl (v := .ref (a 2)) rfl dX1_vy_13 ?_
      refine lv_iload_n hx hb dX1_vy_16 rfl (lv_at hl 1 rfl) ?_
      refine xald (j := j) hx hb hK hP 2 0 rfl rfl (by decide) dX1_vy_17 (by omega) ?_
      refine lv_goto (tgt := 24) hx hb dX1_vy_18 (by decide) ?_
      exact xretSi hx hb hr hlk dX1_vy_24 (rfl) (vxI_in hj hn)

set_option maxHeartbeats 4000000 in
set_option maxRecDepth 100000 in
/-- vertices() -/
theorem mtX1_vertices (l : Launch) (D : va_G) (d : ClassId) (a : Nat → Nat) (px py qx qy fr tb ac la sx sy : Nat → Int32) (w h C n : Nat) (x0 y0 x1 y1 : Int32) (mn : Nat)  : Met l yX1_vertices (ws_ yX1_vertices cX1_vertices 1 (some .int)) (rm_ 0 0) (PcR [.ref (a 0)] D (wP d a px py qx qy fr tb ac la sx sy w h C n x0 y0 x1 y1 mn) [(d, .int)]) (vp_Si (fun r => r = nI n)) 0 0 (fun _ => False) := by
  refine xMetR (by decide) (Nat.le_of_ble_eq_true rfl) ?_
  intro p e s m below meth c ls S hr hlk hl hP hK
  have S : CallFix p m c cX1_vertices 1 s _ lw_all RX1 := S
  have hx := S.1
  have hb := S.2.1
  have hl : lv_has ls 1 [(0, .ref (a 0))] := hl
  refine lv_aload_n hx hb dX1_vertices_0 rfl (lv_at hl 0 rfl) ?_
  refine xget1 S hK hP 0 rfl 11 (by decide) q41 rfl (v := .int (nI n)) rfl dX1_vertices_1 ?_
  exact xretSi hx hb hr hlk dX1_vertices_4 (rfl) (rfl)

set_option maxHeartbeats 4000000 in
set_option maxRecDepth 100000 in
/-- pixel(x, y) -/
theorem mtX1_pixel (l : Launch) (D : va_G) (d : ClassId) (a : Nat → Nat) (px py qx qy fr tb ac la sx sy : Nat → Int32) (w h C n : Nat) (x0 y0 x1 y1 : Int32) (mn : Nat) (x y : Int32) (hw : w ≤ 24) (hh : h ≤ 24) : Met l yX1_pixel (ws_ yX1_pixel cX1_pixel 3 (some .int)) (rm_ 0 0) (PcR [.ref (a 0), .int x, .int y] D (wP d a px py qx qy fr tb ac la sx sy w h C n x0 y0 x1 y1 mn) [(d, .int)]) (vp_Si (fun r => r = pixI w fr w h x y)) 0 0 (fun _ => False) := by
  refine xMetR (by decide) (Nat.le_of_ble_eq_true rfl) ?_
  intro p e s m below meth c ls S hr hlk hl hP hK
  have S : CallFix p m c cX1_pixel 3 s _ lw_all RX1 := S
  have hx := S.1
  have hb := S.2.1
  have hl : lv_has ls 3 [(0, .ref (a 0)), (1, .int x), (2, .int y)] := hl
  refine lv_iload_n hx hb dX1_pixel_0 rfl (lv_at hl 1 rfl) ?_
  refine lv_if_lt (tgt := 40) hx hb dX1_pixel_1 (by decide) (fun c_1 => ?_) (fun c_1 => ?_)
  · refine lv_iconst (v := (-1)) hx hb dX1_pixel_40 (by decide) ?_
    exact xretSi hx hb hr hlk dX1_pixel_41 (rfl) (pixI_out (Or.inl c_1))
  · refine lv_iload_n hx hb dX1_pixel_4 rfl (lv_at hl 1 rfl) ?_
    refine lv_aload_n hx hb dX1_pixel_5 rfl (lv_at hl 0 rfl) ?_
    refine xget1 S hK hP 0 rfl 8 (by decide) q38 rfl (v := .int (nI w)) rfl dX1_pixel_6 ?_
    refine lv_icmp_ge (tgt := 40) hx hb dX1_pixel_9 (by decide) (fun c_9 => ?_) (fun c_9 => ?_)
    · refine lv_iconst (v := (-1)) hx hb dX1_pixel_40 (by decide) ?_
      exact xretSi hx hb hr hlk dX1_pixel_41 (rfl) (pixI_out (Or.inr (Or.inl c_9)))
    · refine lv_iload_n hx hb dX1_pixel_12 rfl (lv_at hl 2 rfl) ?_
      refine lv_if_lt (tgt := 40) hx hb dX1_pixel_13 (by decide) (fun c_13 => ?_) (fun c_13 => ?_)
      · refine lv_iconst (v := (-1)) hx hb dX1_pixel_40 (by decide) ?_
        exact xretSi hx hb hr hlk dX1_pixel_41 (rfl) (pixI_out (Or.inr (Or.inr (Or.inl c_13))))
      · refine lv_iload_n hx hb dX1_pixel_16 rfl (lv_at hl 2 rfl) ?_
        refine lv_aload_n hx hb dX1_pixel_17 rfl (lv_at hl 0 rfl) ?_
        refine xget1 S hK hP 0 rfl 9 (by decide) q39 rfl (v := .int (nI h)) rfl dX1_pixel_18 ?_
        refine lv_icmp_ge (tgt := 40) hx hb dX1_pixel_21 (by decide) (fun c_21 => ?_) (fun c_21 => ?_)
        · refine lv_iconst (v := (-1)) hx hb dX1_pixel_40 (by decide) ?_
          exact xretSi hx hb hr hlk dX1_pixel_41 (rfl) (pixI_out (Or.inr (Or.inr (Or.inr c_21))))
        · obtain ⟨i, hi, rfl⟩ := vx_in (n := w) (by omega) c_1 c_9
          obtain ⟨j, hj, rfl⟩ := vx_in (n := h) (by omega) c_13 c_21
          have hij := pix_lt hw hh hi hj
          refine lv_aload_n hx hb dX1_pixel_24 rfl (lv_at hl 0 rfl) ?_
          refine xget1 S hK hP 0 rfl 4 (by decide) q34 rfl (v := .ref (a 5)) rfl dX1_pixel_25 ?_
          refine lv_aload_n hx hb dX1_pixel_28 rfl (lv_at hl 0 rfl) ?_
          refine xget1 S hK hP 0 rfl 8 (by decide) q38 rfl (v := .int (nI w)) rfl dX1_pixel_29 ?_
          refine lv_iload_n hx hb dX1_pixel_32 rfl (lv_at hl 2 rfl) ?_
          refine lv_imul hx hb dX1_pixel_33 ?_
          refine xtopi (y := nI (w * j)) (pk_mul w j) ?_
          refine lv_iload_n hx hb dX1_pixel_34 rfl (lv_at hl 1 rfl) ?_
          refine lv_iadd hx hb dX1_pixel_35 ?_
          refine xtopi (y := nI ((w * j) + i)) (nI_add (w * j) i) ?_
          refine xald (j := (w * j) + i) hx hb hK hP 5 0 rfl rfl (by decide) dX1_pixel_36 (by omega) ?_
          refine lv_goto (tgt := 41) hx hb dX1_pixel_37 (by decide) ?_
          exact xretSi hx hb hr hlk dX1_pixel_41 (rfl) (pixI_in hw hh hi hj)
end
section
/-! PolygonFrame: small methods that change it -/
set_option maxHeartbeats 4000000 in
set_option maxRecDepth 100000 in
/-- clear(colour): every pixel of the frame -/
theorem mtX1_clear (l : Launch) (D : va_G) (d : ClassId) (a : Nat → Nat) (px py qx qy fr tb ac la sx sy : Nat → Int32) (w h C n : Nat) (x0 y0 x1 y1 : Int32) (mn : Nat) (col : Int32) (hwh : w * h ≤ 576) (sz : Nat) : Met l yX1_clear (ws_ yX1_clear cX1_clear 3 none) (rm_ 0 0) (PcM [.ref (a 0), .int col] D (wP d a px py qx qy fr tb ac la sx sy w h C n x0 y0 x1 y1 mn) [(d, .int)] sz) (va_Qv (fun (u_ : (Nat → Int32)) => ∀ k, k < w * h → u_ k = col) (fun (u_ : (Nat → Int32)) t => QB D [(d, .int)] (va_A (wP d a px py qx qy fr tb ac la sx sy w h C n x0 y0 x1 y1 mn) sz) (wP d a px py qx qy u_ tb ac la sx sy w h C n x0 y0 x1 y1 mn) t) (va_A (wP d a px py qx qy fr tb ac la sx sy w h C n x0 y0 x1 y1 mn) sz)) 0 0 (va_A (wP d a px py qx qy fr tb ac la sx sy w h C n x0 y0 x1 y1 mn) sz) := by
  refine xMetM (Qf := fun A => (va_Qv (fun (u_ : (Nat → Int32)) => ∀ k, k < w * h → u_ k = col) (fun (u_ : (Nat → Int32)) t => QB D [(d, .int)] A (wP d a px py qx qy u_ tb ac la sx sy w h C n x0 y0 x1 y1 mn) t) A)) (by decide) (Nat.le_of_ble_eq_true rfl) ?_
  intro p e s m below meth c ls A H locs S hr hlk hl hP hK hD hS hA hin
  have S : CallFix p m c cX1_clear 3 s _ lw_all RX1 := S
  have hx := S.1
  have hb := S.2.1
  have hl : lv_has ls 3 [(0, .ref (a 0)), (1, .int col)] := hl
  refine lv_iconst (v := 0) hx hb dX1_clear_0 (by decide) ?_
  refine lv_istore_n (lv' := [(2, .int 0), (0, .ref (a 0)), (1, .int col)]) hx hb dX1_clear_1 rfl hl (by decide) rfl (fun ls hl => ?_)
  refine xloop (α := Nat × (Nat → Int32)) (fun x_ => w * h - x_.1) (fun x_ H locs g_ => ∃ ls, g_ = F0 m 2 ls [] ∧ lv_has ls 3 [(0, .ref (a 0)), (1, .int col), (2, .int (nI x_.1))] ∧ va_P D vwCl (wP d a px py qx qy x_.2 tb ac la sx sy w h C n x0 y0 x1 y1 mn) H ∧ va_D A (wP d a px py qx qy x_.2 tb ac la sx sy w h C n x0 y0 x1 y1 mn) ∧ va_S A s.heap H locs ∧ (x_.1 ≤ w * h ∧ ∀ j, j < x_.1 → x_.2 j = col)) ?_ (0, fr) ⟨ls, rfl, (lv_sub hl [1, 2, 0] rfl), hP, hD, hS, (show 0 ≤ w * h ∧ ∀ j, j < 0 → fr j = col from ⟨Nat.zero_le _, fun j h_ => absurd h_ (Nat.not_lt_zero j)⟩)⟩
  intro x_ H locs g_ hJ_ ih_2
  obtain ⟨k, f⟩ := x_
  obtain ⟨ls, rfl, hl, hP, hD, hS, hI_2⟩ := hJ_
  have hl : lv_has ls 3 [(0, .ref (a 0)), (1, .int col), (2, .int (nI k))] := hl
  have hP : va_P D vwCl (wP d a px py qx qy f tb ac la sx sy w h C n x0 y0 x1 y1 mn) H := hP
  have hD : va_D A (wP d a px py qx qy f tb ac la sx sy w h C n x0 y0 x1 y1 mn) := hD
  have hI_2 : k ≤ w * h ∧ ∀ j, j < k → f j = col := hI_2
  refine lv_iload_n hx hb dX1_clear_2 rfl (lv_at hl 2 rfl) ?_
  refine lv_aload_n hx hb dX1_clear_3 rfl (lv_at hl 0 rfl) ?_
  refine xget1 S hK hP 0 rfl 8 (by decide) q38 rfl (v := .int (nI w)) rfl dX1_clear_4 ?_
  refine lv_aload_n hx hb dX1_clear_7 rfl (lv_at hl 0 rfl) ?_
  refine xget1 S hK hP 0 rfl 9 (by decide) q39 rfl (v := .int (nI h)) rfl dX1_clear_8 ?_
  refine lv_imul hx hb dX1_clear_11 ?_
  refine xtopi (y := nI (w * h)) (pk_mul w h) ?_
  refine lv_icmp_ge (tgt := 28) hx hb dX1_clear_12 (by decide) (fun c_12 => ?_) (fun c_12 => ?_)
  · have c_12 : (w * h) ≤ k := xle (a := (w * h)) (b := k) c_12 (by omega) (by omega)
    exact xretMv hx hb hr hlk hK hS dX1_clear_28 (f) hP hD (fun j h_ => hI_2.2 j (by omega))
  · have c_12 : (w * h) > k := xnle (a := (w * h)) (b := k) c_12 (by omega) (by omega)
    refine lv_aload_n hx hb dX1_clear_15 rfl (lv_at hl 0 rfl) ?_
    refine xget1 S hK hP 0 rfl 4 (by decide) q34 rfl (v := .ref (a 5)) rfl dX1_clear_16 ?_
    refine lv_iload_n hx hb dX1_clear_19 rfl (lv_at hl 2 rfl) ?_
    refine lv_iload_n hx hb dX1_clear_20 rfl (lv_at hl 1 rfl) ?_
    refine xast (j := k) hx hb hK hP hD hS 5 0 rfl rfl (by decide) dX1_clear_21 (by omega) (fun H locs hP hD hS => ?_)
    have hP : va_P D vwCl (wP d a px py qx qy (upd f k col) tb ac la sx sy w h C n x0 y0 x1 y1 mn) H := hP
    have hD : va_D A (wP d a px py qx qy (upd f k col) tb ac la sx sy w h C n x0 y0 x1 y1 mn) := hD
    refine lv_iinc (v := nI (k + 1)) (lv' := [(2, .int (nI (k + 1))), (0, .ref (a 0)), (1, .int col)]) hx hb dX1_clear_22 hl (k := 2) rfl (nI_inc _) (by decide) rfl (fun ls hl => ?_)
    refine lv_goto (tgt := 2) hx hb dX1_clear_25 (by decide) ?_
    exact ih_2 (k + 1, upd f k col) _ _ _ (by show w * h - (k + 1) < w * h - k; omega) ⟨ls, rfl, (lv_sub hl [1, 2, 0] rfl), hP, hD, hS, (show (k + 1) ≤ w * h ∧ ∀ j, j < (k + 1) → (upd f k col) j = col from ⟨by omega, upd_all hI_2.2⟩)⟩

set_option maxHeartbeats 4000000 in
set_option maxRecDepth 100000 in
/-- begin(): no vertex -/
theorem mtX1_begin (l : Launch) (D : va_G) (d : ClassId) (a : Nat → Nat) (px py qx qy fr tb ac la sx sy : Nat → Int32) (w h C n : Nat) (x0 y0 x1 y1 : Int32) (mn : Nat)  (sz : Nat) : Met l yX1_begin (ws_ yX1_begin cX1_begin 1 none) (rm_ 0 0) (PcM [.ref (a 0)] D (wP d a px py qx qy fr tb ac la sx sy w h C n x0 y0 x1 y1 mn) [(d, .int)] sz) (va_Qv (fun (u_ : Unit) => True) (fun (u_ : Unit) t => QB D [(d, .int)] (va_A (wP d a px py qx qy fr tb ac la sx sy w h C n x0 y0 x1 y1 mn) sz) (wP d a px py qx qy fr tb ac la sx sy w h C 0 x0 y0 x1 y1 mn) t) (va_A (wP d a px py qx qy fr tb ac la sx sy w h C n x0 y0 x1 y1 mn) sz)) 0 0 (va_A (wP d a px py qx qy fr tb ac la sx sy w h C n x0 y0 x1 y1 mn) sz) := by
  refine xMetM (Qf := fun A => (va_Qv (fun (u_ : Unit) => True) (fun (u_ : Unit) t => QB D [(d, .int)] A (wP d a px py qx qy fr tb ac la sx sy w h C 0 x0 y0 x1 y1 mn) t) A)) (by decide) (Nat.le_of_ble_eq_true rfl) ?_
  intro p e s m below meth c ls A H locs S hr hlk hl hP hK hD hS hA hin
  have S : CallFix p m c cX1_begin 1 s _ lw_all RX1 := S
  have hx := S.1
  have hb := S.2.1
  have hl : lv_has ls 1 [(0, .ref (a 0))] := hl
  refine lv_aload_n hx hb dX1_begin_0 rfl (lv_at hl 0 rfl) ?_
  refine lv_iconst (v := 0) hx hb dX1_begin_1 (by decide) ?_
  refine xput1 S hK hP hD hS 0 rfl 11 (by decide) q41 rfl rfl (by decide +kernel) (Nat.le_of_ble_eq_true rfl) dX1_begin_2 (fun H locs hP hD hS => ?_)
  have hP : va_P D vwCl (wP d a px py qx qy fr tb ac la sx sy w h C 0 x0 y0 x1 y1 mn) H := hP
  have hD : va_D A (wP d a px py qx qy fr tb ac la sx sy w h C 0 x0 y0 x1 y1 mn) := hD
  exact xretMv hx hb hr hlk hK hS dX1_begin_5 () hP hD (trivial)

set_option maxHeartbeats 4000000 in
set_option maxRecDepth 100000 in
/-- vertex(x, y) -/
theorem mtX1_vertex (l : Launch) (D : va_G) (d : ClassId) (a : Nat → Nat) (px py qx qy fr tb ac la sx sy : Nat → Int32) (w h C n : Nat) (x0 y0 x1 y1 : Int32) (mn : Nat) (x y : Int32) (hn : n ≤ C) (hC : C ≤ 60) (sz : Nat) : Met l yX1_vertex (ws_ yX1_vertex cX1_vertex 3 (some .boolean)) (rm_ 1 20) (PcM [.ref (a 0), .int x, .int y] D (wP d a px py qx qy fr tb ac la sx sy w h C n x0 y0 x1 y1 mn) [(d, .int)] sz) (va_Qi (fun (r : Int32) (u_ : ((Nat → Int32) × (Nat → Int32) × Nat)) => (r, u_.1, u_.2.1, u_.2.2) = vtxI px py n C x y) (fun (u_ : ((Nat → Int32) × (Nat → Int32) × Nat)) t => QB D [(d, .int)] (va_A (wP d a px py qx qy fr tb ac la sx sy w h C n x0 y0 x1 y1 mn) sz) (wP d a u_.1 u_.2.1 qx qy fr tb ac la sx sy w h C u_.2.2 x0 y0 x1 y1 mn) t) (va_A (wP d a px py qx qy fr tb ac la sx sy w h C n x0 y0 x1 y1 mn) sz)) 0 0 (va_A (wP d a px py qx qy fr tb ac la sx sy w h C n x0 y0 x1 y1 mn) sz) := by
  refine xMetM (Qf := fun A => (va_Qi (fun (r : Int32) (u_ : ((Nat → Int32) × (Nat → Int32) × Nat)) => (r, u_.1, u_.2.1, u_.2.2) = vtxI px py n C x y) (fun (u_ : ((Nat → Int32) × (Nat → Int32) × Nat)) t => QB D [(d, .int)] A (wP d a u_.1 u_.2.1 qx qy fr tb ac la sx sy w h C u_.2.2 x0 y0 x1 y1 mn) t) A)) (by decide) (Nat.le_of_ble_eq_true rfl) ?_
  intro p e s m below meth c ls A H locs S hr hlk hl hP hK hD hS hA hin
  have S : CallFix p m c cX1_vertex 3 s _ lw_all RX1 := S
  have hx := S.1
  have hb := S.2.1
  have hl : lv_has ls 3 [(0, .ref (a 0)), (1, .int x), (2, .int y)] := hl
  refine lv_aload_n hx hb dX1_vertex_0 rfl (lv_at hl 0 rfl) ?_
  refine xget1 S hK hP 0 rfl 11 (by decide) q41 rfl (v := .int (nI n)) rfl dX1_vertex_1 ?_
  refine lv_aload_n hx hb dX1_vertex_4 rfl (lv_at hl 0 rfl) ?_
  refine xget1 S hK hP 0 rfl 10 (by decide) q40 rfl (v := .int (nI C)) rfl dX1_vertex_5 ?_
  refine lv_icmp_eq (tgt := 25) hx hb dX1_vertex_8 (by decide) (fun c_8 => ?_) (fun c_8 => ?_)
  · have c_8 : n = C := xeq (a := n) (b := C) c_8 (by omega) (by omega)
    refine lv_iconst (v := 0) hx hb dX1_vertex_25 (by decide) ?_
    exact xretMi hx hb hr hlk hK hS dX1_vertex_26 (rfl) (px, py, n) hP hD (by simp [vtxI, c_8])
  · have c_8 : n ≠ C := xne (a := n) (b := C) c_8 (by omega) (by omega)
    refine lv_iload_n hx hb dX1_vertex_11 rfl (lv_at hl 1 rfl) ?_
    refine xcSi [.int x] S (mtX1_isFar l x ) q101 siX1_isFar ⟨rfl, rfl⟩ ⟨Nat.le_of_ble_eq_true rfl, Nat.le_of_ble_eq_true rfl⟩ ⟨Nat.le_of_ble_eq_true rfl, Nat.le_of_ble_eq_true rfl⟩ hl.1 (rest := []) rfl (Nat.le_of_ble_eq_true rfl) dX1_vertex_12 (fun r_ h_ => ?_)
    obtain rfl := h_
    refine lv_if_ne (tgt := 25) hx hb dX1_vertex_15 (by decide) (fun c_15 => ?_) (fun c_15 => ?_)
    · have c_15 : (far x) = true := bI_1 c_15
      refine lv_iconst (v := 0) hx hb dX1_vertex_25 (by decide) ?_
      exact xretMi hx hb hr hlk hK hS dX1_vertex_26 (rfl) (px, py, n) hP hD (by simp [vtxI, c_8, c_15])
    · have c_15 : (far x) = false := bI_0 c_15
      refine lv_iload_n hx hb dX1_vertex_18 rfl (lv_at hl 2 rfl) ?_
      refine xcSi [.int y] S (mtX1_isFar l y ) q101 siX1_isFar ⟨rfl, rfl⟩ ⟨Nat.le_of_ble_eq_true rfl, Nat.le_of_ble_eq_true rfl⟩ ⟨Nat.le_of_ble_eq_true rfl, Nat.le_of_ble_eq_true rfl⟩ hl.1 (rest := []) rfl (Nat.le_of_ble_eq_true rfl) dX1_vertex_19 (fun r_ h_ => ?_)
      obtain rfl := h_
      refine lv_if_eq (tgt := 27) hx hb dX1_vertex_22 (by decide) (fun c_22 => ?_) (fun c_22 => ?_)
      · have c_22 : (far y) = false := bI_0 c_22
        refine lv_aload_n hx hb dX1_vertex_27 rfl (lv_at hl 0 rfl) ?_
        refine xget1 S hK hP 0 rfl 0 (by decide) q30 rfl (v := .ref (a 1)) rfl dX1_vertex_28 ?_
        refine lv_aload_n hx hb dX1_vertex_31 rfl (lv_at hl 0 rfl) ?_
        refine xget1 S hK hP 0 rfl 11 (by decide) q41 rfl (v := .int (nI n)) rfl dX1_vertex_32 ?_
        refine lv_iload_n hx hb dX1_vertex_35 rfl (lv_at hl 1 rfl) ?_
        refine xast (j := n) hx hb hK hP hD hS 1 0 rfl rfl (by decide) dX1_vertex_36 (by omega) (fun H locs hP hD hS => ?_)
        have hP : va_P D vwCl (wP d a (upd px n x) py qx qy fr tb ac la sx sy w h C n x0 y0 x1 y1 mn) H := hP
        have hD : va_D A (wP d a (upd px n x) py qx qy fr tb ac la sx sy w h C n x0 y0 x1 y1 mn) := hD
        refine lv_aload_n hx hb dX1_vertex_37 rfl (lv_at hl 0 rfl) ?_
        refine xget1 S hK hP 0 rfl 1 (by decide) q31 rfl (v := .ref (a 2)) rfl dX1_vertex_38 ?_
        refine lv_aload_n hx hb dX1_vertex_41 rfl (lv_at hl 0 rfl) ?_
        refine xget1 S hK hP 0 rfl 11 (by decide) q41 rfl (v := .int (nI n)) rfl dX1_vertex_42 ?_
        refine lv_iload_n hx hb dX1_vertex_45 rfl (lv_at hl 2 rfl) ?_
        refine xast (j := n) hx hb hK hP hD hS 2 0 rfl rfl (by decide) dX1_vertex_46 (by omega) (fun H locs hP hD hS => ?_)
        have hP : va_P D vwCl (wP d a (upd px n x) (upd py n y) qx qy fr tb ac la sx sy w h C n x0 y0 x1 y1 mn) H := hP
        have hD : va_D A (wP d a (upd px n x) (upd py n y) qx qy fr tb ac la sx sy w h C n x0 y0 x1 y1 mn) := hD
        refine lv_aload_n hx hb dX1_vertex_47 rfl (lv_at hl 0 rfl) ?_
        refine lv_dup hx hb dX1_vertex_48 rfl ?_
        refine xget1 S hK hP 0 rfl 11 (by decide) q41 rfl (v := .int (nI n)) rfl dX1_vertex_49 ?_
        refine lv_iconst (v := 1) hx hb dX1_vertex_52 (by decide) ?_
        refine lv_iadd hx hb dX1_vertex_53 ?_
        refine xtopi (y := nI (n + 1)) (nI_add n 1) ?_
        refine xput1 S hK hP hD hS 0 rfl 11 (by decide) q41 rfl rfl (by decide +kernel) (Nat.le_of_ble_eq_true rfl) dX1_vertex_54 (fun H locs hP hD hS => ?_)
        have hP : va_P D vwCl (wP d a (upd px n x) (upd py n y) qx qy fr tb ac la sx sy w h C (n + 1) x0 y0 x1 y1 mn) H := hP
        have hD : va_D A (wP d a (upd px n x) (upd py n y) qx qy fr tb ac la sx sy w h C (n + 1) x0 y0 x1 y1 mn) := hD
        refine lv_iconst (v := 1) hx hb dX1_vertex_57 (by decide) ?_
        exact xretMi hx hb hr hlk hK hS dX1_vertex_58 (rfl) (upd px n x, upd py n y, n + 1) hP hD (by simp [vtxI, c_8, c_15, c_22])
      · have c_22 : (far y) = true := bI_1 c_22
        refine lv_iconst (v := 0) hx hb dX1_vertex_25 (by decide) ?_
        exact xretMi hx hb hr hlk hK hS dX1_vertex_26 (rfl) (px, py, n) hP hD (by simp [vtxI, c_8, c_15, c_22])

set_option maxHeartbeats 4000000 in
set_option maxRecDepth 100000 in
/-- setClip(x0, y0, x1, y1) -/
theorem mtX1_setClip (l : Launch) (D : va_G) (d : ClassId) (a : Nat → Nat) (px py qx qy fr tb ac la sx sy : Nat → Int32) (w h C n : Nat) (x0 y0 x1 y1 : Int32) (mn : Nat) (a0 b0 a1 b1 : Int32) (sz : Nat) : Met l yX1_setClip (ws_ yX1_setClip cX1_setClip 5 (some .boolean)) (rm_ 1 20) (PcM [.ref (a 0), .int a0, .int b0, .int a1, .int b1] D (wP d a px py qx qy fr tb ac la sx sy w h C n x0 y0 x1 y1 mn) [(d, .int)] sz) (va_Qi (fun (r : Int32) (u_ : (Int32 × Int32 × Int32 × Int32)) => (r, u_.1, u_.2.1, u_.2.2.1, u_.2.2.2) = clpI x0 y0 x1 y1 a0 b0 a1 b1) (fun (u_ : (Int32 × Int32 × Int32 × Int32)) t => QB D [(d, .int)] (va_A (wP d a px py qx qy fr tb ac la sx sy w h C n x0 y0 x1 y1 mn) sz) (wP d a px py qx qy fr tb ac la sx sy w h C n u_.1 u_.2.1 u_.2.2.1 u_.2.2.2 mn) t) (va_A (wP d a px py qx qy fr tb ac la sx sy w h C n x0 y0 x1 y1 mn) sz)) 0 0 (va_A (wP d a px py qx qy fr tb ac la sx sy w h C n x0 y0 x1 y1 mn) sz) := by
  refine xMetM (Qf := fun A => (va_Qi (fun (r : Int32) (u_ : (Int32 × Int32 × Int32 × Int32)) => (r, u_.1, u_.2.1, u_.2.2.1, u_.2.2.2) = clpI x0 y0 x1 y1 a0 b0 a1 b1) (fun (u_ : (Int32 × Int32 × Int32 × Int32)) t => QB D [(d, .int)] A (wP d a px py qx qy fr tb ac la sx sy w h C n u_.1 u_.2.1 u_.2.2.1 u_.2.2.2 mn) t) A)) (by decide) (Nat.le_of_ble_eq_true rfl) ?_
  intro p e s m below meth c ls A H locs S hr hlk hl hP hK hD hS hA hin
  have S : CallFix p m c cX1_setClip 5 s _ lw_all RX1 := S
  have hx := S.1
  have hb := S.2.1
  have hl : lv_has ls 5 [(0, .ref (a 0)), (1, .int a0), (2, .int b0), (3, .int a1), (4, .int b1)] := hl
  refine lv_iload_n hx hb dX1_setClip_0 rfl (lv_at hl 1 rfl) ?_
  refine lv_iload_n hx hb dX1_setClip_1 rfl (lv_at hl 3 rfl) ?_
  refine lv_icmp_gt (tgt := 40) hx hb dX1_setClip_2 (by decide) (fun c_2 => ?_) (fun c_2 => ?_)
  · refine lv_iconst (v := 0) hx hb dX1_setClip_40 (by decide) ?_
    exact xretMi hx hb hr hlk hK hS dX1_setClip_41 (rfl) (x0, y0, x1, y1) hP hD (by simp [clpI, c_2])
  · refine lv_iload_n hx hb dX1_setClip_5 rfl (lv_at hl 2 rfl) ?_
    refine lv_iload hx hb dX1_setClip_6 (lv_at hl 4 rfl) ?_
    refine lv_icmp_gt (tgt := 40) hx hb dX1_setClip_8 (by decide) (fun c_8 => ?_) (fun c_8 => ?_)
    · refine lv_iconst (v := 0) hx hb dX1_setClip_40 (by decide) ?_
      exact xretMi hx hb hr hlk hK hS dX1_setClip_41 (rfl) (x0, y0, x1, y1) hP hD (by simp [clpI, c_2, c_8])
    · refine lv_iload_n hx hb dX1_setClip_11 rfl (lv_at hl 1 rfl) ?_
      refine xcSi [.int a0] S (mtX1_isFar l a0 ) q101 siX1_isFar ⟨rfl, rfl⟩ ⟨Nat.le_of_ble_eq_true rfl, Nat.le_of_ble_eq_true rfl⟩ ⟨Nat.le_of_ble_eq_true rfl, Nat.le_of_ble_eq_true rfl⟩ hl.1 (rest := []) rfl (Nat.le_of_ble_eq_true rfl) dX1_setClip_12 (fun r_ h_ => ?_)
      obtain rfl := h_
      refine lv_if_ne (tgt := 40) hx hb dX1_setClip_15 (by decide) (fun c_15 => ?_) (fun c_15 => ?_)
      · have c_15 : (far a0) = true := bI_1 c_15
        refine lv_iconst (v := 0) hx hb dX1_setClip_40 (by decide) ?_
        exact xretMi hx hb hr hlk hK hS dX1_setClip_41 (rfl) (x0, y0, x1, y1) hP hD (by simp [clpI, c_2, c_8, c_15])
      · have c_15 : (far a0) = false := bI_0 c_15
        refine lv_iload_n hx hb dX1_setClip_18 rfl (lv_at hl 2 rfl) ?_
        refine xcSi [.int b0] S (mtX1_isFar l b0 ) q101 siX1_isFar ⟨rfl, rfl⟩ ⟨Nat.le_of_ble_eq_true rfl, Nat.le_of_ble_eq_true rfl⟩ ⟨Nat.le_of_ble_eq_true rfl, Nat.le_of_ble_eq_true rfl⟩ hl.1 (rest := []) rfl (Nat.le_of_ble_eq_true rfl) dX1_setClip_19 (fun r_ h_ => ?_)
        obtain rfl := h_
        refine lv_if_ne (tgt := 40) hx hb dX1_setClip_22 (by decide) (fun c_22 => ?_) (fun c_22 => ?_)
        · have c_22 : (far b0) = true := bI_1 c_22
          refine lv_iconst (v := 0) hx hb dX1_setClip_40 (by decide) ?_
          exact xretMi hx hb hr hlk hK hS dX1_setClip_41 (rfl) (x0, y0, x1, y1) hP hD (by simp [clpI, c_2, c_8, c_15, c_22])
        · have c_22 : (far b0) = false := bI_0 c_22
          refine lv_iload_n hx hb dX1_setClip_25 rfl (lv_at hl 3 rfl) ?_
          refine xcSi [.int a1] S (mtX1_isFar l a1 ) q101 siX1_isFar ⟨rfl, rfl⟩ ⟨Nat.le_of_ble_eq_true rfl, Nat.le_of_ble_eq_true rfl⟩ ⟨Nat.le_of_ble_eq_true rfl, Nat.le_of_ble_eq_true rfl⟩ hl.1 (rest := []) rfl (Nat.le_of_ble_eq_true rfl) dX1_setClip_26 (fun r_ h_ => ?_)
          obtain rfl := h_
          refine lv_if_ne (tgt := 40) hx hb dX1_setClip_29 (by decide) (fun c_29 => ?_) (fun c_29 => ?_)
          · have c_29 : (far a1) = true := bI_1 c_29
            refine lv_iconst (v := 0) hx hb dX1_setClip_40 (by decide) ?_
            exact xretMi hx hb hr hlk hK hS dX1_setClip_41 (rfl) (x0, y0, x1, y1) hP hD (by simp [clpI, c_2, c_8, c_15, c_22, c_29])
          · have c_29 : (far a1) = false := bI_0 c_29
            refine lv_iload hx hb dX1_setClip_32 (lv_at hl 4 rfl) ?_
            refine xcSi [.int b1] S (mtX1_isFar l b1 ) q101 siX1_isFar ⟨rfl, rfl⟩ ⟨Nat.le_of_ble_eq_true rfl, Nat.le_of_ble_eq_true rfl⟩ ⟨Nat.le_of_ble_eq_true rfl, Nat.le_of_ble_eq_true rfl⟩ hl.1 (rest := []) rfl (Nat.le_of_ble_eq_true rfl) dX1_setClip_34 (fun r_ h_ => ?_)
            obtain rfl := h_
            refine lv_if_eq (tgt := 42) hx hb dX1_setClip_37 (by decide) (fun c_37 => ?_) (fun c_37 => ?_)
            · have c_37 : (far b1) = false := bI_0 c_37
              refine lv_aload_n hx hb dX1_setClip_42 rfl (lv_at hl 0 rfl) ?_
              refine lv_iload_n hx hb dX1_setClip_43 rfl (lv_at hl 1 rfl) ?_
              refine xput1 S hK hP hD hS 0 rfl 12 (by decide) q42 rfl rfl (by decide +kernel) (Nat.le_of_ble_eq_true rfl) dX1_setClip_44 (fun H locs hP hD hS => ?_)
              have hP : va_P D vwCl (wP d a px py qx qy fr tb ac la sx sy w h C n a0 y0 x1 y1 mn) H := hP
              have hD : va_D A (wP d a px py qx qy fr tb ac la sx sy w h C n a0 y0 x1 y1 mn) := hD
              refine lv_aload_n hx hb dX1_setClip_47 rfl (lv_at hl 0 rfl) ?_
              refine lv_iload_n hx hb dX1_setClip_48 rfl (lv_at hl 2 rfl) ?_
              refine xput1 S hK hP hD hS 0 rfl 13 (by decide) q43 rfl rfl (by decide +kernel) (Nat.le_of_ble_eq_true rfl) dX1_setClip_49 (fun H locs hP hD hS => ?_)
              have hP : va_P D vwCl (wP d a px py qx qy fr tb ac la sx sy w h C n a0 b0 x1 y1 mn) H := hP
              have hD : va_D A (wP d a px py qx qy fr tb ac la sx sy w h C n a0 b0 x1 y1 mn) := hD
              refine lv_aload_n hx hb dX1_setClip_52 rfl (lv_at hl 0 rfl) ?_
              refine lv_iload_n hx hb dX1_setClip_53 rfl (lv_at hl 3 rfl) ?_
              refine xput1 S hK hP hD hS 0 rfl 14 (by decide) q44 rfl rfl (by decide +kernel) (Nat.le_of_ble_eq_true rfl) dX1_setClip_54 (fun H locs hP hD hS => ?_)
              have hP : va_P D vwCl (wP d a px py qx qy fr tb ac la sx sy w h C n a0 b0 a1 y1 mn) H := hP
              have hD : va_D A (wP d a px py qx qy fr tb ac la sx sy w h C n a0 b0 a1 y1 mn) := hD
              refine lv_aload_n hx hb dX1_setClip_57 rfl (lv_at hl 0 rfl) ?_
              refine lv_iload hx hb dX1_setClip_58 (lv_at hl 4 rfl) ?_
              refine xput1 S hK hP hD hS 0 rfl 15 (by decide) q45 rfl rfl (by decide +kernel) (Nat.le_of_ble_eq_true rfl) dX1_setClip_60 (fun H locs hP hD hS => ?_)
              have hP : va_P D vwCl (wP d a px py qx qy fr tb ac la sx sy w h C n a0 b0 a1 b1 mn) H := hP
              have hD : va_D A (wP d a px py qx qy fr tb ac la sx sy w h C n a0 b0 a1 b1 mn) := hD
              refine lv_iconst (v := 1) hx hb dX1_setClip_63 (by decide) ?_
              exact xretMi hx hb hr hlk hK hS dX1_setClip_64 (rfl) (a0, b0, a1, b1) hP hD (by simp [clpI, c_2, c_8, c_15, c_22, c_29, c_37])
            · have c_37 : (far b1) = true := bI_1 c_37
              refine lv_iconst (v := 0) hx hb dX1_setClip_40 (by decide) ?_
              exact xretMi hx hb hr hlk hK hS dX1_setClip_41 (rfl) (x0, y0, x1, y1) hP hD (by simp [clpI, c_2, c_8, c_15, c_22, c_29, c_37])

set_option maxHeartbeats 4000000 in
set_option maxRecDepth 100000 in
/-- put(x, y) -/
theorem mtX1_put (l : Launch) (D : va_G) (d : ClassId) (a : Nat → Nat) (px py qx qy fr tb ac la sx sy : Nat → Int32) (w h C n : Nat) (x0 y0 x1 y1 : Int32) (mn : Nat) (x y : Int32) (hmn : mn ≤ C) (hC : C ≤ 60) (sz : Nat) : Met l yX1_put (ws_ yX1_put cX1_put 3 (some .boolean)) (rm_ 0 0) (PcM [.ref (a 0), .int x, .int y] D (wP d a px py qx qy fr tb ac la sx sy w h C n x0 y0 x1 y1 mn) [(d, .int)] sz) (va_Qi (fun (r : Int32) (u_ : ((Nat → Int32) × (Nat → Int32) × Nat)) => (r, u_.1, u_.2.1, u_.2.2) = putI qx qy mn C x y) (fun (u_ : ((Nat → Int32) × (Nat → Int32) × Nat)) t => QB D [(d, .int)] (va_A (wP d a px py qx qy fr tb ac la sx sy w h C n x0 y0 x1 y1 mn) sz) (wP d a px py u_.1 u_.2.1 fr tb ac la sx sy w h C n x0 y0 x1 y1 u_.2.2) t) (va_A (wP d a px py qx qy fr tb ac la sx sy w h C n x0 y0 x1 y1 mn) sz)) 0 0 (va_A (wP d a px py qx qy fr tb ac la sx sy w h C n x0 y0 x1 y1 mn) sz) := by
  refine xMetM (Qf := fun A => (va_Qi (fun (r : Int32) (u_ : ((Nat → Int32) × (Nat → Int32) × Nat)) => (r, u_.1, u_.2.1, u_.2.2) = putI qx qy mn C x y) (fun (u_ : ((Nat → Int32) × (Nat → Int32) × Nat)) t => QB D [(d, .int)] A (wP d a px py u_.1 u_.2.1 fr tb ac la sx sy w h C n x0 y0 x1 y1 u_.2.2) t) A)) (by decide) (Nat.le_of_ble_eq_true rfl) ?_
  intro p e s m below meth c ls A H locs S hr hlk hl hP hK hD hS hA hin
  have S : CallFix p m c cX1_put 3 s _ lw_all RX1 := S
  have hx := S.1
  have hb := S.2.1
  have hl : lv_has ls 3 [(0, .ref (a 0)), (1, .int x), (2, .int y)] := hl
  refine lv_aload_n hx hb dX1_put_0 rfl (lv_at hl 0 rfl) ?_
  refine xget1 S hK hP 0 rfl 16 (by decide) q46 rfl (v := .int (nI mn)) rfl dX1_put_1 ?_
  refine lv_aload_n hx hb dX1_put_4 rfl (lv_at hl 0 rfl) ?_
  refine xget1 S hK hP 0 rfl 10 (by decide) q40 rfl (v := .int (nI C)) rfl dX1_put_5 ?_
  refine lv_icmp_ne (tgt := 13) hx hb dX1_put_8 (by decide) (fun c_8 => ?_) (fun c_8 => ?_)
  · have c_8 : mn ≠ C := xne (a := mn) (b := C) c_8 (by omega) (by omega)
    refine lv_aload_n hx hb dX1_put_13 rfl (lv_at hl 0 rfl) ?_
    refine xget1 S hK hP 0 rfl 2 (by decide) q32 rfl (v := .ref (a 3)) rfl dX1_put_14 ?_
    refine lv_aload_n hx hb dX1_put_17 rfl (lv_at hl 0 rfl) ?_
    refine xget1 S hK hP 0 rfl 16 (by decide) q46 rfl (v := .int (nI mn)) rfl dX1_put_18 ?_
    refine lv_iload_n hx hb dX1_put_21 rfl (lv_at hl 1 rfl) ?_
    refine xast (j := mn) hx hb hK hP hD hS 3 0 rfl rfl (by decide) dX1_put_22 (by omega) (fun H locs hP hD hS => ?_)
    have hP : va_P D vwCl (wP d a px py (upd qx mn x) qy fr tb ac la sx sy w h C n x0 y0 x1 y1 mn) H := hP
    have hD : va_D A (wP d a px py (upd qx mn x) qy fr tb ac la sx sy w h C n x0 y0 x1 y1 mn) := hD
    refine lv_aload_n hx hb dX1_put_23 rfl (lv_at hl 0 rfl) ?_
    refine xget1 S hK hP 0 rfl 3 (by decide) q33 rfl (v := .ref (a 4)) rfl dX1_put_24 ?_
    refine lv_aload_n hx hb dX1_put_27 rfl (lv_at hl 0 rfl) ?_
    refine xget1 S hK hP 0 rfl 16 (by decide) q46 rfl (v := .int (nI mn)) rfl dX1_put_28 ?_
    refine lv_iload_n hx hb dX1_put_31 rfl (lv_at hl 2 rfl) ?_
    refine xast (j := mn) hx hb hK hP hD hS 4 0 rfl rfl (by decide) dX1_put_32 (by omega) (fun H locs hP hD hS => ?_)
    have hP : va_P D vwCl (wP d a px py (upd qx mn x) (upd qy mn y) fr tb ac la sx sy w h C n x0 y0 x1 y1 mn) H := hP
    have hD : va_D A (wP d a px py (upd qx mn x) (upd qy mn y) fr tb ac la sx sy w h C n x0 y0 x1 y1 mn) := hD
    refine lv_aload_n hx hb dX1_put_33 rfl (lv_at hl 0 rfl) ?_
    refine lv_dup hx hb dX1_put_34 rfl ?_
    refine xget1 S hK hP 0 rfl 16 (by decide) q46 rfl (v := .int (nI mn)) rfl dX1_put_35 ?_
    refine lv_iconst (v := 1) hx hb dX1_put_38 (by decide) ?_
    refine lv_iadd hx hb dX1_put_39 ?_
    refine xtopi (y := nI (mn + 1)) (nI_add mn 1) ?_
    refine xput1 S hK hP hD hS 0 rfl 16 (by decide) q46 rfl rfl (by decide +kernel) (Nat.le_of_ble_eq_true rfl) dX1_put_40 (fun H locs hP hD hS => ?_)
    have hP : va_P D vwCl (wP d a px py (upd qx mn x) (upd qy mn y) fr tb ac la sx sy w h C n x0 y0 x1 y1 (mn + 1)) H := hP
    have hD : va_D A (wP d a px py (upd qx mn x) (upd qy mn y) fr tb ac la sx sy w h C n x0 y0 x1 y1 (mn + 1)) := hD
    refine lv_iconst (v := 1) hx hb dX1_put_43 (by decide) ?_
    exact xretMi hx hb hr hlk hK hS dX1_put_44 (rfl) (upd qx mn x, upd qy mn y, mn + 1) hP hD (by simp [putI, c_8])
  · have c_8 : mn = C := xeq (a := mn) (b := C) c_8 (by omega) (by omega)
    refine lv_iconst (v := 0) hx hb dX1_put_11 (by decide) ?_
    exact xretMi hx hb hr hlk hK hS dX1_put_12 (rfl) (qx, qy, mn) hP hD (by simp [putI, c_8])
end
section
/-! PURE: lists of points, a clipping pass, all four -/
set_option maxRecDepth 100000
def cutP (sd : Nat) (x0 y0 x1 y1 a b c d : Int32) : Int32 × Int32 := match sd with
  | 0 => (x0, cutI a b c d x0)
  | 1 => (x1, cutI a b c d x1)
  | 2 => (cutI b a d c y0, y0)
  | _ => (cutI b a d c y1, y1)
theorem cutP_0 {sd : Nat} {x0 y0 x1 y1 a b c d : Int32} (h : sd = 0) : cutP sd x0 y0 x1 y1 a b c d = (x0, cutI a b c d x0) := by
  subst h
  rfl
theorem cutP_1 {sd : Nat} {x0 y0 x1 y1 a b c d : Int32} (h1 : sd < 2) (h2 : sd ≠ 0) : cutP sd x0 y0 x1 y1 a b c d = (x1, cutI a b c d x1) := by
  have h : sd = 1 := by omega
  subst h
  rfl
theorem cutP_2 {sd : Nat} {x0 y0 x1 y1 a b c d : Int32} (h : sd = 2) : cutP sd x0 y0 x1 y1 a b c d = (cutI b a d c y0, y0) := by
  subst h
  rfl
theorem cutP_3 {sd : Nat} {x0 y0 x1 y1 a b c d : Int32} (h1 : 2 ≤ sd) (h2 : sd ≠ 2) (h3 : sd < 4) : cutP sd x0 y0 x1 y1 a b c d = (cutI b a d c y1, y1) := by
  have h : sd = 3 := by omega
  subst h
  rfl
/-- what the k-th corner gives -/
def emL (sd : Nat) (x0 y0 x1 y1 : Int32) (f g : Nat → Int32) (n k : Nat) : List (Int32 × Int32) :=
  (if goodB sd x0 y0 x1 y1 (f k) (g k) = goodB sd x0 y0 x1 y1 (f (prv n k)) (g (prv n k)) then [] else [cutP sd x0 y0 x1 y1 (f (prv n k)) (g (prv n k)) (f k) (g k)]) ++ (if goodB sd x0 y0 x1 y1 (f k) (g k) = true then [(f k, g k)] else [])
def oL (sd : Nat) (x0 y0 x1 y1 : Int32) (f g : Nat → Int32) (n : Nat) : Nat → List (Int32 × Int32)
  | 0 => []
  | k + 1 => oL sd x0 y0 x1 y1 f g n k ++ emL sd x0 y0 x1 y1 f g n k
theorem oL_mono {sd : Nat} {x0 y0 x1 y1 : Int32} {f g : Nat → Int32} {n j k : Nat} (h : j ≤ k) : (oL sd x0 y0 x1 y1 f g n j).length ≤ (oL sd x0 y0 x1 y1 f g n k).length := by
  induction k with
  | zero =>
    have : j = 0 := by omega
    subst this
    exact Nat.le_refl _
  | succ k ih =>
    by_cases e : j = k + 1
    · subst e
      exact Nat.le_refl _
    · have := ih (by omega)
      simp only [oL, List.length_append]
      omega
/-- the first mn places of two rows hold a list of points -/
def okQ (L : List (Int32 × Int32)) (qx qy : Nat → Int32) (mn : Nat) : Prop := mn = L.length ∧ ∀ i, i < L.length → L[i]? = some (qx i, qy i)
theorem okQ_0 {qx qy : Nat → Int32} : okQ [] qx qy 0 := ⟨rfl, fun i h => absurd h (Nat.not_lt_zero i)⟩
theorem okQ_app {L : List (Int32 × Int32)} {qx qy : Nat → Int32} {mn : Nat} (h : okQ L qx qy mn) (x y : Int32) : okQ (L ++ [(x, y)]) (upd qx mn x) (upd qy mn y) (mn + 1) := by
  obtain ⟨h1, h2⟩ := h
  subst h1
  refine ⟨by simp, fun i hi => ?_⟩
  have hi : i < L.length + 1 := by simpa using hi
  by_cases e : i = L.length
  · subst e
    rw [pk_us, pk_us]
    simp
  · rw [pk_un e, pk_un e, List.getElem?_append_left (by omega)]
    exact h2 i (by omega)
/-- the same, of a row that is only so long -/
def okT (C : Nat) (L : List (Int32 × Int32)) (qx qy : Nat → Int32) (mn : Nat) : Prop := mn = L.length ∧ ∀ i, i < L.length → i < C → L[i]? = some (qx i, qy i)
theorem okT_0 {C : Nat} {qx qy : Nat → Int32} : okT C [] qx qy 0 := ⟨rfl, fun i h => absurd h (Nat.not_lt_zero i)⟩
theorem okT_app {C : Nat} {L : List (Int32 × Int32)} {qx qy : Nat → Int32} {mn : Nat} (h : okT C L qx qy mn) (x y : Int32) : okT C (L ++ [(x, y)]) (upd qx mn x) (upd qy mn y) (mn + 1) := by
  obtain ⟨h1, h2⟩ := h
  subst h1
  refine ⟨by simp, fun i hi hc => ?_⟩
  have hi : i < L.length + 1 := by simpa using hi
  by_cases e : i = L.length
  · subst e
    rw [pk_us, pk_us]
    simp
  · rw [pk_un e, pk_un e, List.getElem?_append_left (by omega)]
    exact h2 i (by omega) hc
theorem okT_full {C : Nat} {L : List (Int32 × Int32)} {qx qy : Nat → Int32} {mn : Nat} (h : okT C L qx qy mn) (x y : Int32) (hc : C ≤ mn) : okT C (L ++ [(x, y)]) qx qy (mn + 1) := by
  obtain ⟨h1, h2⟩ := h
  subst h1
  refine ⟨by simp, fun i hi hc2 => ?_⟩
  rw [List.getElem?_append_left (by omega)]
  exact h2 i (by omega) hc2
theorem okT_Q {C : Nat} {L : List (Int32 × Int32)} {qx qy : Nat → Int32} {mn : Nat} (h : okT C L qx qy mn) (hc : mn ≤ C) : okQ L qx qy mn := ⟨h.1, fun i hi => h.2 i hi (by have := h.1; omega)⟩
/-- copied -/
theorem okQ_cpy {L : List (Int32 × Int32)} {qx qy f g : Nat → Int32} {mn : Nat} (h : okQ L qx qy mn) (hf : ∀ j, j < mn → f j = qx j ∧ g j = qy j) : okQ L f g mn := by
  refine ⟨h.1, fun i hi => ?_⟩
  obtain ⟨h1, h2⟩ := hf i (by rw [h.1]; exact hi)
  rw [h1, h2]
  exact h.2 i hi
theorem okQ_eq {L : List (Int32 × Int32)} {f g f2 g2 : Nat → Int32} {n n2 : Nat} (h : okQ L f g n) (h2 : okQ L f2 g2 n2) : n = n2 ∧ ∀ i, i < n → f i = f2 i ∧ g i = g2 i := by
  refine ⟨h.1.trans h2.1.symm, fun i hi => ?_⟩
  have hi : i < L.length := by rw [← h.1]; exact hi
  have e := (h.2 i hi).symm.trans (h2.2 i hi)
  injection e with e
  injection e with e1 e2
  exact ⟨e1, e2⟩
theorem cpy_step {f g px py : Nat → Int32} {k : Nat} (h : ∀ j, j < k → f j = px j ∧ g j = py j) : ∀ j, j < k + 1 → upd f k (px k) j = px j ∧ upd g k (py k) j = py j := by
  intro j hj
  by_cases e : j = k
  · subst e
    exact ⟨pk_us, pk_us⟩
  · rw [pk_un e, pk_un e]
    exact h j (by omega)
/-- the points of two rows -/
def pts (f g : Nat → Int32) (n : Nat) : List (Int32 × Int32) := (List.range n).map (fun i => (f i, g i))
theorem pts_ok {f g : Nat → Int32} {n : Nat} : okQ (pts f g n) f g n := by
  refine ⟨by simp [pts], fun i hi => ?_⟩
  have hi : i < n := by simpa [pts] using hi
  simp [pts, hi]
theorem pts_of {L : List (Int32 × Int32)} {f g : Nat → Int32} {n : Nat} (h : okQ L f g n) : pts f g n = L := by
  refine List.ext_getElem? (fun i => ?_)
  by_cases hi : i < n
  · rw [h.2 i (by rw [← h.1]; exact hi)]
    exact pts_ok.2 i (by simpa [pts] using hi)
  · rw [List.getElem?_eq_none (by simp [pts]; omega), List.getElem?_eq_none (by rw [← h.1]; omega)]
theorem emL_congr {sd : Nat} {x0 y0 x1 y1 : Int32} {f g f2 g2 : Nat → Int32} {n k : Nat} (h : ∀ i, i < n → f i = f2 i ∧ g i = g2 i) (hk : k < n) : emL sd x0 y0 x1 y1 f g n k = emL sd x0 y0 x1 y1 f2 g2 n k := by
  obtain ⟨h1, h2⟩ := h k hk
  obtain ⟨h3, h4⟩ := h (prv n k) (prv_lt hk)
  unfold emL
  rw [h1, h2, h3, h4]
theorem oL_congr {sd : Nat} {x0 y0 x1 y1 : Int32} {f g f2 g2 : Nat → Int32} {n : Nat} (h : ∀ i, i < n → f i = f2 i ∧ g i = g2 i) : ∀ k, k ≤ n → oL sd x0 y0 x1 y1 f g n k = oL sd x0 y0 x1 y1 f2 g2 n k := by
  intro k
  induction k with
  | zero => intro _; rfl
  | succ k ih =>
    intro hk
    simp only [oL]
    rw [ih (by omega), emL_congr h (by omega)]
/-- one pass over a list of points -/
def stL (sd : Nat) (x0 y0 x1 y1 : Int32) (L : List (Int32 × Int32)) : List (Int32 × Int32) := oL sd x0 y0 x1 y1 (fun i => (L.getD i (0, 0)).1) (fun i => (L.getD i (0, 0)).2) L.length L.length
theorem stL_ok {sd : Nat} {x0 y0 x1 y1 : Int32} {L : List (Int32 × Int32)} {f g : Nat → Int32} {n : Nat} (h : okQ L f g n) : oL sd x0 y0 x1 y1 f g n n = stL sd x0 y0 x1 y1 L := by
  obtain ⟨h1, h2⟩ := h
  subst h1
  unfold stL
  refine oL_congr (fun i hi => ?_) _ (Nat.le_refl _)
  have e := h2 i hi
  simp [List.getD, e]
def clO (C : Nat) (x0 y0 x1 y1 : Int32) (L : List (Int32 × Int32)) : Nat → Option (List (Int32 × Int32))
  | 0 => some L
  | k + 1 => match clO C x0 y0 x1 y1 L k with
    | none => none
    | some M => if (stL k x0 y0 x1 y1 M).length ≤ C then some (stL k x0 y0 x1 y1 M) else none
theorem clO_some {C k : Nat} {x0 y0 x1 y1 : Int32} {L M : List (Int32 × Int32)} (h : clO C x0 y0 x1 y1 L k = some M) (hc : (stL k x0 y0 x1 y1 M).length ≤ C) : clO C x0 y0 x1 y1 L (k + 1) = some (stL k x0 y0 x1 y1 M) := by
  simp only [clO, h]
  rw [if_pos hc]
theorem clO_fail {C k : Nat} {x0 y0 x1 y1 : Int32} {L M : List (Int32 × Int32)} (h : clO C x0 y0 x1 y1 L k = some M) (hc : ¬ (stL k x0 y0 x1 y1 M).length ≤ C) : clO C x0 y0 x1 y1 L (k + 1) = none := by
  simp only [clO, h]
  rw [if_neg hc]
theorem clO_none {C k j : Nat} {x0 y0 x1 y1 : Int32} {L : List (Int32 × Int32)} (h : clO C x0 y0 x1 y1 L k = none) : clO C x0 y0 x1 y1 L (k + j) = none := by
  induction j with
  | zero => exact h
  | succ j ih =>
    show clO C x0 y0 x1 y1 L (k + j + 1) = none
    simp only [clO, ih]
def clQ (o : Option (List (Int32 × Int32))) (r : Int32) (px py : Nat → Int32) (n : Nat) (px2 py2 : Nat → Int32) (n2 : Nat) : Prop := match o with
  | none => r = -1 ∧ px2 = px ∧ py2 = py ∧ n2 = n
  | some L => r = nI n2 ∧ okQ L px2 py2 n2
/-- all points near -/
def NrL (L : List (Int32 × Int32)) : Prop := ∀ q ∈ L, Nr q.1 ∧ Nr q.2
theorem NrL_f {L : List (Int32 × Int32)} {f g : Nat → Int32} {n : Nat} (h : NrL L) (hq : okQ L f g n) : ∀ i, i < n → Nr (f i) ∧ Nr (g i) := fun i hi => h _ (List.mem_of_getElem? (hq.2 i (by rw [← hq.1]; exact hi)))
theorem NrL_pts {f g : Nat → Int32} {n : Nat} (h : ∀ i, i < n → Nr (f i) ∧ Nr (g i)) : NrL (pts f g n) := by
  intro q hq
  obtain ⟨i, hi, rfl⟩ := List.mem_map.mp hq
  exact h i (List.mem_range.mp hi)
/-- a quotient rounded down between whole ends stays between them -/
theorem fdiv_btw {b d u v : Int} (hv : 0 < v) (h0 : 0 ≤ u) (h1 : u ≤ v) : (b ≤ d → b ≤ b + ((d - b) * u).fdiv v ∧ b + ((d - b) * u).fdiv v ≤ d) ∧ (d ≤ b → d ≤ b + ((d - b) * u).fdiv v ∧ b + ((d - b) * u).fdiv v ≤ b) := by
  rw [Int.fdiv_eq_ediv_of_nonneg _ (by omega)]
  constructor
  · intro h
    have h2 : 0 ≤ ((d - b) * u) / v := Int.ediv_nonneg (Int.mul_nonneg (by omega) h0) (by omega)
    have h3 : ((d - b) * u) / v ≤ d - b := by
      have h4 : (d - b) * u ≤ (d - b) * v := Int.mul_le_mul_of_nonneg_left h1 (by omega)
      have h5 := Int.ediv_le_ediv hv h4
      rw [Int.mul_ediv_cancel _ (by omega)] at h5
      exact h5
    omega
  · intro h
    have h2 : d - b ≤ ((d - b) * u) / v := by
      rw [Int.le_ediv_iff_mul_le hv]
      have h4 : (b - d) * u ≤ (b - d) * v := Int.mul_le_mul_of_nonneg_left h1 (by omega)
      have e1 : (d - b) * v = -((b - d) * v) := by rw [← Int.neg_mul]; congr 1; omega
      have e2 : (d - b) * u = -((b - d) * u) := by rw [← Int.neg_mul]; congr 1; omega
      omega
    have h3 : ((d - b) * u) / v ≤ 0 := by
      have h4 : (d - b) * u ≤ 0 := by
        have := Int.mul_nonneg (a := b - d) (b := u) (by omega) h0
        have e2 : (d - b) * u = -((b - d) * u) := by rw [← Int.neg_mul]; congr 1; omega
        omega
      have h5 := Int.ediv_le_ediv hv h4
      rw [Int.zero_ediv] at h5
      exact h5
    omega
theorem fdiv_neg2 {x v : Int} (hv : v < 0) : x.fdiv v = (-x).fdiv (-v) := by
  rw [Int.fdiv_eq_ediv_of_nonneg (-x) (b := -v) (by omega), Int.fdiv_eq_ediv]
  have hd : (v ∣ x) ↔ x % v = 0 := Int.dvd_iff_emod_eq_zero
  by_cases h : v ∣ x
  · rw [if_pos (Or.inr h)]
    obtain ⟨k, rfl⟩ := h
    rw [Int.mul_ediv_cancel_left _ (by omega), show -(v * k) = (-v) * k by rw [Int.neg_mul], Int.mul_ediv_cancel_left _ (by omega)]
    omega
  · rw [if_neg (by omega), Int.ediv_neg]
    have h1 := Int.mul_ediv_add_emod x v
    have h2 := Int.emod_nonneg x (b := v) (by omega)
    have h3 := Int.emod_lt x (b := v) (by omega)
    have h4 := Int.mul_ediv_add_emod (-x) v
    have h5 := Int.emod_nonneg (-x) (b := v) (by omega)
    have h6 := Int.emod_lt (-x) (b := v) (by omega)
    have h7 : x % v ≠ 0 := fun q => h (hd.mpr q)
    have e : v * (x / v) + v * (-x / v) = v * (x / v + -x / v) := by rw [Int.mul_add]
    have h8 : x / v + -x / v = 1 := by
      generalize x / v + -x / v = z at e
      have h9 : v * z = -(x % v) - (-x % v) := by omega
      have h10 : v * z < 0 := by omega
      have h11 : 2 * v < v * z := by omega
      have z1 : 0 < z := by
        rcases Int.lt_or_le 0 z with q | q
        · exact q
        · have := Int.mul_nonneg_of_nonpos_of_nonpos (a := v) (b := z) (by omega) q
          omega
      have z2 : z < 2 := by
        rcases Int.lt_or_le z 2 with q | q
        · exact q
        · have := Int.mul_le_mul_of_nonpos_left (a := v) (by omega) q
          omega
      omega
    omega
/-- the cut of an edge across the window's side is near, if all is -/
theorem cutI_nr {a b c d s : Int32} (nb : Nr b) (nd : Nr d) (h : (a.toInt < s.toInt ∧ s.toInt ≤ c.toInt) ∨ (c.toInt < s.toInt ∧ s.toInt ≤ a.toInt) ∨ (a.toInt ≤ s.toInt ∧ s.toInt < c.toInt) ∨ (c.toInt ≤ s.toInt ∧ s.toInt < a.toInt)) : Nr (cutI a b c d s) := by
  have key : ∀ z : Int, (b.toInt ≤ d.toInt → b.toInt ≤ z ∧ z ≤ d.toInt) ∧ (d.toInt ≤ b.toInt → d.toInt ≤ z ∧ z ≤ b.toInt) → Nr (Int32.ofInt z) := by
    intro z hz
    have nb := nb
    have nd := nd
    unfold Nr at nb nd ⊢
    have hb : -16384 ≤ z ∧ z ≤ 16384 := by
      rcases Int.le_total b.toInt d.toInt with q | q
      · have := hz.1 q
        omega
      · have := hz.2 q
        omega
    rw [Int32.toInt_ofInt_of_le (by omega) (by omega)]
    exact hb
  unfold cutI
  refine key _ ?_
  rcases Int.lt_or_le a.toInt c.toInt with q | q
  · exact fdiv_btw (by omega) (by omega) (by omega)
  · rw [fdiv_neg2 (by omega), show -((d.toInt - b.toInt) * (s.toInt - a.toInt)) = (d.toInt - b.toInt) * (a.toInt - s.toInt) by rw [← Int.mul_neg]; congr 1; omega]
    exact fdiv_btw (by omega) (by omega) (by omega)
/-- where two corners lie on two sides, the side's coordinate lies between theirs -/
theorem good_btw {sd : Nat} {x0 y0 x1 y1 a b c d : Int32} (h : ¬ goodB sd x0 y0 x1 y1 c d = goodB sd x0 y0 x1 y1 a b) (hsd : sd < 4) : (sd = 0 → (a.toInt < x0.toInt ∧ x0.toInt ≤ c.toInt) ∨ (c.toInt < x0.toInt ∧ x0.toInt ≤ a.toInt)) ∧ (sd = 1 → (a.toInt ≤ x1.toInt ∧ x1.toInt < c.toInt) ∨ (c.toInt ≤ x1.toInt ∧ x1.toInt < a.toInt)) ∧ (sd = 2 → (b.toInt < y0.toInt ∧ y0.toInt ≤ d.toInt) ∨ (d.toInt < y0.toInt ∧ y0.toInt ≤ b.toInt)) ∧ (sd = 3 → (b.toInt ≤ y1.toInt ∧ y1.toInt < d.toInt) ∨ (d.toInt ≤ y1.toInt ∧ y1.toInt < b.toInt)) := by
  refine ⟨?_, ?_, ?_, ?_⟩ <;> intro e <;> subst e <;> simp only [goodB, Int32.lt_iff_toInt_lt] at h
  · by_cases q1 : c.toInt < x0.toInt <;> by_cases q2 : a.toInt < x0.toInt <;> simp [q1, q2] at h <;> omega
  · by_cases q1 : x1.toInt < c.toInt <;> by_cases q2 : x1.toInt < a.toInt <;> simp [q1, q2] at h <;> omega
  · by_cases q1 : d.toInt < y0.toInt <;> by_cases q2 : b.toInt < y0.toInt <;> simp [q1, q2] at h <;> omega
  · by_cases q1 : y1.toInt < d.toInt <;> by_cases q2 : y1.toInt < b.toInt <;> simp [q1, q2] at h <;> omega
theorem good_ne {sd : Nat} {x0 y0 x1 y1 a b c d : Int32} (h : ¬ goodB sd x0 y0 x1 y1 c d = goodB sd x0 y0 x1 y1 a b) (hsd : sd < 4) : (sd < 2 → c.toInt ≠ a.toInt) ∧ (2 ≤ sd → d.toInt ≠ b.toInt) := by
  obtain ⟨h0, h1, h2, h3⟩ := good_btw h hsd
  constructor
  · intro q
    rcases (show sd = 0 ∨ sd = 1 by omega) with e | e
    · have := h0 e
      omega
    · have := h1 e
      omega
  · intro q
    rcases (show sd = 2 ∨ sd = 3 by omega) with e | e
    · have := h2 e
      omega
    · have := h3 e
      omega
theorem cutP_nr {sd : Nat} {x0 y0 x1 y1 a b c d : Int32} (h : ¬ goodB sd x0 y0 x1 y1 c d = goodB sd x0 y0 x1 y1 a b) (hsd : sd < 4) (na : Nr a) (nb : Nr b) (nc : Nr c) (nd : Nr d) (w0 : Nr x0) (w1 : Nr y0) (w2 : Nr x1) (w3 : Nr y1) : Nr (cutP sd x0 y0 x1 y1 a b c d).1 ∧ Nr (cutP sd x0 y0 x1 y1 a b c d).2 := by
  obtain ⟨h0, h1, h2, h3⟩ := good_btw h hsd
  rcases (show sd = 0 ∨ sd = 1 ∨ sd = 2 ∨ sd = 3 by omega) with e | e | e | e <;> subst e
  · exact ⟨w0, cutI_nr nb nd (by have := h0 rfl; omega)⟩
  · exact ⟨w2, cutI_nr nb nd (by have := h1 rfl; omega)⟩
  · exact ⟨cutI_nr na nc (by have := h2 rfl; omega), w1⟩
  · exact ⟨cutI_nr na nc (by have := h3 rfl; omega), w3⟩
theorem NrL_oL {sd n : Nat} {x0 y0 x1 y1 : Int32} {f g : Nat → Int32} (hf : ∀ i, i < n → Nr (f i) ∧ Nr (g i)) (hsd : sd < 4) (w0 : Nr x0) (w1 : Nr y0) (w2 : Nr x1) (w3 : Nr y1) : ∀ k, k ≤ n → NrL (oL sd x0 y0 x1 y1 f g n k) := by
  intro k
  induction k with
  | zero => intro _ q hq; cases hq
  | succ k ih =>
    intro hk q hq
    simp only [oL] at hq
    rcases List.mem_append.mp hq with h | h
    · exact ih (by omega) q h
    · have n1 := hf k (by omega)
      have n2 := hf (prv n k) (prv_lt (by omega))
      unfold emL at h
      rcases List.mem_append.mp h with h | h
      · by_cases e : goodB sd x0 y0 x1 y1 (f k) (g k) = goodB sd x0 y0 x1 y1 (f (prv n k)) (g (prv n k))
        · rw [if_pos e] at h
          cases h
        · rw [if_neg e] at h
          rw [List.mem_singleton.mp h]
          exact cutP_nr e hsd n2.1 n2.2 n1.1 n1.2 w0 w1 w2 w3
      · by_cases e : goodB sd x0 y0 x1 y1 (f k) (g k) = true
        · rw [if_pos e] at h
          rw [List.mem_singleton.mp h]
          exact n1
        · rw [if_neg e] at h
          cases h
theorem NrL_st {sd : Nat} {x0 y0 x1 y1 : Int32} {L : List (Int32 × Int32)} (h : NrL L) (hsd : sd < 4) (w0 : Nr x0) (w1 : Nr y0) (w2 : Nr x1) (w3 : Nr y1) : NrL (stL sd x0 y0 x1 y1 L) := by
  unfold stL
  refine NrL_oL (fun i hi => ?_) hsd w0 w1 w2 w3 _ (Nat.le_refl _)
  have e : L.getD i (0, 0) = L[i] := by simp [List.getD, hi]
  rw [e]
  exact h _ (List.getElem_mem hi)
theorem NrL_clO {C : Nat} {x0 y0 x1 y1 : Int32} {L : List (Int32 × Int32)} (h : NrL L) (w0 : Nr x0) (w1 : Nr y0) (w2 : Nr x1) (w3 : Nr y1) : ∀ (k : Nat) (M : List (Int32 × Int32)), k ≤ 4 → clO C x0 y0 x1 y1 L k = some M → NrL M := by
  intro k
  induction k with
  | zero => intro M _ e; cases e; exact h
  | succ k ih =>
    intro M hk e
    cases e2 : clO C x0 y0 x1 y1 L k with
    | none => rw [clO_none (j := 1) e2] at e; cases e
    | some M2 =>
      by_cases hc : (stL k x0 y0 x1 y1 M2).length ≤ C
      · rw [clO_some e2 hc] at e
        cases e
        exact NrL_st (ih M2 (by omega) e2) (by omega) w0 w1 w2 w3
      · rw [clO_fail e2 hc] at e
        cases e
theorem put_nar {r : Int32} {qx qy qx1 qy1 : Nat → Int32} {mn C mn1 : Nat} {x y : Int32} (h : (r, qx1, qy1, mn1) = putI qx qy mn C x y) : narrow .boolean (.int r) = .int r := by
  unfold putI at h
  split at h <;> (injection h with h1 h2; subst h1; rfl)
theorem put_cases {r : Int32} {qx qy qx1 qy1 : Nat → Int32} {mn C mn1 : Nat} {x y : Int32} (h : (r, qx1, qy1, mn1) = putI qx qy mn C x y) : (r = 0 ∧ mn = C ∧ qx1 = qx ∧ qy1 = qy ∧ mn1 = mn) ∨ (r = 1 ∧ mn ≠ C ∧ qx1 = upd qx mn x ∧ qy1 = upd qy mn y ∧ mn1 = mn + 1) := by
  unfold putI at h
  by_cases e : mn = C
  · rw [if_pos e] at h
    injection h with h1 h2
    injection h2 with h2 h3
    injection h3 with h3 h4
    exact Or.inl ⟨h1, e, h2, h3, h4⟩
  · rw [if_neg e] at h
    injection h with h1 h2
    injection h2 with h2 h3
    injection h3 with h3 h4
    exact Or.inr ⟨h1, e, h2, h3, h4⟩
end
section
/-! PURE: the steps of a pass -/
set_option maxRecDepth 100000
theorem put_fork {r : Int32} {qx qy qx1 qy1 : Nat → Int32} {mn C mn1 : Nat} {x y : Int32} (h : (r, qx1, qy1, mn1) = putI qx qy mn C x y) : (0 = r ∧ mn = C ∧ qx = qx1 ∧ qy = qy1 ∧ mn = mn1) ∨ (1 = r ∧ mn ≠ C ∧ upd qx mn x = qx1 ∧ upd qy mn y = qy1 ∧ mn + 1 = mn1) := by
  rcases put_cases h with ⟨h1, h2, h3, h4, h5⟩ | ⟨h1, h2, h3, h4, h5⟩
  · exact Or.inl ⟨h1.symm, h2, h3.symm, h4.symm, h5.symm⟩
  · exact Or.inr ⟨h1.symm, h2, h3.symm, h4.symm, h5.symm⟩
theorem emL_ss {sd N k : Nat} {x0 y0 x1 y1 : Int32} {sx sy : Nat → Int32} (h1 : goodB sd x0 y0 x1 y1 (sx k) (sy k) = goodB sd x0 y0 x1 y1 (sx (prv N k)) (sy (prv N k))) (h2 : goodB sd x0 y0 x1 y1 (sx k) (sy k) = false) : emL sd x0 y0 x1 y1 sx sy N k = [] := by
  unfold emL
  rw [if_pos h1, if_neg (by rw [h2]; decide)]
  rfl
theorem emL_st {sd N k : Nat} {x0 y0 x1 y1 : Int32} {sx sy : Nat → Int32} (h1 : goodB sd x0 y0 x1 y1 (sx k) (sy k) = goodB sd x0 y0 x1 y1 (sx (prv N k)) (sy (prv N k))) (h2 : goodB sd x0 y0 x1 y1 (sx k) (sy k) = true) : emL sd x0 y0 x1 y1 sx sy N k = [(sx k, sy k)] := by
  unfold emL
  rw [if_pos h1, if_pos h2]
  rfl
theorem emL_df {sd N k : Nat} {x0 y0 x1 y1 : Int32} {sx sy : Nat → Int32} (h1 : ¬ (goodB sd x0 y0 x1 y1 (sx k) (sy k) = goodB sd x0 y0 x1 y1 (sx (prv N k)) (sy (prv N k)))) (h2 : goodB sd x0 y0 x1 y1 (sx k) (sy k) = false) : emL sd x0 y0 x1 y1 sx sy N k = [(cutP sd x0 y0 x1 y1 (sx (prv N k)) (sy (prv N k)) (sx k) (sy k))] := by
  unfold emL
  rw [if_neg h1, if_neg (by rw [h2]; decide)]
  rfl
theorem emL_dt {sd N k : Nat} {x0 y0 x1 y1 : Int32} {sx sy : Nat → Int32} (h1 : ¬ (goodB sd x0 y0 x1 y1 (sx k) (sy k) = goodB sd x0 y0 x1 y1 (sx (prv N k)) (sy (prv N k)))) (h2 : goodB sd x0 y0 x1 y1 (sx k) (sy k) = true) : emL sd x0 y0 x1 y1 sx sy N k = [(cutP sd x0 y0 x1 y1 (sx (prv N k)) (sy (prv N k)) (sx k) (sy k)), (sx k, sy k)] := by
  unfold emL
  rw [if_neg h1, if_pos h2]
  rfl
theorem pass_ss {sd N k M : Nat} {x0 y0 x1 y1 : Int32} {sx sy f g : Nat → Int32} (hq : okQ (oL sd x0 y0 x1 y1 sx sy N k) f g M) (h1 : goodB sd x0 y0 x1 y1 (sx k) (sy k) = goodB sd x0 y0 x1 y1 (sx (prv N k)) (sy (prv N k))) (h2 : goodB sd x0 y0 x1 y1 (sx k) (sy k) = false) : okQ (oL sd x0 y0 x1 y1 sx sy N (k + 1)) f g M := by
  simp only [oL]
  rw [emL_ss h1 h2, List.append_nil]
  exact hq
theorem pass_st {sd N k M : Nat} {x0 y0 x1 y1 : Int32} {sx sy f g : Nat → Int32} (hq : okQ (oL sd x0 y0 x1 y1 sx sy N k) f g M) (h1 : goodB sd x0 y0 x1 y1 (sx k) (sy k) = goodB sd x0 y0 x1 y1 (sx (prv N k)) (sy (prv N k))) (h2 : goodB sd x0 y0 x1 y1 (sx k) (sy k) = true) : okQ (oL sd x0 y0 x1 y1 sx sy N (k + 1)) (upd f M (sx k)) (upd g M (sy k)) (M + 1) := by
  simp only [oL]
  rw [emL_st h1 h2]
  exact okQ_app hq _ _
theorem pass_df {sd N k M : Nat} {x0 y0 x1 y1 : Int32} {sx sy f g : Nat → Int32} (hq : okQ (oL sd x0 y0 x1 y1 sx sy N k) f g M) (h1 : ¬ (goodB sd x0 y0 x1 y1 (sx k) (sy k) = goodB sd x0 y0 x1 y1 (sx (prv N k)) (sy (prv N k)))) (h2 : goodB sd x0 y0 x1 y1 (sx k) (sy k) = false) : okQ (oL sd x0 y0 x1 y1 sx sy N (k + 1)) (upd f M (cutP sd x0 y0 x1 y1 (sx (prv N k)) (sy (prv N k)) (sx k) (sy k)).1) (upd g M (cutP sd x0 y0 x1 y1 (sx (prv N k)) (sy (prv N k)) (sx k) (sy k)).2) (M + 1) := by
  simp only [oL]
  rw [emL_df h1 h2]
  exact okQ_app hq _ _
theorem pass_dt {sd N k M : Nat} {x0 y0 x1 y1 : Int32} {sx sy f g : Nat → Int32} (hq : okQ (oL sd x0 y0 x1 y1 sx sy N k) f g M) (h1 : ¬ (goodB sd x0 y0 x1 y1 (sx k) (sy k) = goodB sd x0 y0 x1 y1 (sx (prv N k)) (sy (prv N k)))) (h2 : goodB sd x0 y0 x1 y1 (sx k) (sy k) = true) : okQ (oL sd x0 y0 x1 y1 sx sy N (k + 1)) (upd (upd f M (cutP sd x0 y0 x1 y1 (sx (prv N k)) (sy (prv N k)) (sx k) (sy k)).1) (M + 1) (sx k)) (upd (upd g M (cutP sd x0 y0 x1 y1 (sx (prv N k)) (sy (prv N k)) (sx k) (sy k)).2) (M + 1) (sy k)) (M + 1 + 1) := by
  simp only [oL]
  rw [emL_dt h1 h2]
  have h := okQ_app (okQ_app hq (cutP sd x0 y0 x1 y1 (sx (prv N k)) (sy (prv N k)) (sx k) (sy k)).1 (cutP sd x0 y0 x1 y1 (sx (prv N k)) (sy (prv N k)) (sx k) (sy k)).2) (sx k) (sy k)
  rw [List.append_assoc] at h
  exact h
theorem oL_over {sd n k C : Nat} {x0 y0 x1 y1 : Int32} {f g : Nat → Int32} (hk : k < n) (h : C < (oL sd x0 y0 x1 y1 f g n k).length + (emL sd x0 y0 x1 y1 f g n k).length) : ¬ (oL sd x0 y0 x1 y1 f g n n).length ≤ C := by
  have h1 : (oL sd x0 y0 x1 y1 f g n (k + 1)).length ≤ (oL sd x0 y0 x1 y1 f g n n).length := oL_mono (by omega)
  simp only [oL, List.length_append] at h1
  omega
theorem over_st {sd N k M C : Nat} {x0 y0 x1 y1 : Int32} {sx sy f g : Nat → Int32} (hk : k < N) (hq : okQ (oL sd x0 y0 x1 y1 sx sy N k) f g M) (h1 : goodB sd x0 y0 x1 y1 (sx k) (sy k) = goodB sd x0 y0 x1 y1 (sx (prv N k)) (sy (prv N k))) (h2 : goodB sd x0 y0 x1 y1 (sx k) (sy k) = true) (he : M = C) : ¬ (oL sd x0 y0 x1 y1 sx sy N N).length ≤ C := by
  refine oL_over hk ?_
  rw [emL_st h1 h2, ← hq.1, he]
  show C < C + 1
  omega
theorem over_d {sd N k M C : Nat} {x0 y0 x1 y1 : Int32} {sx sy f g : Nat → Int32} (hk : k < N) (hq : okQ (oL sd x0 y0 x1 y1 sx sy N k) f g M) (h1 : ¬ (goodB sd x0 y0 x1 y1 (sx k) (sy k) = goodB sd x0 y0 x1 y1 (sx (prv N k)) (sy (prv N k)))) (he : M = C) : ¬ (oL sd x0 y0 x1 y1 sx sy N N).length ≤ C := by
  refine oL_over hk ?_
  cases h2 : goodB sd x0 y0 x1 y1 (sx k) (sy k) with
  | false =>
    rw [emL_df h1 h2, ← hq.1, he]
    show C < C + 1
    omega
  | true =>
    rw [emL_dt h1 h2, ← hq.1, he]
    show C < C + 2
    omega
theorem over_dt {sd N k M C : Nat} {x0 y0 x1 y1 : Int32} {sx sy f g : Nat → Int32} (hk : k < N) (hq : okQ (oL sd x0 y0 x1 y1 sx sy N k) f g M) (h1 : ¬ (goodB sd x0 y0 x1 y1 (sx k) (sy k) = goodB sd x0 y0 x1 y1 (sx (prv N k)) (sy (prv N k)))) (h2 : goodB sd x0 y0 x1 y1 (sx k) (sy k) = true) (he : M + 1 = C) : ¬ (oL sd x0 y0 x1 y1 sx sy N N).length ≤ C := by
  refine oL_over hk ?_
  rw [emL_dt h1 h2, ← hq.1, ← he]
  show M + 1 < M + 2
  omega
theorem pass_no {L : List (Int32 × Int32)} {C mn : Nat} {qx qy : Nat → Int32} (h : ¬ L.length ≤ C) : (0 : Int32) = bI (decide (L.length ≤ C)) ∧ (L.length ≤ C → okQ L qx qy mn) := ⟨by rw [decide_eq_false h]; rfl, fun q => absurd q h⟩
theorem pass_yes {L : List (Int32 × Int32)} {C mn : Nat} {qx qy : Nat → Int32} (h : okQ L qx qy mn) (hc : mn ≤ C) : (1 : Int32) = bI (decide (L.length ≤ C)) ∧ (L.length ≤ C → okQ L qx qy mn) := ⟨by rw [decide_eq_true (by rw [← h.1]; exact hc)]; rfl, fun _ => h⟩
theorem clO_fail4 {C k : Nat} {x0 y0 x1 y1 : Int32} {L M : List (Int32 × Int32)} (hk : k < 4) (h : clO C x0 y0 x1 y1 L k = some M) (hc : ¬ (stL k x0 y0 x1 y1 M).length ≤ C) : clO C x0 y0 x1 y1 L 4 = none := by
  have h1 := clO_none (j := 3 - k) (clO_fail h hc)
  rw [show k + 1 + (3 - k) = 4 by omega] at h1
  exact h1
theorem clQ_no {o : Option (List (Int32 × Int32))} {px py : Nat → Int32} {n : Nat} (h : o = none) : clQ o (-1) px py n px py n := by
  subst h
  exact ⟨rfl, rfl, rfl, rfl⟩
theorem clQ_yes {o : Option (List (Int32 × Int32))} {L : List (Int32 × Int32)} {px py px2 py2 : Nat → Int32} {n n2 : Nat} (h : o = some L) (hq : okQ L px2 py2 n2) : clQ o (nI n2) px py n px2 py2 n2 := by
  subst h
  exact ⟨rfl, hq⟩
end
section
/-! PolygonFrame: clipping -/
set_option maxHeartbeats 4000000 in
set_option maxRecDepth 100000 in
/-- putCut(side, from, to): the cut is put -/
theorem mtX1_putCut (l : Launch) (D : va_G) (d : ClassId) (a : Nat → Nat) (px py qx qy fr tb ac la sx sy : Nat → Int32) (w h C n : Nat) (x0 y0 x1 y1 : Int32) (mn : Nat) (sd : Nat) (u1 v1 u2 v2 : Int32) (hsd : sd < 4) (hmn : mn ≤ C) (hC : C ≤ 60) (n1 : Nr u1) (n2 : Nr v1) (n3 : Nr u2) (n4 : Nr v2) (w0 : Nr x0) (w1 : Nr y0) (w2 : Nr x1) (w3 : Nr y1) (hX : sd < 2 → u2.toInt ≠ u1.toInt) (hY : 2 ≤ sd → v2.toInt ≠ v1.toInt) (sz : Nat) : Met l yX1_putCut (ws_ yX1_putCut cX1_putCut 7 (some .boolean)) (rm_ 2 49) (PcM [.ref (a 0), .int (nI sd), .int u1, .int v1, .int u2, .int v2] D (wP d a px py qx qy fr tb ac la sx sy w h C n x0 y0 x1 y1 mn) [(d, .int)] sz) (va_Qi (fun (r : Int32) (u_ : ((Nat → Int32) × (Nat → Int32) × Nat)) => (r, u_.1, u_.2.1, u_.2.2) = putI qx qy mn C (cutP sd x0 y0 x1 y1 u1 v1 u2 v2).1 (cutP sd x0 y0 x1 y1 u1 v1 u2 v2).2) (fun (u_ : ((Nat → Int32) × (Nat → Int32) × Nat)) t => QB D [(d, .int)] (va_A (wP d a px py qx qy fr tb ac la sx sy w h C n x0 y0 x1 y1 mn) sz) (wP d a px py u_.1 u_.2.1 fr tb ac la sx sy w h C n x0 y0 x1 y1 u_.2.2) t) (va_A (wP d a px py qx qy fr tb ac la sx sy w h C n x0 y0 x1 y1 mn) sz)) 0 0 (va_A (wP d a px py qx qy fr tb ac la sx sy w h C n x0 y0 x1 y1 mn) sz) := by
  refine xMetM (Qf := fun A => (va_Qi (fun (r : Int32) (u_ : ((Nat → Int32) × (Nat → Int32) × Nat)) => (r, u_.1, u_.2.1, u_.2.2) = putI qx qy mn C (cutP sd x0 y0 x1 y1 u1 v1 u2 v2).1 (cutP sd x0 y0 x1 y1 u1 v1 u2 v2).2) (fun (u_ : ((Nat → Int32) × (Nat → Int32) × Nat)) t => QB D [(d, .int)] A (wP d a px py u_.1 u_.2.1 fr tb ac la sx sy w h C n x0 y0 x1 y1 u_.2.2) t) A)) (by decide) (Nat.le_of_ble_eq_true rfl) ?_
  intro p e s m below meth c ls A H locs S hr hlk hl hP hK hD hS hA hin
  have S : CallFix p m c cX1_putCut 7 s _ lw_all RX1 := S
  have hx := S.1
  have hb := S.2.1
  have hl : lv_has ls 7 [(0, .ref (a 0)), (1, .int (nI sd)), (2, .int u1), (3, .int v1), (4, .int u2), (5, .int v2)] := hl
  refine lv_iload_n hx hb dX1_putCut_0 rfl (lv_at hl 1 rfl) ?_
  refine lv_iconst (v := 2) hx hb dX1_putCut_1 (by decide) ?_
  refine lv_icmp_ge (tgt := 40) hx hb dX1_putCut_2 (by decide) (fun c_2 => ?_) (fun c_2 => ?_)
  · have c_2 : 2 ≤ sd := xle (a := 2) (b := sd) c_2 (by omega) (by omega)
    refine lv_iload_n hx hb dX1_putCut_40 rfl (lv_at hl 1 rfl) ?_
    refine lv_iconst (v := 2) hx hb dX1_putCut_41 (by decide) ?_
    refine lv_icmp_ne (tgt := 52) hx hb dX1_putCut_42 (by decide) (fun c_42 => ?_) (fun c_42 => ?_)
    · have c_42 : sd ≠ 2 := xne (a := sd) (b := 2) c_42 (by omega) (by omega)
      refine lv_aload_n hx hb dX1_putCut_52 rfl (lv_at hl 0 rfl) ?_
      refine xget1 S hK hP 0 rfl 15 (by decide) q45 rfl (v := .int y1) rfl dX1_putCut_53 ?_
      refine lv_istore (lv' := [(6, .int y1), (0, .ref (a 0)), (1, .int (nI sd)), (2, .int u1), (3, .int v1), (4, .int u2), (5, .int v2)]) hx hb dX1_putCut_56 hl (by decide) rfl (fun ls hl => ?_)
      refine lv_aload_n hx hb dX1_putCut_58 rfl (lv_at hl 1 rfl) ?_
      refine lv_iload_n hx hb dX1_putCut_59 rfl (lv_at hl 4 rfl) ?_
      refine lv_iload_n hx hb dX1_putCut_60 rfl (lv_at hl 3 rfl) ?_
      refine lv_iload hx hb dX1_putCut_61 (lv_at hl 6 rfl) ?_
      refine lv_iload hx hb dX1_putCut_63 (lv_at hl 5 rfl) ?_
      refine lv_iload hx hb dX1_putCut_65 (lv_at hl 0 rfl) ?_
      refine xcSi [.int v1, .int u1, .int v2, .int u2, .int y1] S (mtX1_cut l v1 u1 v2 u2 y1 n2 n1 n4 n3 w3 (hY (by omega))) q124 siX1_cut ⟨rfl, rfl⟩ ⟨Nat.le_of_ble_eq_true rfl, Nat.le_of_ble_eq_true rfl⟩ ⟨Nat.le_of_ble_eq_true rfl, Nat.le_of_ble_eq_true rfl⟩ hl.1 (rest := [.ref (a 0)]) rfl (Nat.le_of_ble_eq_true rfl) dX1_putCut_67 (fun r_ h_ => ?_)
      obtain rfl := h_
      refine lv_iload hx hb dX1_putCut_70 (lv_at hl 0 rfl) ?_
      refine xcMi [.int (cutI v1 u1 v2 u2 y1), .int y1] S (mtX1_put l D d a px py qx qy fr tb ac la sx sy w h C n x0 y0 x1 y1 mn (cutI v1 u1 v2 u2 y1) y1 (by omega) (by omega) H.size) q130 viX1_put ⟨rfl, rfl⟩ ⟨Nat.le_of_ble_eq_true rfl, Nat.le_of_ble_eq_true rfl⟩ ⟨Nat.le_of_ble_eq_true rfl, Nat.le_of_ble_eq_true rfl⟩ hK hP hD hS hA (ci := 0) (q0 := 0) rfl rfl hl.1 (rest := []) rfl (Nat.le_of_ble_eq_true rfl) dX1_putCut_72 (fun r_1 u_ H locs h_ hP hD hS => ?_)
      obtain ⟨qx_1, qy_1, mn_1⟩ := u_
      have hP : va_P D vwCl (wP d a px py qx_1 qy_1 fr tb ac la sx sy w h C n x0 y0 x1 y1 mn_1) H := hP
      have hD : va_D A (wP d a px py qx_1 qy_1 fr tb ac la sx sy w h C n x0 y0 x1 y1 mn_1) := hD
      have Hr_1 := h_
      exact xretMi hx hb hr hlk hK hS dX1_putCut_75 (put_nar Hr_1) (qx_1, qy_1, mn_1) hP hD (by rw [cutP_3 c_2 c_42 hsd]; exact Hr_1)
    · have c_42 : sd = 2 := xeq (a := sd) (b := 2) c_42 (by omega) (by omega)
      refine lv_aload_n hx hb dX1_putCut_45 rfl (lv_at hl 0 rfl) ?_
      refine xget1 S hK hP 0 rfl 13 (by decide) q43 rfl (v := .int y0) rfl dX1_putCut_46 ?_
      refine lv_goto (tgt := 56) hx hb dX1_putCut_49 (by decide) ?_
      refine lv_istore (lv' := [(6, .int y0), (0, .ref (a 0)), (1, .int (nI sd)), (2, .int u1), (3, .int v1), (4, .int u2), (5, .int v2)]) hx hb dX1_putCut_56 hl (by decide) rfl (fun ls hl => ?_)
      refine lv_aload_n hx hb dX1_putCut_58 rfl (lv_at hl 1 rfl) ?_
      refine lv_iload_n hx hb dX1_putCut_59 rfl (lv_at hl 4 rfl) ?_
      refine lv_iload_n hx hb dX1_putCut_60 rfl (lv_at hl 3 rfl) ?_
      refine lv_iload hx hb dX1_putCut_61 (lv_at hl 6 rfl) ?_
      refine lv_iload hx hb dX1_putCut_63 (lv_at hl 5 rfl) ?_
      refine lv_iload hx hb dX1_putCut_65 (lv_at hl 0 rfl) ?_
      refine xcSi [.int v1, .int u1, .int v2, .int u2, .int y0] S (mtX1_cut l v1 u1 v2 u2 y0 n2 n1 n4 n3 w1 (hY (by omega))) q124 siX1_cut ⟨rfl, rfl⟩ ⟨Nat.le_of_ble_eq_true rfl, Nat.le_of_ble_eq_true rfl⟩ ⟨Nat.le_of_ble_eq_true rfl, Nat.le_of_ble_eq_true rfl⟩ hl.1 (rest := [.ref (a 0)]) rfl (Nat.le_of_ble_eq_true rfl) dX1_putCut_67 (fun r_ h_ => ?_)
      obtain rfl := h_
      refine lv_iload hx hb dX1_putCut_70 (lv_at hl 0 rfl) ?_
      refine xcMi [.int (cutI v1 u1 v2 u2 y0), .int y0] S (mtX1_put l D d a px py qx qy fr tb ac la sx sy w h C n x0 y0 x1 y1 mn (cutI v1 u1 v2 u2 y0) y0 (by omega) (by omega) H.size) q130 viX1_put ⟨rfl, rfl⟩ ⟨Nat.le_of_ble_eq_true rfl, Nat.le_of_ble_eq_true rfl⟩ ⟨Nat.le_of_ble_eq_true rfl, Nat.le_of_ble_eq_true rfl⟩ hK hP hD hS hA (ci := 0) (q0 := 0) rfl rfl hl.1 (rest := []) rfl (Nat.le_of_ble_eq_true rfl) dX1_putCut_72 (fun r_2 u_ H locs h_ hP hD hS => ?_)
      obtain ⟨qx_2, qy_2, mn_2⟩ := u_
      have hP : va_P D vwCl (wP d a px py qx_2 qy_2 fr tb ac la sx sy w h C n x0 y0 x1 y1 mn_2) H := hP
      have hD : va_D A (wP d a px py qx_2 qy_2 fr tb ac la sx sy w h C n x0 y0 x1 y1 mn_2) := hD
      have Hr_2 := h_
      exact xretMi hx hb hr hlk hK hS dX1_putCut_75 (put_nar Hr_2) (qx_2, qy_2, mn_2) hP hD (by rw [cutP_2 c_42]; exact Hr_2)
  · have c_2 : 2 > sd := xnle (a := 2) (b := sd) c_2 (by omega) (by omega)
    refine lv_iload_n hx hb dX1_putCut_5 rfl (lv_at hl 1 rfl) ?_
    refine lv_if_ne (tgt := 16) hx hb dX1_putCut_6 (by decide) (fun c_6 => ?_) (fun c_6 => ?_)
    · have c_6 : sd ≠ 0 := xne (a := sd) (b := 0) c_6 (by omega) (by omega)
      refine lv_aload_n hx hb dX1_putCut_16 rfl (lv_at hl 0 rfl) ?_
      refine xget1 S hK hP 0 rfl 14 (by decide) q44 rfl (v := .int x1) rfl dX1_putCut_17 ?_
      refine lv_istore (lv' := [(6, .int x1), (0, .ref (a 0)), (1, .int (nI sd)), (2, .int u1), (3, .int v1), (4, .int u2), (5, .int v2)]) hx hb dX1_putCut_20 hl (by decide) rfl (fun ls hl => ?_)
      refine lv_aload_n hx hb dX1_putCut_22 rfl (lv_at hl 1 rfl) ?_
      refine lv_iload hx hb dX1_putCut_23 (lv_at hl 0 rfl) ?_
      refine lv_iload_n hx hb dX1_putCut_25 rfl (lv_at hl 3 rfl) ?_
      refine lv_iload_n hx hb dX1_putCut_26 rfl (lv_at hl 4 rfl) ?_
      refine lv_iload hx hb dX1_putCut_27 (lv_at hl 5 rfl) ?_
      refine lv_iload hx hb dX1_putCut_29 (lv_at hl 6 rfl) ?_
      refine lv_iload hx hb dX1_putCut_31 (lv_at hl 0 rfl) ?_
      refine xcSi [.int u1, .int v1, .int u2, .int v2, .int x1] S (mtX1_cut l u1 v1 u2 v2 x1 n1 n2 n3 n4 w2 (hX (by omega))) q124 siX1_cut ⟨rfl, rfl⟩ ⟨Nat.le_of_ble_eq_true rfl, Nat.le_of_ble_eq_true rfl⟩ ⟨Nat.le_of_ble_eq_true rfl, Nat.le_of_ble_eq_true rfl⟩ hl.1 (rest := [.int x1, .ref (a 0)]) rfl (Nat.le_of_ble_eq_true rfl) dX1_putCut_33 (fun r_ h_ => ?_)
      obtain rfl := h_
      refine xcMi [.int x1, .int (cutI u1 v1 u2 v2 x1)] S (mtX1_put l D d a px py qx qy fr tb ac la sx sy w h C n x0 y0 x1 y1 mn x1 (cutI u1 v1 u2 v2 x1) (by omega) (by omega) H.size) q130 viX1_put ⟨rfl, rfl⟩ ⟨Nat.le_of_ble_eq_true rfl, Nat.le_of_ble_eq_true rfl⟩ ⟨Nat.le_of_ble_eq_true rfl, Nat.le_of_ble_eq_true rfl⟩ hK hP hD hS hA (ci := 0) (q0 := 0) rfl rfl hl.1 (rest := []) rfl (Nat.le_of_ble_eq_true rfl) dX1_putCut_36 (fun r_3 u_ H locs h_ hP hD hS => ?_)
      obtain ⟨qx_3, qy_3, mn_3⟩ := u_
      have hP : va_P D vwCl (wP d a px py qx_3 qy_3 fr tb ac la sx sy w h C n x0 y0 x1 y1 mn_3) H := hP
      have hD : va_D A (wP d a px py qx_3 qy_3 fr tb ac la sx sy w h C n x0 y0 x1 y1 mn_3) := hD
      have Hr_3 := h_
      exact xretMi hx hb hr hlk hK hS dX1_putCut_39 (put_nar Hr_3) (qx_3, qy_3, mn_3) hP hD (by rw [cutP_1 c_2 c_6]; exact Hr_3)
    · have c_6 : sd = 0 := xeq (a := sd) (b := 0) c_6 (by omega) (by omega)
      refine lv_aload_n hx hb dX1_putCut_9 rfl (lv_at hl 0 rfl) ?_
      refine xget1 S hK hP 0 rfl 12 (by decide) q42 rfl (v := .int x0) rfl dX1_putCut_10 ?_
      refine lv_goto (tgt := 20) hx hb dX1_putCut_13 (by decide) ?_
      refine lv_istore (lv' := [(6, .int x0), (0, .ref (a 0)), (1, .int (nI sd)), (2, .int u1), (3, .int v1), (4, .int u2), (5, .int v2)]) hx hb dX1_putCut_20 hl (by decide) rfl (fun ls hl => ?_)
      refine lv_aload_n hx hb dX1_putCut_22 rfl (lv_at hl 1 rfl) ?_
      refine lv_iload hx hb dX1_putCut_23 (lv_at hl 0 rfl) ?_
      refine lv_iload_n hx hb dX1_putCut_25 rfl (lv_at hl 3 rfl) ?_
      refine lv_iload_n hx hb dX1_putCut_26 rfl (lv_at hl 4 rfl) ?_
      refine lv_iload hx hb dX1_putCut_27 (lv_at hl 5 rfl) ?_
      refine lv_iload hx hb dX1_putCut_29 (lv_at hl 6 rfl) ?_
      refine lv_iload hx hb dX1_putCut_31 (lv_at hl 0 rfl) ?_
      refine xcSi [.int u1, .int v1, .int u2, .int v2, .int x0] S (mtX1_cut l u1 v1 u2 v2 x0 n1 n2 n3 n4 w0 (hX (by omega))) q124 siX1_cut ⟨rfl, rfl⟩ ⟨Nat.le_of_ble_eq_true rfl, Nat.le_of_ble_eq_true rfl⟩ ⟨Nat.le_of_ble_eq_true rfl, Nat.le_of_ble_eq_true rfl⟩ hl.1 (rest := [.int x0, .ref (a 0)]) rfl (Nat.le_of_ble_eq_true rfl) dX1_putCut_33 (fun r_ h_ => ?_)
      obtain rfl := h_
      refine xcMi [.int x0, .int (cutI u1 v1 u2 v2 x0)] S (mtX1_put l D d a px py qx qy fr tb ac la sx sy w h C n x0 y0 x1 y1 mn x0 (cutI u1 v1 u2 v2 x0) (by omega) (by omega) H.size) q130 viX1_put ⟨rfl, rfl⟩ ⟨Nat.le_of_ble_eq_true rfl, Nat.le_of_ble_eq_true rfl⟩ ⟨Nat.le_of_ble_eq_true rfl, Nat.le_of_ble_eq_true rfl⟩ hK hP hD hS hA (ci := 0) (q0 := 0) rfl rfl hl.1 (rest := []) rfl (Nat.le_of_ble_eq_true rfl) dX1_putCut_36 (fun r_4 u_ H locs h_ hP hD hS => ?_)
      obtain ⟨qx_4, qy_4, mn_4⟩ := u_
      have hP : va_P D vwCl (wP d a px py qx_4 qy_4 fr tb ac la sx sy w h C n x0 y0 x1 y1 mn_4) H := hP
      have hD : va_D A (wP d a px py qx_4 qy_4 fr tb ac la sx sy w h C n x0 y0 x1 y1 mn_4) := hD
      have Hr_4 := h_
      exact xretMi hx hb hr hlk hK hS dX1_putCut_39 (put_nar Hr_4) (qx_4, qy_4, mn_4) hP hD (by rw [cutP_0 c_6]; exact Hr_4)

set_option maxHeartbeats 4000000 in
set_option maxRecDepth 100000 in
/-- pass(side, rows, count): one pass over count points -/
theorem mtX1_pass (l : Launch) (D : va_G) (d : ClassId) (a : Nat → Nat) (px py qx qy fr tb ac la sx sy : Nat → Int32) (w h C n : Nat) (x0 y0 x1 y1 : Int32) (mn : Nat) (sd N : Nat) (hsd : sd < 4) (hN : N ≤ 60) (hC : C ≤ 60) (nn : ∀ i, i < N → Nr (sx i) ∧ Nr (sy i)) (w0 : Nr x0) (w1 : Nr y0) (w2 : Nr x1) (w3 : Nr y1) (sz : Nat) : Met l yX1_pass (ws_ yX1_pass cX1_pass 9 (some .boolean)) (rm_ 3 75) (PcM [.ref (a 0), .int (nI sd), .ref (a 9), .ref (a 10), .int (nI N)] D (wP d a px py qx qy fr tb ac la sx sy w h C n x0 y0 x1 y1 mn) [(d, .int)] sz) (va_Qi (fun (r : Int32) (u_ : ((Nat → Int32) × (Nat → Int32) × Nat)) => r = bI (decide ((oL sd x0 y0 x1 y1 sx sy N N).length ≤ C)) ∧ ((oL sd x0 y0 x1 y1 sx sy N N).length ≤ C → okQ (oL sd x0 y0 x1 y1 sx sy N N) u_.1 u_.2.1 u_.2.2)) (fun (u_ : ((Nat → Int32) × (Nat → Int32) × Nat)) t => QB D [(d, .int)] (va_A (wP d a px py qx qy fr tb ac la sx sy w h C n x0 y0 x1 y1 mn) sz) (wP d a px py u_.1 u_.2.1 fr tb ac la sx sy w h C n x0 y0 x1 y1 u_.2.2) t) (va_A (wP d a px py qx qy fr tb ac la sx sy w h C n x0 y0 x1 y1 mn) sz)) 0 0 (va_A (wP d a px py qx qy fr tb ac la sx sy w h C n x0 y0 x1 y1 mn) sz) := by
  refine xMetM (Qf := fun A => (va_Qi (fun (r : Int32) (u_ : ((Nat → Int32) × (Nat → Int32) × Nat)) => r = bI (decide ((oL sd x0 y0 x1 y1 sx sy N N).length ≤ C)) ∧ ((oL sd x0 y0 x1 y1 sx sy N N).length ≤ C → okQ (oL sd x0 y0 x1 y1 sx sy N N) u_.1 u_.2.1 u_.2.2)) (fun (u_ : ((Nat → Int32) × (Nat → Int32) × Nat)) t => QB D [(d, .int)] A (wP d a px py u_.1 u_.2.1 fr tb ac la sx sy w h C n x0 y0 x1 y1 u_.2.2) t) A)) (by decide) (Nat.le_of_ble_eq_true rfl) ?_
  intro p e s m below meth c ls A H locs S hr hlk hl hP hK hD hS hA hin
  have S : CallFix p m c cX1_pass 9 s _ lw_all RX1 := S
  have hx := S.1
  have hb := S.2.1
  have hl : lv_has ls 9 [(0, .ref (a 0)), (1, .int (nI sd)), (2, .ref (a 9)), (3, .ref (a 10)), (4, .int (nI N))] := hl
  refine lv_aload_n hx hb dX1_pass_0 rfl (lv_at hl 0 rfl) ?_
  refine lv_iconst (v := 0) hx hb dX1_pass_1 (by decide) ?_
  refine xput1 S hK hP hD hS 0 rfl 16 (by decide) q46 rfl rfl (by decide +kernel) (Nat.le_of_ble_eq_true rfl) dX1_pass_2 (fun H locs hP hD hS => ?_)
  have hP : va_P D vwCl (wP d a px py qx qy fr tb ac la sx sy w h C n x0 y0 x1 y1 0) H := hP
  have hD : va_D A (wP d a px py qx qy fr tb ac la sx sy w h C n x0 y0 x1 y1 0) := hD
  refine lv_iconst (v := 0) hx hb dX1_pass_5 (by decide) ?_
  refine lv_istore (lv' := [(5, .int 0), (0, .ref (a 0)), (1, .int (nI sd)), (2, .ref (a 9)), (3, .ref (a 10)), (4, .int (nI N))]) hx hb dX1_pass_6 hl (by decide) rfl (fun ls hl => ?_)
  refine xloop (α := Nat × (Nat → Int32) × (Nat → Int32) × Nat) (fun x_ => N - x_.1) (fun x_ H locs g_ => ∃ ls, g_ = F0 m 8 ls [] ∧ lv_has ls 9 [(0, .ref (a 0)), (1, .int (nI sd)), (2, .ref (a 9)), (3, .ref (a 10)), (4, .int (nI N)), (5, .int (nI x_.1))] ∧ va_P D vwCl (wP d a px py x_.2.1 x_.2.2.1 fr tb ac la sx sy w h C n x0 y0 x1 y1 x_.2.2.2) H ∧ va_D A (wP d a px py x_.2.1 x_.2.2.1 fr tb ac la sx sy w h C n x0 y0 x1 y1 x_.2.2.2) ∧ va_S A s.heap H locs ∧ (x_.1 ≤ N ∧ x_.2.2.2 ≤ C ∧ okQ (oL sd x0 y0 x1 y1 sx sy N x_.1) x_.2.1 x_.2.2.1 x_.2.2.2)) ?_ (0, qx, qy, 0) ⟨ls, rfl, (lv_sub hl [1, 2, 3, 4, 5, 0] rfl), hP, hD, hS, (show 0 ≤ N ∧ 0 ≤ C ∧ okQ (oL sd x0 y0 x1 y1 sx sy N 0) qx qy 0 from ⟨Nat.zero_le _, Nat.zero_le _, okQ_0⟩)⟩
  intro x_ H locs g_ hJ_ ih_8
  obtain ⟨k, f, g, M⟩ := x_
  obtain ⟨ls, rfl, hl, hP, hD, hS, hI_8⟩ := hJ_
  have hl : lv_has ls 9 [(0, .ref (a 0)), (1, .int (nI sd)), (2, .ref (a 9)), (3, .ref (a 10)), (4, .int (nI N)), (5, .int (nI k))] := hl
  have hP : va_P D vwCl (wP d a px py f g fr tb ac la sx sy w h C n x0 y0 x1 y1 M) H := hP
  have hD : va_D A (wP d a px py f g fr tb ac la sx sy w h C n x0 y0 x1 y1 M) := hD
  have hI_8 : k ≤ N ∧ M ≤ C ∧ okQ (oL sd x0 y0 x1 y1 sx sy N k) f g M := hI_8
  have hk_ := hI_8.1
  have hM_ := hI_8.2.1
  refine lv_iload hx hb dX1_pass_8 (lv_at hl 5 rfl) ?_
  refine lv_iload hx hb dX1_pass_10 (lv_at hl 4 rfl) ?_
  refine lv_icmp_ge (tgt := 124) hx hb dX1_pass_12 (by decide) (fun c_12 => ?_) (fun c_12 => ?_)
  · have c_12 : N ≤ k := xle (a := N) (b := k) c_12 (by omega) (by omega)
    have e_ : k = N := by omega
    have hq_ := hI_8.2.2
    rw [e_] at hq_
    refine lv_iconst (v := 1) hx hb dX1_pass_124 (by decide) ?_
    exact xretMi hx hb hr hlk hK hS dX1_pass_125 (rfl) (f, g, M) hP hD (pass_yes hq_ hM_)
  · have c_12 : N > k := xnle (a := N) (b := k) c_12 (by omega) (by omega)
    have hpv := prv_lt c_12
    refine xmeet (g2 := F0 m 31 ls (.int (nI (prv N k)) :: [])) (fun jn_31 => ?_) ?_
    · refine lv_iload hx hb dX1_pass_15 (lv_at hl 5 rfl) ?_
      refine lv_if_ne (tgt := 27) hx hb dX1_pass_17 (by decide) (fun c_17 => ?_) (fun c_17 => ?_)
      · have c_17 : k ≠ 0 := xne (a := k) (b := 0) c_17 (by omega) (by omega)
        refine lv_iload hx hb dX1_pass_27 (lv_at hl 5 rfl) ?_
        refine lv_iconst (v := 1) hx hb dX1_pass_29 (by decide) ?_
        refine lv_isub hx hb dX1_pass_30 ?_
        refine xtopi (y := nI (k - 1)) (pk_sub (a := k) (b := 1) (by omega)) ?_
        refine xtopi (y := nI (prv N k)) (by simp [prv, c_17]) ?_
        exact jn_31
      · have c_17 : k = 0 := xeq (a := k) (b := 0) c_17 (by omega) (by omega)
        refine lv_iload hx hb dX1_pass_20 (lv_at hl 4 rfl) ?_
        refine lv_iconst (v := 1) hx hb dX1_pass_22 (by decide) ?_
        refine lv_isub hx hb dX1_pass_23 ?_
        refine xtopi (y := nI (N - 1)) (pk_sub (a := N) (b := 1) (by omega)) ?_
        refine lv_goto (tgt := 31) hx hb dX1_pass_24 (by decide) ?_
        refine xtopi (y := nI (prv N k)) (by simp [prv, c_17]) ?_
        exact jn_31
    · refine lv_istore (lv' := [(6, .int (nI (prv N k))), (0, .ref (a 0)), (1, .int (nI sd)), (2, .ref (a 9)), (3, .ref (a 10)), (4, .int (nI N)), (5, .int (nI k))]) hx hb dX1_pass_31 hl (by decide) rfl (fun ls hl => ?_)
      refine lv_aload_n hx hb dX1_pass_33 rfl (lv_at hl 1 rfl) ?_
      refine lv_iload_n hx hb dX1_pass_34 rfl (lv_at hl 2 rfl) ?_
      refine lv_aload_n hx hb dX1_pass_35 rfl (lv_at hl 3 rfl) ?_
      refine lv_iload hx hb dX1_pass_36 (lv_at hl 6 rfl) ?_
      refine xald (j := k) hx hb hK hP 9 0 rfl rfl (by decide) dX1_pass_38 (by omega) ?_
      refine lv_aload_n hx hb dX1_pass_39 rfl (lv_at hl 4 rfl) ?_
      refine lv_iload hx hb dX1_pass_40 (lv_at hl 6 rfl) ?_
      refine xald (j := k) hx hb hK hP 10 0 rfl rfl (by decide) dX1_pass_42 (by omega) ?_
      refine xcRi [.int (nI sd), .int (sx k), .int (sy k)] S (mtX1_isGood l D d a px py f g fr tb ac la sx sy w h C n x0 y0 x1 y1 M sd (sx k) (sy k) hsd) q116 viX1_isGood ⟨rfl, rfl⟩ ⟨Nat.le_of_ble_eq_true rfl, Nat.le_of_ble_eq_true rfl⟩ ⟨Nat.le_of_ble_eq_true rfl, Nat.le_of_ble_eq_true rfl⟩ hK hP (ci := 0) (q0 := 0) rfl rfl hl.1 (rest := []) rfl (Nat.le_of_ble_eq_true rfl) dX1_pass_43 (fun r_ h_ => ?_)
      obtain rfl := h_
      refine lv_istore (lv' := [(7, .int (bI (goodB sd x0 y0 x1 y1 (sx k) (sy k)))), (6, .int (nI (prv N k))), (0, .ref (a 0)), (1, .int (nI sd)), (2, .ref (a 9)), (3, .ref (a 10)), (4, .int (nI N)), (5, .int (nI k))]) hx hb dX1_pass_46 hl (by decide) rfl (fun ls hl => ?_)
      refine lv_aload_n hx hb dX1_pass_48 rfl (lv_at hl 2 rfl) ?_
      refine lv_iload_n hx hb dX1_pass_49 rfl (lv_at hl 3 rfl) ?_
      refine lv_aload_n hx hb dX1_pass_50 rfl (lv_at hl 4 rfl) ?_
      refine lv_iload hx hb dX1_pass_51 (lv_at hl 1 rfl) ?_
      refine xald (j := prv N k) hx hb hK hP 9 0 rfl rfl (by decide) dX1_pass_53 (by omega) ?_
      refine lv_aload_n hx hb dX1_pass_54 rfl (lv_at hl 5 rfl) ?_
      refine lv_iload hx hb dX1_pass_55 (lv_at hl 1 rfl) ?_
      refine xald (j := prv N k) hx hb hK hP 10 0 rfl rfl (by decide) dX1_pass_57 (by omega) ?_
      refine xcRi [.int (nI sd), .int (sx (prv N k)), .int (sy (prv N k))] S (mtX1_isGood l D d a px py f g fr tb ac la sx sy w h C n x0 y0 x1 y1 M sd (sx (prv N k)) (sy (prv N k)) hsd) q116 viX1_isGood ⟨rfl, rfl⟩ ⟨Nat.le_of_ble_eq_true rfl, Nat.le_of_ble_eq_true rfl⟩ ⟨Nat.le_of_ble_eq_true rfl, Nat.le_of_ble_eq_true rfl⟩ hK hP (ci := 0) (q0 := 0) rfl rfl hl.1 (rest := []) rfl (Nat.le_of_ble_eq_true rfl) dX1_pass_58 (fun r_ h_ => ?_)
      obtain rfl := h_
      refine lv_istore (lv' := [(8, .int (bI (goodB sd x0 y0 x1 y1 (sx (prv N k)) (sy (prv N k))))), (7, .int (bI (goodB sd x0 y0 x1 y1 (sx k) (sy k)))), (6, .int (nI (prv N k))), (0, .ref (a 0)), (1, .int (nI sd)), (2, .ref (a 9)), (3, .ref (a 10)), (4, .int (nI N)), (5, .int (nI k))]) hx hb dX1_pass_61 hl (by decide) rfl (fun ls hl => ?_)
      refine lv_iload hx hb dX1_pass_63 (lv_at hl 1 rfl) ?_
      refine lv_iload hx hb dX1_pass_65 (lv_at hl 0 rfl) ?_
      refine lv_icmp_eq (tgt := 96) hx hb dX1_pass_67 (by decide) (fun c_67 => ?_) (fun c_67 => ?_)
      · have c_67 : (goodB sd x0 y0 x1 y1 (sx k) (sy k)) = (goodB sd x0 y0 x1 y1 (sx (prv N k)) (sy (prv N k))) := bI_inj c_67
        refine lv_iload hx hb dX1_pass_96 (lv_at hl 1 rfl) ?_
        refine lv_if_eq (tgt := 118) hx hb dX1_pass_98 (by decide) (fun c_98 => ?_) (fun c_98 => ?_)
        · have c_98 : (goodB sd x0 y0 x1 y1 (sx k) (sy k)) = false := bI_0 c_98
          refine lv_iinc (v := nI (k + 1)) (lv' := [(5, .int (nI (k + 1))), (8, .int (bI (goodB sd x0 y0 x1 y1 (sx (prv N k)) (sy (prv N k))))), (7, .int (bI (goodB sd x0 y0 x1 y1 (sx k) (sy k)))), (6, .int (nI (prv N k))), (0, .ref (a 0)), (1, .int (nI sd)), (2, .ref (a 9)), (3, .ref (a 10)), (4, .int (nI N))]) hx hb dX1_pass_118 hl (k := 8) rfl (nI_inc _) (by decide) rfl (fun ls hl => ?_)
          refine lv_goto (tgt := 8) hx hb dX1_pass_121 (by decide) ?_
          exact ih_8 (k + 1, f, g, M) _ _ _ (by show N - (k + 1) < N - k; omega) ⟨ls, rfl, (lv_sub hl [4, 5, 6, 7, 8, 0] rfl), hP, hD, hS, (show (k + 1) ≤ N ∧ M ≤ C ∧ okQ (oL sd x0 y0 x1 y1 sx sy N (k + 1)) f g M from ⟨by omega, by omega, pass_ss hI_8.2.2 c_67 c_98⟩)⟩
        · have c_98 : (goodB sd x0 y0 x1 y1 (sx k) (sy k)) = true := bI_1 c_98
          refine lv_aload_n hx hb dX1_pass_101 rfl (lv_at hl 3 rfl) ?_
          refine lv_aload_n hx hb dX1_pass_102 rfl (lv_at hl 5 rfl) ?_
          refine lv_iload hx hb dX1_pass_103 (lv_at hl 8 rfl) ?_
          refine xald (j := k) hx hb hK hP 9 0 rfl rfl (by decide) dX1_pass_105 (by omega) ?_
          refine lv_aload_n hx hb dX1_pass_106 rfl (lv_at hl 6 rfl) ?_
          refine lv_iload hx hb dX1_pass_107 (lv_at hl 8 rfl) ?_
          refine xald (j := k) hx hb hK hP 10 0 rfl rfl (by decide) dX1_pass_109 (by omega) ?_
          refine xcMi [.int (sx k), .int (sy k)] S (mtX1_put l D d a px py f g fr tb ac la sx sy w h C n x0 y0 x1 y1 M (sx k) (sy k) (by omega) (by omega) H.size) q130 viX1_put ⟨rfl, rfl⟩ ⟨Nat.le_of_ble_eq_true rfl, Nat.le_of_ble_eq_true rfl⟩ ⟨Nat.le_of_ble_eq_true rfl, Nat.le_of_ble_eq_true rfl⟩ hK hP hD hS hA (ci := 0) (q0 := 0) rfl rfl hl.1 (rest := []) rfl (Nat.le_of_ble_eq_true rfl) dX1_pass_110 (fun r_1 u_ H locs h_ hP hD hS => ?_)
          obtain ⟨qx_1, qy_1, mn_1⟩ := u_
          have hP : va_P D vwCl (wP d a px py qx_1 qy_1 fr tb ac la sx sy w h C n x0 y0 x1 y1 mn_1) H := hP
          have hD : va_D A (wP d a px py qx_1 qy_1 fr tb ac la sx sy w h C n x0 y0 x1 y1 mn_1) := hD
          rcases put_fork h_ with ⟨h0_, he_r_1, h1_, h2_, h3_⟩ | ⟨h0_, he_r_1, h1_, h2_, h3_⟩ <;> subst h0_ <;> subst h1_ <;> subst h2_ <;> subst h3_
          · have hP : va_P D vwCl (wP d a px py f g fr tb ac la sx sy w h C n x0 y0 x1 y1 M) H := hP
            have hD : va_D A (wP d a px py f g fr tb ac la sx sy w h C n x0 y0 x1 y1 M) := hD
            refine lv_if_ne (tgt := 118) hx hb dX1_pass_113 (by decide) (fun c_113 => ?_) (fun c_113 => ?_)
            · exact absurd (by decide) c_113
            · refine lv_iconst (v := 0) hx hb dX1_pass_116 (by decide) ?_
              exact xretMi hx hb hr hlk hK hS dX1_pass_117 (rfl) (f, g, M) hP hD (pass_no (over_st c_12 hI_8.2.2 c_67 c_98 he_r_1))
          · have hP : va_P D vwCl (wP d a px py (upd f M (sx k)) (upd g M (sy k)) fr tb ac la sx sy w h C n x0 y0 x1 y1 (M + 1)) H := hP
            have hD : va_D A (wP d a px py (upd f M (sx k)) (upd g M (sy k)) fr tb ac la sx sy w h C n x0 y0 x1 y1 (M + 1)) := hD
            refine lv_if_ne (tgt := 118) hx hb dX1_pass_113 (by decide) (fun c_113 => ?_) (fun c_113 => ?_)
            · refine lv_iinc (v := nI (k + 1)) (lv' := [(5, .int (nI (k + 1))), (8, .int (bI (goodB sd x0 y0 x1 y1 (sx (prv N k)) (sy (prv N k))))), (7, .int (bI (goodB sd x0 y0 x1 y1 (sx k) (sy k)))), (6, .int (nI (prv N k))), (0, .ref (a 0)), (1, .int (nI sd)), (2, .ref (a 9)), (3, .ref (a 10)), (4, .int (nI N))]) hx hb dX1_pass_118 hl (k := 8) rfl (nI_inc _) (by decide) rfl (fun ls hl => ?_)
              refine lv_goto (tgt := 8) hx hb dX1_pass_121 (by decide) ?_
              exact ih_8 (k + 1, upd f M (sx k), upd g M (sy k), M + 1) _ _ _ (by show N - (k + 1) < N - k; omega) ⟨ls, rfl, (lv_sub hl [4, 5, 6, 7, 8, 0] rfl), hP, hD, hS, (show (k + 1) ≤ N ∧ (M + 1) ≤ C ∧ okQ (oL sd x0 y0 x1 y1 sx sy N (k + 1)) (upd f M (sx k)) (upd g M (sy k)) (M + 1) from ⟨by omega, by omega, pass_st hI_8.2.2 c_67 c_98⟩)⟩
            · exact absurd c_113 (by decide)
      · have c_67 : ¬ ((goodB sd x0 y0 x1 y1 (sx k) (sy k)) = (goodB sd x0 y0 x1 y1 (sx (prv N k)) (sy (prv N k)))) := fun q_ => c_67 (congrArg bI q_)
        refine lv_aload_n hx hb dX1_pass_70 rfl (lv_at hl 3 rfl) ?_
        refine lv_iload_n hx hb dX1_pass_71 rfl (lv_at hl 4 rfl) ?_
        refine lv_aload_n hx hb dX1_pass_72 rfl (lv_at hl 5 rfl) ?_
        refine lv_iload hx hb dX1_pass_73 (lv_at hl 2 rfl) ?_
        refine xald (j := prv N k) hx hb hK hP 9 0 rfl rfl (by decide) dX1_pass_75 (by omega) ?_
        refine lv_aload_n hx hb dX1_pass_76 rfl (lv_at hl 6 rfl) ?_
        refine lv_iload hx hb dX1_pass_77 (lv_at hl 2 rfl) ?_
        refine xald (j := prv N k) hx hb hK hP 10 0 rfl rfl (by decide) dX1_pass_79 (by omega) ?_
        refine lv_aload_n hx hb dX1_pass_80 rfl (lv_at hl 5 rfl) ?_
        refine lv_iload hx hb dX1_pass_81 (lv_at hl 8 rfl) ?_
        refine xald (j := k) hx hb hK hP 9 0 rfl rfl (by decide) dX1_pass_83 (by omega) ?_
        refine lv_aload_n hx hb dX1_pass_84 rfl (lv_at hl 6 rfl) ?_
        refine lv_iload hx hb dX1_pass_85 (lv_at hl 8 rfl) ?_
        refine xald (j := k) hx hb hK hP 10 0 rfl rfl (by decide) dX1_pass_87 (by omega) ?_
        refine xcMi [.int (nI sd), .int (sx (prv N k)), .int (sy (prv N k)), .int (sx k), .int (sy k)] S (mtX1_putCut l D d a px py f g fr tb ac la sx sy w h C n x0 y0 x1 y1 M sd (sx (prv N k)) (sy (prv N k)) (sx k) (sy k) hsd (by omega) hC (nn _ (prv_lt c_12)).1 (nn _ (prv_lt c_12)).2 (nn _ c_12).1 (nn _ c_12).2 w0 w1 w2 w3 (good_ne c_67 hsd).1 (good_ne c_67 hsd).2 H.size) q120 viX1_putCut ⟨rfl, rfl⟩ ⟨Nat.le_of_ble_eq_true rfl, Nat.le_of_ble_eq_true rfl⟩ ⟨Nat.le_of_ble_eq_true rfl, Nat.le_of_ble_eq_true rfl⟩ hK hP hD hS hA (ci := 0) (q0 := 0) rfl rfl hl.1 (rest := []) rfl (Nat.le_of_ble_eq_true rfl) dX1_pass_88 (fun r_2 u_ H locs h_ hP hD hS => ?_)
        obtain ⟨qx_2, qy_2, mn_2⟩ := u_
        have hP : va_P D vwCl (wP d a px py qx_2 qy_2 fr tb ac la sx sy w h C n x0 y0 x1 y1 mn_2) H := hP
        have hD : va_D A (wP d a px py qx_2 qy_2 fr tb ac la sx sy w h C n x0 y0 x1 y1 mn_2) := hD
        rcases put_fork h_ with ⟨h0_, he_r_2, h1_, h2_, h3_⟩ | ⟨h0_, he_r_2, h1_, h2_, h3_⟩ <;> subst h0_ <;> subst h1_ <;> subst h2_ <;> subst h3_
        · have hP : va_P D vwCl (wP d a px py f g fr tb ac la sx sy w h C n x0 y0 x1 y1 M) H := hP
          have hD : va_D A (wP d a px py f g fr tb ac la sx sy w h C n x0 y0 x1 y1 M) := hD
          refine lv_if_ne (tgt := 96) hx hb dX1_pass_91 (by decide) (fun c_91 => ?_) (fun c_91 => ?_)
          · exact absurd (by decide) c_91
          · refine lv_iconst (v := 0) hx hb dX1_pass_94 (by decide) ?_
            exact xretMi hx hb hr hlk hK hS dX1_pass_95 (rfl) (f, g, M) hP hD (pass_no (over_d c_12 hI_8.2.2 c_67 he_r_2))
        · have hP : va_P D vwCl (wP d a px py (upd f M ((cutP sd x0 y0 x1 y1 (sx (prv N k)) (sy (prv N k)) (sx k) (sy k)).1)) (upd g M ((cutP sd x0 y0 x1 y1 (sx (prv N k)) (sy (prv N k)) (sx k) (sy k)).2)) fr tb ac la sx sy w h C n x0 y0 x1 y1 (M + 1)) H := hP
          have hD : va_D A (wP d a px py (upd f M ((cutP sd x0 y0 x1 y1 (sx (prv N k)) (sy (prv N k)) (sx k) (sy k)).1)) (upd g M ((cutP sd x0 y0 x1 y1 (sx (prv N k)) (sy (prv N k)) (sx k) (sy k)).2)) fr tb ac la sx sy w h C n x0 y0 x1 y1 (M + 1)) := hD
          refine lv_if_ne (tgt := 96) hx hb dX1_pass_91 (by decide) (fun c_91 => ?_) (fun c_91 => ?_)
          · refine lv_iload hx hb dX1_pass_96 (lv_at hl 1 rfl) ?_
            refine lv_if_eq (tgt := 118) hx hb dX1_pass_98 (by decide) (fun c_98 => ?_) (fun c_98 => ?_)
            · have c_98 : (goodB sd x0 y0 x1 y1 (sx k) (sy k)) = false := bI_0 c_98
              refine lv_iinc (v := nI (k + 1)) (lv' := [(5, .int (nI (k + 1))), (8, .int (bI (goodB sd x0 y0 x1 y1 (sx (prv N k)) (sy (prv N k))))), (7, .int (bI (goodB sd x0 y0 x1 y1 (sx k) (sy k)))), (6, .int (nI (prv N k))), (0, .ref (a 0)), (1, .int (nI sd)), (2, .ref (a 9)), (3, .ref (a 10)), (4, .int (nI N))]) hx hb dX1_pass_118 hl (k := 8) rfl (nI_inc _) (by decide) rfl (fun ls hl => ?_)
              refine lv_goto (tgt := 8) hx hb dX1_pass_121 (by decide) ?_
              exact ih_8 (k + 1, upd f M ((cutP sd x0 y0 x1 y1 (sx (prv N k)) (sy (prv N k)) (sx k) (sy k)).1), upd g M ((cutP sd x0 y0 x1 y1 (sx (prv N k)) (sy (prv N k)) (sx k) (sy k)).2), M + 1) _ _ _ (by show N - (k + 1) < N - k; omega) ⟨ls, rfl, (lv_sub hl [4, 5, 6, 7, 8, 0] rfl), hP, hD, hS, (show (k + 1) ≤ N ∧ (M + 1) ≤ C ∧ okQ (oL sd x0 y0 x1 y1 sx sy N (k + 1)) (upd f M ((cutP sd x0 y0 x1 y1 (sx (prv N k)) (sy (prv N k)) (sx k) (sy k)).1)) (upd g M ((cutP sd x0 y0 x1 y1 (sx (prv N k)) (sy (prv N k)) (sx k) (sy k)).2)) (M + 1) from ⟨by omega, by omega, pass_df hI_8.2.2 c_67 c_98⟩)⟩
            · have c_98 : (goodB sd x0 y0 x1 y1 (sx k) (sy k)) = true := bI_1 c_98
              refine lv_aload_n hx hb dX1_pass_101 rfl (lv_at hl 3 rfl) ?_
              refine lv_aload_n hx hb dX1_pass_102 rfl (lv_at hl 5 rfl) ?_
              refine lv_iload hx hb dX1_pass_103 (lv_at hl 8 rfl) ?_
              refine xald (j := k) hx hb hK hP 9 0 rfl rfl (by decide) dX1_pass_105 (by omega) ?_
              refine lv_aload_n hx hb dX1_pass_106 rfl (lv_at hl 6 rfl) ?_
              refine lv_iload hx hb dX1_pass_107 (lv_at hl 8 rfl) ?_
              refine xald (j := k) hx hb hK hP 10 0 rfl rfl (by decide) dX1_pass_109 (by omega) ?_
              refine xcMi [.int (sx k), .int (sy k)] S (mtX1_put l D d a px py (upd f M ((cutP sd x0 y0 x1 y1 (sx (prv N k)) (sy (prv N k)) (sx k) (sy k)).1)) (upd g M ((cutP sd x0 y0 x1 y1 (sx (prv N k)) (sy (prv N k)) (sx k) (sy k)).2)) fr tb ac la sx sy w h C n x0 y0 x1 y1 (M + 1) (sx k) (sy k) (by omega) (by omega) H.size) q130 viX1_put ⟨rfl, rfl⟩ ⟨Nat.le_of_ble_eq_true rfl, Nat.le_of_ble_eq_true rfl⟩ ⟨Nat.le_of_ble_eq_true rfl, Nat.le_of_ble_eq_true rfl⟩ hK hP hD hS hA (ci := 0) (q0 := 0) rfl rfl hl.1 (rest := []) rfl (Nat.le_of_ble_eq_true rfl) dX1_pass_110 (fun r_3 u_ H locs h_ hP hD hS => ?_)
              obtain ⟨qx_3, qy_3, mn_3⟩ := u_
              have hP : va_P D vwCl (wP d a px py qx_3 qy_3 fr tb ac la sx sy w h C n x0 y0 x1 y1 mn_3) H := hP
              have hD : va_D A (wP d a px py qx_3 qy_3 fr tb ac la sx sy w h C n x0 y0 x1 y1 mn_3) := hD
              rcases put_fork h_ with ⟨h0_, he_r_3, h1_, h2_, h3_⟩ | ⟨h0_, he_r_3, h1_, h2_, h3_⟩ <;> subst h0_ <;> subst h1_ <;> subst h2_ <;> subst h3_
              · have hP : va_P D vwCl (wP d a px py (upd f M ((cutP sd x0 y0 x1 y1 (sx (prv N k)) (sy (prv N k)) (sx k) (sy k)).1)) (upd g M ((cutP sd x0 y0 x1 y1 (sx (prv N k)) (sy (prv N k)) (sx k) (sy k)).2)) fr tb ac la sx sy w h C n x0 y0 x1 y1 (M + 1)) H := hP
                have hD : va_D A (wP d a px py (upd f M ((cutP sd x0 y0 x1 y1 (sx (prv N k)) (sy (prv N k)) (sx k) (sy k)).1)) (upd g M ((cutP sd x0 y0 x1 y1 (sx (prv N k)) (sy (prv N k)) (sx k) (sy k)).2)) fr tb ac la sx sy w h C n x0 y0 x1 y1 (M + 1)) := hD
                refine lv_if_ne (tgt := 118) hx hb dX1_pass_113 (by decide) (fun c_113 => ?_) (fun c_113 => ?_)
                · exact absurd (by decide) c_113
                · refine lv_iconst (v := 0) hx hb dX1_pass_116 (by decide) ?_
                  exact xretMi hx hb hr hlk hK hS dX1_pass_117 (rfl) (upd f M ((cutP sd x0 y0 x1 y1 (sx (prv N k)) (sy (prv N k)) (sx k) (sy k)).1), upd g M ((cutP sd x0 y0 x1 y1 (sx (prv N k)) (sy (prv N k)) (sx k) (sy k)).2), M + 1) hP hD (pass_no (over_dt c_12 hI_8.2.2 c_67 c_98 he_r_3))
              · have hP : va_P D vwCl (wP d a px py (upd (upd f M ((cutP sd x0 y0 x1 y1 (sx (prv N k)) (sy (prv N k)) (sx k) (sy k)).1)) (M + 1) (sx k)) (upd (upd g M ((cutP sd x0 y0 x1 y1 (sx (prv N k)) (sy (prv N k)) (sx k) (sy k)).2)) (M + 1) (sy k)) fr tb ac la sx sy w h C n x0 y0 x1 y1 ((M + 1) + 1)) H := hP
                have hD : va_D A (wP d a px py (upd (upd f M ((cutP sd x0 y0 x1 y1 (sx (prv N k)) (sy (prv N k)) (sx k) (sy k)).1)) (M + 1) (sx k)) (upd (upd g M ((cutP sd x0 y0 x1 y1 (sx (prv N k)) (sy (prv N k)) (sx k) (sy k)).2)) (M + 1) (sy k)) fr tb ac la sx sy w h C n x0 y0 x1 y1 ((M + 1) + 1)) := hD
                refine lv_if_ne (tgt := 118) hx hb dX1_pass_113 (by decide) (fun c_113 => ?_) (fun c_113 => ?_)
                · refine lv_iinc (v := nI (k + 1)) (lv' := [(5, .int (nI (k + 1))), (8, .int (bI (goodB sd x0 y0 x1 y1 (sx (prv N k)) (sy (prv N k))))), (7, .int (bI (goodB sd x0 y0 x1 y1 (sx k) (sy k)))), (6, .int (nI (prv N k))), (0, .ref (a 0)), (1, .int (nI sd)), (2, .ref (a 9)), (3, .ref (a 10)), (4, .int (nI N))]) hx hb dX1_pass_118 hl (k := 8) rfl (nI_inc _) (by decide) rfl (fun ls hl => ?_)
                  refine lv_goto (tgt := 8) hx hb dX1_pass_121 (by decide) ?_
                  exact ih_8 (k + 1, upd (upd f M ((cutP sd x0 y0 x1 y1 (sx (prv N k)) (sy (prv N k)) (sx k) (sy k)).1)) (M + 1) (sx k), upd (upd g M ((cutP sd x0 y0 x1 y1 (sx (prv N k)) (sy (prv N k)) (sx k) (sy k)).2)) (M + 1) (sy k), (M + 1) + 1) _ _ _ (by show N - (k + 1) < N - k; omega) ⟨ls, rfl, (lv_sub hl [4, 5, 6, 7, 8, 0] rfl), hP, hD, hS, (show (k + 1) ≤ N ∧ ((M + 1) + 1) ≤ C ∧ okQ (oL sd x0 y0 x1 y1 sx sy N (k + 1)) (upd (upd f M ((cutP sd x0 y0 x1 y1 (sx (prv N k)) (sy (prv N k)) (sx k) (sy k)).1)) (M + 1) (sx k)) (upd (upd g M ((cutP sd x0 y0 x1 y1 (sx (prv N k)) (sy (prv N k)) (sx k) (sy k)).2)) (M + 1) (sy k)) ((M + 1) + 1) from ⟨by omega, by omega, pass_dt hI_8.2.2 c_67 c_98⟩)⟩
                · exact absurd c_113 (by decide)
          · exact absurd c_91 (by decide)

set_option maxHeartbeats 4000000 in
set_option maxRecDepth 100000 in
/-- clip(): the four passes -/
theorem mtX1_clip (l : Launch) (D : va_G) (d : ClassId) (a : Nat → Nat) (px py qx qy fr tb ac la sx sy : Nat → Int32) (w h C n : Nat) (x0 y0 x1 y1 : Int32) (mn : Nat)  (hn : n ≤ C) (hC : C ≤ 60) (nn : ∀ i, i < n → Nr (px i) ∧ Nr (py i)) (w0 : Nr x0) (w1 : Nr y0) (w2 : Nr x1) (w3 : Nr y1) (sz : Nat) : Met l yX1_clip (ws_ yX1_clip cX1_clip 4 (some .int)) (rm_ 4 103) (PcM [.ref (a 0)] D (wP d a px py qx qy fr tb ac la sx sy w h C n x0 y0 x1 y1 mn) [(d, .int)] sz) (va_Qi (fun (r : Int32) (u_ : ((Nat → Int32) × (Nat → Int32) × (Nat → Int32) × (Nat → Int32) × (Nat → Int32) × (Nat → Int32) × Nat × Nat)) => clQ (clO C x0 y0 x1 y1 (pts px py n) 4) r px py n u_.1 u_.2.1 u_.2.2.2.2.2.2.1) (fun (u_ : ((Nat → Int32) × (Nat → Int32) × (Nat → Int32) × (Nat → Int32) × (Nat → Int32) × (Nat → Int32) × Nat × Nat)) t => QB D [(d, .int)] (va_A (wP d a px py qx qy fr tb ac la sx sy w h C n x0 y0 x1 y1 mn) sz) (wP d a u_.1 u_.2.1 u_.2.2.1 u_.2.2.2.1 fr tb ac la u_.2.2.2.2.1 u_.2.2.2.2.2.1 w h C u_.2.2.2.2.2.2.1 x0 y0 x1 y1 u_.2.2.2.2.2.2.2) t) (va_A (wP d a px py qx qy fr tb ac la sx sy w h C n x0 y0 x1 y1 mn) sz)) 0 0 (va_A (wP d a px py qx qy fr tb ac la sx sy w h C n x0 y0 x1 y1 mn) sz) := by
  refine xMetM (Qf := fun A => (va_Qi (fun (r : Int32) (u_ : ((Nat → Int32) × (Nat → Int32) × (Nat → Int32) × (Nat → Int32) × (Nat → Int32) × (Nat → Int32) × Nat × Nat)) => clQ (clO C x0 y0 x1 y1 (pts px py n) 4) r px py n u_.1 u_.2.1 u_.2.2.2.2.2.2.1) (fun (u_ : ((Nat → Int32) × (Nat → Int32) × (Nat → Int32) × (Nat → Int32) × (Nat → Int32) × (Nat → Int32) × Nat × Nat)) t => QB D [(d, .int)] A (wP d a u_.1 u_.2.1 u_.2.2.1 u_.2.2.2.1 fr tb ac la u_.2.2.2.2.1 u_.2.2.2.2.2.1 w h C u_.2.2.2.2.2.2.1 x0 y0 x1 y1 u_.2.2.2.2.2.2.2) t) A)) (by decide) (Nat.le_of_ble_eq_true rfl) ?_
  intro p e s m below meth c ls A H locs S hr hlk hl hP hK hD hS hA hin
  have S : CallFix p m c cX1_clip 4 s _ lw_all RX1 := S
  have hx := S.1
  have hb := S.2.1
  have hl : lv_has ls 4 [(0, .ref (a 0))] := hl
  refine lv_iconst (v := 0) hx hb dX1_clip_0 (by decide) ?_
  refine lv_istore_n (lv' := [(1, .int 0), (0, .ref (a 0))]) hx hb dX1_clip_1 rfl hl (by decide) rfl (fun ls hl => ?_)
  refine xloop (α := Nat × (Nat → Int32) × (Nat → Int32)) (fun x_ => n - x_.1) (fun x_ H locs g_ => ∃ ls, g_ = F0 m 2 ls [] ∧ lv_has ls 4 [(0, .ref (a 0)), (1, .int (nI x_.1))] ∧ va_P D vwCl (wP d a px py qx qy fr tb ac la x_.2.1 x_.2.2 w h C n x0 y0 x1 y1 mn) H ∧ va_D A (wP d a px py qx qy fr tb ac la x_.2.1 x_.2.2 w h C n x0 y0 x1 y1 mn) ∧ va_S A s.heap H locs ∧ (x_.1 ≤ n ∧ ∀ j, j < x_.1 → x_.2.1 j = px j ∧ x_.2.2 j = py j)) ?_ (0, sx, sy) ⟨ls, rfl, (lv_sub hl [1, 0] rfl), hP, hD, hS, (show 0 ≤ n ∧ ∀ j, j < 0 → sx j = px j ∧ sy j = py j from ⟨Nat.zero_le _, fun j hj => absurd hj (Nat.not_lt_zero j)⟩)⟩
  intro x_ H locs g_ hJ_ ih_2
  obtain ⟨k, f, g⟩ := x_
  obtain ⟨ls, rfl, hl, hP, hD, hS, hI_2⟩ := hJ_
  have hl : lv_has ls 4 [(0, .ref (a 0)), (1, .int (nI k))] := hl
  have hP : va_P D vwCl (wP d a px py qx qy fr tb ac la f g w h C n x0 y0 x1 y1 mn) H := hP
  have hD : va_D A (wP d a px py qx qy fr tb ac la f g w h C n x0 y0 x1 y1 mn) := hD
  have hI_2 : k ≤ n ∧ ∀ j, j < k → f j = px j ∧ g j = py j := hI_2
  refine lv_iload_n hx hb dX1_clip_2 rfl (lv_at hl 1 rfl) ?_
  refine lv_aload_n hx hb dX1_clip_3 rfl (lv_at hl 0 rfl) ?_
  refine xget1 S hK hP 0 rfl 11 (by decide) q41 rfl (v := .int (nI n)) rfl dX1_clip_4 ?_
  refine lv_icmp_ge (tgt := 40) hx hb dX1_clip_7 (by decide) (fun c_7 => ?_) (fun c_7 => ?_)
  · have c_7 : n ≤ k := xle (a := n) (b := k) c_7 (by omega) (by omega)
    refine lv_aload_n hx hb dX1_clip_40 rfl (lv_at hl 0 rfl) ?_
    refine xget1 S hK hP 0 rfl 11 (by decide) q41 rfl (v := .int (nI n)) rfl dX1_clip_41 ?_
    refine lv_istore_n (lv' := [(1, .int (nI n)), (0, .ref (a 0))]) hx hb dX1_clip_44 rfl hl (by decide) rfl (fun ls hl => ?_)
    refine lv_iconst (v := 0) hx hb dX1_clip_45 (by decide) ?_
    refine lv_istore_n (lv' := [(2, .int 0), (1, .int (nI n)), (0, .ref (a 0))]) hx hb dX1_clip_46 rfl hl (by decide) rfl (fun ls hl => ?_)
    refine xloop (α := Nat × Nat × (Nat → Int32) × (Nat → Int32) × (Nat → Int32) × (Nat → Int32) × Nat) (fun x_ => 4 - x_.1) (fun x_ H locs g_ => ∃ ls, g_ = F0 m 47 ls [] ∧ lv_has ls 4 [(0, .ref (a 0)), (1, .int (nI x_.2.1)), (2, .int (nI x_.1))] ∧ va_P D vwCl (wP d a px py x_.2.2.1 x_.2.2.2.1 fr tb ac la x_.2.2.2.2.1 x_.2.2.2.2.2.1 w h C n x0 y0 x1 y1 x_.2.2.2.2.2.2) H ∧ va_D A (wP d a px py x_.2.2.1 x_.2.2.2.1 fr tb ac la x_.2.2.2.2.1 x_.2.2.2.2.2.1 w h C n x0 y0 x1 y1 x_.2.2.2.2.2.2) ∧ va_S A s.heap H locs ∧ (x_.1 ≤ 4 ∧ x_.2.1 ≤ C ∧ ∃ L, clO C x0 y0 x1 y1 (pts px py n) x_.1 = some L ∧ okQ L x_.2.2.2.2.1 x_.2.2.2.2.2.1 x_.2.1 ∧ NrL L)) ?_ (0, n, qx, qy, f, g, mn) ⟨ls, rfl, (lv_sub hl [2, 1, 0] rfl), hP, hD, hS, (show 0 ≤ 4 ∧ n ≤ C ∧ ∃ L, clO C x0 y0 x1 y1 (pts px py n) 0 = some L ∧ okQ L f g n ∧ NrL L from ⟨Nat.zero_le _, hn, pts px py n, rfl, okQ_cpy pts_ok (fun j hj => hI_2.2 j (by omega)), NrL_pts nn⟩)⟩
    intro x_ H locs g_ hJ_ ih_47
    obtain ⟨sd, ct, f1, f2, g1, g2, mm⟩ := x_
    obtain ⟨ls, rfl, hl, hP, hD, hS, hI_47⟩ := hJ_
    have hl : lv_has ls 4 [(0, .ref (a 0)), (1, .int (nI ct)), (2, .int (nI sd))] := hl
    have hP : va_P D vwCl (wP d a px py f1 f2 fr tb ac la g1 g2 w h C n x0 y0 x1 y1 mm) H := hP
    have hD : va_D A (wP d a px py f1 f2 fr tb ac la g1 g2 w h C n x0 y0 x1 y1 mm) := hD
    have hI_47 : sd ≤ 4 ∧ ct ≤ C ∧ ∃ L, clO C x0 y0 x1 y1 (pts px py n) sd = some L ∧ okQ L g1 g2 ct ∧ NrL L := hI_47
    obtain ⟨hs4_, hct_, L, hL_, hq_, hnr_⟩ := hI_47
    refine lv_iload_n hx hb dX1_clip_47 rfl (lv_at hl 2 rfl) ?_
    refine lv_iconst (v := 4) hx hb dX1_clip_48 (by decide) ?_
    refine lv_icmp_ge (tgt := 119) hx hb dX1_clip_49 (by decide) (fun c_49 => ?_) (fun c_49 => ?_)
    · have c_49 : 4 ≤ sd := xle (a := 4) (b := sd) c_49 (by omega) (by omega)
      refine lv_aload_n hx hb dX1_clip_119 rfl (lv_at hl 0 rfl) ?_
      refine lv_iload_n hx hb dX1_clip_120 rfl (lv_at hl 1 rfl) ?_
      refine xput1 S hK hP hD hS 0 rfl 11 (by decide) q41 rfl rfl (by decide +kernel) (Nat.le_of_ble_eq_true rfl) dX1_clip_121 (fun H locs hP hD hS => ?_)
      have hP : va_P D vwCl (wP d a px py f1 f2 fr tb ac la g1 g2 w h C ct x0 y0 x1 y1 mm) H := hP
      have hD : va_D A (wP d a px py f1 f2 fr tb ac la g1 g2 w h C ct x0 y0 x1 y1 mm) := hD
      refine lv_iconst (v := 0) hx hb dX1_clip_124 (by decide) ?_
      refine lv_istore_n (lv' := [(2, .int 0), (0, .ref (a 0)), (1, .int (nI ct))]) hx hb dX1_clip_125 rfl hl (by decide) rfl (fun ls hl => ?_)
      refine xloop (α := Nat × (Nat → Int32) × (Nat → Int32)) (fun x_ => ct - x_.1) (fun x_ H locs g_ => ∃ ls, g_ = F0 m 126 ls [] ∧ lv_has ls 4 [(0, .ref (a 0)), (1, .int (nI ct)), (2, .int (nI x_.1))] ∧ va_P D vwCl (wP d a x_.2.1 x_.2.2 f1 f2 fr tb ac la g1 g2 w h C ct x0 y0 x1 y1 mm) H ∧ va_D A (wP d a x_.2.1 x_.2.2 f1 f2 fr tb ac la g1 g2 w h C ct x0 y0 x1 y1 mm) ∧ va_S A s.heap H locs ∧ (x_.1 ≤ ct ∧ ∀ j, j < x_.1 → x_.2.1 j = g1 j ∧ x_.2.2 j = g2 j)) ?_ (0, px, py) ⟨ls, rfl, (lv_sub hl [1, 2, 0] rfl), hP, hD, hS, (show 0 ≤ ct ∧ ∀ j, j < 0 → px j = g1 j ∧ py j = g2 j from ⟨Nat.zero_le _, fun j hj => absurd hj (Nat.not_lt_zero j)⟩)⟩
      intro x_ H locs g_ hJ_ ih_126
      obtain ⟨k, f, g⟩ := x_
      obtain ⟨ls, rfl, hl, hP, hD, hS, hI_126⟩ := hJ_
      have hl : lv_has ls 4 [(0, .ref (a 0)), (1, .int (nI ct)), (2, .int (nI k))] := hl
      have hP : va_P D vwCl (wP d a f g f1 f2 fr tb ac la g1 g2 w h C ct x0 y0 x1 y1 mm) H := hP
      have hD : va_D A (wP d a f g f1 f2 fr tb ac la g1 g2 w h C ct x0 y0 x1 y1 mm) := hD
      have hI_126 : k ≤ ct ∧ ∀ j, j < k → f j = g1 j ∧ g j = g2 j := hI_126
      refine lv_iload_n hx hb dX1_clip_126 rfl (lv_at hl 2 rfl) ?_
      refine lv_aload_n hx hb dX1_clip_127 rfl (lv_at hl 0 rfl) ?_
      refine xget1 S hK hP 0 rfl 11 (by decide) q41 rfl (v := .int (nI ct)) rfl dX1_clip_128 ?_
      refine lv_icmp_ge (tgt := 164) hx hb dX1_clip_131 (by decide) (fun c_131 => ?_) (fun c_131 => ?_)
      · have c_131 : ct ≤ k := xle (a := ct) (b := k) c_131 (by omega) (by omega)
        refine lv_aload_n hx hb dX1_clip_164 rfl (lv_at hl 0 rfl) ?_
        refine xget1 S hK hP 0 rfl 11 (by decide) q41 rfl (v := .int (nI ct)) rfl dX1_clip_165 ?_
        exact xretMi hx hb hr hlk hK hS dX1_clip_168 (rfl) (f, g, f1, f2, g1, g2, ct, mm) hP hD (clQ_yes (by rw [← (show sd = 4 by omega)]; exact hL_) (okQ_cpy hq_ (fun j hj => hI_126.2 j (by omega))))
      · have c_131 : ct > k := xnle (a := ct) (b := k) c_131 (by omega) (by omega)
        refine lv_aload_n hx hb dX1_clip_134 rfl (lv_at hl 0 rfl) ?_
        refine xget1 S hK hP 0 rfl 0 (by decide) q30 rfl (v := .ref (a 1)) rfl dX1_clip_135 ?_
        refine lv_iload_n hx hb dX1_clip_138 rfl (lv_at hl 2 rfl) ?_
        refine lv_aload_n hx hb dX1_clip_139 rfl (lv_at hl 0 rfl) ?_
        refine xget1 S hK hP 0 rfl 17 (by decide) q47 rfl (v := .ref (a 9)) rfl dX1_clip_140 ?_
        refine lv_iload_n hx hb dX1_clip_143 rfl (lv_at hl 2 rfl) ?_
        refine xald (j := k) hx hb hK hP 9 0 rfl rfl (by decide) dX1_clip_144 (by omega) ?_
        refine xast (j := k) hx hb hK hP hD hS 1 0 rfl rfl (by decide) dX1_clip_145 (by omega) (fun H locs hP hD hS => ?_)
        have hP : va_P D vwCl (wP d a (upd f k (g1 k)) g f1 f2 fr tb ac la g1 g2 w h C ct x0 y0 x1 y1 mm) H := hP
        have hD : va_D A (wP d a (upd f k (g1 k)) g f1 f2 fr tb ac la g1 g2 w h C ct x0 y0 x1 y1 mm) := hD
        refine lv_aload_n hx hb dX1_clip_146 rfl (lv_at hl 0 rfl) ?_
        refine xget1 S hK hP 0 rfl 1 (by decide) q31 rfl (v := .ref (a 2)) rfl dX1_clip_147 ?_
        refine lv_iload_n hx hb dX1_clip_150 rfl (lv_at hl 2 rfl) ?_
        refine lv_aload_n hx hb dX1_clip_151 rfl (lv_at hl 0 rfl) ?_
        refine xget1 S hK hP 0 rfl 18 (by decide) q48 rfl (v := .ref (a 10)) rfl dX1_clip_152 ?_
        refine lv_iload_n hx hb dX1_clip_155 rfl (lv_at hl 2 rfl) ?_
        refine xald (j := k) hx hb hK hP 10 0 rfl rfl (by decide) dX1_clip_156 (by omega) ?_
        refine xast (j := k) hx hb hK hP hD hS 2 0 rfl rfl (by decide) dX1_clip_157 (by omega) (fun H locs hP hD hS => ?_)
        have hP : va_P D vwCl (wP d a (upd f k (g1 k)) (upd g k (g2 k)) f1 f2 fr tb ac la g1 g2 w h C ct x0 y0 x1 y1 mm) H := hP
        have hD : va_D A (wP d a (upd f k (g1 k)) (upd g k (g2 k)) f1 f2 fr tb ac la g1 g2 w h C ct x0 y0 x1 y1 mm) := hD
        refine lv_iinc (v := nI (k + 1)) (lv' := [(2, .int (nI (k + 1))), (0, .ref (a 0)), (1, .int (nI ct))]) hx hb dX1_clip_158 hl (k := 2) rfl (nI_inc _) (by decide) rfl (fun ls hl => ?_)
        refine lv_goto (tgt := 126) hx hb dX1_clip_161 (by decide) ?_
        exact ih_126 (k + 1, upd f k (g1 k), upd g k (g2 k)) _ _ _ (by show ct - (k + 1) < ct - k; omega) ⟨ls, rfl, (lv_sub hl [1, 2, 0] rfl), hP, hD, hS, (show (k + 1) ≤ ct ∧ ∀ j, j < (k + 1) → (upd f k (g1 k)) j = g1 j ∧ (upd g k (g2 k)) j = g2 j from ⟨by omega, cpy_step hI_126.2⟩)⟩
    · have c_49 : 4 > sd := xnle (a := 4) (b := sd) c_49 (by omega) (by omega)
      refine lv_aload_n hx hb dX1_clip_52 rfl (lv_at hl 0 rfl) ?_
      refine lv_iload_n hx hb dX1_clip_53 rfl (lv_at hl 2 rfl) ?_
      refine lv_aload_n hx hb dX1_clip_54 rfl (lv_at hl 0 rfl) ?_
      refine xget1 S hK hP 0 rfl 17 (by decide) q47 rfl (v := .ref (a 9)) rfl dX1_clip_55 ?_
      refine lv_aload_n hx hb dX1_clip_58 rfl (lv_at hl 0 rfl) ?_
      refine xget1 S hK hP 0 rfl 18 (by decide) q48 rfl (v := .ref (a 10)) rfl dX1_clip_59 ?_
      refine lv_iload_n hx hb dX1_clip_62 rfl (lv_at hl 1 rfl) ?_
      refine xcMi [.int (nI sd), .ref (a 9), .ref (a 10), .int (nI ct)] S (mtX1_pass l D d a px py f1 f2 fr tb ac la g1 g2 w h C n x0 y0 x1 y1 mm sd ct (by omega) (by omega) hC (NrL_f hnr_ hq_) w0 w1 w2 w3 H.size) q112 viX1_pass ⟨rfl, rfl⟩ ⟨Nat.le_of_ble_eq_true rfl, Nat.le_of_ble_eq_true rfl⟩ ⟨Nat.le_of_ble_eq_true rfl, Nat.le_of_ble_eq_true rfl⟩ hK hP hD hS hA (ci := 0) (q0 := 0) rfl rfl hl.1 (rest := []) rfl (Nat.le_of_ble_eq_true rfl) dX1_clip_63 (fun r_1 u_ H locs h_ hP hD hS => ?_)
      obtain ⟨qx_1, qy_1, mn_1⟩ := u_
      have hP : va_P D vwCl (wP d a px py qx_1 qy_1 fr tb ac la g1 g2 w h C n x0 y0 x1 y1 mn_1) H := hP
      have hD : va_D A (wP d a px py qx_1 qy_1 fr tb ac la g1 g2 w h C n x0 y0 x1 y1 mn_1) := hD
      have h_ : r_1 = bI (decide ((oL sd x0 y0 x1 y1 g1 g2 ct ct).length ≤ C)) ∧ ((oL sd x0 y0 x1 y1 g1 g2 ct ct).length ≤ C → okQ (oL sd x0 y0 x1 y1 g1 g2 ct ct) qx_1 qy_1 mn_1) := h_
      rw [stL_ok hq_] at h_
      obtain ⟨h0_, hp_⟩ := h_
      subst h0_
      refine lv_if_ne (tgt := 71) hx hb dX1_clip_66 (by decide) (fun c_66 => ?_) (fun c_66 => ?_)
      · have c_66 : (decide ((stL sd x0 y0 x1 y1 L).length ≤ C)) = true := bI_1 c_66
        have hcl_ := of_decide_eq_true c_66
        have hq1_ := hp_ hcl_
        have hm1_ : mn_1 ≤ C := by rw [hq1_.1]; exact hcl_
        refine lv_aload_n hx hb dX1_clip_71 rfl (lv_at hl 0 rfl) ?_
        refine xget1 S hK hP 0 rfl 16 (by decide) q46 rfl (v := .int (nI mn_1)) rfl dX1_clip_72 ?_
        refine lv_istore_n (lv' := [(1, .int (nI mn_1)), (0, .ref (a 0)), (2, .int (nI sd))]) hx hb dX1_clip_75 rfl hl (by decide) rfl (fun ls hl => ?_)
        refine lv_iconst (v := 0) hx hb dX1_clip_76 (by decide) ?_
        refine lv_istore_n (lv' := [(3, .int 0), (1, .int (nI mn_1)), (0, .ref (a 0)), (2, .int (nI sd))]) hx hb dX1_clip_77 rfl hl (by decide) rfl (fun ls hl => ?_)
        refine xloop (α := Nat × (Nat → Int32) × (Nat → Int32)) (fun x_ => mn_1 - x_.1) (fun x_ H locs g_ => ∃ ls, g_ = F0 m 78 ls [] ∧ lv_has ls 4 [(0, .ref (a 0)), (1, .int (nI mn_1)), (2, .int (nI sd)), (3, .int (nI x_.1))] ∧ va_P D vwCl (wP d a px py qx_1 qy_1 fr tb ac la x_.2.1 x_.2.2 w h C n x0 y0 x1 y1 mn_1) H ∧ va_D A (wP d a px py qx_1 qy_1 fr tb ac la x_.2.1 x_.2.2 w h C n x0 y0 x1 y1 mn_1) ∧ va_S A s.heap H locs ∧ (x_.1 ≤ mn_1 ∧ ∀ j, j < x_.1 → x_.2.1 j = qx_1 j ∧ x_.2.2 j = qy_1 j)) ?_ (0, g1, g2) ⟨ls, rfl, (lv_sub hl [2, 1, 3, 0] rfl), hP, hD, hS, (show 0 ≤ mn_1 ∧ ∀ j, j < 0 → g1 j = qx_1 j ∧ g2 j = qy_1 j from ⟨Nat.zero_le _, fun j hj => absurd hj (Nat.not_lt_zero j)⟩)⟩
        intro x_ H locs g_ hJ_ ih_78
        obtain ⟨k, f, g⟩ := x_
        obtain ⟨ls, rfl, hl, hP, hD, hS, hI_78⟩ := hJ_
        have hl : lv_has ls 4 [(0, .ref (a 0)), (1, .int (nI mn_1)), (2, .int (nI sd)), (3, .int (nI k))] := hl
        have hP : va_P D vwCl (wP d a px py qx_1 qy_1 fr tb ac la f g w h C n x0 y0 x1 y1 mn_1) H := hP
        have hD : va_D A (wP d a px py qx_1 qy_1 fr tb ac la f g w h C n x0 y0 x1 y1 mn_1) := hD
        have hI_78 : k ≤ mn_1 ∧ ∀ j, j < k → f j = qx_1 j ∧ g j = qy_1 j := hI_78
        refine lv_iload_n hx hb dX1_clip_78 rfl (lv_at hl 3 rfl) ?_
        refine lv_iload_n hx hb dX1_clip_79 rfl (lv_at hl 1 rfl) ?_
        refine lv_icmp_ge (tgt := 113) hx hb dX1_clip_80 (by decide) (fun c_80 => ?_) (fun c_80 => ?_)
        · have c_80 : mn_1 ≤ k := xle (a := mn_1) (b := k) c_80 (by omega) (by omega)
          refine lv_iinc (v := nI (sd + 1)) (lv' := [(2, .int (nI (sd + 1))), (0, .ref (a 0)), (1, .int (nI mn_1)), (3, .int (nI k))]) hx hb dX1_clip_113 hl (k := 2) rfl (nI_inc _) (by decide) rfl (fun ls hl => ?_)
          refine lv_goto (tgt := 47) hx hb dX1_clip_116 (by decide) ?_
          exact ih_47 (sd + 1, mn_1, qx_1, qy_1, f, g, mn_1) _ _ _ (by show 4 - (sd + 1) < 4 - sd; omega) ⟨ls, rfl, (lv_sub hl [1, 2, 0] rfl), hP, hD, hS, (show (sd + 1) ≤ 4 ∧ mn_1 ≤ C ∧ ∃ L, clO C x0 y0 x1 y1 (pts px py n) (sd + 1) = some L ∧ okQ L f g mn_1 ∧ NrL L from ⟨by omega, hm1_, stL sd x0 y0 x1 y1 L, clO_some hL_ hcl_, okQ_cpy hq1_ (fun j hj => hI_78.2 j (by omega)), NrL_st hnr_ (by omega) w0 w1 w2 w3⟩)⟩
        · have c_80 : mn_1 > k := xnle (a := mn_1) (b := k) c_80 (by omega) (by omega)
          refine lv_aload_n hx hb dX1_clip_83 rfl (lv_at hl 0 rfl) ?_
          refine xget1 S hK hP 0 rfl 17 (by decide) q47 rfl (v := .ref (a 9)) rfl dX1_clip_84 ?_
          refine lv_iload_n hx hb dX1_clip_87 rfl (lv_at hl 3 rfl) ?_
          refine lv_aload_n hx hb dX1_clip_88 rfl (lv_at hl 0 rfl) ?_
          refine xget1 S hK hP 0 rfl 2 (by decide) q32 rfl (v := .ref (a 3)) rfl dX1_clip_89 ?_
          refine lv_iload_n hx hb dX1_clip_92 rfl (lv_at hl 3 rfl) ?_
          refine xald (j := k) hx hb hK hP 3 0 rfl rfl (by decide) dX1_clip_93 (by omega) ?_
          refine xast (j := k) hx hb hK hP hD hS 9 0 rfl rfl (by decide) dX1_clip_94 (by omega) (fun H locs hP hD hS => ?_)
          have hP : va_P D vwCl (wP d a px py qx_1 qy_1 fr tb ac la (upd f k (qx_1 k)) g w h C n x0 y0 x1 y1 mn_1) H := hP
          have hD : va_D A (wP d a px py qx_1 qy_1 fr tb ac la (upd f k (qx_1 k)) g w h C n x0 y0 x1 y1 mn_1) := hD
          refine lv_aload_n hx hb dX1_clip_95 rfl (lv_at hl 0 rfl) ?_
          refine xget1 S hK hP 0 rfl 18 (by decide) q48 rfl (v := .ref (a 10)) rfl dX1_clip_96 ?_
          refine lv_iload_n hx hb dX1_clip_99 rfl (lv_at hl 3 rfl) ?_
          refine lv_aload_n hx hb dX1_clip_100 rfl (lv_at hl 0 rfl) ?_
          refine xget1 S hK hP 0 rfl 3 (by decide) q33 rfl (v := .ref (a 4)) rfl dX1_clip_101 ?_
          refine lv_iload_n hx hb dX1_clip_104 rfl (lv_at hl 3 rfl) ?_
          refine xald (j := k) hx hb hK hP 4 0 rfl rfl (by decide) dX1_clip_105 (by omega) ?_
          refine xast (j := k) hx hb hK hP hD hS 10 0 rfl rfl (by decide) dX1_clip_106 (by omega) (fun H locs hP hD hS => ?_)
          have hP : va_P D vwCl (wP d a px py qx_1 qy_1 fr tb ac la (upd f k (qx_1 k)) (upd g k (qy_1 k)) w h C n x0 y0 x1 y1 mn_1) H := hP
          have hD : va_D A (wP d a px py qx_1 qy_1 fr tb ac la (upd f k (qx_1 k)) (upd g k (qy_1 k)) w h C n x0 y0 x1 y1 mn_1) := hD
          refine lv_iinc (v := nI (k + 1)) (lv' := [(3, .int (nI (k + 1))), (0, .ref (a 0)), (1, .int (nI mn_1)), (2, .int (nI sd))]) hx hb dX1_clip_107 hl (k := 3) rfl (nI_inc _) (by decide) rfl (fun ls hl => ?_)
          refine lv_goto (tgt := 78) hx hb dX1_clip_110 (by decide) ?_
          exact ih_78 (k + 1, upd f k (qx_1 k), upd g k (qy_1 k)) _ _ _ (by show mn_1 - (k + 1) < mn_1 - k; omega) ⟨ls, rfl, (lv_sub hl [1, 2, 3, 0] rfl), hP, hD, hS, (show (k + 1) ≤ mn_1 ∧ ∀ j, j < (k + 1) → (upd f k (qx_1 k)) j = qx_1 j ∧ (upd g k (qy_1 k)) j = qy_1 j from ⟨by omega, cpy_step hI_78.2⟩)⟩
      · have c_66 : (decide ((stL sd x0 y0 x1 y1 L).length ≤ C)) = false := bI_0 c_66
        refine lv_iconst (v := (-1)) hx hb dX1_clip_69 (by decide) ?_
        exact xretMi hx hb hr hlk hK hS dX1_clip_70 (rfl) (px, py, qx_1, qy_1, g1, g2, n, mn_1) hP hD (clQ_no (clO_fail4 (by omega) hL_ (of_decide_eq_false c_66)))
  · have c_7 : n > k := xnle (a := n) (b := k) c_7 (by omega) (by omega)
    refine lv_aload_n hx hb dX1_clip_10 rfl (lv_at hl 0 rfl) ?_
    refine xget1 S hK hP 0 rfl 17 (by decide) q47 rfl (v := .ref (a 9)) rfl dX1_clip_11 ?_
    refine lv_iload_n hx hb dX1_clip_14 rfl (lv_at hl 1 rfl) ?_
    refine lv_aload_n hx hb dX1_clip_15 rfl (lv_at hl 0 rfl) ?_
    refine xget1 S hK hP 0 rfl 0 (by decide) q30 rfl (v := .ref (a 1)) rfl dX1_clip_16 ?_
    refine lv_iload_n hx hb dX1_clip_19 rfl (lv_at hl 1 rfl) ?_
    refine xald (j := k) hx hb hK hP 1 0 rfl rfl (by decide) dX1_clip_20 (by omega) ?_
    refine xast (j := k) hx hb hK hP hD hS 9 0 rfl rfl (by decide) dX1_clip_21 (by omega) (fun H locs hP hD hS => ?_)
    have hP : va_P D vwCl (wP d a px py qx qy fr tb ac la (upd f k (px k)) g w h C n x0 y0 x1 y1 mn) H := hP
    have hD : va_D A (wP d a px py qx qy fr tb ac la (upd f k (px k)) g w h C n x0 y0 x1 y1 mn) := hD
    refine lv_aload_n hx hb dX1_clip_22 rfl (lv_at hl 0 rfl) ?_
    refine xget1 S hK hP 0 rfl 18 (by decide) q48 rfl (v := .ref (a 10)) rfl dX1_clip_23 ?_
    refine lv_iload_n hx hb dX1_clip_26 rfl (lv_at hl 1 rfl) ?_
    refine lv_aload_n hx hb dX1_clip_27 rfl (lv_at hl 0 rfl) ?_
    refine xget1 S hK hP 0 rfl 1 (by decide) q31 rfl (v := .ref (a 2)) rfl dX1_clip_28 ?_
    refine lv_iload_n hx hb dX1_clip_31 rfl (lv_at hl 1 rfl) ?_
    refine xald (j := k) hx hb hK hP 2 0 rfl rfl (by decide) dX1_clip_32 (by omega) ?_
    refine xast (j := k) hx hb hK hP hD hS 10 0 rfl rfl (by decide) dX1_clip_33 (by omega) (fun H locs hP hD hS => ?_)
    have hP : va_P D vwCl (wP d a px py qx qy fr tb ac la (upd f k (px k)) (upd g k (py k)) w h C n x0 y0 x1 y1 mn) H := hP
    have hD : va_D A (wP d a px py qx qy fr tb ac la (upd f k (px k)) (upd g k (py k)) w h C n x0 y0 x1 y1 mn) := hD
    refine lv_iinc (v := nI (k + 1)) (lv' := [(1, .int (nI (k + 1))), (0, .ref (a 0))]) hx hb dX1_clip_34 hl (k := 1) rfl (nI_inc _) (by decide) rfl (fun ls hl => ?_)
    refine lv_goto (tgt := 2) hx hb dX1_clip_37 (by decide) ?_
    exact ih_2 (k + 1, upd f k (px k), upd g k (py k)) _ _ _ (by show n - (k + 1) < n - k; omega) ⟨ls, rfl, (lv_sub hl [1, 0] rfl), hP, hD, hS, (show (k + 1) ≤ n ∧ ∀ j, j < (k + 1) → (upd f k (px k)) j = px j ∧ (upd g k (py k)) j = py j from ⟨by omega, cpy_step hI_2.2⟩)⟩
end
section
/-! PURE: what is inside -/
set_option maxRecDepth 100000
def crsZ (ax ay bx bw x y : Int) : Bool := if ay ≤ y then (if bw ≤ y then false else decide ((x - ax) * (bw - ay) < (bx - ax) * (y - ay))) else (if bw ≤ y then decide ((x - bx) * (ay - bw) < (ax - bx) * (y - bw)) else false)
/-- the edge from corner k is crossed by the line of y at a place above x -/
def crs (f g : Nat → Int32) (n : Nat) (x y : Int) (k : Nat) : Bool := crsZ (f k).toInt (g k).toInt (f (nxt n k)).toInt (g (nxt n k)).toInt x y
def insB (f g : Nat → Int32) (n : Nat) (x y : Int) : Nat → Bool
  | 0 => false
  | k + 1 => Bool.xor (insB f g n x y k) (crs f g n x y k)
theorem ins_s1 {f g : Nat → Int32} {n k : Nat} {x y : Int} {b : Bool} (hI : b = insB f g n x y k) (h : crs f g n x y k = false) : b = insB f g n x y (k + 1) := by
  simp only [insB]
  rw [h, ← hI, Bool.xor_false]
theorem ins_s2 {f g : Nat → Int32} {n k : Nat} {x y : Int} {b : Bool} (hI : b = insB f g n x y k) (h : crs f g n x y k = true) : (!b) = insB f g n x y (k + 1) := by
  simp only [insB]
  rw [h, ← hI, Bool.xor_true]
theorem bI_x0 (b : Bool) : bI b ^^^ 0 = bI b := by cases b <;> decide
theorem bI_x1 (b : Bool) : bI b ^^^ 1 = bI (!b) := by cases b <;> decide
theorem lohi {g : Nat → Int32} {n k : Nat} : (loV g n k = nxt n k ∧ hiV g n k = k ∧ (g (nxt n k)).toInt < (g k).toInt) ∨ (loV g n k = k ∧ hiV g n k = nxt n k ∧ (g k).toInt ≤ (g (nxt n k)).toInt) := by
  unfold loV hiV
  by_cases h : g (nxt n k) < g k
  · rw [if_pos h, if_pos h]
    exact Or.inl ⟨rfl, rfl, Int32.lt_iff_toInt_lt.mp h⟩
  · rw [if_neg h, if_neg h]
    refine Or.inr ⟨rfl, rfl, ?_⟩
    rw [Int32.lt_iff_toInt_lt] at h
    omega
theorem lohi_le (g : Nat → Int32) (n k : Nat) : (g (loV g n k)).toInt ≤ (g (hiV g n k)).toInt := by
  rcases lohi (g := g) (n := n) (k := k) with ⟨h1, h2, h3⟩ | ⟨h1, h2, h3⟩ <;> rw [h1, h2] <;> omega
theorem crs_skip1 {f g : Nat → Int32} {n k : Nat} {x y : Int} (h : y < (g (loV g n k)).toInt) : crs f g n x y k = false := by
  unfold crs crsZ
  rcases lohi (g := g) (n := n) (k := k) with ⟨h1, h2, h3⟩ | ⟨h1, h2, h3⟩ <;> rw [h1] at h <;> rw [if_neg (by omega), if_neg (by omega)]
theorem crs_skip2 {f g : Nat → Int32} {n k : Nat} {x y : Int} (h : (g (hiV g n k)).toInt ≤ y) : crs f g n x y k = false := by
  unfold crs crsZ
  rcases lohi (g := g) (n := n) (k := k) with ⟨h1, h2, h3⟩ | ⟨h1, h2, h3⟩ <;> rw [h2] at h <;> rw [if_pos (by omega), if_pos (by omega)]
theorem crs_val {f g : Nat → Int32} {n k : Nat} {x y : Int} (h : (g (loV g n k)).toInt ≤ y) (h0 : y < (g (hiV g n k)).toInt) : crs f g n x y k = decide (0 < ((f (loV g n k)).toInt - x) * ((g (hiV g n k)).toInt - (g (loV g n k)).toInt) + (y - (g (loV g n k)).toInt) * ((f (hiV g n k)).toInt - (f (loV g n k)).toInt)) := by
  unfold crs crsZ
  rcases lohi (g := g) (n := n) (k := k) with ⟨h1, h2, h3⟩ | ⟨h1, h2, h3⟩ <;> rw [h1] at h <;> rw [h2] at h0 <;> rw [h1, h2]
  · rw [if_neg (by omega), if_pos (by omega)]
    refine decide_eq_decide.mpr ?_
    have e1 : ((f (nxt n k)).toInt - x) * ((g k).toInt - (g (nxt n k)).toInt) = -((x - (f (nxt n k)).toInt) * ((g k).toInt - (g (nxt n k)).toInt)) := by rw [← Int.neg_mul]; congr 1; omega
    rw [e1, Int.mul_comm (y - (g (nxt n k)).toInt)]
    omega
  · rw [if_pos (by omega), if_neg (by omega)]
    refine decide_eq_decide.mpr ?_
    have e1 : ((f k).toInt - x) * ((g (nxt n k)).toInt - (g k).toInt) = -((x - (f k).toInt) * ((g (nxt n k)).toInt - (g k).toInt)) := by rw [← Int.neg_mul]; congr 1; omega
    rw [e1, Int.mul_comm (y - (g k).toInt)]
    omega
theorem i32b (x : Int32) : -2147483648 ≤ x.toInt ∧ x.toInt < 2147483648 := ⟨x.le_toInt, x.toInt_lt⟩
theorem insE {fl fh gl gh x y : Int32} (n1 : Nr fl) (n2 : Nr fh) (n3 : Nr gl) (n4 : Nr gh) : ((fl.toInt64 - x.toInt64) * (gh - gl).toInt64 + (y.toInt64 - gl.toInt64) * (fh - fl).toInt64).toInt = (fl.toInt - x.toInt) * (gh.toInt - gl.toInt) + (y.toInt - gl.toInt) * (fh.toInt - fl.toInt) := by
  have bx := i32b x
  have by_ := i32b y
  rw [Int64.toInt_add, Int64.toInt_mul, Int64.toInt_mul, Int64.toInt_sub, Int64.toInt_sub, Int32.toInt_toInt64, Int32.toInt_toInt64, Int32.toInt_toInt64, Int32.toInt_toInt64, Int32.toInt_toInt64, Int32.toInt_toInt64, subT n4 n3, subT n2 n1]
  unfold Nr at n1 n2 n3 n4
  rw [m64 (x := fl.toInt - x.toInt) (by omega) (by omega), m64 (x := y.toInt - gl.toInt) (by omega) (by omega)]
  have p1 : ((fl.toInt - x.toInt) * (gh.toInt - gl.toInt)).natAbs ≤ 4294967296 * 32768 := prodK (by omega) (by omega)
  have p2 : ((y.toInt - gl.toInt) * (fh.toInt - fl.toInt)).natAbs ≤ 4294967296 * 32768 := prodK (by omega) (by omega)
  generalize (fl.toInt - x.toInt) * (gh.toInt - gl.toInt) = u at p1 ⊢
  generalize (y.toInt - gl.toInt) * (fh.toInt - fl.toInt) = v at p2 ⊢
  rw [m64 (x := u) (by omega) (by omega), m64 (x := v) (by omega) (by omega), m64 (by omega) (by omega)]
theorem ins_le {e : Int64} {z : Int} (h : e.toInt = z) (h0 : e ≤ 0) : decide (0 < z) = false := by
  rw [Int64.le_iff_toInt_le, h] at h0
  have e0 : (0 : Int64).toInt = 0 := by decide
  rw [e0] at h0
  exact decide_eq_false (by omega)
theorem ins_gt {e : Int64} {z : Int} (h : e.toInt = z) (h0 : ¬ e ≤ 0) : decide (0 < z) = true := by
  rw [Int64.le_iff_toInt_le, h] at h0
  have e0 : (0 : Int64).toInt = 0 := by decide
  rw [e0] at h0
  exact decide_eq_true (by omega)
theorem ge_of_nlt {x y : Int32} (h : ¬ x < y) : y.toInt ≤ x.toInt := by
  rw [Int32.lt_iff_toInt_lt] at h
  omega
theorem lt_of_lt {x y : Int32} (h : x < y) : x.toInt < y.toInt := Int32.lt_iff_toInt_lt.mp h
/-- the last whole place below where an edge crosses a line -/
def upZ (f g : Nat → Int32) (n k : Nat) (y : Int) : Int := (f (loV g n k)).toInt * ((g (hiV g n k)).toInt - (g (loV g n k)).toInt) + (y - (g (loV g n k)).toInt) * ((f (hiV g n k)).toInt - (f (loV g n k)).toInt)
def lbZ (f g : Nat → Int32) (n k : Nat) (y : Int) : Int := (upZ f g n k y - 1).fdiv ((g (hiV g n k)).toInt - (g (loV g n k)).toInt)
def lbI (f g : Nat → Int32) (n k : Nat) (y : Int) : Int32 := Int32.ofInt (lbZ f g n k y)
theorem lbU {fl fh gl gh : Int32} {yy : Nat} (n1 : Nr fl) (n2 : Nr fh) (n3 : Nr gl) (n4 : Nr gh) (hy : yy ≤ 24) : (fl.toInt64 * (gh - gl).toInt64 + (nI yy - gl).toInt64 * (fh - fl).toInt64 - 1).toInt = fl.toInt * (gh.toInt - gl.toInt) + ((yy : Int) - gl.toInt) * (fh.toInt - fl.toInt) - 1 ∧ (fl.toInt * (gh.toInt - gl.toInt) + ((yy : Int) - gl.toInt) * (fh.toInt - fl.toInt) - 1).natAbs ≤ 4294967296 := by
  have n5 : Nr (nI yy) := by
    unfold Nr
    rw [nI_toInt (by omega)]
    omega
  rw [Int64.toInt_sub, Int64.toInt_add, Int64.toInt_mul, Int64.toInt_mul, Int32.toInt_toInt64, Int32.toInt_toInt64, Int32.toInt_toInt64, Int32.toInt_toInt64, subT n4 n3, subT n2 n1, subT n5 n3, nI_toInt (by omega)]
  unfold Nr at n1 n2 n3 n4
  have p1 : (fl.toInt * (gh.toInt - gl.toInt)).natAbs ≤ 32768 * 32768 := prodK (by omega) (by omega)
  have p2 : (((yy : Int) - gl.toInt) * (fh.toInt - fl.toInt)).natAbs ≤ 32768 * 32768 := prodK (by omega) (by omega)
  generalize fl.toInt * (gh.toInt - gl.toInt) = u at p1 ⊢
  generalize ((yy : Int) - gl.toInt) * (fh.toInt - fl.toInt) = v at p2 ⊢
  have e1 : (1 : Int64).toInt = 1 := by decide
  rw [e1, m64 (x := u) (by omega) (by omega), m64 (x := v) (by omega) (by omega), m64 (x := u + v) (by omega) (by omega), m64 (by omega) (by omega)]
  exact ⟨rfl, by omega⟩
theorem lb_end {fl fh gl gh : Int32} {yy : Nat} {r : Int64} (n1 : Nr fl) (n2 : Nr fh) (n3 : Nr gl) (n4 : Nr gh) (hy : yy ≤ 24) (h : r.toInt = (fl.toInt64 * (gh - gl).toInt64 + (nI yy - gl).toInt64 * (fh - fl).toInt64 - 1).toInt.fdiv (gh - gl).toInt64.toInt) : r.toInt32 = Int32.ofInt ((fl.toInt * (gh.toInt - gl.toInt) + ((yy : Int) - gl.toInt) * (fh.toInt - fl.toInt) - 1).fdiv (gh.toInt - gl.toInt)) := by
  rw [(lbU n1 n2 n3 n4 hy).1, Int32.toInt_toInt64, subT n4 n3] at h
  refine Int32.toInt_inj.mp ?_
  rw [Int64.toInt_toInt32, Int32.toInt_ofInt, h]
theorem lb_b {fl fh gl gh : Int32} {yy : Nat} (n1 : Nr fl) (n2 : Nr fh) (n3 : Nr gl) (n4 : Nr gh) (hy : yy ≤ 24) : -2305843009213693952 ≤ (fl.toInt64 * (gh - gl).toInt64 + (nI yy - gl).toInt64 * (fh - fl).toInt64 - 1).toInt ∧ (fl.toInt64 * (gh - gl).toInt64 + (nI yy - gl).toInt64 * (fh - fl).toInt64 - 1).toInt ≤ 2305843009213693952 := by
  obtain ⟨h1, h2⟩ := lbU n1 n2 n3 n4 hy
  rw [h1]
  generalize fl.toInt * (gh.toInt - gl.toInt) + ((yy : Int) - gl.toInt) * (fh.toInt - fl.toInt) - 1 = z at h2 ⊢
  omega
/-- of an edge that is met: its last place is near, and says where it is crossed -/
theorem lbZ_nr {f g : Nat → Int32} {n k : Nat} {y : Int} (nn : ∀ i, i < n → Nr (f i) ∧ Nr (g i)) (hk : k < n) (h : (g (loV g n k)).toInt ≤ y) (h0 : y < (g (hiV g n k)).toInt) : -16385 ≤ lbZ f g n k y ∧ lbZ f g n k y ≤ 16384 := by
  have n1 := (nn _ (loV_lt (f := g) hk)).1
  have n2 := (nn _ (hiV_lt (f := g) hk)).1
  unfold Nr at n1 n2
  unfold lbZ
  rw [Int.fdiv_eq_ediv_of_nonneg _ (by omega)]
  unfold upZ
  generalize hT : (g (hiV g n k)).toInt - (g (loV g n k)).toInt = T
  generalize hv : y - (g (loV g n k)).toInt = v
  generalize (f (loV g n k)).toInt = p at n1 ⊢
  generalize (f (hiV g n k)).toInt = q at n2 ⊢
  have hT0 : 0 < T := by omega
  have hv0 : 0 ≤ v := by omega
  have hv1 : v ≤ T := by omega
  have e : p * T + v * (q - p) = p * (T - v) + q * v := by
    rw [Int.mul_sub, Int.mul_sub, Int.mul_comm v q, Int.mul_comm v p]
    omega
  rw [e]
  have a1 : -16384 * (T - v) ≤ p * (T - v) := Int.mul_le_mul_of_nonneg_right n1.1 (by omega)
  have a2 : p * (T - v) ≤ 16384 * (T - v) := Int.mul_le_mul_of_nonneg_right n1.2 (by omega)
  have a3 : -16384 * v ≤ q * v := Int.mul_le_mul_of_nonneg_right n2.1 hv0
  have a4 : q * v ≤ 16384 * v := Int.mul_le_mul_of_nonneg_right n2.2 hv0
  generalize p * (T - v) = s1 at a1 a2 ⊢
  generalize q * v = s2 at a3 a4 ⊢
  constructor
  · rw [Int.le_ediv_iff_mul_le hT0]
    omega
  · have h9 : (s1 + s2 - 1) / T < 16385 := by
      rw [Int.ediv_lt_iff_lt_mul hT0]
      omega
    omega
theorem crs_lb {f g : Nat → Int32} {n k : Nat} {x y : Int} (h : (g (loV g n k)).toInt ≤ y) (h0 : y < (g (hiV g n k)).toInt) : crs f g n x y k = decide (x ≤ lbZ f g n k y) := by
  rw [crs_val h h0]
  refine decide_eq_decide.mpr ?_
  unfold lbZ
  rw [Int.fdiv_eq_ediv_of_nonneg _ (by omega), Int.le_ediv_iff_mul_le (by omega)]
  unfold upZ
  rw [Int.sub_mul]
  omega
end
section
/-! PolygonFrame: what is inside; the last place before a crossing -/
set_option maxHeartbeats 4000000 in
set_option maxRecDepth 100000 in
/-- inside(x, y) -/
theorem mtX1_inside (l : Launch) (D : va_G) (d : ClassId) (a : Nat → Nat) (px py qx qy fr tb ac la sx sy : Nat → Int32) (w h C n : Nat) (x0 y0 x1 y1 : Int32) (mn : Nat) (x y : Int32) (hn : n ≤ 60) (nn : ∀ i, i < n → Nr (px i) ∧ Nr (py i)) : Met l yX1_inside (ws_ yX1_inside cX1_inside 9 (some .boolean)) (rm_ 2 42) (PcR [.ref (a 0), .int x, .int y] D (wP d a px py qx qy fr tb ac la sx sy w h C n x0 y0 x1 y1 mn) [(d, .int)]) (vp_Si (fun r => r = bI (insB px py n x.toInt y.toInt n))) 0 0 (fun _ => False) := by
  refine xMetR (by decide) (Nat.le_of_ble_eq_true rfl) ?_
  intro p e s m below meth c ls S hr hlk hl hP hK
  have S : CallFix p m c cX1_inside 9 s _ lw_all RX1 := S
  have hx := S.1
  have hb := S.2.1
  have hl : lv_has ls 9 [(0, .ref (a 0)), (1, .int x), (2, .int y)] := hl
  refine lv_iconst (v := 0) hx hb dX1_inside_0 (by decide) ?_
  refine lv_istore_n (lv' := [(3, .int 0), (0, .ref (a 0)), (1, .int x), (2, .int y)]) hx hb dX1_inside_1 rfl hl (by decide) rfl (fun ls hl => ?_)
  refine lv_iconst (v := 0) hx hb dX1_inside_2 (by decide) ?_
  refine lv_istore (lv' := [(4, .int 0), (3, .int 0), (0, .ref (a 0)), (1, .int x), (2, .int y)]) hx hb dX1_inside_3 hl (by decide) rfl (fun ls hl => ?_)
  refine xloopR (α := Nat × Bool) (fun x_ => n - x_.1) (fun x_ g_ => ∃ ls, g_ = F0 m 5 ls [] ∧ lv_has ls 9 [(0, .ref (a 0)), (1, .int x), (2, .int y), (3, .int (bI x_.2)), (4, .int (nI x_.1))] ∧ (x_.1 ≤ n ∧ x_.2 = insB px py n x.toInt y.toInt x_.1)) ?_ (0, false) ⟨ls, rfl, (lv_sub hl [2, 3, 4, 1, 0] rfl), (show 0 ≤ n ∧ false = insB px py n x.toInt y.toInt 0 from ⟨Nat.zero_le _, rfl⟩)⟩
  intro x_ g_ hJ_ ih_5
  obtain ⟨k, b⟩ := x_
  obtain ⟨ls, rfl, hl, hI_5⟩ := hJ_
  have hl : lv_has ls 9 [(0, .ref (a 0)), (1, .int x), (2, .int y), (3, .int (bI b)), (4, .int (nI k))] := hl
  have hI_5 : k ≤ n ∧ b = insB px py n x.toInt y.toInt k := hI_5
  refine lv_iload hx hb dX1_inside_5 (lv_at hl 4 rfl) ?_
  refine lv_aload_n hx hb dX1_inside_7 rfl (lv_at hl 0 rfl) ?_
  refine xget1 S hK hP 0 rfl 11 (by decide) q41 rfl (v := .int (nI n)) rfl dX1_inside_8 ?_
  refine lv_icmp_ge (tgt := 135) hx hb dX1_inside_11 (by decide) (fun c_11 => ?_) (fun c_11 => ?_)
  · have c_11 : n ≤ k := xle (a := n) (b := k) c_11 (by omega) (by omega)
    refine lv_iload_n hx hb dX1_inside_135 rfl (lv_at hl 3 rfl) ?_
    exact xretSi hx hb hr hlk dX1_inside_136 (bI_nar b) (by rw [hI_5.2, show k = n by have := hI_5.1; omega])
  · have c_11 : n > k := xnle (a := n) (b := k) c_11 (by omega) (by omega)
    have hlo_ := loV_lt (f := py) c_11
    have hhi_ := hiV_lt (f := py) c_11
    refine lv_aload_n hx hb dX1_inside_14 rfl (lv_at hl 0 rfl) ?_
    refine lv_iload hx hb dX1_inside_15 (lv_at hl 4 rfl) ?_
    refine xcRi [.int (nI k)] S (mtX1_lowOf l D d a px py qx qy fr tb ac la sx sy w h C n x0 y0 x1 y1 mn k (by omega) (by omega)) q150 viX1_lowOf ⟨rfl, rfl⟩ ⟨Nat.le_of_ble_eq_true rfl, Nat.le_of_ble_eq_true rfl⟩ ⟨Nat.le_of_ble_eq_true rfl, Nat.le_of_ble_eq_true rfl⟩ hK hP (ci := 0) (q0 := 0) rfl rfl hl.1 (rest := []) rfl (Nat.le_of_ble_eq_true rfl) dX1_inside_17 (fun r_ h_ => ?_)
    obtain rfl := h_
    refine lv_istore (lv' := [(5, .int (nI (loV py n k))), (0, .ref (a 0)), (1, .int x), (2, .int y), (3, .int (bI b)), (4, .int (nI k))]) hx hb dX1_inside_20 hl (by decide) rfl (fun ls hl => ?_)
    refine lv_aload_n hx hb dX1_inside_22 rfl (lv_at hl 1 rfl) ?_
    refine lv_iload hx hb dX1_inside_23 (lv_at hl 5 rfl) ?_
    refine xcRi [.int (nI k)] S (mtX1_highOf l D d a px py qx qy fr tb ac la sx sy w h C n x0 y0 x1 y1 mn k (by omega) (by omega)) q158 viX1_highOf ⟨rfl, rfl⟩ ⟨Nat.le_of_ble_eq_true rfl, Nat.le_of_ble_eq_true rfl⟩ ⟨Nat.le_of_ble_eq_true rfl, Nat.le_of_ble_eq_true rfl⟩ hK hP (ci := 0) (q0 := 0) rfl rfl hl.1 (rest := []) rfl (Nat.le_of_ble_eq_true rfl) dX1_inside_25 (fun r_ h_ => ?_)
    obtain rfl := h_
    refine lv_istore (lv' := [(6, .int (nI (hiV py n k))), (5, .int (nI (loV py n k))), (0, .ref (a 0)), (1, .int x), (2, .int y), (3, .int (bI b)), (4, .int (nI k))]) hx hb dX1_inside_28 hl (by decide) rfl (fun ls hl => ?_)
    refine lv_aload_n hx hb dX1_inside_30 rfl (lv_at hl 2 rfl) ?_
    refine xget1 S hK hP 0 rfl 1 (by decide) q31 rfl (v := .ref (a 2)) rfl dX1_inside_31 ?_
    refine lv_iload hx hb dX1_inside_34 (lv_at hl 1 rfl) ?_
    refine xald (j := loV py n k) hx hb hK hP 2 0 rfl rfl (by decide) dX1_inside_36 (by omega) ?_
    refine lv_iload_n hx hb dX1_inside_37 rfl (lv_at hl 4 rfl) ?_
    refine lv_icmp_gt (tgt := 129) hx hb dX1_inside_38 (by decide) (fun c_38 => ?_) (fun c_38 => ?_)
    · refine lv_iinc (v := nI (k + 1)) (lv' := [(4, .int (nI (k + 1))), (6, .int (nI (hiV py n k))), (5, .int (nI (loV py n k))), (0, .ref (a 0)), (1, .int x), (2, .int y), (3, .int (bI b))]) hx hb dX1_inside_129 hl (k := 6) rfl (nI_inc _) (by decide) rfl (fun ls hl => ?_)
      refine lv_goto (tgt := 5) hx hb dX1_inside_132 (by decide) ?_
      exact ih_5 (k + 1, b) _ (by show n - (k + 1) < n - k; omega) ⟨ls, rfl, (lv_sub hl [3, 4, 5, 6, 0] rfl), (show (k + 1) ≤ n ∧ b = insB px py n x.toInt y.toInt (k + 1) from ⟨by omega, ins_s1 hI_5.2 (crs_skip1 (lt_of_lt c_38))⟩)⟩
    · refine lv_aload_n hx hb dX1_inside_41 rfl (lv_at hl 2 rfl) ?_
      refine xget1 S hK hP 0 rfl 1 (by decide) q31 rfl (v := .ref (a 2)) rfl dX1_inside_42 ?_
      refine lv_iload hx hb dX1_inside_45 (lv_at hl 0 rfl) ?_
      refine xald (j := hiV py n k) hx hb hK hP 2 0 rfl rfl (by decide) dX1_inside_47 (by omega) ?_
      refine lv_iload_n hx hb dX1_inside_48 rfl (lv_at hl 4 rfl) ?_
      refine lv_icmp_gt (tgt := 55) hx hb dX1_inside_49 (by decide) (fun c_49 => ?_) (fun c_49 => ?_)
      · refine lv_aload_n hx hb dX1_inside_55 rfl (lv_at hl 2 rfl) ?_
        refine xget1 S hK hP 0 rfl 0 (by decide) q30 rfl (v := .ref (a 1)) rfl dX1_inside_56 ?_
        refine lv_iload hx hb dX1_inside_59 (lv_at hl 1 rfl) ?_
        refine xald (j := loV py n k) hx hb hK hP 1 0 rfl rfl (by decide) dX1_inside_61 (by omega) ?_
        refine lv_i2l (v := (px (loV py n k)).toInt64) hx hb dX1_inside_62 rfl ?_
        refine lv_iload_n hx hb dX1_inside_63 rfl (lv_at hl 3 rfl) ?_
        refine lv_i2l (v := x.toInt64) hx hb dX1_inside_64 rfl ?_
        refine lv_lsub hx hb dX1_inside_65 ?_
        refine lv_aload_n hx hb dX1_inside_66 rfl (lv_at hl 2 rfl) ?_
        refine xget1 S hK hP 0 rfl 1 (by decide) q31 rfl (v := .ref (a 2)) rfl dX1_inside_67 ?_
        refine lv_iload hx hb dX1_inside_70 (lv_at hl 0 rfl) ?_
        refine xald (j := hiV py n k) hx hb hK hP 2 0 rfl rfl (by decide) dX1_inside_72 (by omega) ?_
        refine lv_aload_n hx hb dX1_inside_73 rfl (lv_at hl 2 rfl) ?_
        refine xget1 S hK hP 0 rfl 1 (by decide) q31 rfl (v := .ref (a 2)) rfl dX1_inside_74 ?_
        refine lv_iload hx hb dX1_inside_77 (lv_at hl 1 rfl) ?_
        refine xald (j := loV py n k) hx hb hK hP 2 0 rfl rfl (by decide) dX1_inside_79 (by omega) ?_
        refine lv_isub hx hb dX1_inside_80 ?_
        refine lv_i2l (v := ((py (hiV py n k)) - (py (loV py n k))).toInt64) hx hb dX1_inside_81 rfl ?_
        refine lv_lmul hx hb dX1_inside_82 ?_
        refine lv_iload_n hx hb dX1_inside_83 rfl (lv_at hl 4 rfl) ?_
        refine lv_i2l (v := y.toInt64) hx hb dX1_inside_84 rfl ?_
        refine lv_aload_n hx hb dX1_inside_85 rfl (lv_at hl 2 rfl) ?_
        refine xget1 S hK hP 0 rfl 1 (by decide) q31 rfl (v := .ref (a 2)) rfl dX1_inside_86 ?_
        refine lv_iload hx hb dX1_inside_89 (lv_at hl 1 rfl) ?_
        refine xald (j := loV py n k) hx hb hK hP 2 0 rfl rfl (by decide) dX1_inside_91 (by omega) ?_
        refine lv_i2l (v := (py (loV py n k)).toInt64) hx hb dX1_inside_92 rfl ?_
        refine lv_lsub hx hb dX1_inside_93 ?_
        refine lv_aload_n hx hb dX1_inside_94 rfl (lv_at hl 2 rfl) ?_
        refine xget1 S hK hP 0 rfl 0 (by decide) q30 rfl (v := .ref (a 1)) rfl dX1_inside_95 ?_
        refine lv_iload hx hb dX1_inside_98 (lv_at hl 0 rfl) ?_
        refine xald (j := hiV py n k) hx hb hK hP 1 0 rfl rfl (by decide) dX1_inside_100 (by omega) ?_
        refine lv_aload_n hx hb dX1_inside_101 rfl (lv_at hl 2 rfl) ?_
        refine xget1 S hK hP 0 rfl 0 (by decide) q30 rfl (v := .ref (a 1)) rfl dX1_inside_102 ?_
        refine lv_iload hx hb dX1_inside_105 (lv_at hl 1 rfl) ?_
        refine xald (j := loV py n k) hx hb hK hP 1 0 rfl rfl (by decide) dX1_inside_107 (by omega) ?_
        refine lv_isub hx hb dX1_inside_108 ?_
        refine lv_i2l (v := ((px (hiV py n k)) - (px (loV py n k))).toInt64) hx hb dX1_inside_109 rfl ?_
        refine lv_lmul hx hb dX1_inside_110 ?_
        refine lv_ladd hx hb dX1_inside_111 ?_
        refine lv_lstore (lv' := [(7, .long (((((px (loV py n k)).toInt64) - x.toInt64) * (((py (hiV py n k)) - (py (loV py n k))).toInt64)) + ((y.toInt64 - ((py (loV py n k)).toInt64)) * (((px (hiV py n k)) - (px (loV py n k))).toInt64)))), (6, .int (nI (hiV py n k))), (5, .int (nI (loV py n k))), (0, .ref (a 0)), (1, .int x), (2, .int y), (3, .int (bI b)), (4, .int (nI k))]) hx hb dX1_inside_112 hl (by decide) rfl (fun ls hl => ?_)
        refine lv_iload_n hx hb dX1_inside_114 rfl (lv_at hl 6 rfl) ?_
        refine lv_lload hx hb dX1_inside_115 (lv_at hl 0 rfl) ?_
        refine lv_lconst (v := 0) hx hb dX1_inside_117 rfl ?_
        refine W.lcmp hx hb dX1_inside_118 ?_
        refine lv_if_le (tgt := 126) hx hb dX1_inside_119 (by decide) (fun c_119 => ?_) (fun c_119 => ?_)
        · have c_119 : ((((px (loV py n k)).toInt64) - x.toInt64) * (((py (hiV py n k)) - (py (loV py n k))).toInt64)) + ((y.toInt64 - ((py (loV py n k)).toInt64)) * (((px (hiV py n k)) - (px (loV py n k))).toInt64)) ≤ 0 := (lg_cmp_le _ _).mp c_119
          refine lv_iconst (v := 0) hx hb dX1_inside_126 (by decide) ?_
          refine lv_ixor hx hb dX1_inside_127 ?_
          refine xtopi (y := bI b) (bI_x0 b) ?_
          refine lv_istore_n (lv' := [(3, .int (bI b)), (7, .long (((((px (loV py n k)).toInt64) - x.toInt64) * (((py (hiV py n k)) - (py (loV py n k))).toInt64)) + ((y.toInt64 - ((py (loV py n k)).toInt64)) * (((px (hiV py n k)) - (px (loV py n k))).toInt64)))), (6, .int (nI (hiV py n k))), (5, .int (nI (loV py n k))), (0, .ref (a 0)), (1, .int x), (2, .int y), (4, .int (nI k))]) hx hb dX1_inside_128 rfl hl (by decide) rfl (fun ls hl => ?_)
          refine lv_iinc (v := nI (k + 1)) (lv' := [(4, .int (nI (k + 1))), (3, .int (bI b)), (7, .long (((((px (loV py n k)).toInt64) - x.toInt64) * (((py (hiV py n k)) - (py (loV py n k))).toInt64)) + ((y.toInt64 - ((py (loV py n k)).toInt64)) * (((px (hiV py n k)) - (px (loV py n k))).toInt64)))), (6, .int (nI (hiV py n k))), (5, .int (nI (loV py n k))), (0, .ref (a 0)), (1, .int x), (2, .int y)]) hx hb dX1_inside_129 hl (k := 7) rfl (nI_inc _) (by decide) rfl (fun ls hl => ?_)
          refine lv_goto (tgt := 5) hx hb dX1_inside_132 (by decide) ?_
          exact ih_5 (k + 1, b) _ (by show n - (k + 1) < n - k; omega) ⟨ls, rfl, (lv_sub hl [5, 6, 7, 1, 0] rfl), (show (k + 1) ≤ n ∧ b = insB px py n x.toInt y.toInt (k + 1) from ⟨by omega, ins_s1 hI_5.2 ((crs_val (ge_of_nlt c_38) (lt_of_lt c_49)).trans (ins_le (insE (nn _ (loV_lt (f := py) c_11)).1 (nn _ (hiV_lt (f := py) c_11)).1 (nn _ (loV_lt (f := py) c_11)).2 (nn _ (hiV_lt (f := py) c_11)).2) c_119))⟩)⟩
        · have c_119 : ¬ (((((px (loV py n k)).toInt64) - x.toInt64) * (((py (hiV py n k)) - (py (loV py n k))).toInt64)) + ((y.toInt64 - ((py (loV py n k)).toInt64)) * (((px (hiV py n k)) - (px (loV py n k))).toInt64)) ≤ 0) := fun q_ => c_119 ((lg_cmp_le _ _).mpr q_)
          refine lv_iconst (v := 1) hx hb dX1_inside_122 (by decide) ?_
          refine lv_goto (tgt := 127) hx hb dX1_inside_123 (by decide) ?_
          refine lv_ixor hx hb dX1_inside_127 ?_
          refine xtopi (y := bI (!b)) (bI_x1 b) ?_
          refine lv_istore_n (lv' := [(3, .int (bI (!b))), (7, .long (((((px (loV py n k)).toInt64) - x.toInt64) * (((py (hiV py n k)) - (py (loV py n k))).toInt64)) + ((y.toInt64 - ((py (loV py n k)).toInt64)) * (((px (hiV py n k)) - (px (loV py n k))).toInt64)))), (6, .int (nI (hiV py n k))), (5, .int (nI (loV py n k))), (0, .ref (a 0)), (1, .int x), (2, .int y), (4, .int (nI k))]) hx hb dX1_inside_128 rfl hl (by decide) rfl (fun ls hl => ?_)
          refine lv_iinc (v := nI (k + 1)) (lv' := [(4, .int (nI (k + 1))), (3, .int (bI (!b))), (7, .long (((((px (loV py n k)).toInt64) - x.toInt64) * (((py (hiV py n k)) - (py (loV py n k))).toInt64)) + ((y.toInt64 - ((py (loV py n k)).toInt64)) * (((px (hiV py n k)) - (px (loV py n k))).toInt64)))), (6, .int (nI (hiV py n k))), (5, .int (nI (loV py n k))), (0, .ref (a 0)), (1, .int x), (2, .int y)]) hx hb dX1_inside_129 hl (k := 7) rfl (nI_inc _) (by decide) rfl (fun ls hl => ?_)
          refine lv_goto (tgt := 5) hx hb dX1_inside_132 (by decide) ?_
          exact ih_5 (k + 1, !b) _ (by show n - (k + 1) < n - k; omega) ⟨ls, rfl, (lv_sub hl [5, 6, 7, 1, 0] rfl), (show (k + 1) ≤ n ∧ (!b) = insB px py n x.toInt y.toInt (k + 1) from ⟨by omega, ins_s2 hI_5.2 ((crs_val (ge_of_nlt c_38) (lt_of_lt c_49)).trans (ins_gt (insE (nn _ (loV_lt (f := py) c_11)).1 (nn _ (hiV_lt (f := py) c_11)).1 (nn _ (loV_lt (f := py) c_11)).2 (nn _ (hiV_lt (f := py) c_11)).2) c_119))⟩)⟩
      · refine lv_goto (tgt := 129) hx hb dX1_inside_52 (by decide) ?_
        refine lv_iinc (v := nI (k + 1)) (lv' := [(4, .int (nI (k + 1))), (6, .int (nI (hiV py n k))), (5, .int (nI (loV py n k))), (0, .ref (a 0)), (1, .int x), (2, .int y), (3, .int (bI b))]) hx hb dX1_inside_129 hl (k := 6) rfl (nI_inc _) (by decide) rfl (fun ls hl => ?_)
        refine lv_goto (tgt := 5) hx hb dX1_inside_132 (by decide) ?_
        exact ih_5 (k + 1, b) _ (by show n - (k + 1) < n - k; omega) ⟨ls, rfl, (lv_sub hl [3, 4, 5, 6, 0] rfl), (show (k + 1) ≤ n ∧ b = insB px py n x.toInt y.toInt (k + 1) from ⟨by omega, ins_s1 hI_5.2 (crs_skip2 (ge_of_nlt c_49))⟩)⟩

set_option maxHeartbeats 4000000 in
set_option maxRecDepth 100000 in
/-- lastBefore(k, y) -/
theorem mtX1_lastBefore (l : Launch) (D : va_G) (d : ClassId) (a : Nat → Nat) (px py qx qy fr tb ac la sx sy : Nat → Int32) (w h C n : Nat) (x0 y0 x1 y1 : Int32) (mn : Nat) (k yy : Nat) (hk : k < n) (hn : n ≤ 60) (nn : ∀ i, i < n → Nr (px i) ∧ Nr (py i)) (hy : yy ≤ 24) (hT : (py (loV py n k)).toInt < (py (hiV py n k)).toInt) : Met l yX1_lastBefore (ws_ yX1_lastBefore cX1_lastBefore 7 (some .int)) (rm_ 2 42) (PcR [.ref (a 0), .int (nI k), .int (nI yy)] D (wP d a px py qx qy fr tb ac la sx sy w h C n x0 y0 x1 y1 mn) [(d, .int)]) (vp_Si (fun r => r = lbI px py n k yy)) 0 0 (fun _ => False) := by
  refine xMetR (by decide) (Nat.le_of_ble_eq_true rfl) ?_
  intro p e s m below meth c ls S hr hlk hl hP hK
  have S : CallFix p m c cX1_lastBefore 7 s _ lw_all RX1 := S
  have hx := S.1
  have hb := S.2.1
  have hl : lv_has ls 7 [(0, .ref (a 0)), (1, .int (nI k)), (2, .int (nI yy))] := hl
  have hlo_ := loV_lt (f := py) hk
  have hhi_ := hiV_lt (f := py) hk
  refine lv_aload_n hx hb dX1_lastBefore_0 rfl (lv_at hl 0 rfl) ?_
  refine lv_iload_n hx hb dX1_lastBefore_1 rfl (lv_at hl 1 rfl) ?_
  refine xcRi [.int (nI k)] S (mtX1_lowOf l D d a px py qx qy fr tb ac la sx sy w h C n x0 y0 x1 y1 mn k (by omega) (by omega)) q150 viX1_lowOf ⟨rfl, rfl⟩ ⟨Nat.le_of_ble_eq_true rfl, Nat.le_of_ble_eq_true rfl⟩ ⟨Nat.le_of_ble_eq_true rfl, Nat.le_of_ble_eq_true rfl⟩ hK hP (ci := 0) (q0 := 0) rfl rfl hl.1 (rest := []) rfl (Nat.le_of_ble_eq_true rfl) dX1_lastBefore_2 (fun r_ h_ => ?_)
  obtain rfl := h_
  refine lv_istore_n (lv' := [(3, .int (nI (loV py n k))), (0, .ref (a 0)), (1, .int (nI k)), (2, .int (nI yy))]) hx hb dX1_lastBefore_5 rfl hl (by decide) rfl (fun ls hl => ?_)
  refine lv_aload_n hx hb dX1_lastBefore_6 rfl (lv_at hl 1 rfl) ?_
  refine lv_iload_n hx hb dX1_lastBefore_7 rfl (lv_at hl 2 rfl) ?_
  refine xcRi [.int (nI k)] S (mtX1_highOf l D d a px py qx qy fr tb ac la sx sy w h C n x0 y0 x1 y1 mn k (by omega) (by omega)) q158 viX1_highOf ⟨rfl, rfl⟩ ⟨Nat.le_of_ble_eq_true rfl, Nat.le_of_ble_eq_true rfl⟩ ⟨Nat.le_of_ble_eq_true rfl, Nat.le_of_ble_eq_true rfl⟩ hK hP (ci := 0) (q0 := 0) rfl rfl hl.1 (rest := []) rfl (Nat.le_of_ble_eq_true rfl) dX1_lastBefore_8 (fun r_ h_ => ?_)
  obtain rfl := h_
  refine lv_istore (lv' := [(4, .int (nI (hiV py n k))), (3, .int (nI (loV py n k))), (0, .ref (a 0)), (1, .int (nI k)), (2, .int (nI yy))]) hx hb dX1_lastBefore_11 hl (by decide) rfl (fun ls hl => ?_)
  refine lv_aload_n hx hb dX1_lastBefore_13 rfl (lv_at hl 2 rfl) ?_
  refine xget1 S hK hP 0 rfl 0 (by decide) q30 rfl (v := .ref (a 1)) rfl dX1_lastBefore_14 ?_
  refine lv_iload_n hx hb dX1_lastBefore_17 rfl (lv_at hl 1 rfl) ?_
  refine xald (j := loV py n k) hx hb hK hP 1 0 rfl rfl (by decide) dX1_lastBefore_18 (by omega) ?_
  refine lv_i2l (v := (px (loV py n k)).toInt64) hx hb dX1_lastBefore_19 rfl ?_
  refine lv_aload_n hx hb dX1_lastBefore_20 rfl (lv_at hl 2 rfl) ?_
  refine xget1 S hK hP 0 rfl 1 (by decide) q31 rfl (v := .ref (a 2)) rfl dX1_lastBefore_21 ?_
  refine lv_iload hx hb dX1_lastBefore_24 (lv_at hl 0 rfl) ?_
  refine xald (j := hiV py n k) hx hb hK hP 2 0 rfl rfl (by decide) dX1_lastBefore_26 (by omega) ?_
  refine lv_aload_n hx hb dX1_lastBefore_27 rfl (lv_at hl 2 rfl) ?_
  refine xget1 S hK hP 0 rfl 1 (by decide) q31 rfl (v := .ref (a 2)) rfl dX1_lastBefore_28 ?_
  refine lv_iload_n hx hb dX1_lastBefore_31 rfl (lv_at hl 1 rfl) ?_
  refine xald (j := loV py n k) hx hb hK hP 2 0 rfl rfl (by decide) dX1_lastBefore_32 (by omega) ?_
  refine lv_isub hx hb dX1_lastBefore_33 ?_
  refine lv_i2l (v := ((py (hiV py n k)) - (py (loV py n k))).toInt64) hx hb dX1_lastBefore_34 rfl ?_
  refine lv_lmul hx hb dX1_lastBefore_35 ?_
  refine lv_iload_n hx hb dX1_lastBefore_36 rfl (lv_at hl 4 rfl) ?_
  refine lv_aload_n hx hb dX1_lastBefore_37 rfl (lv_at hl 2 rfl) ?_
  refine xget1 S hK hP 0 rfl 1 (by decide) q31 rfl (v := .ref (a 2)) rfl dX1_lastBefore_38 ?_
  refine lv_iload_n hx hb dX1_lastBefore_41 rfl (lv_at hl 1 rfl) ?_
  refine xald (j := loV py n k) hx hb hK hP 2 0 rfl rfl (by decide) dX1_lastBefore_42 (by omega) ?_
  refine lv_isub hx hb dX1_lastBefore_43 ?_
  refine lv_i2l (v := ((nI yy) - (py (loV py n k))).toInt64) hx hb dX1_lastBefore_44 rfl ?_
  refine lv_aload_n hx hb dX1_lastBefore_45 rfl (lv_at hl 2 rfl) ?_
  refine xget1 S hK hP 0 rfl 0 (by decide) q30 rfl (v := .ref (a 1)) rfl dX1_lastBefore_46 ?_
  refine lv_iload hx hb dX1_lastBefore_49 (lv_at hl 0 rfl) ?_
  refine xald (j := hiV py n k) hx hb hK hP 1 0 rfl rfl (by decide) dX1_lastBefore_51 (by omega) ?_
  refine lv_aload_n hx hb dX1_lastBefore_52 rfl (lv_at hl 2 rfl) ?_
  refine xget1 S hK hP 0 rfl 0 (by decide) q30 rfl (v := .ref (a 1)) rfl dX1_lastBefore_53 ?_
  refine lv_iload_n hx hb dX1_lastBefore_56 rfl (lv_at hl 1 rfl) ?_
  refine xald (j := loV py n k) hx hb hK hP 1 0 rfl rfl (by decide) dX1_lastBefore_57 (by omega) ?_
  refine lv_isub hx hb dX1_lastBefore_58 ?_
  refine lv_i2l (v := ((px (hiV py n k)) - (px (loV py n k))).toInt64) hx hb dX1_lastBefore_59 rfl ?_
  refine lv_lmul hx hb dX1_lastBefore_60 ?_
  refine lv_ladd hx hb dX1_lastBefore_61 ?_
  refine lv_lstore (lv' := [(5, .long ((((px (loV py n k)).toInt64) * (((py (hiV py n k)) - (py (loV py n k))).toInt64)) + ((((nI yy) - (py (loV py n k))).toInt64) * (((px (hiV py n k)) - (px (loV py n k))).toInt64)))), (4, .int (nI (hiV py n k))), (3, .int (nI (loV py n k))), (0, .ref (a 0)), (1, .int (nI k)), (2, .int (nI yy))]) hx hb dX1_lastBefore_62 hl (by decide) rfl (fun ls hl => ?_)
  refine lv_lload hx hb dX1_lastBefore_64 (lv_at hl 0 rfl) ?_
  refine lv_lconst (v := 1) hx hb dX1_lastBefore_66 rfl ?_
  refine lv_lsub hx hb dX1_lastBefore_67 ?_
  refine lv_aload_n hx hb dX1_lastBefore_68 rfl (lv_at hl 3 rfl) ?_
  refine xget1 S hK hP 0 rfl 1 (by decide) q31 rfl (v := .ref (a 2)) rfl dX1_lastBefore_69 ?_
  refine lv_iload hx hb dX1_lastBefore_72 (lv_at hl 1 rfl) ?_
  refine xald (j := hiV py n k) hx hb hK hP 2 0 rfl rfl (by decide) dX1_lastBefore_74 (by omega) ?_
  refine lv_aload_n hx hb dX1_lastBefore_75 rfl (lv_at hl 3 rfl) ?_
  refine xget1 S hK hP 0 rfl 1 (by decide) q31 rfl (v := .ref (a 2)) rfl dX1_lastBefore_76 ?_
  refine lv_iload_n hx hb dX1_lastBefore_79 rfl (lv_at hl 2 rfl) ?_
  refine xald (j := loV py n k) hx hb hK hP 2 0 rfl rfl (by decide) dX1_lastBefore_80 (by omega) ?_
  refine lv_isub hx hb dX1_lastBefore_81 ?_
  refine lv_i2l (v := ((py (hiV py n k)) - (py (loV py n k))).toInt64) hx hb dX1_lastBefore_82 rfl ?_
  refine xcSl [.long (((((px (loV py n k)).toInt64) * (((py (hiV py n k)) - (py (loV py n k))).toInt64)) + ((((nI yy) - (py (loV py n k))).toInt64) * (((px (hiV py n k)) - (px (loV py n k))).toInt64))) - 1), .long (((py (hiV py n k)) - (py (loV py n k))).toInt64)] S (mtX1_floorOf l (((((px (loV py n k)).toInt64) * (((py (hiV py n k)) - (py (loV py n k))).toInt64)) + ((((nI yy) - (py (loV py n k))).toInt64) * (((px (hiV py n k)) - (px (loV py n k))).toInt64))) - 1) (((py (hiV py n k)) - (py (loV py n k))).toInt64) (cut_h0 (nn _ hlo_).2 (nn _ hhi_).2 (by omega)) (lb_b (nn _ (loV_lt (f := py) hk)).1 (nn _ (hiV_lt (f := py) hk)).1 (nn _ (loV_lt (f := py) hk)).2 (nn _ (hiV_lt (f := py) hk)).2 hy).1 (lb_b (nn _ (loV_lt (f := py) hk)).1 (nn _ (hiV_lt (f := py) hk)).1 (nn _ (loV_lt (f := py) hk)).2 (nn _ (hiV_lt (f := py) hk)).2 hy).2) q127 siX1_floorOf ⟨rfl, rfl⟩ ⟨Nat.le_of_ble_eq_true rfl, Nat.le_of_ble_eq_true rfl⟩ ⟨Nat.le_of_ble_eq_true rfl, Nat.le_of_ble_eq_true rfl⟩ hl.1 (rest := []) rfl (Nat.le_of_ble_eq_true rfl) dX1_lastBefore_83 (fun r_ h_ => ?_)
  obtain ⟨r_1, hr_1⟩ : ∃ z, z = r_ := ⟨_, rfl⟩
  rw [← hr_1] at h_ ⊢
  have pr_1 := h_
  refine lv_l2i (v := r_1.toInt32) hx hb dX1_lastBefore_86 rfl ?_
  exact xretSi hx hb hr hlk dX1_lastBefore_87 (rfl) (lb_end (nn _ (loV_lt (f := py) hk)).1 (nn _ (hiV_lt (f := py) hk)).1 (nn _ (loV_lt (f := py) hk)).2 (nn _ (hiV_lt (f := py) hk)).2 hy pr_1)
end
section
/-! PURE: counting, sorting by insertion -/
set_option maxRecDepth 100000
def cnt (p : Nat → Bool) : Nat → Nat
  | 0 => 0
  | n + 1 => cnt p n + (p n).toNat
theorem cnt_congr {p q : Nat → Bool} {n : Nat} (h : ∀ i, i < n → p i = q i) : cnt p n = cnt q n := by
  induction n with
  | zero => rfl
  | succ n ih =>
    simp only [cnt]
    rw [ih (fun i hi => h i (by omega)), h n (by omega)]
theorem cnt_le (p : Nat → Bool) (n : Nat) : cnt p n ≤ n := by
  induction n with
  | zero => exact Nat.le_refl _
  | succ n ih =>
    simp only [cnt]
    have : (p n).toNat ≤ 1 := Bool.toNat_le _
    omega
theorem cnt_all {p : Nat → Bool} {n : Nat} (h : ∀ i, i < n → p i = true) : cnt p n = n := by
  induction n with
  | zero => rfl
  | succ n ih =>
    simp only [cnt]
    rw [ih (fun i hi => h i (by omega)), h n (by omega)]
    rfl
theorem cnt_none {p : Nat → Bool} {n : Nat} (h : ∀ i, i < n → p i = false) : cnt p n = 0 := by
  induction n with
  | zero => rfl
  | succ n ih =>
    simp only [cnt]
    rw [ih (fun i hi => h i (by omega)), h n (by omega)]
    rfl
theorem all_cnt {p : Nat → Bool} {n : Nat} (h : cnt p n = n) : ∀ i, i < n → p i = true := by
  induction n with
  | zero => intro i hi; exact absurd hi (Nat.not_lt_zero i)
  | succ n ih =>
    simp only [cnt] at h
    have h1 := cnt_le p n
    have h2 : (p n).toNat ≤ 1 := Bool.toNat_le _
    intro i hi
    by_cases e : i = n
    · subst e
      cases hb : p i with
      | true => rfl
      | false => rw [hb] at h; simp at h; omega
    · exact ih (by omega) i (by omega)
/-- one place changes -/
theorem cnt_set {p q : Nat → Bool} {n i : Nat} (hi : i < n) (h : ∀ k, k < n → k ≠ i → q k = p k) : cnt q n + (p i).toNat = cnt p n + (q i).toNat := by
  induction n with
  | zero => exact absurd hi (Nat.not_lt_zero i)
  | succ n ih =>
    simp only [cnt]
    by_cases e : i = n
    · subst e
      rw [cnt_congr (p := q) (q := p) (fun k hk => h k (by omega) (by omega))]
      omega
    · rw [h n (by omega) (by omega)]
      have := ih (by omega) (fun k hk => h k (by omega))
      omega
/-- two places change their contents -/
theorem cnt_swap {p q : Nat → Bool} {n i j : Nat} (hi : i < n) (hj : j < n) (hij : i ≠ j) (h1 : q i = p j) (h2 : q j = p i) (h : ∀ k, k < n → k ≠ i → k ≠ j → q k = p k) : cnt q n = cnt p n := by
  have a := cnt_set (p := p) (q := fun k => if k = i then p j else p k) hi (fun k _ hk => if_neg hk)
  have b := cnt_set (p := fun k => if k = i then p j else p k) (q := q) hj (fun k hk hkj => by
    by_cases e : k = i
    · subst e
      rw [if_pos rfl]
      exact h1
    · rw [if_neg e]
      exact h k hk e hkj)
  rw [if_pos rfl] at a
  rw [if_neg (Ne.symm hij), h2] at b
  omega
theorem upd_eq (f : Nat → Int32) (k : Nat) (v : Int32) (j : Nat) : upd f k v j = if j = k then v else f j := by
  by_cases e : j = k
  · subst e
    rw [pk_us, if_pos rfl]
  · rw [pk_un e, if_neg e]
section INS
variable {α : Type}
def srt (key : α → Int) (T : Nat → α) (m : Nat) : Prop := ∀ i j, i ≤ j → j < m → key (T i) ≤ key (T j)
/-- a row with one element on its way down: at q, of the places up to E -/
def InsI (key : α → Int) (T : Nat → α) (q m : Nat) : Prop := q ≤ m ∧ (∀ i j, i ≤ j → j ≤ m → i ≠ q → j ≠ q → key (T i) ≤ key (T j)) ∧ ∀ j, q < j → j ≤ m → key (T q) < key (T j)
theorem ins_start {key : α → Int} {T T2 : Nat → α} {m : Nat} (h : srt key T m) (h2 : ∀ j, j < m → T2 j = T j) : InsI key T2 m m := by
  refine ⟨Nat.le_refl _, fun i j h1 h3 h4 h5 => ?_, fun j h1 h3 => by omega⟩
  rw [h2 i (by omega), h2 j (by omega)]
  exact h i j h1 (by omega)
theorem ins_step {key : α → Int} {T T2 : Nat → α} {q m : Nat} (h : InsI key T q m) (hq : 0 < q) (hk : key (T q) < key (T (q - 1))) (e1 : T2 q = T (q - 1)) (e2 : T2 (q - 1) = T q) (e3 : ∀ k, k ≤ m → k ≠ q → k ≠ q - 1 → T2 k = T k) : InsI key T2 (q - 1) m := by
  obtain ⟨h1, h2, h3⟩ := h
  have val : ∀ k, k ≤ m → k ≠ q - 1 → ∃ k2, T2 k = T k2 ∧ k2 ≠ q ∧ k2 ≤ m ∧ ((k = q ∧ k2 = q - 1) ∨ (k ≠ q ∧ k2 = k)) := by
    intro k hk1 hk2
    by_cases e : k = q
    · subst e
      exact ⟨k - 1, e1, by omega, by omega, Or.inl ⟨rfl, rfl⟩⟩
    · exact ⟨k, e3 k hk1 e hk2, e, hk1, Or.inr ⟨e, rfl⟩⟩
  refine ⟨by omega, fun i j i1 i2 i3 i4 => ?_, fun j j1 j2 => ?_⟩
  · obtain ⟨i5, a1, a2, a3, a4⟩ := val i (by omega) i3
    obtain ⟨j5, b1, b2, b3, b4⟩ := val j i2 i4
    rw [a1, b1]
    exact h2 i5 j5 (by omega) b3 a2 b2
  · obtain ⟨j5, b1, b2, b3, b4⟩ := val j j2 (by omega)
    rw [e2, b1]
    rcases b4 with ⟨b5, b6⟩ | ⟨b5, b6⟩
    · rw [b6]
      exact hk
    · rw [b6]
      exact h3 j (by omega) j2
theorem ins_end {key : α → Int} {T : Nat → α} {q m : Nat} (h : InsI key T q m) (he : q = 0 ∨ key (T (q - 1)) ≤ key (T q)) : srt key T (m + 1) := by
  obtain ⟨h1, h2, h3⟩ := h
  intro i j i1 i2
  by_cases ei : i = q
  · by_cases ej : j = q
    · rw [ei, ej]
      exact Int.le_refl _
    · have := h3 j (by omega) (by omega)
      rw [ei]
      omega
  · by_cases ej : j = q
    · rw [ej]
      rcases he with e | e
      · omega
      · have := h2 i (q - 1) (by omega) (by omega) ei (by omega)
        omega
    · exact h2 i j i1 (by omega) ei ej
end INS
/-- the number that a place holds -/
def tN (t : Nat → Int32) (i : Nat) : Nat := (t i).toNatClampNeg
def tOK (t : Nat → Int32) (m n : Nat) : Prop := ∀ i, i < m → t i = nI (tN t i) ∧ tN t i < n
theorem tOK_of {t : Nat → Int32} {i j n : Nat} (h : t i = nI j) (hj : j < n) (hn : n ≤ 60) : t i = nI (tN t i) ∧ tN t i < n := by
  unfold tN
  rw [h, nI_clamp (by omega)]
  exact ⟨rfl, hj⟩
theorem tN_nI {t : Nat → Int32} {i j : Nat} (h : t i = nI j) (hj : j < 2 ^ 31) : tN t i = j := by
  unfold tN
  rw [h, nI_clamp hj]
def keyT (g : Nat → Int32) (n : Nat) (v : Int32) : Int := (g (loV g n v.toNatClampNeg)).toInt
theorem keyT_t {g t : Nat → Int32} {n i : Nat} : keyT g n (t i) = (g (loV g n (tN t i))).toInt := rfl
theorem keyT_n {g : Nat → Int32} {n k : Nat} (hk : k < 2 ^ 31) : keyT g n (nI k) = (g (loV g n k)).toInt := by
  unfold keyT
  rw [nI_clamp hk]
def nlv (g : Nat → Int32) (n k : Nat) : Bool := !decide (g k = g (nxt n k))
/-- the table: of the first k edges those that are not level, by their lower ends -/
def tblI (g : Nat → Int32) (n : Nat) (t : Nat → Int32) (m k : Nat) : Prop := m ≤ k ∧ k ≤ n ∧ tOK t m n ∧ srt (keyT g n) t m ∧ ∀ P : Nat → Bool, cnt (fun i => P (tN t i)) m = cnt (fun j => nlv g n j && P j) k
theorem tbl_0 {g : Nat → Int32} {n : Nat} {t : Nat → Int32} : tblI g n t 0 0 := ⟨Nat.le_refl _, Nat.zero_le _, fun i h => absurd h (Nat.not_lt_zero i), fun i j _ h => absurd h (Nat.not_lt_zero j), fun P => rfl⟩
theorem tbl_skip {g : Nat → Int32} {n : Nat} {t : Nat → Int32} {m k : Nat} (h : tblI g n t m k) (hk : k < n) (hl : g k = g (nxt n k)) : tblI g n t m (k + 1) := by
  obtain ⟨h1, h2, h3, h4, h5⟩ := h
  refine ⟨by omega, by omega, h3, h4, fun P => ?_⟩
  rw [h5 P]
  simp [cnt, nlv, hl]
/-- while an edge goes down to its place -/
def tblJ (g : Nat → Int32) (n : Nat) (T : Nat → Int32) (q m k : Nat) : Prop := m ≤ k ∧ k < n ∧ T q = nI k ∧ tOK T (m + 1) n ∧ InsI (keyT g n) T q m ∧ ∀ P : Nat → Bool, cnt (fun i => P (tN T i)) (m + 1) = cnt (fun j => nlv g n j && P j) (k + 1)
theorem tblJ_start {g : Nat → Int32} {n : Nat} {t : Nat → Int32} {m k : Nat} (h : tblI g n t m k) (hk : k < n) (hn : n ≤ 60) (hl : ¬ g k = g (nxt n k)) : tblJ g n (upd t m (nI k)) m m k := by
  obtain ⟨h1, h2, h3, h4, h5⟩ := h
  have e : ∀ i, i < m → upd t m (nI k) i = t i := fun i hi => pk_un (by omega)
  have eN : ∀ i, i < m → tN (upd t m (nI k)) i = tN t i := fun i hi => by unfold tN; rw [e i hi]
  refine ⟨h1, hk, pk_us, fun i hi => ?_, ins_start h4 e, fun P => ?_⟩
  · by_cases q : i = m
    · subst q
      exact tOK_of pk_us hk hn
    · rw [eN i (by omega), e i (by omega)]
      exact h3 i (by omega)
  · simp only [cnt]
    rw [cnt_congr (q := fun i => P (tN t i)) (fun i hi => by rw [eN i hi]), h5 P, tN_nI (pk_us (f := t) (k := m) (x := nI k)) (by omega)]
    simp [nlv, hl]
theorem tblJ_step {g : Nat → Int32} {n : Nat} {t : Nat → Int32} {q m k : Nat} (h : tblJ g n (upd t q (nI k)) q m k) (hn : n ≤ 60) (hq : 0 < q) (hk : (g (loV g n k)).toInt < (g (loV g n (tN t (q - 1)))).toInt) : tblJ g n (upd (upd t q (t (q - 1))) (q - 1) (nI k)) (q - 1) m k := by
  obtain ⟨h1, h2, h3, h4, h5, h6⟩ := h
  have hqm := h5.1
  have e1 : upd (upd t q (t (q - 1))) (q - 1) (nI k) q = upd t q (nI k) (q - 1) := by
    rw [pk_un (by omega), pk_us, pk_un (by omega)]
  have e2 : upd (upd t q (t (q - 1))) (q - 1) (nI k) (q - 1) = upd t q (nI k) q := by
    rw [pk_us, pk_us]
  have e3 : ∀ i, i ≠ q → i ≠ q - 1 → upd (upd t q (t (q - 1))) (q - 1) (nI k) i = upd t q (nI k) i := by
    intro i i1 i2
    rw [pk_un i2, pk_un i1, pk_un i1]
  refine ⟨h1, h2, pk_us, fun i hi => ?_, ins_step h5 hq ?_ e1 e2 (fun i _ i1 i2 => e3 i i1 i2), fun P => ?_⟩
  · by_cases a : i = q
    · have := h4 (q - 1) (by omega)
      unfold tN at this ⊢
      rw [a, e1]
      exact this
    · by_cases b : i = q - 1
      · have := h4 q (by omega)
        unfold tN at this ⊢
        rw [b, e2]
        exact this
      · have := h4 i hi
        unfold tN at this ⊢
        rw [e3 i a b]
        exact this
  · rw [pk_us, keyT_n (by omega), pk_un (by omega)]
    exact hk
  · rw [← h6 P]
    refine cnt_swap (i := q) (j := q - 1) (by omega) (by omega) (by omega) ?_ ?_ (fun i _ i1 i2 => ?_)
    · unfold tN
      rw [e1]
    · unfold tN
      rw [e2]
    · unfold tN
      rw [e3 i i1 i2]
theorem tblJ_end {g : Nat → Int32} {n : Nat} {t : Nat → Int32} {q m k : Nat} (h : tblJ g n (upd t q (nI k)) q m k) (hn : n ≤ 60) (he : q = 0 ∨ (0 < q ∧ (g (loV g n (tN t (q - 1)))).toInt ≤ (g (loV g n k)).toInt)) : tblI g n (upd t q (nI k)) (m + 1) (k + 1) := by
  obtain ⟨h1, h2, h3, h4, h5, h6⟩ := h
  refine ⟨by omega, by omega, h4, ins_end h5 ?_, h6⟩
  rcases he with e | ⟨e, e2⟩
  · exact Or.inl e
  · refine Or.inr ?_
    rw [h3, keyT_n (by omega), pk_un (by omega)]
    exact e2
theorem tblJ_at {g : Nat → Int32} {n : Nat} {t : Nat → Int32} {q m k : Nat} (h : tblJ g n (upd t q (nI k)) q m k) (hq : 0 < q) : t (q - 1) = nI (tN t (q - 1)) ∧ tN t (q - 1) < n := by
  obtain ⟨h1, h2, h3, h4, h5, h6⟩ := h
  have := h4 (q - 1) (by have := h5.1; omega)
  unfold tN at this ⊢
  rw [pk_un (by omega)] at this
  exact this
/-- active edges with their last places, the places alone in order -/
def sI (f g : Nat → Int32) (mA : Nat) (f0 g0 : Nat → Int32) : Prop := (∀ P : Int32 → Bool, cnt (fun i => P (f i)) mA = cnt (fun i => P (f0 i)) mA) ∧ ∀ P : Int32 → Bool, cnt (fun i => P (g i)) mA = cnt (fun i => P (g0 i)) mA
theorem sI_rf {f g : Nat → Int32} {mA : Nat} : sI f g mA f g := ⟨fun _ => rfl, fun _ => rfl⟩
def keyI (v : Int32) : Int := v.toInt
/-- while one goes down: v, x on their way at q -/
def sJ (f g : Nat → Int32) (q k mA : Nat) (v x : Int32) (f0 g0 : Nat → Int32) : Prop := k < mA ∧ InsI keyI (upd g q x) q k ∧ sI (upd f q v) (upd g q x) mA f0 g0
theorem upd_id (f : Nat → Int32) (k : Nat) : upd f k (f k) = f := by
  funext j
  rw [upd_eq]
  by_cases e : j = k
  · rw [if_pos e, e]
  · rw [if_neg e]
theorem sJ_start {f g : Nat → Int32} {k mA : Nat} {f0 g0 : Nat → Int32} (hk : k < mA) (h : srt keyI g k) (hI : sI f g mA f0 g0) : sJ f g k k mA (f k) (g k) f0 g0 := by
  refine ⟨hk, ?_, ?_⟩
  · rw [upd_id]
    exact ins_start h (fun j _ => rfl)
  · rw [upd_id, upd_id]
    exact hI
theorem sw3 (f : Nat → Int32) {q : Nat} (v : Int32) (hq : 0 < q) : upd (upd f q (f (q - 1))) (q - 1) v q = upd f q v (q - 1) ∧ upd (upd f q (f (q - 1))) (q - 1) v (q - 1) = upd f q v q ∧ ∀ i, i ≠ q → i ≠ q - 1 → upd (upd f q (f (q - 1))) (q - 1) v i = upd f q v i := by
  refine ⟨?_, ?_, fun i i1 i2 => ?_⟩
  · rw [pk_un (by omega), pk_us, pk_un (by omega)]
  · rw [pk_us, pk_us]
  · rw [pk_un i2, pk_un i1, pk_un i1]
theorem sJ_step {f g : Nat → Int32} {q k mA : Nat} {v x : Int32} {f0 g0 : Nat → Int32} (h : sJ f g q k mA v x f0 g0) (hq : 0 < q) (hx : x.toInt < (g (q - 1)).toInt) : sJ (upd f q (f (q - 1))) (upd g q (g (q - 1))) (q - 1) k mA v x f0 g0 := by
  obtain ⟨h1, h2, h3, h4⟩ := h
  have hqk := h2.1
  obtain ⟨a1, a2, a3⟩ := sw3 f v hq
  obtain ⟨b1, b2, b3⟩ := sw3 g x hq
  refine ⟨h1, ins_step h2 hq ?_ b1 b2 (fun i _ i1 i2 => b3 i i1 i2), fun P => ?_, fun P => ?_⟩
  · rw [pk_us, pk_un (by omega)]
    exact hx
  · rw [← h3 P]
    exact cnt_swap (i := q) (j := q - 1) (by omega) (by omega) (by omega) (by rw [a1]) (by rw [a2]) (fun i _ i1 i2 => by rw [a3 i i1 i2])
  · rw [← h4 P]
    exact cnt_swap (i := q) (j := q - 1) (by omega) (by omega) (by omega) (by rw [b1]) (by rw [b2]) (fun i _ i1 i2 => by rw [b3 i i1 i2])
theorem sJ_end {f g : Nat → Int32} {q k mA : Nat} {v x : Int32} {f0 g0 : Nat → Int32} (h : sJ f g q k mA v x f0 g0) (he : q = 0 ∨ (0 < q ∧ (g (q - 1)).toInt ≤ x.toInt)) : srt keyI (upd g q x) (k + 1) ∧ sI (upd f q v) (upd g q x) mA f0 g0 := by
  obtain ⟨h1, h2, h3⟩ := h
  refine ⟨ins_end h2 ?_, h3⟩
  rcases he with e | ⟨e, e2⟩
  · exact Or.inl e
  · refine Or.inr ?_
    rw [pk_us, pk_un (by omega)]
    exact e2
theorem srt_1 {g : Nat → Int32} : srt keyI g 1 := fun i j h1 h2 => by
  have : i = j := by omega
  rw [this]
  exact Int.le_refl _
theorem srt_le {g : Nat → Int32} {m k : Nat} (h : srt keyI g k) (hm : m ≤ k) : srt keyI g m := fun i j h1 h2 => h i j h1 (by omega)
end
section
/-! PURE: a line's pixels are painted -/
set_option maxRecDepth 100000
theorem ifc {p q : Prop} [Decidable p] [Decidable q] {α : Type} {a b : α} (h : p ↔ q) : (if p then a else b) = if q then a else b := by
  by_cases hp : p
  · rw [if_pos hp, if_pos (h.mp hp)]
  · rw [if_neg hp, if_neg (fun z => hp (h.mpr z))]
theorem gt_of_nle {x y : Int32} (h : ¬ x ≤ y) : y.toInt < x.toInt := by
  rw [Int32.le_iff_toInt_le] at h
  omega
theorem le_of_le {x y : Int32} (h : x ≤ y) : x.toInt ≤ y.toInt := Int32.le_iff_toInt_le.mp h
theorem nI_of_nn {v : Int32} (h : 0 ≤ v) : v = nI v.toInt.toNat := by
  have h1 := le_of_le h
  have e0 : (0 : Int32).toInt = 0 := by decide
  rw [e0] at h1
  have h2 := i32b v
  refine Int32.toInt_inj.mp ?_
  rw [nI_toInt (by omega)]
  omega
theorem nI_of_ng {v : Int32} (h : ¬ 0 ≤ v) : (0 : Int32) = nI v.toInt.toNat := by
  have h1 := gt_of_nle h
  have e0 : (0 : Int32).toInt = 0 := by decide
  rw [e0] at h1
  have e : v.toInt.toNat = 0 := by omega
  rw [e]
  rfl
def inR (fm to : Int32) (x : Nat) : Bool := decide (fm.toInt ≤ (x : Int)) && decide ((x : Int) ≤ to.toInt)
def pI (fr : Nat → Int32) (w h yy : Nat) (fm to col : Int32) (i cn : Nat) (f : Nat → Int32) : Prop := fm.toInt.toNat ≤ i ∧ i < 2147483648 ∧ cn = cnt (fun x => inR fm to x && decide (x < i)) w ∧ ∀ j x, j < h → x < w → f (w * j + x) = if j = yy ∧ (inR fm to x = true ∧ x < i) then col else fr (w * j + x)
theorem pI_0 {fr : Nat → Int32} {w h yy : Nat} {fm to col : Int32} : pI fr w h yy fm to col fm.toInt.toNat 0 fr := by
  have hb := i32b fm
  have hne : ∀ x : Nat, inR fm to x = true → ¬ x < fm.toInt.toNat := by
    intro x hx
    unfold inR at hx
    simp only [Bool.and_eq_true, decide_eq_true_eq] at hx
    omega
  refine ⟨Nat.le_refl _, by omega, ?_, fun j x _ _ => ?_⟩
  · rw [cnt_none]
    intro x _
    cases hx : inR fm to x with
    | false => rfl
    | true => rw [decide_eq_false (hne x hx)]; rfl
  · rw [if_neg]
    rintro ⟨-, h1, h2⟩
    exact hne x h1 h2
theorem row_inj {w j k x i : Nat} (hx : x < w) (hi : i < w) (h : w * j + x = w * k + i) : j = k ∧ x = i := by
  rcases Nat.lt_trichotomy j k with q | q | q
  · have := row_lt (Nat.le_refl w) hx q
    omega
  · subst q
    exact ⟨rfl, by omega⟩
  · have := row_lt (Nat.le_refl w) hi q
    omega
theorem pI_step {fr : Nat → Int32} {w h yy : Nat} {fm to col : Int32} {i cn : Nat} {f : Nat → Int32} (hI : pI fr w h yy fm to col i cn f) (h1 : ¬ to < nI i) (h2 : i < w) (hw : w ≤ 24) (hy : yy < h) : pI fr w h yy fm to col (i + 1) (cn + 1) (upd f (w * yy + i) col) := by
  obtain ⟨a1, a2, a3, a4⟩ := hI
  have hto := ge_of_nlt h1
  rw [nI_toInt (by omega)] at hto
  have hin : inR fm to i = true := by
    unfold inR
    simp only [Bool.and_eq_true, decide_eq_true_eq]
    omega
  refine ⟨by omega, by omega, ?_, fun j x hj hx => ?_⟩
  · have := cnt_set (p := fun x => inR fm to x && decide (x < i)) (q := fun x => inR fm to x && decide (x < i + 1)) h2 (fun k _ hk => by
      show (inR fm to k && decide (k < i + 1)) = (inR fm to k && decide (k < i))
      congr 1
      exact decide_eq_decide.mpr (by omega))
    simp [hin] at this
    rw [a3]
    omega
  · by_cases e : w * j + x = w * yy + i
    · obtain ⟨e1, e2⟩ := row_inj hx h2 e
      subst e1
      subst e2
      rw [pk_us, if_pos ⟨rfl, hin, by omega⟩]
    · rw [pk_un e, a4 j x hj hx]
      have hh : (j = yy ∧ (inR fm to x = true ∧ x < i)) ↔ (j = yy ∧ (inR fm to x = true ∧ x < i + 1)) := by
        constructor
        · rintro ⟨q1, q2, q3⟩
          exact ⟨q1, q2, by omega⟩
        · rintro ⟨q1, q2, q3⟩
          refine ⟨q1, q2, ?_⟩
          by_cases q4 : x = i
          · subst q1
            subst q4
            exact absurd rfl e
          · omega
      exact ifc hh
theorem pI_end {fr : Nat → Int32} {w h yy : Nat} {fm to col : Int32} {i cn : Nat} {f : Nat → Int32} (hI : pI fr w h yy fm to col i cn f) (he : to < nI i ∨ w ≤ i) : nI cn = nI (cnt (inR fm to) w) ∧ ∀ j x, j < h → x < w → f (w * j + x) = if j = yy ∧ inR fm to x = true then col else fr (w * j + x) := by
  obtain ⟨a1, a2, a3, a4⟩ := hI
  have hlt : ∀ x, x < w → inR fm to x = true → x < i := by
    intro x hx hin
    rcases he with q | q
    · have := lt_of_lt q
      rw [nI_toInt (by omega)] at this
      unfold inR at hin
      simp only [Bool.and_eq_true, decide_eq_true_eq] at hin
      omega
    · omega
  refine ⟨?_, fun j x hj hx => ?_⟩
  · rw [a3]
    congr 1
    refine cnt_congr (fun x hx => ?_)
    cases hin : inR fm to x with
    | false => rfl
    | true => rw [decide_eq_true (hlt x hx hin)]; rfl
  · rw [a4 j x hj hx]
    refine ifc ?_
    exact ⟨fun q => ⟨q.1, q.2.1⟩, fun q => ⟨q.1, q.2, hlt x hx q.2⟩⟩
end
section
/-! PolygonFrame: the table, sorting, painting -/
set_option maxHeartbeats 4000000 in
set_option maxRecDepth 100000 in
/-- makeTable(): edges that are not level, by their lower ends -/
theorem mtX1_makeTable (l : Launch) (D : va_G) (d : ClassId) (a : Nat → Nat) (px py qx qy fr tb ac la sx sy : Nat → Int32) (w h C n : Nat) (x0 y0 x1 y1 : Int32) (mn : Nat)  (hn : n ≤ 60) (sz : Nat) : Met l yX1_makeTable (ws_ yX1_makeTable cX1_makeTable 4 (some .int)) (rm_ 2 42) (PcM [.ref (a 0)] D (wP d a px py qx qy fr tb ac la sx sy w h C n x0 y0 x1 y1 mn) [(d, .int)] sz) (va_Qi (fun (r : Int32) (u_ : (Nat → Int32)) => ∃ E, r = nI E ∧ tblI py n u_ E n) (fun (u_ : (Nat → Int32)) t => QB D [(d, .int)] (va_A (wP d a px py qx qy fr tb ac la sx sy w h C n x0 y0 x1 y1 mn) sz) (wP d a px py qx qy fr u_ ac la sx sy w h C n x0 y0 x1 y1 mn) t) (va_A (wP d a px py qx qy fr tb ac la sx sy w h C n x0 y0 x1 y1 mn) sz)) 0 0 (va_A (wP d a px py qx qy fr tb ac la sx sy w h C n x0 y0 x1 y1 mn) sz) := by
  refine xMetM (Qf := fun A => (va_Qi (fun (r : Int32) (u_ : (Nat → Int32)) => ∃ E, r = nI E ∧ tblI py n u_ E n) (fun (u_ : (Nat → Int32)) t => QB D [(d, .int)] A (wP d a px py qx qy fr u_ ac la sx sy w h C n x0 y0 x1 y1 mn) t) A)) (by decide) (Nat.le_of_ble_eq_true rfl) ?_
  intro p e s m below meth c ls A H locs S hr hlk hl hP hK hD hS hA hin
  have S : CallFix p m c cX1_makeTable 4 s _ lw_all RX1 := S
  have hx := S.1
  have hb := S.2.1
  have hl : lv_has ls 4 [(0, .ref (a 0))] := hl
  refine lv_iconst (v := 0) hx hb dX1_makeTable_0 (by decide) ?_
  refine lv_istore_n (lv' := [(1, .int 0), (0, .ref (a 0))]) hx hb dX1_makeTable_1 rfl hl (by decide) rfl (fun ls hl => ?_)
  refine lv_iconst (v := 0) hx hb dX1_makeTable_2 (by decide) ?_
  refine lv_istore_n (lv' := [(2, .int 0), (1, .int 0), (0, .ref (a 0))]) hx hb dX1_makeTable_3 rfl hl (by decide) rfl (fun ls hl => ?_)
  refine xloop (α := Nat × Nat × (Nat → Int32)) (fun x_ => n - x_.1) (fun x_ H locs g_ => ∃ ls, g_ = F0 m 4 ls [] ∧ lv_has ls 4 [(0, .ref (a 0)), (1, .int (nI x_.2.1)), (2, .int (nI x_.1))] ∧ va_P D vwCl (wP d a px py qx qy fr x_.2.2 ac la sx sy w h C n x0 y0 x1 y1 mn) H ∧ va_D A (wP d a px py qx qy fr x_.2.2 ac la sx sy w h C n x0 y0 x1 y1 mn) ∧ va_S A s.heap H locs ∧ (tblI py n x_.2.2 x_.2.1 x_.1)) ?_ (0, 0, tb) ⟨ls, rfl, (lv_sub hl [2, 1, 0] rfl), hP, hD, hS, (show tblI py n tb 0 0 from tbl_0)⟩
  intro x_ H locs g_ hJ_ ih_4
  obtain ⟨k, E, t⟩ := x_
  obtain ⟨ls, rfl, hl, hP, hD, hS, hI_4⟩ := hJ_
  have hl : lv_has ls 4 [(0, .ref (a 0)), (1, .int (nI E)), (2, .int (nI k))] := hl
  have hP : va_P D vwCl (wP d a px py qx qy fr t ac la sx sy w h C n x0 y0 x1 y1 mn) H := hP
  have hD : va_D A (wP d a px py qx qy fr t ac la sx sy w h C n x0 y0 x1 y1 mn) := hD
  have hI_4 : tblI py n t E k := hI_4
  have hEk_ := hI_4.1
  have hkn_ := hI_4.2.1
  refine lv_iload_n hx hb dX1_makeTable_4 rfl (lv_at hl 2 rfl) ?_
  refine lv_aload_n hx hb dX1_makeTable_5 rfl (lv_at hl 0 rfl) ?_
  refine xget1 S hK hP 0 rfl 11 (by decide) q41 rfl (v := .int (nI n)) rfl dX1_makeTable_6 ?_
  refine lv_icmp_ge (tgt := 106) hx hb dX1_makeTable_9 (by decide) (fun c_9 => ?_) (fun c_9 => ?_)
  · have c_9 : n ≤ k := xle (a := n) (b := k) c_9 (by omega) (by omega)
    have e_ : k = n := by omega
    have hT_ := hI_4
    rw [e_] at hT_
    refine lv_iload_n hx hb dX1_makeTable_106 rfl (lv_at hl 1 rfl) ?_
    exact xretMi hx hb hr hlk hK hS dX1_makeTable_107 (rfl) (t) hP hD (⟨E, rfl, hT_⟩)
  · have c_9 : n > k := xnle (a := n) (b := k) c_9 (by omega) (by omega)
    have hnx_ := nxt_lt c_9
    have hlk_ := loV_lt (f := py) c_9
    refine lv_aload_n hx hb dX1_makeTable_12 rfl (lv_at hl 0 rfl) ?_
    refine xget1 S hK hP 0 rfl 1 (by decide) q31 rfl (v := .ref (a 2)) rfl dX1_makeTable_13 ?_
    refine lv_iload_n hx hb dX1_makeTable_16 rfl (lv_at hl 2 rfl) ?_
    refine xald (j := k) hx hb hK hP 2 0 rfl rfl (by decide) dX1_makeTable_17 (by omega) ?_
    refine lv_aload_n hx hb dX1_makeTable_18 rfl (lv_at hl 0 rfl) ?_
    refine xget1 S hK hP 0 rfl 1 (by decide) q31 rfl (v := .ref (a 2)) rfl dX1_makeTable_19 ?_
    refine lv_aload_n hx hb dX1_makeTable_22 rfl (lv_at hl 0 rfl) ?_
    refine lv_iload_n hx hb dX1_makeTable_23 rfl (lv_at hl 2 rfl) ?_
    refine xcRi [.int (nI k)] S (mtX1_nextOf l D d a px py qx qy fr t ac la sx sy w h C n x0 y0 x1 y1 mn k (by omega) (by omega)) q154 viX1_nextOf ⟨rfl, rfl⟩ ⟨Nat.le_of_ble_eq_true rfl, Nat.le_of_ble_eq_true rfl⟩ ⟨Nat.le_of_ble_eq_true rfl, Nat.le_of_ble_eq_true rfl⟩ hK hP (ci := 0) (q0 := 0) rfl rfl hl.1 (rest := [.ref (a 2), .int (py k)]) rfl (Nat.le_of_ble_eq_true rfl) dX1_makeTable_24 (fun r_ h_ => ?_)
    obtain rfl := h_
    refine xald (j := nxt n k) hx hb hK hP 2 0 rfl rfl (by decide) dX1_makeTable_27 (by omega) ?_
    refine lv_icmp_ne (tgt := 34) hx hb dX1_makeTable_28 (by decide) (fun c_28 => ?_) (fun c_28 => ?_)
    · refine lv_iload_n hx hb dX1_makeTable_34 rfl (lv_at hl 1 rfl) ?_
      refine lv_istore_n (lv' := [(3, .int (nI E)), (0, .ref (a 0)), (1, .int (nI E)), (2, .int (nI k))]) hx hb dX1_makeTable_35 rfl hl (by decide) rfl (fun ls hl => ?_)
      refine lv_iinc (v := nI (E + 1)) (lv' := [(1, .int (nI (E + 1))), (3, .int (nI E)), (0, .ref (a 0)), (2, .int (nI k))]) hx hb dX1_makeTable_36 hl (k := 2) rfl (nI_inc _) (by decide) rfl (fun ls hl => ?_)
      refine xloop (α := Nat × (Nat → Int32)) (fun x_ => x_.1) (fun x_ H locs g_ => ∃ ls, g_ = F0 m 39 ls [] ∧ lv_has ls 4 [(0, .ref (a 0)), (1, .int (nI (E + 1))), (2, .int (nI k)), (3, .int (nI x_.1))] ∧ va_P D vwCl (wP d a px py qx qy fr x_.2 ac la sx sy w h C n x0 y0 x1 y1 mn) H ∧ va_D A (wP d a px py qx qy fr x_.2 ac la sx sy w h C n x0 y0 x1 y1 mn) ∧ va_S A s.heap H locs ∧ (tblJ py n (upd x_.2 x_.1 (nI k)) x_.1 E k)) ?_ (E, t) ⟨ls, rfl, (lv_sub hl [2, 0, 3, 1] rfl), hP, hD, hS, (show tblJ py n (upd t E (nI k)) E E k from tblJ_start hI_4 c_9 hn c_28)⟩
      intro x_ H locs g_ hJ_ ih_39
      obtain ⟨q, f⟩ := x_
      obtain ⟨ls, rfl, hl, hP, hD, hS, hI_39⟩ := hJ_
      have hl : lv_has ls 4 [(0, .ref (a 0)), (1, .int (nI (E + 1))), (2, .int (nI k)), (3, .int (nI q))] := hl
      have hP : va_P D vwCl (wP d a px py qx qy fr f ac la sx sy w h C n x0 y0 x1 y1 mn) H := hP
      have hD : va_D A (wP d a px py qx qy fr f ac la sx sy w h C n x0 y0 x1 y1 mn) := hD
      have hI_39 : tblJ py n (upd f q (nI k)) q E k := hI_39
      have hqE_ := hI_39.2.2.2.2.1.1
      refine lv_iload_n hx hb dX1_makeTable_39 rfl (lv_at hl 3 rfl) ?_
      refine lv_if_le (tgt := 93) hx hb dX1_makeTable_40 (by decide) (fun c_40 => ?_) (fun c_40 => ?_)
      · have c_40 : q ≤ 0 := xle (a := q) (b := 0) c_40 (by omega) (by omega)
        refine lv_aload_n hx hb dX1_makeTable_93 rfl (lv_at hl 0 rfl) ?_
        refine xget1 S hK hP 0 rfl 5 (by decide) q35 rfl (v := .ref (a 6)) rfl dX1_makeTable_94 ?_
        refine lv_iload_n hx hb dX1_makeTable_97 rfl (lv_at hl 3 rfl) ?_
        refine lv_iload_n hx hb dX1_makeTable_98 rfl (lv_at hl 2 rfl) ?_
        refine xast (j := q) hx hb hK hP hD hS 6 0 rfl rfl (by decide) dX1_makeTable_99 (by omega) (fun H locs hP hD hS => ?_)
        have hP : va_P D vwCl (wP d a px py qx qy fr (upd f q (nI k)) ac la sx sy w h C n x0 y0 x1 y1 mn) H := hP
        have hD : va_D A (wP d a px py qx qy fr (upd f q (nI k)) ac la sx sy w h C n x0 y0 x1 y1 mn) := hD
        refine lv_iinc (v := nI (k + 1)) (lv' := [(2, .int (nI (k + 1))), (0, .ref (a 0)), (1, .int (nI (E + 1))), (3, .int (nI q))]) hx hb dX1_makeTable_100 hl (k := 2) rfl (nI_inc _) (by decide) rfl (fun ls hl => ?_)
        refine lv_goto (tgt := 4) hx hb dX1_makeTable_103 (by decide) ?_
        exact ih_4 (k + 1, E + 1, upd f q (nI k)) _ _ _ (by show n - (k + 1) < n - k; omega) ⟨ls, rfl, (lv_sub hl [1, 2, 0] rfl), hP, hD, hS, (show tblI py n (upd f q (nI k)) (E + 1) (k + 1) from tblJ_end hI_39 hn (Or.inl (by omega)))⟩
      · have c_40 : q > 0 := xnle (a := q) (b := 0) c_40 (by omega) (by omega)
        refine lv_aload_n hx hb dX1_makeTable_43 rfl (lv_at hl 0 rfl) ?_
        refine xget1 S hK hP 0 rfl 1 (by decide) q31 rfl (v := .ref (a 2)) rfl dX1_makeTable_44 ?_
        refine lv_aload_n hx hb dX1_makeTable_47 rfl (lv_at hl 0 rfl) ?_
        refine lv_aload_n hx hb dX1_makeTable_48 rfl (lv_at hl 0 rfl) ?_
        refine xget1 S hK hP 0 rfl 5 (by decide) q35 rfl (v := .ref (a 6)) rfl dX1_makeTable_49 ?_
        refine lv_iload_n hx hb dX1_makeTable_52 rfl (lv_at hl 3 rfl) ?_
        refine lv_iconst (v := 1) hx hb dX1_makeTable_53 (by decide) ?_
        refine lv_isub hx hb dX1_makeTable_54 ?_
        refine xtopi (y := nI (q - 1)) (pk_sub (a := q) (b := 1) (by omega)) ?_
        refine xald (j := q - 1) hx hb hK hP 6 0 rfl rfl (by decide) dX1_makeTable_55 (by omega) ?_
        have hq1_ := (tblJ_at hI_39 c_40).2
        have hq2_ := loV_lt (f := py) hq1_
        refine xtopi (y := nI (tN f (q - 1))) ((tblJ_at hI_39 c_40).1) ?_
        refine xcRi [.int (nI (tN f (q - 1)))] S (mtX1_lowOf l D d a px py qx qy fr f ac la sx sy w h C n x0 y0 x1 y1 mn (tN f (q - 1)) (by omega) (by omega)) q150 viX1_lowOf ⟨rfl, rfl⟩ ⟨Nat.le_of_ble_eq_true rfl, Nat.le_of_ble_eq_true rfl⟩ ⟨Nat.le_of_ble_eq_true rfl, Nat.le_of_ble_eq_true rfl⟩ hK hP (ci := 0) (q0 := 0) rfl rfl hl.1 (rest := [.ref (a 2)]) rfl (Nat.le_of_ble_eq_true rfl) dX1_makeTable_56 (fun r_ h_ => ?_)
        obtain rfl := h_
        refine xald (j := loV py n (tN f (q - 1))) hx hb hK hP 2 0 rfl rfl (by decide) dX1_makeTable_59 (by omega) ?_
        refine lv_aload_n hx hb dX1_makeTable_60 rfl (lv_at hl 0 rfl) ?_
        refine xget1 S hK hP 0 rfl 1 (by decide) q31 rfl (v := .ref (a 2)) rfl dX1_makeTable_61 ?_
        refine lv_aload_n hx hb dX1_makeTable_64 rfl (lv_at hl 0 rfl) ?_
        refine lv_iload_n hx hb dX1_makeTable_65 rfl (lv_at hl 2 rfl) ?_
        refine xcRi [.int (nI k)] S (mtX1_lowOf l D d a px py qx qy fr f ac la sx sy w h C n x0 y0 x1 y1 mn k (by omega) (by omega)) q150 viX1_lowOf ⟨rfl, rfl⟩ ⟨Nat.le_of_ble_eq_true rfl, Nat.le_of_ble_eq_true rfl⟩ ⟨Nat.le_of_ble_eq_true rfl, Nat.le_of_ble_eq_true rfl⟩ hK hP (ci := 0) (q0 := 0) rfl rfl hl.1 (rest := [.ref (a 2), .int (py (loV py n (tN f (q - 1))))]) rfl (Nat.le_of_ble_eq_true rfl) dX1_makeTable_66 (fun r_ h_ => ?_)
        obtain rfl := h_
        refine xald (j := loV py n k) hx hb hK hP 2 0 rfl rfl (by decide) dX1_makeTable_69 (by omega) ?_
        refine lv_icmp_le (tgt := 93) hx hb dX1_makeTable_70 (by decide) (fun c_70 => ?_) (fun c_70 => ?_)
        · refine lv_aload_n hx hb dX1_makeTable_93 rfl (lv_at hl 0 rfl) ?_
          refine xget1 S hK hP 0 rfl 5 (by decide) q35 rfl (v := .ref (a 6)) rfl dX1_makeTable_94 ?_
          refine lv_iload_n hx hb dX1_makeTable_97 rfl (lv_at hl 3 rfl) ?_
          refine lv_iload_n hx hb dX1_makeTable_98 rfl (lv_at hl 2 rfl) ?_
          refine xast (j := q) hx hb hK hP hD hS 6 0 rfl rfl (by decide) dX1_makeTable_99 (by omega) (fun H locs hP hD hS => ?_)
          have hP : va_P D vwCl (wP d a px py qx qy fr (upd f q (nI k)) ac la sx sy w h C n x0 y0 x1 y1 mn) H := hP
          have hD : va_D A (wP d a px py qx qy fr (upd f q (nI k)) ac la sx sy w h C n x0 y0 x1 y1 mn) := hD
          refine lv_iinc (v := nI (k + 1)) (lv' := [(2, .int (nI (k + 1))), (0, .ref (a 0)), (1, .int (nI (E + 1))), (3, .int (nI q))]) hx hb dX1_makeTable_100 hl (k := 2) rfl (nI_inc _) (by decide) rfl (fun ls hl => ?_)
          refine lv_goto (tgt := 4) hx hb dX1_makeTable_103 (by decide) ?_
          exact ih_4 (k + 1, E + 1, upd f q (nI k)) _ _ _ (by show n - (k + 1) < n - k; omega) ⟨ls, rfl, (lv_sub hl [1, 2, 0] rfl), hP, hD, hS, (show tblI py n (upd f q (nI k)) (E + 1) (k + 1) from tblJ_end hI_39 hn (Or.inr ⟨c_40, le_of_le c_70⟩))⟩
        · refine lv_aload_n hx hb dX1_makeTable_73 rfl (lv_at hl 0 rfl) ?_
          refine xget1 S hK hP 0 rfl 5 (by decide) q35 rfl (v := .ref (a 6)) rfl dX1_makeTable_74 ?_
          refine lv_iload_n hx hb dX1_makeTable_77 rfl (lv_at hl 3 rfl) ?_
          refine lv_aload_n hx hb dX1_makeTable_78 rfl (lv_at hl 0 rfl) ?_
          refine xget1 S hK hP 0 rfl 5 (by decide) q35 rfl (v := .ref (a 6)) rfl dX1_makeTable_79 ?_
          refine lv_iload_n hx hb dX1_makeTable_82 rfl (lv_at hl 3 rfl) ?_
          refine lv_iconst (v := 1) hx hb dX1_makeTable_83 (by decide) ?_
          refine lv_isub hx hb dX1_makeTable_84 ?_
          refine xtopi (y := nI (q - 1)) (pk_sub (a := q) (b := 1) (by omega)) ?_
          refine xald (j := q - 1) hx hb hK hP 6 0 rfl rfl (by decide) dX1_makeTable_85 (by omega) ?_
          refine xast (j := q) hx hb hK hP hD hS 6 0 rfl rfl (by decide) dX1_makeTable_86 (by omega) (fun H locs hP hD hS => ?_)
          have hP : va_P D vwCl (wP d a px py qx qy fr (upd f q (f (q - 1))) ac la sx sy w h C n x0 y0 x1 y1 mn) H := hP
          have hD : va_D A (wP d a px py qx qy fr (upd f q (f (q - 1))) ac la sx sy w h C n x0 y0 x1 y1 mn) := hD
          refine lv_iinc (v := nI (q - 1)) (lv' := [(3, .int (nI (q - 1))), (0, .ref (a 0)), (1, .int (nI (E + 1))), (2, .int (nI k))]) hx hb dX1_makeTable_87 hl (k := 3) rfl (nI_dec (by omega)) (by decide) rfl (fun ls hl => ?_)
          refine lv_goto (tgt := 39) hx hb dX1_makeTable_90 (by decide) ?_
          exact ih_39 (q - 1, upd f q (f (q - 1))) _ _ _ (by show (q - 1) < q; omega) ⟨ls, rfl, (lv_sub hl [1, 2, 3, 0] rfl), hP, hD, hS, (show tblJ py n (upd (upd f q (f (q - 1))) (q - 1) (nI k)) (q - 1) E k from tblJ_step hI_39 hn c_40 (gt_of_nle c_70))⟩
    · refine lv_goto (tgt := 100) hx hb dX1_makeTable_31 (by decide) ?_
      refine lv_iinc (v := nI (k + 1)) (lv' := [(2, .int (nI (k + 1))), (0, .ref (a 0)), (1, .int (nI E))]) hx hb dX1_makeTable_100 hl (k := 2) rfl (nI_inc _) (by decide) rfl (fun ls hl => ?_)
      refine lv_goto (tgt := 4) hx hb dX1_makeTable_103 (by decide) ?_
      exact ih_4 (k + 1, E, t) _ _ _ (by show n - (k + 1) < n - k; omega) ⟨ls, rfl, (lv_sub hl [1, 2, 0] rfl), hP, hD, hS, (show tblI py n t E (k + 1) from tbl_skip hI_4 c_9 c_28)⟩

set_option maxHeartbeats 4000000 in
set_option maxRecDepth 100000 in
/-- sortActive(m): by the last places -/
theorem mtX1_sortActive (l : Launch) (D : va_G) (d : ClassId) (a : Nat → Nat) (px py qx qy fr tb ac la sx sy : Nat → Int32) (w h C n : Nat) (x0 y0 x1 y1 : Int32) (mn : Nat) (mA : Nat) (hm : mA ≤ 60) (sz : Nat) : Met l yX1_sortActive (ws_ yX1_sortActive cX1_sortActive 6 none) (rm_ 0 0) (PcM [.ref (a 0), .int (nI mA)] D (wP d a px py qx qy fr tb ac la sx sy w h C n x0 y0 x1 y1 mn) [(d, .int)] sz) (va_Qv (fun (u_ : ((Nat → Int32) × (Nat → Int32))) => srt keyI u_.2 mA ∧ sI u_.1 u_.2 mA ac la) (fun (u_ : ((Nat → Int32) × (Nat → Int32))) t => QB D [(d, .int)] (va_A (wP d a px py qx qy fr tb ac la sx sy w h C n x0 y0 x1 y1 mn) sz) (wP d a px py qx qy fr tb u_.1 u_.2 sx sy w h C n x0 y0 x1 y1 mn) t) (va_A (wP d a px py qx qy fr tb ac la sx sy w h C n x0 y0 x1 y1 mn) sz)) 0 0 (va_A (wP d a px py qx qy fr tb ac la sx sy w h C n x0 y0 x1 y1 mn) sz) := by
  refine xMetM (Qf := fun A => (va_Qv (fun (u_ : ((Nat → Int32) × (Nat → Int32))) => srt keyI u_.2 mA ∧ sI u_.1 u_.2 mA ac la) (fun (u_ : ((Nat → Int32) × (Nat → Int32))) t => QB D [(d, .int)] A (wP d a px py qx qy fr tb u_.1 u_.2 sx sy w h C n x0 y0 x1 y1 mn) t) A)) (by decide) (Nat.le_of_ble_eq_true rfl) ?_
  intro p e s m below meth c ls A H locs S hr hlk hl hP hK hD hS hA hin
  have S : CallFix p m c cX1_sortActive 6 s _ lw_all RX1 := S
  have hx := S.1
  have hb := S.2.1
  have hl : lv_has ls 6 [(0, .ref (a 0)), (1, .int (nI mA))] := hl
  refine lv_iconst (v := 1) hx hb dX1_sortActive_0 (by decide) ?_
  refine lv_istore_n (lv' := [(2, .int 1), (0, .ref (a 0)), (1, .int (nI mA))]) hx hb dX1_sortActive_1 rfl hl (by decide) rfl (fun ls hl => ?_)
  refine xloop (α := Nat × (Nat → Int32) × (Nat → Int32)) (fun x_ => mA - x_.1) (fun x_ H locs g_ => ∃ ls, g_ = F0 m 2 ls [] ∧ lv_has ls 6 [(0, .ref (a 0)), (1, .int (nI mA)), (2, .int (nI x_.1))] ∧ va_P D vwCl (wP d a px py qx qy fr tb x_.2.1 x_.2.2 sx sy w h C n x0 y0 x1 y1 mn) H ∧ va_D A (wP d a px py qx qy fr tb x_.2.1 x_.2.2 sx sy w h C n x0 y0 x1 y1 mn) ∧ va_S A s.heap H locs ∧ (1 ≤ x_.1 ∧ x_.1 ≤ 61 ∧ srt keyI x_.2.2 x_.1 ∧ sI x_.2.1 x_.2.2 mA ac la)) ?_ (1, ac, la) ⟨ls, rfl, (lv_sub hl [1, 2, 0] rfl), hP, hD, hS, (show 1 ≤ 1 ∧ 1 ≤ 61 ∧ srt keyI la 1 ∧ sI ac la mA ac la from ⟨Nat.le_refl _, by omega, srt_1, sI_rf⟩)⟩
  intro x_ H locs g_ hJ_ ih_2
  obtain ⟨k, f, g⟩ := x_
  obtain ⟨ls, rfl, hl, hP, hD, hS, hI_2⟩ := hJ_
  have hl : lv_has ls 6 [(0, .ref (a 0)), (1, .int (nI mA)), (2, .int (nI k))] := hl
  have hP : va_P D vwCl (wP d a px py qx qy fr tb f g sx sy w h C n x0 y0 x1 y1 mn) H := hP
  have hD : va_D A (wP d a px py qx qy fr tb f g sx sy w h C n x0 y0 x1 y1 mn) := hD
  have hI_2 : 1 ≤ k ∧ k ≤ 61 ∧ srt keyI g k ∧ sI f g mA ac la := hI_2
  have hk1_ := hI_2.1
  have hk2_ := hI_2.2.1
  refine lv_iload_n hx hb dX1_sortActive_2 rfl (lv_at hl 2 rfl) ?_
  refine lv_iload_n hx hb dX1_sortActive_3 rfl (lv_at hl 1 rfl) ?_
  refine lv_icmp_ge (tgt := 105) hx hb dX1_sortActive_4 (by decide) (fun c_4 => ?_) (fun c_4 => ?_)
  · have c_4 : mA ≤ k := xle (a := mA) (b := k) c_4 (by omega) (by omega)
    exact xretMv hx hb hr hlk hK hS dX1_sortActive_105 (f, g) hP hD (⟨srt_le hI_2.2.2.1 c_4, hI_2.2.2.2⟩)
  · have c_4 : mA > k := xnle (a := mA) (b := k) c_4 (by omega) (by omega)
    refine lv_aload_n hx hb dX1_sortActive_7 rfl (lv_at hl 0 rfl) ?_
    refine xget1 S hK hP 0 rfl 6 (by decide) q36 rfl (v := .ref (a 7)) rfl dX1_sortActive_8 ?_
    refine lv_iload_n hx hb dX1_sortActive_11 rfl (lv_at hl 2 rfl) ?_
    refine xald (j := k) hx hb hK hP 7 0 rfl rfl (by decide) dX1_sortActive_12 (by omega) ?_
    refine lv_istore_n (lv' := [(3, .int (f k)), (0, .ref (a 0)), (1, .int (nI mA)), (2, .int (nI k))]) hx hb dX1_sortActive_13 rfl hl (by decide) rfl (fun ls hl => ?_)
    refine lv_aload_n hx hb dX1_sortActive_14 rfl (lv_at hl 1 rfl) ?_
    refine xget1 S hK hP 0 rfl 7 (by decide) q37 rfl (v := .ref (a 8)) rfl dX1_sortActive_15 ?_
    refine lv_iload_n hx hb dX1_sortActive_18 rfl (lv_at hl 3 rfl) ?_
    refine xald (j := k) hx hb hK hP 8 0 rfl rfl (by decide) dX1_sortActive_19 (by omega) ?_
    refine lv_istore (lv' := [(4, .int (g k)), (3, .int (f k)), (0, .ref (a 0)), (1, .int (nI mA)), (2, .int (nI k))]) hx hb dX1_sortActive_20 hl (by decide) rfl (fun ls hl => ?_)
    refine lv_iload_n hx hb dX1_sortActive_22 rfl (lv_at hl 4 rfl) ?_
    refine lv_istore (lv' := [(5, .int (nI k)), (4, .int (g k)), (3, .int (f k)), (0, .ref (a 0)), (1, .int (nI mA)), (2, .int (nI k))]) hx hb dX1_sortActive_23 hl (by decide) rfl (fun ls hl => ?_)
    refine xloop (α := Nat × (Nat → Int32) × (Nat → Int32)) (fun x_ => x_.1) (fun x_ H locs g_ => ∃ ls, g_ = F0 m 25 ls [] ∧ lv_has ls 6 [(0, .ref (a 0)), (1, .int (nI mA)), (2, .int (nI k)), (3, .int (f k)), (4, .int (g k)), (5, .int (nI x_.1))] ∧ va_P D vwCl (wP d a px py qx qy fr tb x_.2.1 x_.2.2 sx sy w h C n x0 y0 x1 y1 mn) H ∧ va_D A (wP d a px py qx qy fr tb x_.2.1 x_.2.2 sx sy w h C n x0 y0 x1 y1 mn) ∧ va_S A s.heap H locs ∧ (sJ x_.2.1 x_.2.2 x_.1 k mA (f k) (g k) ac la)) ?_ (k, f, g) ⟨ls, rfl, (lv_sub hl [3, 4, 5, 2, 1, 0] rfl), hP, hD, hS, (show sJ f g k k mA (f k) (g k) ac la from sJ_start c_4 hI_2.2.2.1 hI_2.2.2.2)⟩
    intro x_ H locs g_ hJ_ ih_25
    obtain ⟨q, f2, g2⟩ := x_
    obtain ⟨ls, rfl, hl, hP, hD, hS, hI_25⟩ := hJ_
    have hl : lv_has ls 6 [(0, .ref (a 0)), (1, .int (nI mA)), (2, .int (nI k)), (3, .int (f k)), (4, .int (g k)), (5, .int (nI q))] := hl
    have hP : va_P D vwCl (wP d a px py qx qy fr tb f2 g2 sx sy w h C n x0 y0 x1 y1 mn) H := hP
    have hD : va_D A (wP d a px py qx qy fr tb f2 g2 sx sy w h C n x0 y0 x1 y1 mn) := hD
    have hI_25 : sJ f2 g2 q k mA (f k) (g k) ac la := hI_25
    have hqk_ := hI_25.2.1.1
    refine lv_iload hx hb dX1_sortActive_25 (lv_at hl 5 rfl) ?_
    refine lv_if_le (tgt := 82) hx hb dX1_sortActive_27 (by decide) (fun c_27 => ?_) (fun c_27 => ?_)
    · have c_27 : q ≤ 0 := xle (a := q) (b := 0) c_27 (by omega) (by omega)
      refine lv_aload_n hx hb dX1_sortActive_82 rfl (lv_at hl 0 rfl) ?_
      refine xget1 S hK hP 0 rfl 6 (by decide) q36 rfl (v := .ref (a 7)) rfl dX1_sortActive_83 ?_
      refine lv_iload hx hb dX1_sortActive_86 (lv_at hl 5 rfl) ?_
      refine lv_iload_n hx hb dX1_sortActive_88 rfl (lv_at hl 3 rfl) ?_
      refine xast (j := q) hx hb hK hP hD hS 7 0 rfl rfl (by decide) dX1_sortActive_89 (by omega) (fun H locs hP hD hS => ?_)
      have hP : va_P D vwCl (wP d a px py qx qy fr tb (upd f2 q (f k)) g2 sx sy w h C n x0 y0 x1 y1 mn) H := hP
      have hD : va_D A (wP d a px py qx qy fr tb (upd f2 q (f k)) g2 sx sy w h C n x0 y0 x1 y1 mn) := hD
      refine lv_aload_n hx hb dX1_sortActive_90 rfl (lv_at hl 0 rfl) ?_
      refine xget1 S hK hP 0 rfl 7 (by decide) q37 rfl (v := .ref (a 8)) rfl dX1_sortActive_91 ?_
      refine lv_iload hx hb dX1_sortActive_94 (lv_at hl 5 rfl) ?_
      refine lv_iload hx hb dX1_sortActive_96 (lv_at hl 4 rfl) ?_
      refine xast (j := q) hx hb hK hP hD hS 8 0 rfl rfl (by decide) dX1_sortActive_98 (by omega) (fun H locs hP hD hS => ?_)
      have hP : va_P D vwCl (wP d a px py qx qy fr tb (upd f2 q (f k)) (upd g2 q (g k)) sx sy w h C n x0 y0 x1 y1 mn) H := hP
      have hD : va_D A (wP d a px py qx qy fr tb (upd f2 q (f k)) (upd g2 q (g k)) sx sy w h C n x0 y0 x1 y1 mn) := hD
      refine lv_iinc (v := nI (k + 1)) (lv' := [(2, .int (nI (k + 1))), (0, .ref (a 0)), (1, .int (nI mA)), (3, .int (f k)), (4, .int (g k)), (5, .int (nI q))]) hx hb dX1_sortActive_99 hl (k := 2) rfl (nI_inc _) (by decide) rfl (fun ls hl => ?_)
      refine lv_goto (tgt := 2) hx hb dX1_sortActive_102 (by decide) ?_
      exact ih_2 (k + 1, upd f2 q (f k), upd g2 q (g k)) _ _ _ (by show mA - (k + 1) < mA - k; omega) ⟨ls, rfl, (lv_sub hl [1, 2, 0] rfl), hP, hD, hS, (show 1 ≤ (k + 1) ∧ (k + 1) ≤ 61 ∧ srt keyI (upd g2 q (g k)) (k + 1) ∧ sI (upd f2 q (f k)) (upd g2 q (g k)) mA ac la from ⟨by omega, by omega, (sJ_end hI_25 (Or.inl (by omega))).1, (sJ_end hI_25 (Or.inl (by omega))).2⟩)⟩
    · have c_27 : q > 0 := xnle (a := q) (b := 0) c_27 (by omega) (by omega)
      refine lv_aload_n hx hb dX1_sortActive_30 rfl (lv_at hl 0 rfl) ?_
      refine xget1 S hK hP 0 rfl 7 (by decide) q37 rfl (v := .ref (a 8)) rfl dX1_sortActive_31 ?_
      refine lv_iload hx hb dX1_sortActive_34 (lv_at hl 5 rfl) ?_
      refine lv_iconst (v := 1) hx hb dX1_sortActive_36 (by decide) ?_
      refine lv_isub hx hb dX1_sortActive_37 ?_
      refine xtopi (y := nI (q - 1)) (pk_sub (a := q) (b := 1) (by omega)) ?_
      refine xald (j := q - 1) hx hb hK hP 8 0 rfl rfl (by decide) dX1_sortActive_38 (by omega) ?_
      refine lv_iload hx hb dX1_sortActive_39 (lv_at hl 4 rfl) ?_
      refine lv_icmp_le (tgt := 82) hx hb dX1_sortActive_41 (by decide) (fun c_41 => ?_) (fun c_41 => ?_)
      · refine lv_aload_n hx hb dX1_sortActive_82 rfl (lv_at hl 0 rfl) ?_
        refine xget1 S hK hP 0 rfl 6 (by decide) q36 rfl (v := .ref (a 7)) rfl dX1_sortActive_83 ?_
        refine lv_iload hx hb dX1_sortActive_86 (lv_at hl 5 rfl) ?_
        refine lv_iload_n hx hb dX1_sortActive_88 rfl (lv_at hl 3 rfl) ?_
        refine xast (j := q) hx hb hK hP hD hS 7 0 rfl rfl (by decide) dX1_sortActive_89 (by omega) (fun H locs hP hD hS => ?_)
        have hP : va_P D vwCl (wP d a px py qx qy fr tb (upd f2 q (f k)) g2 sx sy w h C n x0 y0 x1 y1 mn) H := hP
        have hD : va_D A (wP d a px py qx qy fr tb (upd f2 q (f k)) g2 sx sy w h C n x0 y0 x1 y1 mn) := hD
        refine lv_aload_n hx hb dX1_sortActive_90 rfl (lv_at hl 0 rfl) ?_
        refine xget1 S hK hP 0 rfl 7 (by decide) q37 rfl (v := .ref (a 8)) rfl dX1_sortActive_91 ?_
        refine lv_iload hx hb dX1_sortActive_94 (lv_at hl 5 rfl) ?_
        refine lv_iload hx hb dX1_sortActive_96 (lv_at hl 4 rfl) ?_
        refine xast (j := q) hx hb hK hP hD hS 8 0 rfl rfl (by decide) dX1_sortActive_98 (by omega) (fun H locs hP hD hS => ?_)
        have hP : va_P D vwCl (wP d a px py qx qy fr tb (upd f2 q (f k)) (upd g2 q (g k)) sx sy w h C n x0 y0 x1 y1 mn) H := hP
        have hD : va_D A (wP d a px py qx qy fr tb (upd f2 q (f k)) (upd g2 q (g k)) sx sy w h C n x0 y0 x1 y1 mn) := hD
        refine lv_iinc (v := nI (k + 1)) (lv' := [(2, .int (nI (k + 1))), (0, .ref (a 0)), (1, .int (nI mA)), (3, .int (f k)), (4, .int (g k)), (5, .int (nI q))]) hx hb dX1_sortActive_99 hl (k := 2) rfl (nI_inc _) (by decide) rfl (fun ls hl => ?_)
        refine lv_goto (tgt := 2) hx hb dX1_sortActive_102 (by decide) ?_
        exact ih_2 (k + 1, upd f2 q (f k), upd g2 q (g k)) _ _ _ (by show mA - (k + 1) < mA - k; omega) ⟨ls, rfl, (lv_sub hl [1, 2, 0] rfl), hP, hD, hS, (show 1 ≤ (k + 1) ∧ (k + 1) ≤ 61 ∧ srt keyI (upd g2 q (g k)) (k + 1) ∧ sI (upd f2 q (f k)) (upd g2 q (g k)) mA ac la from ⟨by omega, by omega, (sJ_end hI_25 (Or.inr ⟨c_27, le_of_le c_41⟩)).1, (sJ_end hI_25 (Or.inr ⟨c_27, le_of_le c_41⟩)).2⟩)⟩
      · refine lv_aload_n hx hb dX1_sortActive_44 rfl (lv_at hl 0 rfl) ?_
        refine xget1 S hK hP 0 rfl 6 (by decide) q36 rfl (v := .ref (a 7)) rfl dX1_sortActive_45 ?_
        refine lv_iload hx hb dX1_sortActive_48 (lv_at hl 5 rfl) ?_
        refine lv_aload_n hx hb dX1_sortActive_50 rfl (lv_at hl 0 rfl) ?_
        refine xget1 S hK hP 0 rfl 6 (by decide) q36 rfl (v := .ref (a 7)) rfl dX1_sortActive_51 ?_
        refine lv_iload hx hb dX1_sortActive_54 (lv_at hl 5 rfl) ?_
        refine lv_iconst (v := 1) hx hb dX1_sortActive_56 (by decide) ?_
        refine lv_isub hx hb dX1_sortActive_57 ?_
        refine xtopi (y := nI (q - 1)) (pk_sub (a := q) (b := 1) (by omega)) ?_
        refine xald (j := q - 1) hx hb hK hP 7 0 rfl rfl (by decide) dX1_sortActive_58 (by omega) ?_
        refine xast (j := q) hx hb hK hP hD hS 7 0 rfl rfl (by decide) dX1_sortActive_59 (by omega) (fun H locs hP hD hS => ?_)
        have hP : va_P D vwCl (wP d a px py qx qy fr tb (upd f2 q (f2 (q - 1))) g2 sx sy w h C n x0 y0 x1 y1 mn) H := hP
        have hD : va_D A (wP d a px py qx qy fr tb (upd f2 q (f2 (q - 1))) g2 sx sy w h C n x0 y0 x1 y1 mn) := hD
        refine lv_aload_n hx hb dX1_sortActive_60 rfl (lv_at hl 0 rfl) ?_
        refine xget1 S hK hP 0 rfl 7 (by decide) q37 rfl (v := .ref (a 8)) rfl dX1_sortActive_61 ?_
        refine lv_iload hx hb dX1_sortActive_64 (lv_at hl 5 rfl) ?_
        refine lv_aload_n hx hb dX1_sortActive_66 rfl (lv_at hl 0 rfl) ?_
        refine xget1 S hK hP 0 rfl 7 (by decide) q37 rfl (v := .ref (a 8)) rfl dX1_sortActive_67 ?_
        refine lv_iload hx hb dX1_sortActive_70 (lv_at hl 5 rfl) ?_
        refine lv_iconst (v := 1) hx hb dX1_sortActive_72 (by decide) ?_
        refine lv_isub hx hb dX1_sortActive_73 ?_
        refine xtopi (y := nI (q - 1)) (pk_sub (a := q) (b := 1) (by omega)) ?_
        refine xald (j := q - 1) hx hb hK hP 8 0 rfl rfl (by decide) dX1_sortActive_74 (by omega) ?_
        refine xast (j := q) hx hb hK hP hD hS 8 0 rfl rfl (by decide) dX1_sortActive_75 (by omega) (fun H locs hP hD hS => ?_)
        have hP : va_P D vwCl (wP d a px py qx qy fr tb (upd f2 q (f2 (q - 1))) (upd g2 q (g2 (q - 1))) sx sy w h C n x0 y0 x1 y1 mn) H := hP
        have hD : va_D A (wP d a px py qx qy fr tb (upd f2 q (f2 (q - 1))) (upd g2 q (g2 (q - 1))) sx sy w h C n x0 y0 x1 y1 mn) := hD
        refine lv_iinc (v := nI (q - 1)) (lv' := [(5, .int (nI (q - 1))), (0, .ref (a 0)), (1, .int (nI mA)), (2, .int (nI k)), (3, .int (f k)), (4, .int (g k))]) hx hb dX1_sortActive_76 hl (k := 5) rfl (nI_dec (by omega)) (by decide) rfl (fun ls hl => ?_)
        refine lv_goto (tgt := 25) hx hb dX1_sortActive_79 (by decide) ?_
        exact ih_25 (q - 1, upd f2 q (f2 (q - 1)), upd g2 q (g2 (q - 1))) _ _ _ (by show (q - 1) < q; omega) ⟨ls, rfl, (lv_sub hl [1, 2, 3, 4, 5, 0] rfl), hP, hD, hS, (show sJ (upd f2 q (f2 (q - 1))) (upd g2 q (g2 (q - 1))) (q - 1) k mA (f k) (g k) ac la from sJ_step hI_25 c_27 (gt_of_nle c_41))⟩

set_option maxHeartbeats 4000000 in
set_option maxRecDepth 100000 in
/-- paint(y, from, to, colour) -/
theorem mtX1_paint (l : Launch) (D : va_G) (d : ClassId) (a : Nat → Nat) (px py qx qy fr tb ac la sx sy : Nat → Int32) (w h C n : Nat) (x0 y0 x1 y1 : Int32) (mn : Nat) (yy : Nat) (fm to col : Int32) (hw : w ≤ 24) (hh : h ≤ 24) (hy : yy < h) (sz : Nat) : Met l yX1_paint (ws_ yX1_paint cX1_paint 7 (some .int)) (rm_ 0 0) (PcM [.ref (a 0), .int (nI yy), .int fm, .int to, .int col] D (wP d a px py qx qy fr tb ac la sx sy w h C n x0 y0 x1 y1 mn) [(d, .int)] sz) (va_Qi (fun (r : Int32) (u_ : (Nat → Int32)) => r = nI (cnt (inR fm to) w) ∧ ∀ j x, j < h → x < w → u_ (w * j + x) = if j = yy ∧ inR fm to x = true then col else fr (w * j + x)) (fun (u_ : (Nat → Int32)) t => QB D [(d, .int)] (va_A (wP d a px py qx qy fr tb ac la sx sy w h C n x0 y0 x1 y1 mn) sz) (wP d a px py qx qy u_ tb ac la sx sy w h C n x0 y0 x1 y1 mn) t) (va_A (wP d a px py qx qy fr tb ac la sx sy w h C n x0 y0 x1 y1 mn) sz)) 0 0 (va_A (wP d a px py qx qy fr tb ac la sx sy w h C n x0 y0 x1 y1 mn) sz) := by
  refine xMetM (Qf := fun A => (va_Qi (fun (r : Int32) (u_ : (Nat → Int32)) => r = nI (cnt (inR fm to) w) ∧ ∀ j x, j < h → x < w → u_ (w * j + x) = if j = yy ∧ inR fm to x = true then col else fr (w * j + x)) (fun (u_ : (Nat → Int32)) t => QB D [(d, .int)] A (wP d a px py qx qy u_ tb ac la sx sy w h C n x0 y0 x1 y1 mn) t) A)) (by decide) (Nat.le_of_ble_eq_true rfl) ?_
  intro p e s m below meth c ls A H locs S hr hlk hl hP hK hD hS hA hin
  have S : CallFix p m c cX1_paint 7 s _ lw_all RX1 := S
  have hx := S.1
  have hb := S.2.1
  have hl : lv_has ls 7 [(0, .ref (a 0)), (1, .int (nI yy)), (2, .int fm), (3, .int to), (4, .int col)] := hl
  refine lv_iconst (v := 0) hx hb dX1_paint_0 (by decide) ?_
  refine lv_istore (lv' := [(5, .int 0), (0, .ref (a 0)), (1, .int (nI yy)), (2, .int fm), (3, .int to), (4, .int col)]) hx hb dX1_paint_1 hl (by decide) rfl (fun ls hl => ?_)
  refine xmeet (g2 := F0 m 12 ls (.int (nI fm.toInt.toNat) :: [])) (fun jn_12 => ?_) ?_
  · refine lv_iload_n hx hb dX1_paint_3 rfl (lv_at hl 3 rfl) ?_
    refine lv_if_ge (tgt := 11) hx hb dX1_paint_4 (by decide) (fun c_4 => ?_) (fun c_4 => ?_)
    · refine lv_iload_n hx hb dX1_paint_11 rfl (lv_at hl 3 rfl) ?_
      refine xtopi (y := nI fm.toInt.toNat) (nI_of_nn c_4) ?_
      exact jn_12
    · refine lv_iconst (v := 0) hx hb dX1_paint_7 (by decide) ?_
      refine lv_goto (tgt := 12) hx hb dX1_paint_8 (by decide) ?_
      refine xtopi (y := nI fm.toInt.toNat) (nI_of_ng c_4) ?_
      exact jn_12
  · refine lv_istore (lv' := [(6, .int (nI fm.toInt.toNat)), (5, .int 0), (0, .ref (a 0)), (1, .int (nI yy)), (2, .int fm), (3, .int to), (4, .int col)]) hx hb dX1_paint_12 hl (by decide) rfl (fun ls hl => ?_)
    refine xloop (α := Nat × Nat × (Nat → Int32)) (fun x_ => w - x_.1) (fun x_ H locs g_ => ∃ ls, g_ = F0 m 14 ls [] ∧ lv_has ls 7 [(0, .ref (a 0)), (1, .int (nI yy)), (2, .int fm), (3, .int to), (4, .int col), (5, .int (nI x_.2.1)), (6, .int (nI x_.1))] ∧ va_P D vwCl (wP d a px py qx qy x_.2.2 tb ac la sx sy w h C n x0 y0 x1 y1 mn) H ∧ va_D A (wP d a px py qx qy x_.2.2 tb ac la sx sy w h C n x0 y0 x1 y1 mn) ∧ va_S A s.heap H locs ∧ (pI fr w h yy fm to col x_.1 x_.2.1 x_.2.2)) ?_ (fm.toInt.toNat, 0, fr) ⟨ls, rfl, (lv_sub hl [2, 3, 4, 5, 6, 1, 0] rfl), hP, hD, hS, (show pI fr w h yy fm to col fm.toInt.toNat 0 fr from pI_0)⟩
    intro x_ H locs g_ hJ_ ih_14
    obtain ⟨i, cn, f⟩ := x_
    obtain ⟨ls, rfl, hl, hP, hD, hS, hI_14⟩ := hJ_
    have hl : lv_has ls 7 [(0, .ref (a 0)), (1, .int (nI yy)), (2, .int fm), (3, .int to), (4, .int col), (5, .int (nI cn)), (6, .int (nI i))] := hl
    have hP : va_P D vwCl (wP d a px py qx qy f tb ac la sx sy w h C n x0 y0 x1 y1 mn) H := hP
    have hD : va_D A (wP d a px py qx qy f tb ac la sx sy w h C n x0 y0 x1 y1 mn) := hD
    have hI_14 : pI fr w h yy fm to col i cn f := hI_14
    have hi_ := hI_14.2.1
    refine lv_iload hx hb dX1_paint_14 (lv_at hl 6 rfl) ?_
    refine lv_iload_n hx hb dX1_paint_16 rfl (lv_at hl 3 rfl) ?_
    refine lv_icmp_gt (tgt := 54) hx hb dX1_paint_17 (by decide) (fun c_17 => ?_) (fun c_17 => ?_)
    · refine lv_iload hx hb dX1_paint_54 (lv_at hl 5 rfl) ?_
      exact xretMi hx hb hr hlk hK hS dX1_paint_56 (rfl) (f) hP hD (pI_end hI_14 (Or.inl c_17))
    · refine lv_iload hx hb dX1_paint_20 (lv_at hl 6 rfl) ?_
      refine lv_aload_n hx hb dX1_paint_22 rfl (lv_at hl 0 rfl) ?_
      refine xget1 S hK hP 0 rfl 8 (by decide) q38 rfl (v := .int (nI w)) rfl dX1_paint_23 ?_
      refine lv_icmp_ge (tgt := 54) hx hb dX1_paint_26 (by decide) (fun c_26 => ?_) (fun c_26 => ?_)
      · have c_26 : w ≤ i := xle (a := w) (b := i) c_26 (by omega) (by omega)
        refine lv_iload hx hb dX1_paint_54 (lv_at hl 5 rfl) ?_
        exact xretMi hx hb hr hlk hK hS dX1_paint_56 (rfl) (f) hP hD (pI_end hI_14 (Or.inr c_26))
      · have c_26 : w > i := xnle (a := w) (b := i) c_26 (by omega) (by omega)
        have hb_ := pix_lt hw hh c_26 hy
        refine lv_aload_n hx hb dX1_paint_29 rfl (lv_at hl 0 rfl) ?_
        refine xget1 S hK hP 0 rfl 4 (by decide) q34 rfl (v := .ref (a 5)) rfl dX1_paint_30 ?_
        refine lv_aload_n hx hb dX1_paint_33 rfl (lv_at hl 0 rfl) ?_
        refine xget1 S hK hP 0 rfl 8 (by decide) q38 rfl (v := .int (nI w)) rfl dX1_paint_34 ?_
        refine lv_iload_n hx hb dX1_paint_37 rfl (lv_at hl 1 rfl) ?_
        refine lv_imul hx hb dX1_paint_38 ?_
        refine xtopi (y := nI (w * yy)) (pk_mul w yy) ?_
        refine lv_iload hx hb dX1_paint_39 (lv_at hl 6 rfl) ?_
        refine lv_iadd hx hb dX1_paint_41 ?_
        refine xtopi (y := nI ((w * yy) + i)) (nI_add (w * yy) i) ?_
        refine lv_iload hx hb dX1_paint_42 (lv_at hl 4 rfl) ?_
        refine xast (j := (w * yy) + i) hx hb hK hP hD hS 5 0 rfl rfl (by decide) dX1_paint_44 (by omega) (fun H locs hP hD hS => ?_)
        have hP : va_P D vwCl (wP d a px py qx qy (upd f ((w * yy) + i) col) tb ac la sx sy w h C n x0 y0 x1 y1 mn) H := hP
        have hD : va_D A (wP d a px py qx qy (upd f ((w * yy) + i) col) tb ac la sx sy w h C n x0 y0 x1 y1 mn) := hD
        refine lv_iinc (v := nI (cn + 1)) (lv' := [(5, .int (nI (cn + 1))), (0, .ref (a 0)), (1, .int (nI yy)), (2, .int fm), (3, .int to), (4, .int col), (6, .int (nI i))]) hx hb dX1_paint_45 hl (k := 5) rfl (nI_inc _) (by decide) rfl (fun ls hl => ?_)
        refine lv_iinc (v := nI (i + 1)) (lv' := [(6, .int (nI (i + 1))), (5, .int (nI (cn + 1))), (0, .ref (a 0)), (1, .int (nI yy)), (2, .int fm), (3, .int to), (4, .int col)]) hx hb dX1_paint_48 hl (k := 6) rfl (nI_inc _) (by decide) rfl (fun ls hl => ?_)
        refine lv_goto (tgt := 14) hx hb dX1_paint_51 (by decide) ?_
        exact ih_14 (i + 1, cn + 1, upd f ((w * yy) + i) col) _ _ _ (by show w - (i + 1) < w - i; omega) ⟨ls, rfl, (lv_sub hl [2, 3, 4, 5, 6, 1, 0] rfl), hP, hD, hS, (show pI fr w h yy fm to col (i + 1) (cn + 1) (upd f ((w * yy) + i) col) from pI_step hI_14 c_17 c_26 hw hy)⟩
end
section
/-! PURE: filling: the active edges of a line, and what is painted between them -/
set_option maxRecDepth 100000
def hiQ (g : Nat → Int32) (n : Nat) (y : Int) (k : Nat) : Bool := decide (y < (g (hiV g n k)).toInt)
def actB (g : Nat → Int32) (n : Nat) (y : Int) (k : Nat) : Bool := decide ((g (loV g n k)).toInt ≤ y) && hiQ g n y k
theorem actB_iff {g : Nat → Int32} {n k : Nat} {y : Int} : actB g n y k = true ↔ (g (loV g n k)).toInt ≤ y ∧ y < (g (hiV g n k)).toInt := by
  unfold actB hiQ
  simp only [Bool.and_eq_true, decide_eq_true_eq]
theorem actB_ne {g : Nat → Int32} {n k : Nat} {y : Int} : actB g n y k = (decide ((g k).toInt ≤ y) != decide ((g (nxt n k)).toInt ≤ y)) := by
  unfold actB hiQ
  rcases lohi (g := g) (n := n) (k := k) with ⟨h1, h2, h3⟩ | ⟨h1, h2, h3⟩ <;> rw [h1, h2]
  · by_cases q1 : (g k).toInt ≤ y <;> by_cases q2 : (g (nxt n k)).toInt ≤ y <;> simp [q1, q2] <;> omega
  · by_cases q1 : (g k).toInt ≤ y <;> by_cases q2 : (g (nxt n k)).toInt ≤ y <;> simp [q1, q2] <;> omega
theorem crs_act {f g : Nat → Int32} {n k : Nat} {x y : Int} : crs f g n x y k = (actB g n y k && decide (x ≤ lbZ f g n k y)) := by
  cases h : actB g n y k with
  | true =>
    obtain ⟨h1, h2⟩ := actB_iff.mp h
    rw [crs_lb h1 h2]
    rfl
  | false =>
    have h3 : ¬ ((g (loV g n k)).toInt ≤ y ∧ y < (g (hiV g n k)).toInt) := fun q => by rw [actB_iff.mpr q] at h; cases h
    by_cases q : (g (loV g n k)).toInt ≤ y
    · rw [crs_skip2 (by omega)]
      rfl
    · rw [crs_skip1 (by omega)]
      rfl
def odB (a : Nat) : Bool := a % 2 == 1
theorem odB_t {a : Nat} (h : a % 2 = 1) : odB a = true := by
  unfold odB
  rw [h]
  rfl
theorem odB_f {a : Nat} (h : a % 2 = 0) : odB a = false := by
  unfold odB
  rw [h]
  rfl
theorem odB_c {a b : Nat} (h : a % 2 = b % 2) : odB a = odB b := by
  unfold odB
  rw [h]
theorem odB_0 {a : Nat} (h : odB a = false) : a % 2 = 0 := by
  rcases (show a % 2 = 0 ∨ a % 2 = 1 by omega) with q | q
  · exact q
  · rw [odB_t q] at h
    cases h
theorem xor_dec (a : Nat) (b : Bool) : Bool.xor (odB a) b = odB (a + b.toNat) := by
  cases b
  · rw [Bool.xor_false]
    rfl
  · rw [Bool.xor_true]
    rcases (show a % 2 = 0 ∨ a % 2 = 1 by omega) with q | q
    · rw [odB_f q, odB_t (by show (a + 1) % 2 = 1; omega)]
      rfl
    · rw [odB_t q, odB_f (by show (a + 1) % 2 = 0; omega)]
      rfl
theorem ins_cnt {f g : Nat → Int32} {n : Nat} {x y : Int} : ∀ k, insB f g n x y k = odB (cnt (crs f g n x y) k) := by
  intro k
  induction k with
  | zero => rfl
  | succ k ih =>
    simp only [insB, cnt]
    rw [ih, xor_dec]
/-- round a closed line the changes are even in number -/
theorem act_even {g : Nat → Int32} {n : Nat} {y : Int} : cnt (actB g n y) n % 2 = 0 := by
  have key : ∀ k, k < n → odB (cnt (actB g n y) k) = (decide ((g 0).toInt ≤ y) != decide ((g k).toInt ≤ y)) := by
    intro k
    induction k with
    | zero =>
      intro _
      rw [bne_self_eq_false]
      rfl
    | succ k ih =>
      intro hk
      simp only [cnt]
      rw [← xor_dec, ih (by omega), actB_ne]
      have e : nxt n k = k + 1 := by
        unfold nxt
        rw [if_neg (by omega)]
      rw [e]
      cases decide ((g 0).toInt ≤ y) <;> cases decide ((g k).toInt ≤ y) <;> cases decide ((g (k + 1)).toInt ≤ y) <;> rfl
  cases n with
  | zero => rfl
  | succ k =>
    have h1 := key k (by omega)
    have h2 : odB (cnt (actB g (k + 1) y) (k + 1)) = false := by
      simp only [cnt]
      rw [← xor_dec, h1, actB_ne]
      have e : nxt (k + 1) k = 0 := by
        unfold nxt
        rw [if_pos rfl]
      rw [e]
      cases decide ((g 0).toInt ≤ y) <;> cases decide ((g k).toInt ≤ y) <;> rfl
    exact odB_0 h2
/-- between the first and the second, and so on -/
def pnt (L : Nat → Int32) : Nat → Nat → Bool
  | 0, _ => false
  | j + 1, x => pnt L j x || (decide ((L (2 * j)).toInt < (x : Int)) && decide ((x : Int) ≤ (L (2 * j + 1)).toInt))
theorem pnt_le {L : Nat → Int32} {m j x : Nat} (h : srt keyI L m) (hj : 2 * j ≤ m) (hp : pnt L j x = true) : ∃ i, i < 2 * j ∧ (x : Int) ≤ (L i).toInt := by
  induction j with
  | zero => cases hp
  | succ j ih =>
    simp only [pnt, Bool.or_eq_true, Bool.and_eq_true, decide_eq_true_eq] at hp
    rcases hp with q | q
    · obtain ⟨i, h1, h2⟩ := ih (by omega) q
      exact ⟨i, by omega, h2⟩
    · exact ⟨2 * j + 1, by omega, q.2⟩
theorem pnt_par {L : Nat → Int32} {m x : Nat} (h : srt keyI L m) : ∀ j, 2 * j ≤ m → pnt L j x = odB (cnt (fun i => decide ((L i).toInt < (x : Int))) (2 * j)) := by
  intro j
  induction j with
  | zero => intro _; rfl
  | succ j ih =>
    intro hj
    have e : 2 * (j + 1) = 2 * j + 1 + 1 := by omega
    rw [e]
    simp only [cnt, pnt]
    rw [ih (by omega)]
    have hs : (L (2 * j)).toInt ≤ (L (2 * j + 1)).toInt := h (2 * j) (2 * j + 1) (by omega) (by omega)
    by_cases q1 : (L (2 * j)).toInt < (x : Int)
    · have hall : cnt (fun i => decide ((L i).toInt < (x : Int))) (2 * j) = 2 * j := cnt_all (fun i hi => by
        have : (L i).toInt ≤ (L (2 * j)).toInt := h i (2 * j) (by omega) (by omega)
        exact decide_eq_true (by omega))
      rw [hall, decide_eq_true q1, odB_f (a := 2 * j) (by omega)]
      by_cases q2 : (L (2 * j + 1)).toInt < (x : Int)
      · rw [decide_eq_true q2, decide_eq_false (show ¬ (x : Int) ≤ (L (2 * j + 1)).toInt by omega), odB_f (by show (2 * j + 1 + 1) % 2 = 0; omega)]
        rfl
      · rw [decide_eq_false q2, decide_eq_true (show (x : Int) ≤ (L (2 * j + 1)).toInt by omega), odB_t (by show (2 * j + 1 + 0) % 2 = 1; omega)]
        rfl
    · have q2 : ¬ (L (2 * j + 1)).toInt < (x : Int) := by omega
      rw [decide_eq_false q1, decide_eq_false q2, Bool.false_and, Bool.or_false]
      rfl
theorem cnt_not {p : Nat → Bool} (n : Nat) : cnt p n + cnt (fun i => !p i) n = n := by
  induction n with
  | zero => rfl
  | succ n ih =>
    simp only [cnt]
    cases p n <;> simp <;> omega
theorem cnt_or {p q : Nat → Bool} {n : Nat} (h : ∀ i, i < n → p i = true → q i = false) : cnt (fun i => p i || q i) n = cnt p n + cnt q n := by
  induction n with
  | zero => rfl
  | succ n ih =>
    simp only [cnt]
    rw [ih (fun i hi => h i (by omega))]
    have := h n (by omega)
    cases hp : p n
    · simp
      omega
    · rw [this hp]
      simp
      omega
theorem cnt_pre {p q : Nat → Bool} {m b : Nat} (hb : b ≤ m) (h1 : ∀ i, i < b → p i = q i) (h2 : ∀ i, b ≤ i → i < m → p i = false) : cnt p m = cnt q b := by
  induction m with
  | zero =>
    have : b = 0 := by omega
    subst this
    rfl
  | succ m ih =>
    by_cases e : b = m + 1
    · subst e
      exact cnt_congr h1
    · simp only [cnt]
      rw [ih (by omega) (fun i hi hm => h2 i hi (by omega)), h2 m (by omega) (by omega)]
      rfl
def totC (P : Nat → Nat → Bool) (w : Nat) : Nat → Nat
  | 0 => 0
  | y + 1 => totC P w y + cnt (P y) w
def insF (f g : Nat → Int32) (n y x : Nat) : Bool := insB f g n (x : Int) (y : Int) n
/-- the edges that were begun, of which those that haven't ended are active -/
def wI (g : Nat → Int32) (n : Nat) (t : Nat → Int32) (m yy bg na : Nat) (A : Nat → Int32) : Prop := bg ≤ m ∧ na ≤ bg ∧ (∀ i, i < bg → keyT g n (t i) ≤ (yy : Int)) ∧ tOK A na n ∧ (∀ i, i < na → keyT g n (A i) ≤ (yy : Int)) ∧ ∀ P : Nat → Bool, cnt (fun i => hiQ g n yy (tN A i) && P (tN A i)) na = cnt (fun i => hiQ g n yy (tN t i) && P (tN t i)) bg
theorem wI_0 {g : Nat → Int32} {n : Nat} {t : Nat → Int32} {m : Nat} {A : Nat → Int32} : wI g n t m 0 0 0 A := ⟨Nat.zero_le _, Nat.le_refl _, fun i h => absurd h (Nat.not_lt_zero i), fun i h => absurd h (Nat.not_lt_zero i), fun i h => absurd h (Nat.not_lt_zero i), fun P => (show (0 : Nat) = 0 from rfl)⟩
theorem wI_add {g : Nat → Int32} {n : Nat} {t : Nat → Int32} {m yy bg na : Nat} {A : Nat → Int32} (h : wI g n t m yy bg na A) (hb : bg < m) (hT : tblI g n t m n) (hk : (g (loV g n (tN t bg))).toInt ≤ (yy : Int)) : wI g n t m yy (bg + 1) (na + 1) (upd A na (t bg)) := by
  obtain ⟨h1, h2, h3, h4, h5, h6⟩ := h
  have e : ∀ i, i < na → upd A na (t bg) i = A i := fun i hi => pk_un (by omega)
  have eN : ∀ i, i < na → tN (upd A na (t bg)) i = tN A i := fun i hi => by unfold tN; rw [e i hi]
  have eT : tN (upd A na (t bg)) na = tN t bg := by unfold tN; rw [pk_us]
  refine ⟨by omega, by omega, fun i hi => ?_, fun i hi => ?_, fun i hi => ?_, fun P => ?_⟩
  · by_cases q : i = bg
    · rw [q]
      exact hk
    · exact h3 i (by omega)
  · by_cases q : i = na
    · rw [q, eT, pk_us]
      exact hT.2.2.1 bg hb
    · rw [eN i (by omega), e i (by omega)]
      exact h4 i (by omega)
  · by_cases q : i = na
    · rw [q, pk_us]
      exact hk
    · rw [e i (by omega)]
      exact h5 i (by omega)
  · simp only [cnt]
    rw [cnt_congr (q := fun i => hiQ g n yy (tN A i) && P (tN A i)) (fun i hi => by rw [eN i hi]), h6 P, eT]
/-- all that are met by the line -/
theorem wI_act {g : Nat → Int32} {n : Nat} {t : Nat → Int32} {m yy bg na : Nat} {A : Nat → Int32} (h : wI g n t m yy bg na A) (hT : tblI g n t m n) (he : m ≤ bg ∨ (bg < m ∧ (yy : Int) < keyT g n (t bg))) (P : Nat → Bool) : cnt (fun i => hiQ g n yy (tN A i) && P (tN A i)) na = cnt (fun k => actB g n yy k && P k) n := by
  obtain ⟨h1, h2, h3, h4, h5, h6⟩ := h
  obtain ⟨t1, t2, t3, t4, t5⟩ := hT
  rw [h6 P]
  have e1 := t5 (fun k => actB g n yy k && P k)
  rw [cnt_congr (p := fun j => nlv g n j && (actB g n yy j && P j)) (q := fun k => actB g n yy k && P k) (fun k _ => ?_)] at e1
  · rw [← e1]
    refine (cnt_pre h1 (fun i hi => ?_) (fun i hi hm => ?_)).symm
    · have := h3 i hi
      rw [keyT_t] at this
      unfold actB
      rw [decide_eq_true this]
      rfl
    · have hk : (yy : Int) < keyT g n (t i) := by
        rcases he with q | ⟨q1, q2⟩
        · omega
        · have := t4 bg i hi hm
          omega
      rw [keyT_t] at hk
      unfold actB
      rw [decide_eq_false (by omega)]
      rfl
  · cases ha : actB g n yy k with
    | false => simp
    | true =>
      obtain ⟨a1, a2⟩ := actB_iff.mp ha
      have hne : ¬ g k = g (nxt n k) := by
        intro q
        have q2 : (g k).toInt = (g (nxt n k)).toInt := by rw [← q]
        rcases lohi (g := g) (n := n) (k := k) with ⟨l1, l2, l3⟩ | ⟨l1, l2, l3⟩ <;> rw [l1] at a1 <;> rw [l2] at a2 <;> omega
      simp [nlv, hne]
/-- those that end here are gone -/
def gI (f g : Nat → Int32) (n yy na : Nat) (A0 : Nat → Int32) (k lf : Nat) (A L : Nat → Int32) : Prop := k ≤ na ∧ lf ≤ k ∧ (∀ i, k ≤ i → A i = A0 i) ∧ tOK A lf n ∧ (∀ i, i < lf → actB g n yy (tN A i) = true ∧ L i = lbI f g n (tN A i) yy) ∧ ∀ P : Nat → Bool, cnt (fun i => P (tN A i)) lf = cnt (fun i => hiQ g n yy (tN A0 i) && P (tN A0 i)) k
theorem gI_0 {f g : Nat → Int32} {n yy na : Nat} {A0 L : Nat → Int32} : gI f g n yy na A0 0 0 A0 L := ⟨Nat.zero_le _, Nat.le_refl _, fun _ _ => rfl, fun i h => absurd h (Nat.not_lt_zero i), fun i h => absurd h (Nat.not_lt_zero i), fun P => (show (0 : Nat) = 0 from rfl)⟩
theorem gI_skip {f g : Nat → Int32} {n yy na : Nat} {A0 : Nat → Int32} {k lf : Nat} {A L : Nat → Int32} (h : gI f g n yy na A0 k lf A L) (hk : k < na) (hh : (g (hiV g n (tN A0 k))).toInt ≤ (yy : Int)) : gI f g n yy na A0 (k + 1) lf A L := by
  obtain ⟨h1, h2, h3, h4, h5, h6⟩ := h
  refine ⟨by omega, by omega, fun i hi => h3 i (by omega), h4, h5, fun P => ?_⟩
  simp only [cnt]
  have e : hiQ g n yy (tN A0 k) = false := decide_eq_false (by omega)
  rw [h6 P, e]
  rfl
theorem gI_keep {f g : Nat → Int32} {n yy na : Nat} {A0 : Nat → Int32} {k lf : Nat} {A L : Nat → Int32} (h : gI f g n yy na A0 k lf A L) (hk : k < na) (ht : A0 k = nI (tN A0 k) ∧ tN A0 k < n) (hl : (g (loV g n (tN A0 k))).toInt ≤ (yy : Int)) (hh : (yy : Int) < (g (hiV g n (tN A0 k))).toInt) : gI f g n yy na A0 (k + 1) (lf + 1) (upd A lf (A0 k)) (upd L lf (lbI f g n (tN A0 k) yy)) := by
  obtain ⟨h1, h2, h3, h4, h5, h6⟩ := h
  have e : ∀ i, i ≠ lf → upd A lf (A0 k) i = A i := fun i hi => pk_un hi
  have eN : ∀ i, i < lf → tN (upd A lf (A0 k)) i = tN A i := fun i hi => by unfold tN; rw [e i (by omega)]
  have eT : tN (upd A lf (A0 k)) lf = tN A0 k := by unfold tN; rw [pk_us]
  refine ⟨by omega, by omega, fun i hi => ?_, fun i hi => ?_, fun i hi => ?_, fun P => ?_⟩
  · rw [e i (by omega)]
    exact h3 i (by omega)
  · by_cases q : i = lf
    · rw [q, eT, pk_us]
      exact ht
    · rw [eN i (by omega), e i q]
      exact h4 i (by omega)
  · by_cases q : i = lf
    · rw [q, eT, pk_us]
      exact ⟨actB_iff.mpr ⟨hl, hh⟩, rfl⟩
    · rw [eN i (by omega), pk_un q]
      exact h5 i (by omega)
  · simp only [cnt]
    have e2 : hiQ g n yy (tN A0 k) = true := decide_eq_true hh
    rw [cnt_congr (q := fun i => P (tN A i)) (fun i hi => by rw [eN i hi]), h6 P, eT, e2]
    rfl
theorem sI_all {f g f0 g0 : Nat → Int32} {m : Nat} (h : ∀ P : Int32 → Bool, cnt (fun i => P (f i)) m = cnt (fun i => P (f0 i)) m) (Q : Int32 → Bool) (h0 : ∀ i, i < m → Q (f0 i) = true) : ∀ i, i < m → Q (f i) = true := by
  refine all_cnt (p := fun i => Q (f i)) ?_
  rw [h Q]
  exact cnt_all h0
theorem lbI_toInt {f g : Nat → Int32} {n k : Nat} {y : Int} (nn : ∀ i, i < n → Nr (f i) ∧ Nr (g i)) (hk : k < n) (h : actB g n y k = true) : (lbI f g n k y).toInt = lbZ f g n k y ∧ -16385 ≤ (lbI f g n k y).toInt ∧ (lbI f g n k y).toInt ≤ 16384 := by
  obtain ⟨h1, h2⟩ := actB_iff.mp h
  have h3 := lbZ_nr nn hk h1 h2
  have e : (lbI f g n k y).toInt = lbZ f g n k y := by
    unfold lbI
    rw [Int32.toInt_ofInt_of_le (by omega) (by omega)]
  rw [e]
  exact ⟨rfl, h3⟩
/-- a line: its sorted last places say what is inside; what is active for the next -/
theorem row_all {f g : Nat → Int32} {n : Nat} {t : Nat → Int32} {m yy bg na lf k : Nat} {A0 A L A2 L2 : Nat → Int32} (nn : ∀ i, i < n → Nr (f i) ∧ Nr (g i)) (hw : wI g n t m yy bg na A0) (hT : tblI g n t m n) (he : m ≤ bg ∨ (bg < m ∧ (yy : Int) < keyT g n (t bg))) (hg : gI f g n yy na A0 k lf A L) (hk : na ≤ k) (hs : srt keyI L2 lf) (hI : sI A2 L2 lf A L) :
    lf % 2 = 0 ∧ (∀ i, i < lf → -16385 ≤ (L2 i).toInt ∧ (L2 i).toInt ≤ 16384) ∧ (∀ x, pnt L2 (lf / 2) x = insF f g n yy x) ∧ wI g n t m (yy + 1) bg lf A2 := by
  have hkn : k = na := by have := hg.1; omega
  subst hkn
  obtain ⟨g1, g2, g3, g4, g5, g6⟩ := hg
  have hact : ∀ P : Nat → Bool, cnt (fun i => P (tN A i)) lf = cnt (fun k => actB g n yy k && P k) n := fun P => (g6 P).trans (wI_act hw hT he P)
  have heven : lf % 2 = 0 := by
    have h1 := hact (fun _ => true)
    rw [cnt_all (fun _ _ => rfl), cnt_congr (q := actB g n yy) (fun k _ => Bool.and_true _)] at h1
    rw [h1]
    exact act_even
  have hLb : ∀ i, i < lf → (decide (-16385 ≤ (L i).toInt) && decide ((L i).toInt ≤ 16384)) = true := by
    intro i hi
    obtain ⟨a1, a2⟩ := g5 i hi
    rw [a2]
    have := (lbI_toInt nn (g4 i hi).2 a1).2
    simp only [Bool.and_eq_true, decide_eq_true_eq]
    exact this
  refine ⟨heven, fun i hi => ?_, fun x => ?_, ?_⟩
  · have := sI_all (f := L2) (g := L2) (f0 := L) (g0 := L) hI.2 (fun v => decide (-16385 ≤ v.toInt) && decide (v.toInt ≤ 16384)) hLb i hi
    simp only [Bool.and_eq_true, decide_eq_true_eq] at this
    exact this
  · rw [pnt_par hs (lf / 2) (by omega), show 2 * (lf / 2) = lf by omega]
    unfold insF
    rw [ins_cnt]
    have c1 : cnt (fun i => decide ((x : Int) ≤ (L2 i).toInt)) lf = cnt (crs f g n (x : Int) (yy : Int)) n := by
      rw [hI.2 (fun v => decide ((x : Int) ≤ v.toInt)), cnt_congr (q := fun i => decide ((x : Int) ≤ lbZ f g n (tN A i) yy)) (fun i hi => ?_), hact (fun k => decide ((x : Int) ≤ lbZ f g n k yy))]
      · exact cnt_congr (fun k _ => crs_act.symm)
      · obtain ⟨a1, a2⟩ := g5 i hi
        show decide ((x : Int) ≤ (L i).toInt) = _
        rw [a2, (lbI_toInt nn (g4 i hi).2 a1).1]
    have c2 := cnt_not (p := fun i => decide ((L2 i).toInt < (x : Int))) lf
    rw [cnt_congr (p := fun i => !decide ((L2 i).toInt < (x : Int))) (q := fun i => decide ((x : Int) ≤ (L2 i).toInt)) (fun i _ => ?_), c1] at c2
    · exact odB_c (by omega)
    · rw [← decide_not]
      exact decide_eq_decide.mpr (by omega)
  · obtain ⟨w1, w2, w3, w4, w5, w6⟩ := hw
    refine ⟨w1, by omega, fun i hi => ?_, fun i hi => ?_, fun i hi => ?_, fun P => ?_⟩
    · have := w3 i hi
      omega
    · have := sI_all (f := A2) (g := A2) (f0 := A) (g0 := A) hI.1 (fun v => decide (v = nI v.toNatClampNeg) && decide (v.toNatClampNeg < n)) (fun i hi => by
        have := g4 i hi
        unfold tN at this
        simp only [Bool.and_eq_true, decide_eq_true_eq]
        exact this) i hi
      simp only [Bool.and_eq_true, decide_eq_true_eq] at this
      exact this
    · have := sI_all (f := A2) (g := A2) (f0 := A) (g0 := A) hI.1 (fun v => decide (keyT g n v ≤ (yy : Int))) (fun i hi => decide_eq_true (actB_iff.mp (g5 i hi).1).1) i hi
      have := of_decide_eq_true this
      omega
    · have e1 := hI.1 (fun v => hiQ g n ((yy + 1 : Nat) : Int) v.toNatClampNeg && P v.toNatClampNeg)
      have e2 := g6 (fun k => hiQ g n ((yy + 1 : Nat) : Int) k && P k)
      have e3 := w6 (fun k => hiQ g n ((yy + 1 : Nat) : Int) k && P k)
      refine (e1.trans (e2.trans e3)).trans (cnt_congr (fun i _ => ?_))
      show (hiQ g n yy (tN t i) && (hiQ g n ((yy + 1 : Nat) : Int) (tN t i) && P (tN t i))) = (hiQ g n ((yy + 1 : Nat) : Int) (tN t i) && P (tN t i))
      cases hq : hiQ g n ((yy + 1 : Nat) : Int) (tN t i) with
      | false => simp
      | true =>
        have := of_decide_eq_true hq
        have h9 : hiQ g n yy (tN t i) = true := decide_eq_true (by omega)
        rw [h9]
        rfl
/-- the pairs of a line are painted -/
def qI (w h yy : Nat) (col : Int32) (L : Nat → Int32) (lf pd0 : Nat) (f0 : Nat → Int32) (j pd : Nat) (f : Nat → Int32) : Prop := 2 * j ≤ lf ∧ pd = pd0 + cnt (pnt L j) w ∧ ∀ r x, r < h → x < w → f (w * r + x) = if r = yy ∧ pnt L j x = true then col else f0 (w * r + x)
theorem qI_0 {w h yy : Nat} {col : Int32} {L : Nat → Int32} {lf pd0 : Nat} {f0 : Nat → Int32} : qI w h yy col L lf pd0 f0 0 pd0 f0 := by
  refine ⟨Nat.zero_le _, ?_, fun r x _ _ => ?_⟩
  · rw [cnt_none (p := pnt L 0) (fun i _ => rfl)]
    rfl
  · rw [if_neg]
    rintro ⟨-, q⟩
    cases q
theorem qI_step {w h yy : Nat} {col : Int32} {L : Nat → Int32} {lf pd0 : Nat} {f0 : Nat → Int32} {j pd : Nat} {f f1 : Nat → Int32} (hq : qI w h yy col L lf pd0 f0 j pd f) (hj : 2 * j + 1 < lf) (hs : srt keyI L lf) (hb : ∀ i, i < lf → -16385 ≤ (L i).toInt ∧ (L i).toInt ≤ 16384) (hp : ∀ r x, r < h → x < w → f1 (w * r + x) = if r = yy ∧ inR (L (2 * j) + 1) (L (2 * j + 1)) x = true then col else f (w * r + x)) : qI w h yy col L lf pd0 f0 (j + 1) (pd + cnt (inR (L (2 * j) + 1) (L (2 * j + 1))) w) f1 := by
  obtain ⟨h1, h2, h3⟩ := hq
  have hin : ∀ x : Nat, inR (L (2 * j) + 1) (L (2 * j + 1)) x = (decide ((L (2 * j)).toInt < (x : Int)) && decide ((x : Int) ≤ (L (2 * j + 1)).toInt)) := by
    intro x
    have := hb (2 * j) (by omega)
    have e1 : (1 : Int32).toInt = 1 := by decide
    unfold inR
    rw [Int32.toInt_add, e1, m32 (by omega) (by omega)]
    congr 1
  refine ⟨by omega, ?_, fun r x hr hx => ?_⟩
  · have : cnt (pnt L (j + 1)) w = cnt (pnt L j) w + cnt (inR (L (2 * j) + 1) (L (2 * j + 1))) w := by
      rw [← cnt_or (p := pnt L j) (q := inR (L (2 * j) + 1) (L (2 * j + 1))) (fun x _ hp => ?_)]
      · refine cnt_congr (fun x _ => ?_)
        show pnt L (j + 1) x = _
        simp only [pnt]
        rw [hin x]
      · obtain ⟨i, i1, i2⟩ := pnt_le hs h1 hp
        have h9 : (L i).toInt ≤ (L (2 * j)).toInt := hs i (2 * j) (by omega) (by omega)
        rw [hin x, decide_eq_false (by omega)]
        rfl
    rw [this]
    omega
  · rw [hp r x hr hx, h3 r x hr hx, hin x]
    simp only [pnt]
    by_cases q : r = yy
    · by_cases q1 : pnt L j x = true
      · simp [q, q1]
      · simp [q, q1]
    · simp [q]
def frI (f g : Nat → Int32) (n w h yy : Nat) (col : Int32) (fr fr0 : Nat → Int32) : Prop := ∀ j x, j < h → x < w → fr (w * j + x) = if j < yy ∧ insF f g n j x = true then col else fr0 (w * j + x)
theorem frI_0 {f g : Nat → Int32} {n w h : Nat} {col : Int32} {fr0 : Nat → Int32} : frI f g n w h 0 col fr0 fr0 := fun j x _ _ => by
  rw [if_neg]
  rintro ⟨q, -⟩
  exact absurd q (Nat.not_lt_zero j)
theorem row_fin {f g : Nat → Int32} {n w h yy : Nat} {col : Int32} {L : Nat → Int32} {lf pd0 : Nat} {fr0 fr : Nat → Int32} {j pd : Nat} {fr1 : Nat → Int32} (hq : qI w h yy col L lf pd0 fr j pd fr1) (hj : lf ≤ 2 * j + 1) (he : lf % 2 = 0) (hp : ∀ x, pnt L (lf / 2) x = insF f g n yy x) (h1 : pd0 = totC (insF f g n) w yy) (h2 : frI f g n w h yy col fr fr0) : pd = totC (insF f g n) w (yy + 1) ∧ frI f g n w h (yy + 1) col fr1 fr0 := by
  obtain ⟨q1, q2, q3⟩ := hq
  have ej : lf / 2 = j := by omega
  rw [ej] at hp
  refine ⟨?_, fun r x hr hx => ?_⟩
  · simp only [totC]
    rw [q2, h1, cnt_congr (fun x _ => hp x)]
  · rw [q3 r x hr hx, h2 r x hr hx, hp x]
    by_cases a : r = yy
    · subst a
      by_cases b : insF f g n r x = true
      · rw [if_pos ⟨rfl, b⟩, if_pos ⟨by omega, b⟩]
      · rw [if_neg (fun z => b z.2), if_neg (fun z => b z.2), if_neg (fun z => b z.2)]
    · rw [if_neg (fun z => a z.1)]
      refine ifc ⟨fun z => ⟨by omega, z.2⟩, fun z => ⟨by omega, z.2⟩⟩
theorem leY {v : Int32} {yy : Nat} (h : ¬ nI yy < v) (hy : yy < 2 ^ 31) : v.toInt ≤ (yy : Int) := by
  have := ge_of_nlt h
  rw [nI_toInt hy] at this
  exact this
theorem ltY {v : Int32} {yy : Nat} (h : nI yy < v) (hy : yy < 2 ^ 31) : (yy : Int) < v.toInt := by
  have := lt_of_lt h
  rw [nI_toInt hy] at this
  exact this
theorem upd_or {A : Nat → Int32} {k lf : Nat} {v : Int32} (h : A k = v) : upd A lf v k = v := by
  rw [upd_eq]
  by_cases e : k = lf
  · rw [if_pos e]
  · rw [if_neg e, h]
end
section
/-! PolygonFrame: filling -/
set_option maxHeartbeats 4000000 in
set_option maxRecDepth 100000 in
/-- fill(colour) -/
theorem mtX1_fill (l : Launch) (D : va_G) (d : ClassId) (a : Nat → Nat) (px py qx qy fr tb ac la sx sy : Nat → Int32) (w h C n : Nat) (x0 y0 x1 y1 : Int32) (mn : Nat) (col : Int32) (hn : n ≤ 60) (hw : w ≤ 24) (hh : h ≤ 24) (nn : ∀ i, i < n → Nr (px i) ∧ Nr (py i)) (sz : Nat) : Met l yX1_fill (ws_ yX1_fill cX1_fill 9 (some .int)) (rm_ 3 68) (PcM [.ref (a 0), .int col] D (wP d a px py qx qy fr tb ac la sx sy w h C n x0 y0 x1 y1 mn) [(d, .int)] sz) (va_Qi (fun (r : Int32) (u_ : ((Nat → Int32) × (Nat → Int32) × (Nat → Int32) × (Nat → Int32))) => r = nI (totC (insF px py n) w h) ∧ ∀ j x, j < h → x < w → u_.1 (w * j + x) = if insF px py n j x = true then col else fr (w * j + x)) (fun (u_ : ((Nat → Int32) × (Nat → Int32) × (Nat → Int32) × (Nat → Int32))) t => QB D [(d, .int)] (va_A (wP d a px py qx qy fr tb ac la sx sy w h C n x0 y0 x1 y1 mn) sz) (wP d a px py qx qy u_.1 u_.2.1 u_.2.2.1 u_.2.2.2 sx sy w h C n x0 y0 x1 y1 mn) t) (va_A (wP d a px py qx qy fr tb ac la sx sy w h C n x0 y0 x1 y1 mn) sz)) 0 0 (va_A (wP d a px py qx qy fr tb ac la sx sy w h C n x0 y0 x1 y1 mn) sz) := by
  refine xMetM (Qf := fun A => (va_Qi (fun (r : Int32) (u_ : ((Nat → Int32) × (Nat → Int32) × (Nat → Int32) × (Nat → Int32))) => r = nI (totC (insF px py n) w h) ∧ ∀ j x, j < h → x < w → u_.1 (w * j + x) = if insF px py n j x = true then col else fr (w * j + x)) (fun (u_ : ((Nat → Int32) × (Nat → Int32) × (Nat → Int32) × (Nat → Int32))) t => QB D [(d, .int)] A (wP d a px py qx qy u_.1 u_.2.1 u_.2.2.1 u_.2.2.2 sx sy w h C n x0 y0 x1 y1 mn) t) A)) (by decide) (Nat.le_of_ble_eq_true rfl) ?_
  intro p e s m below meth c ls A H locs S hr hlk hl hP hK hD hS hA hin
  have S : CallFix p m c cX1_fill 9 s _ lw_all RX1 := S
  have hx := S.1
  have hb := S.2.1
  have hl : lv_has ls 9 [(0, .ref (a 0)), (1, .int col)] := hl
  refine lv_aload_n hx hb dX1_fill_0 rfl (lv_at hl 0 rfl) ?_
  refine xcMi [] S (mtX1_makeTable l D d a px py qx qy fr tb ac la sx sy w h C n x0 y0 x1 y1 mn  hn H.size) q166 viX1_makeTable ⟨rfl, rfl⟩ ⟨Nat.le_of_ble_eq_true rfl, Nat.le_of_ble_eq_true rfl⟩ ⟨Nat.le_of_ble_eq_true rfl, Nat.le_of_ble_eq_true rfl⟩ hK hP hD hS hA (ci := 0) (q0 := 0) rfl rfl hl.1 (rest := []) rfl (Nat.le_of_ble_eq_true rfl) dX1_fill_1 (fun r_1 u_ H locs h_ hP hD hS => ?_)
  obtain ⟨tb_1, rfl⟩ : ∃ z, z = u_ := ⟨_, rfl⟩
  have hP : va_P D vwCl (wP d a px py qx qy fr tb_1 ac la sx sy w h C n x0 y0 x1 y1 mn) H := hP
  have hD : va_D A (wP d a px py qx qy fr tb_1 ac la sx sy w h C n x0 y0 x1 y1 mn) := hD
  obtain ⟨E, h0_, hT_⟩ := h_
  subst h0_
  have hT_ : tblI py n tb_1 E n := hT_
  have hE_ := hT_.1
  refine lv_istore_n (lv' := [(2, .int (nI E)), (0, .ref (a 0)), (1, .int col)]) hx hb dX1_fill_4 rfl hl (by decide) rfl (fun ls hl => ?_)
  refine lv_iconst (v := 0) hx hb dX1_fill_5 (by decide) ?_
  refine lv_istore_n (lv' := [(3, .int 0), (2, .int (nI E)), (0, .ref (a 0)), (1, .int col)]) hx hb dX1_fill_6 rfl hl (by decide) rfl (fun ls hl => ?_)
  refine lv_iconst (v := 0) hx hb dX1_fill_7 (by decide) ?_
  refine lv_istore (lv' := [(4, .int 0), (3, .int 0), (2, .int (nI E)), (0, .ref (a 0)), (1, .int col)]) hx hb dX1_fill_8 hl (by decide) rfl (fun ls hl => ?_)
  refine lv_iconst (v := 0) hx hb dX1_fill_10 (by decide) ?_
  refine lv_istore (lv' := [(5, .int 0), (4, .int 0), (3, .int 0), (2, .int (nI E)), (0, .ref (a 0)), (1, .int col)]) hx hb dX1_fill_11 hl (by decide) rfl (fun ls hl => ?_)
  refine lv_iconst (v := 0) hx hb dX1_fill_13 (by decide) ?_
  refine lv_istore (lv' := [(6, .int 0), (5, .int 0), (4, .int 0), (3, .int 0), (2, .int (nI E)), (0, .ref (a 0)), (1, .int col)]) hx hb dX1_fill_14 hl (by decide) rfl (fun ls hl => ?_)
  refine xloop (α := Nat × Nat × Nat × Nat × (Nat → Int32) × (Nat → Int32) × (Nat → Int32)) (fun x_ => h - x_.1) (fun x_ H locs g_ => ∃ ls, g_ = F0 m 16 ls [] ∧ lv_has ls 9 [(0, .ref (a 0)), (1, .int col), (2, .int (nI E)), (3, .int (nI x_.2.1)), (4, .int (nI x_.2.2.1)), (5, .int (nI x_.2.2.2.1)), (6, .int (nI x_.1))] ∧ va_P D vwCl (wP d a px py qx qy x_.2.2.2.2.1 tb_1 x_.2.2.2.2.2.1 x_.2.2.2.2.2.2 sx sy w h C n x0 y0 x1 y1 mn) H ∧ va_D A (wP d a px py qx qy x_.2.2.2.2.1 tb_1 x_.2.2.2.2.2.1 x_.2.2.2.2.2.2 sx sy w h C n x0 y0 x1 y1 mn) ∧ va_S A s.heap H locs ∧ (wI py n tb_1 E x_.1 x_.2.1 x_.2.2.1 x_.2.2.2.2.2.1 ∧ x_.1 ≤ h ∧ x_.2.2.2.1 = totC (insF px py n) w x_.1 ∧ frI px py n w h x_.1 col x_.2.2.2.2.1 fr)) ?_ (0, 0, 0, 0, fr, ac, la) ⟨ls, rfl, (lv_sub hl [5, 6, 4, 3, 2, 1, 0] rfl), hP, hD, hS, (show wI py n tb_1 E 0 0 0 ac ∧ 0 ≤ h ∧ 0 = totC (insF px py n) w 0 ∧ frI px py n w h 0 col fr fr from ⟨wI_0, Nat.zero_le _, rfl, frI_0⟩)⟩
  intro x_ H locs g_ hJ_ ih_16
  obtain ⟨yy, bg, na, pd, f, aa, ll⟩ := x_
  obtain ⟨ls, rfl, hl, hP, hD, hS, hI_16⟩ := hJ_
  have hl : lv_has ls 9 [(0, .ref (a 0)), (1, .int col), (2, .int (nI E)), (3, .int (nI bg)), (4, .int (nI na)), (5, .int (nI pd)), (6, .int (nI yy))] := hl
  have hP : va_P D vwCl (wP d a px py qx qy f tb_1 aa ll sx sy w h C n x0 y0 x1 y1 mn) H := hP
  have hD : va_D A (wP d a px py qx qy f tb_1 aa ll sx sy w h C n x0 y0 x1 y1 mn) := hD
  have hI_16 : wI py n tb_1 E yy bg na aa ∧ yy ≤ h ∧ pd = totC (insF px py n) w yy ∧ frI px py n w h yy col f fr := hI_16
  have hyh_ := hI_16.2.1
  refine lv_iload hx hb dX1_fill_16 (lv_at hl 6 rfl) ?_
  refine lv_aload_n hx hb dX1_fill_18 rfl (lv_at hl 0 rfl) ?_
  refine xget1 S hK hP 0 rfl 9 (by decide) q39 rfl (v := .int (nI h)) rfl dX1_fill_19 ?_
  refine lv_icmp_ge (tgt := 216) hx hb dX1_fill_22 (by decide) (fun c_22 => ?_) (fun c_22 => ?_)
  · have c_22 : h ≤ yy := xle (a := h) (b := yy) c_22 (by omega) (by omega)
    have e_ : yy = h := by omega
    have hF_ := hI_16.2.2
    rw [e_] at hF_
    refine lv_iload hx hb dX1_fill_216 (lv_at hl 5 rfl) ?_
    exact xretMi hx hb hr hlk hK hS dX1_fill_218 (rfl) (f, tb_1, aa, ll) hP hD (⟨by rw [hF_.1], fun j x hj hx => (hF_.2 j x hj hx).trans (ifc ⟨fun z => z.2, fun z => ⟨hj, z⟩⟩)⟩)
  · have c_22 : h > yy := xnle (a := h) (b := yy) c_22 (by omega) (by omega)
    refine xjoin (α := Nat × Nat × (Nat → Int32)) (fun x_ H locs g_ => ∃ ls, g_ = F0 m 72 ls [] ∧ lv_has ls 9 [(0, .ref (a 0)), (1, .int col), (2, .int (nI E)), (3, .int (nI x_.1)), (4, .int (nI x_.2.1)), (5, .int (nI pd)), (6, .int (nI yy))] ∧ va_P D vwCl (wP d a px py qx qy f tb_1 x_.2.2 ll sx sy w h C n x0 y0 x1 y1 mn) H ∧ va_D A (wP d a px py qx qy f tb_1 x_.2.2 ll sx sy w h C n x0 y0 x1 y1 mn) ∧ va_S A s.heap H locs ∧ (wI py n tb_1 E yy x_.1 x_.2.1 x_.2.2 ∧ (E ≤ x_.1 ∨ (x_.1 < E ∧ (yy : Int) < keyT py n (tb_1 x_.1))))) (fun jn_72 => ?_) ?_
    · refine xloop (α := Nat × Nat × (Nat → Int32)) (fun x_ => E - x_.1) (fun x_ H locs g_ => ∃ ls, g_ = F0 m 25 ls [] ∧ lv_has ls 9 [(0, .ref (a 0)), (1, .int col), (2, .int (nI E)), (3, .int (nI x_.1)), (4, .int (nI x_.2.1)), (5, .int (nI pd)), (6, .int (nI yy))] ∧ va_P D vwCl (wP d a px py qx qy f tb_1 x_.2.2 ll sx sy w h C n x0 y0 x1 y1 mn) H ∧ va_D A (wP d a px py qx qy f tb_1 x_.2.2 ll sx sy w h C n x0 y0 x1 y1 mn) ∧ va_S A s.heap H locs ∧ (wI py n tb_1 E yy x_.1 x_.2.1 x_.2.2)) ?_ (bg, na, aa) ⟨ls, rfl, (lv_sub hl [0, 1, 2, 3, 4, 5, 6] rfl), hP, hD, hS, (show wI py n tb_1 E yy bg na aa from hI_16.1)⟩
      intro x_ H locs g_ hJ_ ih_25
      obtain ⟨bg2, na2, aa2⟩ := x_
      obtain ⟨ls, rfl, hl, hP, hD, hS, hI_25⟩ := hJ_
      have hl : lv_has ls 9 [(0, .ref (a 0)), (1, .int col), (2, .int (nI E)), (3, .int (nI bg2)), (4, .int (nI na2)), (5, .int (nI pd)), (6, .int (nI yy))] := hl
      have hP : va_P D vwCl (wP d a px py qx qy f tb_1 aa2 ll sx sy w h C n x0 y0 x1 y1 mn) H := hP
      have hD : va_D A (wP d a px py qx qy f tb_1 aa2 ll sx sy w h C n x0 y0 x1 y1 mn) := hD
      have hI_25 : wI py n tb_1 E yy bg2 na2 aa2 := hI_25
      have hbE_ := hI_25.1
      have hnb_ := hI_25.2.1
      refine lv_iload_n hx hb dX1_fill_25 rfl (lv_at hl 3 rfl) ?_
      refine lv_iload_n hx hb dX1_fill_26 rfl (lv_at hl 2 rfl) ?_
      refine lv_icmp_ge (tgt := 72) hx hb dX1_fill_27 (by decide) (fun c_27 => ?_) (fun c_27 => ?_)
      · have c_27 : E ≤ bg2 := xle (a := E) (b := bg2) c_27 (by omega) (by omega)
        exact jn_72 (bg2, na2, aa2) _ _ _ ⟨ls, rfl, (lv_sub hl [0, 1, 2, 3, 4, 5, 6] rfl), hP, hD, hS, (show wI py n tb_1 E yy bg2 na2 aa2 ∧ (E ≤ bg2 ∨ (bg2 < E ∧ (yy : Int) < keyT py n (tb_1 bg2))) from ⟨hI_25, Or.inl c_27⟩)⟩
      · have c_27 : E > bg2 := xnle (a := E) (b := bg2) c_27 (by omega) (by omega)
        refine lv_aload_n hx hb dX1_fill_30 rfl (lv_at hl 0 rfl) ?_
        refine xget1 S hK hP 0 rfl 1 (by decide) q31 rfl (v := .ref (a 2)) rfl dX1_fill_31 ?_
        refine lv_aload_n hx hb dX1_fill_34 rfl (lv_at hl 0 rfl) ?_
        refine lv_aload_n hx hb dX1_fill_35 rfl (lv_at hl 0 rfl) ?_
        refine xget1 S hK hP 0 rfl 5 (by decide) q35 rfl (v := .ref (a 6)) rfl dX1_fill_36 ?_
        refine lv_iload_n hx hb dX1_fill_39 rfl (lv_at hl 3 rfl) ?_
        refine xald (j := bg2) hx hb hK hP 6 0 rfl rfl (by decide) dX1_fill_40 (by omega) ?_
        obtain ⟨ht0_, ht1_⟩ := hT_.2.2.1 bg2 c_27
        have ht2_ := loV_lt (f := py) ht1_
        refine xtopi (y := nI (tN tb_1 bg2)) (ht0_) ?_
        refine xcRi [.int (nI (tN tb_1 bg2))] S (mtX1_lowOf l D d a px py qx qy f tb_1 aa2 ll sx sy w h C n x0 y0 x1 y1 mn (tN tb_1 bg2) (by omega) (by omega)) q150 viX1_lowOf ⟨rfl, rfl⟩ ⟨Nat.le_of_ble_eq_true rfl, Nat.le_of_ble_eq_true rfl⟩ ⟨Nat.le_of_ble_eq_true rfl, Nat.le_of_ble_eq_true rfl⟩ hK hP (ci := 0) (q0 := 0) rfl rfl hl.1 (rest := [.ref (a 2)]) rfl (Nat.le_of_ble_eq_true rfl) dX1_fill_41 (fun r_ h_ => ?_)
        obtain rfl := h_
        refine xald (j := loV py n (tN tb_1 bg2)) hx hb hK hP 2 0 rfl rfl (by decide) dX1_fill_44 (by omega) ?_
        refine lv_iload hx hb dX1_fill_45 (lv_at hl 6 rfl) ?_
        refine lv_icmp_gt (tgt := 72) hx hb dX1_fill_47 (by decide) (fun c_47 => ?_) (fun c_47 => ?_)
        · exact jn_72 (bg2, na2, aa2) _ _ _ ⟨ls, rfl, (lv_sub hl [0, 1, 2, 3, 4, 5, 6] rfl), hP, hD, hS, (show wI py n tb_1 E yy bg2 na2 aa2 ∧ (E ≤ bg2 ∨ (bg2 < E ∧ (yy : Int) < keyT py n (tb_1 bg2))) from ⟨hI_25, Or.inr ⟨c_27, ltY c_47 (by omega)⟩⟩)⟩
        · refine lv_aload_n hx hb dX1_fill_50 rfl (lv_at hl 0 rfl) ?_
          refine xget1 S hK hP 0 rfl 6 (by decide) q36 rfl (v := .ref (a 7)) rfl dX1_fill_51 ?_
          refine lv_iload hx hb dX1_fill_54 (lv_at hl 4 rfl) ?_
          refine lv_aload_n hx hb dX1_fill_56 rfl (lv_at hl 0 rfl) ?_
          refine xget1 S hK hP 0 rfl 5 (by decide) q35 rfl (v := .ref (a 6)) rfl dX1_fill_57 ?_
          refine lv_iload_n hx hb dX1_fill_60 rfl (lv_at hl 3 rfl) ?_
          refine xald (j := bg2) hx hb hK hP 6 0 rfl rfl (by decide) dX1_fill_61 (by omega) ?_
          refine xast (j := na2) hx hb hK hP hD hS 7 0 rfl rfl (by decide) dX1_fill_62 (by omega) (fun H locs hP hD hS => ?_)
          have hP : va_P D vwCl (wP d a px py qx qy f tb_1 (upd aa2 na2 (tb_1 bg2)) ll sx sy w h C n x0 y0 x1 y1 mn) H := hP
          have hD : va_D A (wP d a px py qx qy f tb_1 (upd aa2 na2 (tb_1 bg2)) ll sx sy w h C n x0 y0 x1 y1 mn) := hD
          refine lv_iinc (v := nI (na2 + 1)) (lv' := [(4, .int (nI (na2 + 1))), (0, .ref (a 0)), (1, .int col), (2, .int (nI E)), (3, .int (nI bg2)), (5, .int (nI pd)), (6, .int (nI yy))]) hx hb dX1_fill_63 hl (k := 4) rfl (nI_inc _) (by decide) rfl (fun ls hl => ?_)
          refine lv_iinc (v := nI (bg2 + 1)) (lv' := [(3, .int (nI (bg2 + 1))), (4, .int (nI (na2 + 1))), (0, .ref (a 0)), (1, .int col), (2, .int (nI E)), (5, .int (nI pd)), (6, .int (nI yy))]) hx hb dX1_fill_66 hl (k := 4) rfl (nI_inc _) (by decide) rfl (fun ls hl => ?_)
          refine lv_goto (tgt := 25) hx hb dX1_fill_69 (by decide) ?_
          exact ih_25 (bg2 + 1, na2 + 1, upd aa2 na2 (tb_1 bg2)) _ _ _ (by show E - (bg2 + 1) < E - bg2; omega) ⟨ls, rfl, (lv_sub hl [2, 3, 4, 0, 1, 5, 6] rfl), hP, hD, hS, (show wI py n tb_1 E yy (bg2 + 1) (na2 + 1) (upd aa2 na2 (tb_1 bg2)) from wI_add hI_25 c_27 hT_ (leY c_47 (by omega)))⟩
    · intro x_ H locs g_ hJ_
      obtain ⟨bg2, na2, aa2⟩ := x_
      obtain ⟨ls, rfl, hl, hP, hD, hS, hJ_72⟩ := hJ_
      have hl : lv_has ls 9 [(0, .ref (a 0)), (1, .int col), (2, .int (nI E)), (3, .int (nI bg2)), (4, .int (nI na2)), (5, .int (nI pd)), (6, .int (nI yy))] := hl
      have hP : va_P D vwCl (wP d a px py qx qy f tb_1 aa2 ll sx sy w h C n x0 y0 x1 y1 mn) H := hP
      have hD : va_D A (wP d a px py qx qy f tb_1 aa2 ll sx sy w h C n x0 y0 x1 y1 mn) := hD
      have hJ_72 : wI py n tb_1 E yy bg2 na2 aa2 ∧ (E ≤ bg2 ∨ (bg2 < E ∧ (yy : Int) < keyT py n (tb_1 bg2))) := hJ_72
      have hbE_ := hJ_72.1.1
      have hnb_ := hJ_72.1.2.1
      refine lv_iconst (v := 0) hx hb dX1_fill_72 (by decide) ?_
      refine lv_istore (lv' := [(7, .int 0), (0, .ref (a 0)), (1, .int col), (2, .int (nI E)), (3, .int (nI bg2)), (4, .int (nI na2)), (5, .int (nI pd)), (6, .int (nI yy))]) hx hb dX1_fill_73 hl (by decide) rfl (fun ls hl => ?_)
      refine lv_iconst (v := 0) hx hb dX1_fill_75 (by decide) ?_
      refine lv_istore (lv' := [(8, .int 0), (7, .int 0), (0, .ref (a 0)), (1, .int col), (2, .int (nI E)), (3, .int (nI bg2)), (4, .int (nI na2)), (5, .int (nI pd)), (6, .int (nI yy))]) hx hb dX1_fill_76 hl (by decide) rfl (fun ls hl => ?_)
      refine xloop (α := Nat × Nat × (Nat → Int32) × (Nat → Int32)) (fun x_ => na2 - x_.1) (fun x_ H locs g_ => ∃ ls, g_ = F0 m 78 ls [] ∧ lv_has ls 9 [(0, .ref (a 0)), (1, .int col), (2, .int (nI E)), (3, .int (nI bg2)), (4, .int (nI na2)), (5, .int (nI pd)), (6, .int (nI yy)), (7, .int (nI x_.2.1)), (8, .int (nI x_.1))] ∧ va_P D vwCl (wP d a px py qx qy f tb_1 x_.2.2.1 x_.2.2.2 sx sy w h C n x0 y0 x1 y1 mn) H ∧ va_D A (wP d a px py qx qy f tb_1 x_.2.2.1 x_.2.2.2 sx sy w h C n x0 y0 x1 y1 mn) ∧ va_S A s.heap H locs ∧ (gI px py n yy na2 aa2 x_.1 x_.2.1 x_.2.2.1 x_.2.2.2)) ?_ (0, 0, aa2, ll) ⟨ls, rfl, (lv_sub hl [2, 3, 4, 5, 6, 7, 8, 1, 0] rfl), hP, hD, hS, (show gI px py n yy na2 aa2 0 0 aa2 ll from gI_0)⟩
      intro x_ H locs g_ hJ_ ih_78
      obtain ⟨k, lf, aa3, ll3⟩ := x_
      obtain ⟨ls, rfl, hl, hP, hD, hS, hI_78⟩ := hJ_
      have hl : lv_has ls 9 [(0, .ref (a 0)), (1, .int col), (2, .int (nI E)), (3, .int (nI bg2)), (4, .int (nI na2)), (5, .int (nI pd)), (6, .int (nI yy)), (7, .int (nI lf)), (8, .int (nI k))] := hl
      have hP : va_P D vwCl (wP d a px py qx qy f tb_1 aa3 ll3 sx sy w h C n x0 y0 x1 y1 mn) H := hP
      have hD : va_D A (wP d a px py qx qy f tb_1 aa3 ll3 sx sy w h C n x0 y0 x1 y1 mn) := hD
      have hI_78 : gI px py n yy na2 aa2 k lf aa3 ll3 := hI_78
      have hka_ := hI_78.1
      have hlk_ := hI_78.2.1
      refine lv_iload hx hb dX1_fill_78 (lv_at hl 8 rfl) ?_
      refine lv_iload hx hb dX1_fill_80 (lv_at hl 4 rfl) ?_
      refine lv_icmp_ge (tgt := 152) hx hb dX1_fill_82 (by decide) (fun c_82 => ?_) (fun c_82 => ?_)
      · have c_82 : na2 ≤ k := xle (a := na2) (b := k) c_82 (by omega) (by omega)
        refine lv_iload hx hb dX1_fill_152 (lv_at hl 7 rfl) ?_
        refine lv_istore (lv' := [(4, .int (nI lf)), (0, .ref (a 0)), (1, .int col), (2, .int (nI E)), (3, .int (nI bg2)), (5, .int (nI pd)), (6, .int (nI yy)), (7, .int (nI lf)), (8, .int (nI k))]) hx hb dX1_fill_154 hl (by decide) rfl (fun ls hl => ?_)
        refine lv_aload_n hx hb dX1_fill_156 rfl (lv_at hl 1 rfl) ?_
        refine lv_iload hx hb dX1_fill_157 (lv_at hl 0 rfl) ?_
        refine xcMv [.int (nI lf)] S (mtX1_sortActive l D d a px py qx qy f tb_1 aa3 ll3 sx sy w h C n x0 y0 x1 y1 mn lf (by omega) H.size) q174 viX1_sortActive ⟨rfl, rfl⟩ ⟨Nat.le_of_ble_eq_true rfl, Nat.le_of_ble_eq_true rfl⟩ ⟨Nat.le_of_ble_eq_true rfl, Nat.le_of_ble_eq_true rfl⟩ hK hP hD hS hA (ci := 0) (q0 := 0) rfl rfl hl.1 (rest := []) rfl (Nat.le_of_ble_eq_true rfl) dX1_fill_159 (fun u_ H locs h_ hP hD hS => ?_)
        obtain ⟨ac_1, la_1⟩ := u_
        have hP : va_P D vwCl (wP d a px py qx qy f tb_1 ac_1 la_1 sx sy w h C n x0 y0 x1 y1 mn) H := hP
        have hD : va_D A (wP d a px py qx qy f tb_1 ac_1 la_1 sx sy w h C n x0 y0 x1 y1 mn) := hD
        have h_ : srt keyI la_1 lf ∧ sI ac_1 la_1 lf aa3 ll3 := h_
        obtain ⟨hs1_, hs2_⟩ := h_
        obtain ⟨hR1_, hR2_, hR3_, hR4_⟩ := row_all nn hJ_72.1 hT_ hJ_72.2 hI_78 c_82 hs1_ hs2_
        refine lv_iconst (v := 0) hx hb dX1_fill_162 (by decide) ?_
        refine lv_istore (lv' := [(8, .int 0), (4, .int (nI lf)), (0, .ref (a 0)), (1, .int col), (2, .int (nI E)), (3, .int (nI bg2)), (5, .int (nI pd)), (6, .int (nI yy)), (7, .int (nI lf))]) hx hb dX1_fill_163 hl (by decide) rfl (fun ls hl => ?_)
        refine xloop (α := Nat × Nat × (Nat → Int32)) (fun x_ => lf - 2 * x_.1) (fun x_ H locs g_ => ∃ ls, g_ = F0 m 165 ls [] ∧ lv_has ls 9 [(0, .ref (a 0)), (1, .int col), (2, .int (nI E)), (3, .int (nI bg2)), (4, .int (nI lf)), (5, .int (nI x_.2.1)), (6, .int (nI yy)), (8, .int (nI (2 * x_.1)))] ∧ va_P D vwCl (wP d a px py qx qy x_.2.2 tb_1 ac_1 la_1 sx sy w h C n x0 y0 x1 y1 mn) H ∧ va_D A (wP d a px py qx qy x_.2.2 tb_1 ac_1 la_1 sx sy w h C n x0 y0 x1 y1 mn) ∧ va_S A s.heap H locs ∧ (qI w h yy col la_1 lf pd f x_.1 x_.2.1 x_.2.2)) ?_ (0, pd, f) ⟨ls, rfl, (lv_sub hl [2, 3, 4, 5, 1, 6, 7, 0] rfl), hP, hD, hS, (show qI w h yy col la_1 lf pd f 0 pd f from qI_0)⟩
        intro x_ H locs g_ hJ_ ih_165
        obtain ⟨j, pd2, f2⟩ := x_
        obtain ⟨ls, rfl, hl, hP, hD, hS, hI_165⟩ := hJ_
        have hl : lv_has ls 9 [(0, .ref (a 0)), (1, .int col), (2, .int (nI E)), (3, .int (nI bg2)), (4, .int (nI lf)), (5, .int (nI pd2)), (6, .int (nI yy)), (8, .int (nI (2 * j)))] := hl
        have hP : va_P D vwCl (wP d a px py qx qy f2 tb_1 ac_1 la_1 sx sy w h C n x0 y0 x1 y1 mn) H := hP
        have hD : va_D A (wP d a px py qx qy f2 tb_1 ac_1 la_1 sx sy w h C n x0 y0 x1 y1 mn) := hD
        have hI_165 : qI w h yy col la_1 lf pd f j pd2 f2 := hI_165
        have hj2_ := hI_165.1
        refine lv_iload hx hb dX1_fill_165 (lv_at hl 7 rfl) ?_
        refine lv_iconst (v := 1) hx hb dX1_fill_167 (by decide) ?_
        refine lv_iadd hx hb dX1_fill_168 ?_
        refine xtopi (y := nI ((2 * j) + 1)) (nI_add (2 * j) 1) ?_
        refine lv_iload hx hb dX1_fill_169 (lv_at hl 4 rfl) ?_
        refine lv_icmp_ge (tgt := 210) hx hb dX1_fill_171 (by decide) (fun c_171 => ?_) (fun c_171 => ?_)
        · have c_171 : lf ≤ ((2 * j) + 1) := xle (a := lf) (b := ((2 * j) + 1)) c_171 (by omega) (by omega)
          refine lv_iinc (v := nI (yy + 1)) (lv' := [(6, .int (nI (yy + 1))), (0, .ref (a 0)), (1, .int col), (2, .int (nI E)), (3, .int (nI bg2)), (4, .int (nI lf)), (5, .int (nI pd2)), (8, .int (nI (2 * j)))]) hx hb dX1_fill_210 hl (k := 6) rfl (nI_inc _) (by decide) rfl (fun ls hl => ?_)
          refine lv_goto (tgt := 16) hx hb dX1_fill_213 (by decide) ?_
          exact ih_16 (yy + 1, bg2, lf, pd2, f2, ac_1, la_1) _ _ _ (by show h - (yy + 1) < h - yy; omega) ⟨ls, rfl, (lv_sub hl [1, 2, 3, 4, 5, 6, 0] rfl), hP, hD, hS, (show wI py n tb_1 E (yy + 1) bg2 lf ac_1 ∧ (yy + 1) ≤ h ∧ pd2 = totC (insF px py n) w (yy + 1) ∧ frI px py n w h (yy + 1) col f2 fr from ⟨hR4_, by omega, (row_fin hI_165 c_171 hR1_ hR3_ hI_16.2.2.1 hI_16.2.2.2).1, (row_fin hI_165 c_171 hR1_ hR3_ hI_16.2.2.1 hI_16.2.2.2).2⟩)⟩
        · have c_171 : lf > ((2 * j) + 1) := xnle (a := lf) (b := ((2 * j) + 1)) c_171 (by omega) (by omega)
          refine lv_iload hx hb dX1_fill_174 (lv_at hl 5 rfl) ?_
          refine lv_aload_n hx hb dX1_fill_176 rfl (lv_at hl 0 rfl) ?_
          refine lv_iload hx hb dX1_fill_177 (lv_at hl 6 rfl) ?_
          refine lv_aload_n hx hb dX1_fill_179 rfl (lv_at hl 0 rfl) ?_
          refine xget1 S hK hP 0 rfl 7 (by decide) q37 rfl (v := .ref (a 8)) rfl dX1_fill_180 ?_
          refine lv_iload hx hb dX1_fill_183 (lv_at hl 7 rfl) ?_
          refine xald (j := 2 * j) hx hb hK hP 8 0 rfl rfl (by decide) dX1_fill_185 (by omega) ?_
          refine lv_iconst (v := 1) hx hb dX1_fill_186 (by decide) ?_
          refine lv_iadd hx hb dX1_fill_187 ?_
          refine lv_aload_n hx hb dX1_fill_188 rfl (lv_at hl 0 rfl) ?_
          refine xget1 S hK hP 0 rfl 7 (by decide) q37 rfl (v := .ref (a 8)) rfl dX1_fill_189 ?_
          refine lv_iload hx hb dX1_fill_192 (lv_at hl 7 rfl) ?_
          refine lv_iconst (v := 1) hx hb dX1_fill_194 (by decide) ?_
          refine lv_iadd hx hb dX1_fill_195 ?_
          refine xtopi (y := nI ((2 * j) + 1)) (nI_add (2 * j) 1) ?_
          refine xald (j := (2 * j) + 1) hx hb hK hP 8 0 rfl rfl (by decide) dX1_fill_196 (by omega) ?_
          refine lv_iload_n hx hb dX1_fill_197 rfl (lv_at hl 1 rfl) ?_
          refine xcMi [.int (nI yy), .int ((la_1 (2 * j)) + 1), .int (la_1 ((2 * j) + 1)), .int col] S (mtX1_paint l D d a px py qx qy f2 tb_1 ac_1 la_1 sx sy w h C n x0 y0 x1 y1 mn yy ((la_1 (2 * j)) + 1) (la_1 ((2 * j) + 1)) col hw hh (by omega) H.size) q178 viX1_paint ⟨rfl, rfl⟩ ⟨Nat.le_of_ble_eq_true rfl, Nat.le_of_ble_eq_true rfl⟩ ⟨Nat.le_of_ble_eq_true rfl, Nat.le_of_ble_eq_true rfl⟩ hK hP hD hS hA (ci := 0) (q0 := 0) rfl rfl hl.1 (rest := [.int (nI pd2)]) rfl (Nat.le_of_ble_eq_true rfl) dX1_fill_198 (fun r_3 u_ H locs h_ hP hD hS => ?_)
          obtain ⟨fr_1, rfl⟩ : ∃ z, z = u_ := ⟨_, rfl⟩
          have hP : va_P D vwCl (wP d a px py qx qy fr_1 tb_1 ac_1 la_1 sx sy w h C n x0 y0 x1 y1 mn) H := hP
          have hD : va_D A (wP d a px py qx qy fr_1 tb_1 ac_1 la_1 sx sy w h C n x0 y0 x1 y1 mn) := hD
          obtain ⟨h0_, hpf_⟩ := h_
          subst h0_
          refine lv_iadd hx hb dX1_fill_201 ?_
          refine xtopi (y := nI (pd2 + (cnt (inR (la_1 (2 * j) + 1) (la_1 (2 * j + 1))) w))) (nI_add pd2 (cnt (inR (la_1 (2 * j) + 1) (la_1 (2 * j + 1))) w)) ?_
          refine lv_istore (lv' := [(5, .int (nI (pd2 + (cnt (inR (la_1 (2 * j) + 1) (la_1 (2 * j + 1))) w)))), (0, .ref (a 0)), (1, .int col), (2, .int (nI E)), (3, .int (nI bg2)), (4, .int (nI lf)), (6, .int (nI yy)), (8, .int (nI (2 * j)))]) hx hb dX1_fill_202 hl (by decide) rfl (fun ls hl => ?_)
          refine lv_iinc (v := nI ((2 * j) + 2)) (lv' := [(8, .int (nI ((2 * j) + 2))), (5, .int (nI (pd2 + (cnt (inR (la_1 (2 * j) + 1) (la_1 (2 * j + 1))) w)))), (0, .ref (a 0)), (1, .int col), (2, .int (nI E)), (3, .int (nI bg2)), (4, .int (nI lf)), (6, .int (nI yy))]) hx hb dX1_fill_204 hl (k := 7) rfl (nI_inc2 _) (by decide) rfl (fun ls hl => ?_)
          refine lv_goto (tgt := 165) hx hb dX1_fill_207 (by decide) ?_
          exact ih_165 (j + 1, pd2 + cnt (inR (la_1 (2 * j) + 1) (la_1 (2 * j + 1))) w, fr_1) _ _ _ (by show lf - 2 * (j + 1) < lf - 2 * j; omega) ⟨ls, rfl, (lv_sub hl [2, 3, 4, 5, 6, 1, 7, 0] rfl), hP, hD, hS, (show qI w h yy col la_1 lf pd f (j + 1) (pd2 + cnt (inR (la_1 (2 * j) + 1) (la_1 (2 * j + 1))) w) fr_1 from qI_step hI_165 c_171 hs1_ hR2_ hpf_)⟩
      · have c_82 : na2 > k := xnle (a := na2) (b := k) c_82 (by omega) (by omega)
        refine lv_aload_n hx hb dX1_fill_85 rfl (lv_at hl 0 rfl) ?_
        refine xget1 S hK hP 0 rfl 1 (by decide) q31 rfl (v := .ref (a 2)) rfl dX1_fill_86 ?_
        refine lv_aload_n hx hb dX1_fill_89 rfl (lv_at hl 0 rfl) ?_
        refine lv_aload_n hx hb dX1_fill_90 rfl (lv_at hl 0 rfl) ?_
        refine xget1 S hK hP 0 rfl 6 (by decide) q36 rfl (v := .ref (a 7)) rfl dX1_fill_91 ?_
        refine lv_iload hx hb dX1_fill_94 (lv_at hl 8 rfl) ?_
        refine xald (j := k) hx hb hK hP 7 0 rfl rfl (by decide) dX1_fill_96 (by omega) ?_
        have hk0_ := hI_78.2.2.1 k (Nat.le_refl _)
        obtain ⟨ha0_, ha1_⟩ := hJ_72.1.2.2.2.1 k c_82
        have ha2_ := hiV_lt (f := py) ha1_
        have ha3_ := hJ_72.1.2.2.2.2.1 k c_82
        rw [keyT_t] at ha3_
        refine xtopi (y := nI (tN aa2 k)) (hk0_.trans ha0_) ?_
        refine xcRi [.int (nI (tN aa2 k))] S (mtX1_highOf l D d a px py qx qy f tb_1 aa3 ll3 sx sy w h C n x0 y0 x1 y1 mn (tN aa2 k) (by omega) (by omega)) q158 viX1_highOf ⟨rfl, rfl⟩ ⟨Nat.le_of_ble_eq_true rfl, Nat.le_of_ble_eq_true rfl⟩ ⟨Nat.le_of_ble_eq_true rfl, Nat.le_of_ble_eq_true rfl⟩ hK hP (ci := 0) (q0 := 0) rfl rfl hl.1 (rest := [.ref (a 2)]) rfl (Nat.le_of_ble_eq_true rfl) dX1_fill_97 (fun r_ h_ => ?_)
        obtain rfl := h_
        refine xald (j := hiV py n (tN aa2 k)) hx hb hK hP 2 0 rfl rfl (by decide) dX1_fill_100 (by omega) ?_
        refine lv_iload hx hb dX1_fill_101 (lv_at hl 6 rfl) ?_
        refine lv_icmp_gt (tgt := 109) hx hb dX1_fill_103 (by decide) (fun c_103 => ?_) (fun c_103 => ?_)
        · have ha4_ := ltY c_103 (by omega)
          refine lv_aload_n hx hb dX1_fill_109 rfl (lv_at hl 0 rfl) ?_
          refine xget1 S hK hP 0 rfl 6 (by decide) q36 rfl (v := .ref (a 7)) rfl dX1_fill_110 ?_
          refine lv_iload hx hb dX1_fill_113 (lv_at hl 7 rfl) ?_
          refine lv_aload_n hx hb dX1_fill_115 rfl (lv_at hl 0 rfl) ?_
          refine xget1 S hK hP 0 rfl 6 (by decide) q36 rfl (v := .ref (a 7)) rfl dX1_fill_116 ?_
          refine lv_iload hx hb dX1_fill_119 (lv_at hl 8 rfl) ?_
          refine xald (j := k) hx hb hK hP 7 0 rfl rfl (by decide) dX1_fill_121 (by omega) ?_
          refine xtopi (y := aa2 k) (hk0_) ?_
          refine xast (j := lf) hx hb hK hP hD hS 7 0 rfl rfl (by decide) dX1_fill_122 (by omega) (fun H locs hP hD hS => ?_)
          have hP : va_P D vwCl (wP d a px py qx qy f tb_1 (upd aa3 lf (aa2 k)) ll3 sx sy w h C n x0 y0 x1 y1 mn) H := hP
          have hD : va_D A (wP d a px py qx qy f tb_1 (upd aa3 lf (aa2 k)) ll3 sx sy w h C n x0 y0 x1 y1 mn) := hD
          refine lv_aload_n hx hb dX1_fill_123 rfl (lv_at hl 0 rfl) ?_
          refine xget1 S hK hP 0 rfl 7 (by decide) q37 rfl (v := .ref (a 8)) rfl dX1_fill_124 ?_
          refine lv_iload hx hb dX1_fill_127 (lv_at hl 7 rfl) ?_
          refine lv_aload_n hx hb dX1_fill_129 rfl (lv_at hl 0 rfl) ?_
          refine lv_aload_n hx hb dX1_fill_130 rfl (lv_at hl 0 rfl) ?_
          refine xget1 S hK hP 0 rfl 6 (by decide) q36 rfl (v := .ref (a 7)) rfl dX1_fill_131 ?_
          refine lv_iload hx hb dX1_fill_134 (lv_at hl 8 rfl) ?_
          refine xald (j := k) hx hb hK hP 7 0 rfl rfl (by decide) dX1_fill_136 (by omega) ?_
          refine xtopi (y := nI (tN aa2 k)) ((upd_or hk0_).trans ha0_) ?_
          refine lv_iload hx hb dX1_fill_137 (lv_at hl 6 rfl) ?_
          refine xcRi [.int (nI (tN aa2 k)), .int (nI yy)] S (mtX1_lastBefore l D d a px py qx qy f tb_1 (upd aa3 lf (aa2 k)) ll3 sx sy w h C n x0 y0 x1 y1 mn (tN aa2 k) yy (by omega) hn nn (by omega) (by omega)) q170 viX1_lastBefore ⟨rfl, rfl⟩ ⟨Nat.le_of_ble_eq_true rfl, Nat.le_of_ble_eq_true rfl⟩ ⟨Nat.le_of_ble_eq_true rfl, Nat.le_of_ble_eq_true rfl⟩ hK hP (ci := 0) (q0 := 0) rfl rfl hl.1 (rest := [.int (nI lf), .ref (a 8)]) rfl (Nat.le_of_ble_eq_true rfl) dX1_fill_139 (fun r_ h_ => ?_)
          obtain rfl := h_
          refine xast (j := lf) hx hb hK hP hD hS 8 0 rfl rfl (by decide) dX1_fill_142 (by omega) (fun H locs hP hD hS => ?_)
          have hP : va_P D vwCl (wP d a px py qx qy f tb_1 (upd aa3 lf (aa2 k)) (upd ll3 lf (lbI px py n (tN aa2 k) yy)) sx sy w h C n x0 y0 x1 y1 mn) H := hP
          have hD : va_D A (wP d a px py qx qy f tb_1 (upd aa3 lf (aa2 k)) (upd ll3 lf (lbI px py n (tN aa2 k) yy)) sx sy w h C n x0 y0 x1 y1 mn) := hD
          refine lv_iinc (v := nI (lf + 1)) (lv' := [(7, .int (nI (lf + 1))), (0, .ref (a 0)), (1, .int col), (2, .int (nI E)), (3, .int (nI bg2)), (4, .int (nI na2)), (5, .int (nI pd)), (6, .int (nI yy)), (8, .int (nI k))]) hx hb dX1_fill_143 hl (k := 7) rfl (nI_inc _) (by decide) rfl (fun ls hl => ?_)
          refine lv_iinc (v := nI (k + 1)) (lv' := [(8, .int (nI (k + 1))), (7, .int (nI (lf + 1))), (0, .ref (a 0)), (1, .int col), (2, .int (nI E)), (3, .int (nI bg2)), (4, .int (nI na2)), (5, .int (nI pd)), (6, .int (nI yy))]) hx hb dX1_fill_146 hl (k := 8) rfl (nI_inc _) (by decide) rfl (fun ls hl => ?_)
          refine lv_goto (tgt := 78) hx hb dX1_fill_149 (by decide) ?_
          exact ih_78 (k + 1, lf + 1, upd aa3 lf (aa2 k), upd ll3 lf (lbI px py n (tN aa2 k) yy)) _ _ _ (by show na2 - (k + 1) < na2 - k; omega) ⟨ls, rfl, (lv_sub hl [2, 3, 4, 5, 6, 7, 8, 1, 0] rfl), hP, hD, hS, (show gI px py n yy na2 aa2 (k + 1) (lf + 1) (upd aa3 lf (aa2 k)) (upd ll3 lf (lbI px py n (tN aa2 k) yy)) from gI_keep hI_78 c_82 ⟨ha0_, ha1_⟩ ha3_ ha4_)⟩
        · refine lv_goto (tgt := 146) hx hb dX1_fill_106 (by decide) ?_
          refine lv_iinc (v := nI (k + 1)) (lv' := [(8, .int (nI (k + 1))), (0, .ref (a 0)), (1, .int col), (2, .int (nI E)), (3, .int (nI bg2)), (4, .int (nI na2)), (5, .int (nI pd)), (6, .int (nI yy)), (7, .int (nI lf))]) hx hb dX1_fill_146 hl (k := 8) rfl (nI_inc _) (by decide) rfl (fun ls hl => ?_)
          refine lv_goto (tgt := 78) hx hb dX1_fill_149 (by decide) ?_
          exact ih_78 (k + 1, lf, aa3, ll3) _ _ _ (by show na2 - (k + 1) < na2 - k; omega) ⟨ls, rfl, (lv_sub hl [1, 2, 3, 4, 5, 6, 7, 8, 0] rfl), hP, hD, hS, (show gI px py n yy na2 aa2 (k + 1) lf aa3 ll3 from gI_skip hI_78 c_82 (leY c_103 (by omega)))⟩
end
section
/-! PURE: the reference's own numbers -/
set_option maxRecDepth 100000
def depI (sd : Nat) (x0 x1 y0 y1 x y : Int32) : Int32 := if sd = 0 then x - x0 else if sd = 1 then x1 - x else if sd = 2 then y - y0 else y1 - y
theorem dep_lt {sd : Nat} {x0 x1 y0 y1 x y : Int32} (hsd : sd < 4) (nx : Nr x) (ny : Nr y) (w0 : Nr x0) (w1 : Nr y0) (w2 : Nr x1) (w3 : Nr y1) : depI sd x0 x1 y0 y1 x y < 0 ↔ goodB sd x0 y0 x1 y1 x y = false := by
  have e0 : (0 : Int32).toInt = 0 := by decide
  rw [Int32.lt_iff_toInt_lt, e0]
  rcases (show sd = 0 ∨ sd = 1 ∨ sd = 2 ∨ sd = 3 by omega) with e | e | e | e <;> subst e
  · simp only [depI, goodB, if_true]
    rw [subT nx w0, Bool.not_eq_false', decide_eq_true_eq, Int32.lt_iff_toInt_lt]
    omega
  · simp only [depI, goodB]
    rw [if_neg (by decide), if_pos trivial, subT w2 nx, Bool.not_eq_false', decide_eq_true_eq, Int32.lt_iff_toInt_lt]
    omega
  · simp only [depI, goodB]
    rw [if_neg (by decide), if_neg (by decide), if_pos trivial, subT ny w1, Bool.not_eq_false', decide_eq_true_eq, Int32.lt_iff_toInt_lt]
    omega
  · simp only [depI, goodB]
    rw [if_neg (by decide), if_neg (by decide), if_neg (by decide), subT w3 ny, Bool.not_eq_false', decide_eq_true_eq, Int32.lt_iff_toInt_lt]
    omega
theorem dep_t {sd : Nat} {x0 x1 y0 y1 x y : Int32} (hsd : sd < 4) (n2 : Nr x ∧ Nr y) (w0 : Nr x0) (w1 : Nr y0) (w2 : Nr x1) (w3 : Nr y1) (h : depI sd x0 x1 y0 y1 x y < 0) : (0 : Int32) = bI (goodB sd x0 y0 x1 y1 x y) := by
  rw [(dep_lt hsd n2.1 n2.2 w0 w1 w2 w3).mp h]
  rfl
theorem dep_f {sd : Nat} {x0 x1 y0 y1 x y : Int32} (hsd : sd < 4) (n2 : Nr x ∧ Nr y) (w0 : Nr x0) (w1 : Nr y0) (w2 : Nr x1) (w3 : Nr y1) (h : ¬ depI sd x0 x1 y0 y1 x y < 0) : (1 : Int32) = bI (goodB sd x0 y0 x1 y1 x y) := by
  cases hg : goodB sd x0 y0 x1 y1 x y with
  | true => rfl
  | false => exact absurd ((dep_lt hsd n2.1 n2.2 w0 w1 w2 w3).mpr hg) h
section QU
variable {a b : Int32}
theorem qu_ne (h : b.toInt ≠ 0) : ¬ b = 0 := by
  intro e
  subst e
  exact h (by decide)
theorem qu_div (ha : a.toInt.natAbs ≤ 1073741824) : (a / b).toInt = a.toInt.tdiv b.toInt := by
  refine Int32.toInt_div_of_ne_left a b ?_
  intro e
  subst e
  exact absurd ha (by decide)
theorem qu_mul (ha : a.toInt.natAbs ≤ 1073741824) : (a / b * b).toInt = a.toInt.tdiv b.toInt * b.toInt := by
  have h := tdiv_mul_le a.toInt b.toInt
  generalize hg : a.toInt.tdiv b.toInt * b.toInt = g at h
  rw [Int32.toInt_mul, qu_div ha, hg, m32 (x := g) (by omega) (by omega)]
theorem qu_rem (ha : a.toInt.natAbs ≤ 1073741824) (h : a / b * b = a) : (a / b).toInt = a.toInt.fdiv b.toInt := by
  have h1 : a.toInt - a.toInt.tdiv b.toInt * b.toInt = 0 := by
    rw [← qu_mul ha, h]
    omega
  rw [qu_div ha, flI_rem h1]
theorem qu_sgn {a : Int32} : 0 ≤ a ↔ 0 ≤ a.toInt := by
  rw [Int32.le_iff_toInt_le]
  exact Iff.rfl
theorem qu_same (ha : a.toInt.natAbs ≤ 1073741824) (h : (0 ≤ a ∧ 0 ≤ b) ∨ (¬ 0 ≤ a ∧ ¬ 0 ≤ b)) : (a / b).toInt = a.toInt.fdiv b.toInt := by
  rw [qu_sgn, qu_sgn] at h
  rw [qu_div ha, flI_same h]
theorem qu_diff (hb0 : b.toInt ≠ 0) (ha : a.toInt.natAbs ≤ 1073741824) (hr : ¬ a / b * b = a) (h : (0 ≤ a ∧ ¬ 0 ≤ b) ∨ (¬ 0 ≤ a ∧ 0 ≤ b)) : (a / b - 1).toInt = a.toInt.fdiv b.toInt := by
  rw [qu_sgn, qu_sgn] at h
  have h1 : ¬ a.toInt - a.toInt.tdiv b.toInt * b.toInt = 0 := by
    rw [← qu_mul ha]
    exact fun q => hr (Int32.toInt_inj.mp (by omega))
  have h2 := tdiv_le a.toInt b.toInt
  rw [Int32.toInt_sub, qu_div ha, flI_diff hb0 h1 h]
  have h3 : (1 : Int32).toInt = 1 := by decide
  rw [h3]
  exact m32 (by omega) (by omega)
end QU
theorem cut2_h0 {a c : Int32} (na : Nr a) (nc : Nr c) (nac : c.toInt ≠ a.toInt) : (c - a).toInt ≠ 0 := by
  rw [subT nc na]
  omega
theorem cut2_pr {a b d s : Int32} (nb : Nr b) (nd : Nr d) (na : Nr a) (ns : Nr s) : ((d - b) * (s - a)).toInt = (d.toInt - b.toInt) * (s.toInt - a.toInt) := by
  have h := (cut_pr nb nd na ns).2
  rw [Int32.toInt_mul, subT nd nb, subT ns na]
  generalize (d.toInt - b.toInt) * (s.toInt - a.toInt) = g at h ⊢
  exact m32 (by omega) (by omega)
theorem cut2_h1 {a b d s : Int32} (nb : Nr b) (nd : Nr d) (na : Nr a) (ns : Nr s) : ((d - b) * (s - a)).toInt.natAbs ≤ 1073741824 := by
  rw [cut2_pr nb nd na ns]
  exact (cut_pr nb nd na ns).2
theorem cut2_end {a b c d s r : Int32} (na : Nr a) (nb : Nr b) (nc : Nr c) (nd : Nr d) (ns : Nr s) (h : r.toInt = ((d - b) * (s - a)).toInt.fdiv (c - a).toInt) : b + r = cutI a b c d s := by
  rw [cut2_pr nb nd na ns, subT nc na] at h
  refine Int32.toInt_inj.mp ?_
  unfold cutI
  rw [Int32.toInt_add, Int32.toInt_ofInt, h]
def addI (tx ty : Nat → Int32) (tn C : Nat) (x y : Int32) : (Nat → Int32) × (Nat → Int32) × Nat := if C ≤ tn then (tx, ty, tn + 1) else (upd tx tn x, upd ty tn y, tn + 1)
theorem okT_add {C : Nat} {L : List (Int32 × Int32)} {tx ty tx1 ty1 : Nat → Int32} {tn tn1 : Nat} {x y : Int32} (h : okT C L tx ty tn) (he : (tx1, ty1, tn1) = addI tx ty tn C x y) : okT C (L ++ [(x, y)]) tx1 ty1 tn1 ∧ tn1 = tn + 1 := by
  unfold addI at he
  by_cases q : C ≤ tn
  · rw [if_pos q] at he
    injection he with e1 e2
    injection e2 with e2 e3
    subst e1
    subst e2
    subst e3
    exact ⟨okT_full h x y q, rfl⟩
  · rw [if_neg q] at he
    injection he with e1 e2
    injection e2 with e2 e3
    subst e1
    subst e2
    subst e3
    exact ⟨okT_app h x y, rfl⟩
theorem emL_len {sd n k : Nat} {x0 y0 x1 y1 : Int32} {f g : Nat → Int32} : (emL sd x0 y0 x1 y1 f g n k).length ≤ 2 := by
  unfold emL
  rw [List.length_append]
  split <;> split <;> simp
theorem oL_len {sd n : Nat} {x0 y0 x1 y1 : Int32} {f g : Nat → Int32} : ∀ k, (oL sd x0 y0 x1 y1 f g n k).length ≤ 2 * k := by
  intro k
  induction k with
  | zero => exact Nat.le_refl _
  | succ k ih =>
    simp only [oL, List.length_append]
    have := emL_len (sd := sd) (n := n) (k := k) (x0 := x0) (y0 := y0) (x1 := x1) (y1 := y1) (f := f) (g := g)
    omega
section PT
variable {sd N k M C : Nat} {x0 y0 x1 y1 : Int32} {sx sy f g : Nat → Int32}
theorem pasT_ss (hq : okT C (oL sd x0 y0 x1 y1 sx sy N k) f g M) (h1 : goodB sd x0 y0 x1 y1 (sx k) (sy k) = goodB sd x0 y0 x1 y1 (sx (prv N k)) (sy (prv N k))) (h2 : goodB sd x0 y0 x1 y1 (sx k) (sy k) = false) : okT C (oL sd x0 y0 x1 y1 sx sy N (k + 1)) f g M := by
  simp only [oL]
  rw [emL_ss h1 h2, List.append_nil]
  exact hq
theorem pasT_st (hq : okT C (oL sd x0 y0 x1 y1 sx sy N k ++ [(sx k, sy k)]) f g M) (h1 : goodB sd x0 y0 x1 y1 (sx k) (sy k) = goodB sd x0 y0 x1 y1 (sx (prv N k)) (sy (prv N k))) (h2 : goodB sd x0 y0 x1 y1 (sx k) (sy k) = true) : okT C (oL sd x0 y0 x1 y1 sx sy N (k + 1)) f g M := by
  simp only [oL]
  rw [emL_st h1 h2]
  exact hq
theorem pasT_df (hq : okT C (oL sd x0 y0 x1 y1 sx sy N k ++ [((cutP sd x0 y0 x1 y1 (sx (prv N k)) (sy (prv N k)) (sx k) (sy k)).1, (cutP sd x0 y0 x1 y1 (sx (prv N k)) (sy (prv N k)) (sx k) (sy k)).2)]) f g M) (h1 : ¬ (goodB sd x0 y0 x1 y1 (sx k) (sy k) = goodB sd x0 y0 x1 y1 (sx (prv N k)) (sy (prv N k)))) (h2 : goodB sd x0 y0 x1 y1 (sx k) (sy k) = false) : okT C (oL sd x0 y0 x1 y1 sx sy N (k + 1)) f g M := by
  simp only [oL]
  rw [emL_df h1 h2]
  exact hq
theorem pasT_dt (hq : okT C (oL sd x0 y0 x1 y1 sx sy N k ++ [((cutP sd x0 y0 x1 y1 (sx (prv N k)) (sy (prv N k)) (sx k) (sy k)).1, (cutP sd x0 y0 x1 y1 (sx (prv N k)) (sy (prv N k)) (sx k) (sy k)).2)] ++ [(sx k, sy k)]) f g M) (h1 : ¬ (goodB sd x0 y0 x1 y1 (sx k) (sy k) = goodB sd x0 y0 x1 y1 (sx (prv N k)) (sy (prv N k)))) (h2 : goodB sd x0 y0 x1 y1 (sx k) (sy k) = true) : okT C (oL sd x0 y0 x1 y1 sx sy N (k + 1)) f g M := by
  simp only [oL]
  rw [emL_dt h1 h2]
  rw [List.append_assoc] at hq
  exact hq
end PT
def ivB (n : Nat) (i : Int32) : Bool := !decide (i < 0) && !decide (nI n ≤ i)
theorem iv_in {n : Nat} {i : Int32} (hn : n ≤ 60) (h : ivB n i = true) : ∃ j : Nat, j < n ∧ i = nI j := by
  unfold ivB at h
  simp only [Bool.and_eq_true, Bool.not_eq_true', decide_eq_false_iff_not] at h
  exact vx_in hn h.1 h.2
theorem iv_no {f : Nat → Int32} {n : Nat} {i : Int32} (h : ivB n i = false) : -32768 = vxI f n i := by
  unfold ivB at h
  simp only [Bool.and_eq_false_iff, Bool.not_eq_false', decide_eq_true_eq] at h
  rcases h with q | q
  · exact vxI_neg q
  · by_cases q2 : i < 0
    · exact vxI_neg q2
    · exact vxI_big q2 q
/-- the reference asks by longs -/
theorem crM {w1 w2 v1 v2 : Int64} (z1 z2 z3 z4 : Int) (e1 : w1.toInt = z1) (e2 : v1.toInt = z2) (e3 : w2.toInt = z3) (e4 : v2.toInt = z4) (b1 : z1.natAbs ≤ 4294967296) (b2 : z2.natAbs ≤ 4294967296) (b3 : z3.natAbs ≤ 4294967296) (b4 : z4.natAbs ≤ 65536) (b5 : z1.natAbs ≤ 65536) : w1 * v1 ≤ w2 * v2 ↔ z1 * z2 ≤ z3 * z4 := by
  rw [Int64.le_iff_toInt_le, Int64.toInt_mul, Int64.toInt_mul, e1, e2, e3, e4]
  have p1 : (z1 * z2).natAbs ≤ 65536 * 4294967296 := prodK b5 b2
  have p2 : (z3 * z4).natAbs ≤ 4294967296 * 65536 := prodK b3 b4
  rw [m64 (x := z1 * z2) (by omega) (by omega), m64 (x := z3 * z4) (by omega) (by omega)]
theorem subL {x y : Int32} : (x.toInt64 - y.toInt64).toInt = x.toInt - y.toInt := by
  have h1 := i32b x
  have h2 := i32b y
  rw [Int64.toInt_sub, Int32.toInt_toInt64, Int32.toInt_toInt64]
  exact m64 (by omega) (by omega)
theorem leL {x y : Int32} : x.toInt64 < y.toInt64 ↔ x.toInt < y.toInt := by
  rw [Int64.lt_iff_toInt_lt, Int32.toInt_toInt64, Int32.toInt_toInt64]
section CR
variable {a b c d x y : Int32}
theorem cr_hi (h1 : y.toInt64 < b.toInt64) (h2 : y.toInt64 < d.toInt64) : (0 : Int32) = bI (crsZ a.toInt b.toInt c.toInt d.toInt x.toInt y.toInt) := by
  rw [leL] at h1 h2
  unfold crsZ
  rw [if_neg (by omega), if_neg (by omega)]
  rfl
theorem cr_lo (h1 : ¬ y.toInt64 < b.toInt64) (h2 : ¬ y.toInt64 < d.toInt64) : (0 : Int32) = bI (crsZ a.toInt b.toInt c.toInt d.toInt x.toInt y.toInt) := by
  rw [leL] at h1 h2
  unfold crsZ
  rw [if_pos (by omega), if_pos (by omega)]
  rfl
theorem cr_up (na : Nr a) (nb : Nr b) (nc : Nr c) (nd : Nr d) (h1 : ¬ y.toInt64 < b.toInt64) (h2 : y.toInt64 < d.toInt64) : ((c.toInt64 - a.toInt64) * (y.toInt64 - b.toInt64) ≤ (x.toInt64 - a.toInt64) * (d.toInt64 - b.toInt64) ↔ crsZ a.toInt b.toInt c.toInt d.toInt x.toInt y.toInt = false) := by
  have bx := i32b x
  rw [leL] at h1 h2
  unfold Nr at na nb nc nd
  rw [crM (c.toInt - a.toInt) (y.toInt - b.toInt) (x.toInt - a.toInt) (d.toInt - b.toInt) subL subL subL subL (by omega) (by omega) (by omega) (by omega) (by omega)]
  unfold crsZ
  rw [if_pos (by omega), if_neg (by omega), decide_eq_false_iff_not]
  omega
theorem cr_dn (na : Nr a) (nb : Nr b) (nc : Nr c) (nd : Nr d) (h1 : y.toInt64 < b.toInt64) (h2 : ¬ y.toInt64 < d.toInt64) : ((a.toInt64 - c.toInt64) * (y.toInt64 - d.toInt64) ≤ (x.toInt64 - c.toInt64) * (b.toInt64 - d.toInt64) ↔ crsZ a.toInt b.toInt c.toInt d.toInt x.toInt y.toInt = false) := by
  have bx := i32b x
  rw [leL] at h1 h2
  unfold Nr at na nb nc nd
  rw [crM (a.toInt - c.toInt) (y.toInt - d.toInt) (x.toInt - c.toInt) (b.toInt - d.toInt) subL subL subL subL (by omega) (by omega) (by omega) (by omega) (by omega)]
  unfold crsZ
  rw [if_neg (by omega), if_pos (by omega), decide_eq_false_iff_not]
  omega
end CR
theorem cr_0 {p : Prop} {b : Bool} (h : p ↔ b = false) (hp : p) : (0 : Int32) = bI b := by
  rw [h.mp hp]
  rfl
theorem cr_1 {p : Prop} {b : Bool} (h : p ↔ b = false) (hp : ¬ p) : (1 : Int32) = bI b := by
  cases b with
  | true => rfl
  | false => exact absurd (h.mpr rfl) hp
theorem pix_lt2 {w h i j : Nat} (hw : w ≤ 24) (hh : h ≤ 24) (hi : i < w) (hj : j < h) : 24 * j + i < 576 := by omega
/-- pixel by pixel, line by line -/
def mI (f g : Nat → Int32) (n w h yy i : Nat) (col : Int32) (p p0 : Nat → Int32) : Prop := ∀ j x, j < h → x < w → p (24 * j + x) = if (j < yy ∨ (j = yy ∧ x < i)) ∧ insF f g n j x = true then col else p0 (24 * j + x)
theorem mI_0 {f g : Nat → Int32} {n w h : Nat} {col : Int32} {p0 : Nat → Int32} : mI f g n w h 0 0 col p0 p0 := fun j x _ _ => by
  rw [if_neg]
  rintro ⟨q, -⟩
  omega
theorem mI_t {f g : Nat → Int32} {n w h yy i : Nat} {col : Int32} {p p0 : Nat → Int32} (hI : mI f g n w h yy i col p p0) (hw : w ≤ 24) (hi : i < w) (hs : insF f g n yy i = true) : mI f g n w h yy (i + 1) col (upd p (24 * yy + i) col) p0 := by
  intro j x hj hx
  by_cases e : 24 * j + x = 24 * yy + i
  · have e1 : j = yy := by omega
    have e2 : x = i := by omega
    subst e1
    subst e2
    rw [pk_us, if_pos ⟨Or.inr ⟨rfl, by omega⟩, hs⟩]
  · rw [pk_un e, hI j x hj hx]
    exact ifc ⟨fun z => ⟨by omega, z.2⟩, fun z => ⟨by omega, z.2⟩⟩
theorem mI_f {f g : Nat → Int32} {n w h yy i : Nat} {col : Int32} {p p0 : Nat → Int32} (hI : mI f g n w h yy i col p p0) (hs : insF f g n yy i = false) : mI f g n w h yy (i + 1) col p p0 := by
  intro j x hj hx
  rw [hI j x hj hx]
  refine ifc ⟨fun z => ⟨by omega, z.2⟩, fun z => ⟨?_, z.2⟩⟩
  by_cases e : j = yy ∧ x = i
  · obtain ⟨e1, e2⟩ := e
    subst e1
    subst e2
    rw [hs] at z
    exact absurd z.2 (by decide)
  · omega
theorem mI_row {f g : Nat → Int32} {n w h yy i : Nat} {col : Int32} {p p0 : Nat → Int32} (hI : mI f g n w h yy i col p p0) (hi : w ≤ i) : mI f g n w h (yy + 1) 0 col p p0 := by
  intro j x hj hx
  rw [hI j x hj hx]
  exact ifc ⟨fun z => ⟨by omega, z.2⟩, fun z => ⟨by omega, z.2⟩⟩
end
section
/-! PolygonFrameModel: small methods -/
theorem bnot_ {b : Bool} {c : Bool} (h : (!b) = c) : b = !c := by
  cases b <;> cases c <;> first | rfl | cases h
set_option maxHeartbeats 4000000 in
set_option maxRecDepth 100000 in
/-- between(v, lo, hi) -/
theorem mtX2_between (l : Launch) (v lo hi : Int32) : Met l yX2_between (ws_ yX2_between cX2_between 3 (some .int)) (rm_ 0 0) (PcS [.int v, .int lo, .int hi]) (vp_Si (fun r => r = clampI v lo hi)) 0 0 (fun _ => False) := by
  refine xMetS (by decide) (Nat.le_of_ble_eq_true rfl) ?_
  intro p e s m below meth c ls S hr hlk hl
  have S : CallFix p m c cX2_between 3 s _ lw_all RX2 := S
  have hx := S.1
  have hb := S.2.1
  have hl : lv_has ls 3 [(0, .int v), (1, .int lo), (2, .int hi)] := hl
  refine lv_iload_n hx hb dX2_between_0 rfl (lv_at hl 0 rfl) ?_
  refine lv_iload_n hx hb dX2_between_1 rfl (lv_at hl 1 rfl) ?_
  refine lv_icmp_ge (tgt := 9) hx hb dX2_between_2 (by decide) (fun c_2 => ?_) (fun c_2 => ?_)
  · refine lv_iload_n hx hb dX2_between_9 rfl (lv_at hl 0 rfl) ?_
    refine lv_iload_n hx hb dX2_between_10 rfl (lv_at hl 2 rfl) ?_
    refine lv_icmp_le (tgt := 18) hx hb dX2_between_11 (by decide) (fun c_11 => ?_) (fun c_11 => ?_)
    · refine lv_iload_n hx hb dX2_between_18 rfl (lv_at hl 0 rfl) ?_
      exact xretSi hx hb hr hlk dX2_between_19 (rfl) (by simp [clampI, c_2, c_11])
    · refine lv_iload_n hx hb dX2_between_14 rfl (lv_at hl 2 rfl) ?_
      refine lv_goto (tgt := 19) hx hb dX2_between_15 (by decide) ?_
      exact xretSi hx hb hr hlk dX2_between_19 (rfl) (by simp [clampI, c_2, c_11])
  · refine lv_iload_n hx hb dX2_between_5 rfl (lv_at hl 1 rfl) ?_
    refine lv_goto (tgt := 19) hx hb dX2_between_6 (by decide) ?_
    exact xretSi hx hb hr hlk dX2_between_19 (rfl) (by simp [clampI, c_2])

set_option maxHeartbeats 4000000 in
set_option maxRecDepth 100000 in
/-- isNear(v) -/
theorem mtX2_isNear (l : Launch) (v : Int32) : Met l yX2_isNear (ws_ yX2_isNear cX2_isNear 1 (some .boolean)) (rm_ 0 0) (PcS [.int v]) (vp_Si (fun r => r = bI (!far v))) 0 0 (fun _ => False) := by
  refine xMetS (by decide) (Nat.le_of_ble_eq_true rfl) ?_
  intro p e s m below meth c ls S hr hlk hl
  have S : CallFix p m c cX2_isNear 1 s _ lw_all RX2 := S
  have hx := S.1
  have hb := S.2.1
  have hl : lv_has ls 1 [(0, .int v)] := hl
  refine lv_iload_n hx hb dX2_isNear_0 rfl (lv_at hl 0 rfl) ?_
  refine lv_sipush (v := (-16384)) hx hb dX2_isNear_1 (by decide) ?_
  refine lv_icmp_lt (tgt := 18) hx hb dX2_isNear_4 (by decide) (fun c_4 => ?_) (fun c_4 => ?_)
  · refine lv_iconst (v := 0) hx hb dX2_isNear_18 (by decide) ?_
    exact xretSi hx hb hr hlk dX2_isNear_19 (rfl) (by simp [bI, far, c_4])
  · refine lv_iload_n hx hb dX2_isNear_7 rfl (lv_at hl 0 rfl) ?_
    refine lv_sipush (v := 16384) hx hb dX2_isNear_8 (by decide) ?_
    refine lv_icmp_gt (tgt := 18) hx hb dX2_isNear_11 (by decide) (fun c_11 => ?_) (fun c_11 => ?_)
    · refine lv_iconst (v := 0) hx hb dX2_isNear_18 (by decide) ?_
      exact xretSi hx hb hr hlk dX2_isNear_19 (rfl) (by simp [bI, far, c_4, c_11])
    · refine lv_iconst (v := 1) hx hb dX2_isNear_14 (by decide) ?_
      refine lv_goto (tgt := 19) hx hb dX2_isNear_15 (by decide) ?_
      exact xretSi hx hb hr hlk dX2_isNear_19 (rfl) (by simp [bI, far, c_4, c_11])

set_option maxHeartbeats 4000000 in
set_option maxRecDepth 100000 in
/-- quotient(a, b): rounded down -/
theorem mtX2_quotient (l : Launch) (a b : Int32) (hb0 : b.toInt ≠ 0) (ha : a.toInt.natAbs ≤ 1073741824) : Met l yX2_quotient (ws_ yX2_quotient cX2_quotient 3 (some .int)) (rm_ 0 0) (PcS [.int a, .int b]) (vp_Si (fun r => r.toInt = a.toInt.fdiv b.toInt)) 0 0 (fun _ => False) := by
  refine xMetS (by decide) (Nat.le_of_ble_eq_true rfl) ?_
  intro p e s m below meth c ls S hr hlk hl
  have S : CallFix p m c cX2_quotient 3 s _ lw_all RX2 := S
  have hx := S.1
  have hb := S.2.1
  have hl : lv_has ls 3 [(0, .int a), (1, .int b)] := hl
  refine lv_iload_n hx hb dX2_quotient_0 rfl (lv_at hl 0 rfl) ?_
  refine lv_iload_n hx hb dX2_quotient_1 rfl (lv_at hl 1 rfl) ?_
  refine lv_idiv hx hb dX2_quotient_2 (qu_ne hb0) ?_
  refine lv_istore_n (lv' := [(2, .int (a / b)), (0, .int a), (1, .int b)]) hx hb dX2_quotient_3 rfl hl (by decide) rfl (fun ls hl => ?_)
  refine lv_iload_n hx hb dX2_quotient_4 rfl (lv_at hl 0 rfl) ?_
  refine lv_iload_n hx hb dX2_quotient_5 rfl (lv_at hl 2 rfl) ?_
  refine lv_imul hx hb dX2_quotient_6 ?_
  refine lv_iload_n hx hb dX2_quotient_7 rfl (lv_at hl 1 rfl) ?_
  refine lv_icmp_eq (tgt := 38) hx hb dX2_quotient_8 (by decide) (fun c_8 => ?_) (fun c_8 => ?_)
  · refine lv_iload_n hx hb dX2_quotient_38 rfl (lv_at hl 0 rfl) ?_
    exact xretSi hx hb hr hlk dX2_quotient_39 (rfl) (qu_rem ha c_8)
  · refine lv_iload_n hx hb dX2_quotient_11 rfl (lv_at hl 1 rfl) ?_
    refine lv_if_ge (tgt := 19) hx hb dX2_quotient_12 (by decide) (fun c_12 => ?_) (fun c_12 => ?_)
    · refine lv_iconst (v := 0) hx hb dX2_quotient_19 (by decide) ?_
      refine lv_iload_n hx hb dX2_quotient_20 rfl (lv_at hl 2 rfl) ?_
      refine lv_if_ge (tgt := 28) hx hb dX2_quotient_21 (by decide) (fun c_21 => ?_) (fun c_21 => ?_)
      · refine lv_iconst (v := 0) hx hb dX2_quotient_28 (by decide) ?_
        refine lv_icmp_eq (tgt := 38) hx hb dX2_quotient_29 (by decide) (fun c_29 => ?_) (fun c_29 => ?_)
        · refine lv_iload_n hx hb dX2_quotient_38 rfl (lv_at hl 0 rfl) ?_
          exact xretSi hx hb hr hlk dX2_quotient_39 (rfl) (qu_same ha (Or.inl ⟨c_12, c_21⟩))
        · exact absurd (by decide) c_29
      · refine lv_iconst (v := 1) hx hb dX2_quotient_24 (by decide) ?_
        refine lv_goto (tgt := 29) hx hb dX2_quotient_25 (by decide) ?_
        refine lv_icmp_eq (tgt := 38) hx hb dX2_quotient_29 (by decide) (fun c_29 => ?_) (fun c_29 => ?_)
        · exact absurd c_29 (by decide)
        · refine lv_iload_n hx hb dX2_quotient_32 rfl (lv_at hl 0 rfl) ?_
          refine lv_iconst (v := 1) hx hb dX2_quotient_33 (by decide) ?_
          refine lv_isub hx hb dX2_quotient_34 ?_
          refine lv_goto (tgt := 39) hx hb dX2_quotient_35 (by decide) ?_
          exact xretSi hx hb hr hlk dX2_quotient_39 (rfl) (qu_diff hb0 ha c_8 (Or.inl ⟨c_12, c_21⟩))
    · refine lv_iconst (v := 1) hx hb dX2_quotient_15 (by decide) ?_
      refine lv_goto (tgt := 20) hx hb dX2_quotient_16 (by decide) ?_
      refine lv_iload_n hx hb dX2_quotient_20 rfl (lv_at hl 2 rfl) ?_
      refine lv_if_ge (tgt := 28) hx hb dX2_quotient_21 (by decide) (fun c_21 => ?_) (fun c_21 => ?_)
      · refine lv_iconst (v := 0) hx hb dX2_quotient_28 (by decide) ?_
        refine lv_icmp_eq (tgt := 38) hx hb dX2_quotient_29 (by decide) (fun c_29 => ?_) (fun c_29 => ?_)
        · exact absurd c_29 (by decide)
        · refine lv_iload_n hx hb dX2_quotient_32 rfl (lv_at hl 0 rfl) ?_
          refine lv_iconst (v := 1) hx hb dX2_quotient_33 (by decide) ?_
          refine lv_isub hx hb dX2_quotient_34 ?_
          refine lv_goto (tgt := 39) hx hb dX2_quotient_35 (by decide) ?_
          exact xretSi hx hb hr hlk dX2_quotient_39 (rfl) (qu_diff hb0 ha c_8 (Or.inr ⟨c_12, c_21⟩))
      · refine lv_iconst (v := 1) hx hb dX2_quotient_24 (by decide) ?_
        refine lv_goto (tgt := 29) hx hb dX2_quotient_25 (by decide) ?_
        refine lv_icmp_eq (tgt := 38) hx hb dX2_quotient_29 (by decide) (fun c_29 => ?_) (fun c_29 => ?_)
        · refine lv_iload_n hx hb dX2_quotient_38 rfl (lv_at hl 0 rfl) ?_
          exact xretSi hx hb hr hlk dX2_quotient_39 (rfl) (qu_same ha (Or.inr ⟨c_12, c_21⟩))
        · exact absurd (by decide) c_29

set_option maxHeartbeats 4000000 in
set_option maxRecDepth 100000 in
/-- crosses: the edge is crossed at a place above x -/
theorem mtX2_crosses (l : Launch) (a b c0 d0 x y : Int32) (na : Nr a) (nb : Nr b) (nc : Nr c0) (nd : Nr d0) : Met l yX2_crosses (ws_ yX2_crosses cX2_crosses 21 (some .boolean)) (rm_ 0 0) (PcS [.long a.toInt64, .long b.toInt64, .long c0.toInt64, .long d0.toInt64, .long x.toInt64, .long y.toInt64]) (vp_Si (fun r => r = bI (crsZ a.toInt b.toInt c0.toInt d0.toInt x.toInt y.toInt))) 0 0 (fun _ => False) := by
  refine xMetS (by decide) (Nat.le_of_ble_eq_true rfl) ?_
  intro p e s m below meth c ls S hr hlk hl
  have S : CallFix p m c cX2_crosses 21 s _ lw_all RX2 := S
  have hx := S.1
  have hb := S.2.1
  have hl : lv_has ls 21 [(0, .long a.toInt64), (2, .long b.toInt64), (4, .long c0.toInt64), (6, .long d0.toInt64), (8, .long x.toInt64), (10, .long y.toInt64)] := hl
  refine lv_lload_n hx hb dX2_crosses_0 rfl (lv_at hl 1 rfl) ?_
  refine lv_lload hx hb dX2_crosses_1 (lv_at hl 5 rfl) ?_
  refine W.lcmp hx hb dX2_crosses_3 ?_
  refine lv_if_gt (tgt := 11) hx hb dX2_crosses_4 (by decide) (fun c_4 => ?_) (fun c_4 => ?_)
  · have c_4 : y.toInt64 < b.toInt64 := (lg_cmp_gt _ _).mp c_4
    refine lv_iconst (v := 0) hx hb dX2_crosses_11 (by decide) ?_
    refine lv_lload hx hb dX2_crosses_12 (lv_at hl 3 rfl) ?_
    refine lv_lload hx hb dX2_crosses_14 (lv_at hl 5 rfl) ?_
    refine W.lcmp hx hb dX2_crosses_16 ?_
    refine lv_if_gt (tgt := 24) hx hb dX2_crosses_17 (by decide) (fun c_17 => ?_) (fun c_17 => ?_)
    · have c_17 : y.toInt64 < d0.toInt64 := (lg_cmp_gt _ _).mp c_17
      refine lv_iconst (v := 0) hx hb dX2_crosses_24 (by decide) ?_
      refine lv_icmp_ne (tgt := 30) hx hb dX2_crosses_25 (by decide) (fun c_25 => ?_) (fun c_25 => ?_)
      · exact absurd (by decide) c_25
      · refine lv_iconst (v := 0) hx hb dX2_crosses_28 (by decide) ?_
        exact xretSi hx hb hr hlk dX2_crosses_29 (rfl) (cr_hi c_4 c_17)
    · have c_17 : ¬ (y.toInt64 < d0.toInt64) := fun q_ => c_17 ((lg_cmp_gt _ _).mpr q_)
      refine lv_iconst (v := 1) hx hb dX2_crosses_20 (by decide) ?_
      refine lv_goto (tgt := 25) hx hb dX2_crosses_21 (by decide) ?_
      refine lv_icmp_ne (tgt := 30) hx hb dX2_crosses_25 (by decide) (fun c_25 => ?_) (fun c_25 => ?_)
      · refine lv_lload_n hx hb dX2_crosses_30 rfl (lv_at hl 1 rfl) ?_
        refine lv_lload hx hb dX2_crosses_31 (lv_at hl 5 rfl) ?_
        refine W.lcmp hx hb dX2_crosses_33 ?_
        refine lv_if_gt (tgt := 41) hx hb dX2_crosses_34 (by decide) (fun c_34 => ?_) (fun c_34 => ?_)
        · have c_34 : y.toInt64 < b.toInt64 := (lg_cmp_gt _ _).mp c_34
          refine lv_iconst (v := 0) hx hb dX2_crosses_41 (by decide) ?_
          refine lv_istore (lv' := [(12, .int 0), (0, .long a.toInt64), (2, .long b.toInt64), (4, .long c0.toInt64), (6, .long d0.toInt64), (8, .long x.toInt64), (10, .long y.toInt64)]) hx hb dX2_crosses_42 hl (by decide) rfl (fun ls hl => ?_)
          refine lv_iload hx hb dX2_crosses_44 (lv_at hl 0 rfl) ?_
          refine lv_if_eq (tgt := 53) hx hb dX2_crosses_46 (by decide) (fun c_46 => ?_) (fun c_46 => ?_)
          · refine lv_lload hx hb dX2_crosses_53 (lv_at hl 3 rfl) ?_
            refine lv_lstore (lv' := [(13, .long c0.toInt64), (12, .int 0), (0, .long a.toInt64), (2, .long b.toInt64), (4, .long c0.toInt64), (6, .long d0.toInt64), (8, .long x.toInt64), (10, .long y.toInt64)]) hx hb dX2_crosses_55 hl (by decide) rfl (fun ls hl => ?_)
            refine lv_iload hx hb dX2_crosses_57 (lv_at hl 1 rfl) ?_
            refine lv_if_eq (tgt := 66) hx hb dX2_crosses_59 (by decide) (fun c_59 => ?_) (fun c_59 => ?_)
            · refine lv_lload hx hb dX2_crosses_66 (lv_at hl 5 rfl) ?_
              refine lv_lstore (lv' := [(15, .long d0.toInt64), (13, .long c0.toInt64), (12, .int 0), (0, .long a.toInt64), (2, .long b.toInt64), (4, .long c0.toInt64), (6, .long d0.toInt64), (8, .long x.toInt64), (10, .long y.toInt64)]) hx hb dX2_crosses_68 hl (by decide) rfl (fun ls hl => ?_)
              refine lv_iload hx hb dX2_crosses_70 (lv_at hl 2 rfl) ?_
              refine lv_if_eq (tgt := 82) hx hb dX2_crosses_72 (by decide) (fun c_72 => ?_) (fun c_72 => ?_)
              · refine lv_lload_n hx hb dX2_crosses_82 rfl (lv_at hl 3 rfl) ?_
                refine lv_lload hx hb dX2_crosses_83 (lv_at hl 5 rfl) ?_
                refine lv_lsub hx hb dX2_crosses_85 ?_
                refine lv_lstore (lv' := [(17, .long (a.toInt64 - c0.toInt64)), (15, .long d0.toInt64), (13, .long c0.toInt64), (12, .int 0), (0, .long a.toInt64), (2, .long b.toInt64), (4, .long c0.toInt64), (6, .long d0.toInt64), (8, .long x.toInt64), (10, .long y.toInt64)]) hx hb dX2_crosses_86 hl (by decide) rfl (fun ls hl => ?_)
                refine lv_iload hx hb dX2_crosses_88 (lv_at hl 3 rfl) ?_
                refine lv_if_eq (tgt := 100) hx hb dX2_crosses_90 (by decide) (fun c_90 => ?_) (fun c_90 => ?_)
                · refine lv_lload_n hx hb dX2_crosses_100 rfl (lv_at hl 5 rfl) ?_
                  refine lv_lload hx hb dX2_crosses_101 (lv_at hl 7 rfl) ?_
                  refine lv_lsub hx hb dX2_crosses_103 ?_
                  refine lv_lstore (lv' := [(19, .long (b.toInt64 - d0.toInt64)), (17, .long (a.toInt64 - c0.toInt64)), (15, .long d0.toInt64), (13, .long c0.toInt64), (12, .int 0), (0, .long a.toInt64), (2, .long b.toInt64), (4, .long c0.toInt64), (6, .long d0.toInt64), (8, .long x.toInt64), (10, .long y.toInt64)]) hx hb dX2_crosses_104 hl (by decide) rfl (fun ls hl => ?_)
                  refine lv_lload hx hb dX2_crosses_106 (lv_at hl 1 rfl) ?_
                  refine lv_lload hx hb dX2_crosses_108 (lv_at hl 10 rfl) ?_
                  refine lv_lload hx hb dX2_crosses_110 (lv_at hl 2 rfl) ?_
                  refine lv_lsub hx hb dX2_crosses_112 ?_
                  refine lv_lmul hx hb dX2_crosses_113 ?_
                  refine lv_lload hx hb dX2_crosses_114 (lv_at hl 9 rfl) ?_
                  refine lv_lload hx hb dX2_crosses_116 (lv_at hl 3 rfl) ?_
                  refine lv_lsub hx hb dX2_crosses_118 ?_
                  refine lv_lload hx hb dX2_crosses_119 (lv_at hl 0 rfl) ?_
                  refine lv_lmul hx hb dX2_crosses_121 ?_
                  refine W.lcmp hx hb dX2_crosses_122 ?_
                  refine lv_if_le (tgt := 130) hx hb dX2_crosses_123 (by decide) (fun c_123 => ?_) (fun c_123 => ?_)
                  · have c_123 : (a.toInt64 - c0.toInt64) * (y.toInt64 - d0.toInt64) ≤ (x.toInt64 - c0.toInt64) * (b.toInt64 - d0.toInt64) := (lg_cmp_le _ _).mp c_123
                    refine lv_iconst (v := 0) hx hb dX2_crosses_130 (by decide) ?_
                    exact xretSi hx hb hr hlk dX2_crosses_131 (rfl) (cr_0 (cr_dn na nb nc nd c_4 c_17) c_123)
                  · have c_123 : ¬ ((a.toInt64 - c0.toInt64) * (y.toInt64 - d0.toInt64) ≤ (x.toInt64 - c0.toInt64) * (b.toInt64 - d0.toInt64)) := fun q_ => c_123 ((lg_cmp_le _ _).mpr q_)
                    refine lv_iconst (v := 1) hx hb dX2_crosses_126 (by decide) ?_
                    refine lv_goto (tgt := 131) hx hb dX2_crosses_127 (by decide) ?_
                    exact xretSi hx hb hr hlk dX2_crosses_131 (rfl) (cr_1 (cr_dn na nb nc nd c_4 c_17) c_123)
                · exact absurd (by decide) c_90
              · exact absurd (by decide) c_72
            · exact absurd (by decide) c_59
          · exact absurd (by decide) c_46
        · have c_34 : ¬ (y.toInt64 < b.toInt64) := fun q_ => c_34 ((lg_cmp_gt _ _).mpr q_)
          exact absurd c_4 c_34
      · exact absurd c_25 (by decide)
  · have c_4 : ¬ (y.toInt64 < b.toInt64) := fun q_ => c_4 ((lg_cmp_gt _ _).mpr q_)
    refine lv_iconst (v := 1) hx hb dX2_crosses_7 (by decide) ?_
    refine lv_goto (tgt := 12) hx hb dX2_crosses_8 (by decide) ?_
    refine lv_lload hx hb dX2_crosses_12 (lv_at hl 3 rfl) ?_
    refine lv_lload hx hb dX2_crosses_14 (lv_at hl 5 rfl) ?_
    refine W.lcmp hx hb dX2_crosses_16 ?_
    refine lv_if_gt (tgt := 24) hx hb dX2_crosses_17 (by decide) (fun c_17 => ?_) (fun c_17 => ?_)
    · have c_17 : y.toInt64 < d0.toInt64 := (lg_cmp_gt _ _).mp c_17
      refine lv_iconst (v := 0) hx hb dX2_crosses_24 (by decide) ?_
      refine lv_icmp_ne (tgt := 30) hx hb dX2_crosses_25 (by decide) (fun c_25 => ?_) (fun c_25 => ?_)
      · refine lv_lload_n hx hb dX2_crosses_30 rfl (lv_at hl 1 rfl) ?_
        refine lv_lload hx hb dX2_crosses_31 (lv_at hl 5 rfl) ?_
        refine W.lcmp hx hb dX2_crosses_33 ?_
        refine lv_if_gt (tgt := 41) hx hb dX2_crosses_34 (by decide) (fun c_34 => ?_) (fun c_34 => ?_)
        · have c_34 : y.toInt64 < b.toInt64 := (lg_cmp_gt _ _).mp c_34
          exact absurd c_34 c_4
        · have c_34 : ¬ (y.toInt64 < b.toInt64) := fun q_ => c_34 ((lg_cmp_gt _ _).mpr q_)
          refine lv_iconst (v := 1) hx hb dX2_crosses_37 (by decide) ?_
          refine lv_goto (tgt := 42) hx hb dX2_crosses_38 (by decide) ?_
          refine lv_istore (lv' := [(12, .int 1), (0, .long a.toInt64), (2, .long b.toInt64), (4, .long c0.toInt64), (6, .long d0.toInt64), (8, .long x.toInt64), (10, .long y.toInt64)]) hx hb dX2_crosses_42 hl (by decide) rfl (fun ls hl => ?_)
          refine lv_iload hx hb dX2_crosses_44 (lv_at hl 0 rfl) ?_
          refine lv_if_eq (tgt := 53) hx hb dX2_crosses_46 (by decide) (fun c_46 => ?_) (fun c_46 => ?_)
          · exact absurd c_46 (by decide)
          · refine lv_lload_n hx hb dX2_crosses_49 rfl (lv_at hl 1 rfl) ?_
            refine lv_goto (tgt := 55) hx hb dX2_crosses_50 (by decide) ?_
            refine lv_lstore (lv' := [(13, .long a.toInt64), (12, .int 1), (0, .long a.toInt64), (2, .long b.toInt64), (4, .long c0.toInt64), (6, .long d0.toInt64), (8, .long x.toInt64), (10, .long y.toInt64)]) hx hb dX2_crosses_55 hl (by decide) rfl (fun ls hl => ?_)
            refine lv_iload hx hb dX2_crosses_57 (lv_at hl 1 rfl) ?_
            refine lv_if_eq (tgt := 66) hx hb dX2_crosses_59 (by decide) (fun c_59 => ?_) (fun c_59 => ?_)
            · exact absurd c_59 (by decide)
            · refine lv_lload_n hx hb dX2_crosses_62 rfl (lv_at hl 3 rfl) ?_
              refine lv_goto (tgt := 68) hx hb dX2_crosses_63 (by decide) ?_
              refine lv_lstore (lv' := [(15, .long b.toInt64), (13, .long a.toInt64), (12, .int 1), (0, .long a.toInt64), (2, .long b.toInt64), (4, .long c0.toInt64), (6, .long d0.toInt64), (8, .long x.toInt64), (10, .long y.toInt64)]) hx hb dX2_crosses_68 hl (by decide) rfl (fun ls hl => ?_)
              refine lv_iload hx hb dX2_crosses_70 (lv_at hl 2 rfl) ?_
              refine lv_if_eq (tgt := 82) hx hb dX2_crosses_72 (by decide) (fun c_72 => ?_) (fun c_72 => ?_)
              · exact absurd c_72 (by decide)
              · refine lv_lload hx hb dX2_crosses_75 (lv_at hl 5 rfl) ?_
                refine lv_lload_n hx hb dX2_crosses_77 rfl (lv_at hl 3 rfl) ?_
                refine lv_lsub hx hb dX2_crosses_78 ?_
                refine lv_goto (tgt := 86) hx hb dX2_crosses_79 (by decide) ?_
                refine lv_lstore (lv' := [(17, .long (c0.toInt64 - a.toInt64)), (15, .long b.toInt64), (13, .long a.toInt64), (12, .int 1), (0, .long a.toInt64), (2, .long b.toInt64), (4, .long c0.toInt64), (6, .long d0.toInt64), (8, .long x.toInt64), (10, .long y.toInt64)]) hx hb dX2_crosses_86 hl (by decide) rfl (fun ls hl => ?_)
                refine lv_iload hx hb dX2_crosses_88 (lv_at hl 3 rfl) ?_
                refine lv_if_eq (tgt := 100) hx hb dX2_crosses_90 (by decide) (fun c_90 => ?_) (fun c_90 => ?_)
                · exact absurd c_90 (by decide)
                · refine lv_lload hx hb dX2_crosses_93 (lv_at hl 7 rfl) ?_
                  refine lv_lload_n hx hb dX2_crosses_95 rfl (lv_at hl 5 rfl) ?_
                  refine lv_lsub hx hb dX2_crosses_96 ?_
                  refine lv_goto (tgt := 104) hx hb dX2_crosses_97 (by decide) ?_
                  refine lv_lstore (lv' := [(19, .long (d0.toInt64 - b.toInt64)), (17, .long (c0.toInt64 - a.toInt64)), (15, .long b.toInt64), (13, .long a.toInt64), (12, .int 1), (0, .long a.toInt64), (2, .long b.toInt64), (4, .long c0.toInt64), (6, .long d0.toInt64), (8, .long x.toInt64), (10, .long y.toInt64)]) hx hb dX2_crosses_104 hl (by decide) rfl (fun ls hl => ?_)
                  refine lv_lload hx hb dX2_crosses_106 (lv_at hl 1 rfl) ?_
                  refine lv_lload hx hb dX2_crosses_108 (lv_at hl 10 rfl) ?_
                  refine lv_lload hx hb dX2_crosses_110 (lv_at hl 2 rfl) ?_
                  refine lv_lsub hx hb dX2_crosses_112 ?_
                  refine lv_lmul hx hb dX2_crosses_113 ?_
                  refine lv_lload hx hb dX2_crosses_114 (lv_at hl 9 rfl) ?_
                  refine lv_lload hx hb dX2_crosses_116 (lv_at hl 3 rfl) ?_
                  refine lv_lsub hx hb dX2_crosses_118 ?_
                  refine lv_lload hx hb dX2_crosses_119 (lv_at hl 0 rfl) ?_
                  refine lv_lmul hx hb dX2_crosses_121 ?_
                  refine W.lcmp hx hb dX2_crosses_122 ?_
                  refine lv_if_le (tgt := 130) hx hb dX2_crosses_123 (by decide) (fun c_123 => ?_) (fun c_123 => ?_)
                  · have c_123 : (c0.toInt64 - a.toInt64) * (y.toInt64 - b.toInt64) ≤ (x.toInt64 - a.toInt64) * (d0.toInt64 - b.toInt64) := (lg_cmp_le _ _).mp c_123
                    refine lv_iconst (v := 0) hx hb dX2_crosses_130 (by decide) ?_
                    exact xretSi hx hb hr hlk dX2_crosses_131 (rfl) (cr_0 (cr_up na nb nc nd c_4 c_17) c_123)
                  · have c_123 : ¬ ((c0.toInt64 - a.toInt64) * (y.toInt64 - b.toInt64) ≤ (x.toInt64 - a.toInt64) * (d0.toInt64 - b.toInt64)) := fun q_ => c_123 ((lg_cmp_le _ _).mpr q_)
                    refine lv_iconst (v := 1) hx hb dX2_crosses_126 (by decide) ?_
                    refine lv_goto (tgt := 131) hx hb dX2_crosses_127 (by decide) ?_
                    exact xretSi hx hb hr hlk dX2_crosses_131 (rfl) (cr_1 (cr_up na nb nc nd c_4 c_17) c_123)
      · exact absurd c_25 (by decide)
    · have c_17 : ¬ (y.toInt64 < d0.toInt64) := fun q_ => c_17 ((lg_cmp_gt _ _).mpr q_)
      refine lv_iconst (v := 1) hx hb dX2_crosses_20 (by decide) ?_
      refine lv_goto (tgt := 25) hx hb dX2_crosses_21 (by decide) ?_
      refine lv_icmp_ne (tgt := 30) hx hb dX2_crosses_25 (by decide) (fun c_25 => ?_) (fun c_25 => ?_)
      · exact absurd (by decide) c_25
      · refine lv_iconst (v := 0) hx hb dX2_crosses_28 (by decide) ?_
        exact xretSi hx hb hr hlk dX2_crosses_29 (rfl) (cr_lo c_4 c_17)

set_option maxHeartbeats 4000000 in
set_option maxRecDepth 100000 in
/-- depth(side, x, y) -/
theorem mtX2_depth (l : Launch) (D : va_G) (d : ClassId) (b : Nat → Nat) (pi xs ys fx fy tx ty : Nat → Int32) (w h C n fm tn : Nat) (x0 x1 y0 y1 : Int32) (sd : Nat) (x y : Int32) (hsd : sd < 4) : Met l yX2_depth (ws_ yX2_depth cX2_depth 4 (some .int)) (rm_ 0 0) (PcR [.ref (b 0), .int (nI sd), .int x, .int y] D (wM d b pi xs ys fx fy tx ty w h C n fm tn x0 x1 y0 y1) [(d, .int)]) (vp_Si (fun r => r = depI sd x0 x1 y0 y1 x y)) 0 0 (fun _ => False) := by
  refine xMetR (by decide) (Nat.le_of_ble_eq_true rfl) ?_
  intro p e s m below meth c ls S hr hlk hl hP hK
  have S : CallFix p m c cX2_depth 4 s _ lw_all RX2 := S
  have hx := S.1
  have hb := S.2.1
  have hl : lv_has ls 4 [(0, .ref (b 0)), (1, .int (nI sd)), (2, .int x), (3, .int y)] := hl
  refine lv_iload_n hx hb dX2_depth_0 rfl (lv_at hl 1 rfl) ?_
  refine lv_if_ne (tgt := 13) hx hb dX2_depth_1 (by decide) (fun c_1 => ?_) (fun c_1 => ?_)
  · have c_1 : sd ≠ 0 := xne (a := sd) (b := 0) c_1 (by omega) (by omega)
    refine lv_iload_n hx hb dX2_depth_13 rfl (lv_at hl 1 rfl) ?_
    refine lv_iconst (v := 1) hx hb dX2_depth_14 (by decide) ?_
    refine lv_icmp_ne (tgt := 27) hx hb dX2_depth_15 (by decide) (fun c_15 => ?_) (fun c_15 => ?_)
    · have c_15 : sd ≠ 1 := xne (a := sd) (b := 1) c_15 (by omega) (by omega)
      refine lv_iload_n hx hb dX2_depth_27 rfl (lv_at hl 1 rfl) ?_
      refine lv_iconst (v := 2) hx hb dX2_depth_28 (by decide) ?_
      refine lv_icmp_ne (tgt := 41) hx hb dX2_depth_29 (by decide) (fun c_29 => ?_) (fun c_29 => ?_)
      · have c_29 : sd ≠ 2 := xne (a := sd) (b := 2) c_29 (by omega) (by omega)
        refine lv_aload_n hx hb dX2_depth_41 rfl (lv_at hl 0 rfl) ?_
        refine xget2 S hK hP 0 rfl 16 (by decide) q214 rfl (v := .int y1) rfl dX2_depth_42 ?_
        refine lv_iload_n hx hb dX2_depth_45 rfl (lv_at hl 3 rfl) ?_
        refine lv_isub hx hb dX2_depth_46 ?_
        exact xretSi hx hb hr hlk dX2_depth_47 (rfl) (by simp [depI, c_1, c_15, c_29])
      · have c_29 : sd = 2 := xeq (a := sd) (b := 2) c_29 (by omega) (by omega)
        refine lv_iload_n hx hb dX2_depth_32 rfl (lv_at hl 3 rfl) ?_
        refine lv_aload_n hx hb dX2_depth_33 rfl (lv_at hl 0 rfl) ?_
        refine xget2 S hK hP 0 rfl 15 (by decide) q213 rfl (v := .int y0) rfl dX2_depth_34 ?_
        refine lv_isub hx hb dX2_depth_37 ?_
        refine lv_goto (tgt := 47) hx hb dX2_depth_38 (by decide) ?_
        exact xretSi hx hb hr hlk dX2_depth_47 (rfl) (by simp [depI, c_1, c_15, c_29])
    · have c_15 : sd = 1 := xeq (a := sd) (b := 1) c_15 (by omega) (by omega)
      refine lv_aload_n hx hb dX2_depth_18 rfl (lv_at hl 0 rfl) ?_
      refine xget2 S hK hP 0 rfl 14 (by decide) q212 rfl (v := .int x1) rfl dX2_depth_19 ?_
      refine lv_iload_n hx hb dX2_depth_22 rfl (lv_at hl 2 rfl) ?_
      refine lv_isub hx hb dX2_depth_23 ?_
      refine lv_goto (tgt := 47) hx hb dX2_depth_24 (by decide) ?_
      exact xretSi hx hb hr hlk dX2_depth_47 (rfl) (by simp [depI, c_1, c_15])
  · have c_1 : sd = 0 := xeq (a := sd) (b := 0) c_1 (by omega) (by omega)
    refine lv_iload_n hx hb dX2_depth_4 rfl (lv_at hl 2 rfl) ?_
    refine lv_aload_n hx hb dX2_depth_5 rfl (lv_at hl 0 rfl) ?_
    refine xget2 S hK hP 0 rfl 13 (by decide) q211 rfl (v := .int x0) rfl dX2_depth_6 ?_
    refine lv_isub hx hb dX2_depth_9 ?_
    refine lv_goto (tgt := 47) hx hb dX2_depth_10 (by decide) ?_
    exact xretSi hx hb hr hlk dX2_depth_47 (rfl) (by simp [depI, c_1])

set_option maxHeartbeats 4000000 in
set_option maxRecDepth 100000 in
/-- isVertex(i) -/
theorem mtX2_isVertex (l : Launch) (D : va_G) (d : ClassId) (b : Nat → Nat) (pi xs ys fx fy tx ty : Nat → Int32) (w h C n fm tn : Nat) (x0 x1 y0 y1 : Int32) (i : Int32) : Met l yX2_isVertex (ws_ yX2_isVertex cX2_isVertex 2 (some .boolean)) (rm_ 0 0) (PcR [.ref (b 0), .int i] D (wM d b pi xs ys fx fy tx ty w h C n fm tn x0 x1 y0 y1) [(d, .int)]) (vp_Si (fun r => r = bI (ivB n i))) 0 0 (fun _ => False) := by
  refine xMetR (by decide) (Nat.le_of_ble_eq_true rfl) ?_
  intro p e s m below meth c ls S hr hlk hl hP hK
  have S : CallFix p m c cX2_isVertex 2 s _ lw_all RX2 := S
  have hx := S.1
  have hb := S.2.1
  have hl : lv_has ls 2 [(0, .ref (b 0)), (1, .int i)] := hl
  refine lv_iload_n hx hb dX2_isVertex_0 rfl (lv_at hl 1 rfl) ?_
  refine lv_if_lt (tgt := 16) hx hb dX2_isVertex_1 (by decide) (fun c_1 => ?_) (fun c_1 => ?_)
  · refine lv_iconst (v := 0) hx hb dX2_isVertex_16 (by decide) ?_
    exact xretSi hx hb hr hlk dX2_isVertex_17 (rfl) (by simp [bI, ivB, c_1])
  · refine lv_iload_n hx hb dX2_isVertex_4 rfl (lv_at hl 1 rfl) ?_
    refine lv_aload_n hx hb dX2_isVertex_5 rfl (lv_at hl 0 rfl) ?_
    refine xget2 S hK hP 0 rfl 6 (by decide) q204 rfl (v := .int (nI n)) rfl dX2_isVertex_6 ?_
    refine lv_icmp_ge (tgt := 16) hx hb dX2_isVertex_9 (by decide) (fun c_9 => ?_) (fun c_9 => ?_)
    · refine lv_iconst (v := 0) hx hb dX2_isVertex_16 (by decide) ?_
      exact xretSi hx hb hr hlk dX2_isVertex_17 (rfl) (by simp [bI, ivB, c_1, c_9])
    · refine lv_iconst (v := 1) hx hb dX2_isVertex_12 (by decide) ?_
      refine lv_goto (tgt := 17) hx hb dX2_isVertex_13 (by decide) ?_
      exact xretSi hx hb hr hlk dX2_isVertex_17 (rfl) (by simp [bI, ivB, c_1, c_9])

set_option maxHeartbeats 4000000 in
set_option maxRecDepth 100000 in
/-- vx(i) -/
theorem mtX2_vx (l : Launch) (D : va_G) (d : ClassId) (b : Nat → Nat) (pi xs ys fx fy tx ty : Nat → Int32) (w h C n fm tn : Nat) (x0 x1 y0 y1 : Int32) (i : Int32) (hn : n ≤ 60) : Met l yX2_vx (ws_ yX2_vx cX2_vx 2 (some .int)) (rm_ 1 21) (PcR [.ref (b 0), .int i] D (wM d b pi xs ys fx fy tx ty w h C n fm tn x0 x1 y0 y1) [(d, .int)]) (vp_Si (fun r => r = vxI xs n i)) 0 0 (fun _ => False) := by
  refine xMetR (by decide) (Nat.le_of_ble_eq_true rfl) ?_
  intro p e s m below meth c ls S hr hlk hl hP hK
  have S : CallFix p m c cX2_vx 2 s _ lw_all RX2 := S
  have hx := S.1
  have hb := S.2.1
  have hl : lv_has ls 2 [(0, .ref (b 0)), (1, .int i)] := hl
  refine lv_aload_n hx hb dX2_vx_0 rfl (lv_at hl 0 rfl) ?_
  refine lv_iload_n hx hb dX2_vx_1 rfl (lv_at hl 1 rfl) ?_
  refine xcRi [.int i] S (mtX2_isVertex l D d b pi xs ys fx fy tx ty w h C n fm tn x0 x1 y0 y1 i ) q296 viX2_isVertex ⟨rfl, rfl⟩ ⟨Nat.le_of_ble_eq_true rfl, Nat.le_of_ble_eq_true rfl⟩ ⟨Nat.le_of_ble_eq_true rfl, Nat.le_of_ble_eq_true rfl⟩ hK hP (ci := 1) (q0 := 0) rfl rfl hl.1 (rest := []) rfl (Nat.le_of_ble_eq_true rfl) dX2_vx_2 (fun r_ h_ => ?_)
  obtain rfl := h_
  refine lv_if_eq (tgt := 17) hx hb dX2_vx_5 (by decide) (fun c_5 => ?_) (fun c_5 => ?_)
  · have c_5 : (ivB n i) = false := bI_0 c_5
    refine lv_sipush (v := (-32768)) hx hb dX2_vx_17 (by decide) ?_
    exact xretSi hx hb hr hlk dX2_vx_20 (rfl) (iv_no c_5)
  · have c_5 : (ivB n i) = true := bI_1 c_5
    obtain ⟨j, hj, rfl⟩ := iv_in hn c_5
    refine lv_aload_n hx hb dX2_vx_8 rfl (lv_at hl 0 rfl) ?_
    refine xget2 S hK hP 0 rfl 4 (by decide) q202 rfl (v := .ref (b 2)) rfl dX2_vx_9 ?_
    refine lv_iload_n hx hb dX2_vx_12 rfl (lv_at hl 1 rfl) ?_
    refine xald (j := j) hx hb hK hP 2 0 rfl rfl (by decide) dX2_vx_13 (by omega) ?_
    refine lv_goto (tgt := 20) hx hb dX2_vx_14 (by decide) ?_
    exact xretSi hx hb hr hlk dX2_vx_20 (rfl) (vxI_in hj hn)

set_option maxHeartbeats 4000000 in
set_option maxRecDepth 100000 in
/-- vy(i) -/
theorem mtX2_vy (l : Launch) (D : va_G) (d : ClassId) (b : Nat → Nat) (pi xs ys fx fy tx ty : Nat → Int32) (w h C n fm tn : Nat) (x0 x1 y0 y1 : Int32) (i : Int32) (hn : n ≤ 60) : Met l yX2_vy (ws_ yX2_vy cX2_vy 2 (some .int)) (rm_ 1 21) (PcR [.ref (b 0), .int i] D (wM d b pi xs ys fx fy tx ty w h C n fm tn x0 x1 y0 y1) [(d, .int)]) (vp_Si (fun r => r = vxI ys n i)) 0 0 (fun _ => False) := by
  refine xMetR (by decide) (Nat.le_of_ble_eq_true rfl) ?_
  intro p e s m below meth c ls S hr hlk hl hP hK
  have S : CallFix p m c cX2_vy 2 s _ lw_all RX2 := S
  have hx := S.1
  have hb := S.2.1
  have hl : lv_has ls 2 [(0, .ref (b 0)), (1, .int i)] := hl
  refine lv_aload_n hx hb dX2_vy_0 rfl (lv_at hl 0 rfl) ?_
  refine lv_iload_n hx hb dX2_vy_1 rfl (lv_at hl 1 rfl) ?_
  refine xcRi [.int i] S (mtX2_isVertex l D d b pi xs ys fx fy tx ty w h C n fm tn x0 x1 y0 y1 i ) q296 viX2_isVertex ⟨rfl, rfl⟩ ⟨Nat.le_of_ble_eq_true rfl, Nat.le_of_ble_eq_true rfl⟩ ⟨Nat.le_of_ble_eq_true rfl, Nat.le_of_ble_eq_true rfl⟩ hK hP (ci := 1) (q0 := 0) rfl rfl hl.1 (rest := []) rfl (Nat.le_of_ble_eq_true rfl) dX2_vy_2 (fun r_ h_ => ?_)
  obtain rfl := h_
  refine lv_if_eq (tgt := 17) hx hb dX2_vy_5 (by decide) (fun c_5 => ?_) (fun c_5 => ?_)
  · have c_5 : (ivB n i) = false := bI_0 c_5
    refine lv_sipush (v := (-32768)) hx hb dX2_vy_17 (by decide) ?_
    exact xretSi hx hb hr hlk dX2_vy_20 (rfl) (iv_no c_5)
  · have c_5 : (ivB n i) = true := bI_1 c_5
    obtain ⟨j, hj, rfl⟩ := iv_in hn c_5
    refine lv_aload_n hx hb dX2_vy_8 rfl (lv_at hl 0 rfl) ?_
    refine xget2 S hK hP 0 rfl 5 (by decide) q203 rfl (v := .ref (b 3)) rfl dX2_vy_9 ?_
    refine lv_iload_n hx hb dX2_vy_12 rfl (lv_at hl 1 rfl) ?_
    refine xald (j := j) hx hb hK hP 3 0 rfl rfl (by decide) dX2_vy_13 (by omega) ?_
    refine lv_goto (tgt := 20) hx hb dX2_vy_14 (by decide) ?_
    exact xretSi hx hb hr hlk dX2_vy_20 (rfl) (vxI_in hj hn)

set_option maxHeartbeats 4000000 in
set_option maxRecDepth 100000 in
/-- vertices() -/
theorem mtX2_vertices (l : Launch) (D : va_G) (d : ClassId) (b : Nat → Nat) (pi xs ys fx fy tx ty : Nat → Int32) (w h C n fm tn : Nat) (x0 x1 y0 y1 : Int32)  : Met l yX2_vertices (ws_ yX2_vertices cX2_vertices 1 (some .int)) (rm_ 0 0) (PcR [.ref (b 0)] D (wM d b pi xs ys fx fy tx ty w h C n fm tn x0 x1 y0 y1) [(d, .int)]) (vp_Si (fun r => r = nI n)) 0 0 (fun _ => False) := by
  refine xMetR (by decide) (Nat.le_of_ble_eq_true rfl) ?_
  intro p e s m below meth c ls S hr hlk hl hP hK
  have S : CallFix p m c cX2_vertices 1 s _ lw_all RX2 := S
  have hx := S.1
  have hb := S.2.1
  have hl : lv_has ls 1 [(0, .ref (b 0))] := hl
  refine lv_aload_n hx hb dX2_vertices_0 rfl (lv_at hl 0 rfl) ?_
  refine xget2 S hK hP 0 rfl 6 (by decide) q204 rfl (v := .int (nI n)) rfl dX2_vertices_1 ?_
  exact xretSi hx hb hr hlk dX2_vertices_4 (rfl) (rfl)

set_option maxHeartbeats 4000000 in
set_option maxRecDepth 100000 in
/-- pixel(x, y) -/
theorem mtX2_pixel (l : Launch) (D : va_G) (d : ClassId) (b : Nat → Nat) (pi xs ys fx fy tx ty : Nat → Int32) (w h C n fm tn : Nat) (x0 x1 y0 y1 : Int32) (x y : Int32) (hw : w ≤ 24) (hh : h ≤ 24) : Met l yX2_pixel (ws_ yX2_pixel cX2_pixel 3 (some .int)) (rm_ 0 0) (PcR [.ref (b 0), .int x, .int y] D (wM d b pi xs ys fx fy tx ty w h C n fm tn x0 x1 y0 y1) [(d, .int)]) (vp_Si (fun r => r = pixI 24 pi w h x y)) 0 0 (fun _ => False) := by
  refine xMetR (by decide) (Nat.le_of_ble_eq_true rfl) ?_
  intro p e s m below meth c ls S hr hlk hl hP hK
  have S : CallFix p m c cX2_pixel 3 s _ lw_all RX2 := S
  have hx := S.1
  have hb := S.2.1
  have hl : lv_has ls 3 [(0, .ref (b 0)), (1, .int x), (2, .int y)] := hl
  refine lv_iload_n hx hb dX2_pixel_0 rfl (lv_at hl 1 rfl) ?_
  refine lv_if_lt (tgt := 38) hx hb dX2_pixel_1 (by decide) (fun c_1 => ?_) (fun c_1 => ?_)
  · refine lv_iconst (v := (-1)) hx hb dX2_pixel_38 (by decide) ?_
    exact xretSi hx hb hr hlk dX2_pixel_39 (rfl) (pixI_out (Or.inl c_1))
  · refine lv_iload_n hx hb dX2_pixel_4 rfl (lv_at hl 1 rfl) ?_
    refine lv_aload_n hx hb dX2_pixel_5 rfl (lv_at hl 0 rfl) ?_
    refine xget2 S hK hP 0 rfl 0 (by decide) q198 rfl (v := .int (nI w)) rfl dX2_pixel_6 ?_
    refine lv_icmp_ge (tgt := 38) hx hb dX2_pixel_9 (by decide) (fun c_9 => ?_) (fun c_9 => ?_)
    · refine lv_iconst (v := (-1)) hx hb dX2_pixel_38 (by decide) ?_
      exact xretSi hx hb hr hlk dX2_pixel_39 (rfl) (pixI_out (Or.inr (Or.inl c_9)))
    · refine lv_iload_n hx hb dX2_pixel_12 rfl (lv_at hl 2 rfl) ?_
      refine lv_if_lt (tgt := 38) hx hb dX2_pixel_13 (by decide) (fun c_13 => ?_) (fun c_13 => ?_)
      · refine lv_iconst (v := (-1)) hx hb dX2_pixel_38 (by decide) ?_
        exact xretSi hx hb hr hlk dX2_pixel_39 (rfl) (pixI_out (Or.inr (Or.inr (Or.inl c_13))))
      · refine lv_iload_n hx hb dX2_pixel_16 rfl (lv_at hl 2 rfl) ?_
        refine lv_aload_n hx hb dX2_pixel_17 rfl (lv_at hl 0 rfl) ?_
        refine xget2 S hK hP 0 rfl 1 (by decide) q199 rfl (v := .int (nI h)) rfl dX2_pixel_18 ?_
        refine lv_icmp_ge (tgt := 38) hx hb dX2_pixel_21 (by decide) (fun c_21 => ?_) (fun c_21 => ?_)
        · refine lv_iconst (v := (-1)) hx hb dX2_pixel_38 (by decide) ?_
          exact xretSi hx hb hr hlk dX2_pixel_39 (rfl) (pixI_out (Or.inr (Or.inr (Or.inr c_21))))
        · obtain ⟨i, hi, rfl⟩ := vx_in (n := w) (by omega) c_1 c_9
          obtain ⟨j, hj, rfl⟩ := vx_in (n := h) (by omega) c_13 c_21
          have hij := pix_lt2 hw hh hi hj
          refine lv_aload_n hx hb dX2_pixel_24 rfl (lv_at hl 0 rfl) ?_
          refine xget2 S hK hP 0 rfl 3 (by decide) q201 rfl (v := .ref (b 1)) rfl dX2_pixel_25 ?_
          refine lv_bipush (v := 24) hx hb dX2_pixel_28 (by decide) ?_
          refine lv_iload_n hx hb dX2_pixel_30 rfl (lv_at hl 2 rfl) ?_
          refine lv_imul hx hb dX2_pixel_31 ?_
          refine xtopi (y := nI (24 * j)) (pk_mul 24 j) ?_
          refine lv_iload_n hx hb dX2_pixel_32 rfl (lv_at hl 1 rfl) ?_
          refine lv_iadd hx hb dX2_pixel_33 ?_
          refine xtopi (y := nI ((24 * j) + i)) (nI_add (24 * j) i) ?_
          refine xald (j := (24 * j) + i) hx hb hK hP 1 0 rfl rfl (by decide) dX2_pixel_34 (by omega) ?_
          refine lv_goto (tgt := 39) hx hb dX2_pixel_35 (by decide) ?_
          exact xretSi hx hb hr hlk dX2_pixel_39 (rfl) (pixI_in hw hh hi hj)

set_option maxHeartbeats 4000000 in
set_option maxRecDepth 100000 in
/-- clear(colour): every pixel -/
theorem mtX2_clear (l : Launch) (D : va_G) (d : ClassId) (b : Nat → Nat) (pi xs ys fx fy tx ty : Nat → Int32) (w h C n fm tn : Nat) (x0 x1 y0 y1 : Int32) (col : Int32) (sz : Nat) : Met l yX2_clear (ws_ yX2_clear cX2_clear 3 none) (rm_ 0 0) (PcM [.ref (b 0), .int col] D (wM d b pi xs ys fx fy tx ty w h C n fm tn x0 x1 y0 y1) [(d, .int)] sz) (va_Qv (fun (u_ : (Nat → Int32)) => ∀ k, k < 576 → u_ k = col) (fun (u_ : (Nat → Int32)) t => QB D [(d, .int)] (va_A (wM d b pi xs ys fx fy tx ty w h C n fm tn x0 x1 y0 y1) sz) (wM d b u_ xs ys fx fy tx ty w h C n fm tn x0 x1 y0 y1) t) (va_A (wM d b pi xs ys fx fy tx ty w h C n fm tn x0 x1 y0 y1) sz)) 0 0 (va_A (wM d b pi xs ys fx fy tx ty w h C n fm tn x0 x1 y0 y1) sz) := by
  refine xMetM (Qf := fun A => (va_Qv (fun (u_ : (Nat → Int32)) => ∀ k, k < 576 → u_ k = col) (fun (u_ : (Nat → Int32)) t => QB D [(d, .int)] A (wM d b u_ xs ys fx fy tx ty w h C n fm tn x0 x1 y0 y1) t) A)) (by decide) (Nat.le_of_ble_eq_true rfl) ?_
  intro p e s m below meth c ls A H locs S hr hlk hl hP hK hD hS hA hin
  have S : CallFix p m c cX2_clear 3 s _ lw_all RX2 := S
  have hx := S.1
  have hb := S.2.1
  have hl : lv_has ls 3 [(0, .ref (b 0)), (1, .int col)] := hl
  refine lv_iconst (v := 0) hx hb dX2_clear_0 (by decide) ?_
  refine lv_istore_n (lv' := [(2, .int 0), (0, .ref (b 0)), (1, .int col)]) hx hb dX2_clear_1 rfl hl (by decide) rfl (fun ls hl => ?_)
  refine xloop (α := Nat × (Nat → Int32)) (fun x_ => 576 - x_.1) (fun x_ H locs g_ => ∃ ls, g_ = F0 m 2 ls [] ∧ lv_has ls 3 [(0, .ref (b 0)), (1, .int col), (2, .int (nI x_.1))] ∧ va_P D vwCl (wM d b x_.2 xs ys fx fy tx ty w h C n fm tn x0 x1 y0 y1) H ∧ va_D A (wM d b x_.2 xs ys fx fy tx ty w h C n fm tn x0 x1 y0 y1) ∧ va_S A s.heap H locs ∧ (x_.1 ≤ 576 ∧ ∀ j, j < x_.1 → x_.2 j = col)) ?_ (0, pi) ⟨ls, rfl, (lv_sub hl [1, 2, 0] rfl), hP, hD, hS, (show 0 ≤ 576 ∧ ∀ j, j < 0 → pi j = col from ⟨Nat.zero_le _, fun j h_ => absurd h_ (Nat.not_lt_zero j)⟩)⟩
  intro x_ H locs g_ hJ_ ih_2
  obtain ⟨k, f⟩ := x_
  obtain ⟨ls, rfl, hl, hP, hD, hS, hI_2⟩ := hJ_
  have hl : lv_has ls 3 [(0, .ref (b 0)), (1, .int col), (2, .int (nI k))] := hl
  have hP : va_P D vwCl (wM d b f xs ys fx fy tx ty w h C n fm tn x0 x1 y0 y1) H := hP
  have hD : va_D A (wM d b f xs ys fx fy tx ty w h C n fm tn x0 x1 y0 y1) := hD
  have hI_2 : k ≤ 576 ∧ ∀ j, j < k → f j = col := hI_2
  refine lv_iload_n hx hb dX2_clear_2 rfl (lv_at hl 2 rfl) ?_
  refine lv_sipush (v := 576) hx hb dX2_clear_3 (by decide) ?_
  refine lv_icmp_ge (tgt := 22) hx hb dX2_clear_6 (by decide) (fun c_6 => ?_) (fun c_6 => ?_)
  · have c_6 : 576 ≤ k := xle (a := 576) (b := k) c_6 (by omega) (by omega)
    exact xretMv hx hb hr hlk hK hS dX2_clear_22 (f) hP hD (fun j h_ => hI_2.2 j (by omega))
  · have c_6 : 576 > k := xnle (a := 576) (b := k) c_6 (by omega) (by omega)
    refine lv_aload_n hx hb dX2_clear_9 rfl (lv_at hl 0 rfl) ?_
    refine xget2 S hK hP 0 rfl 3 (by decide) q201 rfl (v := .ref (b 1)) rfl dX2_clear_10 ?_
    refine lv_iload_n hx hb dX2_clear_13 rfl (lv_at hl 2 rfl) ?_
    refine lv_iload_n hx hb dX2_clear_14 rfl (lv_at hl 1 rfl) ?_
    refine xast (j := k) hx hb hK hP hD hS 1 0 rfl rfl (by decide) dX2_clear_15 (by omega) (fun H locs hP hD hS => ?_)
    have hP : va_P D vwCl (wM d b (upd f k col) xs ys fx fy tx ty w h C n fm tn x0 x1 y0 y1) H := hP
    have hD : va_D A (wM d b (upd f k col) xs ys fx fy tx ty w h C n fm tn x0 x1 y0 y1) := hD
    refine lv_iinc (v := nI (k + 1)) (lv' := [(2, .int (nI (k + 1))), (0, .ref (b 0)), (1, .int col)]) hx hb dX2_clear_16 hl (k := 2) rfl (nI_inc _) (by decide) rfl (fun ls hl => ?_)
    refine lv_goto (tgt := 2) hx hb dX2_clear_19 (by decide) ?_
    exact ih_2 (k + 1, upd f k col) _ _ _ (by show 576 - (k + 1) < 576 - k; omega) ⟨ls, rfl, (lv_sub hl [1, 2, 0] rfl), hP, hD, hS, (show (k + 1) ≤ 576 ∧ ∀ j, j < (k + 1) → (upd f k col) j = col from ⟨by omega, upd_all hI_2.2⟩)⟩

set_option maxHeartbeats 4000000 in
set_option maxRecDepth 100000 in
/-- begin(): no vertex -/
theorem mtX2_begin (l : Launch) (D : va_G) (d : ClassId) (b : Nat → Nat) (pi xs ys fx fy tx ty : Nat → Int32) (w h C n fm tn : Nat) (x0 x1 y0 y1 : Int32)  (sz : Nat) : Met l yX2_begin (ws_ yX2_begin cX2_begin 1 none) (rm_ 0 0) (PcM [.ref (b 0)] D (wM d b pi xs ys fx fy tx ty w h C n fm tn x0 x1 y0 y1) [(d, .int)] sz) (va_Qv (fun (u_ : Unit) => True) (fun (u_ : Unit) t => QB D [(d, .int)] (va_A (wM d b pi xs ys fx fy tx ty w h C n fm tn x0 x1 y0 y1) sz) (wM d b pi xs ys fx fy tx ty w h C 0 fm tn x0 x1 y0 y1) t) (va_A (wM d b pi xs ys fx fy tx ty w h C n fm tn x0 x1 y0 y1) sz)) 0 0 (va_A (wM d b pi xs ys fx fy tx ty w h C n fm tn x0 x1 y0 y1) sz) := by
  refine xMetM (Qf := fun A => (va_Qv (fun (u_ : Unit) => True) (fun (u_ : Unit) t => QB D [(d, .int)] A (wM d b pi xs ys fx fy tx ty w h C 0 fm tn x0 x1 y0 y1) t) A)) (by decide) (Nat.le_of_ble_eq_true rfl) ?_
  intro p e s m below meth c ls A H locs S hr hlk hl hP hK hD hS hA hin
  have S : CallFix p m c cX2_begin 1 s _ lw_all RX2 := S
  have hx := S.1
  have hb := S.2.1
  have hl : lv_has ls 1 [(0, .ref (b 0))] := hl
  refine lv_aload_n hx hb dX2_begin_0 rfl (lv_at hl 0 rfl) ?_
  refine lv_iconst (v := 0) hx hb dX2_begin_1 (by decide) ?_
  refine xput2 S hK hP hD hS 0 rfl 6 (by decide) q204 rfl rfl (by decide +kernel) (Nat.le_of_ble_eq_true rfl) dX2_begin_2 (fun H locs hP hD hS => ?_)
  have hP : va_P D vwCl (wM d b pi xs ys fx fy tx ty w h C 0 fm tn x0 x1 y0 y1) H := hP
  have hD : va_D A (wM d b pi xs ys fx fy tx ty w h C 0 fm tn x0 x1 y0 y1) := hD
  exact xretMv hx hb hr hlk hK hS dX2_begin_5 () hP hD (trivial)

set_option maxHeartbeats 4000000 in
set_option maxRecDepth 100000 in
/-- vertex(x, y) -/
theorem mtX2_vertex (l : Launch) (D : va_G) (d : ClassId) (b : Nat → Nat) (pi xs ys fx fy tx ty : Nat → Int32) (w h C n fm tn : Nat) (x0 x1 y0 y1 : Int32) (x y : Int32) (hn : n ≤ C) (hC : C ≤ 60) (sz : Nat) : Met l yX2_vertex (ws_ yX2_vertex cX2_vertex 3 (some .boolean)) (rm_ 1 20) (PcM [.ref (b 0), .int x, .int y] D (wM d b pi xs ys fx fy tx ty w h C n fm tn x0 x1 y0 y1) [(d, .int)] sz) (va_Qi (fun (r : Int32) (u_ : ((Nat → Int32) × (Nat → Int32) × Nat)) => (r, u_.1, u_.2.1, u_.2.2) = vtxI xs ys n C x y) (fun (u_ : ((Nat → Int32) × (Nat → Int32) × Nat)) t => QB D [(d, .int)] (va_A (wM d b pi xs ys fx fy tx ty w h C n fm tn x0 x1 y0 y1) sz) (wM d b pi u_.1 u_.2.1 fx fy tx ty w h C u_.2.2 fm tn x0 x1 y0 y1) t) (va_A (wM d b pi xs ys fx fy tx ty w h C n fm tn x0 x1 y0 y1) sz)) 0 0 (va_A (wM d b pi xs ys fx fy tx ty w h C n fm tn x0 x1 y0 y1) sz) := by
  refine xMetM (Qf := fun A => (va_Qi (fun (r : Int32) (u_ : ((Nat → Int32) × (Nat → Int32) × Nat)) => (r, u_.1, u_.2.1, u_.2.2) = vtxI xs ys n C x y) (fun (u_ : ((Nat → Int32) × (Nat → Int32) × Nat)) t => QB D [(d, .int)] A (wM d b pi u_.1 u_.2.1 fx fy tx ty w h C u_.2.2 fm tn x0 x1 y0 y1) t) A)) (by decide) (Nat.le_of_ble_eq_true rfl) ?_
  intro p e s m below meth c ls A H locs S hr hlk hl hP hK hD hS hA hin
  have S : CallFix p m c cX2_vertex 3 s _ lw_all RX2 := S
  have hx := S.1
  have hb := S.2.1
  have hl : lv_has ls 3 [(0, .ref (b 0)), (1, .int x), (2, .int y)] := hl
  refine lv_aload_n hx hb dX2_vertex_0 rfl (lv_at hl 0 rfl) ?_
  refine xget2 S hK hP 0 rfl 6 (by decide) q204 rfl (v := .int (nI n)) rfl dX2_vertex_1 ?_
  refine lv_aload_n hx hb dX2_vertex_4 rfl (lv_at hl 0 rfl) ?_
  refine xget2 S hK hP 0 rfl 2 (by decide) q200 rfl (v := .int (nI C)) rfl dX2_vertex_5 ?_
  refine lv_icmp_eq (tgt := 25) hx hb dX2_vertex_8 (by decide) (fun c_8 => ?_) (fun c_8 => ?_)
  · have c_8 : n = C := xeq (a := n) (b := C) c_8 (by omega) (by omega)
    refine lv_iconst (v := 0) hx hb dX2_vertex_25 (by decide) ?_
    exact xretMi hx hb hr hlk hK hS dX2_vertex_26 (rfl) (xs, ys, n) hP hD (by simp [vtxI, c_8])
  · have c_8 : n ≠ C := xne (a := n) (b := C) c_8 (by omega) (by omega)
    refine lv_iload_n hx hb dX2_vertex_11 rfl (lv_at hl 1 rfl) ?_
    refine xcSi [.int x] S (mtX2_isNear l x ) q262 siX2_isNear ⟨rfl, rfl⟩ ⟨Nat.le_of_ble_eq_true rfl, Nat.le_of_ble_eq_true rfl⟩ ⟨Nat.le_of_ble_eq_true rfl, Nat.le_of_ble_eq_true rfl⟩ hl.1 (rest := []) rfl (Nat.le_of_ble_eq_true rfl) dX2_vertex_12 (fun r_ h_ => ?_)
    obtain rfl := h_
    refine lv_if_eq (tgt := 25) hx hb dX2_vertex_15 (by decide) (fun c_15 => ?_) (fun c_15 => ?_)
    · have c_15 : (!far x) = false := bI_0 c_15
      refine lv_iconst (v := 0) hx hb dX2_vertex_25 (by decide) ?_
      exact xretMi hx hb hr hlk hK hS dX2_vertex_26 (rfl) (xs, ys, n) hP hD (by have c_15 := bnot_ c_15; simp [vtxI, c_8, c_15])
    · have c_15 : (!far x) = true := bI_1 c_15
      refine lv_iload_n hx hb dX2_vertex_18 rfl (lv_at hl 2 rfl) ?_
      refine xcSi [.int y] S (mtX2_isNear l y ) q262 siX2_isNear ⟨rfl, rfl⟩ ⟨Nat.le_of_ble_eq_true rfl, Nat.le_of_ble_eq_true rfl⟩ ⟨Nat.le_of_ble_eq_true rfl, Nat.le_of_ble_eq_true rfl⟩ hl.1 (rest := []) rfl (Nat.le_of_ble_eq_true rfl) dX2_vertex_19 (fun r_ h_ => ?_)
      obtain rfl := h_
      refine lv_if_ne (tgt := 27) hx hb dX2_vertex_22 (by decide) (fun c_22 => ?_) (fun c_22 => ?_)
      · have c_22 : (!far y) = true := bI_1 c_22
        refine lv_aload_n hx hb dX2_vertex_27 rfl (lv_at hl 0 rfl) ?_
        refine xget2 S hK hP 0 rfl 4 (by decide) q202 rfl (v := .ref (b 2)) rfl dX2_vertex_28 ?_
        refine lv_aload_n hx hb dX2_vertex_31 rfl (lv_at hl 0 rfl) ?_
        refine xget2 S hK hP 0 rfl 6 (by decide) q204 rfl (v := .int (nI n)) rfl dX2_vertex_32 ?_
        refine lv_iload_n hx hb dX2_vertex_35 rfl (lv_at hl 1 rfl) ?_
        refine xast (j := n) hx hb hK hP hD hS 2 0 rfl rfl (by decide) dX2_vertex_36 (by omega) (fun H locs hP hD hS => ?_)
        have hP : va_P D vwCl (wM d b pi (upd xs n x) ys fx fy tx ty w h C n fm tn x0 x1 y0 y1) H := hP
        have hD : va_D A (wM d b pi (upd xs n x) ys fx fy tx ty w h C n fm tn x0 x1 y0 y1) := hD
        refine lv_aload_n hx hb dX2_vertex_37 rfl (lv_at hl 0 rfl) ?_
        refine xget2 S hK hP 0 rfl 5 (by decide) q203 rfl (v := .ref (b 3)) rfl dX2_vertex_38 ?_
        refine lv_aload_n hx hb dX2_vertex_41 rfl (lv_at hl 0 rfl) ?_
        refine xget2 S hK hP 0 rfl 6 (by decide) q204 rfl (v := .int (nI n)) rfl dX2_vertex_42 ?_
        refine lv_iload_n hx hb dX2_vertex_45 rfl (lv_at hl 2 rfl) ?_
        refine xast (j := n) hx hb hK hP hD hS 3 0 rfl rfl (by decide) dX2_vertex_46 (by omega) (fun H locs hP hD hS => ?_)
        have hP : va_P D vwCl (wM d b pi (upd xs n x) (upd ys n y) fx fy tx ty w h C n fm tn x0 x1 y0 y1) H := hP
        have hD : va_D A (wM d b pi (upd xs n x) (upd ys n y) fx fy tx ty w h C n fm tn x0 x1 y0 y1) := hD
        refine lv_aload_n hx hb dX2_vertex_47 rfl (lv_at hl 0 rfl) ?_
        refine lv_dup hx hb dX2_vertex_48 rfl ?_
        refine xget2 S hK hP 0 rfl 6 (by decide) q204 rfl (v := .int (nI n)) rfl dX2_vertex_49 ?_
        refine lv_iconst (v := 1) hx hb dX2_vertex_52 (by decide) ?_
        refine lv_iadd hx hb dX2_vertex_53 ?_
        refine xtopi (y := nI (n + 1)) (nI_add n 1) ?_
        refine xput2 S hK hP hD hS 0 rfl 6 (by decide) q204 rfl rfl (by decide +kernel) (Nat.le_of_ble_eq_true rfl) dX2_vertex_54 (fun H locs hP hD hS => ?_)
        have hP : va_P D vwCl (wM d b pi (upd xs n x) (upd ys n y) fx fy tx ty w h C (n + 1) fm tn x0 x1 y0 y1) H := hP
        have hD : va_D A (wM d b pi (upd xs n x) (upd ys n y) fx fy tx ty w h C (n + 1) fm tn x0 x1 y0 y1) := hD
        refine lv_iconst (v := 1) hx hb dX2_vertex_57 (by decide) ?_
        exact xretMi hx hb hr hlk hK hS dX2_vertex_58 (rfl) (upd xs n x, upd ys n y, n + 1) hP hD (by have c_15 := bnot_ c_15; have c_22 := bnot_ c_22; simp [vtxI, c_8, c_15, c_22])
      · have c_22 : (!far y) = false := bI_0 c_22
        refine lv_iconst (v := 0) hx hb dX2_vertex_25 (by decide) ?_
        exact xretMi hx hb hr hlk hK hS dX2_vertex_26 (rfl) (xs, ys, n) hP hD (by have c_15 := bnot_ c_15; have c_22 := bnot_ c_22; simp [vtxI, c_8, c_15, c_22])

set_option maxHeartbeats 4000000 in
set_option maxRecDepth 100000 in
/-- setClip(x0, y0, x1, y1) -/
theorem mtX2_setClip (l : Launch) (D : va_G) (d : ClassId) (b : Nat → Nat) (pi xs ys fx fy tx ty : Nat → Int32) (w h C n fm tn : Nat) (x0 x1 y0 y1 : Int32) (a0 b0 a1 b1 : Int32) (sz : Nat) : Met l yX2_setClip (ws_ yX2_setClip cX2_setClip 5 (some .boolean)) (rm_ 1 20) (PcM [.ref (b 0), .int a0, .int b0, .int a1, .int b1] D (wM d b pi xs ys fx fy tx ty w h C n fm tn x0 x1 y0 y1) [(d, .int)] sz) (va_Qi (fun (r : Int32) (u_ : (Int32 × Int32 × Int32 × Int32)) => (r, u_.1, u_.2.1, u_.2.2.1, u_.2.2.2) = clpI x0 y0 x1 y1 a0 b0 a1 b1) (fun (u_ : (Int32 × Int32 × Int32 × Int32)) t => QB D [(d, .int)] (va_A (wM d b pi xs ys fx fy tx ty w h C n fm tn x0 x1 y0 y1) sz) (wM d b pi xs ys fx fy tx ty w h C n fm tn u_.1 u_.2.2.1 u_.2.1 u_.2.2.2) t) (va_A (wM d b pi xs ys fx fy tx ty w h C n fm tn x0 x1 y0 y1) sz)) 0 0 (va_A (wM d b pi xs ys fx fy tx ty w h C n fm tn x0 x1 y0 y1) sz) := by
  refine xMetM (Qf := fun A => (va_Qi (fun (r : Int32) (u_ : (Int32 × Int32 × Int32 × Int32)) => (r, u_.1, u_.2.1, u_.2.2.1, u_.2.2.2) = clpI x0 y0 x1 y1 a0 b0 a1 b1) (fun (u_ : (Int32 × Int32 × Int32 × Int32)) t => QB D [(d, .int)] A (wM d b pi xs ys fx fy tx ty w h C n fm tn u_.1 u_.2.2.1 u_.2.1 u_.2.2.2) t) A)) (by decide) (Nat.le_of_ble_eq_true rfl) ?_
  intro p e s m below meth c ls A H locs S hr hlk hl hP hK hD hS hA hin
  have S : CallFix p m c cX2_setClip 5 s _ lw_all RX2 := S
  have hx := S.1
  have hb := S.2.1
  have hl : lv_has ls 5 [(0, .ref (b 0)), (1, .int a0), (2, .int b0), (3, .int a1), (4, .int b1)] := hl
  refine lv_iload_n hx hb dX2_setClip_0 rfl (lv_at hl 1 rfl) ?_
  refine xcSi [.int a0] S (mtX2_isNear l a0 ) q262 siX2_isNear ⟨rfl, rfl⟩ ⟨Nat.le_of_ble_eq_true rfl, Nat.le_of_ble_eq_true rfl⟩ ⟨Nat.le_of_ble_eq_true rfl, Nat.le_of_ble_eq_true rfl⟩ hl.1 (rest := []) rfl (Nat.le_of_ble_eq_true rfl) dX2_setClip_1 (fun r_ h_ => ?_)
  obtain rfl := h_
  refine lv_if_eq (tgt := 40) hx hb dX2_setClip_4 (by decide) (fun c_4 => ?_) (fun c_4 => ?_)
  · have c_4 : (!far a0) = false := bI_0 c_4
    refine lv_iconst (v := 0) hx hb dX2_setClip_40 (by decide) ?_
    exact xretMi hx hb hr hlk hK hS dX2_setClip_41 (rfl) (x0, y0, x1, y1) hP hD (by have c_4 := bnot_ c_4; simp [clpI, c_4])
  · have c_4 : (!far a0) = true := bI_1 c_4
    refine lv_iload_n hx hb dX2_setClip_7 rfl (lv_at hl 2 rfl) ?_
    refine xcSi [.int b0] S (mtX2_isNear l b0 ) q262 siX2_isNear ⟨rfl, rfl⟩ ⟨Nat.le_of_ble_eq_true rfl, Nat.le_of_ble_eq_true rfl⟩ ⟨Nat.le_of_ble_eq_true rfl, Nat.le_of_ble_eq_true rfl⟩ hl.1 (rest := []) rfl (Nat.le_of_ble_eq_true rfl) dX2_setClip_8 (fun r_ h_ => ?_)
    obtain rfl := h_
    refine lv_if_eq (tgt := 40) hx hb dX2_setClip_11 (by decide) (fun c_11 => ?_) (fun c_11 => ?_)
    · have c_11 : (!far b0) = false := bI_0 c_11
      refine lv_iconst (v := 0) hx hb dX2_setClip_40 (by decide) ?_
      exact xretMi hx hb hr hlk hK hS dX2_setClip_41 (rfl) (x0, y0, x1, y1) hP hD (by have c_4 := bnot_ c_4; have c_11 := bnot_ c_11; simp [clpI, c_4, c_11])
    · have c_11 : (!far b0) = true := bI_1 c_11
      refine lv_iload_n hx hb dX2_setClip_14 rfl (lv_at hl 3 rfl) ?_
      refine xcSi [.int a1] S (mtX2_isNear l a1 ) q262 siX2_isNear ⟨rfl, rfl⟩ ⟨Nat.le_of_ble_eq_true rfl, Nat.le_of_ble_eq_true rfl⟩ ⟨Nat.le_of_ble_eq_true rfl, Nat.le_of_ble_eq_true rfl⟩ hl.1 (rest := []) rfl (Nat.le_of_ble_eq_true rfl) dX2_setClip_15 (fun r_ h_ => ?_)
      obtain rfl := h_
      refine lv_if_eq (tgt := 40) hx hb dX2_setClip_18 (by decide) (fun c_18 => ?_) (fun c_18 => ?_)
      · have c_18 : (!far a1) = false := bI_0 c_18
        refine lv_iconst (v := 0) hx hb dX2_setClip_40 (by decide) ?_
        exact xretMi hx hb hr hlk hK hS dX2_setClip_41 (rfl) (x0, y0, x1, y1) hP hD (by have c_4 := bnot_ c_4; have c_11 := bnot_ c_11; have c_18 := bnot_ c_18; simp [clpI, c_4, c_11, c_18])
      · have c_18 : (!far a1) = true := bI_1 c_18
        refine lv_iload hx hb dX2_setClip_21 (lv_at hl 4 rfl) ?_
        refine xcSi [.int b1] S (mtX2_isNear l b1 ) q262 siX2_isNear ⟨rfl, rfl⟩ ⟨Nat.le_of_ble_eq_true rfl, Nat.le_of_ble_eq_true rfl⟩ ⟨Nat.le_of_ble_eq_true rfl, Nat.le_of_ble_eq_true rfl⟩ hl.1 (rest := []) rfl (Nat.le_of_ble_eq_true rfl) dX2_setClip_23 (fun r_ h_ => ?_)
        obtain rfl := h_
        refine lv_if_eq (tgt := 40) hx hb dX2_setClip_26 (by decide) (fun c_26 => ?_) (fun c_26 => ?_)
        · have c_26 : (!far b1) = false := bI_0 c_26
          refine lv_iconst (v := 0) hx hb dX2_setClip_40 (by decide) ?_
          exact xretMi hx hb hr hlk hK hS dX2_setClip_41 (rfl) (x0, y0, x1, y1) hP hD (by have c_4 := bnot_ c_4; have c_11 := bnot_ c_11; have c_18 := bnot_ c_18; have c_26 := bnot_ c_26; simp [clpI, c_4, c_11, c_18, c_26])
        · have c_26 : (!far b1) = true := bI_1 c_26
          refine lv_iload_n hx hb dX2_setClip_29 rfl (lv_at hl 1 rfl) ?_
          refine lv_iload_n hx hb dX2_setClip_30 rfl (lv_at hl 3 rfl) ?_
          refine lv_icmp_gt (tgt := 40) hx hb dX2_setClip_31 (by decide) (fun c_31 => ?_) (fun c_31 => ?_)
          · refine lv_iconst (v := 0) hx hb dX2_setClip_40 (by decide) ?_
            exact xretMi hx hb hr hlk hK hS dX2_setClip_41 (rfl) (x0, y0, x1, y1) hP hD (by have c_4 := bnot_ c_4; have c_11 := bnot_ c_11; have c_18 := bnot_ c_18; have c_26 := bnot_ c_26; simp [clpI, c_4, c_11, c_18, c_26, c_31])
          · refine lv_iload_n hx hb dX2_setClip_34 rfl (lv_at hl 2 rfl) ?_
            refine lv_iload hx hb dX2_setClip_35 (lv_at hl 4 rfl) ?_
            refine lv_icmp_le (tgt := 42) hx hb dX2_setClip_37 (by decide) (fun c_37 => ?_) (fun c_37 => ?_)
            · refine lv_aload_n hx hb dX2_setClip_42 rfl (lv_at hl 0 rfl) ?_
              refine lv_iload_n hx hb dX2_setClip_43 rfl (lv_at hl 1 rfl) ?_
              refine xput2 S hK hP hD hS 0 rfl 13 (by decide) q211 rfl rfl (by decide +kernel) (Nat.le_of_ble_eq_true rfl) dX2_setClip_44 (fun H locs hP hD hS => ?_)
              have hP : va_P D vwCl (wM d b pi xs ys fx fy tx ty w h C n fm tn a0 x1 y0 y1) H := hP
              have hD : va_D A (wM d b pi xs ys fx fy tx ty w h C n fm tn a0 x1 y0 y1) := hD
              refine lv_aload_n hx hb dX2_setClip_47 rfl (lv_at hl 0 rfl) ?_
              refine lv_iload_n hx hb dX2_setClip_48 rfl (lv_at hl 3 rfl) ?_
              refine xput2 S hK hP hD hS 0 rfl 14 (by decide) q212 rfl rfl (by decide +kernel) (Nat.le_of_ble_eq_true rfl) dX2_setClip_49 (fun H locs hP hD hS => ?_)
              have hP : va_P D vwCl (wM d b pi xs ys fx fy tx ty w h C n fm tn a0 a1 y0 y1) H := hP
              have hD : va_D A (wM d b pi xs ys fx fy tx ty w h C n fm tn a0 a1 y0 y1) := hD
              refine lv_aload_n hx hb dX2_setClip_52 rfl (lv_at hl 0 rfl) ?_
              refine lv_iload_n hx hb dX2_setClip_53 rfl (lv_at hl 2 rfl) ?_
              refine xput2 S hK hP hD hS 0 rfl 15 (by decide) q213 rfl rfl (by decide +kernel) (Nat.le_of_ble_eq_true rfl) dX2_setClip_54 (fun H locs hP hD hS => ?_)
              have hP : va_P D vwCl (wM d b pi xs ys fx fy tx ty w h C n fm tn a0 a1 b0 y1) H := hP
              have hD : va_D A (wM d b pi xs ys fx fy tx ty w h C n fm tn a0 a1 b0 y1) := hD
              refine lv_aload_n hx hb dX2_setClip_57 rfl (lv_at hl 0 rfl) ?_
              refine lv_iload hx hb dX2_setClip_58 (lv_at hl 4 rfl) ?_
              refine xput2 S hK hP hD hS 0 rfl 16 (by decide) q214 rfl rfl (by decide +kernel) (Nat.le_of_ble_eq_true rfl) dX2_setClip_60 (fun H locs hP hD hS => ?_)
              have hP : va_P D vwCl (wM d b pi xs ys fx fy tx ty w h C n fm tn a0 a1 b0 b1) H := hP
              have hD : va_D A (wM d b pi xs ys fx fy tx ty w h C n fm tn a0 a1 b0 b1) := hD
              refine lv_iconst (v := 1) hx hb dX2_setClip_63 (by decide) ?_
              exact xretMi hx hb hr hlk hK hS dX2_setClip_64 (rfl) (a0, b0, a1, b1) hP hD (by have c_4 := bnot_ c_4; have c_11 := bnot_ c_11; have c_18 := bnot_ c_18; have c_26 := bnot_ c_26; simp [clpI, c_4, c_11, c_18, c_26, c_31, c_37])
            · refine lv_iconst (v := 0) hx hb dX2_setClip_40 (by decide) ?_
              exact xretMi hx hb hr hlk hK hS dX2_setClip_41 (rfl) (x0, y0, x1, y1) hP hD (by have c_4 := bnot_ c_4; have c_11 := bnot_ c_11; have c_18 := bnot_ c_18; have c_26 := bnot_ c_26; simp [clpI, c_4, c_11, c_18, c_26, c_31, c_37])

set_option maxHeartbeats 4000000 in
set_option maxRecDepth 100000 in
/-- add(x, y) -/
theorem mtX2_add (l : Launch) (D : va_G) (d : ClassId) (b : Nat → Nat) (pi xs ys fx fy tx ty : Nat → Int32) (w h C n fm tn : Nat) (x0 x1 y0 y1 : Int32) (x y : Int32) (htn : tn ≤ 200) (hC : C ≤ 60) (sz : Nat) : Met l yX2_add (ws_ yX2_add cX2_add 3 none) (rm_ 0 0) (PcM [.ref (b 0), .int x, .int y] D (wM d b pi xs ys fx fy tx ty w h C n fm tn x0 x1 y0 y1) [(d, .int)] sz) (va_Qv (fun (u_ : ((Nat → Int32) × (Nat → Int32) × Nat)) => (u_.1, u_.2.1, u_.2.2) = addI tx ty tn C x y) (fun (u_ : ((Nat → Int32) × (Nat → Int32) × Nat)) t => QB D [(d, .int)] (va_A (wM d b pi xs ys fx fy tx ty w h C n fm tn x0 x1 y0 y1) sz) (wM d b pi xs ys fx fy u_.1 u_.2.1 w h C n fm u_.2.2 x0 x1 y0 y1) t) (va_A (wM d b pi xs ys fx fy tx ty w h C n fm tn x0 x1 y0 y1) sz)) 0 0 (va_A (wM d b pi xs ys fx fy tx ty w h C n fm tn x0 x1 y0 y1) sz) := by
  refine xMetM (Qf := fun A => (va_Qv (fun (u_ : ((Nat → Int32) × (Nat → Int32) × Nat)) => (u_.1, u_.2.1, u_.2.2) = addI tx ty tn C x y) (fun (u_ : ((Nat → Int32) × (Nat → Int32) × Nat)) t => QB D [(d, .int)] A (wM d b pi xs ys fx fy u_.1 u_.2.1 w h C n fm u_.2.2 x0 x1 y0 y1) t) A)) (by decide) (Nat.le_of_ble_eq_true rfl) ?_
  intro p e s m below meth c ls A H locs S hr hlk hl hP hK hD hS hA hin
  have S : CallFix p m c cX2_add 3 s _ lw_all RX2 := S
  have hx := S.1
  have hb := S.2.1
  have hl : lv_has ls 3 [(0, .ref (b 0)), (1, .int x), (2, .int y)] := hl
  refine lv_aload_n hx hb dX2_add_0 rfl (lv_at hl 0 rfl) ?_
  refine xget2 S hK hP 0 rfl 12 (by decide) q210 rfl (v := .int (nI tn)) rfl dX2_add_1 ?_
  refine lv_aload_n hx hb dX2_add_4 rfl (lv_at hl 0 rfl) ?_
  refine xget2 S hK hP 0 rfl 2 (by decide) q200 rfl (v := .int (nI C)) rfl dX2_add_5 ?_
  refine lv_icmp_ge (tgt := 31) hx hb dX2_add_8 (by decide) (fun c_8 => ?_) (fun c_8 => ?_)
  · have c_8 : C ≤ tn := xle (a := C) (b := tn) c_8 (by omega) (by omega)
    refine lv_aload_n hx hb dX2_add_31 rfl (lv_at hl 0 rfl) ?_
    refine lv_dup hx hb dX2_add_32 rfl ?_
    refine xget2 S hK hP 0 rfl 12 (by decide) q210 rfl (v := .int (nI tn)) rfl dX2_add_33 ?_
    refine lv_iconst (v := 1) hx hb dX2_add_36 (by decide) ?_
    refine lv_iadd hx hb dX2_add_37 ?_
    refine xtopi (y := nI (tn + 1)) (nI_add tn 1) ?_
    refine xput2 S hK hP hD hS 0 rfl 12 (by decide) q210 rfl rfl (by decide +kernel) (Nat.le_of_ble_eq_true rfl) dX2_add_38 (fun H locs hP hD hS => ?_)
    have hP : va_P D vwCl (wM d b pi xs ys fx fy tx ty w h C n fm (tn + 1) x0 x1 y0 y1) H := hP
    have hD : va_D A (wM d b pi xs ys fx fy tx ty w h C n fm (tn + 1) x0 x1 y0 y1) := hD
    exact xretMv hx hb hr hlk hK hS dX2_add_41 (tx, ty, tn + 1) hP hD ((if_pos c_8).symm)
  · have c_8 : C > tn := xnle (a := C) (b := tn) c_8 (by omega) (by omega)
    refine lv_aload_n hx hb dX2_add_11 rfl (lv_at hl 0 rfl) ?_
    refine xget2 S hK hP 0 rfl 9 (by decide) q207 rfl (v := .ref (b 6)) rfl dX2_add_12 ?_
    refine lv_aload_n hx hb dX2_add_15 rfl (lv_at hl 0 rfl) ?_
    refine xget2 S hK hP 0 rfl 12 (by decide) q210 rfl (v := .int (nI tn)) rfl dX2_add_16 ?_
    refine lv_iload_n hx hb dX2_add_19 rfl (lv_at hl 1 rfl) ?_
    refine xast (j := tn) hx hb hK hP hD hS 6 0 rfl rfl (by decide) dX2_add_20 (by omega) (fun H locs hP hD hS => ?_)
    have hP : va_P D vwCl (wM d b pi xs ys fx fy (upd tx tn x) ty w h C n fm tn x0 x1 y0 y1) H := hP
    have hD : va_D A (wM d b pi xs ys fx fy (upd tx tn x) ty w h C n fm tn x0 x1 y0 y1) := hD
    refine lv_aload_n hx hb dX2_add_21 rfl (lv_at hl 0 rfl) ?_
    refine xget2 S hK hP 0 rfl 10 (by decide) q208 rfl (v := .ref (b 7)) rfl dX2_add_22 ?_
    refine lv_aload_n hx hb dX2_add_25 rfl (lv_at hl 0 rfl) ?_
    refine xget2 S hK hP 0 rfl 12 (by decide) q210 rfl (v := .int (nI tn)) rfl dX2_add_26 ?_
    refine lv_iload_n hx hb dX2_add_29 rfl (lv_at hl 2 rfl) ?_
    refine xast (j := tn) hx hb hK hP hD hS 7 0 rfl rfl (by decide) dX2_add_30 (by omega) (fun H locs hP hD hS => ?_)
    have hP : va_P D vwCl (wM d b pi xs ys fx fy (upd tx tn x) (upd ty tn y) w h C n fm tn x0 x1 y0 y1) H := hP
    have hD : va_D A (wM d b pi xs ys fx fy (upd tx tn x) (upd ty tn y) w h C n fm tn x0 x1 y0 y1) := hD
    refine lv_aload_n hx hb dX2_add_31 rfl (lv_at hl 0 rfl) ?_
    refine lv_dup hx hb dX2_add_32 rfl ?_
    refine xget2 S hK hP 0 rfl 12 (by decide) q210 rfl (v := .int (nI tn)) rfl dX2_add_33 ?_
    refine lv_iconst (v := 1) hx hb dX2_add_36 (by decide) ?_
    refine lv_iadd hx hb dX2_add_37 ?_
    refine xtopi (y := nI (tn + 1)) (nI_add tn 1) ?_
    refine xput2 S hK hP hD hS 0 rfl 12 (by decide) q210 rfl rfl (by decide +kernel) (Nat.le_of_ble_eq_true rfl) dX2_add_38 (fun H locs hP hD hS => ?_)
    have hP : va_P D vwCl (wM d b pi xs ys fx fy (upd tx tn x) (upd ty tn y) w h C n fm (tn + 1) x0 x1 y0 y1) H := hP
    have hD : va_D A (wM d b pi xs ys fx fy (upd tx tn x) (upd ty tn y) w h C n fm (tn + 1) x0 x1 y0 y1) := hD
    exact xretMv hx hb hr hlk hK hS dX2_add_41 (upd tx tn x, upd ty tn y, tn + 1) hP hD ((if_neg (Nat.not_le.mpr c_8)).symm)
end
section
/-! PolygonFrameModel: clipping, what is inside, filling -/
set_option maxHeartbeats 4000000 in
set_option maxRecDepth 100000 in
/-- cut(side, from, to) -/
theorem mtX2_cut (l : Launch) (D : va_G) (d : ClassId) (b : Nat → Nat) (pi xs ys fx fy tx ty : Nat → Int32) (w h C n fm tn : Nat) (x0 x1 y0 y1 : Int32) (sd : Nat) (u1 v1 u2 v2 : Int32) (hsd : sd < 4) (htn : tn ≤ 200) (hC : C ≤ 60) (n1 : Nr u1) (n2 : Nr v1) (n3 : Nr u2) (n4 : Nr v2) (w0 : Nr x0) (w1 : Nr y0) (w2 : Nr x1) (w3 : Nr y1) (hX : sd < 2 → u2.toInt ≠ u1.toInt) (hY : 2 ≤ sd → v2.toInt ≠ v1.toInt) (sz : Nat) : Met l yX2_cut (ws_ yX2_cut cX2_cut 7 none) (rm_ 1 22) (PcM [.ref (b 0), .int (nI sd), .int u1, .int v1, .int u2, .int v2] D (wM d b pi xs ys fx fy tx ty w h C n fm tn x0 x1 y0 y1) [(d, .int)] sz) (va_Qv (fun (u_ : ((Nat → Int32) × (Nat → Int32) × Nat)) => (u_.1, u_.2.1, u_.2.2) = addI tx ty tn C (cutP sd x0 y0 x1 y1 u1 v1 u2 v2).1 (cutP sd x0 y0 x1 y1 u1 v1 u2 v2).2) (fun (u_ : ((Nat → Int32) × (Nat → Int32) × Nat)) t => QB D [(d, .int)] (va_A (wM d b pi xs ys fx fy tx ty w h C n fm tn x0 x1 y0 y1) sz) (wM d b pi xs ys fx fy u_.1 u_.2.1 w h C n fm u_.2.2 x0 x1 y0 y1) t) (va_A (wM d b pi xs ys fx fy tx ty w h C n fm tn x0 x1 y0 y1) sz)) 0 0 (va_A (wM d b pi xs ys fx fy tx ty w h C n fm tn x0 x1 y0 y1) sz) := by
  refine xMetM (Qf := fun A => (va_Qv (fun (u_ : ((Nat → Int32) × (Nat → Int32) × Nat)) => (u_.1, u_.2.1, u_.2.2) = addI tx ty tn C (cutP sd x0 y0 x1 y1 u1 v1 u2 v2).1 (cutP sd x0 y0 x1 y1 u1 v1 u2 v2).2) (fun (u_ : ((Nat → Int32) × (Nat → Int32) × Nat)) t => QB D [(d, .int)] A (wM d b pi xs ys fx fy u_.1 u_.2.1 w h C n fm u_.2.2 x0 x1 y0 y1) t) A)) (by decide) (Nat.le_of_ble_eq_true rfl) ?_
  intro p e s m below meth c ls A H locs S hr hlk hl hP hK hD hS hA hin
  have S : CallFix p m c cX2_cut 7 s _ lw_all RX2 := S
  have hx := S.1
  have hb := S.2.1
  have hl : lv_has ls 7 [(0, .ref (b 0)), (1, .int (nI sd)), (2, .int u1), (3, .int v1), (4, .int u2), (5, .int v2)] := hl
  refine lv_iload_n hx hb dX2_cut_0 rfl (lv_at hl 1 rfl) ?_
  refine lv_iconst (v := 2) hx hb dX2_cut_1 (by decide) ?_
  refine lv_icmp_ge (tgt := 49) hx hb dX2_cut_2 (by decide) (fun c_2 => ?_) (fun c_2 => ?_)
  · have c_2 : 2 ≤ sd := xle (a := 2) (b := sd) c_2 (by omega) (by omega)
    refine lv_iload_n hx hb dX2_cut_49 rfl (lv_at hl 1 rfl) ?_
    refine lv_iconst (v := 2) hx hb dX2_cut_50 (by decide) ?_
    refine lv_icmp_ne (tgt := 61) hx hb dX2_cut_51 (by decide) (fun c_51 => ?_) (fun c_51 => ?_)
    · have c_51 : sd ≠ 2 := xne (a := sd) (b := 2) c_51 (by omega) (by omega)
      refine lv_aload_n hx hb dX2_cut_61 rfl (lv_at hl 0 rfl) ?_
      refine xget2 S hK hP 0 rfl 16 (by decide) q214 rfl (v := .int y1) rfl dX2_cut_62 ?_
      refine lv_istore (lv' := [(6, .int y1), (0, .ref (b 0)), (1, .int (nI sd)), (2, .int u1), (3, .int v1), (4, .int u2), (5, .int v2)]) hx hb dX2_cut_65 hl (by decide) rfl (fun ls hl => ?_)
      refine lv_aload_n hx hb dX2_cut_67 rfl (lv_at hl 1 rfl) ?_
      refine lv_iload_n hx hb dX2_cut_68 rfl (lv_at hl 3 rfl) ?_
      refine lv_iload hx hb dX2_cut_69 (lv_at hl 5 rfl) ?_
      refine lv_iload_n hx hb dX2_cut_71 rfl (lv_at hl 3 rfl) ?_
      refine lv_isub hx hb dX2_cut_72 ?_
      refine lv_iload hx hb dX2_cut_73 (lv_at hl 0 rfl) ?_
      refine lv_iload_n hx hb dX2_cut_75 rfl (lv_at hl 4 rfl) ?_
      refine lv_isub hx hb dX2_cut_76 ?_
      refine lv_imul hx hb dX2_cut_77 ?_
      refine lv_iload hx hb dX2_cut_78 (lv_at hl 6 rfl) ?_
      refine lv_iload_n hx hb dX2_cut_80 rfl (lv_at hl 4 rfl) ?_
      refine lv_isub hx hb dX2_cut_81 ?_
      refine xcSi [.int ((u2 - u1) * (y1 - v1)), .int (v2 - v1)] S (mtX2_quotient l ((u2 - u1) * (y1 - v1)) (v2 - v1) (cut2_h0 n2 n4 (hY (by omega))) (cut2_h1 n1 n3 n2 w3)) q285 siX2_quotient ⟨rfl, rfl⟩ ⟨Nat.le_of_ble_eq_true rfl, Nat.le_of_ble_eq_true rfl⟩ ⟨Nat.le_of_ble_eq_true rfl, Nat.le_of_ble_eq_true rfl⟩ hl.1 (rest := [.int u1, .ref (b 0)]) rfl (Nat.le_of_ble_eq_true rfl) dX2_cut_82 (fun r_ h_ => ?_)
      obtain ⟨r_1, hr_1⟩ : ∃ z, z = r_ := ⟨_, rfl⟩
      rw [← hr_1] at h_ ⊢
      have pr_1 := h_
      refine lv_iadd hx hb dX2_cut_85 ?_
      refine xtopi (y := cutI v1 u1 v2 u2 y1) (cut2_end n2 n1 n4 n3 w3 pr_1) ?_
      refine lv_iload hx hb dX2_cut_86 (lv_at hl 0 rfl) ?_
      refine xcMv [.int (cutI v1 u1 v2 u2 y1), .int y1] S (mtX2_add l D d b pi xs ys fx fy tx ty w h C n fm tn x0 x1 y0 y1 (cutI v1 u1 v2 u2 y1) y1 (by omega) (by omega) H.size) q288 viX2_add ⟨rfl, rfl⟩ ⟨Nat.le_of_ble_eq_true rfl, Nat.le_of_ble_eq_true rfl⟩ ⟨Nat.le_of_ble_eq_true rfl, Nat.le_of_ble_eq_true rfl⟩ hK hP hD hS hA (ci := 1) (q0 := 0) rfl rfl hl.1 (rest := []) rfl (Nat.le_of_ble_eq_true rfl) dX2_cut_88 (fun u_ H locs h_ hP hD hS => ?_)
      obtain ⟨tx_1, ty_1, tn_1⟩ := u_
      have hP : va_P D vwCl (wM d b pi xs ys fx fy tx_1 ty_1 w h C n fm tn_1 x0 x1 y0 y1) H := hP
      have hD : va_D A (wM d b pi xs ys fx fy tx_1 ty_1 w h C n fm tn_1 x0 x1 y0 y1) := hD
      have Htx_1 := h_
      exact xretMv hx hb hr hlk hK hS dX2_cut_91 (tx_1, ty_1, tn_1) hP hD (by rw [cutP_3 c_2 c_51 hsd]; exact Htx_1)
    · have c_51 : sd = 2 := xeq (a := sd) (b := 2) c_51 (by omega) (by omega)
      refine lv_aload_n hx hb dX2_cut_54 rfl (lv_at hl 0 rfl) ?_
      refine xget2 S hK hP 0 rfl 15 (by decide) q213 rfl (v := .int y0) rfl dX2_cut_55 ?_
      refine lv_goto (tgt := 65) hx hb dX2_cut_58 (by decide) ?_
      refine lv_istore (lv' := [(6, .int y0), (0, .ref (b 0)), (1, .int (nI sd)), (2, .int u1), (3, .int v1), (4, .int u2), (5, .int v2)]) hx hb dX2_cut_65 hl (by decide) rfl (fun ls hl => ?_)
      refine lv_aload_n hx hb dX2_cut_67 rfl (lv_at hl 1 rfl) ?_
      refine lv_iload_n hx hb dX2_cut_68 rfl (lv_at hl 3 rfl) ?_
      refine lv_iload hx hb dX2_cut_69 (lv_at hl 5 rfl) ?_
      refine lv_iload_n hx hb dX2_cut_71 rfl (lv_at hl 3 rfl) ?_
      refine lv_isub hx hb dX2_cut_72 ?_
      refine lv_iload hx hb dX2_cut_73 (lv_at hl 0 rfl) ?_
      refine lv_iload_n hx hb dX2_cut_75 rfl (lv_at hl 4 rfl) ?_
      refine lv_isub hx hb dX2_cut_76 ?_
      refine lv_imul hx hb dX2_cut_77 ?_
      refine lv_iload hx hb dX2_cut_78 (lv_at hl 6 rfl) ?_
      refine lv_iload_n hx hb dX2_cut_80 rfl (lv_at hl 4 rfl) ?_
      refine lv_isub hx hb dX2_cut_81 ?_
      refine xcSi [.int ((u2 - u1) * (y0 - v1)), .int (v2 - v1)] S (mtX2_quotient l ((u2 - u1) * (y0 - v1)) (v2 - v1) (cut2_h0 n2 n4 (hY (by omega))) (cut2_h1 n1 n3 n2 w1)) q285 siX2_quotient ⟨rfl, rfl⟩ ⟨Nat.le_of_ble_eq_true rfl, Nat.le_of_ble_eq_true rfl⟩ ⟨Nat.le_of_ble_eq_true rfl, Nat.le_of_ble_eq_true rfl⟩ hl.1 (rest := [.int u1, .ref (b 0)]) rfl (Nat.le_of_ble_eq_true rfl) dX2_cut_82 (fun r_ h_ => ?_)
      obtain ⟨r_3, hr_3⟩ : ∃ z, z = r_ := ⟨_, rfl⟩
      rw [← hr_3] at h_ ⊢
      have pr_3 := h_
      refine lv_iadd hx hb dX2_cut_85 ?_
      refine xtopi (y := cutI v1 u1 v2 u2 y0) (cut2_end n2 n1 n4 n3 w1 pr_3) ?_
      refine lv_iload hx hb dX2_cut_86 (lv_at hl 0 rfl) ?_
      refine xcMv [.int (cutI v1 u1 v2 u2 y0), .int y0] S (mtX2_add l D d b pi xs ys fx fy tx ty w h C n fm tn x0 x1 y0 y1 (cutI v1 u1 v2 u2 y0) y0 (by omega) (by omega) H.size) q288 viX2_add ⟨rfl, rfl⟩ ⟨Nat.le_of_ble_eq_true rfl, Nat.le_of_ble_eq_true rfl⟩ ⟨Nat.le_of_ble_eq_true rfl, Nat.le_of_ble_eq_true rfl⟩ hK hP hD hS hA (ci := 1) (q0 := 0) rfl rfl hl.1 (rest := []) rfl (Nat.le_of_ble_eq_true rfl) dX2_cut_88 (fun u_ H locs h_ hP hD hS => ?_)
      obtain ⟨tx_2, ty_2, tn_2⟩ := u_
      have hP : va_P D vwCl (wM d b pi xs ys fx fy tx_2 ty_2 w h C n fm tn_2 x0 x1 y0 y1) H := hP
      have hD : va_D A (wM d b pi xs ys fx fy tx_2 ty_2 w h C n fm tn_2 x0 x1 y0 y1) := hD
      have Htx_2 := h_
      exact xretMv hx hb hr hlk hK hS dX2_cut_91 (tx_2, ty_2, tn_2) hP hD (by rw [cutP_2 c_51]; exact Htx_2)
  · have c_2 : 2 > sd := xnle (a := 2) (b := sd) c_2 (by omega) (by omega)
    refine lv_iload_n hx hb dX2_cut_5 rfl (lv_at hl 1 rfl) ?_
    refine lv_if_ne (tgt := 16) hx hb dX2_cut_6 (by decide) (fun c_6 => ?_) (fun c_6 => ?_)
    · have c_6 : sd ≠ 0 := xne (a := sd) (b := 0) c_6 (by omega) (by omega)
      refine lv_aload_n hx hb dX2_cut_16 rfl (lv_at hl 0 rfl) ?_
      refine xget2 S hK hP 0 rfl 14 (by decide) q212 rfl (v := .int x1) rfl dX2_cut_17 ?_
      refine lv_istore (lv' := [(6, .int x1), (0, .ref (b 0)), (1, .int (nI sd)), (2, .int u1), (3, .int v1), (4, .int u2), (5, .int v2)]) hx hb dX2_cut_20 hl (by decide) rfl (fun ls hl => ?_)
      refine lv_aload_n hx hb dX2_cut_22 rfl (lv_at hl 1 rfl) ?_
      refine lv_iload hx hb dX2_cut_23 (lv_at hl 0 rfl) ?_
      refine lv_iload_n hx hb dX2_cut_25 rfl (lv_at hl 4 rfl) ?_
      refine lv_iload hx hb dX2_cut_26 (lv_at hl 6 rfl) ?_
      refine lv_iload_n hx hb dX2_cut_28 rfl (lv_at hl 4 rfl) ?_
      refine lv_isub hx hb dX2_cut_29 ?_
      refine lv_iload hx hb dX2_cut_30 (lv_at hl 0 rfl) ?_
      refine lv_iload_n hx hb dX2_cut_32 rfl (lv_at hl 3 rfl) ?_
      refine lv_isub hx hb dX2_cut_33 ?_
      refine lv_imul hx hb dX2_cut_34 ?_
      refine lv_iload hx hb dX2_cut_35 (lv_at hl 5 rfl) ?_
      refine lv_iload_n hx hb dX2_cut_37 rfl (lv_at hl 3 rfl) ?_
      refine lv_isub hx hb dX2_cut_38 ?_
      refine xcSi [.int ((v2 - v1) * (x1 - u1)), .int (u2 - u1)] S (mtX2_quotient l ((v2 - v1) * (x1 - u1)) (u2 - u1) (cut2_h0 n1 n3 (hX (by omega))) (cut2_h1 n2 n4 n1 w2)) q285 siX2_quotient ⟨rfl, rfl⟩ ⟨Nat.le_of_ble_eq_true rfl, Nat.le_of_ble_eq_true rfl⟩ ⟨Nat.le_of_ble_eq_true rfl, Nat.le_of_ble_eq_true rfl⟩ hl.1 (rest := [.int v1, .int x1, .ref (b 0)]) rfl (Nat.le_of_ble_eq_true rfl) dX2_cut_39 (fun r_ h_ => ?_)
      obtain ⟨r_5, hr_5⟩ : ∃ z, z = r_ := ⟨_, rfl⟩
      rw [← hr_5] at h_ ⊢
      have pr_5 := h_
      refine lv_iadd hx hb dX2_cut_42 ?_
      refine xtopi (y := cutI u1 v1 u2 v2 x1) (cut2_end n1 n2 n3 n4 w2 pr_5) ?_
      refine xcMv [.int x1, .int (cutI u1 v1 u2 v2 x1)] S (mtX2_add l D d b pi xs ys fx fy tx ty w h C n fm tn x0 x1 y0 y1 x1 (cutI u1 v1 u2 v2 x1) (by omega) (by omega) H.size) q288 viX2_add ⟨rfl, rfl⟩ ⟨Nat.le_of_ble_eq_true rfl, Nat.le_of_ble_eq_true rfl⟩ ⟨Nat.le_of_ble_eq_true rfl, Nat.le_of_ble_eq_true rfl⟩ hK hP hD hS hA (ci := 1) (q0 := 0) rfl rfl hl.1 (rest := []) rfl (Nat.le_of_ble_eq_true rfl) dX2_cut_43 (fun u_ H locs h_ hP hD hS => ?_)
      obtain ⟨tx_3, ty_3, tn_3⟩ := u_
      have hP : va_P D vwCl (wM d b pi xs ys fx fy tx_3 ty_3 w h C n fm tn_3 x0 x1 y0 y1) H := hP
      have hD : va_D A (wM d b pi xs ys fx fy tx_3 ty_3 w h C n fm tn_3 x0 x1 y0 y1) := hD
      have Htx_3 := h_
      refine lv_goto (tgt := 91) hx hb dX2_cut_46 (by decide) ?_
      exact xretMv hx hb hr hlk hK hS dX2_cut_91 (tx_3, ty_3, tn_3) hP hD (by rw [cutP_1 c_2 c_6]; exact Htx_3)
    · have c_6 : sd = 0 := xeq (a := sd) (b := 0) c_6 (by omega) (by omega)
      refine lv_aload_n hx hb dX2_cut_9 rfl (lv_at hl 0 rfl) ?_
      refine xget2 S hK hP 0 rfl 13 (by decide) q211 rfl (v := .int x0) rfl dX2_cut_10 ?_
      refine lv_goto (tgt := 20) hx hb dX2_cut_13 (by decide) ?_
      refine lv_istore (lv' := [(6, .int x0), (0, .ref (b 0)), (1, .int (nI sd)), (2, .int u1), (3, .int v1), (4, .int u2), (5, .int v2)]) hx hb dX2_cut_20 hl (by decide) rfl (fun ls hl => ?_)
      refine lv_aload_n hx hb dX2_cut_22 rfl (lv_at hl 1 rfl) ?_
      refine lv_iload hx hb dX2_cut_23 (lv_at hl 0 rfl) ?_
      refine lv_iload_n hx hb dX2_cut_25 rfl (lv_at hl 4 rfl) ?_
      refine lv_iload hx hb dX2_cut_26 (lv_at hl 6 rfl) ?_
      refine lv_iload_n hx hb dX2_cut_28 rfl (lv_at hl 4 rfl) ?_
      refine lv_isub hx hb dX2_cut_29 ?_
      refine lv_iload hx hb dX2_cut_30 (lv_at hl 0 rfl) ?_
      refine lv_iload_n hx hb dX2_cut_32 rfl (lv_at hl 3 rfl) ?_
      refine lv_isub hx hb dX2_cut_33 ?_
      refine lv_imul hx hb dX2_cut_34 ?_
      refine lv_iload hx hb dX2_cut_35 (lv_at hl 5 rfl) ?_
      refine lv_iload_n hx hb dX2_cut_37 rfl (lv_at hl 3 rfl) ?_
      refine lv_isub hx hb dX2_cut_38 ?_
      refine xcSi [.int ((v2 - v1) * (x0 - u1)), .int (u2 - u1)] S (mtX2_quotient l ((v2 - v1) * (x0 - u1)) (u2 - u1) (cut2_h0 n1 n3 (hX (by omega))) (cut2_h1 n2 n4 n1 w0)) q285 siX2_quotient ⟨rfl, rfl⟩ ⟨Nat.le_of_ble_eq_true rfl, Nat.le_of_ble_eq_true rfl⟩ ⟨Nat.le_of_ble_eq_true rfl, Nat.le_of_ble_eq_true rfl⟩ hl.1 (rest := [.int v1, .int x0, .ref (b 0)]) rfl (Nat.le_of_ble_eq_true rfl) dX2_cut_39 (fun r_ h_ => ?_)
      obtain ⟨r_7, hr_7⟩ : ∃ z, z = r_ := ⟨_, rfl⟩
      rw [← hr_7] at h_ ⊢
      have pr_7 := h_
      refine lv_iadd hx hb dX2_cut_42 ?_
      refine xtopi (y := cutI u1 v1 u2 v2 x0) (cut2_end n1 n2 n3 n4 w0 pr_7) ?_
      refine xcMv [.int x0, .int (cutI u1 v1 u2 v2 x0)] S (mtX2_add l D d b pi xs ys fx fy tx ty w h C n fm tn x0 x1 y0 y1 x0 (cutI u1 v1 u2 v2 x0) (by omega) (by omega) H.size) q288 viX2_add ⟨rfl, rfl⟩ ⟨Nat.le_of_ble_eq_true rfl, Nat.le_of_ble_eq_true rfl⟩ ⟨Nat.le_of_ble_eq_true rfl, Nat.le_of_ble_eq_true rfl⟩ hK hP hD hS hA (ci := 1) (q0 := 0) rfl rfl hl.1 (rest := []) rfl (Nat.le_of_ble_eq_true rfl) dX2_cut_43 (fun u_ H locs h_ hP hD hS => ?_)
      obtain ⟨tx_4, ty_4, tn_4⟩ := u_
      have hP : va_P D vwCl (wM d b pi xs ys fx fy tx_4 ty_4 w h C n fm tn_4 x0 x1 y0 y1) H := hP
      have hD : va_D A (wM d b pi xs ys fx fy tx_4 ty_4 w h C n fm tn_4 x0 x1 y0 y1) := hD
      have Htx_4 := h_
      refine lv_goto (tgt := 91) hx hb dX2_cut_46 (by decide) ?_
      exact xretMv hx hb hr hlk hK hS dX2_cut_91 (tx_4, ty_4, tn_4) hP hD (by rw [cutP_0 c_6]; exact Htx_4)

set_option maxHeartbeats 4000000 in
set_option maxRecDepth 100000 in
/-- pass(side) -/
theorem mtX2_pass (l : Launch) (D : va_G) (d : ClassId) (b : Nat → Nat) (pi xs ys fx fy tx ty : Nat → Int32) (w h C n fm tn : Nat) (x0 x1 y0 y1 : Int32) (sd : Nat) (hsd : sd < 4) (hN : fm ≤ 60) (hC : C ≤ 60) (nn : ∀ i, i < fm → Nr (fx i) ∧ Nr (fy i)) (w0 : Nr x0) (w1 : Nr y0) (w2 : Nr x1) (w3 : Nr y1) (sz : Nat) : Met l yX2_pass (ws_ yX2_pass cX2_pass 6 none) (rm_ 2 48) (PcM [.ref (b 0), .int (nI sd)] D (wM d b pi xs ys fx fy tx ty w h C n fm tn x0 x1 y0 y1) [(d, .int)] sz) (va_Qv (fun (u_ : ((Nat → Int32) × (Nat → Int32) × Nat)) => okT C (oL sd x0 y0 x1 y1 fx fy fm fm) u_.1 u_.2.1 u_.2.2) (fun (u_ : ((Nat → Int32) × (Nat → Int32) × Nat)) t => QB D [(d, .int)] (va_A (wM d b pi xs ys fx fy tx ty w h C n fm tn x0 x1 y0 y1) sz) (wM d b pi xs ys fx fy u_.1 u_.2.1 w h C n fm u_.2.2 x0 x1 y0 y1) t) (va_A (wM d b pi xs ys fx fy tx ty w h C n fm tn x0 x1 y0 y1) sz)) 0 0 (va_A (wM d b pi xs ys fx fy tx ty w h C n fm tn x0 x1 y0 y1) sz) := by
  refine xMetM (Qf := fun A => (va_Qv (fun (u_ : ((Nat → Int32) × (Nat → Int32) × Nat)) => okT C (oL sd x0 y0 x1 y1 fx fy fm fm) u_.1 u_.2.1 u_.2.2) (fun (u_ : ((Nat → Int32) × (Nat → Int32) × Nat)) t => QB D [(d, .int)] A (wM d b pi xs ys fx fy u_.1 u_.2.1 w h C n fm u_.2.2 x0 x1 y0 y1) t) A)) (by decide) (Nat.le_of_ble_eq_true rfl) ?_
  intro p e s m below meth c ls A H locs S hr hlk hl hP hK hD hS hA hin
  have S : CallFix p m c cX2_pass 6 s _ lw_all RX2 := S
  have hx := S.1
  have hb := S.2.1
  have hl : lv_has ls 6 [(0, .ref (b 0)), (1, .int (nI sd))] := hl
  refine lv_aload_n hx hb dX2_pass_0 rfl (lv_at hl 0 rfl) ?_
  refine lv_iconst (v := 0) hx hb dX2_pass_1 (by decide) ?_
  refine xput2 S hK hP hD hS 0 rfl 12 (by decide) q210 rfl rfl (by decide +kernel) (Nat.le_of_ble_eq_true rfl) dX2_pass_2 (fun H locs hP hD hS => ?_)
  have hP : va_P D vwCl (wM d b pi xs ys fx fy tx ty w h C n fm 0 x0 x1 y0 y1) H := hP
  have hD : va_D A (wM d b pi xs ys fx fy tx ty w h C n fm 0 x0 x1 y0 y1) := hD
  refine lv_iconst (v := 0) hx hb dX2_pass_5 (by decide) ?_
  refine lv_istore_n (lv' := [(2, .int 0), (0, .ref (b 0)), (1, .int (nI sd))]) hx hb dX2_pass_6 rfl hl (by decide) rfl (fun ls hl => ?_)
  refine xloop (α := Nat × (Nat → Int32) × (Nat → Int32) × Nat) (fun x_ => fm - x_.1) (fun x_ H locs g_ => ∃ ls, g_ = F0 m 7 ls [] ∧ lv_has ls 6 [(0, .ref (b 0)), (1, .int (nI sd)), (2, .int (nI x_.1))] ∧ va_P D vwCl (wM d b pi xs ys fx fy x_.2.1 x_.2.2.1 w h C n fm x_.2.2.2 x0 x1 y0 y1) H ∧ va_D A (wM d b pi xs ys fx fy x_.2.1 x_.2.2.1 w h C n fm x_.2.2.2 x0 x1 y0 y1) ∧ va_S A s.heap H locs ∧ (x_.1 ≤ fm ∧ okT C (oL sd x0 y0 x1 y1 fx fy fm x_.1) x_.2.1 x_.2.2.1 x_.2.2.2)) ?_ (0, tx, ty, 0) ⟨ls, rfl, (lv_sub hl [1, 2, 0] rfl), hP, hD, hS, (show 0 ≤ fm ∧ okT C (oL sd x0 y0 x1 y1 fx fy fm 0) tx ty 0 from ⟨Nat.zero_le _, okT_0⟩)⟩
  intro x_ H locs g_ hJ_ ih_7
  obtain ⟨k, f, g, M⟩ := x_
  obtain ⟨ls, rfl, hl, hP, hD, hS, hI_7⟩ := hJ_
  have hl : lv_has ls 6 [(0, .ref (b 0)), (1, .int (nI sd)), (2, .int (nI k))] := hl
  have hP : va_P D vwCl (wM d b pi xs ys fx fy f g w h C n fm M x0 x1 y0 y1) H := hP
  have hD : va_D A (wM d b pi xs ys fx fy f g w h C n fm M x0 x1 y0 y1) := hD
  have hI_7 : k ≤ fm ∧ okT C (oL sd x0 y0 x1 y1 fx fy fm k) f g M := hI_7
  have hk_ := hI_7.1
  have hM_ : M ≤ 2 * k := by rw [hI_7.2.1]; exact oL_len k
  refine lv_iload_n hx hb dX2_pass_7 rfl (lv_at hl 2 rfl) ?_
  refine lv_aload_n hx hb dX2_pass_8 rfl (lv_at hl 0 rfl) ?_
  refine xget2 S hK hP 0 rfl 11 (by decide) q209 rfl (v := .int (nI fm)) rfl dX2_pass_9 ?_
  refine lv_icmp_ge (tgt := 149) hx hb dX2_pass_12 (by decide) (fun c_12 => ?_) (fun c_12 => ?_)
  · have c_12 : fm ≤ k := xle (a := fm) (b := k) c_12 (by omega) (by omega)
    have e_ : k = fm := by omega
    have hq_ := hI_7.2
    rw [e_] at hq_
    exact xretMv hx hb hr hlk hK hS dX2_pass_149 (f, g, M) hP hD (hq_)
  · have c_12 : fm > k := xnle (a := fm) (b := k) c_12 (by omega) (by omega)
    have hpv := prv_lt c_12
    refine xmeet (g2 := F0 m 31 ls (.int (nI (prv fm k)) :: [])) (fun jn_31 => ?_) ?_
    · refine lv_iload_n hx hb dX2_pass_15 rfl (lv_at hl 2 rfl) ?_
      refine lv_if_ne (tgt := 28) hx hb dX2_pass_16 (by decide) (fun c_16 => ?_) (fun c_16 => ?_)
      · have c_16 : k ≠ 0 := xne (a := k) (b := 0) c_16 (by omega) (by omega)
        refine lv_iload_n hx hb dX2_pass_28 rfl (lv_at hl 2 rfl) ?_
        refine lv_iconst (v := 1) hx hb dX2_pass_29 (by decide) ?_
        refine lv_isub hx hb dX2_pass_30 ?_
        refine xtopi (y := nI (k - 1)) (pk_sub (a := k) (b := 1) (by omega)) ?_
        refine xtopi (y := nI (prv fm k)) (by simp [prv, c_16]) ?_
        exact jn_31
      · have c_16 : k = 0 := xeq (a := k) (b := 0) c_16 (by omega) (by omega)
        refine lv_aload_n hx hb dX2_pass_19 rfl (lv_at hl 0 rfl) ?_
        refine xget2 S hK hP 0 rfl 11 (by decide) q209 rfl (v := .int (nI fm)) rfl dX2_pass_20 ?_
        refine lv_iconst (v := 1) hx hb dX2_pass_23 (by decide) ?_
        refine lv_isub hx hb dX2_pass_24 ?_
        refine xtopi (y := nI (fm - 1)) (pk_sub (a := fm) (b := 1) (by omega)) ?_
        refine lv_goto (tgt := 31) hx hb dX2_pass_25 (by decide) ?_
        refine xtopi (y := nI (prv fm k)) (by simp [prv, c_16]) ?_
        exact jn_31
    · refine lv_istore_n (lv' := [(3, .int (nI (prv fm k))), (0, .ref (b 0)), (1, .int (nI sd)), (2, .int (nI k))]) hx hb dX2_pass_31 rfl hl (by decide) rfl (fun ls hl => ?_)
      refine xmeet (g2 := F0 m 57 ls (.int (bI (goodB sd x0 y0 x1 y1 (fx k) (fy k))) :: [])) (fun jn_57 => ?_) ?_
      · refine lv_aload_n hx hb dX2_pass_32 rfl (lv_at hl 1 rfl) ?_
        refine lv_iload_n hx hb dX2_pass_33 rfl (lv_at hl 2 rfl) ?_
        refine lv_aload_n hx hb dX2_pass_34 rfl (lv_at hl 1 rfl) ?_
        refine xget2 S hK hP 0 rfl 7 (by decide) q205 rfl (v := .ref (b 4)) rfl dX2_pass_35 ?_
        refine lv_iload_n hx hb dX2_pass_38 rfl (lv_at hl 3 rfl) ?_
        refine xald (j := k) hx hb hK hP 4 0 rfl rfl (by decide) dX2_pass_39 (by omega) ?_
        refine lv_aload_n hx hb dX2_pass_40 rfl (lv_at hl 1 rfl) ?_
        refine xget2 S hK hP 0 rfl 8 (by decide) q206 rfl (v := .ref (b 5)) rfl dX2_pass_41 ?_
        refine lv_iload_n hx hb dX2_pass_44 rfl (lv_at hl 3 rfl) ?_
        refine xald (j := k) hx hb hK hP 5 0 rfl rfl (by decide) dX2_pass_45 (by omega) ?_
        refine xcRi [.int (nI sd), .int (fx k), .int (fy k)] S (mtX2_depth l D d b pi xs ys fx fy f g w h C n fm M x0 x1 y0 y1 sd (fx k) (fy k) hsd) q277 viX2_depth ⟨rfl, rfl⟩ ⟨Nat.le_of_ble_eq_true rfl, Nat.le_of_ble_eq_true rfl⟩ ⟨Nat.le_of_ble_eq_true rfl, Nat.le_of_ble_eq_true rfl⟩ hK hP (ci := 1) (q0 := 0) rfl rfl hl.1 (rest := []) rfl (Nat.le_of_ble_eq_true rfl) dX2_pass_46 (fun r_ h_ => ?_)
        obtain rfl := h_
        refine lv_if_lt (tgt := 56) hx hb dX2_pass_49 (by decide) (fun c_49 => ?_) (fun c_49 => ?_)
        · refine lv_iconst (v := 0) hx hb dX2_pass_56 (by decide) ?_
          refine xtopi (y := bI (goodB sd x0 y0 x1 y1 (fx k) (fy k))) (dep_t hsd (nn _ c_12) w0 w1 w2 w3 c_49) ?_
          exact jn_57
        · refine lv_iconst (v := 1) hx hb dX2_pass_52 (by decide) ?_
          refine lv_goto (tgt := 57) hx hb dX2_pass_53 (by decide) ?_
          refine xtopi (y := bI (goodB sd x0 y0 x1 y1 (fx k) (fy k))) (dep_f hsd (nn _ c_12) w0 w1 w2 w3 c_49) ?_
          exact jn_57
      · refine lv_istore (lv' := [(4, .int (bI (goodB sd x0 y0 x1 y1 (fx k) (fy k)))), (3, .int (nI (prv fm k))), (0, .ref (b 0)), (1, .int (nI sd)), (2, .int (nI k))]) hx hb dX2_pass_57 hl (by decide) rfl (fun ls hl => ?_)
        refine xmeet (g2 := F0 m 84 ls (.int (bI (goodB sd x0 y0 x1 y1 (fx (prv fm k)) (fy (prv fm k)))) :: [])) (fun jn_84 => ?_) ?_
        · refine lv_aload_n hx hb dX2_pass_59 rfl (lv_at hl 2 rfl) ?_
          refine lv_iload_n hx hb dX2_pass_60 rfl (lv_at hl 3 rfl) ?_
          refine lv_aload_n hx hb dX2_pass_61 rfl (lv_at hl 2 rfl) ?_
          refine xget2 S hK hP 0 rfl 7 (by decide) q205 rfl (v := .ref (b 4)) rfl dX2_pass_62 ?_
          refine lv_iload_n hx hb dX2_pass_65 rfl (lv_at hl 1 rfl) ?_
          refine xald (j := prv fm k) hx hb hK hP 4 0 rfl rfl (by decide) dX2_pass_66 (by omega) ?_
          refine lv_aload_n hx hb dX2_pass_67 rfl (lv_at hl 2 rfl) ?_
          refine xget2 S hK hP 0 rfl 8 (by decide) q206 rfl (v := .ref (b 5)) rfl dX2_pass_68 ?_
          refine lv_iload_n hx hb dX2_pass_71 rfl (lv_at hl 1 rfl) ?_
          refine xald (j := prv fm k) hx hb hK hP 5 0 rfl rfl (by decide) dX2_pass_72 (by omega) ?_
          refine xcRi [.int (nI sd), .int (fx (prv fm k)), .int (fy (prv fm k))] S (mtX2_depth l D d b pi xs ys fx fy f g w h C n fm M x0 x1 y0 y1 sd (fx (prv fm k)) (fy (prv fm k)) hsd) q277 viX2_depth ⟨rfl, rfl⟩ ⟨Nat.le_of_ble_eq_true rfl, Nat.le_of_ble_eq_true rfl⟩ ⟨Nat.le_of_ble_eq_true rfl, Nat.le_of_ble_eq_true rfl⟩ hK hP (ci := 1) (q0 := 0) rfl rfl hl.1 (rest := []) rfl (Nat.le_of_ble_eq_true rfl) dX2_pass_73 (fun r_ h_ => ?_)
          obtain rfl := h_
          refine lv_if_lt (tgt := 83) hx hb dX2_pass_76 (by decide) (fun c_76 => ?_) (fun c_76 => ?_)
          · refine lv_iconst (v := 0) hx hb dX2_pass_83 (by decide) ?_
            refine xtopi (y := bI (goodB sd x0 y0 x1 y1 (fx (prv fm k)) (fy (prv fm k)))) (dep_t hsd (nn _ hpv) w0 w1 w2 w3 c_76) ?_
            exact jn_84
          · refine lv_iconst (v := 1) hx hb dX2_pass_79 (by decide) ?_
            refine lv_goto (tgt := 84) hx hb dX2_pass_80 (by decide) ?_
            refine xtopi (y := bI (goodB sd x0 y0 x1 y1 (fx (prv fm k)) (fy (prv fm k)))) (dep_f hsd (nn _ hpv) w0 w1 w2 w3 c_76) ?_
            exact jn_84
        · refine lv_istore (lv' := [(5, .int (bI (goodB sd x0 y0 x1 y1 (fx (prv fm k)) (fy (prv fm k))))), (4, .int (bI (goodB sd x0 y0 x1 y1 (fx k) (fy k)))), (3, .int (nI (prv fm k))), (0, .ref (b 0)), (1, .int (nI sd)), (2, .int (nI k))]) hx hb dX2_pass_84 hl (by decide) rfl (fun ls hl => ?_)
          refine lv_iload hx hb dX2_pass_86 (lv_at hl 1 rfl) ?_
          refine lv_iload hx hb dX2_pass_88 (lv_at hl 0 rfl) ?_
          refine lv_icmp_eq (tgt := 122) hx hb dX2_pass_90 (by decide) (fun c_90 => ?_) (fun c_90 => ?_)
          · have c_90 : (goodB sd x0 y0 x1 y1 (fx k) (fy k)) = (goodB sd x0 y0 x1 y1 (fx (prv fm k)) (fy (prv fm k))) := bI_inj c_90
            refine lv_iload hx hb dX2_pass_122 (lv_at hl 1 rfl) ?_
            refine lv_if_eq (tgt := 143) hx hb dX2_pass_124 (by decide) (fun c_124 => ?_) (fun c_124 => ?_)
            · have c_124 : (goodB sd x0 y0 x1 y1 (fx k) (fy k)) = false := bI_0 c_124
              refine lv_iinc (v := nI (k + 1)) (lv' := [(2, .int (nI (k + 1))), (5, .int (bI (goodB sd x0 y0 x1 y1 (fx (prv fm k)) (fy (prv fm k))))), (4, .int (bI (goodB sd x0 y0 x1 y1 (fx k) (fy k)))), (3, .int (nI (prv fm k))), (0, .ref (b 0)), (1, .int (nI sd))]) hx hb dX2_pass_143 hl (k := 5) rfl (nI_inc _) (by decide) rfl (fun ls hl => ?_)
              refine lv_goto (tgt := 7) hx hb dX2_pass_146 (by decide) ?_
              exact ih_7 (k + 1, f, g, M) _ _ _ (by show fm - (k + 1) < fm - k; omega) ⟨ls, rfl, (lv_sub hl [4, 5, 0] rfl), hP, hD, hS, (show (k + 1) ≤ fm ∧ okT C (oL sd x0 y0 x1 y1 fx fy fm (k + 1)) f g M from ⟨by omega, pasT_ss hI_7.2 c_90 c_124⟩)⟩
            · have c_124 : (goodB sd x0 y0 x1 y1 (fx k) (fy k)) = true := bI_1 c_124
              refine lv_aload_n hx hb dX2_pass_127 rfl (lv_at hl 3 rfl) ?_
              refine lv_aload_n hx hb dX2_pass_128 rfl (lv_at hl 3 rfl) ?_
              refine xget2 S hK hP 0 rfl 7 (by decide) q205 rfl (v := .ref (b 4)) rfl dX2_pass_129 ?_
              refine lv_iload_n hx hb dX2_pass_132 rfl (lv_at hl 5 rfl) ?_
              refine xald (j := k) hx hb hK hP 4 0 rfl rfl (by decide) dX2_pass_133 (by omega) ?_
              refine lv_aload_n hx hb dX2_pass_134 rfl (lv_at hl 3 rfl) ?_
              refine xget2 S hK hP 0 rfl 8 (by decide) q206 rfl (v := .ref (b 5)) rfl dX2_pass_135 ?_
              refine lv_iload_n hx hb dX2_pass_138 rfl (lv_at hl 5 rfl) ?_
              refine xald (j := k) hx hb hK hP 5 0 rfl rfl (by decide) dX2_pass_139 (by omega) ?_
              refine xcMv [.int (fx k), .int (fy k)] S (mtX2_add l D d b pi xs ys fx fy f g w h C n fm M x0 x1 y0 y1 (fx k) (fy k) (by omega) hC H.size) q288 viX2_add ⟨rfl, rfl⟩ ⟨Nat.le_of_ble_eq_true rfl, Nat.le_of_ble_eq_true rfl⟩ ⟨Nat.le_of_ble_eq_true rfl, Nat.le_of_ble_eq_true rfl⟩ hK hP hD hS hA (ci := 1) (q0 := 0) rfl rfl hl.1 (rest := []) rfl (Nat.le_of_ble_eq_true rfl) dX2_pass_140 (fun u_ H locs h_ hP hD hS => ?_)
              obtain ⟨tx_1, ty_1, tn_1⟩ := u_
              have hP : va_P D vwCl (wM d b pi xs ys fx fy tx_1 ty_1 w h C n fm tn_1 x0 x1 y0 y1) H := hP
              have hD : va_D A (wM d b pi xs ys fx fy tx_1 ty_1 w h C n fm tn_1 x0 x1 y0 y1) := hD
              obtain ⟨hd_, hdt_⟩ := okT_add hI_7.2 h_
              refine lv_iinc (v := nI (k + 1)) (lv' := [(2, .int (nI (k + 1))), (5, .int (bI (goodB sd x0 y0 x1 y1 (fx (prv fm k)) (fy (prv fm k))))), (4, .int (bI (goodB sd x0 y0 x1 y1 (fx k) (fy k)))), (3, .int (nI (prv fm k))), (0, .ref (b 0)), (1, .int (nI sd))]) hx hb dX2_pass_143 hl (k := 5) rfl (nI_inc _) (by decide) rfl (fun ls hl => ?_)
              refine lv_goto (tgt := 7) hx hb dX2_pass_146 (by decide) ?_
              exact ih_7 (k + 1, tx_1, ty_1, tn_1) _ _ _ (by show fm - (k + 1) < fm - k; omega) ⟨ls, rfl, (lv_sub hl [4, 5, 0] rfl), hP, hD, hS, (show (k + 1) ≤ fm ∧ okT C (oL sd x0 y0 x1 y1 fx fy fm (k + 1)) tx_1 ty_1 tn_1 from ⟨by omega, pasT_st hd_ c_90 c_124⟩)⟩
          · have c_90 : ¬ ((goodB sd x0 y0 x1 y1 (fx k) (fy k)) = (goodB sd x0 y0 x1 y1 (fx (prv fm k)) (fy (prv fm k)))) := fun q_ => c_90 (congrArg bI q_)
            refine lv_aload_n hx hb dX2_pass_93 rfl (lv_at hl 3 rfl) ?_
            refine lv_iload_n hx hb dX2_pass_94 rfl (lv_at hl 4 rfl) ?_
            refine lv_aload_n hx hb dX2_pass_95 rfl (lv_at hl 3 rfl) ?_
            refine xget2 S hK hP 0 rfl 7 (by decide) q205 rfl (v := .ref (b 4)) rfl dX2_pass_96 ?_
            refine lv_iload_n hx hb dX2_pass_99 rfl (lv_at hl 2 rfl) ?_
            refine xald (j := prv fm k) hx hb hK hP 4 0 rfl rfl (by decide) dX2_pass_100 (by omega) ?_
            refine lv_aload_n hx hb dX2_pass_101 rfl (lv_at hl 3 rfl) ?_
            refine xget2 S hK hP 0 rfl 8 (by decide) q206 rfl (v := .ref (b 5)) rfl dX2_pass_102 ?_
            refine lv_iload_n hx hb dX2_pass_105 rfl (lv_at hl 2 rfl) ?_
            refine xald (j := prv fm k) hx hb hK hP 5 0 rfl rfl (by decide) dX2_pass_106 (by omega) ?_
            refine lv_aload_n hx hb dX2_pass_107 rfl (lv_at hl 3 rfl) ?_
            refine xget2 S hK hP 0 rfl 7 (by decide) q205 rfl (v := .ref (b 4)) rfl dX2_pass_108 ?_
            refine lv_iload_n hx hb dX2_pass_111 rfl (lv_at hl 5 rfl) ?_
            refine xald (j := k) hx hb hK hP 4 0 rfl rfl (by decide) dX2_pass_112 (by omega) ?_
            refine lv_aload_n hx hb dX2_pass_113 rfl (lv_at hl 3 rfl) ?_
            refine xget2 S hK hP 0 rfl 8 (by decide) q206 rfl (v := .ref (b 5)) rfl dX2_pass_114 ?_
            refine lv_iload_n hx hb dX2_pass_117 rfl (lv_at hl 5 rfl) ?_
            refine xald (j := k) hx hb hK hP 5 0 rfl rfl (by decide) dX2_pass_118 (by omega) ?_
            refine xcMv [.int (nI sd), .int (fx (prv fm k)), .int (fy (prv fm k)), .int (fx k), .int (fy k)] S (mtX2_cut l D d b pi xs ys fx fy f g w h C n fm M x0 x1 y0 y1 sd (fx (prv fm k)) (fy (prv fm k)) (fx k) (fy k) hsd (by omega) hC (nn _ hpv).1 (nn _ hpv).2 (nn _ c_12).1 (nn _ c_12).2 w0 w1 w2 w3 (good_ne c_90 hsd).1 (good_ne c_90 hsd).2 H.size) q281 viX2_cut ⟨rfl, rfl⟩ ⟨Nat.le_of_ble_eq_true rfl, Nat.le_of_ble_eq_true rfl⟩ ⟨Nat.le_of_ble_eq_true rfl, Nat.le_of_ble_eq_true rfl⟩ hK hP hD hS hA (ci := 1) (q0 := 0) rfl rfl hl.1 (rest := []) rfl (Nat.le_of_ble_eq_true rfl) dX2_pass_119 (fun u_ H locs h_ hP hD hS => ?_)
            obtain ⟨tx_2, ty_2, tn_2⟩ := u_
            have hP : va_P D vwCl (wM d b pi xs ys fx fy tx_2 ty_2 w h C n fm tn_2 x0 x1 y0 y1) H := hP
            have hD : va_D A (wM d b pi xs ys fx fy tx_2 ty_2 w h C n fm tn_2 x0 x1 y0 y1) := hD
            obtain ⟨hc_, hct_⟩ := okT_add hI_7.2 h_
            have hct_ : tn_2 = M + 1 := hct_
            refine lv_iload hx hb dX2_pass_122 (lv_at hl 1 rfl) ?_
            refine lv_if_eq (tgt := 143) hx hb dX2_pass_124 (by decide) (fun c_124 => ?_) (fun c_124 => ?_)
            · have c_124 : (goodB sd x0 y0 x1 y1 (fx k) (fy k)) = false := bI_0 c_124
              refine lv_iinc (v := nI (k + 1)) (lv' := [(2, .int (nI (k + 1))), (5, .int (bI (goodB sd x0 y0 x1 y1 (fx (prv fm k)) (fy (prv fm k))))), (4, .int (bI (goodB sd x0 y0 x1 y1 (fx k) (fy k)))), (3, .int (nI (prv fm k))), (0, .ref (b 0)), (1, .int (nI sd))]) hx hb dX2_pass_143 hl (k := 5) rfl (nI_inc _) (by decide) rfl (fun ls hl => ?_)
              refine lv_goto (tgt := 7) hx hb dX2_pass_146 (by decide) ?_
              exact ih_7 (k + 1, tx_2, ty_2, tn_2) _ _ _ (by show fm - (k + 1) < fm - k; omega) ⟨ls, rfl, (lv_sub hl [4, 5, 0] rfl), hP, hD, hS, (show (k + 1) ≤ fm ∧ okT C (oL sd x0 y0 x1 y1 fx fy fm (k + 1)) tx_2 ty_2 tn_2 from ⟨by omega, pasT_df hc_ c_90 c_124⟩)⟩
            · have c_124 : (goodB sd x0 y0 x1 y1 (fx k) (fy k)) = true := bI_1 c_124
              refine lv_aload_n hx hb dX2_pass_127 rfl (lv_at hl 3 rfl) ?_
              refine lv_aload_n hx hb dX2_pass_128 rfl (lv_at hl 3 rfl) ?_
              refine xget2 S hK hP 0 rfl 7 (by decide) q205 rfl (v := .ref (b 4)) rfl dX2_pass_129 ?_
              refine lv_iload_n hx hb dX2_pass_132 rfl (lv_at hl 5 rfl) ?_
              refine xald (j := k) hx hb hK hP 4 0 rfl rfl (by decide) dX2_pass_133 (by omega) ?_
              refine lv_aload_n hx hb dX2_pass_134 rfl (lv_at hl 3 rfl) ?_
              refine xget2 S hK hP 0 rfl 8 (by decide) q206 rfl (v := .ref (b 5)) rfl dX2_pass_135 ?_
              refine lv_iload_n hx hb dX2_pass_138 rfl (lv_at hl 5 rfl) ?_
              refine xald (j := k) hx hb hK hP 5 0 rfl rfl (by decide) dX2_pass_139 (by omega) ?_
              refine xcMv [.int (fx k), .int (fy k)] S (mtX2_add l D d b pi xs ys fx fy tx_2 ty_2 w h C n fm tn_2 x0 x1 y0 y1 (fx k) (fy k) (by omega) hC H.size) q288 viX2_add ⟨rfl, rfl⟩ ⟨Nat.le_of_ble_eq_true rfl, Nat.le_of_ble_eq_true rfl⟩ ⟨Nat.le_of_ble_eq_true rfl, Nat.le_of_ble_eq_true rfl⟩ hK hP hD hS hA (ci := 1) (q0 := 0) rfl rfl hl.1 (rest := []) rfl (Nat.le_of_ble_eq_true rfl) dX2_pass_140 (fun u_ H locs h_ hP hD hS => ?_)
              obtain ⟨tx_3, ty_3, tn_3⟩ := u_
              have hP : va_P D vwCl (wM d b pi xs ys fx fy tx_3 ty_3 w h C n fm tn_3 x0 x1 y0 y1) H := hP
              have hD : va_D A (wM d b pi xs ys fx fy tx_3 ty_3 w h C n fm tn_3 x0 x1 y0 y1) := hD
              obtain ⟨hd_, hdt_⟩ := okT_add hc_ h_
              refine lv_iinc (v := nI (k + 1)) (lv' := [(2, .int (nI (k + 1))), (5, .int (bI (goodB sd x0 y0 x1 y1 (fx (prv fm k)) (fy (prv fm k))))), (4, .int (bI (goodB sd x0 y0 x1 y1 (fx k) (fy k)))), (3, .int (nI (prv fm k))), (0, .ref (b 0)), (1, .int (nI sd))]) hx hb dX2_pass_143 hl (k := 5) rfl (nI_inc _) (by decide) rfl (fun ls hl => ?_)
              refine lv_goto (tgt := 7) hx hb dX2_pass_146 (by decide) ?_
              exact ih_7 (k + 1, tx_3, ty_3, tn_3) _ _ _ (by show fm - (k + 1) < fm - k; omega) ⟨ls, rfl, (lv_sub hl [4, 5, 0] rfl), hP, hD, hS, (show (k + 1) ≤ fm ∧ okT C (oL sd x0 y0 x1 y1 fx fy fm (k + 1)) tx_3 ty_3 tn_3 from ⟨by omega, pasT_dt hd_ c_90 c_124⟩)⟩

set_option maxHeartbeats 4000000 in
set_option maxRecDepth 100000 in
/-- clip(): the four passes -/
theorem mtX2_clip (l : Launch) (D : va_G) (d : ClassId) (b : Nat → Nat) (pi xs ys fx fy tx ty : Nat → Int32) (w h C n fm tn : Nat) (x0 x1 y0 y1 : Int32)  (hn : n ≤ C) (hC : C ≤ 60) (nn : ∀ i, i < n → Nr (xs i) ∧ Nr (ys i)) (w0 : Nr x0) (w1 : Nr y0) (w2 : Nr x1) (w3 : Nr y1) (sz : Nat) : Met l yX2_clip (ws_ yX2_clip cX2_clip 3 (some .int)) (rm_ 3 73) (PcM [.ref (b 0)] D (wM d b pi xs ys fx fy tx ty w h C n fm tn x0 x1 y0 y1) [(d, .int)] sz) (va_Qi (fun (r : Int32) (u_ : ((Nat → Int32) × (Nat → Int32) × (Nat → Int32) × (Nat → Int32) × (Nat → Int32) × (Nat → Int32) × Nat × Nat × Nat)) => clQ (clO C x0 y0 x1 y1 (pts xs ys n) 4) r xs ys n u_.1 u_.2.1 u_.2.2.2.2.2.2.1) (fun (u_ : ((Nat → Int32) × (Nat → Int32) × (Nat → Int32) × (Nat → Int32) × (Nat → Int32) × (Nat → Int32) × Nat × Nat × Nat)) t => QB D [(d, .int)] (va_A (wM d b pi xs ys fx fy tx ty w h C n fm tn x0 x1 y0 y1) sz) (wM d b pi u_.1 u_.2.1 u_.2.2.1 u_.2.2.2.1 u_.2.2.2.2.1 u_.2.2.2.2.2.1 w h C u_.2.2.2.2.2.2.1 u_.2.2.2.2.2.2.2.1 u_.2.2.2.2.2.2.2.2 x0 x1 y0 y1) t) (va_A (wM d b pi xs ys fx fy tx ty w h C n fm tn x0 x1 y0 y1) sz)) 0 0 (va_A (wM d b pi xs ys fx fy tx ty w h C n fm tn x0 x1 y0 y1) sz) := by
  refine xMetM (Qf := fun A => (va_Qi (fun (r : Int32) (u_ : ((Nat → Int32) × (Nat → Int32) × (Nat → Int32) × (Nat → Int32) × (Nat → Int32) × (Nat → Int32) × Nat × Nat × Nat)) => clQ (clO C x0 y0 x1 y1 (pts xs ys n) 4) r xs ys n u_.1 u_.2.1 u_.2.2.2.2.2.2.1) (fun (u_ : ((Nat → Int32) × (Nat → Int32) × (Nat → Int32) × (Nat → Int32) × (Nat → Int32) × (Nat → Int32) × Nat × Nat × Nat)) t => QB D [(d, .int)] A (wM d b pi u_.1 u_.2.1 u_.2.2.1 u_.2.2.2.1 u_.2.2.2.2.1 u_.2.2.2.2.2.1 w h C u_.2.2.2.2.2.2.1 u_.2.2.2.2.2.2.2.1 u_.2.2.2.2.2.2.2.2 x0 x1 y0 y1) t) A)) (by decide) (Nat.le_of_ble_eq_true rfl) ?_
  intro p e s m below meth c ls A H locs S hr hlk hl hP hK hD hS hA hin
  have S : CallFix p m c cX2_clip 3 s _ lw_all RX2 := S
  have hx := S.1
  have hb := S.2.1
  have hl : lv_has ls 3 [(0, .ref (b 0))] := hl
  refine lv_aload_n hx hb dX2_clip_0 rfl (lv_at hl 0 rfl) ?_
  refine lv_aload_n hx hb dX2_clip_1 rfl (lv_at hl 0 rfl) ?_
  refine xget2 S hK hP 0 rfl 6 (by decide) q204 rfl (v := .int (nI n)) rfl dX2_clip_2 ?_
  refine xput2 S hK hP hD hS 0 rfl 11 (by decide) q209 rfl rfl (by decide +kernel) (Nat.le_of_ble_eq_true rfl) dX2_clip_5 (fun H locs hP hD hS => ?_)
  have hP : va_P D vwCl (wM d b pi xs ys fx fy tx ty w h C n n tn x0 x1 y0 y1) H := hP
  have hD : va_D A (wM d b pi xs ys fx fy tx ty w h C n n tn x0 x1 y0 y1) := hD
  refine lv_iconst (v := 0) hx hb dX2_clip_8 (by decide) ?_
  refine lv_istore_n (lv' := [(1, .int 0), (0, .ref (b 0))]) hx hb dX2_clip_9 rfl hl (by decide) rfl (fun ls hl => ?_)
  refine xloop (α := Nat × (Nat → Int32) × (Nat → Int32)) (fun x_ => n - x_.1) (fun x_ H locs g_ => ∃ ls, g_ = F0 m 10 ls [] ∧ lv_has ls 3 [(0, .ref (b 0)), (1, .int (nI x_.1))] ∧ va_P D vwCl (wM d b pi xs ys x_.2.1 x_.2.2 tx ty w h C n n tn x0 x1 y0 y1) H ∧ va_D A (wM d b pi xs ys x_.2.1 x_.2.2 tx ty w h C n n tn x0 x1 y0 y1) ∧ va_S A s.heap H locs ∧ (x_.1 ≤ n ∧ ∀ j, j < x_.1 → x_.2.1 j = xs j ∧ x_.2.2 j = ys j)) ?_ (0, fx, fy) ⟨ls, rfl, (lv_sub hl [1, 0] rfl), hP, hD, hS, (show 0 ≤ n ∧ ∀ j, j < 0 → fx j = xs j ∧ fy j = ys j from ⟨Nat.zero_le _, fun j hj => absurd hj (Nat.not_lt_zero j)⟩)⟩
  intro x_ H locs g_ hJ_ ih_10
  obtain ⟨k, f, g⟩ := x_
  obtain ⟨ls, rfl, hl, hP, hD, hS, hI_10⟩ := hJ_
  have hl : lv_has ls 3 [(0, .ref (b 0)), (1, .int (nI k))] := hl
  have hP : va_P D vwCl (wM d b pi xs ys f g tx ty w h C n n tn x0 x1 y0 y1) H := hP
  have hD : va_D A (wM d b pi xs ys f g tx ty w h C n n tn x0 x1 y0 y1) := hD
  have hI_10 : k ≤ n ∧ ∀ j, j < k → f j = xs j ∧ g j = ys j := hI_10
  refine lv_iload_n hx hb dX2_clip_10 rfl (lv_at hl 1 rfl) ?_
  refine lv_aload_n hx hb dX2_clip_11 rfl (lv_at hl 0 rfl) ?_
  refine xget2 S hK hP 0 rfl 6 (by decide) q204 rfl (v := .int (nI n)) rfl dX2_clip_12 ?_
  refine lv_icmp_ge (tgt := 48) hx hb dX2_clip_15 (by decide) (fun c_15 => ?_) (fun c_15 => ?_)
  · have c_15 : n ≤ k := xle (a := n) (b := k) c_15 (by omega) (by omega)
    refine lv_iconst (v := 0) hx hb dX2_clip_48 (by decide) ?_
    refine lv_istore_n (lv' := [(1, .int 0), (0, .ref (b 0))]) hx hb dX2_clip_49 rfl hl (by decide) rfl (fun ls hl => ?_)
    refine xloop (α := Nat × Nat × (Nat → Int32) × (Nat → Int32) × (Nat → Int32) × (Nat → Int32) × Nat) (fun x_ => 4 - x_.1) (fun x_ H locs g_ => ∃ ls, g_ = F0 m 50 ls [] ∧ lv_has ls 3 [(0, .ref (b 0)), (1, .int (nI x_.1))] ∧ va_P D vwCl (wM d b pi xs ys x_.2.2.1 x_.2.2.2.1 x_.2.2.2.2.1 x_.2.2.2.2.2.1 w h C n x_.2.1 x_.2.2.2.2.2.2 x0 x1 y0 y1) H ∧ va_D A (wM d b pi xs ys x_.2.2.1 x_.2.2.2.1 x_.2.2.2.2.1 x_.2.2.2.2.2.1 w h C n x_.2.1 x_.2.2.2.2.2.2 x0 x1 y0 y1) ∧ va_S A s.heap H locs ∧ (x_.1 ≤ 4 ∧ x_.2.1 ≤ C ∧ ∃ L, clO C x0 y0 x1 y1 (pts xs ys n) x_.1 = some L ∧ okQ L x_.2.2.1 x_.2.2.2.1 x_.2.1 ∧ NrL L)) ?_ (0, n, f, g, tx, ty, tn) ⟨ls, rfl, (lv_sub hl [1, 0] rfl), hP, hD, hS, (show 0 ≤ 4 ∧ n ≤ C ∧ ∃ L, clO C x0 y0 x1 y1 (pts xs ys n) 0 = some L ∧ okQ L f g n ∧ NrL L from ⟨Nat.zero_le _, hn, pts xs ys n, rfl, okQ_cpy pts_ok (fun j hj => hI_10.2 j (by omega)), NrL_pts nn⟩)⟩
    intro x_ H locs g_ hJ_ ih_50
    obtain ⟨sd, fv, g1, g2, t1, t2, tv⟩ := x_
    obtain ⟨ls, rfl, hl, hP, hD, hS, hI_50⟩ := hJ_
    have hl : lv_has ls 3 [(0, .ref (b 0)), (1, .int (nI sd))] := hl
    have hP : va_P D vwCl (wM d b pi xs ys g1 g2 t1 t2 w h C n fv tv x0 x1 y0 y1) H := hP
    have hD : va_D A (wM d b pi xs ys g1 g2 t1 t2 w h C n fv tv x0 x1 y0 y1) := hD
    have hI_50 : sd ≤ 4 ∧ fv ≤ C ∧ ∃ L, clO C x0 y0 x1 y1 (pts xs ys n) sd = some L ∧ okQ L g1 g2 fv ∧ NrL L := hI_50
    obtain ⟨hs4_, hct_, L, hL_, hq_, hnr_⟩ := hI_50
    refine lv_iload_n hx hb dX2_clip_50 rfl (lv_at hl 1 rfl) ?_
    refine lv_iconst (v := 4) hx hb dX2_clip_51 (by decide) ?_
    refine lv_icmp_ge (tgt := 127) hx hb dX2_clip_52 (by decide) (fun c_52 => ?_) (fun c_52 => ?_)
    · have c_52 : 4 ≤ sd := xle (a := 4) (b := sd) c_52 (by omega) (by omega)
      refine lv_aload_n hx hb dX2_clip_127 rfl (lv_at hl 0 rfl) ?_
      refine lv_aload_n hx hb dX2_clip_128 rfl (lv_at hl 0 rfl) ?_
      refine xget2 S hK hP 0 rfl 11 (by decide) q209 rfl (v := .int (nI fv)) rfl dX2_clip_129 ?_
      refine xput2 S hK hP hD hS 0 rfl 6 (by decide) q204 rfl rfl (by decide +kernel) (Nat.le_of_ble_eq_true rfl) dX2_clip_132 (fun H locs hP hD hS => ?_)
      have hP : va_P D vwCl (wM d b pi xs ys g1 g2 t1 t2 w h C fv fv tv x0 x1 y0 y1) H := hP
      have hD : va_D A (wM d b pi xs ys g1 g2 t1 t2 w h C fv fv tv x0 x1 y0 y1) := hD
      refine lv_iconst (v := 0) hx hb dX2_clip_135 (by decide) ?_
      refine lv_istore_n (lv' := [(1, .int 0), (0, .ref (b 0))]) hx hb dX2_clip_136 rfl hl (by decide) rfl (fun ls hl => ?_)
      refine xloop (α := Nat × (Nat → Int32) × (Nat → Int32)) (fun x_ => fv - x_.1) (fun x_ H locs g_ => ∃ ls, g_ = F0 m 137 ls [] ∧ lv_has ls 3 [(0, .ref (b 0)), (1, .int (nI x_.1))] ∧ va_P D vwCl (wM d b pi x_.2.1 x_.2.2 g1 g2 t1 t2 w h C fv fv tv x0 x1 y0 y1) H ∧ va_D A (wM d b pi x_.2.1 x_.2.2 g1 g2 t1 t2 w h C fv fv tv x0 x1 y0 y1) ∧ va_S A s.heap H locs ∧ (x_.1 ≤ fv ∧ ∀ j, j < x_.1 → x_.2.1 j = g1 j ∧ x_.2.2 j = g2 j)) ?_ (0, xs, ys) ⟨ls, rfl, (lv_sub hl [1, 0] rfl), hP, hD, hS, (show 0 ≤ fv ∧ ∀ j, j < 0 → xs j = g1 j ∧ ys j = g2 j from ⟨Nat.zero_le _, fun j hj => absurd hj (Nat.not_lt_zero j)⟩)⟩
      intro x_ H locs g_ hJ_ ih_137
      obtain ⟨k, f, g⟩ := x_
      obtain ⟨ls, rfl, hl, hP, hD, hS, hI_137⟩ := hJ_
      have hl : lv_has ls 3 [(0, .ref (b 0)), (1, .int (nI k))] := hl
      have hP : va_P D vwCl (wM d b pi f g g1 g2 t1 t2 w h C fv fv tv x0 x1 y0 y1) H := hP
      have hD : va_D A (wM d b pi f g g1 g2 t1 t2 w h C fv fv tv x0 x1 y0 y1) := hD
      have hI_137 : k ≤ fv ∧ ∀ j, j < k → f j = g1 j ∧ g j = g2 j := hI_137
      refine lv_iload_n hx hb dX2_clip_137 rfl (lv_at hl 1 rfl) ?_
      refine lv_aload_n hx hb dX2_clip_138 rfl (lv_at hl 0 rfl) ?_
      refine xget2 S hK hP 0 rfl 6 (by decide) q204 rfl (v := .int (nI fv)) rfl dX2_clip_139 ?_
      refine lv_icmp_ge (tgt := 175) hx hb dX2_clip_142 (by decide) (fun c_142 => ?_) (fun c_142 => ?_)
      · have c_142 : fv ≤ k := xle (a := fv) (b := k) c_142 (by omega) (by omega)
        refine lv_aload_n hx hb dX2_clip_175 rfl (lv_at hl 0 rfl) ?_
        refine xget2 S hK hP 0 rfl 6 (by decide) q204 rfl (v := .int (nI fv)) rfl dX2_clip_176 ?_
        exact xretMi hx hb hr hlk hK hS dX2_clip_179 (rfl) (f, g, g1, g2, t1, t2, fv, fv, tv) hP hD (clQ_yes (by rw [← (show sd = 4 by omega)]; exact hL_) (okQ_cpy hq_ (fun j hj => hI_137.2 j (by omega))))
      · have c_142 : fv > k := xnle (a := fv) (b := k) c_142 (by omega) (by omega)
        refine lv_aload_n hx hb dX2_clip_145 rfl (lv_at hl 0 rfl) ?_
        refine xget2 S hK hP 0 rfl 4 (by decide) q202 rfl (v := .ref (b 2)) rfl dX2_clip_146 ?_
        refine lv_iload_n hx hb dX2_clip_149 rfl (lv_at hl 1 rfl) ?_
        refine lv_aload_n hx hb dX2_clip_150 rfl (lv_at hl 0 rfl) ?_
        refine xget2 S hK hP 0 rfl 7 (by decide) q205 rfl (v := .ref (b 4)) rfl dX2_clip_151 ?_
        refine lv_iload_n hx hb dX2_clip_154 rfl (lv_at hl 1 rfl) ?_
        refine xald (j := k) hx hb hK hP 4 0 rfl rfl (by decide) dX2_clip_155 (by omega) ?_
        refine xast (j := k) hx hb hK hP hD hS 2 0 rfl rfl (by decide) dX2_clip_156 (by omega) (fun H locs hP hD hS => ?_)
        have hP : va_P D vwCl (wM d b pi (upd f k (g1 k)) g g1 g2 t1 t2 w h C fv fv tv x0 x1 y0 y1) H := hP
        have hD : va_D A (wM d b pi (upd f k (g1 k)) g g1 g2 t1 t2 w h C fv fv tv x0 x1 y0 y1) := hD
        refine lv_aload_n hx hb dX2_clip_157 rfl (lv_at hl 0 rfl) ?_
        refine xget2 S hK hP 0 rfl 5 (by decide) q203 rfl (v := .ref (b 3)) rfl dX2_clip_158 ?_
        refine lv_iload_n hx hb dX2_clip_161 rfl (lv_at hl 1 rfl) ?_
        refine lv_aload_n hx hb dX2_clip_162 rfl (lv_at hl 0 rfl) ?_
        refine xget2 S hK hP 0 rfl 8 (by decide) q206 rfl (v := .ref (b 5)) rfl dX2_clip_163 ?_
        refine lv_iload_n hx hb dX2_clip_166 rfl (lv_at hl 1 rfl) ?_
        refine xald (j := k) hx hb hK hP 5 0 rfl rfl (by decide) dX2_clip_167 (by omega) ?_
        refine xast (j := k) hx hb hK hP hD hS 3 0 rfl rfl (by decide) dX2_clip_168 (by omega) (fun H locs hP hD hS => ?_)
        have hP : va_P D vwCl (wM d b pi (upd f k (g1 k)) (upd g k (g2 k)) g1 g2 t1 t2 w h C fv fv tv x0 x1 y0 y1) H := hP
        have hD : va_D A (wM d b pi (upd f k (g1 k)) (upd g k (g2 k)) g1 g2 t1 t2 w h C fv fv tv x0 x1 y0 y1) := hD
        refine lv_iinc (v := nI (k + 1)) (lv' := [(1, .int (nI (k + 1))), (0, .ref (b 0))]) hx hb dX2_clip_169 hl (k := 1) rfl (nI_inc _) (by decide) rfl (fun ls hl => ?_)
        refine lv_goto (tgt := 137) hx hb dX2_clip_172 (by decide) ?_
        exact ih_137 (k + 1, upd f k (g1 k), upd g k (g2 k)) _ _ _ (by show fv - (k + 1) < fv - k; omega) ⟨ls, rfl, (lv_sub hl [1, 0] rfl), hP, hD, hS, (show (k + 1) ≤ fv ∧ ∀ j, j < (k + 1) → (upd f k (g1 k)) j = g1 j ∧ (upd g k (g2 k)) j = g2 j from ⟨by omega, cpy_step hI_137.2⟩)⟩
    · have c_52 : 4 > sd := xnle (a := 4) (b := sd) c_52 (by omega) (by omega)
      refine lv_aload_n hx hb dX2_clip_55 rfl (lv_at hl 0 rfl) ?_
      refine lv_iload_n hx hb dX2_clip_56 rfl (lv_at hl 1 rfl) ?_
      refine xcMv [.int (nI sd)] S (mtX2_pass l D d b pi xs ys g1 g2 t1 t2 w h C n fv tv x0 x1 y0 y1 sd (by omega) (by omega) hC (NrL_f hnr_ hq_) w0 w1 w2 w3 H.size) q273 viX2_pass ⟨rfl, rfl⟩ ⟨Nat.le_of_ble_eq_true rfl, Nat.le_of_ble_eq_true rfl⟩ ⟨Nat.le_of_ble_eq_true rfl, Nat.le_of_ble_eq_true rfl⟩ hK hP hD hS hA (ci := 1) (q0 := 0) rfl rfl hl.1 (rest := []) rfl (Nat.le_of_ble_eq_true rfl) dX2_clip_57 (fun u_ H locs h_ hP hD hS => ?_)
      obtain ⟨tx_1, ty_1, tn_1⟩ := u_
      have hP : va_P D vwCl (wM d b pi xs ys g1 g2 tx_1 ty_1 w h C n fv tn_1 x0 x1 y0 y1) H := hP
      have hD : va_D A (wM d b pi xs ys g1 g2 tx_1 ty_1 w h C n fv tn_1 x0 x1 y0 y1) := hD
      have h_ : okT C (oL sd x0 y0 x1 y1 g1 g2 fv fv) tx_1 ty_1 tn_1 := h_
      have hl_ := oL_len (sd := sd) (n := fv) (x0 := x0) (y0 := y0) (x1 := x1) (y1 := y1) (f := g1) (g := g2) fv
      rw [← h_.1] at hl_
      rw [stL_ok hq_] at h_
      refine lv_aload_n hx hb dX2_clip_60 rfl (lv_at hl 0 rfl) ?_
      refine xget2 S hK hP 0 rfl 12 (by decide) q210 rfl (v := .int (nI tn_1)) rfl dX2_clip_61 ?_
      refine lv_aload_n hx hb dX2_clip_64 rfl (lv_at hl 0 rfl) ?_
      refine xget2 S hK hP 0 rfl 2 (by decide) q200 rfl (v := .int (nI C)) rfl dX2_clip_65 ?_
      refine lv_icmp_le (tgt := 73) hx hb dX2_clip_68 (by decide) (fun c_68 => ?_) (fun c_68 => ?_)
      · have c_68 : tn_1 ≤ C := xle (a := tn_1) (b := C) c_68 (by omega) (by omega)
        have hcl_ : (stL sd x0 y0 x1 y1 L).length ≤ C := by rw [← h_.1]; exact c_68
        refine lv_aload_n hx hb dX2_clip_73 rfl (lv_at hl 0 rfl) ?_
        refine lv_aload_n hx hb dX2_clip_74 rfl (lv_at hl 0 rfl) ?_
        refine xget2 S hK hP 0 rfl 12 (by decide) q210 rfl (v := .int (nI tn_1)) rfl dX2_clip_75 ?_
        refine xput2 S hK hP hD hS 0 rfl 11 (by decide) q209 rfl rfl (by decide +kernel) (Nat.le_of_ble_eq_true rfl) dX2_clip_78 (fun H locs hP hD hS => ?_)
        have hP : va_P D vwCl (wM d b pi xs ys g1 g2 tx_1 ty_1 w h C n tn_1 tn_1 x0 x1 y0 y1) H := hP
        have hD : va_D A (wM d b pi xs ys g1 g2 tx_1 ty_1 w h C n tn_1 tn_1 x0 x1 y0 y1) := hD
        refine lv_iconst (v := 0) hx hb dX2_clip_81 (by decide) ?_
        refine lv_istore_n (lv' := [(2, .int 0), (0, .ref (b 0)), (1, .int (nI sd))]) hx hb dX2_clip_82 rfl hl (by decide) rfl (fun ls hl => ?_)
        refine xloop (α := Nat × (Nat → Int32) × (Nat → Int32)) (fun x_ => tn_1 - x_.1) (fun x_ H locs g_ => ∃ ls, g_ = F0 m 83 ls [] ∧ lv_has ls 3 [(0, .ref (b 0)), (1, .int (nI sd)), (2, .int (nI x_.1))] ∧ va_P D vwCl (wM d b pi xs ys x_.2.1 x_.2.2 tx_1 ty_1 w h C n tn_1 tn_1 x0 x1 y0 y1) H ∧ va_D A (wM d b pi xs ys x_.2.1 x_.2.2 tx_1 ty_1 w h C n tn_1 tn_1 x0 x1 y0 y1) ∧ va_S A s.heap H locs ∧ (x_.1 ≤ tn_1 ∧ ∀ j, j < x_.1 → x_.2.1 j = tx_1 j ∧ x_.2.2 j = ty_1 j)) ?_ (0, g1, g2) ⟨ls, rfl, (lv_sub hl [1, 2, 0] rfl), hP, hD, hS, (show 0 ≤ tn_1 ∧ ∀ j, j < 0 → g1 j = tx_1 j ∧ g2 j = ty_1 j from ⟨Nat.zero_le _, fun j hj => absurd hj (Nat.not_lt_zero j)⟩)⟩
        intro x_ H locs g_ hJ_ ih_83
        obtain ⟨k, f, g⟩ := x_
        obtain ⟨ls, rfl, hl, hP, hD, hS, hI_83⟩ := hJ_
        have hl : lv_has ls 3 [(0, .ref (b 0)), (1, .int (nI sd)), (2, .int (nI k))] := hl
        have hP : va_P D vwCl (wM d b pi xs ys f g tx_1 ty_1 w h C n tn_1 tn_1 x0 x1 y0 y1) H := hP
        have hD : va_D A (wM d b pi xs ys f g tx_1 ty_1 w h C n tn_1 tn_1 x0 x1 y0 y1) := hD
        have hI_83 : k ≤ tn_1 ∧ ∀ j, j < k → f j = tx_1 j ∧ g j = ty_1 j := hI_83
        refine lv_iload_n hx hb dX2_clip_83 rfl (lv_at hl 2 rfl) ?_
        refine lv_aload_n hx hb dX2_clip_84 rfl (lv_at hl 0 rfl) ?_
        refine xget2 S hK hP 0 rfl 12 (by decide) q210 rfl (v := .int (nI tn_1)) rfl dX2_clip_85 ?_
        refine lv_icmp_ge (tgt := 121) hx hb dX2_clip_88 (by decide) (fun c_88 => ?_) (fun c_88 => ?_)
        · have c_88 : tn_1 ≤ k := xle (a := tn_1) (b := k) c_88 (by omega) (by omega)
          refine lv_iinc (v := nI (sd + 1)) (lv' := [(1, .int (nI (sd + 1))), (0, .ref (b 0)), (2, .int (nI k))]) hx hb dX2_clip_121 hl (k := 1) rfl (nI_inc _) (by decide) rfl (fun ls hl => ?_)
          refine lv_goto (tgt := 50) hx hb dX2_clip_124 (by decide) ?_
          exact ih_50 (sd + 1, tn_1, f, g, tx_1, ty_1, tn_1) _ _ _ (by show 4 - (sd + 1) < 4 - sd; omega) ⟨ls, rfl, (lv_sub hl [1, 0] rfl), hP, hD, hS, (show (sd + 1) ≤ 4 ∧ tn_1 ≤ C ∧ ∃ L, clO C x0 y0 x1 y1 (pts xs ys n) (sd + 1) = some L ∧ okQ L f g tn_1 ∧ NrL L from ⟨by omega, c_68, stL sd x0 y0 x1 y1 L, clO_some hL_ hcl_, okQ_cpy (okT_Q h_ c_68) (fun j hj => hI_83.2 j (by omega)), NrL_st hnr_ (by omega) w0 w1 w2 w3⟩)⟩
        · have c_88 : tn_1 > k := xnle (a := tn_1) (b := k) c_88 (by omega) (by omega)
          refine lv_aload_n hx hb dX2_clip_91 rfl (lv_at hl 0 rfl) ?_
          refine xget2 S hK hP 0 rfl 7 (by decide) q205 rfl (v := .ref (b 4)) rfl dX2_clip_92 ?_
          refine lv_iload_n hx hb dX2_clip_95 rfl (lv_at hl 2 rfl) ?_
          refine lv_aload_n hx hb dX2_clip_96 rfl (lv_at hl 0 rfl) ?_
          refine xget2 S hK hP 0 rfl 9 (by decide) q207 rfl (v := .ref (b 6)) rfl dX2_clip_97 ?_
          refine lv_iload_n hx hb dX2_clip_100 rfl (lv_at hl 2 rfl) ?_
          refine xald (j := k) hx hb hK hP 6 0 rfl rfl (by decide) dX2_clip_101 (by omega) ?_
          refine xast (j := k) hx hb hK hP hD hS 4 0 rfl rfl (by decide) dX2_clip_102 (by omega) (fun H locs hP hD hS => ?_)
          have hP : va_P D vwCl (wM d b pi xs ys (upd f k (tx_1 k)) g tx_1 ty_1 w h C n tn_1 tn_1 x0 x1 y0 y1) H := hP
          have hD : va_D A (wM d b pi xs ys (upd f k (tx_1 k)) g tx_1 ty_1 w h C n tn_1 tn_1 x0 x1 y0 y1) := hD
          refine lv_aload_n hx hb dX2_clip_103 rfl (lv_at hl 0 rfl) ?_
          refine xget2 S hK hP 0 rfl 8 (by decide) q206 rfl (v := .ref (b 5)) rfl dX2_clip_104 ?_
          refine lv_iload_n hx hb dX2_clip_107 rfl (lv_at hl 2 rfl) ?_
          refine lv_aload_n hx hb dX2_clip_108 rfl (lv_at hl 0 rfl) ?_
          refine xget2 S hK hP 0 rfl 10 (by decide) q208 rfl (v := .ref (b 7)) rfl dX2_clip_109 ?_
          refine lv_iload_n hx hb dX2_clip_112 rfl (lv_at hl 2 rfl) ?_
          refine xald (j := k) hx hb hK hP 7 0 rfl rfl (by decide) dX2_clip_113 (by omega) ?_
          refine xast (j := k) hx hb hK hP hD hS 5 0 rfl rfl (by decide) dX2_clip_114 (by omega) (fun H locs hP hD hS => ?_)
          have hP : va_P D vwCl (wM d b pi xs ys (upd f k (tx_1 k)) (upd g k (ty_1 k)) tx_1 ty_1 w h C n tn_1 tn_1 x0 x1 y0 y1) H := hP
          have hD : va_D A (wM d b pi xs ys (upd f k (tx_1 k)) (upd g k (ty_1 k)) tx_1 ty_1 w h C n tn_1 tn_1 x0 x1 y0 y1) := hD
          refine lv_iinc (v := nI (k + 1)) (lv' := [(2, .int (nI (k + 1))), (0, .ref (b 0)), (1, .int (nI sd))]) hx hb dX2_clip_115 hl (k := 2) rfl (nI_inc _) (by decide) rfl (fun ls hl => ?_)
          refine lv_goto (tgt := 83) hx hb dX2_clip_118 (by decide) ?_
          exact ih_83 (k + 1, upd f k (tx_1 k), upd g k (ty_1 k)) _ _ _ (by show tn_1 - (k + 1) < tn_1 - k; omega) ⟨ls, rfl, (lv_sub hl [1, 2, 0] rfl), hP, hD, hS, (show (k + 1) ≤ tn_1 ∧ ∀ j, j < (k + 1) → (upd f k (tx_1 k)) j = tx_1 j ∧ (upd g k (ty_1 k)) j = ty_1 j from ⟨by omega, cpy_step hI_83.2⟩)⟩
      · have c_68 : tn_1 > C := xnle (a := tn_1) (b := C) c_68 (by omega) (by omega)
        refine lv_iconst (v := (-1)) hx hb dX2_clip_71 (by decide) ?_
        exact xretMi hx hb hr hlk hK hS dX2_clip_72 (rfl) (xs, ys, g1, g2, tx_1, ty_1, n, fv, tn_1) hP hD (clQ_no (clO_fail4 (by omega) hL_ (by rw [← h_.1]; omega)))
  · have c_15 : n > k := xnle (a := n) (b := k) c_15 (by omega) (by omega)
    refine lv_aload_n hx hb dX2_clip_18 rfl (lv_at hl 0 rfl) ?_
    refine xget2 S hK hP 0 rfl 7 (by decide) q205 rfl (v := .ref (b 4)) rfl dX2_clip_19 ?_
    refine lv_iload_n hx hb dX2_clip_22 rfl (lv_at hl 1 rfl) ?_
    refine lv_aload_n hx hb dX2_clip_23 rfl (lv_at hl 0 rfl) ?_
    refine xget2 S hK hP 0 rfl 4 (by decide) q202 rfl (v := .ref (b 2)) rfl dX2_clip_24 ?_
    refine lv_iload_n hx hb dX2_clip_27 rfl (lv_at hl 1 rfl) ?_
    refine xald (j := k) hx hb hK hP 2 0 rfl rfl (by decide) dX2_clip_28 (by omega) ?_
    refine xast (j := k) hx hb hK hP hD hS 4 0 rfl rfl (by decide) dX2_clip_29 (by omega) (fun H locs hP hD hS => ?_)
    have hP : va_P D vwCl (wM d b pi xs ys (upd f k (xs k)) g tx ty w h C n n tn x0 x1 y0 y1) H := hP
    have hD : va_D A (wM d b pi xs ys (upd f k (xs k)) g tx ty w h C n n tn x0 x1 y0 y1) := hD
    refine lv_aload_n hx hb dX2_clip_30 rfl (lv_at hl 0 rfl) ?_
    refine xget2 S hK hP 0 rfl 8 (by decide) q206 rfl (v := .ref (b 5)) rfl dX2_clip_31 ?_
    refine lv_iload_n hx hb dX2_clip_34 rfl (lv_at hl 1 rfl) ?_
    refine lv_aload_n hx hb dX2_clip_35 rfl (lv_at hl 0 rfl) ?_
    refine xget2 S hK hP 0 rfl 5 (by decide) q203 rfl (v := .ref (b 3)) rfl dX2_clip_36 ?_
    refine lv_iload_n hx hb dX2_clip_39 rfl (lv_at hl 1 rfl) ?_
    refine xald (j := k) hx hb hK hP 3 0 rfl rfl (by decide) dX2_clip_40 (by omega) ?_
    refine xast (j := k) hx hb hK hP hD hS 5 0 rfl rfl (by decide) dX2_clip_41 (by omega) (fun H locs hP hD hS => ?_)
    have hP : va_P D vwCl (wM d b pi xs ys (upd f k (xs k)) (upd g k (ys k)) tx ty w h C n n tn x0 x1 y0 y1) H := hP
    have hD : va_D A (wM d b pi xs ys (upd f k (xs k)) (upd g k (ys k)) tx ty w h C n n tn x0 x1 y0 y1) := hD
    refine lv_iinc (v := nI (k + 1)) (lv' := [(1, .int (nI (k + 1))), (0, .ref (b 0))]) hx hb dX2_clip_42 hl (k := 1) rfl (nI_inc _) (by decide) rfl (fun ls hl => ?_)
    refine lv_goto (tgt := 10) hx hb dX2_clip_45 (by decide) ?_
    exact ih_10 (k + 1, upd f k (xs k), upd g k (ys k)) _ _ _ (by show n - (k + 1) < n - k; omega) ⟨ls, rfl, (lv_sub hl [1, 0] rfl), hP, hD, hS, (show (k + 1) ≤ n ∧ ∀ j, j < (k + 1) → (upd f k (xs k)) j = xs j ∧ (upd g k (ys k)) j = ys j from ⟨by omega, cpy_step hI_10.2⟩)⟩

set_option maxHeartbeats 4000000 in
set_option maxRecDepth 100000 in
/-- inside(x, y) -/
theorem mtX2_inside (l : Launch) (D : va_G) (d : ClassId) (b : Nat → Nat) (pi xs ys fx fy tx ty : Nat → Int32) (w h C n fm tn : Nat) (x0 x1 y0 y1 : Int32) (x y : Int32) (hn : n ≤ 60) (nn : ∀ i, i < n → Nr (xs i) ∧ Nr (ys i)) : Met l yX2_inside (ws_ yX2_inside cX2_inside 6 (some .boolean)) (rm_ 1 40) (PcR [.ref (b 0), .int x, .int y] D (wM d b pi xs ys fx fy tx ty w h C n fm tn x0 x1 y0 y1) [(d, .int)]) (vp_Si (fun r => r = bI (insB xs ys n x.toInt y.toInt n))) 0 0 (fun _ => False) := by
  refine xMetR (by decide) (Nat.le_of_ble_eq_true rfl) ?_
  intro p e s m below meth c ls S hr hlk hl hP hK
  have S : CallFix p m c cX2_inside 6 s _ lw_all RX2 := S
  have hx := S.1
  have hb := S.2.1
  have hl : lv_has ls 6 [(0, .ref (b 0)), (1, .int x), (2, .int y)] := hl
  refine lv_iconst (v := 0) hx hb dX2_inside_0 (by decide) ?_
  refine lv_istore_n (lv' := [(3, .int 0), (0, .ref (b 0)), (1, .int x), (2, .int y)]) hx hb dX2_inside_1 rfl hl (by decide) rfl (fun ls hl => ?_)
  refine lv_iconst (v := 0) hx hb dX2_inside_2 (by decide) ?_
  refine lv_istore (lv' := [(4, .int 0), (3, .int 0), (0, .ref (b 0)), (1, .int x), (2, .int y)]) hx hb dX2_inside_3 hl (by decide) rfl (fun ls hl => ?_)
  refine xloopR (α := Nat × Bool) (fun x_ => n - x_.1) (fun x_ g_ => ∃ ls, g_ = F0 m 5 ls [] ∧ lv_has ls 6 [(0, .ref (b 0)), (1, .int x), (2, .int y), (3, .int (bI x_.2)), (4, .int (nI x_.1))] ∧ (x_.1 ≤ n ∧ x_.2 = insB xs ys n x.toInt y.toInt x_.1)) ?_ (0, false) ⟨ls, rfl, (lv_sub hl [2, 3, 4, 1, 0] rfl), (show 0 ≤ n ∧ false = insB xs ys n x.toInt y.toInt 0 from ⟨Nat.zero_le _, rfl⟩)⟩
  intro x_ g_ hJ_ ih_5
  obtain ⟨k, od⟩ := x_
  obtain ⟨ls, rfl, hl, hI_5⟩ := hJ_
  have hl : lv_has ls 6 [(0, .ref (b 0)), (1, .int x), (2, .int y), (3, .int (bI od)), (4, .int (nI k))] := hl
  have hI_5 : k ≤ n ∧ od = insB xs ys n x.toInt y.toInt k := hI_5
  refine lv_iload hx hb dX2_inside_5 (lv_at hl 4 rfl) ?_
  refine lv_aload_n hx hb dX2_inside_7 rfl (lv_at hl 0 rfl) ?_
  refine xget2 S hK hP 0 rfl 6 (by decide) q204 rfl (v := .int (nI n)) rfl dX2_inside_8 ?_
  refine lv_icmp_ge (tgt := 93) hx hb dX2_inside_11 (by decide) (fun c_11 => ?_) (fun c_11 => ?_)
  · have c_11 : n ≤ k := xle (a := n) (b := k) c_11 (by omega) (by omega)
    refine lv_iload_n hx hb dX2_inside_93 rfl (lv_at hl 3 rfl) ?_
    exact xretSi hx hb hr hlk dX2_inside_94 (bI_nar od) (by rw [hI_5.2, show k = n by have := hI_5.1; omega])
  · have c_11 : n > k := xnle (a := n) (b := k) c_11 (by omega) (by omega)
    have hnx_ := nxt_lt c_11
    refine xmeet (g2 := F0 m 33 ls (.int (nI (nxt n k)) :: [])) (fun jn_33 => ?_) ?_
    · refine lv_iload hx hb dX2_inside_14 (lv_at hl 4 rfl) ?_
      refine lv_iconst (v := 1) hx hb dX2_inside_16 (by decide) ?_
      refine lv_iadd hx hb dX2_inside_17 ?_
      refine xtopi (y := nI (k + 1)) (nI_add k 1) ?_
      refine lv_aload_n hx hb dX2_inside_18 rfl (lv_at hl 0 rfl) ?_
      refine xget2 S hK hP 0 rfl 6 (by decide) q204 rfl (v := .int (nI n)) rfl dX2_inside_19 ?_
      refine lv_icmp_ne (tgt := 29) hx hb dX2_inside_22 (by decide) (fun c_22 => ?_) (fun c_22 => ?_)
      · have c_22 : (k + 1) ≠ n := xne (a := (k + 1)) (b := n) c_22 (by omega) (by omega)
        refine lv_iload hx hb dX2_inside_29 (lv_at hl 4 rfl) ?_
        refine lv_iconst (v := 1) hx hb dX2_inside_31 (by decide) ?_
        refine lv_iadd hx hb dX2_inside_32 ?_
        refine xtopi (y := nI (k + 1)) (nI_add k 1) ?_
        refine xtopi (y := nI (nxt n k)) (by simp [nxt, c_22, nI_0]) ?_
        exact jn_33
      · have c_22 : (k + 1) = n := xeq (a := (k + 1)) (b := n) c_22 (by omega) (by omega)
        refine lv_iconst (v := 0) hx hb dX2_inside_25 (by decide) ?_
        refine lv_goto (tgt := 33) hx hb dX2_inside_26 (by decide) ?_
        refine xtopi (y := nI (nxt n k)) (by simp [nxt, c_22, nI_0]) ?_
        exact jn_33
    · refine lv_istore (lv' := [(5, .int (nI (nxt n k))), (0, .ref (b 0)), (1, .int x), (2, .int y), (3, .int (bI od)), (4, .int (nI k))]) hx hb dX2_inside_33 hl (by decide) rfl (fun ls hl => ?_)
      refine lv_aload_n hx hb dX2_inside_35 rfl (lv_at hl 1 rfl) ?_
      refine xget2 S hK hP 0 rfl 4 (by decide) q202 rfl (v := .ref (b 2)) rfl dX2_inside_36 ?_
      refine lv_iload hx hb dX2_inside_39 (lv_at hl 5 rfl) ?_
      refine xald (j := k) hx hb hK hP 2 0 rfl rfl (by decide) dX2_inside_41 (by omega) ?_
      refine lv_i2l (v := (xs k).toInt64) hx hb dX2_inside_42 rfl ?_
      refine lv_aload_n hx hb dX2_inside_43 rfl (lv_at hl 1 rfl) ?_
      refine xget2 S hK hP 0 rfl 5 (by decide) q203 rfl (v := .ref (b 3)) rfl dX2_inside_44 ?_
      refine lv_iload hx hb dX2_inside_47 (lv_at hl 5 rfl) ?_
      refine xald (j := k) hx hb hK hP 3 0 rfl rfl (by decide) dX2_inside_49 (by omega) ?_
      refine lv_i2l (v := (ys k).toInt64) hx hb dX2_inside_50 rfl ?_
      refine lv_aload_n hx hb dX2_inside_51 rfl (lv_at hl 1 rfl) ?_
      refine xget2 S hK hP 0 rfl 4 (by decide) q202 rfl (v := .ref (b 2)) rfl dX2_inside_52 ?_
      refine lv_iload hx hb dX2_inside_55 (lv_at hl 0 rfl) ?_
      refine xald (j := nxt n k) hx hb hK hP 2 0 rfl rfl (by decide) dX2_inside_57 (by omega) ?_
      refine lv_i2l (v := (xs (nxt n k)).toInt64) hx hb dX2_inside_58 rfl ?_
      refine lv_aload_n hx hb dX2_inside_59 rfl (lv_at hl 1 rfl) ?_
      refine xget2 S hK hP 0 rfl 5 (by decide) q203 rfl (v := .ref (b 3)) rfl dX2_inside_60 ?_
      refine lv_iload hx hb dX2_inside_63 (lv_at hl 0 rfl) ?_
      refine xald (j := nxt n k) hx hb hK hP 3 0 rfl rfl (by decide) dX2_inside_65 (by omega) ?_
      refine lv_i2l (v := (ys (nxt n k)).toInt64) hx hb dX2_inside_66 rfl ?_
      refine lv_iload_n hx hb dX2_inside_67 rfl (lv_at hl 2 rfl) ?_
      refine lv_i2l (v := x.toInt64) hx hb dX2_inside_68 rfl ?_
      refine lv_iload_n hx hb dX2_inside_69 rfl (lv_at hl 3 rfl) ?_
      refine lv_i2l (v := y.toInt64) hx hb dX2_inside_70 rfl ?_
      refine xcSi [.long ((xs k).toInt64), .long ((ys k).toInt64), .long ((xs (nxt n k)).toInt64), .long ((ys (nxt n k)).toInt64), .long x.toInt64, .long y.toInt64] S (mtX2_crosses l (xs k) (ys k) (xs (nxt n k)) (ys (nxt n k)) x y (nn _ c_11).1 (nn _ c_11).2 (nn _ hnx_).1 (nn _ hnx_).2) q308 siX2_crosses ⟨rfl, rfl⟩ ⟨Nat.le_of_ble_eq_true rfl, Nat.le_of_ble_eq_true rfl⟩ ⟨Nat.le_of_ble_eq_true rfl, Nat.le_of_ble_eq_true rfl⟩ hl.1 (rest := []) rfl (Nat.le_of_ble_eq_true rfl) dX2_inside_71 (fun r_ h_ => ?_)
      obtain rfl := h_
      refine lv_if_eq (tgt := 87) hx hb dX2_inside_74 (by decide) (fun c_74 => ?_) (fun c_74 => ?_)
      · have c_74 : (crsZ (xs k).toInt (ys k).toInt (xs (nxt n k)).toInt (ys (nxt n k)).toInt x.toInt y.toInt) = false := bI_0 c_74
        refine lv_iinc (v := nI (k + 1)) (lv' := [(4, .int (nI (k + 1))), (5, .int (nI (nxt n k))), (0, .ref (b 0)), (1, .int x), (2, .int y), (3, .int (bI od))]) hx hb dX2_inside_87 hl (k := 5) rfl (nI_inc _) (by decide) rfl (fun ls hl => ?_)
        refine lv_goto (tgt := 5) hx hb dX2_inside_90 (by decide) ?_
        exact ih_5 (k + 1, od) _ (by show n - (k + 1) < n - k; omega) ⟨ls, rfl, (lv_sub hl [2, 3, 4, 5, 0] rfl), (show (k + 1) ≤ n ∧ od = insB xs ys n x.toInt y.toInt (k + 1) from ⟨by omega, ins_s1 hI_5.2 c_74⟩)⟩
      · have c_74 : (crsZ (xs k).toInt (ys k).toInt (xs (nxt n k)).toInt (ys (nxt n k)).toInt x.toInt y.toInt) = true := bI_1 c_74
        refine lv_iload_n hx hb dX2_inside_77 rfl (lv_at hl 4 rfl) ?_
        refine lv_if_ne (tgt := 85) hx hb dX2_inside_78 (by decide) (fun c_78 => ?_) (fun c_78 => ?_)
        · have c_78 : od = true := bI_1 c_78
          refine lv_iconst (v := 0) hx hb dX2_inside_85 (by decide) ?_
          refine xtopi (y := bI (!od)) (by rw [c_78]; rfl) ?_
          refine lv_istore_n (lv' := [(3, .int (bI (!od))), (5, .int (nI (nxt n k))), (0, .ref (b 0)), (1, .int x), (2, .int y), (4, .int (nI k))]) hx hb dX2_inside_86 rfl hl (by decide) rfl (fun ls hl => ?_)
          refine lv_iinc (v := nI (k + 1)) (lv' := [(4, .int (nI (k + 1))), (3, .int (bI (!od))), (5, .int (nI (nxt n k))), (0, .ref (b 0)), (1, .int x), (2, .int y)]) hx hb dX2_inside_87 hl (k := 5) rfl (nI_inc _) (by decide) rfl (fun ls hl => ?_)
          refine lv_goto (tgt := 5) hx hb dX2_inside_90 (by decide) ?_
          exact ih_5 (k + 1, !od) _ (by show n - (k + 1) < n - k; omega) ⟨ls, rfl, (lv_sub hl [3, 4, 5, 1, 0] rfl), (show (k + 1) ≤ n ∧ (!od) = insB xs ys n x.toInt y.toInt (k + 1) from ⟨by omega, ins_s2 hI_5.2 c_74⟩)⟩
        · have c_78 : od = false := bI_0 c_78
          refine lv_iconst (v := 1) hx hb dX2_inside_81 (by decide) ?_
          refine lv_goto (tgt := 86) hx hb dX2_inside_82 (by decide) ?_
          refine xtopi (y := bI (!od)) (by rw [c_78]; rfl) ?_
          refine lv_istore_n (lv' := [(3, .int (bI (!od))), (5, .int (nI (nxt n k))), (0, .ref (b 0)), (1, .int x), (2, .int y), (4, .int (nI k))]) hx hb dX2_inside_86 rfl hl (by decide) rfl (fun ls hl => ?_)
          refine lv_iinc (v := nI (k + 1)) (lv' := [(4, .int (nI (k + 1))), (3, .int (bI (!od))), (5, .int (nI (nxt n k))), (0, .ref (b 0)), (1, .int x), (2, .int y)]) hx hb dX2_inside_87 hl (k := 5) rfl (nI_inc _) (by decide) rfl (fun ls hl => ?_)
          refine lv_goto (tgt := 5) hx hb dX2_inside_90 (by decide) ?_
          exact ih_5 (k + 1, !od) _ (by show n - (k + 1) < n - k; omega) ⟨ls, rfl, (lv_sub hl [3, 4, 5, 1, 0] rfl), (show (k + 1) ≤ n ∧ (!od) = insB xs ys n x.toInt y.toInt (k + 1) from ⟨by omega, ins_s2 hI_5.2 c_74⟩)⟩

set_option maxHeartbeats 4000000 in
set_option maxRecDepth 100000 in
/-- fill(colour) -/
theorem mtX2_fill (l : Launch) (D : va_G) (d : ClassId) (b : Nat → Nat) (pi xs ys fx fy tx ty : Nat → Int32) (w h C n fm tn : Nat) (x0 x1 y0 y1 : Int32) (col : Int32) (hn : n ≤ 60) (hw : w ≤ 24) (hh : h ≤ 24) (nn : ∀ i, i < n → Nr (xs i) ∧ Nr (ys i)) (sz : Nat) : Met l yX2_fill (ws_ yX2_fill cX2_fill 5 (some .int)) (rm_ 2 65) (PcM [.ref (b 0), .int col] D (wM d b pi xs ys fx fy tx ty w h C n fm tn x0 x1 y0 y1) [(d, .int)] sz) (va_Qi (fun (r : Int32) (u_ : (Nat → Int32)) => r = nI (totC (insF xs ys n) w h) ∧ ∀ j x, j < h → x < w → u_ (24 * j + x) = if insF xs ys n j x = true then col else pi (24 * j + x)) (fun (u_ : (Nat → Int32)) t => QB D [(d, .int)] (va_A (wM d b pi xs ys fx fy tx ty w h C n fm tn x0 x1 y0 y1) sz) (wM d b u_ xs ys fx fy tx ty w h C n fm tn x0 x1 y0 y1) t) (va_A (wM d b pi xs ys fx fy tx ty w h C n fm tn x0 x1 y0 y1) sz)) 0 0 (va_A (wM d b pi xs ys fx fy tx ty w h C n fm tn x0 x1 y0 y1) sz) := by
  refine xMetM (Qf := fun A => (va_Qi (fun (r : Int32) (u_ : (Nat → Int32)) => r = nI (totC (insF xs ys n) w h) ∧ ∀ j x, j < h → x < w → u_ (24 * j + x) = if insF xs ys n j x = true then col else pi (24 * j + x)) (fun (u_ : (Nat → Int32)) t => QB D [(d, .int)] A (wM d b u_ xs ys fx fy tx ty w h C n fm tn x0 x1 y0 y1) t) A)) (by decide) (Nat.le_of_ble_eq_true rfl) ?_
  intro p e s m below meth c ls A H locs S hr hlk hl hP hK hD hS hA hin
  have S : CallFix p m c cX2_fill 5 s _ lw_all RX2 := S
  have hx := S.1
  have hb := S.2.1
  have hl : lv_has ls 5 [(0, .ref (b 0)), (1, .int col)] := hl
  refine lv_iconst (v := 0) hx hb dX2_fill_0 (by decide) ?_
  refine lv_istore_n (lv' := [(2, .int 0), (0, .ref (b 0)), (1, .int col)]) hx hb dX2_fill_1 rfl hl (by decide) rfl (fun ls hl => ?_)
  refine lv_iconst (v := 0) hx hb dX2_fill_2 (by decide) ?_
  refine lv_istore_n (lv' := [(3, .int 0), (2, .int 0), (0, .ref (b 0)), (1, .int col)]) hx hb dX2_fill_3 rfl hl (by decide) rfl (fun ls hl => ?_)
  refine xloop (α := Nat × Nat × (Nat → Int32)) (fun x_ => h - x_.1) (fun x_ H locs g_ => ∃ ls, g_ = F0 m 4 ls [] ∧ lv_has ls 5 [(0, .ref (b 0)), (1, .int col), (2, .int (nI x_.2.1)), (3, .int (nI x_.1))] ∧ va_P D vwCl (wM d b x_.2.2 xs ys fx fy tx ty w h C n fm tn x0 x1 y0 y1) H ∧ va_D A (wM d b x_.2.2 xs ys fx fy tx ty w h C n fm tn x0 x1 y0 y1) ∧ va_S A s.heap H locs ∧ (x_.1 ≤ h ∧ x_.2.1 = totC (insF xs ys n) w x_.1 ∧ mI xs ys n w h x_.1 0 col x_.2.2 pi)) ?_ (0, 0, pi) ⟨ls, rfl, (lv_sub hl [2, 3, 1, 0] rfl), hP, hD, hS, (show 0 ≤ h ∧ 0 = totC (insF xs ys n) w 0 ∧ mI xs ys n w h 0 0 col pi pi from ⟨Nat.zero_le _, rfl, mI_0⟩)⟩
  intro x_ H locs g_ hJ_ ih_4
  obtain ⟨yy, ct, f⟩ := x_
  obtain ⟨ls, rfl, hl, hP, hD, hS, hI_4⟩ := hJ_
  have hl : lv_has ls 5 [(0, .ref (b 0)), (1, .int col), (2, .int (nI ct)), (3, .int (nI yy))] := hl
  have hP : va_P D vwCl (wM d b f xs ys fx fy tx ty w h C n fm tn x0 x1 y0 y1) H := hP
  have hD : va_D A (wM d b f xs ys fx fy tx ty w h C n fm tn x0 x1 y0 y1) := hD
  have hI_4 : yy ≤ h ∧ ct = totC (insF xs ys n) w yy ∧ mI xs ys n w h yy 0 col f pi := hI_4
  have hyh_ := hI_4.1
  refine lv_iload_n hx hb dX2_fill_4 rfl (lv_at hl 3 rfl) ?_
  refine lv_aload_n hx hb dX2_fill_5 rfl (lv_at hl 0 rfl) ?_
  refine xget2 S hK hP 0 rfl 1 (by decide) q199 rfl (v := .int (nI h)) rfl dX2_fill_6 ?_
  refine lv_icmp_ge (tgt := 62) hx hb dX2_fill_9 (by decide) (fun c_9 => ?_) (fun c_9 => ?_)
  · have c_9 : h ≤ yy := xle (a := h) (b := yy) c_9 (by omega) (by omega)
    have e_ : yy = h := by omega
    have hF_ := hI_4.2
    rw [e_] at hF_
    refine lv_iload_n hx hb dX2_fill_62 rfl (lv_at hl 2 rfl) ?_
    exact xretMi hx hb hr hlk hK hS dX2_fill_63 (rfl) (f) hP hD (⟨by rw [hF_.1], fun j x hj hx => (hF_.2 j x hj hx).trans (ifc ⟨fun z => z.2, fun z => ⟨Or.inl hj, z⟩⟩)⟩)
  · have c_9 : h > yy := xnle (a := h) (b := yy) c_9 (by omega) (by omega)
    refine lv_iconst (v := 0) hx hb dX2_fill_12 (by decide) ?_
    refine lv_istore (lv' := [(4, .int 0), (0, .ref (b 0)), (1, .int col), (2, .int (nI ct)), (3, .int (nI yy))]) hx hb dX2_fill_13 hl (by decide) rfl (fun ls hl => ?_)
    refine xloop (α := Nat × Nat × (Nat → Int32)) (fun x_ => w - x_.1) (fun x_ H locs g_ => ∃ ls, g_ = F0 m 15 ls [] ∧ lv_has ls 5 [(0, .ref (b 0)), (1, .int col), (2, .int (nI x_.2.1)), (3, .int (nI yy)), (4, .int (nI x_.1))] ∧ va_P D vwCl (wM d b x_.2.2 xs ys fx fy tx ty w h C n fm tn x0 x1 y0 y1) H ∧ va_D A (wM d b x_.2.2 xs ys fx fy tx ty w h C n fm tn x0 x1 y0 y1) ∧ va_S A s.heap H locs ∧ (x_.1 ≤ w ∧ x_.2.1 = ct + cnt (insF xs ys n yy) x_.1 ∧ mI xs ys n w h yy x_.1 col x_.2.2 pi)) ?_ (0, ct, f) ⟨ls, rfl, (lv_sub hl [1, 2, 3, 4, 0] rfl), hP, hD, hS, (show 0 ≤ w ∧ ct = ct + cnt (insF xs ys n yy) 0 ∧ mI xs ys n w h yy 0 col f pi from ⟨Nat.zero_le _, rfl, hI_4.2.2⟩)⟩
    intro x_ H locs g_ hJ_ ih_15
    obtain ⟨i, ct2, f2⟩ := x_
    obtain ⟨ls, rfl, hl, hP, hD, hS, hI_15⟩ := hJ_
    have hl : lv_has ls 5 [(0, .ref (b 0)), (1, .int col), (2, .int (nI ct2)), (3, .int (nI yy)), (4, .int (nI i))] := hl
    have hP : va_P D vwCl (wM d b f2 xs ys fx fy tx ty w h C n fm tn x0 x1 y0 y1) H := hP
    have hD : va_D A (wM d b f2 xs ys fx fy tx ty w h C n fm tn x0 x1 y0 y1) := hD
    have hI_15 : i ≤ w ∧ ct2 = ct + cnt (insF xs ys n yy) i ∧ mI xs ys n w h yy i col f2 pi := hI_15
    have hiw_ := hI_15.1
    refine lv_iload hx hb dX2_fill_15 (lv_at hl 4 rfl) ?_
    refine lv_aload_n hx hb dX2_fill_17 rfl (lv_at hl 0 rfl) ?_
    refine xget2 S hK hP 0 rfl 0 (by decide) q198 rfl (v := .int (nI w)) rfl dX2_fill_18 ?_
    refine lv_icmp_ge (tgt := 56) hx hb dX2_fill_21 (by decide) (fun c_21 => ?_) (fun c_21 => ?_)
    · have c_21 : w ≤ i := xle (a := w) (b := i) c_21 (by omega) (by omega)
      refine lv_iinc (v := nI (yy + 1)) (lv' := [(3, .int (nI (yy + 1))), (0, .ref (b 0)), (1, .int col), (2, .int (nI ct2)), (4, .int (nI i))]) hx hb dX2_fill_56 hl (k := 3) rfl (nI_inc _) (by decide) rfl (fun ls hl => ?_)
      refine lv_goto (tgt := 4) hx hb dX2_fill_59 (by decide) ?_
      exact ih_4 (yy + 1, ct2, f2) _ _ _ (by show h - (yy + 1) < h - yy; omega) ⟨ls, rfl, (lv_sub hl [1, 2, 3, 0] rfl), hP, hD, hS, (show (yy + 1) ≤ h ∧ ct2 = totC (insF xs ys n) w (yy + 1) ∧ mI xs ys n w h (yy + 1) 0 col f2 pi from ⟨by omega, by simp only [totC]; rw [← hI_4.2.1, hI_15.2.1, show i = w by omega], mI_row hI_15.2.2 c_21⟩)⟩
    · have c_21 : w > i := xnle (a := w) (b := i) c_21 (by omega) (by omega)
      have hb_ := pix_lt2 hw hh c_21 c_9
      refine lv_aload_n hx hb dX2_fill_24 rfl (lv_at hl 0 rfl) ?_
      refine lv_iload hx hb dX2_fill_25 (lv_at hl 4 rfl) ?_
      refine lv_iload_n hx hb dX2_fill_27 rfl (lv_at hl 3 rfl) ?_
      refine xcRi [.int (nI i), .int (nI yy)] S (mtX2_inside l D d b f2 xs ys fx fy tx ty w h C n fm tn x0 x1 y0 y1 (nI i) (nI yy) hn nn) q315 viX2_inside ⟨rfl, rfl⟩ ⟨Nat.le_of_ble_eq_true rfl, Nat.le_of_ble_eq_true rfl⟩ ⟨Nat.le_of_ble_eq_true rfl, Nat.le_of_ble_eq_true rfl⟩ hK hP (ci := 1) (q0 := 0) rfl rfl hl.1 (rest := []) rfl (Nat.le_of_ble_eq_true rfl) dX2_fill_28 (fun r_ h_ => ?_)
      obtain rfl := h_
      refine xtopi (y := bI (insF xs ys n yy i)) (by rw [nI_toInt (by omega), nI_toInt (by omega)]; rfl) ?_
      refine lv_if_eq (tgt := 50) hx hb dX2_fill_31 (by decide) (fun c_31 => ?_) (fun c_31 => ?_)
      · have c_31 : (insF xs ys n yy i) = false := bI_0 c_31
        refine lv_iinc (v := nI (i + 1)) (lv' := [(4, .int (nI (i + 1))), (0, .ref (b 0)), (1, .int col), (2, .int (nI ct2)), (3, .int (nI yy))]) hx hb dX2_fill_50 hl (k := 4) rfl (nI_inc _) (by decide) rfl (fun ls hl => ?_)
        refine lv_goto (tgt := 15) hx hb dX2_fill_53 (by decide) ?_
        exact ih_15 (i + 1, ct2, f2) _ _ _ (by show w - (i + 1) < w - i; omega) ⟨ls, rfl, (lv_sub hl [1, 2, 3, 4, 0] rfl), hP, hD, hS, (show (i + 1) ≤ w ∧ ct2 = ct + cnt (insF xs ys n yy) (i + 1) ∧ mI xs ys n w h yy (i + 1) col f2 pi from ⟨by omega, by simp only [cnt]; rw [hI_15.2.1, c_31]; rfl, mI_f hI_15.2.2 c_31⟩)⟩
      · have c_31 : (insF xs ys n yy i) = true := bI_1 c_31
        refine lv_aload_n hx hb dX2_fill_34 rfl (lv_at hl 0 rfl) ?_
        refine xget2 S hK hP 0 rfl 3 (by decide) q201 rfl (v := .ref (b 1)) rfl dX2_fill_35 ?_
        refine lv_bipush (v := 24) hx hb dX2_fill_38 (by decide) ?_
        refine lv_iload_n hx hb dX2_fill_40 rfl (lv_at hl 3 rfl) ?_
        refine lv_imul hx hb dX2_fill_41 ?_
        refine xtopi (y := nI (24 * yy)) (pk_mul 24 yy) ?_
        refine lv_iload hx hb dX2_fill_42 (lv_at hl 4 rfl) ?_
        refine lv_iadd hx hb dX2_fill_44 ?_
        refine xtopi (y := nI ((24 * yy) + i)) (nI_add (24 * yy) i) ?_
        refine lv_iload_n hx hb dX2_fill_45 rfl (lv_at hl 1 rfl) ?_
        refine xast (j := (24 * yy) + i) hx hb hK hP hD hS 1 0 rfl rfl (by decide) dX2_fill_46 (by omega) (fun H locs hP hD hS => ?_)
        have hP : va_P D vwCl (wM d b (upd f2 ((24 * yy) + i) col) xs ys fx fy tx ty w h C n fm tn x0 x1 y0 y1) H := hP
        have hD : va_D A (wM d b (upd f2 ((24 * yy) + i) col) xs ys fx fy tx ty w h C n fm tn x0 x1 y0 y1) := hD
        refine lv_iinc (v := nI (ct2 + 1)) (lv' := [(2, .int (nI (ct2 + 1))), (0, .ref (b 0)), (1, .int col), (3, .int (nI yy)), (4, .int (nI i))]) hx hb dX2_fill_47 hl (k := 2) rfl (nI_inc _) (by decide) rfl (fun ls hl => ?_)
        refine lv_iinc (v := nI (i + 1)) (lv' := [(4, .int (nI (i + 1))), (2, .int (nI (ct2 + 1))), (0, .ref (b 0)), (1, .int col), (3, .int (nI yy))]) hx hb dX2_fill_50 hl (k := 4) rfl (nI_inc _) (by decide) rfl (fun ls hl => ?_)
        refine lv_goto (tgt := 15) hx hb dX2_fill_53 (by decide) ?_
        exact ih_15 (i + 1, ct2 + 1, upd f2 ((24 * yy) + i) col) _ _ _ (by show w - (i + 1) < w - i; omega) ⟨ls, rfl, (lv_sub hl [2, 3, 1, 4, 0] rfl), hP, hD, hS, (show (i + 1) ≤ w ∧ (ct2 + 1) = ct + cnt (insF xs ys n yy) (i + 1) ∧ mI xs ys n w h yy (i + 1) col (upd f2 ((24 * yy) + i) col) pi from ⟨by omega, by simp only [cnt]; rw [hI_15.2.1, c_31]; rfl, mI_t hI_15.2.2 hw c_21 c_31⟩)⟩
end
section
/-! BASE 2: made arrays, constructors, two worlds beside one another, the script -/
set_option maxRecDepth 100000
/-- the class of int arrays, by the tables' word -/
theorem xkd {D : va_G} {args : Array Value} {s : State} (hK : va_K D vwCl [] s) (h : (Cond.arrayClass .int).before args s = true) : ∃ d : ClassId, va_K D vwCl [(d, .int)] s := by
  obtain ⟨cA, kA, comp, h1, h2, h3⟩ := Cond.arrayClass_spec h
  refine ⟨cA, hK.1, fun k q hq => ?_⟩
  have hz : k < 1 := (List.getElem?_eq_some_iff.mp hq).1
  rw [show k = 0 by omega] at hq
  cases hq
  exact ⟨fun n z => ⟨fun k h => (by cases h), kA, h2, comp, h3⟩, h1⟩
/-- two worlds, apart -/
def LW (D : va_G) (A : Nat → Prop) (X Y : va_W) (H : Heap) : Prop := va_P D vwCl X H ∧ va_P D vwCl Y H ∧ va_D A X ∧ va_D A Y ∧ ∀ (i j : Nat) (p q : Nat × va_E), X[i]? = some p → Y[j]? = some q → p.1 ≠ q.1
theorem LW.swap {D : va_G} {A : Nat → Prop} {X Y : va_W} {H : Heap} (h : LW D A X Y H) : LW D A Y X H := ⟨h.2.1, h.1, h.2.2.2.1, h.2.2.1, fun i j p q hp hq e => h.2.2.2.2 j i q p hq hp e.symm⟩
theorem LW.one {D : va_G} {A : Nat → Prop} {X : va_W} {H : Heap} (hP : va_P D vwCl X H) (hD : va_D A X) : LW D A X [] H := ⟨hP, fun k q hq => by simp at hq, hD, ⟨fun i j p q hp => by simp at hp, fun k q hq => by simp at hq⟩, fun i j p q _ hq => by simp at hq⟩
theorem LW.push {D : va_G} {A : Nat → Prop} {X : va_W} {y : Nat × va_E} {H : Heap} (hP : va_P D vwCl (X ++ [y]) H) (hD : va_D A (X ++ [y])) : LW D A [y] X H := by
  have hy : (X ++ [y])[X.length]? = some y := by rw [List.getElem?_append_right (Nat.le_refl _)]; simp
  have hx : ∀ (k : Nat) (q : Nat × va_E), X[k]? = some q → (X ++ [y])[k]? = some q ∧ k < X.length := fun k q hq => by
    have hk := (List.getElem?_eq_some_iff.mp hq).1
    exact ⟨by rw [List.getElem?_append_left hk]; exact hq, hk⟩
  have h1 : ∀ (k : Nat) (q : Nat × va_E), [y][k]? = some q → q = y := fun k q hq => by
    have hz : k < 1 := (List.getElem?_eq_some_iff.mp hq).1
    rw [show k = 0 by omega] at hq
    cases hq
    rfl
  refine ⟨fun k q hq => ?_, fun k q hq => hP k q (hx k q hq).1, ⟨fun i j p q hp hq _ => ?_, fun k q hq => ?_⟩, ⟨fun i j p q hp hq e => hD.1 i j p q (hx i p hp).1 (hx j q hq).1 e, fun k q hq => hD.2 k q (hx k q hq).1⟩, fun i j p q hp hq e => ?_⟩
  · rw [h1 k q hq]
    exact hP _ _ hy
  · have a1 : i < 1 := (List.getElem?_eq_some_iff.mp hp).1
    have a2 : j < 1 := (List.getElem?_eq_some_iff.mp hq).1
    omega
  · rw [h1 k q hq]
    exact hD.2 _ _ hy
  · rw [h1 i p hp] at e
    have := hD.1 X.length j y q hy (hx j q hq).1 e
    have := (hx j q hq).2
    omega
/-- behind a call on the first world -/
theorem LW.call {D : va_G} {A : Nat → Prop} {X Y X1 : va_W} {H H1 : Heap} (h : LW D A X Y H) (hF : ∀ q, va_A X H.size q → A q) (hk : ∀ q : Nat, q < H.size → ¬ va_A X H.size q → H1[q]? = H[q]?) (hP1 : va_P D vwCl X1 H1) (hD1 : va_D (va_A X H.size) X1) : LW D A X1 Y H1 := by
  obtain ⟨a1, a2, a3, a4, a5⟩ := h
  have ap : ∀ (k : Nat) (q : Nat × va_E), Y[k]? = some q → q.1 < H.size ∧ ¬ va_A X H.size q.1 := by
    intro k q hq
    have hl := (a2 k q hq).lt
    refine ⟨hl, fun hh => ?_⟩
    rcases hh with ⟨k2, e, hh⟩ | hh
    · exact a5 k2 k (q.1, e) q hh hq rfl
    · omega
  refine ⟨hP1, fun k q hq => (a2 k q hq).kept (hk q.1 (ap k q hq).1 (ap k q hq).2), hD1.weaken (fun _ q _ h => hF q.1 h), a4, fun i j p q hp hq e => ?_⟩
  exact (ap j q hq).2 (by rw [← e]; exact hD1.2 i p hp)
abbrev PcX (av : List Value) (sb L : Nat) (sc : Nat → Int32) : Array Value → State → Prop := va_Pc av (fun U => va_X sb L sc U U.heap)
theorem fbX {av : List Value} {sb L : Nat} {sc : Nat → Int32} : FrameBlind (PcX av sb L sc) := fun a U g mk q => ⟨q.1, va_X.moved (u := U) (U := U.calling g mk a) (Vm.Alike.refl U.vm) q.2⟩
section XC
variable {p : Program} {l : Launch} {e : Env} {R : Room} {s : State} {m : MethodId} {args : Array Value} {below : List Frame} {meth : Method} {c : Code} {H : Heap} {locs : List Loc} {cells slots : Nat} {Q : State → Prop}
variable {cc : ByteArray} {pc nL : Nat} {ls : Array Slot} {rest st0 : List Value} {D : va_G} {A : Nat → Prop} {a : Nat} {d : ClassId} {tys : List (ClassId × FieldType)} {ws X Y : va_W} {H0 : Heap}
theorem xnewa (hx : p.tables.exec = Jvm.exec) (hb : c.code = cc) (harr : (Cond.arrayClass .int).before args s = true) (hK : va_K D vwCl [(d, .int)] s) (hP : va_P D vwCl ws H) (hD : va_D A ws) (hS : va_S A H0 H locs) (hA : ∀ q, H0.size ≤ q → A q) {n : Int32} (N' : Nat) (hn : ¬ n < 0) (hN : n.toNatClampNeg = N') (hby : N' * componentBytes .int ≤ 536870912) (hc : cells + 1 ≤ R.cells) (hs : slots + N' ≤ R.slots) (hdg : decode cc pc = .ok (.newarray .int, 2))
    (kk : ∀ (q : Nat) (H1 : Heap), va_P D vwCl (ws ++ [(q, .inl (d, N', .inl (fun _ => 0)))]) H1 → va_D A (ws ++ [(q, .inl (d, N', .inl (fun _ => 0)))]) → va_S A H0 H1 locs → W p l e R s m args below meth c H1 locs (cells + 1) (slots + N') Q (F0 m (pc + 2) ls (.ref q :: rest))) : W p l e R s m args below meth c H locs cells slots Q (F0 m pc ls (.int n :: rest)) := by
  refine va_newa (atype := .int) (ty := .int) hx hb harr rfl hK hP hD hS hA (a0 := (N', .inl (fun _ => 0))) (fun cA => rfl) hn hN hby hc hs hdg (fun q cA H1 hK1 hP1 hD1 hS1 => ?_)
  have e1 := (hK1.2 0 (d, .int) rfl).2
  have e2 := (hK1.2 1 (cA, .int) rfl).2
  have e : cA = d := Option.some.inj (e2.symm.trans e1)
  subst e
  exact kk q H1 hP1 hD1 hS1
/-- a final field is set in a constructor -/
theorem xputF1 (S : CallFix p m c cc nL s args lw_all RX1) (hin : meth.name = "<init>") (hK : va_K D vwCl tys s) (hP : va_P D vwCl ws H) (hD : va_D A ws) (hS : va_S A H0 H locs) (q0 : Nat) {fs : List Value} (he : ws[q0]? = some (a, .inr (0, fs))) (k : Nat) (hk : k < 19) {index : Nat} (hq : Cond.fieldLink RX1 index RX1 (TX1 k).2.1 (TX1 k).2.2.1 ∈ lw_all) (h1 : (TX1 k).1 = RX1) (hfin : (TX1 k).2.2.2 = true) {ty : FieldType} {v : Value} (hd : parseFieldDescriptor (TX1 k).2.2.1 = some ty) (hn : narrow ty v = v) (hfit : fits ty v = true) (hl : k < fs.length) (hdg : decode cc pc = .ok (.putfield index, 3))
    (kk : ∀ (H1 : Heap) (locs1 : List Loc), va_P D vwCl (ws.set q0 (a, .inr (0, fs.set k v))) H1 → va_D A (ws.set q0 (a, .inr (0, fs.set k v))) → va_S A H0 H1 locs1 → W p l e R s m args below meth c H1 locs1 cells slots Q (F0 m (pc + 3) ls rest)) : W p l e R s m args below meth c H locs cells slots Q (F0 m pc ls (v :: .ref a :: rest)) :=
  va_putF (own := RX1) (ref := RX1) (C := RX1) (T := TX1) (N := 19) (ci := 0) (v := v) (ty := ty) S.1 S.2.1 S.2.2.2.2 in_X1 tyX1 tyX1_ok nmX1 S.2.2.2.1 hK hP hD hS q0 he rfl k hk (S.2.2.2.2 _ hq) (fun x h => by rw [h1] at h; exact h) hfin hin h1 hd hn hfit hl hdg kk
theorem xputF2 (S : CallFix p m c cc nL s args lw_all RX2) (hin : meth.name = "<init>") (hK : va_K D vwCl tys s) (hP : va_P D vwCl ws H) (hD : va_D A ws) (hS : va_S A H0 H locs) (q0 : Nat) {fs : List Value} (he : ws[q0]? = some (a, .inr (1, fs))) (k : Nat) (hk : k < 17) {index : Nat} (hq : Cond.fieldLink RX2 index RX2 (TX2 k).2.1 (TX2 k).2.2.1 ∈ lw_all) (h1 : (TX2 k).1 = RX2) (hfin : (TX2 k).2.2.2 = true) {ty : FieldType} {v : Value} (hd : parseFieldDescriptor (TX2 k).2.2.1 = some ty) (hn : narrow ty v = v) (hfit : fits ty v = true) (hl : k < fs.length) (hdg : decode cc pc = .ok (.putfield index, 3))
    (kk : ∀ (H1 : Heap) (locs1 : List Loc), va_P D vwCl (ws.set q0 (a, .inr (1, fs.set k v))) H1 → va_D A (ws.set q0 (a, .inr (1, fs.set k v))) → va_S A H0 H1 locs1 → W p l e R s m args below meth c H1 locs1 cells slots Q (F0 m (pc + 3) ls rest)) : W p l e R s m args below meth c H locs cells slots Q (F0 m pc ls (v :: .ref a :: rest)) :=
  va_putF (own := RX2) (ref := RX2) (C := RX2) (T := TX2) (N := 17) (ci := 1) (v := v) (ty := ty) S.1 S.2.1 S.2.2.2.2 in_X2 tyX2 tyX2_ok nmX2 S.2.2.2.1 hK hP hD hS q0 he rfl k hk (S.2.2.2.2 _ hq) (fun x h => by rw [h1] at h; exact h) hfin hin h1 hd hn hfit hl hdg kk
/-- the script -/
theorem xsld (hx : p.tables.exec = Jvm.exec) (hb : c.code = cc) {sb L : Nat} {sc : Nat → Int32} (hX : va_X sb L sc s H0) (hbl : sb < H0.size) (hbA : ¬ A sb) (hS : va_S A H0 H locs) (hL : L < 2 ^ 31) (hdg : decode cc pc = .ok (.iaload, 1)) {j : Nat} (hj : j < L)
    (kk : W p l e R s m args below meth c H locs cells slots Q (F0 m (pc + 1) ls (.int (sc j) :: rest))) : W p l e R s m args below meth c H locs cells slots Q (F0 m pc ls (.int (nI j) :: .ref sb :: rest)) := by
  refine va_sld hx hb hX hbl hbA hS (vp_in_nI hj hL) hdg ?_
  rw [nI_clamp (Nat.lt_trans hj hL)]
  exact kk
theorem xcXi {own : String} {idx : Nat} {y : MethodName} {bytes : ByteArray} {maxL : Nat} {ret : Option FieldType} {rm : Room} (As : List Value) {post : Int32 → Prop} {sb L : Nat} {sc : Nat → Int32}
    (S : CallFix p m c cc nL s args lw_all own) (hM : Met l y (ws_ y bytes maxL ret) rm (PcX As sb L sc) (vp_Si post) 0 0 (fun _ => False)) (hl : Cond.methodLink own idx y ∈ lw_all) (hv : SI y bytes maxL ret As.length) (hrm : rm.cells = 0 ∧ rm.slots = 0) (hR : rm.frames + 1 ≤ R.frames ∧ 8 + (maxL + 11) + rm.locals ≤ R.locals) (hf : cells ≤ R.cells ∧ slots ≤ R.slots)
    (hX : va_X sb L sc s s.heap) (hbl : sb < s.heap.size) (hbA : ¬ A sb) (hS : va_S A s.heap H locs) (hsz : ls.size = nL) (hst : st0 = As.reverse ++ rest) (hw : (rest.map fun v => v.category).sum ≤ 8) (hdg : decode cc pc = .ok (.invokestatic idx, 3))
    (kk : ∀ r : Int32, post r → W p l e R s m args below meth c H locs cells slots Q (F0 m (pc + 3) ls (.int r :: rest))) : W p l e R s m args below meth c H locs cells slots Q (F0 m pc ls st0) :=
  vp_callSi (W.runS (As := As) (rest := rest) S hM (va_cwS As.length S.2.2.2.2 (lw_S hl hv.1 hv.2.1 hv.2.2.1) rfl hrm.1 hrm.2 hv.2.2.2 hR) ⟨fbX, fun U hU hW => ⟨rfl, by show va_X sb L sc U U.heap; rw [hU]; exact va_X.moved hW.alike (hX.kept (hS.2.1 sb hbl hbA))⟩⟩ rfl rfl hsz hst (lv_room hw) hdg hf) kk
/-- a constructor is called -/
theorem xcI {own : String} {idx : Nat} {y : MethodName} {b : Nat} {bytes : ByteArray} {maxL : Nat} {rm : Room} (As : List Value) {U : Type} {post : U → Prop} {wf : U → va_W} {mc ms : Nat}
    (S : CallFix p m c cc nL s args lw_all own) (hM : Met l y (ws_ y bytes maxL none) rm (PcM (.ref b :: As) D X tys H.size) (va_Qv post (fun u t => QB D tys (va_A X H.size) (wf u) t) (va_A X H.size)) mc ms (va_A X H.size)) (hl : Cond.methodLink own idx y ∈ lw_all) (hi : Cond.instanceMethod y ∈ lw_all) (hn : Cond.initialized y.cls ∈ lw_all) (hco : Cond.code y bytes maxL none ∈ lw_all) (hy : y.name = "<init>") (hd : y.cls ≠ "java/lang/invoke/MethodHandle" ∧ y.cls ≠ "java/lang/invoke/VarHandle" ∧ (parseMethodDescriptor y.desc).map (fun d => d.parameters.length) = some As.length) (hrm : rm.cells = mc ∧ rm.slots = ms) (hR : rm.frames + 1 ≤ R.frames ∧ 8 + (maxL + 11) + rm.locals ≤ R.locals) (hf : cells + mc ≤ R.cells ∧ slots + ms ≤ R.slots)
    (hK : va_K D vwCl tys s) (hW : LW D A X Y H) (hS : va_S A H0 H locs) (hA : ∀ q, H0.size ≤ q → A q) (hsz : ls.size = nL) (hst : st0 = As.reverse ++ .ref b :: rest) (hw : (rest.map fun v => v.category).sum ≤ 8) (hdg : decode cc pc = .ok (.invokespecial idx, 3))
    (kk : ∀ (u : U) (H1 : Heap) (locs1 : List Loc), post u → LW D A (wf u) Y H1 → va_S A H0 H1 locs1 → W p l e R s m args below meth c H1 locs1 (cells + mc) (slots + ms) Q (F0 m (pc + 3) ls rest)) : W p l e R s m args below meth c H locs cells slots Q (F0 m pc ls st0) := by
  have hF := xfree hW.2.2.1 hS hA
  refine va_callv (va_runI (As := As) (rest := rest) S hM (cwI As.length S.2.2.2.2 (lw_meth hco) rfl hrm.1 hrm.2 (S.2.2.2.2 _ hn) (S.2.2.2.2 _ hl) (S.2.2.2.2 _ hi) hy hd hR) ⟨fbM, fun U hU hW2 => ⟨rfl, by rw [hU], by rw [hU]; exact hW.1, va_K.moved hW2.alike hK, hW.2.2.1.weaken (fun _ _ _ _ => trivial)⟩⟩ rfl rfl hsz hst (lv_room hw) hdg hf) hS (fun q _ h => hF q h) hF (fun u t H1 locs1 ht hvm hp hB hz hk hS1 => ?_)
  obtain ⟨hP1, -, hD1⟩ := hB
  rw [ht] at hP1
  exact kk u H1 locs1 hp (hW.call hF hk hP1 hD1) hS1
/-- a call on the first of two worlds: an int answer, none -/
theorem xcLi {own : String} {idx : Nat} {y : MethodName} {b : Nat} {bytes : ByteArray} {maxL : Nat} {ret : Option FieldType} {rm : Room} (As : List Value) {U : Type} {post : Int32 → U → Prop} {wf : U → va_W} {q : vw_C} {ci q0 : Nat} {fs : List Value}
    (S : CallFix p m c cc nL s args lw_all own) (hM : Met l y (ws_ y bytes maxL ret) rm (PcM (.ref b :: As) D X tys H.size) (va_Qi post (fun u t => QB D tys (va_A X H.size) (wf u) t) (va_A X H.size)) 0 0 (va_A X H.size)) (hl : Cond.methodLink own idx y ∈ lw_all) (hv : VI q.1 y bytes maxL ret As.length) (hrm : rm.cells = 0 ∧ rm.slots = 0) (hR : rm.frames + 1 ≤ R.frames ∧ 8 + (maxL + 11) + rm.locals ≤ R.locals) (hf : cells ≤ R.cells ∧ slots ≤ R.slots)
    (hK : va_K D vwCl tys s) (hW : LW D A X Y H) (hS : va_S A H0 H locs) (hA : ∀ q, H0.size ≤ q → A q) (hc : vwCl[ci]? = some q) (he : X[q0]? = some (b, .inr (ci, fs))) (hsz : ls.size = nL) (hst : st0 = As.reverse ++ .ref b :: rest) (hw : (rest.map fun v => v.category).sum ≤ 8) (hdg : decode cc pc = .ok (.invokevirtual idx, 3))
    (kk : ∀ (r : Int32) (u : U) (H1 : Heap) (locs1 : List Loc), post r u → LW D A (wf u) Y H1 → va_S A H0 H1 locs1 → W p l e R s m args below meth c H1 locs1 cells slots Q (F0 m (pc + 3) ls (.int r :: rest))) : W p l e R s m args below meth c H locs cells slots Q (F0 m pc ls st0) := by
  have hF := xfree hW.2.2.1 hS hA
  refine va_calli (va_runV (As := As) (rest := rest) S hM (cwV As.length S.2.2.2.2 (lw_V hl hv.1 hv.2.1 hv.2.2.1 hv.2.2.2.1) rfl hrm.1 hrm.2 hv.2.2.2.2 hR) ⟨fbM, va_recv hK hW.1 hc he, fun U hU hW2 => ⟨rfl, by rw [hU], by rw [hU]; exact hW.1, va_K.moved hW2.alike hK, hW.2.2.1.weaken (fun _ _ _ _ => trivial)⟩⟩ rfl rfl hsz hst (lv_room hw) hdg hf) hS (fun q _ h => hF q h) hF (fun r u t H1 locs1 ht hvm hp hB hz hk hS1 => ?_)
  obtain ⟨hP1, -, hD1⟩ := hB
  rw [ht] at hP1
  exact kk r u H1 locs1 hp (hW.call hF hk hP1 hD1) hS1
theorem xcLv {own : String} {idx : Nat} {y : MethodName} {b : Nat} {bytes : ByteArray} {maxL : Nat} {ret : Option FieldType} {rm : Room} (As : List Value) {U : Type} {post : U → Prop} {wf : U → va_W} {q : vw_C} {ci q0 : Nat} {fs : List Value}
    (S : CallFix p m c cc nL s args lw_all own) (hM : Met l y (ws_ y bytes maxL ret) rm (PcM (.ref b :: As) D X tys H.size) (va_Qv post (fun u t => QB D tys (va_A X H.size) (wf u) t) (va_A X H.size)) 0 0 (va_A X H.size)) (hl : Cond.methodLink own idx y ∈ lw_all) (hv : VI q.1 y bytes maxL ret As.length) (hrm : rm.cells = 0 ∧ rm.slots = 0) (hR : rm.frames + 1 ≤ R.frames ∧ 8 + (maxL + 11) + rm.locals ≤ R.locals) (hf : cells ≤ R.cells ∧ slots ≤ R.slots)
    (hK : va_K D vwCl tys s) (hW : LW D A X Y H) (hS : va_S A H0 H locs) (hA : ∀ q, H0.size ≤ q → A q) (hc : vwCl[ci]? = some q) (he : X[q0]? = some (b, .inr (ci, fs))) (hsz : ls.size = nL) (hst : st0 = As.reverse ++ .ref b :: rest) (hw : (rest.map fun v => v.category).sum ≤ 8) (hdg : decode cc pc = .ok (.invokevirtual idx, 3))
    (kk : ∀ (u : U) (H1 : Heap) (locs1 : List Loc), post u → LW D A (wf u) Y H1 → va_S A H0 H1 locs1 → W p l e R s m args below meth c H1 locs1 cells slots Q (F0 m (pc + 3) ls rest)) : W p l e R s m args below meth c H locs cells slots Q (F0 m pc ls st0) := by
  have hF := xfree hW.2.2.1 hS hA
  refine va_callv (va_runV (As := As) (rest := rest) S hM (cwV As.length S.2.2.2.2 (lw_V hl hv.1 hv.2.1 hv.2.2.1 hv.2.2.2.1) rfl hrm.1 hrm.2 hv.2.2.2.2 hR) ⟨fbM, va_recv hK hW.1 hc he, fun U hU hW2 => ⟨rfl, by rw [hU], by rw [hU]; exact hW.1, va_K.moved hW2.alike hK, hW.2.2.1.weaken (fun _ _ _ _ => trivial)⟩⟩ rfl rfl hsz hst (lv_room hw) hdg hf) hS (fun q _ h => hF q h) hF (fun u t H1 locs1 ht hvm hp hB hz hk hS1 => ?_)
  obtain ⟨hP1, -, hD1⟩ := hB
  rw [ht] at hP1
  exact kk u H1 locs1 hp (hW.call hF hk hP1 hD1) hS1
end XC
/-- a contract over the script alone -/
theorem xMetX {l : Launch} {y : MethodName} {bytes : ByteArray} {maxL : Nat} {ret : Option FieldType} {rm : Room} {av : List Value} {sb L : Nat} {sc : Nat → Int32} {Qc : Array Value → State → Outcome → State → Prop} (hy : plainName y.cls = true) (hn : (lg_sl av).length ≤ maxL)
    (body : ∀ (p : Program) (e : Env) (s : State) (m : MethodId) (below : List Frame) (meth : Method) (c : Code) (ls : Array Slot), CallFix p m c bytes maxL s av.toArray lw_all y.cls → meth.sig.returnType = ret → meth.locks = false → lv_has ls maxL (lv_args 0 av) → va_X sb L sc s s.heap → W p l e rm s m av.toArray below meth c s.heap [] 0 0 (MQ below Qc av.toArray s 0 0 (fun _ => False)) (F0 m 0 ls [])) : Met l y (ws_ y bytes maxL ret) rm (PcX av sb L sc) Qc 0 0 (fun _ => False) := by
  refine Met.ofW (cc := bytes) (maxL := maxL) (ret := ret) hy rfl ?_
  intro p e s m args below meth c s₁ B hml hv
  obtain ⟨rfl, hX⟩ := hv
  have hts := atoms_spec (ws := ws_ y bytes maxL ret) B.pre
  have hts : ∀ w ∈ lw_all, w.before _ s = true := fun w h => hts w (List.mem_cons_of_mem _ h)
  have hown : s.vm.findClass y.cls = some m.cls := findClass_of_methodNamed B.named
  have hl := lv_entry av (n := maxL) hn
  rw [lg_entry_eq]
  exact body p e s m below meth c _ ⟨B.exec, B.bytes, hml, hown, hts⟩ B.returns B.notSynchronized hl hX
def adr (l : List Nat) : Nat → Nat := fun k => l.getD k 0
end
section
/-! the constructors, and cell -/
set_option maxHeartbeats 4000000 in
set_option maxRecDepth 100000 in
/-- PolygonFrame(w, h, cap): rows of zeros, the sizes held between -/
theorem mtX1_init (l : Launch) (D : va_G) (d : ClassId) (o : Nat) (p0 p1 p2 : Int32) (w h C : Nat) (hw : clampI p0 1 24 = nI w) (hh : clampI p1 1 24 = nI h) (hC : clampI p2 3 60 = nI C) (sz : Nat) : Met l yX1_init (ws_ yX1_init cX1_init 4 none) ({ frames := 1, cells := 10, slots := 1116, locals := 22 } : Room) (PcM [.ref o, .int p0, .int p1, .int p2] D [(o, .inr (0, [.null, .null, .null, .null, .null, .null, .null, .null, .int 0, .int 0, .int 0, .int 0, .int 0, .int 0, .int 0, .int 0, .int 0, .null, .null]))] [(d, .int)] sz) (va_Qv (fun (u_ : Nat → Nat) => u_ 0 = o) (fun (u_ : Nat → Nat) t => QB D [(d, .int)] (va_A [(o, .inr (0, [.null, .null, .null, .null, .null, .null, .null, .null, .int 0, .int 0, .int 0, .int 0, .int 0, .int 0, .int 0, .int 0, .int 0, .null, .null]))] sz) (wP d u_ (fun _ => 0) (fun _ => 0) (fun _ => 0) (fun _ => 0) (fun _ => 0) (fun _ => 0) (fun _ => 0) (fun _ => 0) (fun _ => 0) (fun _ => 0) w h C 0 (-16384) (-16384) 16384 16384 0) t) (va_A [(o, .inr (0, [.null, .null, .null, .null, .null, .null, .null, .null, .int 0, .int 0, .int 0, .int 0, .int 0, .int 0, .int 0, .int 0, .int 0, .null, .null]))] sz)) 10 1116 (va_A [(o, .inr (0, [.null, .null, .null, .null, .null, .null, .null, .null, .int 0, .int 0, .int 0, .int 0, .int 0, .int 0, .int 0, .int 0, .int 0, .null, .null]))] sz) := by
  refine xMetM (Qf := fun A => (va_Qv (fun (u_ : Nat → Nat) => u_ 0 = o) (fun (u_ : Nat → Nat) t => QB D [(d, .int)] A (wP d u_ (fun _ => 0) (fun _ => 0) (fun _ => 0) (fun _ => 0) (fun _ => 0) (fun _ => 0) (fun _ => 0) (fun _ => 0) (fun _ => 0) (fun _ => 0) w h C 0 (-16384) (-16384) 16384 16384 0) t) A)) (by decide) (Nat.le_of_ble_eq_true rfl) ?_
  intro p e s m below meth c ls A H locs S hr hlk hl hP hK hD hS hA hin
  have S : CallFix p m c cX1_init 4 s _ lw_all RX1 := S
  have hx := S.1
  have hb := S.2.1
  have hin := hin rfl
  have hl : lv_has ls 4 [(0, .ref o), (1, .int p0), (2, .int p1), (3, .int p2)] := hl
  have hP : va_P D vwCl [(o, .inr (0, [.null, .null, .null, .null, .null, .null, .null, .null, .int 0, .int 0, .int 0, .int 0, .int 0, .int 0, .int 0, .int 0, .int 0, .null, .null]))] H := hP
  have hD : va_D A [(o, .inr (0, [.null, .null, .null, .null, .null, .null, .null, .null, .int 0, .int 0, .int 0, .int 0, .int 0, .int 0, .int 0, .int 0, .int 0, .null, .null]))] := hD
  refine lv_aload_n hx hb dX1_init_0 rfl (lv_at hl 0 rfl) ?_
  refine W.objInit hx hb S.2.2.2.1 (S.2.2.2.2 _ q24) (S.2.2.2.2 _ q25) (S.2.2.2.2 _ q26) rfl (by rw [S.2.2.1]; exact hl.1) rfl dX1_init_1 (Nat.le_of_ble_eq_true rfl) (Nat.le_of_ble_eq_true rfl) ?_
  refine W.eq (g2 := F0 m 4 ls []) rfl ?_
  refine lv_aload_n hx hb dX1_init_4 rfl (lv_at hl 0 rfl) ?_
  refine lv_bipush (v := 60) hx hb dX1_init_5 (by decide) ?_
  refine xnewa hx hb (S.2.2.2.2 _ q88) hK hP hD hS hA 60 (by decide) (by decide) (by decide) (Nat.le_of_ble_eq_true rfl) (Nat.le_of_ble_eq_true rfl) dX1_init_7 (fun q1_ H hP hD hS => ?_)
  have hP : va_P D vwCl [(o, .inr (0, [.null, .null, .null, .null, .null, .null, .null, .null, .int 0, .int 0, .int 0, .int 0, .int 0, .int 0, .int 0, .int 0, .int 0, .null, .null])), (q1_, .inl (d, 60, .inl (fun _ => 0)))] H := hP
  have hD : va_D A [(o, .inr (0, [.null, .null, .null, .null, .null, .null, .null, .null, .int 0, .int 0, .int 0, .int 0, .int 0, .int 0, .int 0, .int 0, .int 0, .null, .null])), (q1_, .inl (d, 60, .inl (fun _ => 0)))] := hD
  refine xputF1 S hin hK hP hD hS 0 rfl 0 (by decide) q30 rfl rfl (ty := (.array .int)) (v := .ref q1_) (by decide +kernel) rfl rfl (Nat.le_of_ble_eq_true rfl) dX1_init_9 (fun H locs hP hD hS => ?_)
  have hP : va_P D vwCl [(o, .inr (0, [.ref q1_, .null, .null, .null, .null, .null, .null, .null, .int 0, .int 0, .int 0, .int 0, .int 0, .int 0, .int 0, .int 0, .int 0, .null, .null])), (q1_, .inl (d, 60, .inl (fun _ => 0)))] H := hP
  have hD : va_D A [(o, .inr (0, [.ref q1_, .null, .null, .null, .null, .null, .null, .null, .int 0, .int 0, .int 0, .int 0, .int 0, .int 0, .int 0, .int 0, .int 0, .null, .null])), (q1_, .inl (d, 60, .inl (fun _ => 0)))] := hD
  refine lv_aload_n hx hb dX1_init_12 rfl (lv_at hl 0 rfl) ?_
  refine lv_bipush (v := 60) hx hb dX1_init_13 (by decide) ?_
  refine xnewa hx hb (S.2.2.2.2 _ q88) hK hP hD hS hA 60 (by decide) (by decide) (by decide) (Nat.le_of_ble_eq_true rfl) (Nat.le_of_ble_eq_true rfl) dX1_init_15 (fun q2_ H hP hD hS => ?_)
  have hP : va_P D vwCl [(o, .inr (0, [.ref q1_, .null, .null, .null, .null, .null, .null, .null, .int 0, .int 0, .int 0, .int 0, .int 0, .int 0, .int 0, .int 0, .int 0, .null, .null])), (q1_, .inl (d, 60, .inl (fun _ => 0))), (q2_, .inl (d, 60, .inl (fun _ => 0)))] H := hP
  have hD : va_D A [(o, .inr (0, [.ref q1_, .null, .null, .null, .null, .null, .null, .null, .int 0, .int 0, .int 0, .int 0, .int 0, .int 0, .int 0, .int 0, .int 0, .null, .null])), (q1_, .inl (d, 60, .inl (fun _ => 0))), (q2_, .inl (d, 60, .inl (fun _ => 0)))] := hD
  refine xputF1 S hin hK hP hD hS 0 rfl 1 (by decide) q31 rfl rfl (ty := (.array .int)) (v := .ref q2_) (by decide +kernel) rfl rfl (Nat.le_of_ble_eq_true rfl) dX1_init_17 (fun H locs hP hD hS => ?_)
  have hP : va_P D vwCl [(o, .inr (0, [.ref q1_, .ref q2_, .null, .null, .null, .null, .null, .null, .int 0, .int 0, .int 0, .int 0, .int 0, .int 0, .int 0, .int 0, .int 0, .null, .null])), (q1_, .inl (d, 60, .inl (fun _ => 0))), (q2_, .inl (d, 60, .inl (fun _ => 0)))] H := hP
  have hD : va_D A [(o, .inr (0, [.ref q1_, .ref q2_, .null, .null, .null, .null, .null, .null, .int 0, .int 0, .int 0, .int 0, .int 0, .int 0, .int 0, .int 0, .int 0, .null, .null])), (q1_, .inl (d, 60, .inl (fun _ => 0))), (q2_, .inl (d, 60, .inl (fun _ => 0)))] := hD
  refine lv_aload_n hx hb dX1_init_20 rfl (lv_at hl 0 rfl) ?_
  refine lv_bipush (v := 60) hx hb dX1_init_21 (by decide) ?_
  refine xnewa hx hb (S.2.2.2.2 _ q88) hK hP hD hS hA 60 (by decide) (by decide) (by decide) (Nat.le_of_ble_eq_true rfl) (Nat.le_of_ble_eq_true rfl) dX1_init_23 (fun q3_ H hP hD hS => ?_)
  have hP : va_P D vwCl [(o, .inr (0, [.ref q1_, .ref q2_, .null, .null, .null, .null, .null, .null, .int 0, .int 0, .int 0, .int 0, .int 0, .int 0, .int 0, .int 0, .int 0, .null, .null])), (q1_, .inl (d, 60, .inl (fun _ => 0))), (q2_, .inl (d, 60, .inl (fun _ => 0))), (q3_, .inl (d, 60, .inl (fun _ => 0)))] H := hP
  have hD : va_D A [(o, .inr (0, [.ref q1_, .ref q2_, .null, .null, .null, .null, .null, .null, .int 0, .int 0, .int 0, .int 0, .int 0, .int 0, .int 0, .int 0, .int 0, .null, .null])), (q1_, .inl (d, 60, .inl (fun _ => 0))), (q2_, .inl (d, 60, .inl (fun _ => 0))), (q3_, .inl (d, 60, .inl (fun _ => 0)))] := hD
  refine xputF1 S hin hK hP hD hS 0 rfl 2 (by decide) q32 rfl rfl (ty := (.array .int)) (v := .ref q3_) (by decide +kernel) rfl rfl (Nat.le_of_ble_eq_true rfl) dX1_init_25 (fun H locs hP hD hS => ?_)
  have hP : va_P D vwCl [(o, .inr (0, [.ref q1_, .ref q2_, .ref q3_, .null, .null, .null, .null, .null, .int 0, .int 0, .int 0, .int 0, .int 0, .int 0, .int 0, .int 0, .int 0, .null, .null])), (q1_, .inl (d, 60, .inl (fun _ => 0))), (q2_, .inl (d, 60, .inl (fun _ => 0))), (q3_, .inl (d, 60, .inl (fun _ => 0)))] H := hP
  have hD : va_D A [(o, .inr (0, [.ref q1_, .ref q2_, .ref q3_, .null, .null, .null, .null, .null, .int 0, .int 0, .int 0, .int 0, .int 0, .int 0, .int 0, .int 0, .int 0, .null, .null])), (q1_, .inl (d, 60, .inl (fun _ => 0))), (q2_, .inl (d, 60, .inl (fun _ => 0))), (q3_, .inl (d, 60, .inl (fun _ => 0)))] := hD
  refine lv_aload_n hx hb dX1_init_28 rfl (lv_at hl 0 rfl) ?_
  refine lv_bipush (v := 60) hx hb dX1_init_29 (by decide) ?_
  refine xnewa hx hb (S.2.2.2.2 _ q88) hK hP hD hS hA 60 (by decide) (by decide) (by decide) (Nat.le_of_ble_eq_true rfl) (Nat.le_of_ble_eq_true rfl) dX1_init_31 (fun q4_ H hP hD hS => ?_)
  have hP : va_P D vwCl [(o, .inr (0, [.ref q1_, .ref q2_, .ref q3_, .null, .null, .null, .null, .null, .int 0, .int 0, .int 0, .int 0, .int 0, .int 0, .int 0, .int 0, .int 0, .null, .null])), (q1_, .inl (d, 60, .inl (fun _ => 0))), (q2_, .inl (d, 60, .inl (fun _ => 0))), (q3_, .inl (d, 60, .inl (fun _ => 0))), (q4_, .inl (d, 60, .inl (fun _ => 0)))] H := hP
  have hD : va_D A [(o, .inr (0, [.ref q1_, .ref q2_, .ref q3_, .null, .null, .null, .null, .null, .int 0, .int 0, .int 0, .int 0, .int 0, .int 0, .int 0, .int 0, .int 0, .null, .null])), (q1_, .inl (d, 60, .inl (fun _ => 0))), (q2_, .inl (d, 60, .inl (fun _ => 0))), (q3_, .inl (d, 60, .inl (fun _ => 0))), (q4_, .inl (d, 60, .inl (fun _ => 0)))] := hD
  refine xputF1 S hin hK hP hD hS 0 rfl 3 (by decide) q33 rfl rfl (ty := (.array .int)) (v := .ref q4_) (by decide +kernel) rfl rfl (Nat.le_of_ble_eq_true rfl) dX1_init_33 (fun H locs hP hD hS => ?_)
  have hP : va_P D vwCl [(o, .inr (0, [.ref q1_, .ref q2_, .ref q3_, .ref q4_, .null, .null, .null, .null, .int 0, .int 0, .int 0, .int 0, .int 0, .int 0, .int 0, .int 0, .int 0, .null, .null])), (q1_, .inl (d, 60, .inl (fun _ => 0))), (q2_, .inl (d, 60, .inl (fun _ => 0))), (q3_, .inl (d, 60, .inl (fun _ => 0))), (q4_, .inl (d, 60, .inl (fun _ => 0)))] H := hP
  have hD : va_D A [(o, .inr (0, [.ref q1_, .ref q2_, .ref q3_, .ref q4_, .null, .null, .null, .null, .int 0, .int 0, .int 0, .int 0, .int 0, .int 0, .int 0, .int 0, .int 0, .null, .null])), (q1_, .inl (d, 60, .inl (fun _ => 0))), (q2_, .inl (d, 60, .inl (fun _ => 0))), (q3_, .inl (d, 60, .inl (fun _ => 0))), (q4_, .inl (d, 60, .inl (fun _ => 0)))] := hD
  refine lv_aload_n hx hb dX1_init_36 rfl (lv_at hl 0 rfl) ?_
  refine lv_sipush (v := 576) hx hb dX1_init_37 (by decide) ?_
  refine xnewa hx hb (S.2.2.2.2 _ q88) hK hP hD hS hA 576 (by decide) (by decide) (by decide) (Nat.le_of_ble_eq_true rfl) (Nat.le_of_ble_eq_true rfl) dX1_init_40 (fun q5_ H hP hD hS => ?_)
  have hP : va_P D vwCl [(o, .inr (0, [.ref q1_, .ref q2_, .ref q3_, .ref q4_, .null, .null, .null, .null, .int 0, .int 0, .int 0, .int 0, .int 0, .int 0, .int 0, .int 0, .int 0, .null, .null])), (q1_, .inl (d, 60, .inl (fun _ => 0))), (q2_, .inl (d, 60, .inl (fun _ => 0))), (q3_, .inl (d, 60, .inl (fun _ => 0))), (q4_, .inl (d, 60, .inl (fun _ => 0))), (q5_, .inl (d, 576, .inl (fun _ => 0)))] H := hP
  have hD : va_D A [(o, .inr (0, [.ref q1_, .ref q2_, .ref q3_, .ref q4_, .null, .null, .null, .null, .int 0, .int 0, .int 0, .int 0, .int 0, .int 0, .int 0, .int 0, .int 0, .null, .null])), (q1_, .inl (d, 60, .inl (fun _ => 0))), (q2_, .inl (d, 60, .inl (fun _ => 0))), (q3_, .inl (d, 60, .inl (fun _ => 0))), (q4_, .inl (d, 60, .inl (fun _ => 0))), (q5_, .inl (d, 576, .inl (fun _ => 0)))] := hD
  refine xputF1 S hin hK hP hD hS 0 rfl 4 (by decide) q34 rfl rfl (ty := (.array .int)) (v := .ref q5_) (by decide +kernel) rfl rfl (Nat.le_of_ble_eq_true rfl) dX1_init_42 (fun H locs hP hD hS => ?_)
  have hP : va_P D vwCl [(o, .inr (0, [.ref q1_, .ref q2_, .ref q3_, .ref q4_, .ref q5_, .null, .null, .null, .int 0, .int 0, .int 0, .int 0, .int 0, .int 0, .int 0, .int 0, .int 0, .null, .null])), (q1_, .inl (d, 60, .inl (fun _ => 0))), (q2_, .inl (d, 60, .inl (fun _ => 0))), (q3_, .inl (d, 60, .inl (fun _ => 0))), (q4_, .inl (d, 60, .inl (fun _ => 0))), (q5_, .inl (d, 576, .inl (fun _ => 0)))] H := hP
  have hD : va_D A [(o, .inr (0, [.ref q1_, .ref q2_, .ref q3_, .ref q4_, .ref q5_, .null, .null, .null, .int 0, .int 0, .int 0, .int 0, .int 0, .int 0, .int 0, .int 0, .int 0, .null, .null])), (q1_, .inl (d, 60, .inl (fun _ => 0))), (q2_, .inl (d, 60, .inl (fun _ => 0))), (q3_, .inl (d, 60, .inl (fun _ => 0))), (q4_, .inl (d, 60, .inl (fun _ => 0))), (q5_, .inl (d, 576, .inl (fun _ => 0)))] := hD
  refine lv_aload_n hx hb dX1_init_45 rfl (lv_at hl 0 rfl) ?_
  refine lv_bipush (v := 60) hx hb dX1_init_46 (by decide) ?_
  refine xnewa hx hb (S.2.2.2.2 _ q88) hK hP hD hS hA 60 (by decide) (by decide) (by decide) (Nat.le_of_ble_eq_true rfl) (Nat.le_of_ble_eq_true rfl) dX1_init_48 (fun q6_ H hP hD hS => ?_)
  have hP : va_P D vwCl [(o, .inr (0, [.ref q1_, .ref q2_, .ref q3_, .ref q4_, .ref q5_, .null, .null, .null, .int 0, .int 0, .int 0, .int 0, .int 0, .int 0, .int 0, .int 0, .int 0, .null, .null])), (q1_, .inl (d, 60, .inl (fun _ => 0))), (q2_, .inl (d, 60, .inl (fun _ => 0))), (q3_, .inl (d, 60, .inl (fun _ => 0))), (q4_, .inl (d, 60, .inl (fun _ => 0))), (q5_, .inl (d, 576, .inl (fun _ => 0))), (q6_, .inl (d, 60, .inl (fun _ => 0)))] H := hP
  have hD : va_D A [(o, .inr (0, [.ref q1_, .ref q2_, .ref q3_, .ref q4_, .ref q5_, .null, .null, .null, .int 0, .int 0, .int 0, .int 0, .int 0, .int 0, .int 0, .int 0, .int 0, .null, .null])), (q1_, .inl (d, 60, .inl (fun _ => 0))), (q2_, .inl (d, 60, .inl (fun _ => 0))), (q3_, .inl (d, 60, .inl (fun _ => 0))), (q4_, .inl (d, 60, .inl (fun _ => 0))), (q5_, .inl (d, 576, .inl (fun _ => 0))), (q6_, .inl (d, 60, .inl (fun _ => 0)))] := hD
  refine xputF1 S hin hK hP hD hS 0 rfl 5 (by decide) q35 rfl rfl (ty := (.array .int)) (v := .ref q6_) (by decide +kernel) rfl rfl (Nat.le_of_ble_eq_true rfl) dX1_init_50 (fun H locs hP hD hS => ?_)
  have hP : va_P D vwCl [(o, .inr (0, [.ref q1_, .ref q2_, .ref q3_, .ref q4_, .ref q5_, .ref q6_, .null, .null, .int 0, .int 0, .int 0, .int 0, .int 0, .int 0, .int 0, .int 0, .int 0, .null, .null])), (q1_, .inl (d, 60, .inl (fun _ => 0))), (q2_, .inl (d, 60, .inl (fun _ => 0))), (q3_, .inl (d, 60, .inl (fun _ => 0))), (q4_, .inl (d, 60, .inl (fun _ => 0))), (q5_, .inl (d, 576, .inl (fun _ => 0))), (q6_, .inl (d, 60, .inl (fun _ => 0)))] H := hP
  have hD : va_D A [(o, .inr (0, [.ref q1_, .ref q2_, .ref q3_, .ref q4_, .ref q5_, .ref q6_, .null, .null, .int 0, .int 0, .int 0, .int 0, .int 0, .int 0, .int 0, .int 0, .int 0, .null, .null])), (q1_, .inl (d, 60, .inl (fun _ => 0))), (q2_, .inl (d, 60, .inl (fun _ => 0))), (q3_, .inl (d, 60, .inl (fun _ => 0))), (q4_, .inl (d, 60, .inl (fun _ => 0))), (q5_, .inl (d, 576, .inl (fun _ => 0))), (q6_, .inl (d, 60, .inl (fun _ => 0)))] := hD
  refine lv_aload_n hx hb dX1_init_53 rfl (lv_at hl 0 rfl) ?_
  refine lv_bipush (v := 60) hx hb dX1_init_54 (by decide) ?_
  refine xnewa hx hb (S.2.2.2.2 _ q88) hK hP hD hS hA 60 (by decide) (by decide) (by decide) (Nat.le_of_ble_eq_true rfl) (Nat.le_of_ble_eq_true rfl) dX1_init_56 (fun q7_ H hP hD hS => ?_)
  have hP : va_P D vwCl [(o, .inr (0, [.ref q1_, .ref q2_, .ref q3_, .ref q4_, .ref q5_, .ref q6_, .null, .null, .int 0, .int 0, .int 0, .int 0, .int 0, .int 0, .int 0, .int 0, .int 0, .null, .null])), (q1_, .inl (d, 60, .inl (fun _ => 0))), (q2_, .inl (d, 60, .inl (fun _ => 0))), (q3_, .inl (d, 60, .inl (fun _ => 0))), (q4_, .inl (d, 60, .inl (fun _ => 0))), (q5_, .inl (d, 576, .inl (fun _ => 0))), (q6_, .inl (d, 60, .inl (fun _ => 0))), (q7_, .inl (d, 60, .inl (fun _ => 0)))] H := hP
  have hD : va_D A [(o, .inr (0, [.ref q1_, .ref q2_, .ref q3_, .ref q4_, .ref q5_, .ref q6_, .null, .null, .int 0, .int 0, .int 0, .int 0, .int 0, .int 0, .int 0, .int 0, .int 0, .null, .null])), (q1_, .inl (d, 60, .inl (fun _ => 0))), (q2_, .inl (d, 60, .inl (fun _ => 0))), (q3_, .inl (d, 60, .inl (fun _ => 0))), (q4_, .inl (d, 60, .inl (fun _ => 0))), (q5_, .inl (d, 576, .inl (fun _ => 0))), (q6_, .inl (d, 60, .inl (fun _ => 0))), (q7_, .inl (d, 60, .inl (fun _ => 0)))] := hD
  refine xputF1 S hin hK hP hD hS 0 rfl 6 (by decide) q36 rfl rfl (ty := (.array .int)) (v := .ref q7_) (by decide +kernel) rfl rfl (Nat.le_of_ble_eq_true rfl) dX1_init_58 (fun H locs hP hD hS => ?_)
  have hP : va_P D vwCl [(o, .inr (0, [.ref q1_, .ref q2_, .ref q3_, .ref q4_, .ref q5_, .ref q6_, .ref q7_, .null, .int 0, .int 0, .int 0, .int 0, .int 0, .int 0, .int 0, .int 0, .int 0, .null, .null])), (q1_, .inl (d, 60, .inl (fun _ => 0))), (q2_, .inl (d, 60, .inl (fun _ => 0))), (q3_, .inl (d, 60, .inl (fun _ => 0))), (q4_, .inl (d, 60, .inl (fun _ => 0))), (q5_, .inl (d, 576, .inl (fun _ => 0))), (q6_, .inl (d, 60, .inl (fun _ => 0))), (q7_, .inl (d, 60, .inl (fun _ => 0)))] H := hP
  have hD : va_D A [(o, .inr (0, [.ref q1_, .ref q2_, .ref q3_, .ref q4_, .ref q5_, .ref q6_, .ref q7_, .null, .int 0, .int 0, .int 0, .int 0, .int 0, .int 0, .int 0, .int 0, .int 0, .null, .null])), (q1_, .inl (d, 60, .inl (fun _ => 0))), (q2_, .inl (d, 60, .inl (fun _ => 0))), (q3_, .inl (d, 60, .inl (fun _ => 0))), (q4_, .inl (d, 60, .inl (fun _ => 0))), (q5_, .inl (d, 576, .inl (fun _ => 0))), (q6_, .inl (d, 60, .inl (fun _ => 0))), (q7_, .inl (d, 60, .inl (fun _ => 0)))] := hD
  refine lv_aload_n hx hb dX1_init_61 rfl (lv_at hl 0 rfl) ?_
  refine lv_bipush (v := 60) hx hb dX1_init_62 (by decide) ?_
  refine xnewa hx hb (S.2.2.2.2 _ q88) hK hP hD hS hA 60 (by decide) (by decide) (by decide) (Nat.le_of_ble_eq_true rfl) (Nat.le_of_ble_eq_true rfl) dX1_init_64 (fun q8_ H hP hD hS => ?_)
  have hP : va_P D vwCl [(o, .inr (0, [.ref q1_, .ref q2_, .ref q3_, .ref q4_, .ref q5_, .ref q6_, .ref q7_, .null, .int 0, .int 0, .int 0, .int 0, .int 0, .int 0, .int 0, .int 0, .int 0, .null, .null])), (q1_, .inl (d, 60, .inl (fun _ => 0))), (q2_, .inl (d, 60, .inl (fun _ => 0))), (q3_, .inl (d, 60, .inl (fun _ => 0))), (q4_, .inl (d, 60, .inl (fun _ => 0))), (q5_, .inl (d, 576, .inl (fun _ => 0))), (q6_, .inl (d, 60, .inl (fun _ => 0))), (q7_, .inl (d, 60, .inl (fun _ => 0))), (q8_, .inl (d, 60, .inl (fun _ => 0)))] H := hP
  have hD : va_D A [(o, .inr (0, [.ref q1_, .ref q2_, .ref q3_, .ref q4_, .ref q5_, .ref q6_, .ref q7_, .null, .int 0, .int 0, .int 0, .int 0, .int 0, .int 0, .int 0, .int 0, .int 0, .null, .null])), (q1_, .inl (d, 60, .inl (fun _ => 0))), (q2_, .inl (d, 60, .inl (fun _ => 0))), (q3_, .inl (d, 60, .inl (fun _ => 0))), (q4_, .inl (d, 60, .inl (fun _ => 0))), (q5_, .inl (d, 576, .inl (fun _ => 0))), (q6_, .inl (d, 60, .inl (fun _ => 0))), (q7_, .inl (d, 60, .inl (fun _ => 0))), (q8_, .inl (d, 60, .inl (fun _ => 0)))] := hD
  refine xputF1 S hin hK hP hD hS 0 rfl 7 (by decide) q37 rfl rfl (ty := (.array .int)) (v := .ref q8_) (by decide +kernel) rfl rfl (Nat.le_of_ble_eq_true rfl) dX1_init_66 (fun H locs hP hD hS => ?_)
  have hP : va_P D vwCl [(o, .inr (0, [.ref q1_, .ref q2_, .ref q3_, .ref q4_, .ref q5_, .ref q6_, .ref q7_, .ref q8_, .int 0, .int 0, .int 0, .int 0, .int 0, .int 0, .int 0, .int 0, .int 0, .null, .null])), (q1_, .inl (d, 60, .inl (fun _ => 0))), (q2_, .inl (d, 60, .inl (fun _ => 0))), (q3_, .inl (d, 60, .inl (fun _ => 0))), (q4_, .inl (d, 60, .inl (fun _ => 0))), (q5_, .inl (d, 576, .inl (fun _ => 0))), (q6_, .inl (d, 60, .inl (fun _ => 0))), (q7_, .inl (d, 60, .inl (fun _ => 0))), (q8_, .inl (d, 60, .inl (fun _ => 0)))] H := hP
  have hD : va_D A [(o, .inr (0, [.ref q1_, .ref q2_, .ref q3_, .ref q4_, .ref q5_, .ref q6_, .ref q7_, .ref q8_, .int 0, .int 0, .int 0, .int 0, .int 0, .int 0, .int 0, .int 0, .int 0, .null, .null])), (q1_, .inl (d, 60, .inl (fun _ => 0))), (q2_, .inl (d, 60, .inl (fun _ => 0))), (q3_, .inl (d, 60, .inl (fun _ => 0))), (q4_, .inl (d, 60, .inl (fun _ => 0))), (q5_, .inl (d, 576, .inl (fun _ => 0))), (q6_, .inl (d, 60, .inl (fun _ => 0))), (q7_, .inl (d, 60, .inl (fun _ => 0))), (q8_, .inl (d, 60, .inl (fun _ => 0)))] := hD
  refine lv_aload_n hx hb dX1_init_69 rfl (lv_at hl 0 rfl) ?_
  refine lv_sipush (v := (-16384)) hx hb dX1_init_70 (by decide) ?_
  refine xput1 S hK hP hD hS 0 rfl 12 (by decide) q42 rfl rfl (by decide +kernel) (Nat.le_of_ble_eq_true rfl) dX1_init_73 (fun H locs hP hD hS => ?_)
  have hP : va_P D vwCl [(o, .inr (0, [.ref q1_, .ref q2_, .ref q3_, .ref q4_, .ref q5_, .ref q6_, .ref q7_, .ref q8_, .int 0, .int 0, .int 0, .int 0, .int (-16384), .int 0, .int 0, .int 0, .int 0, .null, .null])), (q1_, .inl (d, 60, .inl (fun _ => 0))), (q2_, .inl (d, 60, .inl (fun _ => 0))), (q3_, .inl (d, 60, .inl (fun _ => 0))), (q4_, .inl (d, 60, .inl (fun _ => 0))), (q5_, .inl (d, 576, .inl (fun _ => 0))), (q6_, .inl (d, 60, .inl (fun _ => 0))), (q7_, .inl (d, 60, .inl (fun _ => 0))), (q8_, .inl (d, 60, .inl (fun _ => 0)))] H := hP
  have hD : va_D A [(o, .inr (0, [.ref q1_, .ref q2_, .ref q3_, .ref q4_, .ref q5_, .ref q6_, .ref q7_, .ref q8_, .int 0, .int 0, .int 0, .int 0, .int (-16384), .int 0, .int 0, .int 0, .int 0, .null, .null])), (q1_, .inl (d, 60, .inl (fun _ => 0))), (q2_, .inl (d, 60, .inl (fun _ => 0))), (q3_, .inl (d, 60, .inl (fun _ => 0))), (q4_, .inl (d, 60, .inl (fun _ => 0))), (q5_, .inl (d, 576, .inl (fun _ => 0))), (q6_, .inl (d, 60, .inl (fun _ => 0))), (q7_, .inl (d, 60, .inl (fun _ => 0))), (q8_, .inl (d, 60, .inl (fun _ => 0)))] := hD
  refine lv_aload_n hx hb dX1_init_76 rfl (lv_at hl 0 rfl) ?_
  refine lv_sipush (v := (-16384)) hx hb dX1_init_77 (by decide) ?_
  refine xput1 S hK hP hD hS 0 rfl 13 (by decide) q43 rfl rfl (by decide +kernel) (Nat.le_of_ble_eq_true rfl) dX1_init_80 (fun H locs hP hD hS => ?_)
  have hP : va_P D vwCl [(o, .inr (0, [.ref q1_, .ref q2_, .ref q3_, .ref q4_, .ref q5_, .ref q6_, .ref q7_, .ref q8_, .int 0, .int 0, .int 0, .int 0, .int (-16384), .int (-16384), .int 0, .int 0, .int 0, .null, .null])), (q1_, .inl (d, 60, .inl (fun _ => 0))), (q2_, .inl (d, 60, .inl (fun _ => 0))), (q3_, .inl (d, 60, .inl (fun _ => 0))), (q4_, .inl (d, 60, .inl (fun _ => 0))), (q5_, .inl (d, 576, .inl (fun _ => 0))), (q6_, .inl (d, 60, .inl (fun _ => 0))), (q7_, .inl (d, 60, .inl (fun _ => 0))), (q8_, .inl (d, 60, .inl (fun _ => 0)))] H := hP
  have hD : va_D A [(o, .inr (0, [.ref q1_, .ref q2_, .ref q3_, .ref q4_, .ref q5_, .ref q6_, .ref q7_, .ref q8_, .int 0, .int 0, .int 0, .int 0, .int (-16384), .int (-16384), .int 0, .int 0, .int 0, .null, .null])), (q1_, .inl (d, 60, .inl (fun _ => 0))), (q2_, .inl (d, 60, .inl (fun _ => 0))), (q3_, .inl (d, 60, .inl (fun _ => 0))), (q4_, .inl (d, 60, .inl (fun _ => 0))), (q5_, .inl (d, 576, .inl (fun _ => 0))), (q6_, .inl (d, 60, .inl (fun _ => 0))), (q7_, .inl (d, 60, .inl (fun _ => 0))), (q8_, .inl (d, 60, .inl (fun _ => 0)))] := hD
  refine lv_aload_n hx hb dX1_init_83 rfl (lv_at hl 0 rfl) ?_
  refine lv_sipush (v := 16384) hx hb dX1_init_84 (by decide) ?_
  refine xput1 S hK hP hD hS 0 rfl 14 (by decide) q44 rfl rfl (by decide +kernel) (Nat.le_of_ble_eq_true rfl) dX1_init_87 (fun H locs hP hD hS => ?_)
  have hP : va_P D vwCl [(o, .inr (0, [.ref q1_, .ref q2_, .ref q3_, .ref q4_, .ref q5_, .ref q6_, .ref q7_, .ref q8_, .int 0, .int 0, .int 0, .int 0, .int (-16384), .int (-16384), .int 16384, .int 0, .int 0, .null, .null])), (q1_, .inl (d, 60, .inl (fun _ => 0))), (q2_, .inl (d, 60, .inl (fun _ => 0))), (q3_, .inl (d, 60, .inl (fun _ => 0))), (q4_, .inl (d, 60, .inl (fun _ => 0))), (q5_, .inl (d, 576, .inl (fun _ => 0))), (q6_, .inl (d, 60, .inl (fun _ => 0))), (q7_, .inl (d, 60, .inl (fun _ => 0))), (q8_, .inl (d, 60, .inl (fun _ => 0)))] H := hP
  have hD : va_D A [(o, .inr (0, [.ref q1_, .ref q2_, .ref q3_, .ref q4_, .ref q5_, .ref q6_, .ref q7_, .ref q8_, .int 0, .int 0, .int 0, .int 0, .int (-16384), .int (-16384), .int 16384, .int 0, .int 0, .null, .null])), (q1_, .inl (d, 60, .inl (fun _ => 0))), (q2_, .inl (d, 60, .inl (fun _ => 0))), (q3_, .inl (d, 60, .inl (fun _ => 0))), (q4_, .inl (d, 60, .inl (fun _ => 0))), (q5_, .inl (d, 576, .inl (fun _ => 0))), (q6_, .inl (d, 60, .inl (fun _ => 0))), (q7_, .inl (d, 60, .inl (fun _ => 0))), (q8_, .inl (d, 60, .inl (fun _ => 0)))] := hD
  refine lv_aload_n hx hb dX1_init_90 rfl (lv_at hl 0 rfl) ?_
  refine lv_sipush (v := 16384) hx hb dX1_init_91 (by decide) ?_
  refine xput1 S hK hP hD hS 0 rfl 15 (by decide) q45 rfl rfl (by decide +kernel) (Nat.le_of_ble_eq_true rfl) dX1_init_94 (fun H locs hP hD hS => ?_)
  have hP : va_P D vwCl [(o, .inr (0, [.ref q1_, .ref q2_, .ref q3_, .ref q4_, .ref q5_, .ref q6_, .ref q7_, .ref q8_, .int 0, .int 0, .int 0, .int 0, .int (-16384), .int (-16384), .int 16384, .int 16384, .int 0, .null, .null])), (q1_, .inl (d, 60, .inl (fun _ => 0))), (q2_, .inl (d, 60, .inl (fun _ => 0))), (q3_, .inl (d, 60, .inl (fun _ => 0))), (q4_, .inl (d, 60, .inl (fun _ => 0))), (q5_, .inl (d, 576, .inl (fun _ => 0))), (q6_, .inl (d, 60, .inl (fun _ => 0))), (q7_, .inl (d, 60, .inl (fun _ => 0))), (q8_, .inl (d, 60, .inl (fun _ => 0)))] H := hP
  have hD : va_D A [(o, .inr (0, [.ref q1_, .ref q2_, .ref q3_, .ref q4_, .ref q5_, .ref q6_, .ref q7_, .ref q8_, .int 0, .int 0, .int 0, .int 0, .int (-16384), .int (-16384), .int 16384, .int 16384, .int 0, .null, .null])), (q1_, .inl (d, 60, .inl (fun _ => 0))), (q2_, .inl (d, 60, .inl (fun _ => 0))), (q3_, .inl (d, 60, .inl (fun _ => 0))), (q4_, .inl (d, 60, .inl (fun _ => 0))), (q5_, .inl (d, 576, .inl (fun _ => 0))), (q6_, .inl (d, 60, .inl (fun _ => 0))), (q7_, .inl (d, 60, .inl (fun _ => 0))), (q8_, .inl (d, 60, .inl (fun _ => 0)))] := hD
  refine lv_aload_n hx hb dX1_init_97 rfl (lv_at hl 0 rfl) ?_
  refine lv_bipush (v := 60) hx hb dX1_init_98 (by decide) ?_
  refine xnewa hx hb (S.2.2.2.2 _ q88) hK hP hD hS hA 60 (by decide) (by decide) (by decide) (Nat.le_of_ble_eq_true rfl) (Nat.le_of_ble_eq_true rfl) dX1_init_100 (fun q9_ H hP hD hS => ?_)
  have hP : va_P D vwCl [(o, .inr (0, [.ref q1_, .ref q2_, .ref q3_, .ref q4_, .ref q5_, .ref q6_, .ref q7_, .ref q8_, .int 0, .int 0, .int 0, .int 0, .int (-16384), .int (-16384), .int 16384, .int 16384, .int 0, .null, .null])), (q1_, .inl (d, 60, .inl (fun _ => 0))), (q2_, .inl (d, 60, .inl (fun _ => 0))), (q3_, .inl (d, 60, .inl (fun _ => 0))), (q4_, .inl (d, 60, .inl (fun _ => 0))), (q5_, .inl (d, 576, .inl (fun _ => 0))), (q6_, .inl (d, 60, .inl (fun _ => 0))), (q7_, .inl (d, 60, .inl (fun _ => 0))), (q8_, .inl (d, 60, .inl (fun _ => 0))), (q9_, .inl (d, 60, .inl (fun _ => 0)))] H := hP
  have hD : va_D A [(o, .inr (0, [.ref q1_, .ref q2_, .ref q3_, .ref q4_, .ref q5_, .ref q6_, .ref q7_, .ref q8_, .int 0, .int 0, .int 0, .int 0, .int (-16384), .int (-16384), .int 16384, .int 16384, .int 0, .null, .null])), (q1_, .inl (d, 60, .inl (fun _ => 0))), (q2_, .inl (d, 60, .inl (fun _ => 0))), (q3_, .inl (d, 60, .inl (fun _ => 0))), (q4_, .inl (d, 60, .inl (fun _ => 0))), (q5_, .inl (d, 576, .inl (fun _ => 0))), (q6_, .inl (d, 60, .inl (fun _ => 0))), (q7_, .inl (d, 60, .inl (fun _ => 0))), (q8_, .inl (d, 60, .inl (fun _ => 0))), (q9_, .inl (d, 60, .inl (fun _ => 0)))] := hD
  refine xputF1 S hin hK hP hD hS 0 rfl 17 (by decide) q47 rfl rfl (ty := (.array .int)) (v := .ref q9_) (by decide +kernel) rfl rfl (Nat.le_of_ble_eq_true rfl) dX1_init_102 (fun H locs hP hD hS => ?_)
  have hP : va_P D vwCl [(o, .inr (0, [.ref q1_, .ref q2_, .ref q3_, .ref q4_, .ref q5_, .ref q6_, .ref q7_, .ref q8_, .int 0, .int 0, .int 0, .int 0, .int (-16384), .int (-16384), .int 16384, .int 16384, .int 0, .ref q9_, .null])), (q1_, .inl (d, 60, .inl (fun _ => 0))), (q2_, .inl (d, 60, .inl (fun _ => 0))), (q3_, .inl (d, 60, .inl (fun _ => 0))), (q4_, .inl (d, 60, .inl (fun _ => 0))), (q5_, .inl (d, 576, .inl (fun _ => 0))), (q6_, .inl (d, 60, .inl (fun _ => 0))), (q7_, .inl (d, 60, .inl (fun _ => 0))), (q8_, .inl (d, 60, .inl (fun _ => 0))), (q9_, .inl (d, 60, .inl (fun _ => 0)))] H := hP
  have hD : va_D A [(o, .inr (0, [.ref q1_, .ref q2_, .ref q3_, .ref q4_, .ref q5_, .ref q6_, .ref q7_, .ref q8_, .int 0, .int 0, .int 0, .int 0, .int (-16384), .int (-16384), .int 16384, .int 16384, .int 0, .ref q9_, .null])), (q1_, .inl (d, 60, .inl (fun _ => 0))), (q2_, .inl (d, 60, .inl (fun _ => 0))), (q3_, .inl (d, 60, .inl (fun _ => 0))), (q4_, .inl (d, 60, .inl (fun _ => 0))), (q5_, .inl (d, 576, .inl (fun _ => 0))), (q6_, .inl (d, 60, .inl (fun _ => 0))), (q7_, .inl (d, 60, .inl (fun _ => 0))), (q8_, .inl (d, 60, .inl (fun _ => 0))), (q9_, .inl (d, 60, .inl (fun _ => 0)))] := hD
  refine lv_aload_n hx hb dX1_init_105 rfl (lv_at hl 0 rfl) ?_
  refine lv_bipush (v := 60) hx hb dX1_init_106 (by decide) ?_
  refine xnewa hx hb (S.2.2.2.2 _ q88) hK hP hD hS hA 60 (by decide) (by decide) (by decide) (Nat.le_of_ble_eq_true rfl) (Nat.le_of_ble_eq_true rfl) dX1_init_108 (fun q10_ H hP hD hS => ?_)
  have hP : va_P D vwCl [(o, .inr (0, [.ref q1_, .ref q2_, .ref q3_, .ref q4_, .ref q5_, .ref q6_, .ref q7_, .ref q8_, .int 0, .int 0, .int 0, .int 0, .int (-16384), .int (-16384), .int 16384, .int 16384, .int 0, .ref q9_, .null])), (q1_, .inl (d, 60, .inl (fun _ => 0))), (q2_, .inl (d, 60, .inl (fun _ => 0))), (q3_, .inl (d, 60, .inl (fun _ => 0))), (q4_, .inl (d, 60, .inl (fun _ => 0))), (q5_, .inl (d, 576, .inl (fun _ => 0))), (q6_, .inl (d, 60, .inl (fun _ => 0))), (q7_, .inl (d, 60, .inl (fun _ => 0))), (q8_, .inl (d, 60, .inl (fun _ => 0))), (q9_, .inl (d, 60, .inl (fun _ => 0))), (q10_, .inl (d, 60, .inl (fun _ => 0)))] H := hP
  have hD : va_D A [(o, .inr (0, [.ref q1_, .ref q2_, .ref q3_, .ref q4_, .ref q5_, .ref q6_, .ref q7_, .ref q8_, .int 0, .int 0, .int 0, .int 0, .int (-16384), .int (-16384), .int 16384, .int 16384, .int 0, .ref q9_, .null])), (q1_, .inl (d, 60, .inl (fun _ => 0))), (q2_, .inl (d, 60, .inl (fun _ => 0))), (q3_, .inl (d, 60, .inl (fun _ => 0))), (q4_, .inl (d, 60, .inl (fun _ => 0))), (q5_, .inl (d, 576, .inl (fun _ => 0))), (q6_, .inl (d, 60, .inl (fun _ => 0))), (q7_, .inl (d, 60, .inl (fun _ => 0))), (q8_, .inl (d, 60, .inl (fun _ => 0))), (q9_, .inl (d, 60, .inl (fun _ => 0))), (q10_, .inl (d, 60, .inl (fun _ => 0)))] := hD
  refine xputF1 S hin hK hP hD hS 0 rfl 18 (by decide) q48 rfl rfl (ty := (.array .int)) (v := .ref q10_) (by decide +kernel) rfl rfl (Nat.le_of_ble_eq_true rfl) dX1_init_110 (fun H locs hP hD hS => ?_)
  have hP : va_P D vwCl [(o, .inr (0, [.ref q1_, .ref q2_, .ref q3_, .ref q4_, .ref q5_, .ref q6_, .ref q7_, .ref q8_, .int 0, .int 0, .int 0, .int 0, .int (-16384), .int (-16384), .int 16384, .int 16384, .int 0, .ref q9_, .ref q10_])), (q1_, .inl (d, 60, .inl (fun _ => 0))), (q2_, .inl (d, 60, .inl (fun _ => 0))), (q3_, .inl (d, 60, .inl (fun _ => 0))), (q4_, .inl (d, 60, .inl (fun _ => 0))), (q5_, .inl (d, 576, .inl (fun _ => 0))), (q6_, .inl (d, 60, .inl (fun _ => 0))), (q7_, .inl (d, 60, .inl (fun _ => 0))), (q8_, .inl (d, 60, .inl (fun _ => 0))), (q9_, .inl (d, 60, .inl (fun _ => 0))), (q10_, .inl (d, 60, .inl (fun _ => 0)))] H := hP
  have hD : va_D A [(o, .inr (0, [.ref q1_, .ref q2_, .ref q3_, .ref q4_, .ref q5_, .ref q6_, .ref q7_, .ref q8_, .int 0, .int 0, .int 0, .int 0, .int (-16384), .int (-16384), .int 16384, .int 16384, .int 0, .ref q9_, .ref q10_])), (q1_, .inl (d, 60, .inl (fun _ => 0))), (q2_, .inl (d, 60, .inl (fun _ => 0))), (q3_, .inl (d, 60, .inl (fun _ => 0))), (q4_, .inl (d, 60, .inl (fun _ => 0))), (q5_, .inl (d, 576, .inl (fun _ => 0))), (q6_, .inl (d, 60, .inl (fun _ => 0))), (q7_, .inl (d, 60, .inl (fun _ => 0))), (q8_, .inl (d, 60, .inl (fun _ => 0))), (q9_, .inl (d, 60, .inl (fun _ => 0))), (q10_, .inl (d, 60, .inl (fun _ => 0)))] := hD
  refine lv_aload_n hx hb dX1_init_113 rfl (lv_at hl 0 rfl) ?_
  refine lv_iload_n hx hb dX1_init_114 rfl (lv_at hl 1 rfl) ?_
  refine lv_iconst (v := 1) hx hb dX1_init_115 (by decide) ?_
  refine lv_bipush (v := 24) hx hb dX1_init_116 (by decide) ?_
  refine xcSi [.int p0, .int 1, .int 24] S (mtX1_within l p0 1 24 ) q27 siX1_within ⟨rfl, rfl⟩ ⟨Nat.le_of_ble_eq_true rfl, Nat.le_of_ble_eq_true rfl⟩ ⟨Nat.le_of_ble_eq_true rfl, Nat.le_of_ble_eq_true rfl⟩ hl.1 (rest := [.ref o]) rfl (Nat.le_of_ble_eq_true rfl) dX1_init_118 (fun r_ h_ => ?_)
  obtain rfl := h_
  refine xtopi (y := nI w) hw ?_
  refine xputF1 S hin hK hP hD hS 0 rfl 8 (by decide) q38 rfl rfl (ty := .int) (v := .int (nI w)) (by decide +kernel) rfl rfl (Nat.le_of_ble_eq_true rfl) dX1_init_121 (fun H locs hP hD hS => ?_)
  have hP : va_P D vwCl [(o, .inr (0, [.ref q1_, .ref q2_, .ref q3_, .ref q4_, .ref q5_, .ref q6_, .ref q7_, .ref q8_, .int (nI w), .int 0, .int 0, .int 0, .int (-16384), .int (-16384), .int 16384, .int 16384, .int 0, .ref q9_, .ref q10_])), (q1_, .inl (d, 60, .inl (fun _ => 0))), (q2_, .inl (d, 60, .inl (fun _ => 0))), (q3_, .inl (d, 60, .inl (fun _ => 0))), (q4_, .inl (d, 60, .inl (fun _ => 0))), (q5_, .inl (d, 576, .inl (fun _ => 0))), (q6_, .inl (d, 60, .inl (fun _ => 0))), (q7_, .inl (d, 60, .inl (fun _ => 0))), (q8_, .inl (d, 60, .inl (fun _ => 0))), (q9_, .inl (d, 60, .inl (fun _ => 0))), (q10_, .inl (d, 60, .inl (fun _ => 0)))] H := hP
  have hD : va_D A [(o, .inr (0, [.ref q1_, .ref q2_, .ref q3_, .ref q4_, .ref q5_, .ref q6_, .ref q7_, .ref q8_, .int (nI w), .int 0, .int 0, .int 0, .int (-16384), .int (-16384), .int 16384, .int 16384, .int 0, .ref q9_, .ref q10_])), (q1_, .inl (d, 60, .inl (fun _ => 0))), (q2_, .inl (d, 60, .inl (fun _ => 0))), (q3_, .inl (d, 60, .inl (fun _ => 0))), (q4_, .inl (d, 60, .inl (fun _ => 0))), (q5_, .inl (d, 576, .inl (fun _ => 0))), (q6_, .inl (d, 60, .inl (fun _ => 0))), (q7_, .inl (d, 60, .inl (fun _ => 0))), (q8_, .inl (d, 60, .inl (fun _ => 0))), (q9_, .inl (d, 60, .inl (fun _ => 0))), (q10_, .inl (d, 60, .inl (fun _ => 0)))] := hD
  refine lv_aload_n hx hb dX1_init_124 rfl (lv_at hl 0 rfl) ?_
  refine lv_iload_n hx hb dX1_init_125 rfl (lv_at hl 2 rfl) ?_
  refine lv_iconst (v := 1) hx hb dX1_init_126 (by decide) ?_
  refine lv_bipush (v := 24) hx hb dX1_init_127 (by decide) ?_
  refine xcSi [.int p1, .int 1, .int 24] S (mtX1_within l p1 1 24 ) q27 siX1_within ⟨rfl, rfl⟩ ⟨Nat.le_of_ble_eq_true rfl, Nat.le_of_ble_eq_true rfl⟩ ⟨Nat.le_of_ble_eq_true rfl, Nat.le_of_ble_eq_true rfl⟩ hl.1 (rest := [.ref o]) rfl (Nat.le_of_ble_eq_true rfl) dX1_init_129 (fun r_ h_ => ?_)
  obtain rfl := h_
  refine xtopi (y := nI h) hh ?_
  refine xputF1 S hin hK hP hD hS 0 rfl 9 (by decide) q39 rfl rfl (ty := .int) (v := .int (nI h)) (by decide +kernel) rfl rfl (Nat.le_of_ble_eq_true rfl) dX1_init_132 (fun H locs hP hD hS => ?_)
  have hP : va_P D vwCl [(o, .inr (0, [.ref q1_, .ref q2_, .ref q3_, .ref q4_, .ref q5_, .ref q6_, .ref q7_, .ref q8_, .int (nI w), .int (nI h), .int 0, .int 0, .int (-16384), .int (-16384), .int 16384, .int 16384, .int 0, .ref q9_, .ref q10_])), (q1_, .inl (d, 60, .inl (fun _ => 0))), (q2_, .inl (d, 60, .inl (fun _ => 0))), (q3_, .inl (d, 60, .inl (fun _ => 0))), (q4_, .inl (d, 60, .inl (fun _ => 0))), (q5_, .inl (d, 576, .inl (fun _ => 0))), (q6_, .inl (d, 60, .inl (fun _ => 0))), (q7_, .inl (d, 60, .inl (fun _ => 0))), (q8_, .inl (d, 60, .inl (fun _ => 0))), (q9_, .inl (d, 60, .inl (fun _ => 0))), (q10_, .inl (d, 60, .inl (fun _ => 0)))] H := hP
  have hD : va_D A [(o, .inr (0, [.ref q1_, .ref q2_, .ref q3_, .ref q4_, .ref q5_, .ref q6_, .ref q7_, .ref q8_, .int (nI w), .int (nI h), .int 0, .int 0, .int (-16384), .int (-16384), .int 16384, .int 16384, .int 0, .ref q9_, .ref q10_])), (q1_, .inl (d, 60, .inl (fun _ => 0))), (q2_, .inl (d, 60, .inl (fun _ => 0))), (q3_, .inl (d, 60, .inl (fun _ => 0))), (q4_, .inl (d, 60, .inl (fun _ => 0))), (q5_, .inl (d, 576, .inl (fun _ => 0))), (q6_, .inl (d, 60, .inl (fun _ => 0))), (q7_, .inl (d, 60, .inl (fun _ => 0))), (q8_, .inl (d, 60, .inl (fun _ => 0))), (q9_, .inl (d, 60, .inl (fun _ => 0))), (q10_, .inl (d, 60, .inl (fun _ => 0)))] := hD
  refine lv_aload_n hx hb dX1_init_135 rfl (lv_at hl 0 rfl) ?_
  refine lv_iload_n hx hb dX1_init_136 rfl (lv_at hl 3 rfl) ?_
  refine lv_iconst (v := 3) hx hb dX1_init_137 (by decide) ?_
  refine lv_bipush (v := 60) hx hb dX1_init_138 (by decide) ?_
  refine xcSi [.int p2, .int 3, .int 60] S (mtX1_within l p2 3 60 ) q27 siX1_within ⟨rfl, rfl⟩ ⟨Nat.le_of_ble_eq_true rfl, Nat.le_of_ble_eq_true rfl⟩ ⟨Nat.le_of_ble_eq_true rfl, Nat.le_of_ble_eq_true rfl⟩ hl.1 (rest := [.ref o]) rfl (Nat.le_of_ble_eq_true rfl) dX1_init_140 (fun r_ h_ => ?_)
  obtain rfl := h_
  refine xtopi (y := nI C) hC ?_
  refine xputF1 S hin hK hP hD hS 0 rfl 10 (by decide) q40 rfl rfl (ty := .int) (v := .int (nI C)) (by decide +kernel) rfl rfl (Nat.le_of_ble_eq_true rfl) dX1_init_143 (fun H locs hP hD hS => ?_)
  have hP : va_P D vwCl [(o, .inr (0, [.ref q1_, .ref q2_, .ref q3_, .ref q4_, .ref q5_, .ref q6_, .ref q7_, .ref q8_, .int (nI w), .int (nI h), .int (nI C), .int 0, .int (-16384), .int (-16384), .int 16384, .int 16384, .int 0, .ref q9_, .ref q10_])), (q1_, .inl (d, 60, .inl (fun _ => 0))), (q2_, .inl (d, 60, .inl (fun _ => 0))), (q3_, .inl (d, 60, .inl (fun _ => 0))), (q4_, .inl (d, 60, .inl (fun _ => 0))), (q5_, .inl (d, 576, .inl (fun _ => 0))), (q6_, .inl (d, 60, .inl (fun _ => 0))), (q7_, .inl (d, 60, .inl (fun _ => 0))), (q8_, .inl (d, 60, .inl (fun _ => 0))), (q9_, .inl (d, 60, .inl (fun _ => 0))), (q10_, .inl (d, 60, .inl (fun _ => 0)))] H := hP
  have hD : va_D A [(o, .inr (0, [.ref q1_, .ref q2_, .ref q3_, .ref q4_, .ref q5_, .ref q6_, .ref q7_, .ref q8_, .int (nI w), .int (nI h), .int (nI C), .int 0, .int (-16384), .int (-16384), .int 16384, .int 16384, .int 0, .ref q9_, .ref q10_])), (q1_, .inl (d, 60, .inl (fun _ => 0))), (q2_, .inl (d, 60, .inl (fun _ => 0))), (q3_, .inl (d, 60, .inl (fun _ => 0))), (q4_, .inl (d, 60, .inl (fun _ => 0))), (q5_, .inl (d, 576, .inl (fun _ => 0))), (q6_, .inl (d, 60, .inl (fun _ => 0))), (q7_, .inl (d, 60, .inl (fun _ => 0))), (q8_, .inl (d, 60, .inl (fun _ => 0))), (q9_, .inl (d, 60, .inl (fun _ => 0))), (q10_, .inl (d, 60, .inl (fun _ => 0)))] := hD
  refine W.widen (k := 10) (n := 1116) (Nat.le_of_ble_eq_true rfl) (Nat.le_of_ble_eq_true rfl) ?_
  exact xretMv hx hb hr hlk hK hS dX1_init_146 (adr [o, q1_, q2_, q3_, q4_, q5_, q6_, q7_, q8_, q9_, q10_]) hP hD rfl

set_option maxHeartbeats 4000000 in
set_option maxRecDepth 100000 in
/-- PolygonFrameModel(w, h, cap): rows of zeros, the sizes held between -/
theorem mtX2_init (l : Launch) (D : va_G) (d : ClassId) (o : Nat) (p0 p1 p2 : Int32) (w h C : Nat) (hw : clampI p0 1 24 = nI w) (hh : clampI p1 1 24 = nI h) (hC : clampI p2 3 60 = nI C) (sz : Nat) : Met l yX2_init (ws_ yX2_init cX2_init 4 none) ({ frames := 1, cells := 7, slots := 936, locals := 22 } : Room) (PcM [.ref o, .int p0, .int p1, .int p2] D [(o, .inr (1, [.int 0, .int 0, .int 0, .null, .null, .null, .int 0, .null, .null, .null, .null, .int 0, .int 0, .int 0, .int 0, .int 0, .int 0]))] [(d, .int)] sz) (va_Qv (fun (u_ : Nat → Nat) => u_ 0 = o) (fun (u_ : Nat → Nat) t => QB D [(d, .int)] (va_A [(o, .inr (1, [.int 0, .int 0, .int 0, .null, .null, .null, .int 0, .null, .null, .null, .null, .int 0, .int 0, .int 0, .int 0, .int 0, .int 0]))] sz) (wM d u_ (fun _ => 0) (fun _ => 0) (fun _ => 0) (fun _ => 0) (fun _ => 0) (fun _ => 0) (fun _ => 0) w h C 0 0 0 (-16384) 16384 (-16384) 16384) t) (va_A [(o, .inr (1, [.int 0, .int 0, .int 0, .null, .null, .null, .int 0, .null, .null, .null, .null, .int 0, .int 0, .int 0, .int 0, .int 0, .int 0]))] sz)) 7 936 (va_A [(o, .inr (1, [.int 0, .int 0, .int 0, .null, .null, .null, .int 0, .null, .null, .null, .null, .int 0, .int 0, .int 0, .int 0, .int 0, .int 0]))] sz) := by
  refine xMetM (Qf := fun A => (va_Qv (fun (u_ : Nat → Nat) => u_ 0 = o) (fun (u_ : Nat → Nat) t => QB D [(d, .int)] A (wM d u_ (fun _ => 0) (fun _ => 0) (fun _ => 0) (fun _ => 0) (fun _ => 0) (fun _ => 0) (fun _ => 0) w h C 0 0 0 (-16384) 16384 (-16384) 16384) t) A)) (by decide) (Nat.le_of_ble_eq_true rfl) ?_
  intro p e s m below meth c ls A H locs S hr hlk hl hP hK hD hS hA hin
  have S : CallFix p m c cX2_init 4 s _ lw_all RX2 := S
  have hx := S.1
  have hb := S.2.1
  have hin := hin rfl
  have hl : lv_has ls 4 [(0, .ref o), (1, .int p0), (2, .int p1), (3, .int p2)] := hl
  have hP : va_P D vwCl [(o, .inr (1, [.int 0, .int 0, .int 0, .null, .null, .null, .int 0, .null, .null, .null, .null, .int 0, .int 0, .int 0, .int 0, .int 0, .int 0]))] H := hP
  have hD : va_D A [(o, .inr (1, [.int 0, .int 0, .int 0, .null, .null, .null, .int 0, .null, .null, .null, .null, .int 0, .int 0, .int 0, .int 0, .int 0, .int 0]))] := hD
  refine lv_aload_n hx hb dX2_init_0 rfl (lv_at hl 0 rfl) ?_
  refine W.objInit hx hb S.2.2.2.1 (S.2.2.2.2 _ q194) (S.2.2.2.2 _ q25) (S.2.2.2.2 _ q26) rfl (by rw [S.2.2.1]; exact hl.1) rfl dX2_init_1 (Nat.le_of_ble_eq_true rfl) (Nat.le_of_ble_eq_true rfl) ?_
  refine W.eq (g2 := F0 m 4 ls []) rfl ?_
  refine lv_aload_n hx hb dX2_init_4 rfl (lv_at hl 0 rfl) ?_
  refine lv_sipush (v := 576) hx hb dX2_init_5 (by decide) ?_
  refine xnewa hx hb (S.2.2.2.2 _ q88) hK hP hD hS hA 576 (by decide) (by decide) (by decide) (Nat.le_of_ble_eq_true rfl) (Nat.le_of_ble_eq_true rfl) dX2_init_8 (fun q1_ H hP hD hS => ?_)
  have hP : va_P D vwCl [(o, .inr (1, [.int 0, .int 0, .int 0, .null, .null, .null, .int 0, .null, .null, .null, .null, .int 0, .int 0, .int 0, .int 0, .int 0, .int 0])), (q1_, .inl (d, 576, .inl (fun _ => 0)))] H := hP
  have hD : va_D A [(o, .inr (1, [.int 0, .int 0, .int 0, .null, .null, .null, .int 0, .null, .null, .null, .null, .int 0, .int 0, .int 0, .int 0, .int 0, .int 0])), (q1_, .inl (d, 576, .inl (fun _ => 0)))] := hD
  refine xputF2 S hin hK hP hD hS 0 rfl 3 (by decide) q201 rfl rfl (ty := (.array .int)) (v := .ref q1_) (by decide +kernel) rfl rfl (Nat.le_of_ble_eq_true rfl) dX2_init_10 (fun H locs hP hD hS => ?_)
  have hP : va_P D vwCl [(o, .inr (1, [.int 0, .int 0, .int 0, .ref q1_, .null, .null, .int 0, .null, .null, .null, .null, .int 0, .int 0, .int 0, .int 0, .int 0, .int 0])), (q1_, .inl (d, 576, .inl (fun _ => 0)))] H := hP
  have hD : va_D A [(o, .inr (1, [.int 0, .int 0, .int 0, .ref q1_, .null, .null, .int 0, .null, .null, .null, .null, .int 0, .int 0, .int 0, .int 0, .int 0, .int 0])), (q1_, .inl (d, 576, .inl (fun _ => 0)))] := hD
  refine lv_aload_n hx hb dX2_init_13 rfl (lv_at hl 0 rfl) ?_
  refine lv_bipush (v := 60) hx hb dX2_init_14 (by decide) ?_
  refine xnewa hx hb (S.2.2.2.2 _ q88) hK hP hD hS hA 60 (by decide) (by decide) (by decide) (Nat.le_of_ble_eq_true rfl) (Nat.le_of_ble_eq_true rfl) dX2_init_16 (fun q2_ H hP hD hS => ?_)
  have hP : va_P D vwCl [(o, .inr (1, [.int 0, .int 0, .int 0, .ref q1_, .null, .null, .int 0, .null, .null, .null, .null, .int 0, .int 0, .int 0, .int 0, .int 0, .int 0])), (q1_, .inl (d, 576, .inl (fun _ => 0))), (q2_, .inl (d, 60, .inl (fun _ => 0)))] H := hP
  have hD : va_D A [(o, .inr (1, [.int 0, .int 0, .int 0, .ref q1_, .null, .null, .int 0, .null, .null, .null, .null, .int 0, .int 0, .int 0, .int 0, .int 0, .int 0])), (q1_, .inl (d, 576, .inl (fun _ => 0))), (q2_, .inl (d, 60, .inl (fun _ => 0)))] := hD
  refine xputF2 S hin hK hP hD hS 0 rfl 4 (by decide) q202 rfl rfl (ty := (.array .int)) (v := .ref q2_) (by decide +kernel) rfl rfl (Nat.le_of_ble_eq_true rfl) dX2_init_18 (fun H locs hP hD hS => ?_)
  have hP : va_P D vwCl [(o, .inr (1, [.int 0, .int 0, .int 0, .ref q1_, .ref q2_, .null, .int 0, .null, .null, .null, .null, .int 0, .int 0, .int 0, .int 0, .int 0, .int 0])), (q1_, .inl (d, 576, .inl (fun _ => 0))), (q2_, .inl (d, 60, .inl (fun _ => 0)))] H := hP
  have hD : va_D A [(o, .inr (1, [.int 0, .int 0, .int 0, .ref q1_, .ref q2_, .null, .int 0, .null, .null, .null, .null, .int 0, .int 0, .int 0, .int 0, .int 0, .int 0])), (q1_, .inl (d, 576, .inl (fun _ => 0))), (q2_, .inl (d, 60, .inl (fun _ => 0)))] := hD
  refine lv_aload_n hx hb dX2_init_21 rfl (lv_at hl 0 rfl) ?_
  refine lv_bipush (v := 60) hx hb dX2_init_22 (by decide) ?_
  refine xnewa hx hb (S.2.2.2.2 _ q88) hK hP hD hS hA 60 (by decide) (by decide) (by decide) (Nat.le_of_ble_eq_true rfl) (Nat.le_of_ble_eq_true rfl) dX2_init_24 (fun q3_ H hP hD hS => ?_)
  have hP : va_P D vwCl [(o, .inr (1, [.int 0, .int 0, .int 0, .ref q1_, .ref q2_, .null, .int 0, .null, .null, .null, .null, .int 0, .int 0, .int 0, .int 0, .int 0, .int 0])), (q1_, .inl (d, 576, .inl (fun _ => 0))), (q2_, .inl (d, 60, .inl (fun _ => 0))), (q3_, .inl (d, 60, .inl (fun _ => 0)))] H := hP
  have hD : va_D A [(o, .inr (1, [.int 0, .int 0, .int 0, .ref q1_, .ref q2_, .null, .int 0, .null, .null, .null, .null, .int 0, .int 0, .int 0, .int 0, .int 0, .int 0])), (q1_, .inl (d, 576, .inl (fun _ => 0))), (q2_, .inl (d, 60, .inl (fun _ => 0))), (q3_, .inl (d, 60, .inl (fun _ => 0)))] := hD
  refine xputF2 S hin hK hP hD hS 0 rfl 5 (by decide) q203 rfl rfl (ty := (.array .int)) (v := .ref q3_) (by decide +kernel) rfl rfl (Nat.le_of_ble_eq_true rfl) dX2_init_26 (fun H locs hP hD hS => ?_)
  have hP : va_P D vwCl [(o, .inr (1, [.int 0, .int 0, .int 0, .ref q1_, .ref q2_, .ref q3_, .int 0, .null, .null, .null, .null, .int 0, .int 0, .int 0, .int 0, .int 0, .int 0])), (q1_, .inl (d, 576, .inl (fun _ => 0))), (q2_, .inl (d, 60, .inl (fun _ => 0))), (q3_, .inl (d, 60, .inl (fun _ => 0)))] H := hP
  have hD : va_D A [(o, .inr (1, [.int 0, .int 0, .int 0, .ref q1_, .ref q2_, .ref q3_, .int 0, .null, .null, .null, .null, .int 0, .int 0, .int 0, .int 0, .int 0, .int 0])), (q1_, .inl (d, 576, .inl (fun _ => 0))), (q2_, .inl (d, 60, .inl (fun _ => 0))), (q3_, .inl (d, 60, .inl (fun _ => 0)))] := hD
  refine lv_aload_n hx hb dX2_init_29 rfl (lv_at hl 0 rfl) ?_
  refine lv_bipush (v := 60) hx hb dX2_init_30 (by decide) ?_
  refine xnewa hx hb (S.2.2.2.2 _ q88) hK hP hD hS hA 60 (by decide) (by decide) (by decide) (Nat.le_of_ble_eq_true rfl) (Nat.le_of_ble_eq_true rfl) dX2_init_32 (fun q4_ H hP hD hS => ?_)
  have hP : va_P D vwCl [(o, .inr (1, [.int 0, .int 0, .int 0, .ref q1_, .ref q2_, .ref q3_, .int 0, .null, .null, .null, .null, .int 0, .int 0, .int 0, .int 0, .int 0, .int 0])), (q1_, .inl (d, 576, .inl (fun _ => 0))), (q2_, .inl (d, 60, .inl (fun _ => 0))), (q3_, .inl (d, 60, .inl (fun _ => 0))), (q4_, .inl (d, 60, .inl (fun _ => 0)))] H := hP
  have hD : va_D A [(o, .inr (1, [.int 0, .int 0, .int 0, .ref q1_, .ref q2_, .ref q3_, .int 0, .null, .null, .null, .null, .int 0, .int 0, .int 0, .int 0, .int 0, .int 0])), (q1_, .inl (d, 576, .inl (fun _ => 0))), (q2_, .inl (d, 60, .inl (fun _ => 0))), (q3_, .inl (d, 60, .inl (fun _ => 0))), (q4_, .inl (d, 60, .inl (fun _ => 0)))] := hD
  refine xputF2 S hin hK hP hD hS 0 rfl 7 (by decide) q205 rfl rfl (ty := (.array .int)) (v := .ref q4_) (by decide +kernel) rfl rfl (Nat.le_of_ble_eq_true rfl) dX2_init_34 (fun H locs hP hD hS => ?_)
  have hP : va_P D vwCl [(o, .inr (1, [.int 0, .int 0, .int 0, .ref q1_, .ref q2_, .ref q3_, .int 0, .ref q4_, .null, .null, .null, .int 0, .int 0, .int 0, .int 0, .int 0, .int 0])), (q1_, .inl (d, 576, .inl (fun _ => 0))), (q2_, .inl (d, 60, .inl (fun _ => 0))), (q3_, .inl (d, 60, .inl (fun _ => 0))), (q4_, .inl (d, 60, .inl (fun _ => 0)))] H := hP
  have hD : va_D A [(o, .inr (1, [.int 0, .int 0, .int 0, .ref q1_, .ref q2_, .ref q3_, .int 0, .ref q4_, .null, .null, .null, .int 0, .int 0, .int 0, .int 0, .int 0, .int 0])), (q1_, .inl (d, 576, .inl (fun _ => 0))), (q2_, .inl (d, 60, .inl (fun _ => 0))), (q3_, .inl (d, 60, .inl (fun _ => 0))), (q4_, .inl (d, 60, .inl (fun _ => 0)))] := hD
  refine lv_aload_n hx hb dX2_init_37 rfl (lv_at hl 0 rfl) ?_
  refine lv_bipush (v := 60) hx hb dX2_init_38 (by decide) ?_
  refine xnewa hx hb (S.2.2.2.2 _ q88) hK hP hD hS hA 60 (by decide) (by decide) (by decide) (Nat.le_of_ble_eq_true rfl) (Nat.le_of_ble_eq_true rfl) dX2_init_40 (fun q5_ H hP hD hS => ?_)
  have hP : va_P D vwCl [(o, .inr (1, [.int 0, .int 0, .int 0, .ref q1_, .ref q2_, .ref q3_, .int 0, .ref q4_, .null, .null, .null, .int 0, .int 0, .int 0, .int 0, .int 0, .int 0])), (q1_, .inl (d, 576, .inl (fun _ => 0))), (q2_, .inl (d, 60, .inl (fun _ => 0))), (q3_, .inl (d, 60, .inl (fun _ => 0))), (q4_, .inl (d, 60, .inl (fun _ => 0))), (q5_, .inl (d, 60, .inl (fun _ => 0)))] H := hP
  have hD : va_D A [(o, .inr (1, [.int 0, .int 0, .int 0, .ref q1_, .ref q2_, .ref q3_, .int 0, .ref q4_, .null, .null, .null, .int 0, .int 0, .int 0, .int 0, .int 0, .int 0])), (q1_, .inl (d, 576, .inl (fun _ => 0))), (q2_, .inl (d, 60, .inl (fun _ => 0))), (q3_, .inl (d, 60, .inl (fun _ => 0))), (q4_, .inl (d, 60, .inl (fun _ => 0))), (q5_, .inl (d, 60, .inl (fun _ => 0)))] := hD
  refine xputF2 S hin hK hP hD hS 0 rfl 8 (by decide) q206 rfl rfl (ty := (.array .int)) (v := .ref q5_) (by decide +kernel) rfl rfl (Nat.le_of_ble_eq_true rfl) dX2_init_42 (fun H locs hP hD hS => ?_)
  have hP : va_P D vwCl [(o, .inr (1, [.int 0, .int 0, .int 0, .ref q1_, .ref q2_, .ref q3_, .int 0, .ref q4_, .ref q5_, .null, .null, .int 0, .int 0, .int 0, .int 0, .int 0, .int 0])), (q1_, .inl (d, 576, .inl (fun _ => 0))), (q2_, .inl (d, 60, .inl (fun _ => 0))), (q3_, .inl (d, 60, .inl (fun _ => 0))), (q4_, .inl (d, 60, .inl (fun _ => 0))), (q5_, .inl (d, 60, .inl (fun _ => 0)))] H := hP
  have hD : va_D A [(o, .inr (1, [.int 0, .int 0, .int 0, .ref q1_, .ref q2_, .ref q3_, .int 0, .ref q4_, .ref q5_, .null, .null, .int 0, .int 0, .int 0, .int 0, .int 0, .int 0])), (q1_, .inl (d, 576, .inl (fun _ => 0))), (q2_, .inl (d, 60, .inl (fun _ => 0))), (q3_, .inl (d, 60, .inl (fun _ => 0))), (q4_, .inl (d, 60, .inl (fun _ => 0))), (q5_, .inl (d, 60, .inl (fun _ => 0)))] := hD
  refine lv_aload_n hx hb dX2_init_45 rfl (lv_at hl 0 rfl) ?_
  refine lv_bipush (v := 60) hx hb dX2_init_46 (by decide) ?_
  refine xnewa hx hb (S.2.2.2.2 _ q88) hK hP hD hS hA 60 (by decide) (by decide) (by decide) (Nat.le_of_ble_eq_true rfl) (Nat.le_of_ble_eq_true rfl) dX2_init_48 (fun q6_ H hP hD hS => ?_)
  have hP : va_P D vwCl [(o, .inr (1, [.int 0, .int 0, .int 0, .ref q1_, .ref q2_, .ref q3_, .int 0, .ref q4_, .ref q5_, .null, .null, .int 0, .int 0, .int 0, .int 0, .int 0, .int 0])), (q1_, .inl (d, 576, .inl (fun _ => 0))), (q2_, .inl (d, 60, .inl (fun _ => 0))), (q3_, .inl (d, 60, .inl (fun _ => 0))), (q4_, .inl (d, 60, .inl (fun _ => 0))), (q5_, .inl (d, 60, .inl (fun _ => 0))), (q6_, .inl (d, 60, .inl (fun _ => 0)))] H := hP
  have hD : va_D A [(o, .inr (1, [.int 0, .int 0, .int 0, .ref q1_, .ref q2_, .ref q3_, .int 0, .ref q4_, .ref q5_, .null, .null, .int 0, .int 0, .int 0, .int 0, .int 0, .int 0])), (q1_, .inl (d, 576, .inl (fun _ => 0))), (q2_, .inl (d, 60, .inl (fun _ => 0))), (q3_, .inl (d, 60, .inl (fun _ => 0))), (q4_, .inl (d, 60, .inl (fun _ => 0))), (q5_, .inl (d, 60, .inl (fun _ => 0))), (q6_, .inl (d, 60, .inl (fun _ => 0)))] := hD
  refine xputF2 S hin hK hP hD hS 0 rfl 9 (by decide) q207 rfl rfl (ty := (.array .int)) (v := .ref q6_) (by decide +kernel) rfl rfl (Nat.le_of_ble_eq_true rfl) dX2_init_50 (fun H locs hP hD hS => ?_)
  have hP : va_P D vwCl [(o, .inr (1, [.int 0, .int 0, .int 0, .ref q1_, .ref q2_, .ref q3_, .int 0, .ref q4_, .ref q5_, .ref q6_, .null, .int 0, .int 0, .int 0, .int 0, .int 0, .int 0])), (q1_, .inl (d, 576, .inl (fun _ => 0))), (q2_, .inl (d, 60, .inl (fun _ => 0))), (q3_, .inl (d, 60, .inl (fun _ => 0))), (q4_, .inl (d, 60, .inl (fun _ => 0))), (q5_, .inl (d, 60, .inl (fun _ => 0))), (q6_, .inl (d, 60, .inl (fun _ => 0)))] H := hP
  have hD : va_D A [(o, .inr (1, [.int 0, .int 0, .int 0, .ref q1_, .ref q2_, .ref q3_, .int 0, .ref q4_, .ref q5_, .ref q6_, .null, .int 0, .int 0, .int 0, .int 0, .int 0, .int 0])), (q1_, .inl (d, 576, .inl (fun _ => 0))), (q2_, .inl (d, 60, .inl (fun _ => 0))), (q3_, .inl (d, 60, .inl (fun _ => 0))), (q4_, .inl (d, 60, .inl (fun _ => 0))), (q5_, .inl (d, 60, .inl (fun _ => 0))), (q6_, .inl (d, 60, .inl (fun _ => 0)))] := hD
  refine lv_aload_n hx hb dX2_init_53 rfl (lv_at hl 0 rfl) ?_
  refine lv_bipush (v := 60) hx hb dX2_init_54 (by decide) ?_
  refine xnewa hx hb (S.2.2.2.2 _ q88) hK hP hD hS hA 60 (by decide) (by decide) (by decide) (Nat.le_of_ble_eq_true rfl) (Nat.le_of_ble_eq_true rfl) dX2_init_56 (fun q7_ H hP hD hS => ?_)
  have hP : va_P D vwCl [(o, .inr (1, [.int 0, .int 0, .int 0, .ref q1_, .ref q2_, .ref q3_, .int 0, .ref q4_, .ref q5_, .ref q6_, .null, .int 0, .int 0, .int 0, .int 0, .int 0, .int 0])), (q1_, .inl (d, 576, .inl (fun _ => 0))), (q2_, .inl (d, 60, .inl (fun _ => 0))), (q3_, .inl (d, 60, .inl (fun _ => 0))), (q4_, .inl (d, 60, .inl (fun _ => 0))), (q5_, .inl (d, 60, .inl (fun _ => 0))), (q6_, .inl (d, 60, .inl (fun _ => 0))), (q7_, .inl (d, 60, .inl (fun _ => 0)))] H := hP
  have hD : va_D A [(o, .inr (1, [.int 0, .int 0, .int 0, .ref q1_, .ref q2_, .ref q3_, .int 0, .ref q4_, .ref q5_, .ref q6_, .null, .int 0, .int 0, .int 0, .int 0, .int 0, .int 0])), (q1_, .inl (d, 576, .inl (fun _ => 0))), (q2_, .inl (d, 60, .inl (fun _ => 0))), (q3_, .inl (d, 60, .inl (fun _ => 0))), (q4_, .inl (d, 60, .inl (fun _ => 0))), (q5_, .inl (d, 60, .inl (fun _ => 0))), (q6_, .inl (d, 60, .inl (fun _ => 0))), (q7_, .inl (d, 60, .inl (fun _ => 0)))] := hD
  refine xputF2 S hin hK hP hD hS 0 rfl 10 (by decide) q208 rfl rfl (ty := (.array .int)) (v := .ref q7_) (by decide +kernel) rfl rfl (Nat.le_of_ble_eq_true rfl) dX2_init_58 (fun H locs hP hD hS => ?_)
  have hP : va_P D vwCl [(o, .inr (1, [.int 0, .int 0, .int 0, .ref q1_, .ref q2_, .ref q3_, .int 0, .ref q4_, .ref q5_, .ref q6_, .ref q7_, .int 0, .int 0, .int 0, .int 0, .int 0, .int 0])), (q1_, .inl (d, 576, .inl (fun _ => 0))), (q2_, .inl (d, 60, .inl (fun _ => 0))), (q3_, .inl (d, 60, .inl (fun _ => 0))), (q4_, .inl (d, 60, .inl (fun _ => 0))), (q5_, .inl (d, 60, .inl (fun _ => 0))), (q6_, .inl (d, 60, .inl (fun _ => 0))), (q7_, .inl (d, 60, .inl (fun _ => 0)))] H := hP
  have hD : va_D A [(o, .inr (1, [.int 0, .int 0, .int 0, .ref q1_, .ref q2_, .ref q3_, .int 0, .ref q4_, .ref q5_, .ref q6_, .ref q7_, .int 0, .int 0, .int 0, .int 0, .int 0, .int 0])), (q1_, .inl (d, 576, .inl (fun _ => 0))), (q2_, .inl (d, 60, .inl (fun _ => 0))), (q3_, .inl (d, 60, .inl (fun _ => 0))), (q4_, .inl (d, 60, .inl (fun _ => 0))), (q5_, .inl (d, 60, .inl (fun _ => 0))), (q6_, .inl (d, 60, .inl (fun _ => 0))), (q7_, .inl (d, 60, .inl (fun _ => 0)))] := hD
  refine lv_aload_n hx hb dX2_init_61 rfl (lv_at hl 0 rfl) ?_
  refine lv_sipush (v := (-16384)) hx hb dX2_init_62 (by decide) ?_
  refine xput2 S hK hP hD hS 0 rfl 13 (by decide) q211 rfl rfl (by decide +kernel) (Nat.le_of_ble_eq_true rfl) dX2_init_65 (fun H locs hP hD hS => ?_)
  have hP : va_P D vwCl [(o, .inr (1, [.int 0, .int 0, .int 0, .ref q1_, .ref q2_, .ref q3_, .int 0, .ref q4_, .ref q5_, .ref q6_, .ref q7_, .int 0, .int 0, .int (-16384), .int 0, .int 0, .int 0])), (q1_, .inl (d, 576, .inl (fun _ => 0))), (q2_, .inl (d, 60, .inl (fun _ => 0))), (q3_, .inl (d, 60, .inl (fun _ => 0))), (q4_, .inl (d, 60, .inl (fun _ => 0))), (q5_, .inl (d, 60, .inl (fun _ => 0))), (q6_, .inl (d, 60, .inl (fun _ => 0))), (q7_, .inl (d, 60, .inl (fun _ => 0)))] H := hP
  have hD : va_D A [(o, .inr (1, [.int 0, .int 0, .int 0, .ref q1_, .ref q2_, .ref q3_, .int 0, .ref q4_, .ref q5_, .ref q6_, .ref q7_, .int 0, .int 0, .int (-16384), .int 0, .int 0, .int 0])), (q1_, .inl (d, 576, .inl (fun _ => 0))), (q2_, .inl (d, 60, .inl (fun _ => 0))), (q3_, .inl (d, 60, .inl (fun _ => 0))), (q4_, .inl (d, 60, .inl (fun _ => 0))), (q5_, .inl (d, 60, .inl (fun _ => 0))), (q6_, .inl (d, 60, .inl (fun _ => 0))), (q7_, .inl (d, 60, .inl (fun _ => 0)))] := hD
  refine lv_aload_n hx hb dX2_init_68 rfl (lv_at hl 0 rfl) ?_
  refine lv_sipush (v := 16384) hx hb dX2_init_69 (by decide) ?_
  refine xput2 S hK hP hD hS 0 rfl 14 (by decide) q212 rfl rfl (by decide +kernel) (Nat.le_of_ble_eq_true rfl) dX2_init_72 (fun H locs hP hD hS => ?_)
  have hP : va_P D vwCl [(o, .inr (1, [.int 0, .int 0, .int 0, .ref q1_, .ref q2_, .ref q3_, .int 0, .ref q4_, .ref q5_, .ref q6_, .ref q7_, .int 0, .int 0, .int (-16384), .int 16384, .int 0, .int 0])), (q1_, .inl (d, 576, .inl (fun _ => 0))), (q2_, .inl (d, 60, .inl (fun _ => 0))), (q3_, .inl (d, 60, .inl (fun _ => 0))), (q4_, .inl (d, 60, .inl (fun _ => 0))), (q5_, .inl (d, 60, .inl (fun _ => 0))), (q6_, .inl (d, 60, .inl (fun _ => 0))), (q7_, .inl (d, 60, .inl (fun _ => 0)))] H := hP
  have hD : va_D A [(o, .inr (1, [.int 0, .int 0, .int 0, .ref q1_, .ref q2_, .ref q3_, .int 0, .ref q4_, .ref q5_, .ref q6_, .ref q7_, .int 0, .int 0, .int (-16384), .int 16384, .int 0, .int 0])), (q1_, .inl (d, 576, .inl (fun _ => 0))), (q2_, .inl (d, 60, .inl (fun _ => 0))), (q3_, .inl (d, 60, .inl (fun _ => 0))), (q4_, .inl (d, 60, .inl (fun _ => 0))), (q5_, .inl (d, 60, .inl (fun _ => 0))), (q6_, .inl (d, 60, .inl (fun _ => 0))), (q7_, .inl (d, 60, .inl (fun _ => 0)))] := hD
  refine lv_aload_n hx hb dX2_init_75 rfl (lv_at hl 0 rfl) ?_
  refine lv_sipush (v := (-16384)) hx hb dX2_init_76 (by decide) ?_
  refine xput2 S hK hP hD hS 0 rfl 15 (by decide) q213 rfl rfl (by decide +kernel) (Nat.le_of_ble_eq_true rfl) dX2_init_79 (fun H locs hP hD hS => ?_)
  have hP : va_P D vwCl [(o, .inr (1, [.int 0, .int 0, .int 0, .ref q1_, .ref q2_, .ref q3_, .int 0, .ref q4_, .ref q5_, .ref q6_, .ref q7_, .int 0, .int 0, .int (-16384), .int 16384, .int (-16384), .int 0])), (q1_, .inl (d, 576, .inl (fun _ => 0))), (q2_, .inl (d, 60, .inl (fun _ => 0))), (q3_, .inl (d, 60, .inl (fun _ => 0))), (q4_, .inl (d, 60, .inl (fun _ => 0))), (q5_, .inl (d, 60, .inl (fun _ => 0))), (q6_, .inl (d, 60, .inl (fun _ => 0))), (q7_, .inl (d, 60, .inl (fun _ => 0)))] H := hP
  have hD : va_D A [(o, .inr (1, [.int 0, .int 0, .int 0, .ref q1_, .ref q2_, .ref q3_, .int 0, .ref q4_, .ref q5_, .ref q6_, .ref q7_, .int 0, .int 0, .int (-16384), .int 16384, .int (-16384), .int 0])), (q1_, .inl (d, 576, .inl (fun _ => 0))), (q2_, .inl (d, 60, .inl (fun _ => 0))), (q3_, .inl (d, 60, .inl (fun _ => 0))), (q4_, .inl (d, 60, .inl (fun _ => 0))), (q5_, .inl (d, 60, .inl (fun _ => 0))), (q6_, .inl (d, 60, .inl (fun _ => 0))), (q7_, .inl (d, 60, .inl (fun _ => 0)))] := hD
  refine lv_aload_n hx hb dX2_init_82 rfl (lv_at hl 0 rfl) ?_
  refine lv_sipush (v := 16384) hx hb dX2_init_83 (by decide) ?_
  refine xput2 S hK hP hD hS 0 rfl 16 (by decide) q214 rfl rfl (by decide +kernel) (Nat.le_of_ble_eq_true rfl) dX2_init_86 (fun H locs hP hD hS => ?_)
  have hP : va_P D vwCl [(o, .inr (1, [.int 0, .int 0, .int 0, .ref q1_, .ref q2_, .ref q3_, .int 0, .ref q4_, .ref q5_, .ref q6_, .ref q7_, .int 0, .int 0, .int (-16384), .int 16384, .int (-16384), .int 16384])), (q1_, .inl (d, 576, .inl (fun _ => 0))), (q2_, .inl (d, 60, .inl (fun _ => 0))), (q3_, .inl (d, 60, .inl (fun _ => 0))), (q4_, .inl (d, 60, .inl (fun _ => 0))), (q5_, .inl (d, 60, .inl (fun _ => 0))), (q6_, .inl (d, 60, .inl (fun _ => 0))), (q7_, .inl (d, 60, .inl (fun _ => 0)))] H := hP
  have hD : va_D A [(o, .inr (1, [.int 0, .int 0, .int 0, .ref q1_, .ref q2_, .ref q3_, .int 0, .ref q4_, .ref q5_, .ref q6_, .ref q7_, .int 0, .int 0, .int (-16384), .int 16384, .int (-16384), .int 16384])), (q1_, .inl (d, 576, .inl (fun _ => 0))), (q2_, .inl (d, 60, .inl (fun _ => 0))), (q3_, .inl (d, 60, .inl (fun _ => 0))), (q4_, .inl (d, 60, .inl (fun _ => 0))), (q5_, .inl (d, 60, .inl (fun _ => 0))), (q6_, .inl (d, 60, .inl (fun _ => 0))), (q7_, .inl (d, 60, .inl (fun _ => 0)))] := hD
  refine lv_aload_n hx hb dX2_init_89 rfl (lv_at hl 0 rfl) ?_
  refine lv_iload_n hx hb dX2_init_90 rfl (lv_at hl 1 rfl) ?_
  refine lv_iconst (v := 1) hx hb dX2_init_91 (by decide) ?_
  refine lv_bipush (v := 24) hx hb dX2_init_92 (by decide) ?_
  refine xcSi [.int p0, .int 1, .int 24] S (mtX2_between l p0 1 24 ) q195 siX2_between ⟨rfl, rfl⟩ ⟨Nat.le_of_ble_eq_true rfl, Nat.le_of_ble_eq_true rfl⟩ ⟨Nat.le_of_ble_eq_true rfl, Nat.le_of_ble_eq_true rfl⟩ hl.1 (rest := [.ref o]) rfl (Nat.le_of_ble_eq_true rfl) dX2_init_94 (fun r_ h_ => ?_)
  obtain rfl := h_
  refine xtopi (y := nI w) hw ?_
  refine xputF2 S hin hK hP hD hS 0 rfl 0 (by decide) q198 rfl rfl (ty := .int) (v := .int (nI w)) (by decide +kernel) rfl rfl (Nat.le_of_ble_eq_true rfl) dX2_init_97 (fun H locs hP hD hS => ?_)
  have hP : va_P D vwCl [(o, .inr (1, [.int (nI w), .int 0, .int 0, .ref q1_, .ref q2_, .ref q3_, .int 0, .ref q4_, .ref q5_, .ref q6_, .ref q7_, .int 0, .int 0, .int (-16384), .int 16384, .int (-16384), .int 16384])), (q1_, .inl (d, 576, .inl (fun _ => 0))), (q2_, .inl (d, 60, .inl (fun _ => 0))), (q3_, .inl (d, 60, .inl (fun _ => 0))), (q4_, .inl (d, 60, .inl (fun _ => 0))), (q5_, .inl (d, 60, .inl (fun _ => 0))), (q6_, .inl (d, 60, .inl (fun _ => 0))), (q7_, .inl (d, 60, .inl (fun _ => 0)))] H := hP
  have hD : va_D A [(o, .inr (1, [.int (nI w), .int 0, .int 0, .ref q1_, .ref q2_, .ref q3_, .int 0, .ref q4_, .ref q5_, .ref q6_, .ref q7_, .int 0, .int 0, .int (-16384), .int 16384, .int (-16384), .int 16384])), (q1_, .inl (d, 576, .inl (fun _ => 0))), (q2_, .inl (d, 60, .inl (fun _ => 0))), (q3_, .inl (d, 60, .inl (fun _ => 0))), (q4_, .inl (d, 60, .inl (fun _ => 0))), (q5_, .inl (d, 60, .inl (fun _ => 0))), (q6_, .inl (d, 60, .inl (fun _ => 0))), (q7_, .inl (d, 60, .inl (fun _ => 0)))] := hD
  refine lv_aload_n hx hb dX2_init_100 rfl (lv_at hl 0 rfl) ?_
  refine lv_iload_n hx hb dX2_init_101 rfl (lv_at hl 2 rfl) ?_
  refine lv_iconst (v := 1) hx hb dX2_init_102 (by decide) ?_
  refine lv_bipush (v := 24) hx hb dX2_init_103 (by decide) ?_
  refine xcSi [.int p1, .int 1, .int 24] S (mtX2_between l p1 1 24 ) q195 siX2_between ⟨rfl, rfl⟩ ⟨Nat.le_of_ble_eq_true rfl, Nat.le_of_ble_eq_true rfl⟩ ⟨Nat.le_of_ble_eq_true rfl, Nat.le_of_ble_eq_true rfl⟩ hl.1 (rest := [.ref o]) rfl (Nat.le_of_ble_eq_true rfl) dX2_init_105 (fun r_ h_ => ?_)
  obtain rfl := h_
  refine xtopi (y := nI h) hh ?_
  refine xputF2 S hin hK hP hD hS 0 rfl 1 (by decide) q199 rfl rfl (ty := .int) (v := .int (nI h)) (by decide +kernel) rfl rfl (Nat.le_of_ble_eq_true rfl) dX2_init_108 (fun H locs hP hD hS => ?_)
  have hP : va_P D vwCl [(o, .inr (1, [.int (nI w), .int (nI h), .int 0, .ref q1_, .ref q2_, .ref q3_, .int 0, .ref q4_, .ref q5_, .ref q6_, .ref q7_, .int 0, .int 0, .int (-16384), .int 16384, .int (-16384), .int 16384])), (q1_, .inl (d, 576, .inl (fun _ => 0))), (q2_, .inl (d, 60, .inl (fun _ => 0))), (q3_, .inl (d, 60, .inl (fun _ => 0))), (q4_, .inl (d, 60, .inl (fun _ => 0))), (q5_, .inl (d, 60, .inl (fun _ => 0))), (q6_, .inl (d, 60, .inl (fun _ => 0))), (q7_, .inl (d, 60, .inl (fun _ => 0)))] H := hP
  have hD : va_D A [(o, .inr (1, [.int (nI w), .int (nI h), .int 0, .ref q1_, .ref q2_, .ref q3_, .int 0, .ref q4_, .ref q5_, .ref q6_, .ref q7_, .int 0, .int 0, .int (-16384), .int 16384, .int (-16384), .int 16384])), (q1_, .inl (d, 576, .inl (fun _ => 0))), (q2_, .inl (d, 60, .inl (fun _ => 0))), (q3_, .inl (d, 60, .inl (fun _ => 0))), (q4_, .inl (d, 60, .inl (fun _ => 0))), (q5_, .inl (d, 60, .inl (fun _ => 0))), (q6_, .inl (d, 60, .inl (fun _ => 0))), (q7_, .inl (d, 60, .inl (fun _ => 0)))] := hD
  refine lv_aload_n hx hb dX2_init_111 rfl (lv_at hl 0 rfl) ?_
  refine lv_iload_n hx hb dX2_init_112 rfl (lv_at hl 3 rfl) ?_
  refine lv_iconst (v := 3) hx hb dX2_init_113 (by decide) ?_
  refine lv_bipush (v := 60) hx hb dX2_init_114 (by decide) ?_
  refine xcSi [.int p2, .int 3, .int 60] S (mtX2_between l p2 3 60 ) q195 siX2_between ⟨rfl, rfl⟩ ⟨Nat.le_of_ble_eq_true rfl, Nat.le_of_ble_eq_true rfl⟩ ⟨Nat.le_of_ble_eq_true rfl, Nat.le_of_ble_eq_true rfl⟩ hl.1 (rest := [.ref o]) rfl (Nat.le_of_ble_eq_true rfl) dX2_init_116 (fun r_ h_ => ?_)
  obtain rfl := h_
  refine xtopi (y := nI C) hC ?_
  refine xputF2 S hin hK hP hD hS 0 rfl 2 (by decide) q200 rfl rfl (ty := .int) (v := .int (nI C)) (by decide +kernel) rfl rfl (Nat.le_of_ble_eq_true rfl) dX2_init_119 (fun H locs hP hD hS => ?_)
  have hP : va_P D vwCl [(o, .inr (1, [.int (nI w), .int (nI h), .int (nI C), .ref q1_, .ref q2_, .ref q3_, .int 0, .ref q4_, .ref q5_, .ref q6_, .ref q7_, .int 0, .int 0, .int (-16384), .int 16384, .int (-16384), .int 16384])), (q1_, .inl (d, 576, .inl (fun _ => 0))), (q2_, .inl (d, 60, .inl (fun _ => 0))), (q3_, .inl (d, 60, .inl (fun _ => 0))), (q4_, .inl (d, 60, .inl (fun _ => 0))), (q5_, .inl (d, 60, .inl (fun _ => 0))), (q6_, .inl (d, 60, .inl (fun _ => 0))), (q7_, .inl (d, 60, .inl (fun _ => 0)))] H := hP
  have hD : va_D A [(o, .inr (1, [.int (nI w), .int (nI h), .int (nI C), .ref q1_, .ref q2_, .ref q3_, .int 0, .ref q4_, .ref q5_, .ref q6_, .ref q7_, .int 0, .int 0, .int (-16384), .int 16384, .int (-16384), .int 16384])), (q1_, .inl (d, 576, .inl (fun _ => 0))), (q2_, .inl (d, 60, .inl (fun _ => 0))), (q3_, .inl (d, 60, .inl (fun _ => 0))), (q4_, .inl (d, 60, .inl (fun _ => 0))), (q5_, .inl (d, 60, .inl (fun _ => 0))), (q6_, .inl (d, 60, .inl (fun _ => 0))), (q7_, .inl (d, 60, .inl (fun _ => 0)))] := hD
  refine W.widen (k := 7) (n := 936) (Nat.le_of_ble_eq_true rfl) (Nat.le_of_ble_eq_true rfl) ?_
  exact xretMv hx hb hr hlk hK hS dX2_init_122 (adr [o, q1_, q2_, q3_, q4_, q5_, q6_, q7_]) hP hD rfl

set_option maxHeartbeats 4000000 in
set_option maxRecDepth 100000 in
/-- cell(script, k) -/
theorem mtX0_cell (l : Launch) (sb L : Nat) (sc : Nat → Int32) (k : Nat) (hL : L ≤ 2563) (hk : k ≤ 2563) : Met l yX0_cell (ws_ yX0_cell cX0_cell 2 (some .int)) (rm_ 0 0) (PcX [.ref sb, .int (nI k)] sb L sc) (vp_Si (fun r => r = if k < L then sc k else 0)) 0 0 (fun _ => False) := by
  refine xMetX (by decide) (Nat.le_of_ble_eq_true rfl) ?_
  intro p e s m below meth c ls S hr hlk hl hX
  have S : CallFix p m c cX0_cell 2 s _ lw_all RX0 := S
  have hx := S.1
  have hb := S.2.1
  have hl : lv_has ls 2 [(0, .ref sb), (1, .int (nI k))] := hl
  have hbl : sb < s.heap.size := by
    obtain ⟨scr, h1, -⟩ := hX
    exact (Array.getElem?_eq_some_iff.mp h1).1
  have hS : va_S (fun _ => False) s.heap s.heap [] := va_S.rf
  refine lv_iload_n hx hb dX0_cell_0 rfl (lv_at hl 1 rfl) ?_
  refine lv_aload_n hx hb dX0_cell_1 rfl (lv_at hl 0 rfl) ?_
  refine va_slen (A := fun _ => False) hx hb hX hbl (fun h => h) hS dX0_cell_2 ?_
  refine xtopi (y := nI L) rfl ?_
  refine lv_icmp_ge (tgt := 12) hx hb dX0_cell_3 (by decide) (fun c_3 => ?_) (fun c_3 => ?_)
  · have c_3 : L ≤ k := xle (a := L) (b := k) c_3 (by omega) (by omega)
    refine lv_iconst (v := 0) hx hb dX0_cell_12 (by decide) ?_
    exact xretSi hx hb hr hlk dX0_cell_13 (rfl) (by rw [if_neg (by omega)])
  · have c_3 : L > k := xnle (a := L) (b := k) c_3 (by omega) (by omega)
    refine lv_aload_n hx hb dX0_cell_6 rfl (lv_at hl 0 rfl) ?_
    refine lv_iload_n hx hb dX0_cell_7 rfl (lv_at hl 1 rfl) ?_
    refine xsld (A := fun _ => False) hx hb hX hbl (fun h => h) hS (by omega) dX0_cell_8 (j := k) (by omega) ?_
    refine lv_goto (tgt := 13) hx hb dX0_cell_9 (by decide) ?_
    exact xretSi hx hb hr hlk dX0_cell_13 (rfl) (by simp [c_3])
end
section
/-! PURE: the class and its reference hold the same -/
set_option maxRecDepth 100000
def LV (w h C : Nat) (px py : Nat → Int32) (n : Nat) (x0 y0 x1 y1 : Int32) (fr pi xs ys : Nat → Int32) : Prop := n ≤ C ∧ (∀ i, i < n → px i = xs i ∧ py i = ys i) ∧ (∀ i, i < n → Nr (px i) ∧ Nr (py i)) ∧ (Nr x0 ∧ Nr y0 ∧ Nr x1 ∧ Nr y1) ∧ ∀ j x, j < h → x < w → fr (w * j + x) = pi (24 * j + x)
section LVS
variable {w h C n : Nat} {px py fr pi xs ys : Nat → Int32} {x0 y0 x1 y1 : Int32}
theorem LV.nn2 (hV : LV w h C px py n x0 y0 x1 y1 fr pi xs ys) : ∀ i, i < n → Nr (xs i) ∧ Nr (ys i) := by
  intro i hi
  obtain ⟨e1, e2⟩ := hV.2.1 i hi
  rw [← e1, ← e2]
  exact hV.2.2.1 i hi
theorem lv_clear {f2 p2 : Nat → Int32} {col : Int32} (hV : LV w h C px py n x0 y0 x1 y1 fr pi xs ys) (hw : w ≤ 24) (hh : h ≤ 24) (h1 : ∀ k, k < w * h → f2 k = col) (h2 : ∀ k, k < 576 → p2 k = col) : LV w h C px py n x0 y0 x1 y1 f2 p2 xs ys :=
  ⟨hV.1, hV.2.1, hV.2.2.1, hV.2.2.2.1, fun j x hj hx => by rw [h1 _ (row_lt (Nat.le_refl w) hx hj), h2 _ (pix_lt2 hw hh hx hj)]⟩
theorem lv_begin (hV : LV w h C px py n x0 y0 x1 y1 fr pi xs ys) : LV w h C px py 0 x0 y0 x1 y1 fr pi xs ys :=
  ⟨Nat.zero_le _, fun i hi => absurd hi (Nat.not_lt_zero i), fun i hi => absurd hi (Nat.not_lt_zero i), hV.2.2.2⟩
theorem lv_vertex {r1 r2 x y : Int32} {px2 py2 xs2 ys2 : Nat → Int32} {n1 n2 : Nat} (hV : LV w h C px py n x0 y0 x1 y1 fr pi xs ys) (h1 : (r1, px2, py2, n1) = vtxI px py n C x y) (h2 : (r2, xs2, ys2, n2) = vtxI xs ys n C x y) : r1 = r2 ∧ n1 = n2 ∧ LV w h C px2 py2 n1 x0 y0 x1 y1 fr pi xs2 ys2 := by
  obtain ⟨a1, a2, a3, a4, a5⟩ := hV
  unfold vtxI at h1 h2
  by_cases e : n = C ∨ far x = true ∨ far y = true
  · rw [if_pos e] at h1 h2
    injection h1 with b1 b2
    injection b2 with b2 b3
    injection b3 with b3 b4
    injection h2 with c1 c2
    injection c2 with c2 c3
    injection c3 with c3 c4
    subst b1 b2 b3 b4 c1 c2 c3 c4
    exact ⟨rfl, rfl, a1, a2, a3, a4, a5⟩
  · rw [if_neg e] at h1 h2
    injection h1 with b1 b2
    injection b2 with b2 b3
    injection b3 with b3 b4
    injection h2 with c1 c2
    injection c2 with c2 c3
    injection c3 with c3 c4
    subst b1 b2 b3 b4 c1 c2 c3 c4
    have ex : far x = false := by
      cases q : far x with
      | false => rfl
      | true => exact absurd (Or.inr (Or.inl q)) e
    have ey : far y = false := by
      cases q : far y with
      | false => rfl
      | true => exact absurd (Or.inr (Or.inr q)) e
    have en : n ≠ C := fun q => e (Or.inl q)
    refine ⟨rfl, rfl, by omega, fun i hi => ?_, fun i hi => ?_, a4, a5⟩
    · by_cases q : i = n
      · subst q
        rw [pk_us, pk_us, pk_us, pk_us]
        exact ⟨rfl, rfl⟩
      · rw [pk_un q, pk_un q, pk_un q, pk_un q]
        exact a2 i (by omega)
    · by_cases q : i = n
      · subst q
        rw [pk_us, pk_us]
        exact ⟨far_iff.mp ex, far_iff.mp ey⟩
      · rw [pk_un q, pk_un q]
        exact a3 i (by omega)
theorem lv_clip0 {r1 r2 a0 b0 a1 b1 u0 v0 u1 v1 s0 t0 s1 t1 : Int32} (hV : LV w h C px py n x0 y0 x1 y1 fr pi xs ys) (h1 : (r1, u0, v0, u1, v1) = clpI x0 y0 x1 y1 a0 b0 a1 b1) (h2 : (r2, s0, t0, s1, t1) = clpI x0 y0 x1 y1 a0 b0 a1 b1) : r1 = r2 ∧ u0 = s0 ∧ v0 = t0 ∧ u1 = s1 ∧ v1 = t1 ∧ LV w h C px py n u0 v0 u1 v1 fr pi xs ys := by
  have e := h1.trans h2.symm
  injection e with e1 e2
  injection e2 with e2 e3
  injection e3 with e3 e4
  injection e4 with e4 e5
  refine ⟨e1, e2, e3, e4, e5, hV.1, hV.2.1, hV.2.2.1, ?_, hV.2.2.2.2⟩
  unfold clpI at h1
  by_cases q : a1 < a0 ∨ b1 < b0 ∨ far a0 = true ∨ far b0 = true ∨ far a1 = true ∨ far b1 = true
  · rw [if_pos q] at h1
    injection h1 with c1 c2
    injection c2 with c2 c3
    injection c3 with c3 c4
    injection c4 with c4 c5
    rw [c2, c3, c4, c5]
    exact hV.2.2.2.1
  · rw [if_neg q] at h1
    injection h1 with c1 c2
    injection c2 with c2 c3
    injection c3 with c3 c4
    injection c4 with c4 c5
    rw [c2, c3, c4, c5]
    refine ⟨far_iff.mp ?_, far_iff.mp ?_, far_iff.mp ?_, far_iff.mp ?_⟩
    · cases z : far a0 with
      | false => rfl
      | true => exact absurd (Or.inr (Or.inr (Or.inl z))) q
    · cases z : far b0 with
      | false => rfl
      | true => exact absurd (Or.inr (Or.inr (Or.inr (Or.inl z)))) q
    · cases z : far a1 with
      | false => rfl
      | true => exact absurd (Or.inr (Or.inr (Or.inr (Or.inr (Or.inl z))))) q
    · cases z : far b1 with
      | false => rfl
      | true => exact absurd (Or.inr (Or.inr (Or.inr (Or.inr (Or.inr z))))) q
theorem okQ_le {L : List (Int32 × Int32)} {C k : Nat} {M : List (Int32 × Int32)} (hC : L.length ≤ C) : ∀ k M, clO C x0 y0 x1 y1 L k = some M → M.length ≤ C := by
  intro k
  induction k with
  | zero => intro M e; cases e; exact hC
  | succ k ih =>
    intro M e
    cases e2 : clO C x0 y0 x1 y1 L k with
    | none => rw [clO_none (j := 1) e2] at e; cases e
    | some M2 =>
      by_cases hc : (stL k x0 y0 x1 y1 M2).length ≤ C
      · rw [clO_some e2 hc] at e
        cases e
        exact hc
      · rw [clO_fail e2 hc] at e
        cases e
theorem lv_clip {r1 r2 : Int32} {px2 py2 xs2 ys2 : Nat → Int32} {n1 n2 : Nat} (hV : LV w h C px py n x0 y0 x1 y1 fr pi xs ys) (h1 : clQ (clO C x0 y0 x1 y1 (pts px py n) 4) r1 px py n px2 py2 n1) (h2 : clQ (clO C x0 y0 x1 y1 (pts xs ys n) 4) r2 xs ys n xs2 ys2 n2) : r1 = r2 ∧ n1 = n2 ∧ LV w h C px2 py2 n1 x0 y0 x1 y1 fr pi xs2 ys2 := by
  obtain ⟨a1, a2, a3, a4, a5⟩ := hV
  have ep : pts xs ys n = pts px py n := pts_of (okQ_cpy pts_ok (fun j hj => ⟨((a2 j hj).1).symm, ((a2 j hj).2).symm⟩))
  rw [ep] at h2
  cases e : clO C x0 y0 x1 y1 (pts px py n) 4 with
  | none =>
    rw [e] at h1 h2
    obtain ⟨b1, b2, b3, b4⟩ := h1
    obtain ⟨c1, c2, c3, c4⟩ := h2
    subst b1 b2 b3 b4 c1 c2 c3 c4
    exact ⟨rfl, rfl, a1, a2, a3, a4, a5⟩
  | some L =>
    rw [e] at h1 h2
    obtain ⟨b1, b2⟩ := h1
    obtain ⟨c1, c2⟩ := h2
    obtain ⟨d1, d2⟩ := okQ_eq b2 c2
    have hl : L.length ≤ C := okQ_le (L := pts px py n) (k := 4) (M := L) (by simp [pts]; exact a1) 4 L e
    have hnr := NrL_clO (C := C) (NrL_pts a3) a4.1 a4.2.1 a4.2.2.1 a4.2.2.2 4 L (Nat.le_refl _) e
    exact ⟨by rw [b1, c1, d1], d1, by rw [b2.1]; exact hl, d2, NrL_f hnr b2, a4, a5⟩
theorem lv_vx (hV : LV w h C px py n x0 y0 x1 y1 fr pi xs ys) (hC : C ≤ 60) (i : Int32) : vxI px n i = vxI xs n i ∧ vxI py n i = vxI ys n i := by
  unfold vxI
  by_cases q : i < 0
  · rw [if_pos q, if_pos q, if_pos q, if_pos q]
    exact ⟨rfl, rfl⟩
  · by_cases q2 : nI n ≤ i
    · rw [if_neg q, if_neg q, if_neg q, if_neg q, if_pos q2, if_pos q2, if_pos q2, if_pos q2]
      exact ⟨rfl, rfl⟩
    · obtain ⟨j, hj, rfl⟩ := vx_in (n := n) (Nat.le_trans hV.1 hC) q q2
      have hn := hV.1
      rw [if_neg q, if_neg q, if_neg q, if_neg q, if_neg q2, if_neg q2, if_neg q2, if_neg q2, nI_clamp (by omega)]
      exact hV.2.1 j hj
theorem ins_congr {x y : Int} (h1 : ∀ i, i < n → px i = xs i ∧ py i = ys i) : ∀ k, k ≤ n → insB px py n x y k = insB xs ys n x y k := by
  intro k
  induction k with
  | zero => intro _; rfl
  | succ k ih =>
    intro hk
    simp only [insB]
    rw [ih (by omega)]
    congr 1
    unfold crs
    obtain ⟨e1, e2⟩ := h1 k (by omega)
    obtain ⟨e3, e4⟩ := h1 (nxt n k) (nxt_lt (by omega))
    rw [e1, e2, e3, e4]
theorem lv_ins (hV : LV w h C px py n x0 y0 x1 y1 fr pi xs ys) (x y : Int) : insB px py n x y n = insB xs ys n x y n := ins_congr hV.2.1 n (Nat.le_refl _)
theorem lv_fill {r1 r2 col : Int32} {f2 p2 : Nat → Int32} (hV : LV w h C px py n x0 y0 x1 y1 fr pi xs ys) (h1 : r1 = nI (totC (insF px py n) w h) ∧ ∀ j x, j < h → x < w → f2 (w * j + x) = if insF px py n j x = true then col else fr (w * j + x)) (h2 : r2 = nI (totC (insF xs ys n) w h) ∧ ∀ j x, j < h → x < w → p2 (24 * j + x) = if insF xs ys n j x = true then col else pi (24 * j + x)) : r1 = r2 ∧ LV w h C px py n x0 y0 x1 y1 f2 p2 xs ys := by
  have e : insF px py n = insF xs ys n := by
    funext j x
    exact lv_ins hV _ _
  refine ⟨by rw [h1.1, h2.1, e], hV.1, hV.2.1, hV.2.2.1, hV.2.2.2.1, fun j x hj hx => ?_⟩
  rw [h1.2 j x hj hx, h2.2 j x hj hx, e, hV.2.2.2.2 j x hj hx]
theorem lv_pix (hV : LV w h C px py n x0 y0 x1 y1 fr pi xs ys) (hw : w ≤ 24) (hh : h ≤ 24) (x y : Int32) : pixI w fr w h x y = pixI 24 pi w h x y := by
  by_cases q : x < 0 ∨ nI w ≤ x ∨ y < 0 ∨ nI h ≤ y
  · rw [← pixI_out q, ← pixI_out q]
  · have q1 : ¬ x < 0 := fun z => q (Or.inl z)
    have q2 : ¬ nI w ≤ x := fun z => q (Or.inr (Or.inl z))
    have q3 : ¬ y < 0 := fun z => q (Or.inr (Or.inr (Or.inl z)))
    have q4 : ¬ nI h ≤ y := fun z => q (Or.inr (Or.inr (Or.inr z)))
    obtain ⟨i, hi, rfl⟩ := vx_in (n := w) (by omega) q1 q2
    obtain ⟨j, hj, rfl⟩ := vx_in (n := h) (by omega) q3 q4
    rw [← pixI_in hw hh hi hj, ← pixI_in hw hh hi hj]
    exact hV.2.2.2.2 j i hj hi
theorem lv_init : LV w h C (fun _ => 0) (fun _ => 0) 0 (-16384) (-16384) 16384 16384 (fun _ => 0) (fun _ => 0) (fun _ => 0) (fun _ => 0) := by
  refine ⟨Nat.zero_le _, fun i hi => absurd hi (Nat.not_lt_zero i), fun i hi => absurd hi (Nat.not_lt_zero i), ⟨?_, ?_, ?_, ?_⟩, fun _ _ _ _ => rfl⟩ <;> (unfold Nr; decide)
end LVS
theorem clamp_ex (v : Int32) (lo hi : Nat) (h : lo ≤ hi) (hh : hi ≤ 60) : ∃ k : Nat, lo ≤ k ∧ k ≤ hi ∧ clampI v (nI lo) (nI hi) = nI k := by
  unfold clampI
  by_cases q : nI lo ≤ v
  · by_cases q2 : v ≤ nI hi
    · have h1 := le_of_le q
      have h2 := le_of_le q2
      rw [nI_toInt (by omega)] at h1 h2
      refine ⟨v.toInt.toNat, by omega, by omega, ?_⟩
      rw [if_pos q, if_pos q2]
      refine Int32.toInt_inj.mp ?_
      rw [nI_toInt (by omega)]
      omega
    · exact ⟨hi, h, Nat.le_refl _, by rw [if_pos q, if_neg q2]⟩
  · exact ⟨lo, Nat.le_refl _, h, by rw [if_neg q]⟩
theorem lp_in {L i : Nat} (hL : L ≤ 2563) (hi : i ≤ 2568) (h : ¬ nI L - 5 < nI i) : i + 5 ≤ L := by
  have h1 := ge_of_nlt h
  have e : (nI L - 5).toInt = (L : Int) - 5 := pk_sub_toInt (a := L) (b := 5) (by omega) (by omega)
  rw [e, nI_toInt (by omega)] at h1
  omega
end
section
set_option maxRecDepth 100000
/-! THE CLAIM OUT OF ONE WALK OF THE LAW'S BODY. Your part is whole_start (and what it stands on); all else here is the same for every law, but numbers. -/
def R_law : String := "PolygonFrameLaw"
def lw_P (b : Addr) (xs : List Int32) (args : Array Value) (s : State) : Prop := args = #[.ref b] ∧ s.IntsAt b xs ∧ xs.length ≤ 2563 ∧ (Jvm.Cond.and given_1 narrow_1).before args s = true
def lw_Q (_ : Array Value) (s : State) (o : Outcome) (t : State) : Prop := o = .returned (some (.int 1)) ∧ Framed s o t [] 600000 7290000
def lw_Z (below : List Frame) (a : Array Value) (s : State) : State → Prop := fun t => ∃ o, t.status = .running ∧ Ended t below o ∧ lw_Q a s o t
/-- the law's own end, with 1 on the stack, nothing written that was there before, its room as the claim has it -/
theorem lw_ret {p : Program} {l : Launch} {e : Env} {s : State} {m : MethodId} {below : List Frame} {meth : Method} {c : Code} {b : Nat} (hx : p.tables.exec = Jvm.exec) (hb : c.code = code) (hr : meth.sig.returnType = ret) (hlocks : meth.locks = false) {pc : Nat} {H : Heap} {ls : Array Slot} (hdg : decode code pc = .ok (.ireturn, 1)) : W p l e room_1 s m #[Value.ref b] below meth c H [] 600000 7290000 (lw_Z below #[Value.ref b] s) (F0 m pc ls [.int 1]) := by
  intro T hT X
  obtain ⟨fs, hret, hrun, hended, hW, hframe⟩ := X.leave (v := some (.int 1)) (hlocks := hlocks) (fun h => by rw [hr] at h; cases h)
  have hmeth' : T.vm.method? m = some meth := X.method'
  refine ⟨T.setFrames fs, ?_, .returned (some (.int 1)), hrun, hended, rfl, ⟨_, rfl⟩, hW, hframe⟩
  jvm_step X.here [X.here.top, hx, hb, hdg, hmeth', hr, ret, narrow_b1]
  (try refine ⟨rfl, ?_⟩); (try refine ⟨rfl, ?_⟩)
  first | (intro acts; rw [hret _ acts rfl rfl rfl]) | rw [hret _ _ rfl rfl rfl]
  exact Steps.refl _
/-- what holds at the law's entry: the machine, the code, the tables' words (any of lw_tbl by 'hts w (by decide +kernel)'), the script of L ints xs at the cell b, what the Statement gives of the start (any of its parts by flat_of_before) -/
def lw_At (p : Program) (s : State) (m : MethodId) (meth : Method) (c : Code) (b L : Nat) (xs : Nat → Int32) : Prop :=
  p.tables.exec = Jvm.exec ∧ c.code = code ∧ meth.sig.returnType = ret ∧ c.maxLocals = 4 ∧ s.vm.findClass R_law = some m.cls ∧ (∀ w ∈ lw_tbl, w.before #[Value.ref b] s = true) ∧ va_X b L xs s s.heap ∧ b < s.heap.size ∧ meth.locks = false ∧ (Jvm.Cond.and given_1 narrow_1).before #[Value.ref b] s = true
end
section
/-! the law's loop -/
set_option maxRecDepth 100000
theorem ii1 : yX1_init.cls ≠ "java/lang/invoke/MethodHandle" ∧ yX1_init.cls ≠ "java/lang/invoke/VarHandle" ∧ (parseMethodDescriptor yX1_init.desc).map (fun d => d.parameters.length) = some 3 := by decide +kernel
theorem ii2 : yX2_init.cls ≠ "java/lang/invoke/MethodHandle" ∧ yX2_init.cls ≠ "java/lang/invoke/VarHandle" ∧ (parseMethodDescriptor yX2_init.desc).map (fun d => d.parameters.length) = some 3 := by decide +kernel
def LI (D : va_G) (d : ClassId) (A : Nat → Prop) (a b : Nat → Nat) (w h C : Nat) (H : Heap) : Prop := ∃ (px py qx qy fr tb ac la sx sy : Nat → Int32) (n : Nat) (x0 y0 x1 y1 : Int32) (mn : Nat) (pi xs ys fx fy tx ty : Nat → Int32) (fm tn : Nat), LW D A (wP d a px py qx qy fr tb ac la sx sy w h C n x0 y0 x1 y1 mn) (wM d b pi xs ys fx fy tx ty w h C n fm tn x0 x1 y0 y1) H ∧ LV w h C px py n x0 y0 x1 y1 fr pi xs ys
set_option maxHeartbeats 4000000 in
set_option maxRecDepth 100000 in
/-- the law's loop: the class and its reference stay alike, and answer alike -/
theorem law_loop {p : Program} {l : Launch} {e : Env} {s : State} {m : MethodId} {below : List Frame} {meth : Method} {c : Code} {D : va_G} {d : ClassId} {A : Nat → Prop} {a b : Nat → Nat} {sb L w h C : Nat} {sc : Nat → Int32} (S : CallFix p m c cL_law 4 s #[Value.ref sb] lw_all RX0) (hr : meth.sig.returnType = ret) (hlk : meth.locks = false) (hK : va_K D vwCl [(d, .int)] s) (hX : va_X sb L sc s s.heap) (hbl : sb < s.heap.size) (hAe : A = fun q => s.heap.size ≤ q) (hL : L ≤ 2563) (hw : w ≤ 24) (hh : h ≤ 24) (hC : C ≤ 60) : ∀ (ls : Array Slot) (H : Heap) (locs : List Loc), lv_has ls 4 [(0, .ref sb), (1, .ref (a 0)), (2, .ref (b 0)), (3, .int 3)] → LI D d A a b w h C H → va_S A s.heap H locs → W p l e room_1 s m #[Value.ref sb] below meth c H locs 600000 7290000 (lw_Z below #[Value.ref sb] s) (F0 m 48 ls []) := by
  have hx := S.1
  have hb := S.2.1
  have hA : ∀ q, s.heap.size ≤ q → A q := by rw [hAe]; exact fun q h => h
  have hbA : ¬ A sb := by rw [hAe]; exact Nat.not_le.mpr hbl
  have hwh : w * h ≤ 576 := Nat.mul_le_mul hw hh
  intro ls H locs hl hI hS
  refine xloop (α := Nat) (fun i => L - i) (fun i H locs g_ => ∃ ls, g_ = F0 m 48 ls [] ∧ lv_has ls 4 [(0, .ref sb), (1, .ref (a 0)), (2, .ref (b 0)), (3, .int (nI i))] ∧ LI D d A a b w h C H ∧ va_S A s.heap H locs ∧ i ≤ 2568) ?_ 3 ⟨ls, rfl, hl, hI, hS, by omega⟩
  intro i H locs g_ hJ_ ih
  obtain ⟨ls, rfl, hl, hI, hS, hi⟩ := hJ_
  obtain ⟨px, py, qx, qy, fr, tb, ac, la, sx, sy, n, x0, y0, x1, y1, mn, pi, xs, ys, fx, fy, tx, ty, fm, tn, hW, hV⟩ := hI
  have hnC := hV.1
  refine lv_iload_n hx hb dL_law_48 rfl (lv_at hl 3 rfl) ?_
  refine lv_aload_n hx hb dL_law_49 rfl (lv_at hl 0 rfl) ?_
  refine va_slen hx hb hX hbl hbA hS dL_law_50 ?_
  refine xtopi (y := nI L) rfl ?_
  refine lv_iconst (v := 5) hx hb dL_law_51 (by decide) ?_
  refine lv_isub hx hb dL_law_52 ?_
  refine lv_icmp_gt (tgt := 405) hx hb dL_law_53 (by decide) (fun c_53 => ?_) (fun c_53 => ?_)
  · refine lv_iconst (v := 1) hx hb dL_law_405 (by decide) ?_
    refine va_forget (fun q hq => by have h9 := hS.2.2 q hq; rw [hAe] at h9; exact h9) ?_
    exact lw_ret hx hb hr hlk dL_law_406
  · have hi5 := lp_in hL hi c_53
    refine lv_aload_n hx hb dL_law_56 rfl (lv_at hl 0 rfl) ?_
    refine lv_iload_n hx hb dL_law_57 rfl (lv_at hl 3 rfl) ?_
    refine xsld hx hb hX hbl hbA hS (by omega) dL_law_58 (j := i) (by omega) ?_
    refine lv_bipush (v := 15) hx hb dL_law_59 (by decide) ?_
    refine lv_iand hx hb dL_law_61 ?_
    obtain ⟨jj, hjj, ejj⟩ := pk_andE (sc i) (m := 15) 4 (by decide)
    refine xtopi (y := nI jj) ejj ?_
    rcases (show jj = 0 ∨ jj = 1 ∨ jj = 2 ∨ jj = 3 ∨ jj = 4 ∨ jj = 5 ∨ jj = 6 ∨ jj = 7 ∨ jj = 8 ∨ jj = 9 ∨ jj = 10 ∨ 11 ≤ jj by omega) with h_ | h_ | h_ | h_ | h_ | h_ | h_ | h_ | h_ | h_ | h_ | h_
    · subst h_
      refine lv_tableIn (off := 58) (tgt := 120) hx hb dL_law_62 (by decide) (by decide) rfl (by decide) ?_
      refine lv_aload_n hx hb dL_law_120 rfl (lv_at hl 1 rfl) ?_
      refine lv_aload_n hx hb dL_law_121 rfl (lv_at hl 0 rfl) ?_
      refine lv_iload_n hx hb dL_law_122 rfl (lv_at hl 3 rfl) ?_
      refine lv_iconst (v := 1) hx hb dL_law_123 (by decide) ?_
      refine lv_iadd hx hb dL_law_124 ?_
      refine xtopi (y := nI (i + 1)) (nI_add i 1) ?_
      refine xsld hx hb hX hbl hbA hS (by omega) dL_law_125 (j := i + 1) (by omega) ?_
      refine xcLv [.int (sc (i + 1))] S (mtX1_clear l D d a px py qx qy fr tb ac la sx sy w h C n x0 y0 x1 y1 mn (sc (i + 1)) hwh H.size) q89 viX1_clear ⟨rfl, rfl⟩ ⟨Nat.le_of_ble_eq_true rfl, Nat.le_of_ble_eq_true rfl⟩ ⟨Nat.le_of_ble_eq_true rfl, Nat.le_of_ble_eq_true rfl⟩ hK hW hS hA (ci := 0) (q0 := 0) rfl rfl hl.1 (rest := []) rfl (Nat.le_of_ble_eq_true rfl) dL_law_126 (fun u_ H locs h_ hW hS => ?_)
      obtain ⟨fr_1, rfl⟩ : ∃ z, z = u_ := ⟨_, rfl⟩
      have hW : LW D A (wP d a px py qx qy fr_1 tb ac la sx sy w h C n x0 y0 x1 y1 mn) (wM d b pi xs ys fx fy tx ty w h C n fm tn x0 x1 y0 y1) H := hW
      have h1_ := h_
      refine lv_aload_n hx hb dL_law_129 rfl (lv_at hl 2 rfl) ?_
      refine lv_aload_n hx hb dL_law_130 rfl (lv_at hl 0 rfl) ?_
      refine lv_iload_n hx hb dL_law_131 rfl (lv_at hl 3 rfl) ?_
      refine lv_iconst (v := 1) hx hb dL_law_132 (by decide) ?_
      refine lv_iadd hx hb dL_law_133 ?_
      refine xtopi (y := nI (i + 1)) (nI_add i 1) ?_
      refine xsld hx hb hX hbl hbA hS (by omega) dL_law_134 (j := i + 1) (by omega) ?_
      refine xcLv [.int (sc (i + 1))] S (mtX2_clear l D d b pi xs ys fx fy tx ty w h C n fm tn x0 x1 y0 y1 (sc (i + 1))  H.size) q250 viX2_clear ⟨rfl, rfl⟩ ⟨Nat.le_of_ble_eq_true rfl, Nat.le_of_ble_eq_true rfl⟩ ⟨Nat.le_of_ble_eq_true rfl, Nat.le_of_ble_eq_true rfl⟩ hK hW.swap hS hA (ci := 1) (q0 := 0) rfl rfl hl.1 (rest := []) rfl (Nat.le_of_ble_eq_true rfl) dL_law_135 (fun u_ H locs h_ hW hS => ?_)
      obtain ⟨pi_1, rfl⟩ : ∃ z, z = u_ := ⟨_, rfl⟩
      have hW : LW D A (wP d a px py qx qy fr_1 tb ac la sx sy w h C n x0 y0 x1 y1 mn) (wM d b pi_1 xs ys fx fy tx ty w h C n fm tn x0 x1 y0 y1) H := hW.swap
      have h2_ := h_
      have hV : LV w h C px py n x0 y0 x1 y1 fr_1 pi_1 xs ys := lv_clear hV hw hh h1_ h2_
      refine lv_goto (tgt := 399) hx hb dL_law_138 (by decide) ?_
      refine lv_iinc (v := nI (i + 5)) (lv' := [(3, .int (nI (i + 5))), (0, .ref sb), (1, .ref (a 0)), (2, .ref (b 0))]) hx hb dL_law_399 hl (k := 3) rfl (nI_inc5 _) (by decide) rfl (fun ls hl => ?_)
      refine lv_goto (tgt := 48) hx hb dL_law_402 (by decide) ?_
      exact ih (i + 5) _ _ _ (by show L - (i + 5) < L - i; omega) ⟨ls, rfl, (lv_sub hl [1, 2, 3, 0] rfl), ⟨px, py, qx, qy, fr_1, tb, ac, la, sx, sy, n, x0, y0, x1, y1, mn, pi_1, xs, ys, fx, fy, tx, ty, fm, tn, hW, hV⟩, hS, by omega⟩
    · subst h_
      refine lv_tableIn (off := 79) (tgt := 141) hx hb dL_law_62 (by decide) (by decide) rfl (by decide) ?_
      refine lv_aload_n hx hb dL_law_141 rfl (lv_at hl 1 rfl) ?_
      refine xcLv [] S (mtX1_begin l D d a px py qx qy fr tb ac la sx sy w h C n x0 y0 x1 y1 mn   H.size) q93 viX1_begin ⟨rfl, rfl⟩ ⟨Nat.le_of_ble_eq_true rfl, Nat.le_of_ble_eq_true rfl⟩ ⟨Nat.le_of_ble_eq_true rfl, Nat.le_of_ble_eq_true rfl⟩ hK hW hS hA (ci := 0) (q0 := 0) rfl rfl hl.1 (rest := []) rfl (Nat.le_of_ble_eq_true rfl) dL_law_142 (fun u_ H locs h_ hW hS => ?_)
      have hW : LW D A (wP d a px py qx qy fr tb ac la sx sy w h C 0 x0 y0 x1 y1 mn) (wM d b pi xs ys fx fy tx ty w h C n fm tn x0 x1 y0 y1) H := hW
      have h1_ := h_
      refine lv_aload_n hx hb dL_law_145 rfl (lv_at hl 2 rfl) ?_
      refine xcLv [] S (mtX2_begin l D d b pi xs ys fx fy tx ty w h C n fm tn x0 x1 y0 y1   H.size) q254 viX2_begin ⟨rfl, rfl⟩ ⟨Nat.le_of_ble_eq_true rfl, Nat.le_of_ble_eq_true rfl⟩ ⟨Nat.le_of_ble_eq_true rfl, Nat.le_of_ble_eq_true rfl⟩ hK hW.swap hS hA (ci := 1) (q0 := 0) rfl rfl hl.1 (rest := []) rfl (Nat.le_of_ble_eq_true rfl) dL_law_146 (fun u_ H locs h_ hW hS => ?_)
      have hW : LW D A (wP d a px py qx qy fr tb ac la sx sy w h C 0 x0 y0 x1 y1 mn) (wM d b pi xs ys fx fy tx ty w h C 0 fm tn x0 x1 y0 y1) H := hW.swap
      have h2_ := h_
      have hV : LV w h C px py 0 x0 y0 x1 y1 fr pi xs ys := lv_begin hV
      refine lv_goto (tgt := 399) hx hb dL_law_149 (by decide) ?_
      refine lv_iinc (v := nI (i + 5)) (lv' := [(3, .int (nI (i + 5))), (0, .ref sb), (1, .ref (a 0)), (2, .ref (b 0))]) hx hb dL_law_399 hl (k := 3) rfl (nI_inc5 _) (by decide) rfl (fun ls hl => ?_)
      refine lv_goto (tgt := 48) hx hb dL_law_402 (by decide) ?_
      exact ih (i + 5) _ _ _ (by show L - (i + 5) < L - i; omega) ⟨ls, rfl, (lv_sub hl [1, 2, 3, 0] rfl), ⟨px, py, qx, qy, fr, tb, ac, la, sx, sy, 0, x0, y0, x1, y1, mn, pi, xs, ys, fx, fy, tx, ty, fm, tn, hW, hV⟩, hS, by omega⟩
    · subst h_
      refine lv_tableIn (off := 90) (tgt := 152) hx hb dL_law_62 (by decide) (by decide) rfl (by decide) ?_
      refine lv_aload_n hx hb dL_law_152 rfl (lv_at hl 1 rfl) ?_
      refine lv_aload_n hx hb dL_law_153 rfl (lv_at hl 0 rfl) ?_
      refine lv_iload_n hx hb dL_law_154 rfl (lv_at hl 3 rfl) ?_
      refine lv_iconst (v := 1) hx hb dL_law_155 (by decide) ?_
      refine lv_iadd hx hb dL_law_156 ?_
      refine xtopi (y := nI (i + 1)) (nI_add i 1) ?_
      refine xsld hx hb hX hbl hbA hS (by omega) dL_law_157 (j := i + 1) (by omega) ?_
      refine lv_aload_n hx hb dL_law_158 rfl (lv_at hl 0 rfl) ?_
      refine lv_iload_n hx hb dL_law_159 rfl (lv_at hl 3 rfl) ?_
      refine lv_iconst (v := 2) hx hb dL_law_160 (by decide) ?_
      refine lv_iadd hx hb dL_law_161 ?_
      refine xtopi (y := nI (i + 2)) (nI_add i 2) ?_
      refine xsld hx hb hX hbl hbA hS (by omega) dL_law_162 (j := i + 2) (by omega) ?_
      refine xcLi [.int (sc (i + 1)), .int (sc (i + 2))] S (mtX1_vertex l D d a px py qx qy fr tb ac la sx sy w h C n x0 y0 x1 y1 mn (sc (i + 1)) (sc (i + 2)) hnC hC H.size) q97 viX1_vertex ⟨rfl, rfl⟩ ⟨Nat.le_of_ble_eq_true rfl, Nat.le_of_ble_eq_true rfl⟩ ⟨Nat.le_of_ble_eq_true rfl, Nat.le_of_ble_eq_true rfl⟩ hK hW hS hA (ci := 0) (q0 := 0) rfl rfl hl.1 (rest := []) rfl (Nat.le_of_ble_eq_true rfl) dL_law_163 (fun r_5 u_ H locs h_ hW hS => ?_)
      obtain ⟨px_1, py_1, n_1⟩ := u_
      have hW : LW D A (wP d a px_1 py_1 qx qy fr tb ac la sx sy w h C n_1 x0 y0 x1 y1 mn) (wM d b pi xs ys fx fy tx ty w h C n fm tn x0 x1 y0 y1) H := hW
      have h1_ := h_
      refine lv_aload_n hx hb dL_law_166 rfl (lv_at hl 2 rfl) ?_
      refine lv_aload_n hx hb dL_law_167 rfl (lv_at hl 0 rfl) ?_
      refine lv_iload_n hx hb dL_law_168 rfl (lv_at hl 3 rfl) ?_
      refine lv_iconst (v := 1) hx hb dL_law_169 (by decide) ?_
      refine lv_iadd hx hb dL_law_170 ?_
      refine xtopi (y := nI (i + 1)) (nI_add i 1) ?_
      refine xsld hx hb hX hbl hbA hS (by omega) dL_law_171 (j := i + 1) (by omega) ?_
      refine lv_aload_n hx hb dL_law_172 rfl (lv_at hl 0 rfl) ?_
      refine lv_iload_n hx hb dL_law_173 rfl (lv_at hl 3 rfl) ?_
      refine lv_iconst (v := 2) hx hb dL_law_174 (by decide) ?_
      refine lv_iadd hx hb dL_law_175 ?_
      refine xtopi (y := nI (i + 2)) (nI_add i 2) ?_
      refine xsld hx hb hX hbl hbA hS (by omega) dL_law_176 (j := i + 2) (by omega) ?_
      refine xcLi [.int (sc (i + 1)), .int (sc (i + 2))] S (mtX2_vertex l D d b pi xs ys fx fy tx ty w h C n fm tn x0 x1 y0 y1 (sc (i + 1)) (sc (i + 2)) hnC hC H.size) q258 viX2_vertex ⟨rfl, rfl⟩ ⟨Nat.le_of_ble_eq_true rfl, Nat.le_of_ble_eq_true rfl⟩ ⟨Nat.le_of_ble_eq_true rfl, Nat.le_of_ble_eq_true rfl⟩ hK hW.swap hS hA (ci := 1) (q0 := 0) rfl rfl hl.1 (rest := [.int r_5]) rfl (Nat.le_of_ble_eq_true rfl) dL_law_177 (fun r_6 u_ H locs h_ hW hS => ?_)
      obtain ⟨xs_1, ys_1, n_2⟩ := u_
      have hW : LW D A (wP d a px_1 py_1 qx qy fr tb ac la sx sy w h C n_1 x0 y0 x1 y1 mn) (wM d b pi xs_1 ys_1 fx fy tx ty w h C n_2 fm tn x0 x1 y0 y1) H := hW.swap
      have h2_ := h_
      obtain ⟨he_, hn_, hV⟩ := lv_vertex hV h1_ h2_
      have hn_ : n_1 = n_2 := hn_
      subst hn_
      have hW : LW D A (wP d a px_1 py_1 qx qy fr tb ac la sx sy w h C n_1 x0 y0 x1 y1 mn) (wM d b pi xs_1 ys_1 fx fy tx ty w h C n_1 fm tn x0 x1 y0 y1) H := hW
      have hV : LV w h C px_1 py_1 n_1 x0 y0 x1 y1 fr pi xs_1 ys_1 := hV
      refine lv_icmp_eq (tgt := 399) hx hb dL_law_180 (by decide) (fun c_180 => ?_) (fun c_180 => ?_)
      · refine lv_iinc (v := nI (i + 5)) (lv' := [(3, .int (nI (i + 5))), (0, .ref sb), (1, .ref (a 0)), (2, .ref (b 0))]) hx hb dL_law_399 hl (k := 3) rfl (nI_inc5 _) (by decide) rfl (fun ls hl => ?_)
        refine lv_goto (tgt := 48) hx hb dL_law_402 (by decide) ?_
        exact ih (i + 5) _ _ _ (by show L - (i + 5) < L - i; omega) ⟨ls, rfl, (lv_sub hl [1, 2, 3, 0] rfl), ⟨px_1, py_1, qx, qy, fr, tb, ac, la, sx, sy, n_1, x0, y0, x1, y1, mn, pi, xs_1, ys_1, fx, fy, tx, ty, fm, tn, hW, hV⟩, hS, by omega⟩
      · exact absurd he_ c_180
    · subst h_
      refine lv_tableIn (off := 123) (tgt := 185) hx hb dL_law_62 (by decide) (by decide) rfl (by decide) ?_
      refine lv_aload_n hx hb dL_law_185 rfl (lv_at hl 1 rfl) ?_
      refine lv_aload_n hx hb dL_law_186 rfl (lv_at hl 0 rfl) ?_
      refine lv_iload_n hx hb dL_law_187 rfl (lv_at hl 3 rfl) ?_
      refine lv_iconst (v := 1) hx hb dL_law_188 (by decide) ?_
      refine lv_iadd hx hb dL_law_189 ?_
      refine xtopi (y := nI (i + 1)) (nI_add i 1) ?_
      refine xsld hx hb hX hbl hbA hS (by omega) dL_law_190 (j := i + 1) (by omega) ?_
      refine lv_aload_n hx hb dL_law_191 rfl (lv_at hl 0 rfl) ?_
      refine lv_iload_n hx hb dL_law_192 rfl (lv_at hl 3 rfl) ?_
      refine lv_iconst (v := 2) hx hb dL_law_193 (by decide) ?_
      refine lv_iadd hx hb dL_law_194 ?_
      refine xtopi (y := nI (i + 2)) (nI_add i 2) ?_
      refine xsld hx hb hX hbl hbA hS (by omega) dL_law_195 (j := i + 2) (by omega) ?_
      refine lv_aload_n hx hb dL_law_196 rfl (lv_at hl 0 rfl) ?_
      refine lv_iload_n hx hb dL_law_197 rfl (lv_at hl 3 rfl) ?_
      refine lv_iconst (v := 3) hx hb dL_law_198 (by decide) ?_
      refine lv_iadd hx hb dL_law_199 ?_
      refine xtopi (y := nI (i + 3)) (nI_add i 3) ?_
      refine xsld hx hb hX hbl hbA hS (by omega) dL_law_200 (j := i + 3) (by omega) ?_
      refine lv_aload_n hx hb dL_law_201 rfl (lv_at hl 0 rfl) ?_
      refine lv_iload_n hx hb dL_law_202 rfl (lv_at hl 3 rfl) ?_
      refine lv_iconst (v := 4) hx hb dL_law_203 (by decide) ?_
      refine lv_iadd hx hb dL_law_204 ?_
      refine xtopi (y := nI (i + 4)) (nI_add i 4) ?_
      refine xsld hx hb hX hbl hbA hS (by omega) dL_law_205 (j := i + 4) (by omega) ?_
      refine xcLi [.int (sc (i + 1)), .int (sc (i + 2)), .int (sc (i + 3)), .int (sc (i + 4))] S (mtX1_setClip l D d a px py qx qy fr tb ac la sx sy w h C n x0 y0 x1 y1 mn (sc (i + 1)) (sc (i + 2)) (sc (i + 3)) (sc (i + 4))  H.size) q104 viX1_setClip ⟨rfl, rfl⟩ ⟨Nat.le_of_ble_eq_true rfl, Nat.le_of_ble_eq_true rfl⟩ ⟨Nat.le_of_ble_eq_true rfl, Nat.le_of_ble_eq_true rfl⟩ hK hW hS hA (ci := 0) (q0 := 0) rfl rfl hl.1 (rest := []) rfl (Nat.le_of_ble_eq_true rfl) dL_law_206 (fun r_7 u_ H locs h_ hW hS => ?_)
      obtain ⟨x0_1, y0_1, x1_1, y1_1⟩ := u_
      have hW : LW D A (wP d a px py qx qy fr tb ac la sx sy w h C n x0_1 y0_1 x1_1 y1_1 mn) (wM d b pi xs ys fx fy tx ty w h C n fm tn x0 x1 y0 y1) H := hW
      have h1_ := h_
      refine lv_aload_n hx hb dL_law_209 rfl (lv_at hl 2 rfl) ?_
      refine lv_aload_n hx hb dL_law_210 rfl (lv_at hl 0 rfl) ?_
      refine lv_iload_n hx hb dL_law_211 rfl (lv_at hl 3 rfl) ?_
      refine lv_iconst (v := 1) hx hb dL_law_212 (by decide) ?_
      refine lv_iadd hx hb dL_law_213 ?_
      refine xtopi (y := nI (i + 1)) (nI_add i 1) ?_
      refine xsld hx hb hX hbl hbA hS (by omega) dL_law_214 (j := i + 1) (by omega) ?_
      refine lv_aload_n hx hb dL_law_215 rfl (lv_at hl 0 rfl) ?_
      refine lv_iload_n hx hb dL_law_216 rfl (lv_at hl 3 rfl) ?_
      refine lv_iconst (v := 2) hx hb dL_law_217 (by decide) ?_
      refine lv_iadd hx hb dL_law_218 ?_
      refine xtopi (y := nI (i + 2)) (nI_add i 2) ?_
      refine xsld hx hb hX hbl hbA hS (by omega) dL_law_219 (j := i + 2) (by omega) ?_
      refine lv_aload_n hx hb dL_law_220 rfl (lv_at hl 0 rfl) ?_
      refine lv_iload_n hx hb dL_law_221 rfl (lv_at hl 3 rfl) ?_
      refine lv_iconst (v := 3) hx hb dL_law_222 (by decide) ?_
      refine lv_iadd hx hb dL_law_223 ?_
      refine xtopi (y := nI (i + 3)) (nI_add i 3) ?_
      refine xsld hx hb hX hbl hbA hS (by omega) dL_law_224 (j := i + 3) (by omega) ?_
      refine lv_aload_n hx hb dL_law_225 rfl (lv_at hl 0 rfl) ?_
      refine lv_iload_n hx hb dL_law_226 rfl (lv_at hl 3 rfl) ?_
      refine lv_iconst (v := 4) hx hb dL_law_227 (by decide) ?_
      refine lv_iadd hx hb dL_law_228 ?_
      refine xtopi (y := nI (i + 4)) (nI_add i 4) ?_
      refine xsld hx hb hX hbl hbA hS (by omega) dL_law_229 (j := i + 4) (by omega) ?_
      refine xcLi [.int (sc (i + 1)), .int (sc (i + 2)), .int (sc (i + 3)), .int (sc (i + 4))] S (mtX2_setClip l D d b pi xs ys fx fy tx ty w h C n fm tn x0 x1 y0 y1 (sc (i + 1)) (sc (i + 2)) (sc (i + 3)) (sc (i + 4))  H.size) q265 viX2_setClip ⟨rfl, rfl⟩ ⟨Nat.le_of_ble_eq_true rfl, Nat.le_of_ble_eq_true rfl⟩ ⟨Nat.le_of_ble_eq_true rfl, Nat.le_of_ble_eq_true rfl⟩ hK hW.swap hS hA (ci := 1) (q0 := 0) rfl rfl hl.1 (rest := [.int r_7]) rfl (Nat.le_of_ble_eq_true rfl) dL_law_230 (fun r_8 u_ H locs h_ hW hS => ?_)
      obtain ⟨x0_2, y0_2, x1_2, y1_2⟩ := u_
      have hW : LW D A (wP d a px py qx qy fr tb ac la sx sy w h C n x0_1 y0_1 x1_1 y1_1 mn) (wM d b pi xs ys fx fy tx ty w h C n fm tn x0_2 x1_2 y0_2 y1_2) H := hW.swap
      have h2_ := h_
      obtain ⟨he_, hq0_, hq1_, hq2_, hq3_, hV⟩ := lv_clip0 hV h1_ h2_
      have hq0_ : x0_1 = x0_2 := hq0_
      subst hq0_
      have hq1_ : y0_1 = y0_2 := hq1_
      subst hq1_
      have hq2_ : x1_1 = x1_2 := hq2_
      subst hq2_
      have hq3_ : y1_1 = y1_2 := hq3_
      subst hq3_
      have hW : LW D A (wP d a px py qx qy fr tb ac la sx sy w h C n x0_1 y0_1 x1_1 y1_1 mn) (wM d b pi xs ys fx fy tx ty w h C n fm tn x0_1 x1_1 y0_1 y1_1) H := hW
      have hV : LV w h C px py n x0_1 y0_1 x1_1 y1_1 fr pi xs ys := hV
      refine lv_icmp_eq (tgt := 399) hx hb dL_law_233 (by decide) (fun c_233 => ?_) (fun c_233 => ?_)
      · refine lv_iinc (v := nI (i + 5)) (lv' := [(3, .int (nI (i + 5))), (0, .ref sb), (1, .ref (a 0)), (2, .ref (b 0))]) hx hb dL_law_399 hl (k := 3) rfl (nI_inc5 _) (by decide) rfl (fun ls hl => ?_)
        refine lv_goto (tgt := 48) hx hb dL_law_402 (by decide) ?_
        exact ih (i + 5) _ _ _ (by show L - (i + 5) < L - i; omega) ⟨ls, rfl, (lv_sub hl [1, 2, 3, 0] rfl), ⟨px, py, qx, qy, fr, tb, ac, la, sx, sy, n, x0_1, y0_1, x1_1, y1_1, mn, pi, xs, ys, fx, fy, tx, ty, fm, tn, hW, hV⟩, hS, by omega⟩
      · exact absurd he_ c_233
    · subst h_
      refine lv_tableIn (off := 176) (tgt := 238) hx hb dL_law_62 (by decide) (by decide) rfl (by decide) ?_
      refine lv_aload_n hx hb dL_law_238 rfl (lv_at hl 1 rfl) ?_
      refine xcLi [] S (mtX1_clip l D d a px py qx qy fr tb ac la sx sy w h C n x0 y0 x1 y1 mn  hnC hC hV.2.2.1 hV.2.2.2.1.1 hV.2.2.2.1.2.1 hV.2.2.2.1.2.2.1 hV.2.2.2.1.2.2.2 H.size) q108 viX1_clip ⟨rfl, rfl⟩ ⟨Nat.le_of_ble_eq_true rfl, Nat.le_of_ble_eq_true rfl⟩ ⟨Nat.le_of_ble_eq_true rfl, Nat.le_of_ble_eq_true rfl⟩ hK hW hS hA (ci := 0) (q0 := 0) rfl rfl hl.1 (rest := []) rfl (Nat.le_of_ble_eq_true rfl) dL_law_239 (fun r_9 u_ H locs h_ hW hS => ?_)
      obtain ⟨px_2, py_2, qx_1, qy_1, sx_1, sy_1, n_3, mn_1⟩ := u_
      have hW : LW D A (wP d a px_2 py_2 qx_1 qy_1 fr tb ac la sx_1 sy_1 w h C n_3 x0 y0 x1 y1 mn_1) (wM d b pi xs ys fx fy tx ty w h C n fm tn x0 x1 y0 y1) H := hW
      have h1_ := h_
      refine lv_aload_n hx hb dL_law_242 rfl (lv_at hl 2 rfl) ?_
      refine xcLi [] S (mtX2_clip l D d b pi xs ys fx fy tx ty w h C n fm tn x0 x1 y0 y1  hnC hC hV.nn2 hV.2.2.2.1.1 hV.2.2.2.1.2.1 hV.2.2.2.1.2.2.1 hV.2.2.2.1.2.2.2 H.size) q269 viX2_clip ⟨rfl, rfl⟩ ⟨Nat.le_of_ble_eq_true rfl, Nat.le_of_ble_eq_true rfl⟩ ⟨Nat.le_of_ble_eq_true rfl, Nat.le_of_ble_eq_true rfl⟩ hK hW.swap hS hA (ci := 1) (q0 := 0) rfl rfl hl.1 (rest := [.int r_9]) rfl (Nat.le_of_ble_eq_true rfl) dL_law_243 (fun r_10 u_ H locs h_ hW hS => ?_)
      obtain ⟨xs_2, ys_2, fx_1, fy_1, tx_1, ty_1, n_4, fm_1, tn_1⟩ := u_
      have hW : LW D A (wP d a px_2 py_2 qx_1 qy_1 fr tb ac la sx_1 sy_1 w h C n_3 x0 y0 x1 y1 mn_1) (wM d b pi xs_2 ys_2 fx_1 fy_1 tx_1 ty_1 w h C n_4 fm_1 tn_1 x0 x1 y0 y1) H := hW.swap
      have h2_ := h_
      obtain ⟨he_, hn_, hV⟩ := lv_clip hV h1_ h2_
      have hn_ : n_3 = n_4 := hn_
      subst hn_
      have hW : LW D A (wP d a px_2 py_2 qx_1 qy_1 fr tb ac la sx_1 sy_1 w h C n_3 x0 y0 x1 y1 mn_1) (wM d b pi xs_2 ys_2 fx_1 fy_1 tx_1 ty_1 w h C n_3 fm_1 tn_1 x0 x1 y0 y1) H := hW
      have hV : LV w h C px_2 py_2 n_3 x0 y0 x1 y1 fr pi xs_2 ys_2 := hV
      refine lv_icmp_eq (tgt := 399) hx hb dL_law_246 (by decide) (fun c_246 => ?_) (fun c_246 => ?_)
      · refine lv_iinc (v := nI (i + 5)) (lv' := [(3, .int (nI (i + 5))), (0, .ref sb), (1, .ref (a 0)), (2, .ref (b 0))]) hx hb dL_law_399 hl (k := 3) rfl (nI_inc5 _) (by decide) rfl (fun ls hl => ?_)
        refine lv_goto (tgt := 48) hx hb dL_law_402 (by decide) ?_
        exact ih (i + 5) _ _ _ (by show L - (i + 5) < L - i; omega) ⟨ls, rfl, (lv_sub hl [1, 2, 3, 0] rfl), ⟨px_2, py_2, qx_1, qy_1, fr, tb, ac, la, sx_1, sy_1, n_3, x0, y0, x1, y1, mn_1, pi, xs_2, ys_2, fx_1, fy_1, tx_1, ty_1, fm_1, tn_1, hW, hV⟩, hS, by omega⟩
      · exact absurd he_ c_246
    · subst h_
      refine lv_tableIn (off := 189) (tgt := 251) hx hb dL_law_62 (by decide) (by decide) rfl (by decide) ?_
      refine lv_aload_n hx hb dL_law_251 rfl (lv_at hl 1 rfl) ?_
      refine lv_aload_n hx hb dL_law_252 rfl (lv_at hl 0 rfl) ?_
      refine lv_iload_n hx hb dL_law_253 rfl (lv_at hl 3 rfl) ?_
      refine lv_iconst (v := 1) hx hb dL_law_254 (by decide) ?_
      refine lv_iadd hx hb dL_law_255 ?_
      refine xtopi (y := nI (i + 1)) (nI_add i 1) ?_
      refine xsld hx hb hX hbl hbA hS (by omega) dL_law_256 (j := i + 1) (by omega) ?_
      refine xcRi [.int (sc (i + 1))] S (mtX1_vx l D d a px py qx qy fr tb ac la sx sy w h C n x0 y0 x1 y1 mn (sc (i + 1)) (by omega)) q134 viX1_vx ⟨rfl, rfl⟩ ⟨Nat.le_of_ble_eq_true rfl, Nat.le_of_ble_eq_true rfl⟩ ⟨Nat.le_of_ble_eq_true rfl, Nat.le_of_ble_eq_true rfl⟩ hK hW.1 (ci := 0) (q0 := 0) rfl rfl hl.1 (rest := []) rfl (Nat.le_of_ble_eq_true rfl) dL_law_257 (fun r_ h_ => ?_)
      obtain rfl := h_
      refine lv_aload_n hx hb dL_law_260 rfl (lv_at hl 2 rfl) ?_
      refine lv_aload_n hx hb dL_law_261 rfl (lv_at hl 0 rfl) ?_
      refine lv_iload_n hx hb dL_law_262 rfl (lv_at hl 3 rfl) ?_
      refine lv_iconst (v := 1) hx hb dL_law_263 (by decide) ?_
      refine lv_iadd hx hb dL_law_264 ?_
      refine xtopi (y := nI (i + 1)) (nI_add i 1) ?_
      refine xsld hx hb hX hbl hbA hS (by omega) dL_law_265 (j := i + 1) (by omega) ?_
      refine xcRi [.int (sc (i + 1))] S (mtX2_vx l D d b pi xs ys fx fy tx ty w h C n fm tn x0 x1 y0 y1 (sc (i + 1)) (by omega)) q292 viX2_vx ⟨rfl, rfl⟩ ⟨Nat.le_of_ble_eq_true rfl, Nat.le_of_ble_eq_true rfl⟩ ⟨Nat.le_of_ble_eq_true rfl, Nat.le_of_ble_eq_true rfl⟩ hK hW.2.1 (ci := 1) (q0 := 0) rfl rfl hl.1 (rest := [.int (vxI px n (sc (i + 1)))]) rfl (Nat.le_of_ble_eq_true rfl) dL_law_266 (fun r_ h_ => ?_)
      obtain rfl := h_
      refine lv_icmp_eq (tgt := 399) hx hb dL_law_269 (by decide) (fun c_269 => ?_) (fun c_269 => ?_)
      · refine lv_iinc (v := nI (i + 5)) (lv' := [(3, .int (nI (i + 5))), (0, .ref sb), (1, .ref (a 0)), (2, .ref (b 0))]) hx hb dL_law_399 hl (k := 3) rfl (nI_inc5 _) (by decide) rfl (fun ls hl => ?_)
        refine lv_goto (tgt := 48) hx hb dL_law_402 (by decide) ?_
        exact ih (i + 5) _ _ _ (by show L - (i + 5) < L - i; omega) ⟨ls, rfl, (lv_sub hl [1, 2, 3, 0] rfl), ⟨px, py, qx, qy, fr, tb, ac, la, sx, sy, n, x0, y0, x1, y1, mn, pi, xs, ys, fx, fy, tx, ty, fm, tn, hW, hV⟩, hS, by omega⟩
      · exact absurd (lv_vx hV hC _).1 c_269
    · subst h_
      refine lv_tableIn (off := 212) (tgt := 274) hx hb dL_law_62 (by decide) (by decide) rfl (by decide) ?_
      refine lv_aload_n hx hb dL_law_274 rfl (lv_at hl 1 rfl) ?_
      refine lv_aload_n hx hb dL_law_275 rfl (lv_at hl 0 rfl) ?_
      refine lv_iload_n hx hb dL_law_276 rfl (lv_at hl 3 rfl) ?_
      refine lv_iconst (v := 1) hx hb dL_law_277 (by decide) ?_
      refine lv_iadd hx hb dL_law_278 ?_
      refine xtopi (y := nI (i + 1)) (nI_add i 1) ?_
      refine xsld hx hb hX hbl hbA hS (by omega) dL_law_279 (j := i + 1) (by omega) ?_
      refine xcRi [.int (sc (i + 1))] S (mtX1_vy l D d a px py qx qy fr tb ac la sx sy w h C n x0 y0 x1 y1 mn (sc (i + 1)) (by omega)) q138 viX1_vy ⟨rfl, rfl⟩ ⟨Nat.le_of_ble_eq_true rfl, Nat.le_of_ble_eq_true rfl⟩ ⟨Nat.le_of_ble_eq_true rfl, Nat.le_of_ble_eq_true rfl⟩ hK hW.1 (ci := 0) (q0 := 0) rfl rfl hl.1 (rest := []) rfl (Nat.le_of_ble_eq_true rfl) dL_law_280 (fun r_ h_ => ?_)
      obtain rfl := h_
      refine lv_aload_n hx hb dL_law_283 rfl (lv_at hl 2 rfl) ?_
      refine lv_aload_n hx hb dL_law_284 rfl (lv_at hl 0 rfl) ?_
      refine lv_iload_n hx hb dL_law_285 rfl (lv_at hl 3 rfl) ?_
      refine lv_iconst (v := 1) hx hb dL_law_286 (by decide) ?_
      refine lv_iadd hx hb dL_law_287 ?_
      refine xtopi (y := nI (i + 1)) (nI_add i 1) ?_
      refine xsld hx hb hX hbl hbA hS (by omega) dL_law_288 (j := i + 1) (by omega) ?_
      refine xcRi [.int (sc (i + 1))] S (mtX2_vy l D d b pi xs ys fx fy tx ty w h C n fm tn x0 x1 y0 y1 (sc (i + 1)) (by omega)) q300 viX2_vy ⟨rfl, rfl⟩ ⟨Nat.le_of_ble_eq_true rfl, Nat.le_of_ble_eq_true rfl⟩ ⟨Nat.le_of_ble_eq_true rfl, Nat.le_of_ble_eq_true rfl⟩ hK hW.2.1 (ci := 1) (q0 := 0) rfl rfl hl.1 (rest := [.int (vxI py n (sc (i + 1)))]) rfl (Nat.le_of_ble_eq_true rfl) dL_law_289 (fun r_ h_ => ?_)
      obtain rfl := h_
      refine lv_icmp_eq (tgt := 399) hx hb dL_law_292 (by decide) (fun c_292 => ?_) (fun c_292 => ?_)
      · refine lv_iinc (v := nI (i + 5)) (lv' := [(3, .int (nI (i + 5))), (0, .ref sb), (1, .ref (a 0)), (2, .ref (b 0))]) hx hb dL_law_399 hl (k := 3) rfl (nI_inc5 _) (by decide) rfl (fun ls hl => ?_)
        refine lv_goto (tgt := 48) hx hb dL_law_402 (by decide) ?_
        exact ih (i + 5) _ _ _ (by show L - (i + 5) < L - i; omega) ⟨ls, rfl, (lv_sub hl [1, 2, 3, 0] rfl), ⟨px, py, qx, qy, fr, tb, ac, la, sx, sy, n, x0, y0, x1, y1, mn, pi, xs, ys, fx, fy, tx, ty, fm, tn, hW, hV⟩, hS, by omega⟩
      · exact absurd (lv_vx hV hC _).2 c_292
    · subst h_
      refine lv_tableIn (off := 235) (tgt := 297) hx hb dL_law_62 (by decide) (by decide) rfl (by decide) ?_
      refine lv_aload_n hx hb dL_law_297 rfl (lv_at hl 1 rfl) ?_
      refine lv_aload_n hx hb dL_law_298 rfl (lv_at hl 0 rfl) ?_
      refine lv_iload_n hx hb dL_law_299 rfl (lv_at hl 3 rfl) ?_
      refine lv_iconst (v := 1) hx hb dL_law_300 (by decide) ?_
      refine lv_iadd hx hb dL_law_301 ?_
      refine xtopi (y := nI (i + 1)) (nI_add i 1) ?_
      refine xsld hx hb hX hbl hbA hS (by omega) dL_law_302 (j := i + 1) (by omega) ?_
      refine xcLi [.int (sc (i + 1))] S (mtX1_fill l D d a px py qx qy fr tb ac la sx sy w h C n x0 y0 x1 y1 mn (sc (i + 1)) (by omega) hw hh hV.2.2.1 H.size) q162 viX1_fill ⟨rfl, rfl⟩ ⟨Nat.le_of_ble_eq_true rfl, Nat.le_of_ble_eq_true rfl⟩ ⟨Nat.le_of_ble_eq_true rfl, Nat.le_of_ble_eq_true rfl⟩ hK hW hS hA (ci := 0) (q0 := 0) rfl rfl hl.1 (rest := []) rfl (Nat.le_of_ble_eq_true rfl) dL_law_303 (fun r_11 u_ H locs h_ hW hS => ?_)
      obtain ⟨fr_2, tb_1, ac_1, la_1⟩ := u_
      have hW : LW D A (wP d a px py qx qy fr_2 tb_1 ac_1 la_1 sx sy w h C n x0 y0 x1 y1 mn) (wM d b pi xs ys fx fy tx ty w h C n fm tn x0 x1 y0 y1) H := hW
      have h1_ := h_
      refine lv_aload_n hx hb dL_law_306 rfl (lv_at hl 2 rfl) ?_
      refine lv_aload_n hx hb dL_law_307 rfl (lv_at hl 0 rfl) ?_
      refine lv_iload_n hx hb dL_law_308 rfl (lv_at hl 3 rfl) ?_
      refine lv_iconst (v := 1) hx hb dL_law_309 (by decide) ?_
      refine lv_iadd hx hb dL_law_310 ?_
      refine xtopi (y := nI (i + 1)) (nI_add i 1) ?_
      refine xsld hx hb hX hbl hbA hS (by omega) dL_law_311 (j := i + 1) (by omega) ?_
      refine xcLi [.int (sc (i + 1))] S (mtX2_fill l D d b pi xs ys fx fy tx ty w h C n fm tn x0 x1 y0 y1 (sc (i + 1)) (by omega) hw hh hV.nn2 H.size) q311 viX2_fill ⟨rfl, rfl⟩ ⟨Nat.le_of_ble_eq_true rfl, Nat.le_of_ble_eq_true rfl⟩ ⟨Nat.le_of_ble_eq_true rfl, Nat.le_of_ble_eq_true rfl⟩ hK hW.swap hS hA (ci := 1) (q0 := 0) rfl rfl hl.1 (rest := [.int r_11]) rfl (Nat.le_of_ble_eq_true rfl) dL_law_312 (fun r_12 u_ H locs h_ hW hS => ?_)
      obtain ⟨pi_2, rfl⟩ : ∃ z, z = u_ := ⟨_, rfl⟩
      have hW : LW D A (wP d a px py qx qy fr_2 tb_1 ac_1 la_1 sx sy w h C n x0 y0 x1 y1 mn) (wM d b pi_2 xs ys fx fy tx ty w h C n fm tn x0 x1 y0 y1) H := hW.swap
      have h2_ := h_
      obtain ⟨he_, hV⟩ := lv_fill hV h1_ h2_
      have hV : LV w h C px py n x0 y0 x1 y1 fr_2 pi_2 xs ys := hV
      refine lv_icmp_eq (tgt := 399) hx hb dL_law_315 (by decide) (fun c_315 => ?_) (fun c_315 => ?_)
      · refine lv_iinc (v := nI (i + 5)) (lv' := [(3, .int (nI (i + 5))), (0, .ref sb), (1, .ref (a 0)), (2, .ref (b 0))]) hx hb dL_law_399 hl (k := 3) rfl (nI_inc5 _) (by decide) rfl (fun ls hl => ?_)
        refine lv_goto (tgt := 48) hx hb dL_law_402 (by decide) ?_
        exact ih (i + 5) _ _ _ (by show L - (i + 5) < L - i; omega) ⟨ls, rfl, (lv_sub hl [1, 2, 3, 0] rfl), ⟨px, py, qx, qy, fr_2, tb_1, ac_1, la_1, sx, sy, n, x0, y0, x1, y1, mn, pi_2, xs, ys, fx, fy, tx, ty, fm, tn, hW, hV⟩, hS, by omega⟩
      · exact absurd he_ c_315
    · subst h_
      refine lv_tableIn (off := 258) (tgt := 320) hx hb dL_law_62 (by decide) (by decide) rfl (by decide) ?_
      refine lv_aload_n hx hb dL_law_320 rfl (lv_at hl 1 rfl) ?_
      refine lv_aload_n hx hb dL_law_321 rfl (lv_at hl 0 rfl) ?_
      refine lv_iload_n hx hb dL_law_322 rfl (lv_at hl 3 rfl) ?_
      refine lv_iconst (v := 1) hx hb dL_law_323 (by decide) ?_
      refine lv_iadd hx hb dL_law_324 ?_
      refine xtopi (y := nI (i + 1)) (nI_add i 1) ?_
      refine xsld hx hb hX hbl hbA hS (by omega) dL_law_325 (j := i + 1) (by omega) ?_
      refine lv_aload_n hx hb dL_law_326 rfl (lv_at hl 0 rfl) ?_
      refine lv_iload_n hx hb dL_law_327 rfl (lv_at hl 3 rfl) ?_
      refine lv_iconst (v := 2) hx hb dL_law_328 (by decide) ?_
      refine lv_iadd hx hb dL_law_329 ?_
      refine xtopi (y := nI (i + 2)) (nI_add i 2) ?_
      refine xsld hx hb hX hbl hbA hS (by omega) dL_law_330 (j := i + 2) (by omega) ?_
      refine xcRi [.int (sc (i + 1)), .int (sc (i + 2))] S (mtX1_inside l D d a px py qx qy fr tb ac la sx sy w h C n x0 y0 x1 y1 mn (sc (i + 1)) (sc (i + 2)) (by omega) hV.2.2.1) q146 viX1_inside ⟨rfl, rfl⟩ ⟨Nat.le_of_ble_eq_true rfl, Nat.le_of_ble_eq_true rfl⟩ ⟨Nat.le_of_ble_eq_true rfl, Nat.le_of_ble_eq_true rfl⟩ hK hW.1 (ci := 0) (q0 := 0) rfl rfl hl.1 (rest := []) rfl (Nat.le_of_ble_eq_true rfl) dL_law_331 (fun r_ h_ => ?_)
      obtain rfl := h_
      refine lv_aload_n hx hb dL_law_334 rfl (lv_at hl 2 rfl) ?_
      refine lv_aload_n hx hb dL_law_335 rfl (lv_at hl 0 rfl) ?_
      refine lv_iload_n hx hb dL_law_336 rfl (lv_at hl 3 rfl) ?_
      refine lv_iconst (v := 1) hx hb dL_law_337 (by decide) ?_
      refine lv_iadd hx hb dL_law_338 ?_
      refine xtopi (y := nI (i + 1)) (nI_add i 1) ?_
      refine xsld hx hb hX hbl hbA hS (by omega) dL_law_339 (j := i + 1) (by omega) ?_
      refine lv_aload_n hx hb dL_law_340 rfl (lv_at hl 0 rfl) ?_
      refine lv_iload_n hx hb dL_law_341 rfl (lv_at hl 3 rfl) ?_
      refine lv_iconst (v := 2) hx hb dL_law_342 (by decide) ?_
      refine lv_iadd hx hb dL_law_343 ?_
      refine xtopi (y := nI (i + 2)) (nI_add i 2) ?_
      refine xsld hx hb hX hbl hbA hS (by omega) dL_law_344 (j := i + 2) (by omega) ?_
      refine xcRi [.int (sc (i + 1)), .int (sc (i + 2))] S (mtX2_inside l D d b pi xs ys fx fy tx ty w h C n fm tn x0 x1 y0 y1 (sc (i + 1)) (sc (i + 2)) (by omega) hV.nn2) q304 viX2_inside ⟨rfl, rfl⟩ ⟨Nat.le_of_ble_eq_true rfl, Nat.le_of_ble_eq_true rfl⟩ ⟨Nat.le_of_ble_eq_true rfl, Nat.le_of_ble_eq_true rfl⟩ hK hW.2.1 (ci := 1) (q0 := 0) rfl rfl hl.1 (rest := [.int (bI (insB px py n (sc (i + 1)).toInt (sc (i + 2)).toInt n))]) rfl (Nat.le_of_ble_eq_true rfl) dL_law_345 (fun r_ h_ => ?_)
      obtain rfl := h_
      refine lv_icmp_eq (tgt := 399) hx hb dL_law_348 (by decide) (fun c_348 => ?_) (fun c_348 => ?_)
      · have c_348 : (insB px py n (sc (i + 1)).toInt (sc (i + 2)).toInt n) = (insB xs ys n (sc (i + 1)).toInt (sc (i + 2)).toInt n) := bI_inj c_348
        refine lv_iinc (v := nI (i + 5)) (lv' := [(3, .int (nI (i + 5))), (0, .ref sb), (1, .ref (a 0)), (2, .ref (b 0))]) hx hb dL_law_399 hl (k := 3) rfl (nI_inc5 _) (by decide) rfl (fun ls hl => ?_)
        refine lv_goto (tgt := 48) hx hb dL_law_402 (by decide) ?_
        exact ih (i + 5) _ _ _ (by show L - (i + 5) < L - i; omega) ⟨ls, rfl, (lv_sub hl [1, 2, 3, 0] rfl), ⟨px, py, qx, qy, fr, tb, ac, la, sx, sy, n, x0, y0, x1, y1, mn, pi, xs, ys, fx, fy, tx, ty, fm, tn, hW, hV⟩, hS, by omega⟩
      · have c_348 : ¬ ((insB px py n (sc (i + 1)).toInt (sc (i + 2)).toInt n) = (insB xs ys n (sc (i + 1)).toInt (sc (i + 2)).toInt n)) := fun q_ => c_348 (congrArg bI q_)
        exact absurd (lv_ins hV _ _) c_348
    · subst h_
      refine lv_tableIn (off := 291) (tgt := 353) hx hb dL_law_62 (by decide) (by decide) rfl (by decide) ?_
      refine lv_aload_n hx hb dL_law_353 rfl (lv_at hl 1 rfl) ?_
      refine lv_aload_n hx hb dL_law_354 rfl (lv_at hl 0 rfl) ?_
      refine lv_iload_n hx hb dL_law_355 rfl (lv_at hl 3 rfl) ?_
      refine lv_iconst (v := 1) hx hb dL_law_356 (by decide) ?_
      refine lv_iadd hx hb dL_law_357 ?_
      refine xtopi (y := nI (i + 1)) (nI_add i 1) ?_
      refine xsld hx hb hX hbl hbA hS (by omega) dL_law_358 (j := i + 1) (by omega) ?_
      refine lv_aload_n hx hb dL_law_359 rfl (lv_at hl 0 rfl) ?_
      refine lv_iload_n hx hb dL_law_360 rfl (lv_at hl 3 rfl) ?_
      refine lv_iconst (v := 2) hx hb dL_law_361 (by decide) ?_
      refine lv_iadd hx hb dL_law_362 ?_
      refine xtopi (y := nI (i + 2)) (nI_add i 2) ?_
      refine xsld hx hb hX hbl hbA hS (by omega) dL_law_363 (j := i + 2) (by omega) ?_
      refine xcRi [.int (sc (i + 1)), .int (sc (i + 2))] S (mtX1_pixel l D d a px py qx qy fr tb ac la sx sy w h C n x0 y0 x1 y1 mn (sc (i + 1)) (sc (i + 2)) hw hh) q182 viX1_pixel ⟨rfl, rfl⟩ ⟨Nat.le_of_ble_eq_true rfl, Nat.le_of_ble_eq_true rfl⟩ ⟨Nat.le_of_ble_eq_true rfl, Nat.le_of_ble_eq_true rfl⟩ hK hW.1 (ci := 0) (q0 := 0) rfl rfl hl.1 (rest := []) rfl (Nat.le_of_ble_eq_true rfl) dL_law_364 (fun r_ h_ => ?_)
      obtain rfl := h_
      refine lv_aload_n hx hb dL_law_367 rfl (lv_at hl 2 rfl) ?_
      refine lv_aload_n hx hb dL_law_368 rfl (lv_at hl 0 rfl) ?_
      refine lv_iload_n hx hb dL_law_369 rfl (lv_at hl 3 rfl) ?_
      refine lv_iconst (v := 1) hx hb dL_law_370 (by decide) ?_
      refine lv_iadd hx hb dL_law_371 ?_
      refine xtopi (y := nI (i + 1)) (nI_add i 1) ?_
      refine xsld hx hb hX hbl hbA hS (by omega) dL_law_372 (j := i + 1) (by omega) ?_
      refine lv_aload_n hx hb dL_law_373 rfl (lv_at hl 0 rfl) ?_
      refine lv_iload_n hx hb dL_law_374 rfl (lv_at hl 3 rfl) ?_
      refine lv_iconst (v := 2) hx hb dL_law_375 (by decide) ?_
      refine lv_iadd hx hb dL_law_376 ?_
      refine xtopi (y := nI (i + 2)) (nI_add i 2) ?_
      refine xsld hx hb hX hbl hbA hS (by omega) dL_law_377 (j := i + 2) (by omega) ?_
      refine xcRi [.int (sc (i + 1)), .int (sc (i + 2))] S (mtX2_pixel l D d b pi xs ys fx fy tx ty w h C n fm tn x0 x1 y0 y1 (sc (i + 1)) (sc (i + 2)) hw hh) q316 viX2_pixel ⟨rfl, rfl⟩ ⟨Nat.le_of_ble_eq_true rfl, Nat.le_of_ble_eq_true rfl⟩ ⟨Nat.le_of_ble_eq_true rfl, Nat.le_of_ble_eq_true rfl⟩ hK hW.2.1 (ci := 1) (q0 := 0) rfl rfl hl.1 (rest := [.int (pixI w fr w h (sc (i + 1)) (sc (i + 2)))]) rfl (Nat.le_of_ble_eq_true rfl) dL_law_378 (fun r_ h_ => ?_)
      obtain rfl := h_
      refine lv_icmp_eq (tgt := 399) hx hb dL_law_381 (by decide) (fun c_381 => ?_) (fun c_381 => ?_)
      · refine lv_iinc (v := nI (i + 5)) (lv' := [(3, .int (nI (i + 5))), (0, .ref sb), (1, .ref (a 0)), (2, .ref (b 0))]) hx hb dL_law_399 hl (k := 3) rfl (nI_inc5 _) (by decide) rfl (fun ls hl => ?_)
        refine lv_goto (tgt := 48) hx hb dL_law_402 (by decide) ?_
        exact ih (i + 5) _ _ _ (by show L - (i + 5) < L - i; omega) ⟨ls, rfl, (lv_sub hl [1, 2, 3, 0] rfl), ⟨px, py, qx, qy, fr, tb, ac, la, sx, sy, n, x0, y0, x1, y1, mn, pi, xs, ys, fx, fy, tx, ty, fm, tn, hW, hV⟩, hS, by omega⟩
      · exact absurd (lv_pix hV hw hh _ _) c_381
    · subst h_
      refine lv_tableIn (off := 324) (tgt := 386) hx hb dL_law_62 (by decide) (by decide) rfl (by decide) ?_
      refine lv_aload_n hx hb dL_law_386 rfl (lv_at hl 1 rfl) ?_
      refine xcRi [] S (mtX1_vertices l D d a px py qx qy fr tb ac la sx sy w h C n x0 y0 x1 y1 mn  ) q142 viX1_vertices ⟨rfl, rfl⟩ ⟨Nat.le_of_ble_eq_true rfl, Nat.le_of_ble_eq_true rfl⟩ ⟨Nat.le_of_ble_eq_true rfl, Nat.le_of_ble_eq_true rfl⟩ hK hW.1 (ci := 0) (q0 := 0) rfl rfl hl.1 (rest := []) rfl (Nat.le_of_ble_eq_true rfl) dL_law_387 (fun r_ h_ => ?_)
      obtain rfl := h_
      refine lv_aload_n hx hb dL_law_390 rfl (lv_at hl 2 rfl) ?_
      refine xcRi [] S (mtX2_vertices l D d b pi xs ys fx fy tx ty w h C n fm tn x0 x1 y0 y1  ) q320 viX2_vertices ⟨rfl, rfl⟩ ⟨Nat.le_of_ble_eq_true rfl, Nat.le_of_ble_eq_true rfl⟩ ⟨Nat.le_of_ble_eq_true rfl, Nat.le_of_ble_eq_true rfl⟩ hK hW.2.1 (ci := 1) (q0 := 0) rfl rfl hl.1 (rest := [.int (nI n)]) rfl (Nat.le_of_ble_eq_true rfl) dL_law_391 (fun r_ h_ => ?_)
      obtain rfl := h_
      refine lv_icmp_eq (tgt := 399) hx hb dL_law_394 (by decide) (fun c_394 => ?_) (fun c_394 => ?_)
      · have c_394 : n = n := xeq (a := n) (b := n) c_394 (by omega) (by omega)
        refine lv_iinc (v := nI (i + 5)) (lv' := [(3, .int (nI (i + 5))), (0, .ref sb), (1, .ref (a 0)), (2, .ref (b 0))]) hx hb dL_law_399 hl (k := 3) rfl (nI_inc5 _) (by decide) rfl (fun ls hl => ?_)
        refine lv_goto (tgt := 48) hx hb dL_law_402 (by decide) ?_
        exact ih (i + 5) _ _ _ (by show L - (i + 5) < L - i; omega) ⟨ls, rfl, (lv_sub hl [1, 2, 3, 0] rfl), ⟨px, py, qx, qy, fr, tb, ac, la, sx, sy, n, x0, y0, x1, y1, mn, pi, xs, ys, fx, fy, tx, ty, fm, tn, hW, hV⟩, hS, by omega⟩
      · have c_394 : n ≠ n := xne (a := n) (b := n) c_394 (by omega) (by omega)
        exact absurd rfl c_394
    · refine lv_tableOut (tgt := 399) hx hb dL_law_62 (Or.inr (by rw [nI_toInt (by omega)]; omega)) (by decide) ?_
      refine lv_iinc (v := nI (i + 5)) (lv' := [(3, .int (nI (i + 5))), (0, .ref sb), (1, .ref (a 0)), (2, .ref (b 0))]) hx hb dL_law_399 hl (k := 3) rfl (nI_inc5 _) (by decide) rfl (fun ls hl => ?_)
      refine lv_goto (tgt := 48) hx hb dL_law_402 (by decide) ?_
      exact ih (i + 5) _ _ _ (by show L - (i + 5) < L - i; omega) ⟨ls, rfl, (lv_sub hl [1, 2, 3, 0] rfl), ⟨px, py, qx, qy, fr, tb, ac, la, sx, sy, n, x0, y0, x1, y1, mn, pi, xs, ys, fx, fy, tx, ty, fm, tn, hW, hV⟩, hS, by omega⟩
end
section
set_option maxRecDepth 100000
set_option maxHeartbeats 4000000 in
/-- YOUR PART: from the entry, for every script of at most 2563 ints, the law comes to its end with true -/
theorem whole_start {p : Program} {e : Env} {s : State} {m : MethodId} {below : List Frame} {meth : Method} {c : Code} (l : Launch) {b L : Nat} {xs : Nat → Int32} (hL : L ≤ 2563) (C0 : lw_At p s m meth c b L xs) : W p l e room_1 s m #[Value.ref b] below meth c s.heap [] 0 0 (lw_Z below #[Value.ref b] s) (entryFrame m ([Value.ref b] : List Value).toArray 4) := by
  obtain ⟨hx, hb, hr, hml, hown, hts0, hX, hbl, hlk, hgv⟩ := C0
  have hts : ∀ w ∈ lw_all, w.before #[Value.ref b] s = true := fun w h => hts0 w (lw_all_tbl h)
  have S : CallFix p m c cL_law 4 s #[Value.ref b] lw_all RX0 := ⟨hx, hb, hml, hown, hts⟩
  obtain ⟨cP, iP, hKn0⟩ := u_known (C := RX1) (T := TX1) (N := 19) (n := 19) hts in_X1 (hts _ q20)
  obtain ⟨cM, iM, hKn1⟩ := u_known (C := RX2) (T := TX2) (N := 17) (n := 17) hts in_X2 (hts _ q190)
  obtain ⟨D, hK0⟩ : ∃ D : va_G, va_K D vwCl [] s := by
    refine ⟨(fun k => if k = 0 then cP else cM, fun k => if k = 0 then iP else iM), fun k q hq => ?_, fun k q hq => by simp at hq⟩
    match k, hq with
    | 0, hq => cases hq; exact hKn0
    | 1, hq => cases hq; exact hKn1
    | k + 2, hq => simp [vwCl] at hq
  obtain ⟨d, hK⟩ := xkd hK0 (hts _ q88)
  obtain ⟨w, hw1, hw2, hwe⟩ := clamp_ex (if 0 < L then xs 0 else 0) 1 24 (by decide) (by decide)
  obtain ⟨h, hh1, hh2, hhe⟩ := clamp_ex (if 1 < L then xs 1 else 0) 1 24 (by decide) (by decide)
  obtain ⟨C, hC1, hC2, hCe⟩ := clamp_ex (if 2 < L then xs 2 else 0) 3 60 (by decide) (by decide)
  have hbA : ¬ (fun q => s.heap.size ≤ q) b := Nat.not_le.mpr hbl
  have hA : ∀ q, s.heap.size ≤ q → (fun q => s.heap.size ≤ q) q := fun q h => h
  have hP : va_P D vwCl [] s.heap := fun k q hq => by simp at hq
  have hD : va_D (fun q => s.heap.size ≤ q) [] := ⟨fun i j p q hp => by simp at hp, fun k q hq => by simp at hq⟩
  have hS : va_S (fun q => s.heap.size ≤ q) s.heap s.heap [] := va_S.rf
  have hl := lv_entry ([.ref b]) (n := 4) (Nat.le_of_ble_eq_true rfl)
  rw [lg_entry_eq]
  generalize (lg_sl ([.ref b]) ++ List.replicate (4 - (lg_sl ([.ref b])).length) Slot.unset).toArray = ls at hl ⊢
  have hl : lv_has ls 4 [(0, .ref b)] := hl
  refine va_new (ci := 0) (fs := [.null, .null, .null, .null, .null, .null, .null, .null, .int 0, .int 0, .int 0, .int 0, .int 0, .int 0, .int 0, .int 0, .int 0, .null, .null]) (C := RX1) (T := TX1) (N := 19) hx hb hts in_X1 tyX1 tyX1_ok hown (hts _ q19) (hts _ q20) (hts _ q17) hK hP hD hS hA rfl (fun j hj => by rcases (show j = 0 ∨ j = 1 ∨ j = 2 ∨ j = 3 ∨ j = 4 ∨ j = 5 ∨ j = 6 ∨ j = 7 ∨ j = 8 ∨ j = 9 ∨ j = 10 ∨ j = 11 ∨ j = 12 ∨ j = 13 ∨ j = 14 ∨ j = 15 ∨ j = 16 ∨ j = 17 ∨ j = 18 by omega) with rfl | rfl | rfl | rfl | rfl | rfl | rfl | rfl | rfl | rfl | rfl | rfl | rfl | rfl | rfl | rfl | rfl | rfl | rfl <;> rfl) (Nat.le_of_ble_eq_true rfl) (Nat.le_of_ble_eq_true rfl) dL_law_0 (fun o1 H hP hD hS => ?_)
  have hW := LW.one (X := [(o1, .inr (0, [.null, .null, .null, .null, .null, .null, .null, .null, .int 0, .int 0, .int 0, .int 0, .int 0, .int 0, .int 0, .int 0, .int 0, .null, .null]))]) hP hD
  refine lv_dup hx hb dL_law_3 rfl ?_
  refine lv_aload_n hx hb dL_law_4 rfl (lv_at hl 0 rfl) ?_
  refine lv_iconst (v := 0) hx hb dL_law_5 (by decide) ?_
  refine xcXi [.ref b, .int 0] S (mtX0_cell l b L xs 0 hL (by decide)) q186 siX0_cell ⟨rfl, rfl⟩ ⟨Nat.le_of_ble_eq_true rfl, Nat.le_of_ble_eq_true rfl⟩ ⟨Nat.le_of_ble_eq_true rfl, Nat.le_of_ble_eq_true rfl⟩ hX hbl hbA hS hl.1 (rest := [.ref o1, .ref o1]) rfl (Nat.le_of_ble_eq_true rfl) dL_law_6 (fun r_ h_ => ?_)
  obtain rfl := h_
  refine lv_aload_n hx hb dL_law_9 rfl (lv_at hl 0 rfl) ?_
  refine lv_iconst (v := 1) hx hb dL_law_10 (by decide) ?_
  refine xcXi [.ref b, .int 1] S (mtX0_cell l b L xs 1 hL (by decide)) q186 siX0_cell ⟨rfl, rfl⟩ ⟨Nat.le_of_ble_eq_true rfl, Nat.le_of_ble_eq_true rfl⟩ ⟨Nat.le_of_ble_eq_true rfl, Nat.le_of_ble_eq_true rfl⟩ hX hbl hbA hS hl.1 (rest := [.int (if 0 < L then xs 0 else 0), .ref o1, .ref o1]) rfl (Nat.le_of_ble_eq_true rfl) dL_law_11 (fun r_ h_ => ?_)
  obtain rfl := h_
  refine lv_aload_n hx hb dL_law_14 rfl (lv_at hl 0 rfl) ?_
  refine lv_iconst (v := 2) hx hb dL_law_15 (by decide) ?_
  refine xcXi [.ref b, .int 2] S (mtX0_cell l b L xs 2 hL (by decide)) q186 siX0_cell ⟨rfl, rfl⟩ ⟨Nat.le_of_ble_eq_true rfl, Nat.le_of_ble_eq_true rfl⟩ ⟨Nat.le_of_ble_eq_true rfl, Nat.le_of_ble_eq_true rfl⟩ hX hbl hbA hS hl.1 (rest := [.int (if 1 < L then xs 1 else 0), .int (if 0 < L then xs 0 else 0), .ref o1, .ref o1]) rfl (Nat.le_of_ble_eq_true rfl) dL_law_16 (fun r_ h_ => ?_)
  obtain rfl := h_
  refine xcI [.int (if 0 < L then xs 0 else 0), .int (if 1 < L then xs 1 else 0), .int (if 2 < L then xs 2 else 0)] S (mtX1_init l D d o1 (if 0 < L then xs 0 else 0) (if 1 < L then xs 1 else 0) (if 2 < L then xs 2 else 0) w h C hwe hhe hCe H.size) q21 q22 q17 q23 rfl ii1 ⟨rfl, rfl⟩ ⟨Nat.le_of_ble_eq_true rfl, Nat.le_of_ble_eq_true rfl⟩ ⟨Nat.le_of_ble_eq_true rfl, Nat.le_of_ble_eq_true rfl⟩ hK hW hS hA hl.1 (rest := [.ref o1]) rfl (Nat.le_of_ble_eq_true rfl) dL_law_19 (fun a H locs h0_ hWn hSn => ?_)
  have h0_ : a 0 = o1 := h0_
  subst h0_
  have hW := hWn
  have hS := hSn
  refine lv_astore_n (lv' := [(1, .ref (a 0)), (0, .ref b)]) hx hb dL_law_22 rfl hl (by decide) rfl (fun ls hl => ?_)
  refine va_new (ci := 1) (fs := [.int 0, .int 0, .int 0, .null, .null, .null, .int 0, .null, .null, .null, .null, .int 0, .int 0, .int 0, .int 0, .int 0, .int 0]) (C := RX2) (T := TX2) (N := 17) hx hb hts in_X2 tyX2 tyX2_ok hown (hts _ q189) (hts _ q190) (hts _ q18) hK hW.1 hW.2.2.1 hS hA rfl (fun j hj => by rcases (show j = 0 ∨ j = 1 ∨ j = 2 ∨ j = 3 ∨ j = 4 ∨ j = 5 ∨ j = 6 ∨ j = 7 ∨ j = 8 ∨ j = 9 ∨ j = 10 ∨ j = 11 ∨ j = 12 ∨ j = 13 ∨ j = 14 ∨ j = 15 ∨ j = 16 by omega) with rfl | rfl | rfl | rfl | rfl | rfl | rfl | rfl | rfl | rfl | rfl | rfl | rfl | rfl | rfl | rfl | rfl <;> rfl) (Nat.le_of_ble_eq_true rfl) (Nat.le_of_ble_eq_true rfl) dL_law_23 (fun o2 H hP hD hS => ?_)
  have hW := LW.push hP hD
  refine lv_dup hx hb dL_law_26 rfl ?_
  refine lv_aload_n hx hb dL_law_27 rfl (lv_at hl 1 rfl) ?_
  refine lv_iconst (v := 0) hx hb dL_law_28 (by decide) ?_
  refine xcXi [.ref b, .int 0] S (mtX0_cell l b L xs 0 hL (by decide)) q186 siX0_cell ⟨rfl, rfl⟩ ⟨Nat.le_of_ble_eq_true rfl, Nat.le_of_ble_eq_true rfl⟩ ⟨Nat.le_of_ble_eq_true rfl, Nat.le_of_ble_eq_true rfl⟩ hX hbl hbA hS hl.1 (rest := [.ref o2, .ref o2]) rfl (Nat.le_of_ble_eq_true rfl) dL_law_29 (fun r_ h_ => ?_)
  obtain rfl := h_
  refine lv_aload_n hx hb dL_law_32 rfl (lv_at hl 1 rfl) ?_
  refine lv_iconst (v := 1) hx hb dL_law_33 (by decide) ?_
  refine xcXi [.ref b, .int 1] S (mtX0_cell l b L xs 1 hL (by decide)) q186 siX0_cell ⟨rfl, rfl⟩ ⟨Nat.le_of_ble_eq_true rfl, Nat.le_of_ble_eq_true rfl⟩ ⟨Nat.le_of_ble_eq_true rfl, Nat.le_of_ble_eq_true rfl⟩ hX hbl hbA hS hl.1 (rest := [.int (if 0 < L then xs 0 else 0), .ref o2, .ref o2]) rfl (Nat.le_of_ble_eq_true rfl) dL_law_34 (fun r_ h_ => ?_)
  obtain rfl := h_
  refine lv_aload_n hx hb dL_law_37 rfl (lv_at hl 1 rfl) ?_
  refine lv_iconst (v := 2) hx hb dL_law_38 (by decide) ?_
  refine xcXi [.ref b, .int 2] S (mtX0_cell l b L xs 2 hL (by decide)) q186 siX0_cell ⟨rfl, rfl⟩ ⟨Nat.le_of_ble_eq_true rfl, Nat.le_of_ble_eq_true rfl⟩ ⟨Nat.le_of_ble_eq_true rfl, Nat.le_of_ble_eq_true rfl⟩ hX hbl hbA hS hl.1 (rest := [.int (if 1 < L then xs 1 else 0), .int (if 0 < L then xs 0 else 0), .ref o2, .ref o2]) rfl (Nat.le_of_ble_eq_true rfl) dL_law_39 (fun r_ h_ => ?_)
  obtain rfl := h_
  refine xcI [.int (if 0 < L then xs 0 else 0), .int (if 1 < L then xs 1 else 0), .int (if 2 < L then xs 2 else 0)] S (mtX2_init l D d o2 (if 0 < L then xs 0 else 0) (if 1 < L then xs 1 else 0) (if 2 < L then xs 2 else 0) w h C hwe hhe hCe H.size) q191 q192 q18 q193 rfl ii2 ⟨rfl, rfl⟩ ⟨Nat.le_of_ble_eq_true rfl, Nat.le_of_ble_eq_true rfl⟩ ⟨Nat.le_of_ble_eq_true rfl, Nat.le_of_ble_eq_true rfl⟩ hK hW hS hA hl.1 (rest := [.ref o2]) rfl (Nat.le_of_ble_eq_true rfl) dL_law_42 (fun bm H locs h0_ hWn hSn => ?_)
  have h0_ : bm 0 = o2 := h0_
  subst h0_
  have hW := hWn
  have hS := hSn
  refine lv_astore_n (lv' := [(2, .ref (bm 0)), (1, .ref (a 0)), (0, .ref b)]) hx hb dL_law_45 rfl hl (by decide) rfl (fun ls hl => ?_)
  refine lv_iconst (v := 3) hx hb dL_law_46 (by decide) ?_
  refine lv_istore_n (lv' := [(3, .int 3), (2, .ref (bm 0)), (1, .ref (a 0)), (0, .ref b)]) hx hb dL_law_47 rfl hl (by decide) rfl (fun ls hl => ?_)
  refine W.widen (k := 600000) (n := 7290000) (Nat.le_of_ble_eq_true rfl) (Nat.le_of_ble_eq_true rfl) ?_
  exact law_loop S hr hlk hK hX hbl rfl hL hw2 hh2 hC2 ls H locs (lv_sub hl [3, 2, 1, 0] rfl) ⟨(fun _ => 0), (fun _ => 0), (fun _ => 0), (fun _ => 0), (fun _ => 0), (fun _ => 0), (fun _ => 0), (fun _ => 0), (fun _ => 0), (fun _ => 0), 0, (-16384), (-16384), 16384, 16384, 0, (fun _ => 0), (fun _ => 0), (fun _ => 0), (fun _ => 0), (fun _ => 0), (fun _ => 0), (fun _ => 0), 0, 0, hW.swap, lv_init⟩ hS
set_option maxHeartbeats 4000000 in
theorem lw_walk (l : Launch) (b : Addr) (xs : List Int32) : MetFree l x (headSpec (Jvm.Cond.code x code maxLocals ret :: tables_1) room_1) (lw_P b xs) (fun _ _ _ _ _ => True) lw_Q := by
  refine MetFree.of_bodyS (code := code) (maxLocals := maxLocals) (ret := ret) (by decide) ?_ ?_
  · intro args s m h hn
    obtain ⟨meth, c, h1, h2, h3, h4, h5, h6, -, -⟩ := Cond.code_spec hn (atoms_spec (ws := Jvm.Cond.code x code maxLocals ret :: tables_1) h _ List.mem_cons_self)
    exact ⟨meth, c, h1, h2, h3, h4, h5, h6⟩
  · intro p e s m args below meth c s₁ B hml0 hP _
    obtain ⟨rfl, hx, hbd, hgv⟩ := hP
    obtain ⟨scr, harrAt, hlist, hof, hsmall⟩ := hx
    obtain ⟨hcb, hkn, -, -⟩ := State.arrayAt?_spec harrAt
    have hown : s.vm.findClass R_law = some m.cls := findClass_of_methodNamed B.named
    have hts0 : ∀ c ∈ (Jvm.Cond.code x code maxLocals ret :: tables_1), c.before #[Value.ref b] s = true := atoms_spec (ws := Jvm.Cond.code x code maxLocals ret :: tables_1) B.pre
    have hts : ∀ w ∈ lw_tbl, w.before #[Value.ref b] s = true := k2_hts_sels lw_privs (fun w hw => hts0 w (List.mem_cons_of_mem _ hw)) lw_privs_ok
    have hml : c.maxLocals = 4 := B.maxLocals_eq (hts0 _ List.mem_cons_self)
    have X₀ : Stand p l e room_1 s m #[Value.ref b] below meth c s₁ [] 0 0 := Stand.of_body B
    have hh0 : s₁.heap = s.heap := by rw [B.state]; rfl
    have hsz : scr.slots.size = xs.length := by rw [← Array.length_toList, hlist, List.length_map]
    have hval : ∀ j : Nat, j < xs.length → scr.slots[j]? = some (.int (xs.getD j 0)) := fun j hj => by
      rw [← Array.getElem?_toList, hlist]
      simp [hj]
    have hbl : b < s.heap.size := (Array.getElem?_eq_some_iff.mp hcb).1
    have hX : va_X b xs.length (fun j => xs.getD j 0) s s.heap := ⟨scr, hcb, hof, hkn, hsz, hval⟩
    have K : W p l e room_1 s m #[Value.ref b] below meth c s₁.heap [] 0 0 (lw_Z below #[Value.ref b] s) (entryFrame m ([Value.ref b] : List Value).toArray 4) := by
      rw [hh0]
      exact whole_start l hbd ⟨B.exec, B.bytes, B.returns, hml, hown, hts, hX, hbl, B.notSynchronized, hgv⟩
    obtain ⟨t, a1, o, b1, b2, b3⟩ := K s₁ rfl X₀
    exact ⟨t, o, a1, b1, b2, b3⟩
theorem lw_pre_spec {args : Array Value} {s : State} (h : (Jvm.Cond.and given_1 narrow_1).before args s = true) (hr : rest_1_c.before args s = true) : ∃ (b : Addr) (xs : List Int32), lw_P b xs args s := by
  have hs := flat_of_before _ h
  have hq := flat_of_before _ hr
  have hc : (Cond.count 1).before args s = true := hs _ (by decide +kernel)
  have harr : (Cond.arrayOf (.arg 0) .int).before args s = true := hs _ (by decide +kernel)
  have hle : (Cond.le (.length (.arg 0)) (.int 2563)).before args s = true := hs _ (by decide +kernel)
  have hlen : (Cond.isInt (.length (.arg 0))).before args s = true := hq _ (by decide +kernel)
  have hall : (Cond.all (.arg 0) (.isInt (.elem (.arg 0) (.index 0)))).before args s = true := hq _ (by decide +kernel)
  obtain ⟨b, xs, hb, hx⟩ := State.ints_of_pre rfl harr hlen hall
  have hsm : xs.length < 2 ^ 31 := hx.choose_spec.2.2.2
  have hev : (Term.length (.arg 0)).eval args s none [] s = some (.int xs.length.toInt32) := hx.length_eval hb
  have hv := Cond.le_ints hev (show (Term.int 2563).eval args s none [] s = some (.int 2563) from rfl)
  have hd : xs.length.toInt32 ≤ 2563 := by
    simpa [Cond.before, Cond.holds, hv] using hle
  have hN : xs.length ≤ 2563 := (Int32.ofNat_le_ofNat hsm (by decide)).mp (show Int32.ofNat xs.length ≤ Int32.ofNat 2563 from hd)
  exact ⟨b, xs, Cond.one_arg hc (show args[0]? = some (.ref b) from hb), hx, hN, h⟩
theorem lw_comes (l : Launch) : Comes l x (Jvm.Cond.code x code maxLocals ret :: tables_1) room_1 (fun tb e args s => Calls_1 tb e args s ∧ rest_1 tb e args s ∧ Pre_1 tb e args s)
    (fun _ _ args s o t => lw_Q args s o t) := by
  intro p e ha hc hk s m args below hf hfit hheap happ hpre
  obtain ⟨b, xs, hP⟩ := lw_pre_spec hpre.2.2 hpre.2.1
  obtain ⟨k, o, h1, h2, h3, hQ⟩ := lw_walk l b xs p e ha hc hk s m args below hf ((Spec.applies_iff_loose hf).mp happ).1 hP trivial
  exact ⟨k, o, h1, h2, h3, hQ⟩
theorem lw_frame {s t : State} {o : Outcome} {args : Array Value} (h : Framed s o t [] 600000 7290000) :
    Framed s o t (fieldLocs frame_1_writes args s ++ arrayLocs frame_1_arrays args s ++ staticLocs frame_1_statics s) 600000 7290000 := h
theorem lw_limb (L : Cond) (hL : ∀ (args : Array Value) (s t : State), L.after args s (.returned (some (.int 1))) t = true) :
    ArmFor flags0 classFile x code maxLocals ret World_1 tables_1 room_1 Calls_1 rest_1 Pre_1
      (fun tb e a s o t => postC L tb e a s o t ∧ Framed s o t (fieldLocs frame_1_writes a s ++ arrayLocs frame_1_arrays a s ++ staticLocs frame_1_statics s) 600000 7290000) := by
  intro l _ _ _ p e ha hc hk s m args below hf hfit hheap happ hpre
  obtain ⟨k, o, h1, h2, h3, rfl, hF⟩ := lw_comes l p e ha hc hk s m args below hf hfit hheap happ hpre
  exact ⟨k, _, h1, h2, h3, hL args s _, lw_frame hF⟩
theorem i_vc : Claimed_1_1 ∧ Claimed_1_2 := ⟨lw_limb limb_1_1 (fun args s t => by simp [limb_1_1, Cond.after, Cond.holds, Cond.value]), lw_limb limb_1_2 (fun args s t => Cond.after_iff.mpr (by
  first | (rw [show limb_1_2 = Cond.eq .result (.int 1) from rfl, Cond.eq_ints (x := 1) (y := 1) rfl rfl]; simp; done) | (simp [limb_1_2, Cond.value, Term.eval]; done)))⟩
end
