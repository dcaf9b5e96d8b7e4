section
-- ===== PART A: goes FIRST, ahead of the names: the tables' words, and 'selects' of the private methods out of them =====
/-- a private method of a class that the tables say can be made, by its rows of tables_1 -/
def lw_okq (q : MethodName × Nat) : Prop := (q.1.cls ≠ "java/lang/invoke/MethodHandle" ∧ q.1.cls ≠ "java/lang/invoke/VarHandle") ∧ Cond.instantiable q.1.cls q.2 ∈ tables_1 ∧ Cond.privateMethod q.1 ∈ tables_1 ∧ Cond.instanceMethod q.1 ∈ tables_1
set_option maxRecDepth 100000
theorem lw_p0 : lw_okq (⟨"CausalCheck", "enter", "(IIZI)V"⟩, 7) := ⟨⟨by decide +kernel, by decide +kernel⟩, List.mem_of_getElem? (i := 4) rfl, List.mem_of_getElem? (i := 40) rfl, List.mem_of_getElem? (i := 41) rfl⟩
theorem lw_p1 : lw_okq (⟨"CausalCheck", "isSource", "(II)Z"⟩, 7) := ⟨⟨by decide +kernel, by decide +kernel⟩, List.mem_of_getElem? (i := 4) rfl, List.mem_of_getElem? (i := 48) rfl, List.mem_of_getElem? (i := 49) rfl⟩
theorem lw_p2 : lw_okq (⟨"CausalCheck", "isHeld", "(I)Z"⟩, 7) := ⟨⟨by decide +kernel, by decide +kernel⟩, List.mem_of_getElem? (i := 4) rfl, List.mem_of_getElem? (i := 60) rfl, List.mem_of_getElem? (i := 61) rfl⟩
theorem lw_p3 : lw_okq (⟨"CausalCheck", "isWeak", "(I)Z"⟩, 7) := ⟨⟨by decide +kernel, by decide +kernel⟩, List.mem_of_getElem? (i := 4) rfl, List.mem_of_getElem? (i := 68) rfl, List.mem_of_getElem? (i := 69) rfl⟩
theorem lw_p4 : lw_okq (⟨"CausalCheck", "isStrong", "(I)Z"⟩, 7) := ⟨⟨by decide +kernel, by decide +kernel⟩, List.mem_of_getElem? (i := 4) rfl, List.mem_of_getElem? (i := 76) rfl, List.mem_of_getElem? (i := 77) rfl⟩
theorem lw_p5 : lw_okq (⟨"CausalCheck", "pushBefore", "(II)Z"⟩, 7) := ⟨⟨by decide +kernel, by decide +kernel⟩, List.mem_of_getElem? (i := 4) rfl, List.mem_of_getElem? (i := 80) rfl, List.mem_of_getElem? (i := 81) rfl⟩
theorem lw_p6 : lw_okq (⟨"CausalCheck", "close", "(I)Z"⟩, 7) := ⟨⟨by decide +kernel, by decide +kernel⟩, List.mem_of_getElem? (i := 4) rfl, List.mem_of_getElem? (i := 84) rfl, List.mem_of_getElem? (i := 85) rfl⟩
theorem lw_p7 : lw_okq (⟨"CausalCheck", "hasRing", "()Z"⟩, 7) := ⟨⟨by decide +kernel, by decide +kernel⟩, List.mem_of_getElem? (i := 4) rfl, List.mem_of_getElem? (i := 88) rfl, List.mem_of_getElem? (i := 89) rfl⟩
theorem lw_p8 : lw_okq (⟨"CausalCheck", "comesTooLate", "(II)Z"⟩, 7) := ⟨⟨by decide +kernel, by decide +kernel⟩, List.mem_of_getElem? (i := 4) rfl, List.mem_of_getElem? (i := 92) rfl, List.mem_of_getElem? (i := 93) rfl⟩
theorem lw_p9 : lw_okq (⟨"CausalCheck", "converges", "()Z"⟩, 7) := ⟨⟨by decide +kernel, by decide +kernel⟩, List.mem_of_getElem? (i := 4) rfl, List.mem_of_getElem? (i := 100) rfl, List.mem_of_getElem? (i := 101) rfl⟩
theorem lw_p10 : lw_okq (⟨"CausalCheckModel", "put", "(IIZI)V"⟩, 8) := ⟨⟨by decide +kernel, by decide +kernel⟩, List.mem_of_getElem? (i := 108) rfl, List.mem_of_getElem? (i := 146) rfl, List.mem_of_getElem? (i := 147) rfl⟩
theorem lw_p11 : lw_okq (⟨"CausalCheckModel", "noSource", "(II)Z"⟩, 8) := ⟨⟨by decide +kernel, by decide +kernel⟩, List.mem_of_getElem? (i := 108) rfl, List.mem_of_getElem? (i := 154) rfl, List.mem_of_getElem? (i := 155) rfl⟩
theorem lw_p12 : lw_okq (⟨"CausalCheckModel", "missing", "(I)Z"⟩, 8) := ⟨⟨by decide +kernel, by decide +kernel⟩, List.mem_of_getElem? (i := 108) rfl, List.mem_of_getElem? (i := 166) rfl, List.mem_of_getElem? (i := 167) rfl⟩
theorem lw_p13 : lw_okq (⟨"CausalCheckModel", "hasRow", "(IZ)Z"⟩, 8) := ⟨⟨by decide +kernel, by decide +kernel⟩, List.mem_of_getElem? (i := 108) rfl, List.mem_of_getElem? (i := 174) rfl, List.mem_of_getElem? (i := 175) rfl⟩
theorem lw_p14 : lw_okq (⟨"CausalCheckModel", "after", "(IIZ)I"⟩, 8) := ⟨⟨by decide +kernel, by decide +kernel⟩, List.mem_of_getElem? (i := 108) rfl, List.mem_of_getElem? (i := 178) rfl, List.mem_of_getElem? (i := 179) rfl⟩
theorem lw_p15 : lw_okq (⟨"CausalCheckModel", "converges", "(I)Z"⟩, 8) := ⟨⟨by decide +kernel, by decide +kernel⟩, List.mem_of_getElem? (i := 108) rfl, List.mem_of_getElem? (i := 192) rfl, List.mem_of_getElem? (i := 193) rfl⟩
def lw_privs_1 : List (MethodName × Nat) := [(⟨"CausalCheck", "enter", "(IIZI)V"⟩, 7), (⟨"CausalCheck", "isSource", "(II)Z"⟩, 7), (⟨"CausalCheck", "isHeld", "(I)Z"⟩, 7), (⟨"CausalCheck", "isWeak", "(I)Z"⟩, 7), (⟨"CausalCheck", "isStrong", "(I)Z"⟩, 7), (⟨"CausalCheck", "pushBefore", "(II)Z"⟩, 7), (⟨"CausalCheck", "close", "(I)Z"⟩, 7), (⟨"CausalCheck", "hasRing", "()Z"⟩, 7), (⟨"CausalCheck", "comesTooLate", "(II)Z"⟩, 7), (⟨"CausalCheck", "converges", "()Z"⟩, 7), (⟨"CausalCheckModel", "put", "(IIZI)V"⟩, 8), (⟨"CausalCheckModel", "noSource", "(II)Z"⟩, 8), (⟨"CausalCheckModel", "missing", "(I)Z"⟩, 8), (⟨"CausalCheckModel", "hasRow", "(IZ)Z"⟩, 8), (⟨"CausalCheckModel", "after", "(IIZ)I"⟩, 8), (⟨"CausalCheckModel", "converges", "(I)Z"⟩, 8)]
theorem lw_r1 : ∀ q ∈ lw_privs_1, lw_okq q := List.forall_mem_cons.mpr ⟨lw_p0, List.forall_mem_cons.mpr ⟨lw_p1, List.forall_mem_cons.mpr ⟨lw_p2, List.forall_mem_cons.mpr ⟨lw_p3, List.forall_mem_cons.mpr ⟨lw_p4, List.forall_mem_cons.mpr ⟨lw_p5, List.forall_mem_cons.mpr ⟨lw_p6, List.forall_mem_cons.mpr ⟨lw_p7, List.forall_mem_cons.mpr ⟨lw_p8, List.forall_mem_cons.mpr ⟨lw_p9, List.forall_mem_cons.mpr ⟨lw_p10, List.forall_mem_cons.mpr ⟨lw_p11, List.forall_mem_cons.mpr ⟨lw_p12, List.forall_mem_cons.mpr ⟨lw_p13, List.forall_mem_cons.mpr ⟨lw_p14, List.forall_mem_cons.mpr ⟨lw_p15, fun _ h => absurd h List.not_mem_nil⟩⟩⟩⟩⟩⟩⟩⟩⟩⟩⟩⟩⟩⟩⟩⟩
theorem lw_p16 : lw_okq (⟨"CausalCheckModel", "arrange", "(II)V"⟩, 8) := ⟨⟨by decide +kernel, by decide +kernel⟩, List.mem_of_getElem? (i := 108) rfl, List.mem_of_getElem? (i := 196) rfl, List.mem_of_getElem? (i := 197) rfl⟩
theorem lw_p17 : lw_okq (⟨"CausalCheckModel", "isRow", "(I)Z"⟩, 8) := ⟨⟨by decide +kernel, by decide +kernel⟩, List.mem_of_getElem? (i := 108) rfl, List.mem_of_getElem? (i := 200) rfl, List.mem_of_getElem? (i := 201) rfl⟩
theorem lw_p18 : lw_okq (⟨"CausalCheckModel", "fits", "(II)Z"⟩, 8) := ⟨⟨by decide +kernel, by decide +kernel⟩, List.mem_of_getElem? (i := 108) rfl, List.mem_of_getElem? (i := 204) rfl, List.mem_of_getElem? (i := 205) rfl⟩
def lw_privs_2 : List (MethodName × Nat) := [(⟨"CausalCheckModel", "arrange", "(II)V"⟩, 8), (⟨"CausalCheckModel", "isRow", "(I)Z"⟩, 8), (⟨"CausalCheckModel", "fits", "(II)Z"⟩, 8)]
theorem lw_r2 : ∀ q ∈ lw_privs_2, lw_okq q := List.forall_mem_cons.mpr ⟨lw_p16, List.forall_mem_cons.mpr ⟨lw_p17, List.forall_mem_cons.mpr ⟨lw_p18, fun _ h => absurd h List.not_mem_nil⟩⟩⟩
def lw_privs : List (MethodName × Nat) := lw_privs_1 ++ (lw_privs_2)
def lw_tbl : List Cond := k2_sels lw_privs ++ tables_1
theorem lw_privs_ok : ∀ q ∈ lw_privs, lw_okq q := by
  show ∀ q ∈ lw_privs_1 ++ (lw_privs_2), lw_okq q
  exact List.forall_mem_append.mpr ⟨lw_r1, lw_r2⟩
-- ===== ONE list of words for every method: the tables' words that hold all through a run =====
def lw_all : List Cond := lw_tbl.filter goodWord
/-- a word of the tables by its place: claim/WORDS.tsv -/
theorem lw_w {w : Cond} (i : Nat) (h : lw_tbl[i]? = some w) (g : goodWord w = true) : w ∈ lw_all := List.mem_filter.mpr ⟨List.mem_of_getElem? h, g⟩
theorem lw_all_tbl {w : Cond} (h : w ∈ lw_all) : w ∈ lw_tbl := (List.mem_filter.mp h).1
theorem lw_self : GoodIn lw_all lw_all := fun w h => ⟨h, good_of_word (List.mem_filter.mp h).2⟩
/-- a class's field words, by their places -/
theorem lw_in (ws : List Cond) (ps : List Nat) (hp : ws = ps.filterMap (fun i => lw_tbl[i]?)) (hg : ws.all goodWord = true) : ∀ w ∈ ws, w ∈ lw_all := by
  intro w h
  have h1 := List.all_eq_true.mp hg w h
  rw [hp] at h
  obtain ⟨i, -, hi⟩ := List.mem_filterMap.mp h
  exact lw_w i hi h1
/-- the words of a contract for the method y with code b, L locals, answer r -/
abbrev ws_ (y : MethodName) (b : ByteArray) (L : Nat) (r : Option FieldType) : List Cond := Cond.code y b L r :: lw_all
theorem lw_meth {y : MethodName} {b : ByteArray} {L : Nat} {r : Option FieldType} (h : Cond.code y b L r ∈ lw_all) : GoodIn lw_all (ws_ y b L r) := by
  intro w hw
  rcases List.mem_cons.mp hw with e | e
  · rw [e]
    exact lw_self _ h
  · exact lw_self _ e
theorem lw_app {a c : List Cond} (ha : ∀ w ∈ a, w ∈ lw_all) (hc : GoodIn lw_all c) : GoodIn lw_all (a ++ c) := by
  intro w hw
  rcases List.mem_append.mp hw with e | e
  · exact lw_self w (ha w e)
  · exact hc w e
/-- what a call through an object asks: cwV n hts (lw_V ..) -/
theorem lw_V {own : String} {idx : Nat} {C : String} {y : MethodName} {b : ByteArray} {L : Nat} {r : Option FieldType} (h1 : Cond.methodLink own idx y ∈ lw_all) (h2 : Cond.instanceMethod y ∈ lw_all) (h3 : Cond.selects C y y ∈ lw_all) (h4 : Cond.initialized C ∈ lw_all) (h5 : Cond.code y b L r ∈ lw_all) : GoodIn lw_all (wsV own idx C y (ws_ y b L r)) := by
  refine lw_app ?_ (lw_meth h5)
  intro w hw
  simp only [List.mem_cons, List.not_mem_nil, or_false] at hw
  rcases hw with e | e | e | e
  · rw [e]; exact h1
  · rw [e]; exact h2
  · rw [e]; exact h3
  · rw [e]; exact h4
/-- what a static call asks: va_cwS n hts (lw_S ..) -/
theorem lw_S {own : String} {idx : Nat} {y : MethodName} {b : ByteArray} {L : Nat} {r : Option FieldType} (h1 : Cond.methodLink own idx y ∈ lw_all) (h2 : Cond.static y ∈ lw_all) (h3 : Cond.initialized y.cls ∈ lw_all) (h4 : Cond.code y b L r ∈ lw_all) : GoodIn lw_all (va_wsS own idx y (ws_ y b L r)) := by
  refine lw_app ?_ (lw_meth h4)
  intro w hw
  simp only [List.mem_cons, List.not_mem_nil, or_false] at hw
  rcases hw with e | e | e
  · rw [e]; exact h1
  · rw [e]; exact h2
  · rw [e]; exact h3
/-- the words of a contract for a method WITH HANDLERS (hh: its table) -/
abbrev wsW_ (y : MethodName) (b : ByteArray) (L : Nat) (r : Option FieldType) (hh : List (Nat × Nat × Nat × Nat)) : List Cond := Cond.codeWith y b L r hh :: lw_all
theorem lw_methW {y : MethodName} {b : ByteArray} {L : Nat} {r : Option FieldType} {hh : List (Nat × Nat × Nat × Nat)} (h : Cond.codeWith y b L r hh ∈ lw_all) : GoodIn lw_all (wsW_ y b L r hh) := by
  intro w hw
  rcases List.mem_cons.mp hw with e | e
  · rw [e]
    exact lw_self _ h
  · exact lw_self _ e
/-- any list of words by their places (lw_in), good -/
theorem lw_good {ws : List Cond} (h : ∀ w ∈ ws, w ∈ lw_all) : GoodIn lw_all ws := fun w hw => lw_self w (h w hw)
/-- what a call of a method with handlers asks: vx_cwVW n hts (lw_VW ..), vx_cwSW n hts (lw_SW ..) -/
theorem lw_VW {own : String} {idx : Nat} {C : String} {y : MethodName} {b : ByteArray} {L : Nat} {r : Option FieldType} {hh : List (Nat × Nat × Nat × Nat)} (h1 : Cond.methodLink own idx y ∈ lw_all) (h2 : Cond.instanceMethod y ∈ lw_all) (h3 : Cond.selects C y y ∈ lw_all) (h4 : Cond.initialized C ∈ lw_all) (h5 : Cond.codeWith y b L r hh ∈ lw_all) : GoodIn lw_all (wsV own idx C y (wsW_ y b L r hh)) := by
  refine lw_app ?_ (lw_methW h5)
  intro w hw
  simp only [List.mem_cons, List.not_mem_nil, or_false] at hw
  rcases hw with e | e | e | e
  · rw [e]; exact h1
  · rw [e]; exact h2
  · rw [e]; exact h3
  · rw [e]; exact h4
theorem lw_SW {own : String} {idx : Nat} {y : MethodName} {b : ByteArray} {L : Nat} {r : Option FieldType} {hh : List (Nat × Nat × Nat × Nat)} (h1 : Cond.methodLink own idx y ∈ lw_all) (h2 : Cond.static y ∈ lw_all) (h3 : Cond.initialized y.cls ∈ lw_all) (h4 : Cond.codeWith y b L r hh ∈ lw_all) : GoodIn lw_all (va_wsS own idx y (wsW_ y b L r hh)) := by
  refine lw_app ?_ (lw_methW h4)
  intro w hw
  simp only [List.mem_cons, List.not_mem_nil, or_false] at hw
  rcases hw with e | e | e
  · rw [e]; exact h1
  · rw [e]; exact h2
  · rw [e]; exact h3
/-- a word by its place in its run of the tables -/
theorem lw_at {r : List Cond} (hr : ∀ w ∈ r, w ∈ lw_tbl) {w : Cond} (i : Nat) (h : r[i]? = some w) : w ∈ lw_tbl := hr w (List.mem_of_getElem? h)
theorem lw_g {w : Cond} (h : w ∈ lw_tbl) (g : goodWord w = true) : w ∈ lw_all := List.mem_filter.mpr ⟨h, g⟩
theorem lw_ms : ∀ w ∈ k2_sels lw_privs, w ∈ lw_tbl := fun w h => show w ∈ k2_sels lw_privs ++ tables_1 from List.mem_append_left _ h
theorem lw_m0 : ∀ w ∈ tables_1, w ∈ lw_tbl := fun w h => show w ∈ k2_sels lw_privs ++ tables_1 from List.mem_append_right (k2_sels lw_privs) h
theorem qs0 : (Cond.selects "CausalCheck" ⟨"CausalCheck", "enter", "(IIZI)V"⟩ ⟨"CausalCheck", "enter", "(IIZI)V"⟩) ∈ lw_all := lw_g (lw_at lw_ms 0 rfl) rfl
theorem qs1 : (Cond.selects "CausalCheck" ⟨"CausalCheck", "isSource", "(II)Z"⟩ ⟨"CausalCheck", "isSource", "(II)Z"⟩) ∈ lw_all := lw_g (lw_at lw_ms 1 rfl) rfl
theorem qs2 : (Cond.selects "CausalCheck" ⟨"CausalCheck", "isHeld", "(I)Z"⟩ ⟨"CausalCheck", "isHeld", "(I)Z"⟩) ∈ lw_all := lw_g (lw_at lw_ms 2 rfl) rfl
theorem qs3 : (Cond.selects "CausalCheck" ⟨"CausalCheck", "isWeak", "(I)Z"⟩ ⟨"CausalCheck", "isWeak", "(I)Z"⟩) ∈ lw_all := lw_g (lw_at lw_ms 3 rfl) rfl
theorem qs4 : (Cond.selects "CausalCheck" ⟨"CausalCheck", "isStrong", "(I)Z"⟩ ⟨"CausalCheck", "isStrong", "(I)Z"⟩) ∈ lw_all := lw_g (lw_at lw_ms 4 rfl) rfl
theorem qs5 : (Cond.selects "CausalCheck" ⟨"CausalCheck", "pushBefore", "(II)Z"⟩ ⟨"CausalCheck", "pushBefore", "(II)Z"⟩) ∈ lw_all := lw_g (lw_at lw_ms 5 rfl) rfl
theorem qs6 : (Cond.selects "CausalCheck" ⟨"CausalCheck", "close", "(I)Z"⟩ ⟨"CausalCheck", "close", "(I)Z"⟩) ∈ lw_all := lw_g (lw_at lw_ms 6 rfl) rfl
theorem qs7 : (Cond.selects "CausalCheck" ⟨"CausalCheck", "hasRing", "()Z"⟩ ⟨"CausalCheck", "hasRing", "()Z"⟩) ∈ lw_all := lw_g (lw_at lw_ms 7 rfl) rfl
theorem qs8 : (Cond.selects "CausalCheck" ⟨"CausalCheck", "comesTooLate", "(II)Z"⟩ ⟨"CausalCheck", "comesTooLate", "(II)Z"⟩) ∈ lw_all := lw_g (lw_at lw_ms 8 rfl) rfl
theorem qs9 : (Cond.selects "CausalCheck" ⟨"CausalCheck", "converges", "()Z"⟩ ⟨"CausalCheck", "converges", "()Z"⟩) ∈ lw_all := lw_g (lw_at lw_ms 9 rfl) rfl
theorem qs10 : (Cond.selects "CausalCheckModel" ⟨"CausalCheckModel", "put", "(IIZI)V"⟩ ⟨"CausalCheckModel", "put", "(IIZI)V"⟩) ∈ lw_all := lw_g (lw_at lw_ms 10 rfl) rfl
theorem qs11 : (Cond.selects "CausalCheckModel" ⟨"CausalCheckModel", "noSource", "(II)Z"⟩ ⟨"CausalCheckModel", "noSource", "(II)Z"⟩) ∈ lw_all := lw_g (lw_at lw_ms 11 rfl) rfl
theorem qs12 : (Cond.selects "CausalCheckModel" ⟨"CausalCheckModel", "missing", "(I)Z"⟩ ⟨"CausalCheckModel", "missing", "(I)Z"⟩) ∈ lw_all := lw_g (lw_at lw_ms 12 rfl) rfl
theorem qs13 : (Cond.selects "CausalCheckModel" ⟨"CausalCheckModel", "hasRow", "(IZ)Z"⟩ ⟨"CausalCheckModel", "hasRow", "(IZ)Z"⟩) ∈ lw_all := lw_g (lw_at lw_ms 13 rfl) rfl
theorem qs14 : (Cond.selects "CausalCheckModel" ⟨"CausalCheckModel", "after", "(IIZ)I"⟩ ⟨"CausalCheckModel", "after", "(IIZ)I"⟩) ∈ lw_all := lw_g (lw_at lw_ms 14 rfl) rfl
theorem qs15 : (Cond.selects "CausalCheckModel" ⟨"CausalCheckModel", "converges", "(I)Z"⟩ ⟨"CausalCheckModel", "converges", "(I)Z"⟩) ∈ lw_all := lw_g (lw_at lw_ms 15 rfl) rfl
theorem qs16 : (Cond.selects "CausalCheckModel" ⟨"CausalCheckModel", "arrange", "(II)V"⟩ ⟨"CausalCheckModel", "arrange", "(II)V"⟩) ∈ lw_all := lw_g (lw_at lw_ms 16 rfl) rfl
theorem qs17 : (Cond.selects "CausalCheckModel" ⟨"CausalCheckModel", "isRow", "(I)Z"⟩ ⟨"CausalCheckModel", "isRow", "(I)Z"⟩) ∈ lw_all := lw_g (lw_at lw_ms 17 rfl) rfl
theorem qs18 : (Cond.selects "CausalCheckModel" ⟨"CausalCheckModel", "fits", "(II)Z"⟩ ⟨"CausalCheckModel", "fits", "(II)Z"⟩) ∈ lw_all := lw_g (lw_at lw_ms 18 rfl) rfl
end
section
/-! java/lang/Object -/
set_option maxRecDepth 100000
def RJ0 : String := "java/lang/Object"
abbrev cJ0_init : ByteArray := object_method_1_code
def yJ0_init : MethodName := ⟨RJ0, "<init>", "()V"⟩
theorem dJ0_init_0 : decode cJ0_init 0 = .ok (.return_, 1) := by decide +kernel
theorem q28 : (Jvm.Cond.instanceMethod ({ cls := "java/lang/Object", name := "<init>", desc := "()V" } : Jvm.MethodName)) ∈ lw_all := lw_g (lw_at lw_m0 9 rfl) rfl
theorem q29 : (Jvm.Cond.code ({ cls := "java/lang/Object", name := "<init>", desc := "()V" } : Jvm.MethodName) object_method_1_code (1 : Nat) (Option.none : Option Jvm.ClassFile.FieldType)) ∈ lw_all := lw_g (lw_at lw_m0 10 rfl) rfl
theorem q52 : (Jvm.Cond.arrayClass Jvm.ClassFile.FieldType.int) ∈ lw_all := lw_g (lw_at lw_m0 33 rfl) rfl
set_option maxRecDepth 100000
theorem q53 : (Jvm.Cond.arrayClass Jvm.ClassFile.FieldType.boolean) ∈ lw_all := lw_g (lw_at lw_m0 34 rfl) rfl
theorem q19 : (Jvm.Cond.initialized "CausalCheckLaw") ∈ lw_all := lw_g (lw_at lw_m0 0 rfl) rfl
set_option maxRecDepth 100000
theorem q22 : (Jvm.Cond.classLink "CausalCheckLaw" (7 : Nat) "CausalCheck") ∈ lw_all := lw_g (lw_at lw_m0 3 rfl) rfl
theorem q24 : (Jvm.Cond.methodLink "CausalCheckLaw" (9 : Nat) ({ cls := "CausalCheck", name := "<init>", desc := "()V" } : Jvm.MethodName)) ∈ lw_all := lw_g (lw_at lw_m0 5 rfl) rfl
theorem q54 : (Jvm.Cond.methodLink "CausalCheckLaw" (13 : Nat) ({ cls := "CausalCheck", name := "write", desc := "(II)I" } : Jvm.MethodName)) ∈ lw_all := lw_g (lw_at lw_m0 35 rfl) rfl
theorem q62 : (Jvm.Cond.methodLink "CausalCheckLaw" (18 : Nat) ({ cls := "CausalCheck", name := "read", desc := "(III)I" } : Jvm.MethodName)) ∈ lw_all := lw_g (lw_at lw_m0 43 rfl) rfl
theorem q70 : (Jvm.Cond.methodLink "CausalCheckLaw" (23 : Nat) ({ cls := "CausalCheck", name := "back", desc := "()I" } : Jvm.MethodName)) ∈ lw_all := lw_g (lw_at lw_m0 51 rfl) rfl
theorem q74 : (Jvm.Cond.methodLink "CausalCheckLaw" (28 : Nat) ({ cls := "CausalCheck", name := "before", desc := "(II)I" } : Jvm.MethodName)) ∈ lw_all := lw_g (lw_at lw_m0 55 rfl) rfl
theorem q82 : (Jvm.Cond.methodLink "CausalCheckLaw" (32 : Nat) ({ cls := "CausalCheck", name := "weak", desc := "(I)I" } : Jvm.MethodName)) ∈ lw_all := lw_g (lw_at lw_m0 63 rfl) rfl
theorem q90 : (Jvm.Cond.methodLink "CausalCheckLaw" (37 : Nat) ({ cls := "CausalCheck", name := "strong", desc := "(I)I" } : Jvm.MethodName)) ∈ lw_all := lw_g (lw_at lw_m0 71 rfl) rfl
theorem q114 : (Jvm.Cond.methodLink "CausalCheckLaw" (41 : Nat) ({ cls := "CausalCheck", name := "sound", desc := "()I" } : Jvm.MethodName)) ∈ lw_all := lw_g (lw_at lw_m0 95 rfl) rfl
theorem q122 : (Jvm.Cond.methodLink "CausalCheckLaw" (45 : Nat) ({ cls := "CausalCheck", name := "choices", desc := "(II)I" } : Jvm.MethodName)) ∈ lw_all := lw_g (lw_at lw_m0 103 rfl) rfl
theorem q126 : (Jvm.Cond.classLink "CausalCheckLaw" (10 : Nat) "CausalCheckModel") ∈ lw_all := lw_g (lw_at lw_m0 107 rfl) rfl
theorem q128 : (Jvm.Cond.methodLink "CausalCheckLaw" (12 : Nat) ({ cls := "CausalCheckModel", name := "<init>", desc := "()V" } : Jvm.MethodName)) ∈ lw_all := lw_g (lw_at lw_m0 109 rfl) rfl
theorem q157 : (Jvm.Cond.methodLink "CausalCheckLaw" (17 : Nat) ({ cls := "CausalCheckModel", name := "write", desc := "(II)I" } : Jvm.MethodName)) ∈ lw_all := lw_g (lw_at lw_m0 138 rfl) rfl
theorem q168 : (Jvm.Cond.methodLink "CausalCheckLaw" (22 : Nat) ({ cls := "CausalCheckModel", name := "read", desc := "(III)I" } : Jvm.MethodName)) ∈ lw_all := lw_g (lw_at lw_m0 149 rfl) rfl
theorem q176 : (Jvm.Cond.methodLink "CausalCheckLaw" (27 : Nat) ({ cls := "CausalCheckModel", name := "back", desc := "()I" } : Jvm.MethodName)) ∈ lw_all := lw_g (lw_at lw_m0 157 rfl) rfl
theorem q180 : (Jvm.Cond.methodLink "CausalCheckLaw" (31 : Nat) ({ cls := "CausalCheckModel", name := "before", desc := "(II)I" } : Jvm.MethodName)) ∈ lw_all := lw_g (lw_at lw_m0 161 rfl) rfl
theorem q188 : (Jvm.Cond.methodLink "CausalCheckLaw" (36 : Nat) ({ cls := "CausalCheckModel", name := "weak", desc := "(I)I" } : Jvm.MethodName)) ∈ lw_all := lw_g (lw_at lw_m0 169 rfl) rfl
theorem q200 : (Jvm.Cond.methodLink "CausalCheckLaw" (40 : Nat) ({ cls := "CausalCheckModel", name := "strong", desc := "(I)I" } : Jvm.MethodName)) ∈ lw_all := lw_g (lw_at lw_m0 181 rfl) rfl
theorem q204 : (Jvm.Cond.methodLink "CausalCheckLaw" (44 : Nat) ({ cls := "CausalCheckModel", name := "sound", desc := "()I" } : Jvm.MethodName)) ∈ lw_all := lw_g (lw_at lw_m0 185 rfl) rfl
theorem q226 : (Jvm.Cond.methodLink "CausalCheckLaw" (48 : Nat) ({ cls := "CausalCheckModel", name := "choices", desc := "(II)I" } : Jvm.MethodName)) ∈ lw_all := lw_g (lw_at lw_m0 207 rfl) rfl
end
section
/-! CausalCheck -/
set_option maxRecDepth 100000
def RX0 : String := "CausalCheck"
def TX0 : u_T := fun k => match k with
  | 0 => ("CausalCheck", "count", "I", false)
  | 1 => ("CausalCheck", "userOf", "[I", true)
  | 2 => ("CausalCheck", "cellOf", "[I", true)
  | 3 => ("CausalCheck", "isWrite", "[Z", true)
  | 4 => ("CausalCheck", "sourceOf", "[I", true)
  | 5 => ("CausalCheck", "earlier", "[I", true)
  | _ => ("CausalCheck", "must", "[I", true)
def tyX0 : Nat → FieldType := fun k => match k with
  | 0 => .int
  | 1 => .array .int
  | 2 => .array .int
  | 3 => .array .boolean
  | 4 => .array .int
  | 5 => .array .int
  | _ => .array .int
abbrev wsX00 : List Cond := u_ws RX0 TX0 7
theorem nmX0 : ∀ a, a < 7 → ∀ b, b < 7 → a ≠ b → (TX0 a).2.1 ≠ (TX0 b).2.1 := by decide +kernel
theorem tyX0_ok : ∀ k, k < 7 → parseFieldDescriptor (TX0 k).2.2.1 = some (tyX0 k) := by decide +kernel
abbrev cX0_init : ByteArray := prog_1_method_1_code
def yX0_init : MethodName := ⟨RX0, "<init>", "()V"⟩
theorem dX0_init_0 : decode cX0_init 0 = .ok (.aload_n 0, 1) := by decide +kernel
theorem dX0_init_1 : decode cX0_init 1 = .ok (.invokespecial 1, 3) := by decide +kernel
theorem dX0_init_4 : decode cX0_init 4 = .ok (.aload_n 0, 1) := by decide +kernel
theorem dX0_init_5 : decode cX0_init 5 = .ok (.bipush 8, 2) := by decide +kernel
theorem dX0_init_7 : decode cX0_init 7 = .ok (.newarray .int, 2) := by decide +kernel
theorem dX0_init_9 : decode cX0_init 9 = .ok (.putfield 7, 3) := by decide +kernel
theorem dX0_init_12 : decode cX0_init 12 = .ok (.aload_n 0, 1) := by decide +kernel
theorem dX0_init_13 : decode cX0_init 13 = .ok (.bipush 8, 2) := by decide +kernel
theorem dX0_init_15 : decode cX0_init 15 = .ok (.newarray .int, 2) := by decide +kernel
theorem dX0_init_17 : decode cX0_init 17 = .ok (.putfield 13, 3) := by decide +kernel
theorem dX0_init_20 : decode cX0_init 20 = .ok (.aload_n 0, 1) := by decide +kernel
theorem dX0_init_21 : decode cX0_init 21 = .ok (.bipush 8, 2) := by decide +kernel
theorem dX0_init_23 : decode cX0_init 23 = .ok (.newarray .boolean, 2) := by decide +kernel
theorem dX0_init_25 : decode cX0_init 25 = .ok (.putfield 16, 3) := by decide +kernel
theorem dX0_init_28 : decode cX0_init 28 = .ok (.aload_n 0, 1) := by decide +kernel
theorem dX0_init_29 : decode cX0_init 29 = .ok (.bipush 8, 2) := by decide +kernel
theorem dX0_init_31 : decode cX0_init 31 = .ok (.newarray .int, 2) := by decide +kernel
theorem dX0_init_33 : decode cX0_init 33 = .ok (.putfield 20, 3) := by decide +kernel
theorem dX0_init_36 : decode cX0_init 36 = .ok (.aload_n 0, 1) := by decide +kernel
theorem dX0_init_37 : decode cX0_init 37 = .ok (.bipush 8, 2) := by decide +kernel
theorem dX0_init_39 : decode cX0_init 39 = .ok (.newarray .int, 2) := by decide +kernel
theorem dX0_init_41 : decode cX0_init 41 = .ok (.putfield 23, 3) := by decide +kernel
theorem dX0_init_44 : decode cX0_init 44 = .ok (.aload_n 0, 1) := by decide +kernel
theorem dX0_init_45 : decode cX0_init 45 = .ok (.bipush 8, 2) := by decide +kernel
theorem dX0_init_47 : decode cX0_init 47 = .ok (.newarray .int, 2) := by decide +kernel
theorem dX0_init_49 : decode cX0_init 49 = .ok (.putfield 26, 3) := by decide +kernel
theorem dX0_init_52 : decode cX0_init 52 = .ok (.return_, 1) := by decide +kernel
abbrev cX0_write : ByteArray := prog_1_method_2_code
def yX0_write : MethodName := ⟨RX0, "write", "(II)I"⟩
theorem dX0_write_0 : decode cX0_write 0 = .ok (.iload_n 1, 1) := by decide +kernel
theorem dX0_write_1 : decode cX0_write 1 = .ok (.ifCond .lt 26, 3) := by decide +kernel
theorem dX0_write_4 : decode cX0_write 4 = .ok (.iload_n 1, 1) := by decide +kernel
theorem dX0_write_5 : decode cX0_write 5 = .ok (.iconst 2, 1) := by decide +kernel
theorem dX0_write_6 : decode cX0_write 6 = .ok (.if_icmp .gt 21, 3) := by decide +kernel
theorem dX0_write_9 : decode cX0_write 9 = .ok (.iload_n 2, 1) := by decide +kernel
theorem dX0_write_10 : decode cX0_write 10 = .ok (.ifCond .lt 17, 3) := by decide +kernel
theorem dX0_write_13 : decode cX0_write 13 = .ok (.iload_n 2, 1) := by decide +kernel
theorem dX0_write_14 : decode cX0_write 14 = .ok (.iconst 1, 1) := by decide +kernel
theorem dX0_write_15 : decode cX0_write 15 = .ok (.if_icmp .gt 12, 3) := by decide +kernel
theorem dX0_write_18 : decode cX0_write 18 = .ok (.aload_n 0, 1) := by decide +kernel
theorem dX0_write_19 : decode cX0_write 19 = .ok (.getfield 29, 3) := by decide +kernel
theorem dX0_write_22 : decode cX0_write 22 = .ok (.bipush 7, 2) := by decide +kernel
theorem dX0_write_24 : decode cX0_write 24 = .ok (.if_icmp .lt 5, 3) := by decide +kernel
theorem dX0_write_27 : decode cX0_write 27 = .ok (.iconst (-1), 1) := by decide +kernel
theorem dX0_write_28 : decode cX0_write 28 = .ok (.ireturn, 1) := by decide +kernel
theorem dX0_write_29 : decode cX0_write 29 = .ok (.aload_n 0, 1) := by decide +kernel
theorem dX0_write_30 : decode cX0_write 30 = .ok (.iload_n 1, 1) := by decide +kernel
theorem dX0_write_31 : decode cX0_write 31 = .ok (.iload_n 2, 1) := by decide +kernel
theorem dX0_write_32 : decode cX0_write 32 = .ok (.iconst 1, 1) := by decide +kernel
theorem dX0_write_33 : decode cX0_write 33 = .ok (.iconst (-1), 1) := by decide +kernel
theorem dX0_write_34 : decode cX0_write 34 = .ok (.invokevirtual 33, 3) := by decide +kernel
theorem dX0_write_37 : decode cX0_write 37 = .ok (.aload_n 0, 1) := by decide +kernel
theorem dX0_write_38 : decode cX0_write 38 = .ok (.getfield 29, 3) := by decide +kernel
theorem dX0_write_41 : decode cX0_write 41 = .ok (.iconst 1, 1) := by decide +kernel
theorem dX0_write_42 : decode cX0_write 42 = .ok (.isub, 1) := by decide +kernel
theorem dX0_write_43 : decode cX0_write 43 = .ok (.ireturn, 1) := by decide +kernel
abbrev cX0_enter : ByteArray := prog_1_method_12_code
def yX0_enter : MethodName := ⟨RX0, "enter", "(IIZI)V"⟩
theorem dX0_enter_0 : decode cX0_enter 0 = .ok (.aload_n 0, 1) := by decide +kernel
theorem dX0_enter_1 : decode cX0_enter 1 = .ok (.getfield 7, 3) := by decide +kernel
theorem dX0_enter_4 : decode cX0_enter 4 = .ok (.aload_n 0, 1) := by decide +kernel
theorem dX0_enter_5 : decode cX0_enter 5 = .ok (.getfield 29, 3) := by decide +kernel
theorem dX0_enter_8 : decode cX0_enter 8 = .ok (.iload_n 1, 1) := by decide +kernel
theorem dX0_enter_9 : decode cX0_enter 9 = .ok (.iastore, 1) := by decide +kernel
theorem dX0_enter_10 : decode cX0_enter 10 = .ok (.aload_n 0, 1) := by decide +kernel
theorem dX0_enter_11 : decode cX0_enter 11 = .ok (.getfield 13, 3) := by decide +kernel
theorem dX0_enter_14 : decode cX0_enter 14 = .ok (.aload_n 0, 1) := by decide +kernel
theorem dX0_enter_15 : decode cX0_enter 15 = .ok (.getfield 29, 3) := by decide +kernel
theorem dX0_enter_18 : decode cX0_enter 18 = .ok (.iload_n 2, 1) := by decide +kernel
theorem dX0_enter_19 : decode cX0_enter 19 = .ok (.iastore, 1) := by decide +kernel
theorem dX0_enter_20 : decode cX0_enter 20 = .ok (.aload_n 0, 1) := by decide +kernel
theorem dX0_enter_21 : decode cX0_enter 21 = .ok (.getfield 16, 3) := by decide +kernel
theorem dX0_enter_24 : decode cX0_enter 24 = .ok (.aload_n 0, 1) := by decide +kernel
theorem dX0_enter_25 : decode cX0_enter 25 = .ok (.getfield 29, 3) := by decide +kernel
theorem dX0_enter_28 : decode cX0_enter 28 = .ok (.iload_n 3, 1) := by decide +kernel
theorem dX0_enter_29 : decode cX0_enter 29 = .ok (.bastore, 1) := by decide +kernel
theorem dX0_enter_30 : decode cX0_enter 30 = .ok (.aload_n 0, 1) := by decide +kernel
theorem dX0_enter_31 : decode cX0_enter 31 = .ok (.getfield 20, 3) := by decide +kernel
theorem dX0_enter_34 : decode cX0_enter 34 = .ok (.aload_n 0, 1) := by decide +kernel
theorem dX0_enter_35 : decode cX0_enter 35 = .ok (.getfield 29, 3) := by decide +kernel
theorem dX0_enter_38 : decode cX0_enter 38 = .ok (.iload 4, 2) := by decide +kernel
theorem dX0_enter_40 : decode cX0_enter 40 = .ok (.iastore, 1) := by decide +kernel
theorem dX0_enter_41 : decode cX0_enter 41 = .ok (.aload_n 0, 1) := by decide +kernel
theorem dX0_enter_42 : decode cX0_enter 42 = .ok (.getfield 23, 3) := by decide +kernel
theorem dX0_enter_45 : decode cX0_enter 45 = .ok (.aload_n 0, 1) := by decide +kernel
theorem dX0_enter_46 : decode cX0_enter 46 = .ok (.getfield 29, 3) := by decide +kernel
theorem dX0_enter_49 : decode cX0_enter 49 = .ok (.iconst 0, 1) := by decide +kernel
theorem dX0_enter_50 : decode cX0_enter 50 = .ok (.iastore, 1) := by decide +kernel
theorem dX0_enter_51 : decode cX0_enter 51 = .ok (.iconst 0, 1) := by decide +kernel
theorem dX0_enter_52 : decode cX0_enter 52 = .ok (.istore 5, 2) := by decide +kernel
theorem dX0_enter_54 : decode cX0_enter 54 = .ok (.iload 5, 2) := by decide +kernel
theorem dX0_enter_56 : decode cX0_enter 56 = .ok (.aload_n 0, 1) := by decide +kernel
theorem dX0_enter_57 : decode cX0_enter 57 = .ok (.getfield 29, 3) := by decide +kernel
theorem dX0_enter_60 : decode cX0_enter 60 = .ok (.if_icmp .ge 51, 3) := by decide +kernel
theorem dX0_enter_63 : decode cX0_enter 63 = .ok (.aload_n 0, 1) := by decide +kernel
theorem dX0_enter_64 : decode cX0_enter 64 = .ok (.getfield 7, 3) := by decide +kernel
theorem dX0_enter_67 : decode cX0_enter 67 = .ok (.iload 5, 2) := by decide +kernel
theorem dX0_enter_69 : decode cX0_enter 69 = .ok (.iaload, 1) := by decide +kernel
theorem dX0_enter_70 : decode cX0_enter 70 = .ok (.iload_n 1, 1) := by decide +kernel
theorem dX0_enter_71 : decode cX0_enter 71 = .ok (.if_icmp .eq 10, 3) := by decide +kernel
theorem dX0_enter_74 : decode cX0_enter 74 = .ok (.iload 5, 2) := by decide +kernel
theorem dX0_enter_76 : decode cX0_enter 76 = .ok (.iload 4, 2) := by decide +kernel
theorem dX0_enter_78 : decode cX0_enter 78 = .ok (.if_icmp .ne 27, 3) := by decide +kernel
theorem dX0_enter_81 : decode cX0_enter 81 = .ok (.aload_n 0, 1) := by decide +kernel
theorem dX0_enter_82 : decode cX0_enter 82 = .ok (.getfield 23, 3) := by decide +kernel
theorem dX0_enter_85 : decode cX0_enter 85 = .ok (.aload_n 0, 1) := by decide +kernel
theorem dX0_enter_86 : decode cX0_enter 86 = .ok (.getfield 29, 3) := by decide +kernel
theorem dX0_enter_89 : decode cX0_enter 89 = .ok (.dup2, 1) := by decide +kernel
theorem dX0_enter_90 : decode cX0_enter 90 = .ok (.iaload, 1) := by decide +kernel
theorem dX0_enter_91 : decode cX0_enter 91 = .ok (.iconst 1, 1) := by decide +kernel
theorem dX0_enter_92 : decode cX0_enter 92 = .ok (.iload 5, 2) := by decide +kernel
theorem dX0_enter_94 : decode cX0_enter 94 = .ok (.ishl, 1) := by decide +kernel
theorem dX0_enter_95 : decode cX0_enter 95 = .ok (.aload_n 0, 1) := by decide +kernel
theorem dX0_enter_96 : decode cX0_enter 96 = .ok (.getfield 23, 3) := by decide +kernel
theorem dX0_enter_99 : decode cX0_enter 99 = .ok (.iload 5, 2) := by decide +kernel
theorem dX0_enter_101 : decode cX0_enter 101 = .ok (.iaload, 1) := by decide +kernel
theorem dX0_enter_102 : decode cX0_enter 102 = .ok (.ior, 1) := by decide +kernel
theorem dX0_enter_103 : decode cX0_enter 103 = .ok (.ior, 1) := by decide +kernel
theorem dX0_enter_104 : decode cX0_enter 104 = .ok (.iastore, 1) := by decide +kernel
theorem dX0_enter_105 : decode cX0_enter 105 = .ok (.iinc 5 1, 3) := by decide +kernel
theorem dX0_enter_108 : decode cX0_enter 108 = .ok (.goto (-54), 3) := by decide +kernel
theorem dX0_enter_111 : decode cX0_enter 111 = .ok (.aload_n 0, 1) := by decide +kernel
theorem dX0_enter_112 : decode cX0_enter 112 = .ok (.dup, 1) := by decide +kernel
theorem dX0_enter_113 : decode cX0_enter 113 = .ok (.getfield 29, 3) := by decide +kernel
theorem dX0_enter_116 : decode cX0_enter 116 = .ok (.iconst 1, 1) := by decide +kernel
theorem dX0_enter_117 : decode cX0_enter 117 = .ok (.iadd, 1) := by decide +kernel
theorem dX0_enter_118 : decode cX0_enter 118 = .ok (.putfield 29, 3) := by decide +kernel
theorem dX0_enter_121 : decode cX0_enter 121 = .ok (.return_, 1) := by decide +kernel
abbrev cX0_read : ByteArray := prog_1_method_3_code
def yX0_read : MethodName := ⟨RX0, "read", "(III)I"⟩
theorem dX0_read_0 : decode cX0_read 0 = .ok (.iload_n 1, 1) := by decide +kernel
theorem dX0_read_1 : decode cX0_read 1 = .ok (.ifCond .lt 35, 3) := by decide +kernel
theorem dX0_read_4 : decode cX0_read 4 = .ok (.iload_n 1, 1) := by decide +kernel
theorem dX0_read_5 : decode cX0_read 5 = .ok (.iconst 2, 1) := by decide +kernel
theorem dX0_read_6 : decode cX0_read 6 = .ok (.if_icmp .gt 30, 3) := by decide +kernel
theorem dX0_read_9 : decode cX0_read 9 = .ok (.iload_n 2, 1) := by decide +kernel
theorem dX0_read_10 : decode cX0_read 10 = .ok (.ifCond .lt 26, 3) := by decide +kernel
theorem dX0_read_13 : decode cX0_read 13 = .ok (.iload_n 2, 1) := by decide +kernel
theorem dX0_read_14 : decode cX0_read 14 = .ok (.iconst 1, 1) := by decide +kernel
theorem dX0_read_15 : decode cX0_read 15 = .ok (.if_icmp .gt 21, 3) := by decide +kernel
theorem dX0_read_18 : decode cX0_read 18 = .ok (.aload_n 0, 1) := by decide +kernel
theorem dX0_read_19 : decode cX0_read 19 = .ok (.getfield 29, 3) := by decide +kernel
theorem dX0_read_22 : decode cX0_read 22 = .ok (.bipush 7, 2) := by decide +kernel
theorem dX0_read_24 : decode cX0_read 24 = .ok (.if_icmp .ge 12, 3) := by decide +kernel
theorem dX0_read_27 : decode cX0_read 27 = .ok (.aload_n 0, 1) := by decide +kernel
theorem dX0_read_28 : decode cX0_read 28 = .ok (.iload_n 3, 1) := by decide +kernel
theorem dX0_read_29 : decode cX0_read 29 = .ok (.iload_n 2, 1) := by decide +kernel
theorem dX0_read_30 : decode cX0_read 30 = .ok (.invokevirtual 37, 3) := by decide +kernel
theorem dX0_read_33 : decode cX0_read 33 = .ok (.ifCond .ne 5, 3) := by decide +kernel
theorem dX0_read_36 : decode cX0_read 36 = .ok (.iconst (-1), 1) := by decide +kernel
theorem dX0_read_37 : decode cX0_read 37 = .ok (.ireturn, 1) := by decide +kernel
theorem dX0_read_38 : decode cX0_read 38 = .ok (.aload_n 0, 1) := by decide +kernel
theorem dX0_read_39 : decode cX0_read 39 = .ok (.iload_n 1, 1) := by decide +kernel
theorem dX0_read_40 : decode cX0_read 40 = .ok (.iload_n 2, 1) := by decide +kernel
theorem dX0_read_41 : decode cX0_read 41 = .ok (.iconst 0, 1) := by decide +kernel
theorem dX0_read_42 : decode cX0_read 42 = .ok (.iload_n 3, 1) := by decide +kernel
theorem dX0_read_43 : decode cX0_read 43 = .ok (.invokevirtual 33, 3) := by decide +kernel
theorem dX0_read_46 : decode cX0_read 46 = .ok (.aload_n 0, 1) := by decide +kernel
theorem dX0_read_47 : decode cX0_read 47 = .ok (.getfield 29, 3) := by decide +kernel
theorem dX0_read_50 : decode cX0_read 50 = .ok (.iconst 1, 1) := by decide +kernel
theorem dX0_read_51 : decode cX0_read 51 = .ok (.isub, 1) := by decide +kernel
theorem dX0_read_52 : decode cX0_read 52 = .ok (.ireturn, 1) := by decide +kernel
abbrev cX0_isSource : ByteArray := prog_1_method_11_code
def yX0_isSource : MethodName := ⟨RX0, "isSource", "(II)Z"⟩
theorem dX0_isSource_0 : decode cX0_isSource 0 = .ok (.iload_n 1, 1) := by decide +kernel
theorem dX0_isSource_1 : decode cX0_isSource 1 = .ok (.iconst (-1), 1) := by decide +kernel
theorem dX0_isSource_2 : decode cX0_isSource 2 = .ok (.if_icmp .eq 34, 3) := by decide +kernel
theorem dX0_isSource_5 : decode cX0_isSource 5 = .ok (.iload_n 1, 1) := by decide +kernel
theorem dX0_isSource_6 : decode cX0_isSource 6 = .ok (.ifCond .lt 34, 3) := by decide +kernel
theorem dX0_isSource_9 : decode cX0_isSource 9 = .ok (.iload_n 1, 1) := by decide +kernel
theorem dX0_isSource_10 : decode cX0_isSource 10 = .ok (.aload_n 0, 1) := by decide +kernel
theorem dX0_isSource_11 : decode cX0_isSource 11 = .ok (.getfield 29, 3) := by decide +kernel
theorem dX0_isSource_14 : decode cX0_isSource 14 = .ok (.if_icmp .ge 26, 3) := by decide +kernel
theorem dX0_isSource_17 : decode cX0_isSource 17 = .ok (.aload_n 0, 1) := by decide +kernel
theorem dX0_isSource_18 : decode cX0_isSource 18 = .ok (.getfield 16, 3) := by decide +kernel
theorem dX0_isSource_21 : decode cX0_isSource 21 = .ok (.iload_n 1, 1) := by decide +kernel
theorem dX0_isSource_22 : decode cX0_isSource 22 = .ok (.baload, 1) := by decide +kernel
theorem dX0_isSource_23 : decode cX0_isSource 23 = .ok (.ifCond .eq 17, 3) := by decide +kernel
theorem dX0_isSource_26 : decode cX0_isSource 26 = .ok (.aload_n 0, 1) := by decide +kernel
theorem dX0_isSource_27 : decode cX0_isSource 27 = .ok (.getfield 13, 3) := by decide +kernel
theorem dX0_isSource_30 : decode cX0_isSource 30 = .ok (.iload_n 1, 1) := by decide +kernel
theorem dX0_isSource_31 : decode cX0_isSource 31 = .ok (.iaload, 1) := by decide +kernel
theorem dX0_isSource_32 : decode cX0_isSource 32 = .ok (.iload_n 2, 1) := by decide +kernel
theorem dX0_isSource_33 : decode cX0_isSource 33 = .ok (.if_icmp .ne 7, 3) := by decide +kernel
theorem dX0_isSource_36 : decode cX0_isSource 36 = .ok (.iconst 1, 1) := by decide +kernel
theorem dX0_isSource_37 : decode cX0_isSource 37 = .ok (.goto 4, 3) := by decide +kernel
theorem dX0_isSource_40 : decode cX0_isSource 40 = .ok (.iconst 0, 1) := by decide +kernel
theorem dX0_isSource_41 : decode cX0_isSource 41 = .ok (.ireturn, 1) := by decide +kernel
abbrev cX0_back : ByteArray := prog_1_method_4_code
def yX0_back : MethodName := ⟨RX0, "back", "()I"⟩
theorem dX0_back_0 : decode cX0_back 0 = .ok (.aload_n 0, 1) := by decide +kernel
theorem dX0_back_1 : decode cX0_back 1 = .ok (.getfield 29, 3) := by decide +kernel
theorem dX0_back_4 : decode cX0_back 4 = .ok (.ifCond .ne 5, 3) := by decide +kernel
theorem dX0_back_7 : decode cX0_back 7 = .ok (.iconst (-1), 1) := by decide +kernel
theorem dX0_back_8 : decode cX0_back 8 = .ok (.ireturn, 1) := by decide +kernel
theorem dX0_back_9 : decode cX0_back 9 = .ok (.aload_n 0, 1) := by decide +kernel
theorem dX0_back_10 : decode cX0_back 10 = .ok (.dup, 1) := by decide +kernel
theorem dX0_back_11 : decode cX0_back 11 = .ok (.getfield 29, 3) := by decide +kernel
theorem dX0_back_14 : decode cX0_back 14 = .ok (.iconst 1, 1) := by decide +kernel
theorem dX0_back_15 : decode cX0_back 15 = .ok (.isub, 1) := by decide +kernel
theorem dX0_back_16 : decode cX0_back 16 = .ok (.putfield 29, 3) := by decide +kernel
theorem dX0_back_19 : decode cX0_back 19 = .ok (.aload_n 0, 1) := by decide +kernel
theorem dX0_back_20 : decode cX0_back 20 = .ok (.getfield 29, 3) := by decide +kernel
theorem dX0_back_23 : decode cX0_back 23 = .ok (.ireturn, 1) := by decide +kernel
abbrev cX0_before : ByteArray := prog_1_method_5_code
def yX0_before : MethodName := ⟨RX0, "before", "(II)I"⟩
theorem dX0_before_0 : decode cX0_before 0 = .ok (.aload_n 0, 1) := by decide +kernel
theorem dX0_before_1 : decode cX0_before 1 = .ok (.iload_n 1, 1) := by decide +kernel
theorem dX0_before_2 : decode cX0_before 2 = .ok (.invokevirtual 41, 3) := by decide +kernel
theorem dX0_before_5 : decode cX0_before 5 = .ok (.ifCond .eq 24, 3) := by decide +kernel
theorem dX0_before_8 : decode cX0_before 8 = .ok (.aload_n 0, 1) := by decide +kernel
theorem dX0_before_9 : decode cX0_before 9 = .ok (.iload_n 2, 1) := by decide +kernel
theorem dX0_before_10 : decode cX0_before 10 = .ok (.invokevirtual 41, 3) := by decide +kernel
theorem dX0_before_13 : decode cX0_before 13 = .ok (.ifCond .eq 16, 3) := by decide +kernel
theorem dX0_before_16 : decode cX0_before 16 = .ok (.aload_n 0, 1) := by decide +kernel
theorem dX0_before_17 : decode cX0_before 17 = .ok (.getfield 23, 3) := by decide +kernel
theorem dX0_before_20 : decode cX0_before 20 = .ok (.iload_n 2, 1) := by decide +kernel
theorem dX0_before_21 : decode cX0_before 21 = .ok (.iaload, 1) := by decide +kernel
theorem dX0_before_22 : decode cX0_before 22 = .ok (.iload_n 1, 1) := by decide +kernel
theorem dX0_before_23 : decode cX0_before 23 = .ok (.iushr, 1) := by decide +kernel
theorem dX0_before_24 : decode cX0_before 24 = .ok (.iconst 1, 1) := by decide +kernel
theorem dX0_before_25 : decode cX0_before 25 = .ok (.iand, 1) := by decide +kernel
theorem dX0_before_26 : decode cX0_before 26 = .ok (.goto 4, 3) := by decide +kernel
theorem dX0_before_29 : decode cX0_before 29 = .ok (.iconst (-1), 1) := by decide +kernel
theorem dX0_before_30 : decode cX0_before 30 = .ok (.ireturn, 1) := by decide +kernel
abbrev cX0_isHeld : ByteArray := prog_1_method_10_code
def yX0_isHeld : MethodName := ⟨RX0, "isHeld", "(I)Z"⟩
theorem dX0_isHeld_0 : decode cX0_isHeld 0 = .ok (.iload_n 1, 1) := by decide +kernel
theorem dX0_isHeld_1 : decode cX0_isHeld 1 = .ok (.ifCond .lt 15, 3) := by decide +kernel
theorem dX0_isHeld_4 : decode cX0_isHeld 4 = .ok (.iload_n 1, 1) := by decide +kernel
theorem dX0_isHeld_5 : decode cX0_isHeld 5 = .ok (.aload_n 0, 1) := by decide +kernel
theorem dX0_isHeld_6 : decode cX0_isHeld 6 = .ok (.getfield 29, 3) := by decide +kernel
theorem dX0_isHeld_9 : decode cX0_isHeld 9 = .ok (.if_icmp .ge 7, 3) := by decide +kernel
theorem dX0_isHeld_12 : decode cX0_isHeld 12 = .ok (.iconst 1, 1) := by decide +kernel
theorem dX0_isHeld_13 : decode cX0_isHeld 13 = .ok (.goto 4, 3) := by decide +kernel
theorem dX0_isHeld_16 : decode cX0_isHeld 16 = .ok (.iconst 0, 1) := by decide +kernel
theorem dX0_isHeld_17 : decode cX0_isHeld 17 = .ok (.ireturn, 1) := by decide +kernel
abbrev cX0_weak : ByteArray := prog_1_method_6_code
def yX0_weak : MethodName := ⟨RX0, "weak", "(I)I"⟩
theorem dX0_weak_0 : decode cX0_weak 0 = .ok (.aload_n 0, 1) := by decide +kernel
theorem dX0_weak_1 : decode cX0_weak 1 = .ok (.iload_n 1, 1) := by decide +kernel
theorem dX0_weak_2 : decode cX0_weak 2 = .ok (.invokevirtual 41, 3) := by decide +kernel
theorem dX0_weak_5 : decode cX0_weak 5 = .ok (.ifCond .ne 5, 3) := by decide +kernel
theorem dX0_weak_8 : decode cX0_weak 8 = .ok (.iconst (-1), 1) := by decide +kernel
theorem dX0_weak_9 : decode cX0_weak 9 = .ok (.ireturn, 1) := by decide +kernel
theorem dX0_weak_10 : decode cX0_weak 10 = .ok (.aload_n 0, 1) := by decide +kernel
theorem dX0_weak_11 : decode cX0_weak 11 = .ok (.iload_n 1, 1) := by decide +kernel
theorem dX0_weak_12 : decode cX0_weak 12 = .ok (.invokevirtual 45, 3) := by decide +kernel
theorem dX0_weak_15 : decode cX0_weak 15 = .ok (.ifCond .eq 7, 3) := by decide +kernel
theorem dX0_weak_18 : decode cX0_weak 18 = .ok (.iconst 1, 1) := by decide +kernel
theorem dX0_weak_19 : decode cX0_weak 19 = .ok (.goto 4, 3) := by decide +kernel
theorem dX0_weak_22 : decode cX0_weak 22 = .ok (.iconst 0, 1) := by decide +kernel
theorem dX0_weak_23 : decode cX0_weak 23 = .ok (.ireturn, 1) := by decide +kernel
abbrev cX0_isWeak : ByteArray := prog_1_method_13_code
def yX0_isWeak : MethodName := ⟨RX0, "isWeak", "(I)Z"⟩
theorem dX0_isWeak_0 : decode cX0_isWeak 0 = .ok (.aload_n 0, 1) := by decide +kernel
theorem dX0_isWeak_1 : decode cX0_isWeak 1 = .ok (.getfield 16, 3) := by decide +kernel
theorem dX0_isWeak_4 : decode cX0_isWeak 4 = .ok (.iload_n 1, 1) := by decide +kernel
theorem dX0_isWeak_5 : decode cX0_isWeak 5 = .ok (.baload, 1) := by decide +kernel
theorem dX0_isWeak_6 : decode cX0_isWeak 6 = .ok (.ifCond .eq 5, 3) := by decide +kernel
theorem dX0_isWeak_9 : decode cX0_isWeak 9 = .ok (.iconst 1, 1) := by decide +kernel
theorem dX0_isWeak_10 : decode cX0_isWeak 10 = .ok (.ireturn, 1) := by decide +kernel
theorem dX0_isWeak_11 : decode cX0_isWeak 11 = .ok (.iconst 0, 1) := by decide +kernel
theorem dX0_isWeak_12 : decode cX0_isWeak 12 = .ok (.istore_n 2, 1) := by decide +kernel
theorem dX0_isWeak_13 : decode cX0_isWeak 13 = .ok (.iload_n 2, 1) := by decide +kernel
theorem dX0_isWeak_14 : decode cX0_isWeak 14 = .ok (.aload_n 0, 1) := by decide +kernel
theorem dX0_isWeak_15 : decode cX0_isWeak 15 = .ok (.getfield 29, 3) := by decide +kernel
theorem dX0_isWeak_18 : decode cX0_isWeak 18 = .ok (.if_icmp .ge 85, 3) := by decide +kernel
theorem dX0_isWeak_21 : decode cX0_isWeak 21 = .ok (.aload_n 0, 1) := by decide +kernel
theorem dX0_isWeak_22 : decode cX0_isWeak 22 = .ok (.getfield 16, 3) := by decide +kernel
theorem dX0_isWeak_25 : decode cX0_isWeak 25 = .ok (.iload_n 2, 1) := by decide +kernel
theorem dX0_isWeak_26 : decode cX0_isWeak 26 = .ok (.baload, 1) := by decide +kernel
theorem dX0_isWeak_27 : decode cX0_isWeak 27 = .ok (.ifCond .eq 35, 3) := by decide +kernel
theorem dX0_isWeak_30 : decode cX0_isWeak 30 = .ok (.aload_n 0, 1) := by decide +kernel
theorem dX0_isWeak_31 : decode cX0_isWeak 31 = .ok (.getfield 13, 3) := by decide +kernel
theorem dX0_isWeak_34 : decode cX0_isWeak 34 = .ok (.iload_n 2, 1) := by decide +kernel
theorem dX0_isWeak_35 : decode cX0_isWeak 35 = .ok (.iaload, 1) := by decide +kernel
theorem dX0_isWeak_36 : decode cX0_isWeak 36 = .ok (.aload_n 0, 1) := by decide +kernel
theorem dX0_isWeak_37 : decode cX0_isWeak 37 = .ok (.getfield 13, 3) := by decide +kernel
theorem dX0_isWeak_40 : decode cX0_isWeak 40 = .ok (.iload_n 1, 1) := by decide +kernel
theorem dX0_isWeak_41 : decode cX0_isWeak 41 = .ok (.iaload, 1) := by decide +kernel
theorem dX0_isWeak_42 : decode cX0_isWeak 42 = .ok (.if_icmp .ne 20, 3) := by decide +kernel
theorem dX0_isWeak_45 : decode cX0_isWeak 45 = .ok (.aload_n 0, 1) := by decide +kernel
theorem dX0_isWeak_46 : decode cX0_isWeak 46 = .ok (.getfield 23, 3) := by decide +kernel
theorem dX0_isWeak_49 : decode cX0_isWeak 49 = .ok (.iload_n 1, 1) := by decide +kernel
theorem dX0_isWeak_50 : decode cX0_isWeak 50 = .ok (.iaload, 1) := by decide +kernel
theorem dX0_isWeak_51 : decode cX0_isWeak 51 = .ok (.iload_n 2, 1) := by decide +kernel
theorem dX0_isWeak_52 : decode cX0_isWeak 52 = .ok (.iushr, 1) := by decide +kernel
theorem dX0_isWeak_53 : decode cX0_isWeak 53 = .ok (.iconst 1, 1) := by decide +kernel
theorem dX0_isWeak_54 : decode cX0_isWeak 54 = .ok (.iand, 1) := by decide +kernel
theorem dX0_isWeak_55 : decode cX0_isWeak 55 = .ok (.ifCond .eq 7, 3) := by decide +kernel
theorem dX0_isWeak_58 : decode cX0_isWeak 58 = .ok (.iconst 1, 1) := by decide +kernel
theorem dX0_isWeak_59 : decode cX0_isWeak 59 = .ok (.goto 4, 3) := by decide +kernel
theorem dX0_isWeak_62 : decode cX0_isWeak 62 = .ok (.iconst 0, 1) := by decide +kernel
theorem dX0_isWeak_63 : decode cX0_isWeak 63 = .ok (.istore_n 3, 1) := by decide +kernel
theorem dX0_isWeak_64 : decode cX0_isWeak 64 = .ok (.iload_n 3, 1) := by decide +kernel
theorem dX0_isWeak_65 : decode cX0_isWeak 65 = .ok (.ifCond .eq 32, 3) := by decide +kernel
theorem dX0_isWeak_68 : decode cX0_isWeak 68 = .ok (.aload_n 0, 1) := by decide +kernel
theorem dX0_isWeak_69 : decode cX0_isWeak 69 = .ok (.getfield 20, 3) := by decide +kernel
theorem dX0_isWeak_72 : decode cX0_isWeak 72 = .ok (.iload_n 1, 1) := by decide +kernel
theorem dX0_isWeak_73 : decode cX0_isWeak 73 = .ok (.iaload, 1) := by decide +kernel
theorem dX0_isWeak_74 : decode cX0_isWeak 74 = .ok (.ifCond .lt 21, 3) := by decide +kernel
theorem dX0_isWeak_77 : decode cX0_isWeak 77 = .ok (.aload_n 0, 1) := by decide +kernel
theorem dX0_isWeak_78 : decode cX0_isWeak 78 = .ok (.getfield 23, 3) := by decide +kernel
theorem dX0_isWeak_81 : decode cX0_isWeak 81 = .ok (.iload_n 2, 1) := by decide +kernel
theorem dX0_isWeak_82 : decode cX0_isWeak 82 = .ok (.iaload, 1) := by decide +kernel
theorem dX0_isWeak_83 : decode cX0_isWeak 83 = .ok (.aload_n 0, 1) := by decide +kernel
theorem dX0_isWeak_84 : decode cX0_isWeak 84 = .ok (.getfield 20, 3) := by decide +kernel
theorem dX0_isWeak_87 : decode cX0_isWeak 87 = .ok (.iload_n 1, 1) := by decide +kernel
theorem dX0_isWeak_88 : decode cX0_isWeak 88 = .ok (.iaload, 1) := by decide +kernel
theorem dX0_isWeak_89 : decode cX0_isWeak 89 = .ok (.iushr, 1) := by decide +kernel
theorem dX0_isWeak_90 : decode cX0_isWeak 90 = .ok (.iconst 1, 1) := by decide +kernel
theorem dX0_isWeak_91 : decode cX0_isWeak 91 = .ok (.iand, 1) := by decide +kernel
theorem dX0_isWeak_92 : decode cX0_isWeak 92 = .ok (.ifCond .eq 5, 3) := by decide +kernel
theorem dX0_isWeak_95 : decode cX0_isWeak 95 = .ok (.iconst 0, 1) := by decide +kernel
theorem dX0_isWeak_96 : decode cX0_isWeak 96 = .ok (.ireturn, 1) := by decide +kernel
theorem dX0_isWeak_97 : decode cX0_isWeak 97 = .ok (.iinc 2 1, 3) := by decide +kernel
theorem dX0_isWeak_100 : decode cX0_isWeak 100 = .ok (.goto (-87), 3) := by decide +kernel
theorem dX0_isWeak_103 : decode cX0_isWeak 103 = .ok (.iconst 1, 1) := by decide +kernel
theorem dX0_isWeak_104 : decode cX0_isWeak 104 = .ok (.ireturn, 1) := by decide +kernel
abbrev cX0_strong : ByteArray := prog_1_method_7_code
def yX0_strong : MethodName := ⟨RX0, "strong", "(I)I"⟩
theorem dX0_strong_0 : decode cX0_strong 0 = .ok (.aload_n 0, 1) := by decide +kernel
theorem dX0_strong_1 : decode cX0_strong 1 = .ok (.iload_n 1, 1) := by decide +kernel
theorem dX0_strong_2 : decode cX0_strong 2 = .ok (.invokevirtual 41, 3) := by decide +kernel
theorem dX0_strong_5 : decode cX0_strong 5 = .ok (.ifCond .ne 5, 3) := by decide +kernel
theorem dX0_strong_8 : decode cX0_strong 8 = .ok (.iconst (-1), 1) := by decide +kernel
theorem dX0_strong_9 : decode cX0_strong 9 = .ok (.ireturn, 1) := by decide +kernel
theorem dX0_strong_10 : decode cX0_strong 10 = .ok (.aload_n 0, 1) := by decide +kernel
theorem dX0_strong_11 : decode cX0_strong 11 = .ok (.iload_n 1, 1) := by decide +kernel
theorem dX0_strong_12 : decode cX0_strong 12 = .ok (.invokevirtual 48, 3) := by decide +kernel
theorem dX0_strong_15 : decode cX0_strong 15 = .ok (.ifCond .eq 7, 3) := by decide +kernel
theorem dX0_strong_18 : decode cX0_strong 18 = .ok (.iconst 1, 1) := by decide +kernel
theorem dX0_strong_19 : decode cX0_strong 19 = .ok (.goto 4, 3) := by decide +kernel
theorem dX0_strong_22 : decode cX0_strong 22 = .ok (.iconst 0, 1) := by decide +kernel
theorem dX0_strong_23 : decode cX0_strong 23 = .ok (.ireturn, 1) := by decide +kernel
abbrev cX0_isStrong : ByteArray := prog_1_method_14_code
def yX0_isStrong : MethodName := ⟨RX0, "isStrong", "(I)Z"⟩
theorem dX0_isStrong_0 : decode cX0_isStrong 0 = .ok (.aload_n 0, 1) := by decide +kernel
theorem dX0_isStrong_1 : decode cX0_isStrong 1 = .ok (.getfield 23, 3) := by decide +kernel
theorem dX0_isStrong_4 : decode cX0_isStrong 4 = .ok (.iload_n 1, 1) := by decide +kernel
theorem dX0_isStrong_5 : decode cX0_isStrong 5 = .ok (.iaload, 1) := by decide +kernel
theorem dX0_isStrong_6 : decode cX0_isStrong 6 = .ok (.iconst 1, 1) := by decide +kernel
theorem dX0_isStrong_7 : decode cX0_isStrong 7 = .ok (.iload_n 1, 1) := by decide +kernel
theorem dX0_isStrong_8 : decode cX0_isStrong 8 = .ok (.ishl, 1) := by decide +kernel
theorem dX0_isStrong_9 : decode cX0_isStrong 9 = .ok (.ior, 1) := by decide +kernel
theorem dX0_isStrong_10 : decode cX0_isStrong 10 = .ok (.istore_n 2, 1) := by decide +kernel
theorem dX0_isStrong_11 : decode cX0_isStrong 11 = .ok (.iconst 0, 1) := by decide +kernel
theorem dX0_isStrong_12 : decode cX0_isStrong 12 = .ok (.istore_n 3, 1) := by decide +kernel
theorem dX0_isStrong_13 : decode cX0_isStrong 13 = .ok (.iload_n 3, 1) := by decide +kernel
theorem dX0_isStrong_14 : decode cX0_isStrong 14 = .ok (.aload_n 0, 1) := by decide +kernel
theorem dX0_isStrong_15 : decode cX0_isStrong 15 = .ok (.getfield 29, 3) := by decide +kernel
theorem dX0_isStrong_18 : decode cX0_isStrong 18 = .ok (.if_icmp .ge 21, 3) := by decide +kernel
theorem dX0_isStrong_21 : decode cX0_isStrong 21 = .ok (.aload_n 0, 1) := by decide +kernel
theorem dX0_isStrong_22 : decode cX0_isStrong 22 = .ok (.getfield 26, 3) := by decide +kernel
theorem dX0_isStrong_25 : decode cX0_isStrong 25 = .ok (.iload_n 3, 1) := by decide +kernel
theorem dX0_isStrong_26 : decode cX0_isStrong 26 = .ok (.aload_n 0, 1) := by decide +kernel
theorem dX0_isStrong_27 : decode cX0_isStrong 27 = .ok (.getfield 23, 3) := by decide +kernel
theorem dX0_isStrong_30 : decode cX0_isStrong 30 = .ok (.iload_n 3, 1) := by decide +kernel
theorem dX0_isStrong_31 : decode cX0_isStrong 31 = .ok (.iaload, 1) := by decide +kernel
theorem dX0_isStrong_32 : decode cX0_isStrong 32 = .ok (.iastore, 1) := by decide +kernel
theorem dX0_isStrong_33 : decode cX0_isStrong 33 = .ok (.iinc 3 1, 3) := by decide +kernel
theorem dX0_isStrong_36 : decode cX0_isStrong 36 = .ok (.goto (-23), 3) := by decide +kernel
theorem dX0_isStrong_39 : decode cX0_isStrong 39 = .ok (.iconst 1, 1) := by decide +kernel
theorem dX0_isStrong_40 : decode cX0_isStrong 40 = .ok (.istore_n 3, 1) := by decide +kernel
theorem dX0_isStrong_41 : decode cX0_isStrong 41 = .ok (.iconst 0, 1) := by decide +kernel
theorem dX0_isStrong_42 : decode cX0_isStrong 42 = .ok (.istore 4, 2) := by decide +kernel
theorem dX0_isStrong_44 : decode cX0_isStrong 44 = .ok (.iload 4, 2) := by decide +kernel
theorem dX0_isStrong_46 : decode cX0_isStrong 46 = .ok (.bipush 60, 2) := by decide +kernel
theorem dX0_isStrong_48 : decode cX0_isStrong 48 = .ok (.if_icmp .ge 128, 3) := by decide +kernel
theorem dX0_isStrong_51 : decode cX0_isStrong 51 = .ok (.iload_n 3, 1) := by decide +kernel
theorem dX0_isStrong_52 : decode cX0_isStrong 52 = .ok (.ifCond .eq 124, 3) := by decide +kernel
theorem dX0_isStrong_55 : decode cX0_isStrong 55 = .ok (.iconst 0, 1) := by decide +kernel
theorem dX0_isStrong_56 : decode cX0_isStrong 56 = .ok (.istore_n 3, 1) := by decide +kernel
theorem dX0_isStrong_57 : decode cX0_isStrong 57 = .ok (.iconst 0, 1) := by decide +kernel
theorem dX0_isStrong_58 : decode cX0_isStrong 58 = .ok (.istore 5, 2) := by decide +kernel
theorem dX0_isStrong_60 : decode cX0_isStrong 60 = .ok (.iload 5, 2) := by decide +kernel
theorem dX0_isStrong_62 : decode cX0_isStrong 62 = .ok (.aload_n 0, 1) := by decide +kernel
theorem dX0_isStrong_63 : decode cX0_isStrong 63 = .ok (.getfield 29, 3) := by decide +kernel
theorem dX0_isStrong_66 : decode cX0_isStrong 66 = .ok (.if_icmp .ge 86, 3) := by decide +kernel
theorem dX0_isStrong_69 : decode cX0_isStrong 69 = .ok (.iload_n 2, 1) := by decide +kernel
theorem dX0_isStrong_70 : decode cX0_isStrong 70 = .ok (.iload 5, 2) := by decide +kernel
theorem dX0_isStrong_72 : decode cX0_isStrong 72 = .ok (.iushr, 1) := by decide +kernel
theorem dX0_isStrong_73 : decode cX0_isStrong 73 = .ok (.iconst 1, 1) := by decide +kernel
theorem dX0_isStrong_74 : decode cX0_isStrong 74 = .ok (.iand, 1) := by decide +kernel
theorem dX0_isStrong_75 : decode cX0_isStrong 75 = .ok (.ifCond .eq 33, 3) := by decide +kernel
theorem dX0_isStrong_78 : decode cX0_isStrong 78 = .ok (.aload_n 0, 1) := by decide +kernel
theorem dX0_isStrong_79 : decode cX0_isStrong 79 = .ok (.getfield 16, 3) := by decide +kernel
theorem dX0_isStrong_82 : decode cX0_isStrong 82 = .ok (.iload 5, 2) := by decide +kernel
theorem dX0_isStrong_84 : decode cX0_isStrong 84 = .ok (.baload, 1) := by decide +kernel
theorem dX0_isStrong_85 : decode cX0_isStrong 85 = .ok (.ifCond .ne 23, 3) := by decide +kernel
theorem dX0_isStrong_88 : decode cX0_isStrong 88 = .ok (.aload_n 0, 1) := by decide +kernel
theorem dX0_isStrong_89 : decode cX0_isStrong 89 = .ok (.getfield 7, 3) := by decide +kernel
theorem dX0_isStrong_92 : decode cX0_isStrong 92 = .ok (.iload 5, 2) := by decide +kernel
theorem dX0_isStrong_94 : decode cX0_isStrong 94 = .ok (.iaload, 1) := by decide +kernel
theorem dX0_isStrong_95 : decode cX0_isStrong 95 = .ok (.aload_n 0, 1) := by decide +kernel
theorem dX0_isStrong_96 : decode cX0_isStrong 96 = .ok (.getfield 7, 3) := by decide +kernel
theorem dX0_isStrong_99 : decode cX0_isStrong 99 = .ok (.iload_n 1, 1) := by decide +kernel
theorem dX0_isStrong_100 : decode cX0_isStrong 100 = .ok (.iaload, 1) := by decide +kernel
theorem dX0_isStrong_101 : decode cX0_isStrong 101 = .ok (.if_icmp .ne 7, 3) := by decide +kernel
theorem dX0_isStrong_104 : decode cX0_isStrong 104 = .ok (.iconst 1, 1) := by decide +kernel
theorem dX0_isStrong_105 : decode cX0_isStrong 105 = .ok (.goto 4, 3) := by decide +kernel
theorem dX0_isStrong_108 : decode cX0_isStrong 108 = .ok (.iconst 0, 1) := by decide +kernel
theorem dX0_isStrong_109 : decode cX0_isStrong 109 = .ok (.istore 6, 2) := by decide +kernel
theorem dX0_isStrong_111 : decode cX0_isStrong 111 = .ok (.iload 6, 2) := by decide +kernel
theorem dX0_isStrong_113 : decode cX0_isStrong 113 = .ok (.ifCond .eq 33, 3) := by decide +kernel
theorem dX0_isStrong_116 : decode cX0_isStrong 116 = .ok (.aload_n 0, 1) := by decide +kernel
theorem dX0_isStrong_117 : decode cX0_isStrong 117 = .ok (.getfield 20, 3) := by decide +kernel
theorem dX0_isStrong_120 : decode cX0_isStrong 120 = .ok (.iload 5, 2) := by decide +kernel
theorem dX0_isStrong_122 : decode cX0_isStrong 122 = .ok (.iaload, 1) := by decide +kernel
theorem dX0_isStrong_123 : decode cX0_isStrong 123 = .ok (.ifCond .lt 23, 3) := by decide +kernel
theorem dX0_isStrong_126 : decode cX0_isStrong 126 = .ok (.aload_n 0, 1) := by decide +kernel
theorem dX0_isStrong_127 : decode cX0_isStrong 127 = .ok (.iload 5, 2) := by decide +kernel
theorem dX0_isStrong_129 : decode cX0_isStrong 129 = .ok (.iload_n 2, 1) := by decide +kernel
theorem dX0_isStrong_130 : decode cX0_isStrong 130 = .ok (.invokevirtual 55, 3) := by decide +kernel
theorem dX0_isStrong_133 : decode cX0_isStrong 133 = .ok (.ifCond .ne 7, 3) := by decide +kernel
theorem dX0_isStrong_136 : decode cX0_isStrong 136 = .ok (.iload_n 3, 1) := by decide +kernel
theorem dX0_isStrong_137 : decode cX0_isStrong 137 = .ok (.ifCond .eq 7, 3) := by decide +kernel
theorem dX0_isStrong_140 : decode cX0_isStrong 140 = .ok (.iconst 1, 1) := by decide +kernel
theorem dX0_isStrong_141 : decode cX0_isStrong 141 = .ok (.goto 4, 3) := by decide +kernel
theorem dX0_isStrong_144 : decode cX0_isStrong 144 = .ok (.iconst 0, 1) := by decide +kernel
theorem dX0_isStrong_145 : decode cX0_isStrong 145 = .ok (.istore_n 3, 1) := by decide +kernel
theorem dX0_isStrong_146 : decode cX0_isStrong 146 = .ok (.iinc 5 1, 3) := by decide +kernel
theorem dX0_isStrong_149 : decode cX0_isStrong 149 = .ok (.goto (-89), 3) := by decide +kernel
theorem dX0_isStrong_152 : decode cX0_isStrong 152 = .ok (.aload_n 0, 1) := by decide +kernel
theorem dX0_isStrong_153 : decode cX0_isStrong 153 = .ok (.iload_n 2, 1) := by decide +kernel
theorem dX0_isStrong_154 : decode cX0_isStrong 154 = .ok (.invokevirtual 58, 3) := by decide +kernel
theorem dX0_isStrong_157 : decode cX0_isStrong 157 = .ok (.ifCond .ne 7, 3) := by decide +kernel
theorem dX0_isStrong_160 : decode cX0_isStrong 160 = .ok (.iload_n 3, 1) := by decide +kernel
theorem dX0_isStrong_161 : decode cX0_isStrong 161 = .ok (.ifCond .eq 7, 3) := by decide +kernel
theorem dX0_isStrong_164 : decode cX0_isStrong 164 = .ok (.iconst 1, 1) := by decide +kernel
theorem dX0_isStrong_165 : decode cX0_isStrong 165 = .ok (.goto 4, 3) := by decide +kernel
theorem dX0_isStrong_168 : decode cX0_isStrong 168 = .ok (.iconst 0, 1) := by decide +kernel
theorem dX0_isStrong_169 : decode cX0_isStrong 169 = .ok (.istore_n 3, 1) := by decide +kernel
theorem dX0_isStrong_170 : decode cX0_isStrong 170 = .ok (.iinc 4 1, 3) := by decide +kernel
theorem dX0_isStrong_173 : decode cX0_isStrong 173 = .ok (.goto (-129), 3) := by decide +kernel
theorem dX0_isStrong_176 : decode cX0_isStrong 176 = .ok (.aload_n 0, 1) := by decide +kernel
theorem dX0_isStrong_177 : decode cX0_isStrong 177 = .ok (.invokevirtual 61, 3) := by decide +kernel
theorem dX0_isStrong_180 : decode cX0_isStrong 180 = .ok (.ifCond .ne 16, 3) := by decide +kernel
theorem dX0_isStrong_183 : decode cX0_isStrong 183 = .ok (.aload_n 0, 1) := by decide +kernel
theorem dX0_isStrong_184 : decode cX0_isStrong 184 = .ok (.iload_n 1, 1) := by decide +kernel
theorem dX0_isStrong_185 : decode cX0_isStrong 185 = .ok (.iload_n 2, 1) := by decide +kernel
theorem dX0_isStrong_186 : decode cX0_isStrong 186 = .ok (.invokevirtual 64, 3) := by decide +kernel
theorem dX0_isStrong_189 : decode cX0_isStrong 189 = .ok (.ifCond .ne 7, 3) := by decide +kernel
theorem dX0_isStrong_192 : decode cX0_isStrong 192 = .ok (.iconst 1, 1) := by decide +kernel
theorem dX0_isStrong_193 : decode cX0_isStrong 193 = .ok (.goto 4, 3) := by decide +kernel
theorem dX0_isStrong_196 : decode cX0_isStrong 196 = .ok (.iconst 0, 1) := by decide +kernel
theorem dX0_isStrong_197 : decode cX0_isStrong 197 = .ok (.ireturn, 1) := by decide +kernel
end
section
set_option maxRecDepth 100000
abbrev cX0_pushBefore : ByteArray := prog_1_method_15_code
def yX0_pushBefore : MethodName := ⟨RX0, "pushBefore", "(II)Z"⟩
theorem dX0_pushBefore_0 : decode cX0_pushBefore 0 = .ok (.aload_n 0, 1) := by decide +kernel
theorem dX0_pushBefore_1 : decode cX0_pushBefore 1 = .ok (.getfield 20, 3) := by decide +kernel
theorem dX0_pushBefore_4 : decode cX0_pushBefore 4 = .ok (.iload_n 1, 1) := by decide +kernel
theorem dX0_pushBefore_5 : decode cX0_pushBefore 5 = .ok (.iaload, 1) := by decide +kernel
theorem dX0_pushBefore_6 : decode cX0_pushBefore 6 = .ok (.istore_n 3, 1) := by decide +kernel
theorem dX0_pushBefore_7 : decode cX0_pushBefore 7 = .ok (.aload_n 0, 1) := by decide +kernel
theorem dX0_pushBefore_8 : decode cX0_pushBefore 8 = .ok (.getfield 26, 3) := by decide +kernel
theorem dX0_pushBefore_11 : decode cX0_pushBefore 11 = .ok (.iload_n 3, 1) := by decide +kernel
theorem dX0_pushBefore_12 : decode cX0_pushBefore 12 = .ok (.iaload, 1) := by decide +kernel
theorem dX0_pushBefore_13 : decode cX0_pushBefore 13 = .ok (.istore 4, 2) := by decide +kernel
theorem dX0_pushBefore_15 : decode cX0_pushBefore 15 = .ok (.iconst 0, 1) := by decide +kernel
theorem dX0_pushBefore_16 : decode cX0_pushBefore 16 = .ok (.istore 5, 2) := by decide +kernel
theorem dX0_pushBefore_18 : decode cX0_pushBefore 18 = .ok (.iload 5, 2) := by decide +kernel
theorem dX0_pushBefore_20 : decode cX0_pushBefore 20 = .ok (.aload_n 0, 1) := by decide +kernel
theorem dX0_pushBefore_21 : decode cX0_pushBefore 21 = .ok (.getfield 29, 3) := by decide +kernel
theorem dX0_pushBefore_24 : decode cX0_pushBefore 24 = .ok (.if_icmp .ge 89, 3) := by decide +kernel
theorem dX0_pushBefore_27 : decode cX0_pushBefore 27 = .ok (.iload 5, 2) := by decide +kernel
theorem dX0_pushBefore_29 : decode cX0_pushBefore 29 = .ok (.iload_n 3, 1) := by decide +kernel
theorem dX0_pushBefore_30 : decode cX0_pushBefore 30 = .ok (.if_icmp .eq 42, 3) := by decide +kernel
theorem dX0_pushBefore_33 : decode cX0_pushBefore 33 = .ok (.aload_n 0, 1) := by decide +kernel
theorem dX0_pushBefore_34 : decode cX0_pushBefore 34 = .ok (.getfield 16, 3) := by decide +kernel
theorem dX0_pushBefore_37 : decode cX0_pushBefore 37 = .ok (.iload 5, 2) := by decide +kernel
theorem dX0_pushBefore_39 : decode cX0_pushBefore 39 = .ok (.baload, 1) := by decide +kernel
theorem dX0_pushBefore_40 : decode cX0_pushBefore 40 = .ok (.ifCond .eq 32, 3) := by decide +kernel
theorem dX0_pushBefore_43 : decode cX0_pushBefore 43 = .ok (.aload_n 0, 1) := by decide +kernel
theorem dX0_pushBefore_44 : decode cX0_pushBefore 44 = .ok (.getfield 13, 3) := by decide +kernel
theorem dX0_pushBefore_47 : decode cX0_pushBefore 47 = .ok (.iload 5, 2) := by decide +kernel
theorem dX0_pushBefore_49 : decode cX0_pushBefore 49 = .ok (.iaload, 1) := by decide +kernel
theorem dX0_pushBefore_50 : decode cX0_pushBefore 50 = .ok (.aload_n 0, 1) := by decide +kernel
theorem dX0_pushBefore_51 : decode cX0_pushBefore 51 = .ok (.getfield 13, 3) := by decide +kernel
theorem dX0_pushBefore_54 : decode cX0_pushBefore 54 = .ok (.iload_n 1, 1) := by decide +kernel
theorem dX0_pushBefore_55 : decode cX0_pushBefore 55 = .ok (.iaload, 1) := by decide +kernel
theorem dX0_pushBefore_56 : decode cX0_pushBefore 56 = .ok (.if_icmp .ne 16, 3) := by decide +kernel
theorem dX0_pushBefore_59 : decode cX0_pushBefore 59 = .ok (.iload_n 2, 1) := by decide +kernel
theorem dX0_pushBefore_60 : decode cX0_pushBefore 60 = .ok (.iload 5, 2) := by decide +kernel
theorem dX0_pushBefore_62 : decode cX0_pushBefore 62 = .ok (.iushr, 1) := by decide +kernel
theorem dX0_pushBefore_63 : decode cX0_pushBefore 63 = .ok (.iconst 1, 1) := by decide +kernel
theorem dX0_pushBefore_64 : decode cX0_pushBefore 64 = .ok (.iand, 1) := by decide +kernel
theorem dX0_pushBefore_65 : decode cX0_pushBefore 65 = .ok (.ifCond .eq 7, 3) := by decide +kernel
theorem dX0_pushBefore_68 : decode cX0_pushBefore 68 = .ok (.iconst 1, 1) := by decide +kernel
theorem dX0_pushBefore_69 : decode cX0_pushBefore 69 = .ok (.goto 4, 3) := by decide +kernel
theorem dX0_pushBefore_72 : decode cX0_pushBefore 72 = .ok (.iconst 0, 1) := by decide +kernel
theorem dX0_pushBefore_73 : decode cX0_pushBefore 73 = .ok (.istore 6, 2) := by decide +kernel
theorem dX0_pushBefore_75 : decode cX0_pushBefore 75 = .ok (.iload 6, 2) := by decide +kernel
theorem dX0_pushBefore_77 : decode cX0_pushBefore 77 = .ok (.ifCond .eq 30, 3) := by decide +kernel
theorem dX0_pushBefore_80 : decode cX0_pushBefore 80 = .ok (.aload_n 0, 1) := by decide +kernel
theorem dX0_pushBefore_81 : decode cX0_pushBefore 81 = .ok (.getfield 26, 3) := by decide +kernel
theorem dX0_pushBefore_84 : decode cX0_pushBefore 84 = .ok (.iload_n 1, 1) := by decide +kernel
theorem dX0_pushBefore_85 : decode cX0_pushBefore 85 = .ok (.iaload, 1) := by decide +kernel
theorem dX0_pushBefore_86 : decode cX0_pushBefore 86 = .ok (.iload 5, 2) := by decide +kernel
theorem dX0_pushBefore_88 : decode cX0_pushBefore 88 = .ok (.iushr, 1) := by decide +kernel
theorem dX0_pushBefore_89 : decode cX0_pushBefore 89 = .ok (.iconst 1, 1) := by decide +kernel
theorem dX0_pushBefore_90 : decode cX0_pushBefore 90 = .ok (.iand, 1) := by decide +kernel
theorem dX0_pushBefore_91 : decode cX0_pushBefore 91 = .ok (.ifCond .eq 16, 3) := by decide +kernel
theorem dX0_pushBefore_94 : decode cX0_pushBefore 94 = .ok (.aload_n 0, 1) := by decide +kernel
theorem dX0_pushBefore_95 : decode cX0_pushBefore 95 = .ok (.getfield 26, 3) := by decide +kernel
theorem dX0_pushBefore_98 : decode cX0_pushBefore 98 = .ok (.iload_n 3, 1) := by decide +kernel
theorem dX0_pushBefore_99 : decode cX0_pushBefore 99 = .ok (.dup2, 1) := by decide +kernel
theorem dX0_pushBefore_100 : decode cX0_pushBefore 100 = .ok (.iaload, 1) := by decide +kernel
theorem dX0_pushBefore_101 : decode cX0_pushBefore 101 = .ok (.iconst 1, 1) := by decide +kernel
theorem dX0_pushBefore_102 : decode cX0_pushBefore 102 = .ok (.iload 5, 2) := by decide +kernel
theorem dX0_pushBefore_104 : decode cX0_pushBefore 104 = .ok (.ishl, 1) := by decide +kernel
theorem dX0_pushBefore_105 : decode cX0_pushBefore 105 = .ok (.ior, 1) := by decide +kernel
theorem dX0_pushBefore_106 : decode cX0_pushBefore 106 = .ok (.iastore, 1) := by decide +kernel
theorem dX0_pushBefore_107 : decode cX0_pushBefore 107 = .ok (.iinc 5 1, 3) := by decide +kernel
theorem dX0_pushBefore_110 : decode cX0_pushBefore 110 = .ok (.goto (-92), 3) := by decide +kernel
theorem dX0_pushBefore_113 : decode cX0_pushBefore 113 = .ok (.aload_n 0, 1) := by decide +kernel
theorem dX0_pushBefore_114 : decode cX0_pushBefore 114 = .ok (.getfield 26, 3) := by decide +kernel
theorem dX0_pushBefore_117 : decode cX0_pushBefore 117 = .ok (.iload_n 3, 1) := by decide +kernel
theorem dX0_pushBefore_118 : decode cX0_pushBefore 118 = .ok (.iaload, 1) := by decide +kernel
theorem dX0_pushBefore_119 : decode cX0_pushBefore 119 = .ok (.iload 4, 2) := by decide +kernel
theorem dX0_pushBefore_121 : decode cX0_pushBefore 121 = .ok (.if_icmp .eq 7, 3) := by decide +kernel
theorem dX0_pushBefore_124 : decode cX0_pushBefore 124 = .ok (.iconst 1, 1) := by decide +kernel
theorem dX0_pushBefore_125 : decode cX0_pushBefore 125 = .ok (.goto 4, 3) := by decide +kernel
theorem dX0_pushBefore_128 : decode cX0_pushBefore 128 = .ok (.iconst 0, 1) := by decide +kernel
theorem dX0_pushBefore_129 : decode cX0_pushBefore 129 = .ok (.ireturn, 1) := by decide +kernel
abbrev cX0_close : ByteArray := prog_1_method_16_code
def yX0_close : MethodName := ⟨RX0, "close", "(I)Z"⟩
theorem dX0_close_0 : decode cX0_close 0 = .ok (.iconst 0, 1) := by decide +kernel
theorem dX0_close_1 : decode cX0_close 1 = .ok (.istore_n 2, 1) := by decide +kernel
theorem dX0_close_2 : decode cX0_close 2 = .ok (.iconst 0, 1) := by decide +kernel
theorem dX0_close_3 : decode cX0_close 3 = .ok (.istore_n 3, 1) := by decide +kernel
theorem dX0_close_4 : decode cX0_close 4 = .ok (.iload_n 3, 1) := by decide +kernel
theorem dX0_close_5 : decode cX0_close 5 = .ok (.aload_n 0, 1) := by decide +kernel
theorem dX0_close_6 : decode cX0_close 6 = .ok (.getfield 29, 3) := by decide +kernel
theorem dX0_close_9 : decode cX0_close 9 = .ok (.if_icmp .ge 86, 3) := by decide +kernel
theorem dX0_close_12 : decode cX0_close 12 = .ok (.iconst 0, 1) := by decide +kernel
theorem dX0_close_13 : decode cX0_close 13 = .ok (.istore 4, 2) := by decide +kernel
theorem dX0_close_15 : decode cX0_close 15 = .ok (.iload 4, 2) := by decide +kernel
theorem dX0_close_17 : decode cX0_close 17 = .ok (.aload_n 0, 1) := by decide +kernel
theorem dX0_close_18 : decode cX0_close 18 = .ok (.getfield 29, 3) := by decide +kernel
theorem dX0_close_21 : decode cX0_close 21 = .ok (.if_icmp .ge 68, 3) := by decide +kernel
theorem dX0_close_24 : decode cX0_close 24 = .ok (.iload_n 1, 1) := by decide +kernel
theorem dX0_close_25 : decode cX0_close 25 = .ok (.iload_n 3, 1) := by decide +kernel
theorem dX0_close_26 : decode cX0_close 26 = .ok (.iushr, 1) := by decide +kernel
theorem dX0_close_27 : decode cX0_close 27 = .ok (.iconst 1, 1) := by decide +kernel
theorem dX0_close_28 : decode cX0_close 28 = .ok (.iand, 1) := by decide +kernel
theorem dX0_close_29 : decode cX0_close 29 = .ok (.ifCond .eq 54, 3) := by decide +kernel
theorem dX0_close_32 : decode cX0_close 32 = .ok (.aload_n 0, 1) := by decide +kernel
theorem dX0_close_33 : decode cX0_close 33 = .ok (.getfield 26, 3) := by decide +kernel
theorem dX0_close_36 : decode cX0_close 36 = .ok (.iload_n 3, 1) := by decide +kernel
theorem dX0_close_37 : decode cX0_close 37 = .ok (.iaload, 1) := by decide +kernel
theorem dX0_close_38 : decode cX0_close 38 = .ok (.iload 4, 2) := by decide +kernel
theorem dX0_close_40 : decode cX0_close 40 = .ok (.iushr, 1) := by decide +kernel
theorem dX0_close_41 : decode cX0_close 41 = .ok (.iconst 1, 1) := by decide +kernel
theorem dX0_close_42 : decode cX0_close 42 = .ok (.iand, 1) := by decide +kernel
theorem dX0_close_43 : decode cX0_close 43 = .ok (.ifCond .eq 40, 3) := by decide +kernel
theorem dX0_close_46 : decode cX0_close 46 = .ok (.aload_n 0, 1) := by decide +kernel
theorem dX0_close_47 : decode cX0_close 47 = .ok (.getfield 26, 3) := by decide +kernel
theorem dX0_close_50 : decode cX0_close 50 = .ok (.iload 4, 2) := by decide +kernel
theorem dX0_close_52 : decode cX0_close 52 = .ok (.iaload, 1) := by decide +kernel
theorem dX0_close_53 : decode cX0_close 53 = .ok (.aload_n 0, 1) := by decide +kernel
theorem dX0_close_54 : decode cX0_close 54 = .ok (.getfield 26, 3) := by decide +kernel
theorem dX0_close_57 : decode cX0_close 57 = .ok (.iload_n 3, 1) := by decide +kernel
theorem dX0_close_58 : decode cX0_close 58 = .ok (.iaload, 1) := by decide +kernel
theorem dX0_close_59 : decode cX0_close 59 = .ok (.iconst (-1), 1) := by decide +kernel
theorem dX0_close_60 : decode cX0_close 60 = .ok (.ixor, 1) := by decide +kernel
theorem dX0_close_61 : decode cX0_close 61 = .ok (.iand, 1) := by decide +kernel
theorem dX0_close_62 : decode cX0_close 62 = .ok (.ifCond .eq 21, 3) := by decide +kernel
theorem dX0_close_65 : decode cX0_close 65 = .ok (.aload_n 0, 1) := by decide +kernel
theorem dX0_close_66 : decode cX0_close 66 = .ok (.getfield 26, 3) := by decide +kernel
theorem dX0_close_69 : decode cX0_close 69 = .ok (.iload_n 3, 1) := by decide +kernel
theorem dX0_close_70 : decode cX0_close 70 = .ok (.dup2, 1) := by decide +kernel
theorem dX0_close_71 : decode cX0_close 71 = .ok (.iaload, 1) := by decide +kernel
theorem dX0_close_72 : decode cX0_close 72 = .ok (.aload_n 0, 1) := by decide +kernel
theorem dX0_close_73 : decode cX0_close 73 = .ok (.getfield 26, 3) := by decide +kernel
theorem dX0_close_76 : decode cX0_close 76 = .ok (.iload 4, 2) := by decide +kernel
theorem dX0_close_78 : decode cX0_close 78 = .ok (.iaload, 1) := by decide +kernel
theorem dX0_close_79 : decode cX0_close 79 = .ok (.ior, 1) := by decide +kernel
theorem dX0_close_80 : decode cX0_close 80 = .ok (.iastore, 1) := by decide +kernel
theorem dX0_close_81 : decode cX0_close 81 = .ok (.iconst 1, 1) := by decide +kernel
theorem dX0_close_82 : decode cX0_close 82 = .ok (.istore_n 2, 1) := by decide +kernel
theorem dX0_close_83 : decode cX0_close 83 = .ok (.iinc 4 1, 3) := by decide +kernel
theorem dX0_close_86 : decode cX0_close 86 = .ok (.goto (-71), 3) := by decide +kernel
theorem dX0_close_89 : decode cX0_close 89 = .ok (.iinc 3 1, 3) := by decide +kernel
theorem dX0_close_92 : decode cX0_close 92 = .ok (.goto (-88), 3) := by decide +kernel
theorem dX0_close_95 : decode cX0_close 95 = .ok (.iload_n 2, 1) := by decide +kernel
theorem dX0_close_96 : decode cX0_close 96 = .ok (.ireturn, 1) := by decide +kernel
abbrev cX0_hasRing : ByteArray := prog_1_method_17_code
def yX0_hasRing : MethodName := ⟨RX0, "hasRing", "()Z"⟩
theorem dX0_hasRing_0 : decode cX0_hasRing 0 = .ok (.iconst 0, 1) := by decide +kernel
theorem dX0_hasRing_1 : decode cX0_hasRing 1 = .ok (.istore_n 1, 1) := by decide +kernel
theorem dX0_hasRing_2 : decode cX0_hasRing 2 = .ok (.iload_n 1, 1) := by decide +kernel
theorem dX0_hasRing_3 : decode cX0_hasRing 3 = .ok (.aload_n 0, 1) := by decide +kernel
theorem dX0_hasRing_4 : decode cX0_hasRing 4 = .ok (.getfield 29, 3) := by decide +kernel
theorem dX0_hasRing_7 : decode cX0_hasRing 7 = .ok (.if_icmp .ge 24, 3) := by decide +kernel
theorem dX0_hasRing_10 : decode cX0_hasRing 10 = .ok (.aload_n 0, 1) := by decide +kernel
theorem dX0_hasRing_11 : decode cX0_hasRing 11 = .ok (.getfield 26, 3) := by decide +kernel
theorem dX0_hasRing_14 : decode cX0_hasRing 14 = .ok (.iload_n 1, 1) := by decide +kernel
theorem dX0_hasRing_15 : decode cX0_hasRing 15 = .ok (.iaload, 1) := by decide +kernel
theorem dX0_hasRing_16 : decode cX0_hasRing 16 = .ok (.iload_n 1, 1) := by decide +kernel
theorem dX0_hasRing_17 : decode cX0_hasRing 17 = .ok (.iushr, 1) := by decide +kernel
theorem dX0_hasRing_18 : decode cX0_hasRing 18 = .ok (.iconst 1, 1) := by decide +kernel
theorem dX0_hasRing_19 : decode cX0_hasRing 19 = .ok (.iand, 1) := by decide +kernel
theorem dX0_hasRing_20 : decode cX0_hasRing 20 = .ok (.ifCond .eq 5, 3) := by decide +kernel
theorem dX0_hasRing_23 : decode cX0_hasRing 23 = .ok (.iconst 1, 1) := by decide +kernel
theorem dX0_hasRing_24 : decode cX0_hasRing 24 = .ok (.ireturn, 1) := by decide +kernel
theorem dX0_hasRing_25 : decode cX0_hasRing 25 = .ok (.iinc 1 1, 3) := by decide +kernel
theorem dX0_hasRing_28 : decode cX0_hasRing 28 = .ok (.goto (-26), 3) := by decide +kernel
theorem dX0_hasRing_31 : decode cX0_hasRing 31 = .ok (.iconst 0, 1) := by decide +kernel
theorem dX0_hasRing_32 : decode cX0_hasRing 32 = .ok (.ireturn, 1) := by decide +kernel
abbrev cX0_comesTooLate : ByteArray := prog_1_method_18_code
def yX0_comesTooLate : MethodName := ⟨RX0, "comesTooLate", "(II)Z"⟩
theorem dX0_comesTooLate_0 : decode cX0_comesTooLate 0 = .ok (.iconst 0, 1) := by decide +kernel
theorem dX0_comesTooLate_1 : decode cX0_comesTooLate 1 = .ok (.istore_n 3, 1) := by decide +kernel
theorem dX0_comesTooLate_2 : decode cX0_comesTooLate 2 = .ok (.iload_n 3, 1) := by decide +kernel
theorem dX0_comesTooLate_3 : decode cX0_comesTooLate 3 = .ok (.aload_n 0, 1) := by decide +kernel
theorem dX0_comesTooLate_4 : decode cX0_comesTooLate 4 = .ok (.getfield 29, 3) := by decide +kernel
theorem dX0_comesTooLate_7 : decode cX0_comesTooLate 7 = .ok (.if_icmp .ge 134, 3) := by decide +kernel
theorem dX0_comesTooLate_10 : decode cX0_comesTooLate 10 = .ok (.iload_n 2, 1) := by decide +kernel
theorem dX0_comesTooLate_11 : decode cX0_comesTooLate 11 = .ok (.iload_n 3, 1) := by decide +kernel
theorem dX0_comesTooLate_12 : decode cX0_comesTooLate 12 = .ok (.iushr, 1) := by decide +kernel
theorem dX0_comesTooLate_13 : decode cX0_comesTooLate 13 = .ok (.iconst 1, 1) := by decide +kernel
theorem dX0_comesTooLate_14 : decode cX0_comesTooLate 14 = .ok (.iand, 1) := by decide +kernel
theorem dX0_comesTooLate_15 : decode cX0_comesTooLate 15 = .ok (.ifCond .eq 40, 3) := by decide +kernel
theorem dX0_comesTooLate_18 : decode cX0_comesTooLate 18 = .ok (.aload_n 0, 1) := by decide +kernel
theorem dX0_comesTooLate_19 : decode cX0_comesTooLate 19 = .ok (.getfield 16, 3) := by decide +kernel
theorem dX0_comesTooLate_22 : decode cX0_comesTooLate 22 = .ok (.iload_n 3, 1) := by decide +kernel
theorem dX0_comesTooLate_23 : decode cX0_comesTooLate 23 = .ok (.baload, 1) := by decide +kernel
theorem dX0_comesTooLate_24 : decode cX0_comesTooLate 24 = .ok (.ifCond .ne 31, 3) := by decide +kernel
theorem dX0_comesTooLate_27 : decode cX0_comesTooLate 27 = .ok (.aload_n 0, 1) := by decide +kernel
theorem dX0_comesTooLate_28 : decode cX0_comesTooLate 28 = .ok (.getfield 7, 3) := by decide +kernel
theorem dX0_comesTooLate_31 : decode cX0_comesTooLate 31 = .ok (.iload_n 3, 1) := by decide +kernel
theorem dX0_comesTooLate_32 : decode cX0_comesTooLate 32 = .ok (.iaload, 1) := by decide +kernel
theorem dX0_comesTooLate_33 : decode cX0_comesTooLate 33 = .ok (.aload_n 0, 1) := by decide +kernel
theorem dX0_comesTooLate_34 : decode cX0_comesTooLate 34 = .ok (.getfield 7, 3) := by decide +kernel
theorem dX0_comesTooLate_37 : decode cX0_comesTooLate 37 = .ok (.iload_n 1, 1) := by decide +kernel
theorem dX0_comesTooLate_38 : decode cX0_comesTooLate 38 = .ok (.iaload, 1) := by decide +kernel
theorem dX0_comesTooLate_39 : decode cX0_comesTooLate 39 = .ok (.if_icmp .ne 16, 3) := by decide +kernel
theorem dX0_comesTooLate_42 : decode cX0_comesTooLate 42 = .ok (.aload_n 0, 1) := by decide +kernel
theorem dX0_comesTooLate_43 : decode cX0_comesTooLate 43 = .ok (.getfield 20, 3) := by decide +kernel
theorem dX0_comesTooLate_46 : decode cX0_comesTooLate 46 = .ok (.iload_n 3, 1) := by decide +kernel
theorem dX0_comesTooLate_47 : decode cX0_comesTooLate 47 = .ok (.iaload, 1) := by decide +kernel
theorem dX0_comesTooLate_48 : decode cX0_comesTooLate 48 = .ok (.ifCond .ge 7, 3) := by decide +kernel
theorem dX0_comesTooLate_51 : decode cX0_comesTooLate 51 = .ok (.iconst 1, 1) := by decide +kernel
theorem dX0_comesTooLate_52 : decode cX0_comesTooLate 52 = .ok (.goto 4, 3) := by decide +kernel
theorem dX0_comesTooLate_55 : decode cX0_comesTooLate 55 = .ok (.iconst 0, 1) := by decide +kernel
theorem dX0_comesTooLate_56 : decode cX0_comesTooLate 56 = .ok (.istore 4, 2) := by decide +kernel
theorem dX0_comesTooLate_58 : decode cX0_comesTooLate 58 = .ok (.iconst 0, 1) := by decide +kernel
theorem dX0_comesTooLate_59 : decode cX0_comesTooLate 59 = .ok (.istore 5, 2) := by decide +kernel
theorem dX0_comesTooLate_61 : decode cX0_comesTooLate 61 = .ok (.iload 5, 2) := by decide +kernel
theorem dX0_comesTooLate_63 : decode cX0_comesTooLate 63 = .ok (.aload_n 0, 1) := by decide +kernel
theorem dX0_comesTooLate_64 : decode cX0_comesTooLate 64 = .ok (.getfield 29, 3) := by decide +kernel
theorem dX0_comesTooLate_67 : decode cX0_comesTooLate 67 = .ok (.if_icmp .ge 68, 3) := by decide +kernel
theorem dX0_comesTooLate_70 : decode cX0_comesTooLate 70 = .ok (.aload_n 0, 1) := by decide +kernel
theorem dX0_comesTooLate_71 : decode cX0_comesTooLate 71 = .ok (.getfield 16, 3) := by decide +kernel
theorem dX0_comesTooLate_74 : decode cX0_comesTooLate 74 = .ok (.iload 5, 2) := by decide +kernel
theorem dX0_comesTooLate_76 : decode cX0_comesTooLate 76 = .ok (.baload, 1) := by decide +kernel
theorem dX0_comesTooLate_77 : decode cX0_comesTooLate 77 = .ok (.ifCond .eq 37, 3) := by decide +kernel
theorem dX0_comesTooLate_80 : decode cX0_comesTooLate 80 = .ok (.aload_n 0, 1) := by decide +kernel
theorem dX0_comesTooLate_81 : decode cX0_comesTooLate 81 = .ok (.getfield 13, 3) := by decide +kernel
theorem dX0_comesTooLate_84 : decode cX0_comesTooLate 84 = .ok (.iload 5, 2) := by decide +kernel
theorem dX0_comesTooLate_86 : decode cX0_comesTooLate 86 = .ok (.iaload, 1) := by decide +kernel
theorem dX0_comesTooLate_87 : decode cX0_comesTooLate 87 = .ok (.aload_n 0, 1) := by decide +kernel
theorem dX0_comesTooLate_88 : decode cX0_comesTooLate 88 = .ok (.getfield 13, 3) := by decide +kernel
theorem dX0_comesTooLate_91 : decode cX0_comesTooLate 91 = .ok (.iload_n 3, 1) := by decide +kernel
theorem dX0_comesTooLate_92 : decode cX0_comesTooLate 92 = .ok (.iaload, 1) := by decide +kernel
theorem dX0_comesTooLate_93 : decode cX0_comesTooLate 93 = .ok (.if_icmp .ne 21, 3) := by decide +kernel
theorem dX0_comesTooLate_96 : decode cX0_comesTooLate 96 = .ok (.aload_n 0, 1) := by decide +kernel
theorem dX0_comesTooLate_97 : decode cX0_comesTooLate 97 = .ok (.getfield 26, 3) := by decide +kernel
theorem dX0_comesTooLate_100 : decode cX0_comesTooLate 100 = .ok (.iload_n 3, 1) := by decide +kernel
theorem dX0_comesTooLate_101 : decode cX0_comesTooLate 101 = .ok (.iaload, 1) := by decide +kernel
theorem dX0_comesTooLate_102 : decode cX0_comesTooLate 102 = .ok (.iload 5, 2) := by decide +kernel
theorem dX0_comesTooLate_104 : decode cX0_comesTooLate 104 = .ok (.iushr, 1) := by decide +kernel
theorem dX0_comesTooLate_105 : decode cX0_comesTooLate 105 = .ok (.iconst 1, 1) := by decide +kernel
theorem dX0_comesTooLate_106 : decode cX0_comesTooLate 106 = .ok (.iand, 1) := by decide +kernel
theorem dX0_comesTooLate_107 : decode cX0_comesTooLate 107 = .ok (.ifCond .eq 7, 3) := by decide +kernel
theorem dX0_comesTooLate_110 : decode cX0_comesTooLate 110 = .ok (.iconst 1, 1) := by decide +kernel
theorem dX0_comesTooLate_111 : decode cX0_comesTooLate 111 = .ok (.goto 4, 3) := by decide +kernel
theorem dX0_comesTooLate_114 : decode cX0_comesTooLate 114 = .ok (.iconst 0, 1) := by decide +kernel
theorem dX0_comesTooLate_115 : decode cX0_comesTooLate 115 = .ok (.istore 6, 2) := by decide +kernel
theorem dX0_comesTooLate_117 : decode cX0_comesTooLate 117 = .ok (.iload 4, 2) := by decide +kernel
theorem dX0_comesTooLate_119 : decode cX0_comesTooLate 119 = .ok (.ifCond .eq 10, 3) := by decide +kernel
theorem dX0_comesTooLate_122 : decode cX0_comesTooLate 122 = .ok (.iload 6, 2) := by decide +kernel
theorem dX0_comesTooLate_124 : decode cX0_comesTooLate 124 = .ok (.ifCond .eq 5, 3) := by decide +kernel
theorem dX0_comesTooLate_127 : decode cX0_comesTooLate 127 = .ok (.iconst 1, 1) := by decide +kernel
theorem dX0_comesTooLate_128 : decode cX0_comesTooLate 128 = .ok (.ireturn, 1) := by decide +kernel
theorem dX0_comesTooLate_129 : decode cX0_comesTooLate 129 = .ok (.iinc 5 1, 3) := by decide +kernel
theorem dX0_comesTooLate_132 : decode cX0_comesTooLate 132 = .ok (.goto (-71), 3) := by decide +kernel
theorem dX0_comesTooLate_135 : decode cX0_comesTooLate 135 = .ok (.iinc 3 1, 3) := by decide +kernel
theorem dX0_comesTooLate_138 : decode cX0_comesTooLate 138 = .ok (.goto (-136), 3) := by decide +kernel
theorem dX0_comesTooLate_141 : decode cX0_comesTooLate 141 = .ok (.iconst 0, 1) := by decide +kernel
theorem dX0_comesTooLate_142 : decode cX0_comesTooLate 142 = .ok (.ireturn, 1) := by decide +kernel
abbrev cX0_sound : ByteArray := prog_1_method_8_code
def yX0_sound : MethodName := ⟨RX0, "sound", "()I"⟩
theorem dX0_sound_0 : decode cX0_sound 0 = .ok (.iconst 1, 1) := by decide +kernel
theorem dX0_sound_1 : decode cX0_sound 1 = .ok (.istore_n 1, 1) := by decide +kernel
theorem dX0_sound_2 : decode cX0_sound 2 = .ok (.iconst 2, 1) := by decide +kernel
theorem dX0_sound_3 : decode cX0_sound 3 = .ok (.istore_n 2, 1) := by decide +kernel
theorem dX0_sound_4 : decode cX0_sound 4 = .ok (.iconst 0, 1) := by decide +kernel
theorem dX0_sound_5 : decode cX0_sound 5 = .ok (.istore_n 3, 1) := by decide +kernel
theorem dX0_sound_6 : decode cX0_sound 6 = .ok (.iload_n 3, 1) := by decide +kernel
theorem dX0_sound_7 : decode cX0_sound 7 = .ok (.aload_n 0, 1) := by decide +kernel
theorem dX0_sound_8 : decode cX0_sound 8 = .ok (.getfield 29, 3) := by decide +kernel
theorem dX0_sound_11 : decode cX0_sound 11 = .ok (.if_icmp .ge 37, 3) := by decide +kernel
theorem dX0_sound_14 : decode cX0_sound 14 = .ok (.aload_n 0, 1) := by decide +kernel
theorem dX0_sound_15 : decode cX0_sound 15 = .ok (.iload_n 3, 1) := by decide +kernel
theorem dX0_sound_16 : decode cX0_sound 16 = .ok (.invokevirtual 45, 3) := by decide +kernel
theorem dX0_sound_19 : decode cX0_sound 19 = .ok (.ifCond .eq 7, 3) := by decide +kernel
theorem dX0_sound_22 : decode cX0_sound 22 = .ok (.iload_n 1, 1) := by decide +kernel
theorem dX0_sound_23 : decode cX0_sound 23 = .ok (.goto 4, 3) := by decide +kernel
theorem dX0_sound_26 : decode cX0_sound 26 = .ok (.iconst 0, 1) := by decide +kernel
theorem dX0_sound_27 : decode cX0_sound 27 = .ok (.istore_n 1, 1) := by decide +kernel
theorem dX0_sound_28 : decode cX0_sound 28 = .ok (.aload_n 0, 1) := by decide +kernel
theorem dX0_sound_29 : decode cX0_sound 29 = .ok (.iload_n 3, 1) := by decide +kernel
theorem dX0_sound_30 : decode cX0_sound 30 = .ok (.invokevirtual 48, 3) := by decide +kernel
theorem dX0_sound_33 : decode cX0_sound 33 = .ok (.ifCond .eq 7, 3) := by decide +kernel
theorem dX0_sound_36 : decode cX0_sound 36 = .ok (.iload_n 2, 1) := by decide +kernel
theorem dX0_sound_37 : decode cX0_sound 37 = .ok (.goto 4, 3) := by decide +kernel
theorem dX0_sound_40 : decode cX0_sound 40 = .ok (.iconst 0, 1) := by decide +kernel
theorem dX0_sound_41 : decode cX0_sound 41 = .ok (.istore_n 2, 1) := by decide +kernel
theorem dX0_sound_42 : decode cX0_sound 42 = .ok (.iinc 3 1, 3) := by decide +kernel
theorem dX0_sound_45 : decode cX0_sound 45 = .ok (.goto (-39), 3) := by decide +kernel
theorem dX0_sound_48 : decode cX0_sound 48 = .ok (.iload_n 1, 1) := by decide +kernel
theorem dX0_sound_49 : decode cX0_sound 49 = .ok (.iload_n 2, 1) := by decide +kernel
theorem dX0_sound_50 : decode cX0_sound 50 = .ok (.iadd, 1) := by decide +kernel
theorem dX0_sound_51 : decode cX0_sound 51 = .ok (.aload_n 0, 1) := by decide +kernel
theorem dX0_sound_52 : decode cX0_sound 52 = .ok (.invokevirtual 51, 3) := by decide +kernel
theorem dX0_sound_55 : decode cX0_sound 55 = .ok (.ifCond .eq 7, 3) := by decide +kernel
theorem dX0_sound_58 : decode cX0_sound 58 = .ok (.iconst 4, 1) := by decide +kernel
theorem dX0_sound_59 : decode cX0_sound 59 = .ok (.goto 4, 3) := by decide +kernel
theorem dX0_sound_62 : decode cX0_sound 62 = .ok (.iconst 0, 1) := by decide +kernel
theorem dX0_sound_63 : decode cX0_sound 63 = .ok (.iadd, 1) := by decide +kernel
theorem dX0_sound_64 : decode cX0_sound 64 = .ok (.ireturn, 1) := by decide +kernel
abbrev cX0_converges : ByteArray := prog_1_method_19_code
def yX0_converges : MethodName := ⟨RX0, "converges", "()Z"⟩
theorem dX0_converges_0 : decode cX0_converges 0 = .ok (.iconst 0, 1) := by decide +kernel
theorem dX0_converges_1 : decode cX0_converges 1 = .ok (.istore_n 1, 1) := by decide +kernel
theorem dX0_converges_2 : decode cX0_converges 2 = .ok (.iload_n 1, 1) := by decide +kernel
theorem dX0_converges_3 : decode cX0_converges 3 = .ok (.aload_n 0, 1) := by decide +kernel
theorem dX0_converges_4 : decode cX0_converges 4 = .ok (.getfield 29, 3) := by decide +kernel
theorem dX0_converges_7 : decode cX0_converges 7 = .ok (.if_icmp .ge 21, 3) := by decide +kernel
theorem dX0_converges_10 : decode cX0_converges 10 = .ok (.aload_n 0, 1) := by decide +kernel
theorem dX0_converges_11 : decode cX0_converges 11 = .ok (.getfield 26, 3) := by decide +kernel
theorem dX0_converges_14 : decode cX0_converges 14 = .ok (.iload_n 1, 1) := by decide +kernel
theorem dX0_converges_15 : decode cX0_converges 15 = .ok (.aload_n 0, 1) := by decide +kernel
theorem dX0_converges_16 : decode cX0_converges 16 = .ok (.getfield 23, 3) := by decide +kernel
theorem dX0_converges_19 : decode cX0_converges 19 = .ok (.iload_n 1, 1) := by decide +kernel
theorem dX0_converges_20 : decode cX0_converges 20 = .ok (.iaload, 1) := by decide +kernel
theorem dX0_converges_21 : decode cX0_converges 21 = .ok (.iastore, 1) := by decide +kernel
theorem dX0_converges_22 : decode cX0_converges 22 = .ok (.iinc 1 1, 3) := by decide +kernel
theorem dX0_converges_25 : decode cX0_converges 25 = .ok (.goto (-23), 3) := by decide +kernel
theorem dX0_converges_28 : decode cX0_converges 28 = .ok (.iconst 0, 1) := by decide +kernel
theorem dX0_converges_29 : decode cX0_converges 29 = .ok (.istore_n 1, 1) := by decide +kernel
theorem dX0_converges_30 : decode cX0_converges 30 = .ok (.iload_n 1, 1) := by decide +kernel
theorem dX0_converges_31 : decode cX0_converges 31 = .ok (.aload_n 0, 1) := by decide +kernel
theorem dX0_converges_32 : decode cX0_converges 32 = .ok (.getfield 29, 3) := by decide +kernel
theorem dX0_converges_35 : decode cX0_converges 35 = .ok (.if_icmp .ge 123, 3) := by decide +kernel
theorem dX0_converges_38 : decode cX0_converges 38 = .ok (.iconst 0, 1) := by decide +kernel
theorem dX0_converges_39 : decode cX0_converges 39 = .ok (.istore_n 2, 1) := by decide +kernel
theorem dX0_converges_40 : decode cX0_converges 40 = .ok (.iload_n 2, 1) := by decide +kernel
theorem dX0_converges_41 : decode cX0_converges 41 = .ok (.aload_n 0, 1) := by decide +kernel
theorem dX0_converges_42 : decode cX0_converges 42 = .ok (.getfield 29, 3) := by decide +kernel
theorem dX0_converges_45 : decode cX0_converges 45 = .ok (.if_icmp .ge 107, 3) := by decide +kernel
theorem dX0_converges_48 : decode cX0_converges 48 = .ok (.aload_n 0, 1) := by decide +kernel
theorem dX0_converges_49 : decode cX0_converges 49 = .ok (.getfield 16, 3) := by decide +kernel
theorem dX0_converges_52 : decode cX0_converges 52 = .ok (.iload_n 1, 1) := by decide +kernel
theorem dX0_converges_53 : decode cX0_converges 53 = .ok (.baload, 1) := by decide +kernel
theorem dX0_converges_54 : decode cX0_converges 54 = .ok (.ifCond .ne 44, 3) := by decide +kernel
theorem dX0_converges_57 : decode cX0_converges 57 = .ok (.aload_n 0, 1) := by decide +kernel
theorem dX0_converges_58 : decode cX0_converges 58 = .ok (.getfield 16, 3) := by decide +kernel
theorem dX0_converges_61 : decode cX0_converges 61 = .ok (.iload_n 2, 1) := by decide +kernel
theorem dX0_converges_62 : decode cX0_converges 62 = .ok (.baload, 1) := by decide +kernel
theorem dX0_converges_63 : decode cX0_converges 63 = .ok (.ifCond .eq 35, 3) := by decide +kernel
theorem dX0_converges_66 : decode cX0_converges 66 = .ok (.aload_n 0, 1) := by decide +kernel
theorem dX0_converges_67 : decode cX0_converges 67 = .ok (.getfield 13, 3) := by decide +kernel
theorem dX0_converges_70 : decode cX0_converges 70 = .ok (.iload_n 2, 1) := by decide +kernel
theorem dX0_converges_71 : decode cX0_converges 71 = .ok (.iaload, 1) := by decide +kernel
theorem dX0_converges_72 : decode cX0_converges 72 = .ok (.aload_n 0, 1) := by decide +kernel
theorem dX0_converges_73 : decode cX0_converges 73 = .ok (.getfield 13, 3) := by decide +kernel
theorem dX0_converges_76 : decode cX0_converges 76 = .ok (.iload_n 1, 1) := by decide +kernel
theorem dX0_converges_77 : decode cX0_converges 77 = .ok (.iaload, 1) := by decide +kernel
theorem dX0_converges_78 : decode cX0_converges 78 = .ok (.if_icmp .ne 20, 3) := by decide +kernel
theorem dX0_converges_81 : decode cX0_converges 81 = .ok (.aload_n 0, 1) := by decide +kernel
theorem dX0_converges_82 : decode cX0_converges 82 = .ok (.getfield 23, 3) := by decide +kernel
theorem dX0_converges_85 : decode cX0_converges 85 = .ok (.iload_n 1, 1) := by decide +kernel
theorem dX0_converges_86 : decode cX0_converges 86 = .ok (.iaload, 1) := by decide +kernel
theorem dX0_converges_87 : decode cX0_converges 87 = .ok (.iload_n 2, 1) := by decide +kernel
theorem dX0_converges_88 : decode cX0_converges 88 = .ok (.iushr, 1) := by decide +kernel
theorem dX0_converges_89 : decode cX0_converges 89 = .ok (.iconst 1, 1) := by decide +kernel
theorem dX0_converges_90 : decode cX0_converges 90 = .ok (.iand, 1) := by decide +kernel
theorem dX0_converges_91 : decode cX0_converges 91 = .ok (.ifCond .eq 7, 3) := by decide +kernel
theorem dX0_converges_94 : decode cX0_converges 94 = .ok (.iconst 1, 1) := by decide +kernel
theorem dX0_converges_95 : decode cX0_converges 95 = .ok (.goto 4, 3) := by decide +kernel
theorem dX0_converges_98 : decode cX0_converges 98 = .ok (.iconst 0, 1) := by decide +kernel
theorem dX0_converges_99 : decode cX0_converges 99 = .ok (.istore_n 3, 1) := by decide +kernel
theorem dX0_converges_100 : decode cX0_converges 100 = .ok (.iload_n 3, 1) := by decide +kernel
theorem dX0_converges_101 : decode cX0_converges 101 = .ok (.ifCond .eq 14, 3) := by decide +kernel
theorem dX0_converges_104 : decode cX0_converges 104 = .ok (.aload_n 0, 1) := by decide +kernel
theorem dX0_converges_105 : decode cX0_converges 105 = .ok (.getfield 20, 3) := by decide +kernel
theorem dX0_converges_108 : decode cX0_converges 108 = .ok (.iload_n 1, 1) := by decide +kernel
theorem dX0_converges_109 : decode cX0_converges 109 = .ok (.iaload, 1) := by decide +kernel
theorem dX0_converges_110 : decode cX0_converges 110 = .ok (.ifCond .ge 5, 3) := by decide +kernel
theorem dX0_converges_113 : decode cX0_converges 113 = .ok (.iconst 0, 1) := by decide +kernel
theorem dX0_converges_114 : decode cX0_converges 114 = .ok (.ireturn, 1) := by decide +kernel
theorem dX0_converges_115 : decode cX0_converges 115 = .ok (.iload_n 3, 1) := by decide +kernel
theorem dX0_converges_116 : decode cX0_converges 116 = .ok (.ifCond .eq 30, 3) := by decide +kernel
theorem dX0_converges_119 : decode cX0_converges 119 = .ok (.iload_n 2, 1) := by decide +kernel
theorem dX0_converges_120 : decode cX0_converges 120 = .ok (.aload_n 0, 1) := by decide +kernel
theorem dX0_converges_121 : decode cX0_converges 121 = .ok (.getfield 20, 3) := by decide +kernel
theorem dX0_converges_124 : decode cX0_converges 124 = .ok (.iload_n 1, 1) := by decide +kernel
theorem dX0_converges_125 : decode cX0_converges 125 = .ok (.iaload, 1) := by decide +kernel
theorem dX0_converges_126 : decode cX0_converges 126 = .ok (.if_icmp .eq 20, 3) := by decide +kernel
theorem dX0_converges_129 : decode cX0_converges 129 = .ok (.aload_n 0, 1) := by decide +kernel
theorem dX0_converges_130 : decode cX0_converges 130 = .ok (.getfield 26, 3) := by decide +kernel
theorem dX0_converges_133 : decode cX0_converges 133 = .ok (.aload_n 0, 1) := by decide +kernel
theorem dX0_converges_134 : decode cX0_converges 134 = .ok (.getfield 20, 3) := by decide +kernel
theorem dX0_converges_137 : decode cX0_converges 137 = .ok (.iload_n 1, 1) := by decide +kernel
theorem dX0_converges_138 : decode cX0_converges 138 = .ok (.iaload, 1) := by decide +kernel
theorem dX0_converges_139 : decode cX0_converges 139 = .ok (.dup2, 1) := by decide +kernel
theorem dX0_converges_140 : decode cX0_converges 140 = .ok (.iaload, 1) := by decide +kernel
theorem dX0_converges_141 : decode cX0_converges 141 = .ok (.iconst 1, 1) := by decide +kernel
theorem dX0_converges_142 : decode cX0_converges 142 = .ok (.iload_n 2, 1) := by decide +kernel
theorem dX0_converges_143 : decode cX0_converges 143 = .ok (.ishl, 1) := by decide +kernel
theorem dX0_converges_144 : decode cX0_converges 144 = .ok (.ior, 1) := by decide +kernel
theorem dX0_converges_145 : decode cX0_converges 145 = .ok (.iastore, 1) := by decide +kernel
theorem dX0_converges_146 : decode cX0_converges 146 = .ok (.iinc 2 1, 3) := by decide +kernel
theorem dX0_converges_149 : decode cX0_converges 149 = .ok (.goto (-109), 3) := by decide +kernel
theorem dX0_converges_152 : decode cX0_converges 152 = .ok (.iinc 1 1, 3) := by decide +kernel
theorem dX0_converges_155 : decode cX0_converges 155 = .ok (.goto (-125), 3) := by decide +kernel
theorem dX0_converges_158 : decode cX0_converges 158 = .ok (.iconst 1, 1) := by decide +kernel
theorem dX0_converges_159 : decode cX0_converges 159 = .ok (.istore_n 1, 1) := by decide +kernel
theorem dX0_converges_160 : decode cX0_converges 160 = .ok (.iconst 0, 1) := by decide +kernel
theorem dX0_converges_161 : decode cX0_converges 161 = .ok (.istore_n 2, 1) := by decide +kernel
theorem dX0_converges_162 : decode cX0_converges 162 = .ok (.iload_n 2, 1) := by decide +kernel
theorem dX0_converges_163 : decode cX0_converges 163 = .ok (.bipush 60, 2) := by decide +kernel
theorem dX0_converges_165 : decode cX0_converges 165 = .ok (.if_icmp .ge 21, 3) := by decide +kernel
theorem dX0_converges_168 : decode cX0_converges 168 = .ok (.iload_n 1, 1) := by decide +kernel
theorem dX0_converges_169 : decode cX0_converges 169 = .ok (.ifCond .eq 17, 3) := by decide +kernel
theorem dX0_converges_172 : decode cX0_converges 172 = .ok (.aload_n 0, 1) := by decide +kernel
theorem dX0_converges_173 : decode cX0_converges 173 = .ok (.sipush 255, 3) := by decide +kernel
theorem dX0_converges_176 : decode cX0_converges 176 = .ok (.invokevirtual 58, 3) := by decide +kernel
theorem dX0_converges_179 : decode cX0_converges 179 = .ok (.istore_n 1, 1) := by decide +kernel
theorem dX0_converges_180 : decode cX0_converges 180 = .ok (.iinc 2 1, 3) := by decide +kernel
theorem dX0_converges_183 : decode cX0_converges 183 = .ok (.goto (-21), 3) := by decide +kernel
theorem dX0_converges_186 : decode cX0_converges 186 = .ok (.aload_n 0, 1) := by decide +kernel
theorem dX0_converges_187 : decode cX0_converges 187 = .ok (.invokevirtual 61, 3) := by decide +kernel
theorem dX0_converges_190 : decode cX0_converges 190 = .ok (.ifCond .ne 7, 3) := by decide +kernel
theorem dX0_converges_193 : decode cX0_converges 193 = .ok (.iconst 1, 1) := by decide +kernel
theorem dX0_converges_194 : decode cX0_converges 194 = .ok (.goto 4, 3) := by decide +kernel
theorem dX0_converges_197 : decode cX0_converges 197 = .ok (.iconst 0, 1) := by decide +kernel
theorem dX0_converges_198 : decode cX0_converges 198 = .ok (.ireturn, 1) := by decide +kernel
abbrev cX0_choices : ByteArray := prog_1_method_9_code
def yX0_choices : MethodName := ⟨RX0, "choices", "(II)I"⟩
theorem dX0_choices_0 : decode cX0_choices 0 = .ok (.iload_n 1, 1) := by decide +kernel
theorem dX0_choices_1 : decode cX0_choices 1 = .ok (.ifCond .lt 17, 3) := by decide +kernel
theorem dX0_choices_4 : decode cX0_choices 4 = .ok (.iload_n 1, 1) := by decide +kernel
theorem dX0_choices_5 : decode cX0_choices 5 = .ok (.iconst 2, 1) := by decide +kernel
theorem dX0_choices_6 : decode cX0_choices 6 = .ok (.if_icmp .gt 12, 3) := by decide +kernel
theorem dX0_choices_9 : decode cX0_choices 9 = .ok (.iload_n 2, 1) := by decide +kernel
theorem dX0_choices_10 : decode cX0_choices 10 = .ok (.ifCond .lt 8, 3) := by decide +kernel
theorem dX0_choices_13 : decode cX0_choices 13 = .ok (.iload_n 2, 1) := by decide +kernel
theorem dX0_choices_14 : decode cX0_choices 14 = .ok (.iconst 1, 1) := by decide +kernel
theorem dX0_choices_15 : decode cX0_choices 15 = .ok (.if_icmp .le 5, 3) := by decide +kernel
theorem dX0_choices_18 : decode cX0_choices 18 = .ok (.iconst (-1), 1) := by decide +kernel
theorem dX0_choices_19 : decode cX0_choices 19 = .ok (.ireturn, 1) := by decide +kernel
theorem dX0_choices_20 : decode cX0_choices 20 = .ok (.iconst 0, 1) := by decide +kernel
theorem dX0_choices_21 : decode cX0_choices 21 = .ok (.istore_n 3, 1) := by decide +kernel
theorem dX0_choices_22 : decode cX0_choices 22 = .ok (.iconst (-1), 1) := by decide +kernel
theorem dX0_choices_23 : decode cX0_choices 23 = .ok (.istore 4, 2) := by decide +kernel
theorem dX0_choices_25 : decode cX0_choices 25 = .ok (.iload 4, 2) := by decide +kernel
theorem dX0_choices_27 : decode cX0_choices 27 = .ok (.aload_n 0, 1) := by decide +kernel
theorem dX0_choices_28 : decode cX0_choices 28 = .ok (.getfield 29, 3) := by decide +kernel
theorem dX0_choices_31 : decode cX0_choices 31 = .ok (.if_icmp .ge 70, 3) := by decide +kernel
theorem dX0_choices_34 : decode cX0_choices 34 = .ok (.aload_n 0, 1) := by decide +kernel
theorem dX0_choices_35 : decode cX0_choices 35 = .ok (.iload 4, 2) := by decide +kernel
theorem dX0_choices_37 : decode cX0_choices 37 = .ok (.iload_n 2, 1) := by decide +kernel
theorem dX0_choices_38 : decode cX0_choices 38 = .ok (.invokevirtual 37, 3) := by decide +kernel
theorem dX0_choices_41 : decode cX0_choices 41 = .ok (.ifCond .eq 54, 3) := by decide +kernel
theorem dX0_choices_44 : decode cX0_choices 44 = .ok (.aload_n 0, 1) := by decide +kernel
theorem dX0_choices_45 : decode cX0_choices 45 = .ok (.iload_n 1, 1) := by decide +kernel
theorem dX0_choices_46 : decode cX0_choices 46 = .ok (.iload_n 2, 1) := by decide +kernel
theorem dX0_choices_47 : decode cX0_choices 47 = .ok (.iconst 0, 1) := by decide +kernel
theorem dX0_choices_48 : decode cX0_choices 48 = .ok (.iload 4, 2) := by decide +kernel
theorem dX0_choices_50 : decode cX0_choices 50 = .ok (.invokevirtual 33, 3) := by decide +kernel
theorem dX0_choices_53 : decode cX0_choices 53 = .ok (.aload_n 0, 1) := by decide +kernel
theorem dX0_choices_54 : decode cX0_choices 54 = .ok (.invokevirtual 51, 3) := by decide +kernel
theorem dX0_choices_57 : decode cX0_choices 57 = .ok (.istore 5, 2) := by decide +kernel
theorem dX0_choices_59 : decode cX0_choices 59 = .ok (.aload_n 0, 1) := by decide +kernel
theorem dX0_choices_60 : decode cX0_choices 60 = .ok (.dup, 1) := by decide +kernel
theorem dX0_choices_61 : decode cX0_choices 61 = .ok (.getfield 29, 3) := by decide +kernel
theorem dX0_choices_64 : decode cX0_choices 64 = .ok (.iconst 1, 1) := by decide +kernel
theorem dX0_choices_65 : decode cX0_choices 65 = .ok (.isub, 1) := by decide +kernel
theorem dX0_choices_66 : decode cX0_choices 66 = .ok (.putfield 29, 3) := by decide +kernel
theorem dX0_choices_69 : decode cX0_choices 69 = .ok (.iload_n 3, 1) := by decide +kernel
theorem dX0_choices_70 : decode cX0_choices 70 = .ok (.iload 5, 2) := by decide +kernel
theorem dX0_choices_72 : decode cX0_choices 72 = .ok (.ifCond .eq 20, 3) := by decide +kernel
theorem dX0_choices_75 : decode cX0_choices 75 = .ok (.iconst 1, 1) := by decide +kernel
theorem dX0_choices_76 : decode cX0_choices 76 = .ok (.iload 4, 2) := by decide +kernel
theorem dX0_choices_78 : decode cX0_choices 78 = .ok (.ifCond .ge 8, 3) := by decide +kernel
theorem dX0_choices_81 : decode cX0_choices 81 = .ok (.bipush 7, 2) := by decide +kernel
theorem dX0_choices_83 : decode cX0_choices 83 = .ok (.goto 5, 3) := by decide +kernel
theorem dX0_choices_86 : decode cX0_choices 86 = .ok (.iload 4, 2) := by decide +kernel
theorem dX0_choices_88 : decode cX0_choices 88 = .ok (.ishl, 1) := by decide +kernel
theorem dX0_choices_89 : decode cX0_choices 89 = .ok (.goto 4, 3) := by decide +kernel
theorem dX0_choices_92 : decode cX0_choices 92 = .ok (.iconst 0, 1) := by decide +kernel
theorem dX0_choices_93 : decode cX0_choices 93 = .ok (.ior, 1) := by decide +kernel
theorem dX0_choices_94 : decode cX0_choices 94 = .ok (.istore_n 3, 1) := by decide +kernel
theorem dX0_choices_95 : decode cX0_choices 95 = .ok (.iinc 4 1, 3) := by decide +kernel
theorem dX0_choices_98 : decode cX0_choices 98 = .ok (.goto (-73), 3) := by decide +kernel
theorem dX0_choices_101 : decode cX0_choices 101 = .ok (.iload_n 3, 1) := by decide +kernel
theorem dX0_choices_102 : decode cX0_choices 102 = .ok (.ireturn, 1) := by decide +kernel
theorem q20 : (Jvm.Cond.initialized "CausalCheck") ∈ lw_all := lw_g (lw_at lw_m0 1 rfl) rfl
theorem q23 : (Jvm.Cond.instantiable "CausalCheck" (7 : Nat)) ∈ lw_all := lw_g (lw_at lw_m0 4 rfl) rfl
theorem q25 : (Jvm.Cond.instanceMethod ({ cls := "CausalCheck", name := "<init>", desc := "()V" } : Jvm.MethodName)) ∈ lw_all := lw_g (lw_at lw_m0 6 rfl) rfl
theorem q26 : (Jvm.Cond.code ({ cls := "CausalCheck", name := "<init>", desc := "()V" } : Jvm.MethodName) prog_1_method_1_code (1 : Nat) (Option.none : Option Jvm.ClassFile.FieldType)) ∈ lw_all := lw_g (lw_at lw_m0 7 rfl) rfl
theorem q27 : (Jvm.Cond.methodLink "CausalCheck" (1 : Nat) ({ cls := "java/lang/Object", name := "<init>", desc := "()V" } : Jvm.MethodName)) ∈ lw_all := lw_g (lw_at lw_m0 8 rfl) rfl
theorem q30 : (Jvm.Cond.fieldLink "CausalCheck" (29 : Nat) "CausalCheck" "count" "I") ∈ lw_all := lw_g (lw_at lw_m0 11 rfl) rfl
theorem q31 : (Jvm.Cond.fieldLink "CausalCheck" (7 : Nat) "CausalCheck" "userOf" "[I") ∈ lw_all := lw_g (lw_at lw_m0 12 rfl) rfl
theorem q32 : (Jvm.Cond.fieldLink "CausalCheck" (13 : Nat) "CausalCheck" "cellOf" "[I") ∈ lw_all := lw_g (lw_at lw_m0 13 rfl) rfl
theorem q33 : (Jvm.Cond.fieldLink "CausalCheck" (16 : Nat) "CausalCheck" "isWrite" "[Z") ∈ lw_all := lw_g (lw_at lw_m0 14 rfl) rfl
theorem q34 : (Jvm.Cond.fieldLink "CausalCheck" (20 : Nat) "CausalCheck" "sourceOf" "[I") ∈ lw_all := lw_g (lw_at lw_m0 15 rfl) rfl
theorem q35 : (Jvm.Cond.fieldLink "CausalCheck" (23 : Nat) "CausalCheck" "earlier" "[I") ∈ lw_all := lw_g (lw_at lw_m0 16 rfl) rfl
theorem q36 : (Jvm.Cond.fieldLink "CausalCheck" (26 : Nat) "CausalCheck" "must" "[I") ∈ lw_all := lw_g (lw_at lw_m0 17 rfl) rfl
theorem q37 : (Jvm.Cond.lays "CausalCheck" "CausalCheck" "count" "I") ∈ lw_all := lw_g (lw_at lw_m0 18 rfl) rfl
theorem q38 : (Jvm.Cond.soleField "CausalCheck" "count") ∈ lw_all := lw_g (lw_at lw_m0 19 rfl) rfl
theorem q39 : (Jvm.Cond.laysFinal "CausalCheck" "CausalCheck" "userOf" "[I") ∈ lw_all := lw_g (lw_at lw_m0 20 rfl) rfl
theorem q40 : (Jvm.Cond.soleField "CausalCheck" "userOf") ∈ lw_all := lw_g (lw_at lw_m0 21 rfl) rfl
theorem q41 : (Jvm.Cond.laysFinal "CausalCheck" "CausalCheck" "cellOf" "[I") ∈ lw_all := lw_g (lw_at lw_m0 22 rfl) rfl
theorem q42 : (Jvm.Cond.soleField "CausalCheck" "cellOf") ∈ lw_all := lw_g (lw_at lw_m0 23 rfl) rfl
theorem q43 : (Jvm.Cond.laysFinal "CausalCheck" "CausalCheck" "isWrite" "[Z") ∈ lw_all := lw_g (lw_at lw_m0 24 rfl) rfl
theorem q44 : (Jvm.Cond.soleField "CausalCheck" "isWrite") ∈ lw_all := lw_g (lw_at lw_m0 25 rfl) rfl
theorem q45 : (Jvm.Cond.laysFinal "CausalCheck" "CausalCheck" "sourceOf" "[I") ∈ lw_all := lw_g (lw_at lw_m0 26 rfl) rfl
theorem q46 : (Jvm.Cond.soleField "CausalCheck" "sourceOf") ∈ lw_all := lw_g (lw_at lw_m0 27 rfl) rfl
theorem q47 : (Jvm.Cond.laysFinal "CausalCheck" "CausalCheck" "earlier" "[I") ∈ lw_all := lw_g (lw_at lw_m0 28 rfl) rfl
theorem q48 : (Jvm.Cond.soleField "CausalCheck" "earlier") ∈ lw_all := lw_g (lw_at lw_m0 29 rfl) rfl
theorem q49 : (Jvm.Cond.laysFinal "CausalCheck" "CausalCheck" "must" "[I") ∈ lw_all := lw_g (lw_at lw_m0 30 rfl) rfl
theorem q50 : (Jvm.Cond.soleField "CausalCheck" "must") ∈ lw_all := lw_g (lw_at lw_m0 31 rfl) rfl
theorem q51 : (Jvm.Cond.superclass "CausalCheck" "java/lang/Object") ∈ lw_all := lw_g (lw_at lw_m0 32 rfl) rfl
theorem q55 : (Jvm.Cond.instanceMethod ({ cls := "CausalCheck", name := "write", desc := "(II)I" } : Jvm.MethodName)) ∈ lw_all := lw_g (lw_at lw_m0 36 rfl) rfl
theorem q56 : (Jvm.Cond.selects "CausalCheck" ({ cls := "CausalCheck", name := "write", desc := "(II)I" } : Jvm.MethodName) ({ cls := "CausalCheck", name := "write", desc := "(II)I" } : Jvm.MethodName)) ∈ lw_all := lw_g (lw_at lw_m0 37 rfl) rfl
theorem q57 : (Jvm.Cond.code ({ cls := "CausalCheck", name := "write", desc := "(II)I" } : Jvm.MethodName) prog_1_method_2_code (3 : Nat) (Option.some Jvm.ClassFile.FieldType.int)) ∈ lw_all := lw_g (lw_at lw_m0 38 rfl) rfl
theorem q58 : (Jvm.Cond.methodLink "CausalCheck" (33 : Nat) ({ cls := "CausalCheck", name := "enter", desc := "(IIZI)V" } : Jvm.MethodName)) ∈ lw_all := lw_g (lw_at lw_m0 39 rfl) rfl
theorem q59 : (Jvm.Cond.privateMethod ({ cls := "CausalCheck", name := "enter", desc := "(IIZI)V" } : Jvm.MethodName)) ∈ lw_tbl := lw_at lw_m0 40 rfl
theorem q60 : (Jvm.Cond.instanceMethod ({ cls := "CausalCheck", name := "enter", desc := "(IIZI)V" } : Jvm.MethodName)) ∈ lw_all := lw_g (lw_at lw_m0 41 rfl) rfl
theorem q61 : (Jvm.Cond.code ({ cls := "CausalCheck", name := "enter", desc := "(IIZI)V" } : Jvm.MethodName) prog_1_method_12_code (6 : Nat) (Option.none : Option Jvm.ClassFile.FieldType)) ∈ lw_all := lw_g (lw_at lw_m0 42 rfl) rfl
theorem q63 : (Jvm.Cond.instanceMethod ({ cls := "CausalCheck", name := "read", desc := "(III)I" } : Jvm.MethodName)) ∈ lw_all := lw_g (lw_at lw_m0 44 rfl) rfl
theorem q64 : (Jvm.Cond.selects "CausalCheck" ({ cls := "CausalCheck", name := "read", desc := "(III)I" } : Jvm.MethodName) ({ cls := "CausalCheck", name := "read", desc := "(III)I" } : Jvm.MethodName)) ∈ lw_all := lw_g (lw_at lw_m0 45 rfl) rfl
theorem q65 : (Jvm.Cond.code ({ cls := "CausalCheck", name := "read", desc := "(III)I" } : Jvm.MethodName) prog_1_method_3_code (4 : Nat) (Option.some Jvm.ClassFile.FieldType.int)) ∈ lw_all := lw_g (lw_at lw_m0 46 rfl) rfl
theorem q66 : (Jvm.Cond.methodLink "CausalCheck" (37 : Nat) ({ cls := "CausalCheck", name := "isSource", desc := "(II)Z" } : Jvm.MethodName)) ∈ lw_all := lw_g (lw_at lw_m0 47 rfl) rfl
theorem q67 : (Jvm.Cond.privateMethod ({ cls := "CausalCheck", name := "isSource", desc := "(II)Z" } : Jvm.MethodName)) ∈ lw_tbl := lw_at lw_m0 48 rfl
theorem q68 : (Jvm.Cond.instanceMethod ({ cls := "CausalCheck", name := "isSource", desc := "(II)Z" } : Jvm.MethodName)) ∈ lw_all := lw_g (lw_at lw_m0 49 rfl) rfl
theorem q69 : (Jvm.Cond.code ({ cls := "CausalCheck", name := "isSource", desc := "(II)Z" } : Jvm.MethodName) prog_1_method_11_code (3 : Nat) (Option.some Jvm.ClassFile.FieldType.boolean)) ∈ lw_all := lw_g (lw_at lw_m0 50 rfl) rfl
theorem q71 : (Jvm.Cond.instanceMethod ({ cls := "CausalCheck", name := "back", desc := "()I" } : Jvm.MethodName)) ∈ lw_all := lw_g (lw_at lw_m0 52 rfl) rfl
theorem q72 : (Jvm.Cond.selects "CausalCheck" ({ cls := "CausalCheck", name := "back", desc := "()I" } : Jvm.MethodName) ({ cls := "CausalCheck", name := "back", desc := "()I" } : Jvm.MethodName)) ∈ lw_all := lw_g (lw_at lw_m0 53 rfl) rfl
theorem q73 : (Jvm.Cond.code ({ cls := "CausalCheck", name := "back", desc := "()I" } : Jvm.MethodName) prog_1_method_4_code (1 : Nat) (Option.some Jvm.ClassFile.FieldType.int)) ∈ lw_all := lw_g (lw_at lw_m0 54 rfl) rfl
theorem q75 : (Jvm.Cond.instanceMethod ({ cls := "CausalCheck", name := "before", desc := "(II)I" } : Jvm.MethodName)) ∈ lw_all := lw_g (lw_at lw_m0 56 rfl) rfl
theorem q76 : (Jvm.Cond.selects "CausalCheck" ({ cls := "CausalCheck", name := "before", desc := "(II)I" } : Jvm.MethodName) ({ cls := "CausalCheck", name := "before", desc := "(II)I" } : Jvm.MethodName)) ∈ lw_all := lw_g (lw_at lw_m0 57 rfl) rfl
theorem q77 : (Jvm.Cond.code ({ cls := "CausalCheck", name := "before", desc := "(II)I" } : Jvm.MethodName) prog_1_method_5_code (3 : Nat) (Option.some Jvm.ClassFile.FieldType.int)) ∈ lw_all := lw_g (lw_at lw_m0 58 rfl) rfl
theorem q78 : (Jvm.Cond.methodLink "CausalCheck" (41 : Nat) ({ cls := "CausalCheck", name := "isHeld", desc := "(I)Z" } : Jvm.MethodName)) ∈ lw_all := lw_g (lw_at lw_m0 59 rfl) rfl
theorem q79 : (Jvm.Cond.privateMethod ({ cls := "CausalCheck", name := "isHeld", desc := "(I)Z" } : Jvm.MethodName)) ∈ lw_tbl := lw_at lw_m0 60 rfl
theorem q80 : (Jvm.Cond.instanceMethod ({ cls := "CausalCheck", name := "isHeld", desc := "(I)Z" } : Jvm.MethodName)) ∈ lw_all := lw_g (lw_at lw_m0 61 rfl) rfl
theorem q81 : (Jvm.Cond.code ({ cls := "CausalCheck", name := "isHeld", desc := "(I)Z" } : Jvm.MethodName) prog_1_method_10_code (2 : Nat) (Option.some Jvm.ClassFile.FieldType.boolean)) ∈ lw_all := lw_g (lw_at lw_m0 62 rfl) rfl
theorem q83 : (Jvm.Cond.instanceMethod ({ cls := "CausalCheck", name := "weak", desc := "(I)I" } : Jvm.MethodName)) ∈ lw_all := lw_g (lw_at lw_m0 64 rfl) rfl
theorem q84 : (Jvm.Cond.selects "CausalCheck" ({ cls := "CausalCheck", name := "weak", desc := "(I)I" } : Jvm.MethodName) ({ cls := "CausalCheck", name := "weak", desc := "(I)I" } : Jvm.MethodName)) ∈ lw_all := lw_g (lw_at lw_m0 65 rfl) rfl
theorem q85 : (Jvm.Cond.code ({ cls := "CausalCheck", name := "weak", desc := "(I)I" } : Jvm.MethodName) prog_1_method_6_code (2 : Nat) (Option.some Jvm.ClassFile.FieldType.int)) ∈ lw_all := lw_g (lw_at lw_m0 66 rfl) rfl
theorem q86 : (Jvm.Cond.methodLink "CausalCheck" (45 : Nat) ({ cls := "CausalCheck", name := "isWeak", desc := "(I)Z" } : Jvm.MethodName)) ∈ lw_all := lw_g (lw_at lw_m0 67 rfl) rfl
theorem q87 : (Jvm.Cond.privateMethod ({ cls := "CausalCheck", name := "isWeak", desc := "(I)Z" } : Jvm.MethodName)) ∈ lw_tbl := lw_at lw_m0 68 rfl
theorem q88 : (Jvm.Cond.instanceMethod ({ cls := "CausalCheck", name := "isWeak", desc := "(I)Z" } : Jvm.MethodName)) ∈ lw_all := lw_g (lw_at lw_m0 69 rfl) rfl
theorem q89 : (Jvm.Cond.code ({ cls := "CausalCheck", name := "isWeak", desc := "(I)Z" } : Jvm.MethodName) prog_1_method_13_code (4 : Nat) (Option.some Jvm.ClassFile.FieldType.boolean)) ∈ lw_all := lw_g (lw_at lw_m0 70 rfl) rfl
theorem q91 : (Jvm.Cond.instanceMethod ({ cls := "CausalCheck", name := "strong", desc := "(I)I" } : Jvm.MethodName)) ∈ lw_all := lw_g (lw_at lw_m0 72 rfl) rfl
theorem q92 : (Jvm.Cond.selects "CausalCheck" ({ cls := "CausalCheck", name := "strong", desc := "(I)I" } : Jvm.MethodName) ({ cls := "CausalCheck", name := "strong", desc := "(I)I" } : Jvm.MethodName)) ∈ lw_all := lw_g (lw_at lw_m0 73 rfl) rfl
theorem q93 : (Jvm.Cond.code ({ cls := "CausalCheck", name := "strong", desc := "(I)I" } : Jvm.MethodName) prog_1_method_7_code (2 : Nat) (Option.some Jvm.ClassFile.FieldType.int)) ∈ lw_all := lw_g (lw_at lw_m0 74 rfl) rfl
theorem q94 : (Jvm.Cond.methodLink "CausalCheck" (48 : Nat) ({ cls := "CausalCheck", name := "isStrong", desc := "(I)Z" } : Jvm.MethodName)) ∈ lw_all := lw_g (lw_at lw_m0 75 rfl) rfl
theorem q95 : (Jvm.Cond.privateMethod ({ cls := "CausalCheck", name := "isStrong", desc := "(I)Z" } : Jvm.MethodName)) ∈ lw_tbl := lw_at lw_m0 76 rfl
theorem q96 : (Jvm.Cond.instanceMethod ({ cls := "CausalCheck", name := "isStrong", desc := "(I)Z" } : Jvm.MethodName)) ∈ lw_all := lw_g (lw_at lw_m0 77 rfl) rfl
theorem q97 : (Jvm.Cond.code ({ cls := "CausalCheck", name := "isStrong", desc := "(I)Z" } : Jvm.MethodName) prog_1_method_14_code (7 : Nat) (Option.some Jvm.ClassFile.FieldType.boolean)) ∈ lw_all := lw_g (lw_at lw_m0 78 rfl) rfl
theorem q98 : (Jvm.Cond.methodLink "CausalCheck" (55 : Nat) ({ cls := "CausalCheck", name := "pushBefore", desc := "(II)Z" } : Jvm.MethodName)) ∈ lw_all := lw_g (lw_at lw_m0 79 rfl) rfl
theorem q99 : (Jvm.Cond.privateMethod ({ cls := "CausalCheck", name := "pushBefore", desc := "(II)Z" } : Jvm.MethodName)) ∈ lw_tbl := lw_at lw_m0 80 rfl
theorem q100 : (Jvm.Cond.instanceMethod ({ cls := "CausalCheck", name := "pushBefore", desc := "(II)Z" } : Jvm.MethodName)) ∈ lw_all := lw_g (lw_at lw_m0 81 rfl) rfl
theorem q101 : (Jvm.Cond.code ({ cls := "CausalCheck", name := "pushBefore", desc := "(II)Z" } : Jvm.MethodName) prog_1_method_15_code (7 : Nat) (Option.some Jvm.ClassFile.FieldType.boolean)) ∈ lw_all := lw_g (lw_at lw_m0 82 rfl) rfl
theorem q102 : (Jvm.Cond.methodLink "CausalCheck" (58 : Nat) ({ cls := "CausalCheck", name := "close", desc := "(I)Z" } : Jvm.MethodName)) ∈ lw_all := lw_g (lw_at lw_m0 83 rfl) rfl
theorem q103 : (Jvm.Cond.privateMethod ({ cls := "CausalCheck", name := "close", desc := "(I)Z" } : Jvm.MethodName)) ∈ lw_tbl := lw_at lw_m0 84 rfl
theorem q104 : (Jvm.Cond.instanceMethod ({ cls := "CausalCheck", name := "close", desc := "(I)Z" } : Jvm.MethodName)) ∈ lw_all := lw_g (lw_at lw_m0 85 rfl) rfl
theorem q105 : (Jvm.Cond.code ({ cls := "CausalCheck", name := "close", desc := "(I)Z" } : Jvm.MethodName) prog_1_method_16_code (5 : Nat) (Option.some Jvm.ClassFile.FieldType.boolean)) ∈ lw_all := lw_g (lw_at lw_m0 86 rfl) rfl
theorem q106 : (Jvm.Cond.methodLink "CausalCheck" (61 : Nat) ({ cls := "CausalCheck", name := "hasRing", desc := "()Z" } : Jvm.MethodName)) ∈ lw_all := lw_g (lw_at lw_m0 87 rfl) rfl
theorem q107 : (Jvm.Cond.privateMethod ({ cls := "CausalCheck", name := "hasRing", desc := "()Z" } : Jvm.MethodName)) ∈ lw_tbl := lw_at lw_m0 88 rfl
theorem q108 : (Jvm.Cond.instanceMethod ({ cls := "CausalCheck", name := "hasRing", desc := "()Z" } : Jvm.MethodName)) ∈ lw_all := lw_g (lw_at lw_m0 89 rfl) rfl
theorem q109 : (Jvm.Cond.code ({ cls := "CausalCheck", name := "hasRing", desc := "()Z" } : Jvm.MethodName) prog_1_method_17_code (2 : Nat) (Option.some Jvm.ClassFile.FieldType.boolean)) ∈ lw_all := lw_g (lw_at lw_m0 90 rfl) rfl
theorem q110 : (Jvm.Cond.methodLink "CausalCheck" (64 : Nat) ({ cls := "CausalCheck", name := "comesTooLate", desc := "(II)Z" } : Jvm.MethodName)) ∈ lw_all := lw_g (lw_at lw_m0 91 rfl) rfl
theorem q111 : (Jvm.Cond.privateMethod ({ cls := "CausalCheck", name := "comesTooLate", desc := "(II)Z" } : Jvm.MethodName)) ∈ lw_tbl := lw_at lw_m0 92 rfl
theorem q112 : (Jvm.Cond.instanceMethod ({ cls := "CausalCheck", name := "comesTooLate", desc := "(II)Z" } : Jvm.MethodName)) ∈ lw_all := lw_g (lw_at lw_m0 93 rfl) rfl
theorem q113 : (Jvm.Cond.code ({ cls := "CausalCheck", name := "comesTooLate", desc := "(II)Z" } : Jvm.MethodName) prog_1_method_18_code (7 : Nat) (Option.some Jvm.ClassFile.FieldType.boolean)) ∈ lw_all := lw_g (lw_at lw_m0 94 rfl) rfl
theorem q115 : (Jvm.Cond.instanceMethod ({ cls := "CausalCheck", name := "sound", desc := "()I" } : Jvm.MethodName)) ∈ lw_all := lw_g (lw_at lw_m0 96 rfl) rfl
theorem q116 : (Jvm.Cond.selects "CausalCheck" ({ cls := "CausalCheck", name := "sound", desc := "()I" } : Jvm.MethodName) ({ cls := "CausalCheck", name := "sound", desc := "()I" } : Jvm.MethodName)) ∈ lw_all := lw_g (lw_at lw_m0 97 rfl) rfl
theorem q117 : (Jvm.Cond.code ({ cls := "CausalCheck", name := "sound", desc := "()I" } : Jvm.MethodName) prog_1_method_8_code (4 : Nat) (Option.some Jvm.ClassFile.FieldType.int)) ∈ lw_all := lw_g (lw_at lw_m0 98 rfl) rfl
theorem q118 : (Jvm.Cond.methodLink "CausalCheck" (51 : Nat) ({ cls := "CausalCheck", name := "converges", desc := "()Z" } : Jvm.MethodName)) ∈ lw_all := lw_g (lw_at lw_m0 99 rfl) rfl
theorem q119 : (Jvm.Cond.privateMethod ({ cls := "CausalCheck", name := "converges", desc := "()Z" } : Jvm.MethodName)) ∈ lw_tbl := lw_at lw_m0 100 rfl
theorem q120 : (Jvm.Cond.instanceMethod ({ cls := "CausalCheck", name := "converges", desc := "()Z" } : Jvm.MethodName)) ∈ lw_all := lw_g (lw_at lw_m0 101 rfl) rfl
theorem q121 : (Jvm.Cond.code ({ cls := "CausalCheck", name := "converges", desc := "()Z" } : Jvm.MethodName) prog_1_method_19_code (4 : Nat) (Option.some Jvm.ClassFile.FieldType.boolean)) ∈ lw_all := lw_g (lw_at lw_m0 102 rfl) rfl
theorem q123 : (Jvm.Cond.instanceMethod ({ cls := "CausalCheck", name := "choices", desc := "(II)I" } : Jvm.MethodName)) ∈ lw_all := lw_g (lw_at lw_m0 104 rfl) rfl
theorem q124 : (Jvm.Cond.selects "CausalCheck" ({ cls := "CausalCheck", name := "choices", desc := "(II)I" } : Jvm.MethodName) ({ cls := "CausalCheck", name := "choices", desc := "(II)I" } : Jvm.MethodName)) ∈ lw_all := lw_g (lw_at lw_m0 105 rfl) rfl
theorem q125 : (Jvm.Cond.code ({ cls := "CausalCheck", name := "choices", desc := "(II)I" } : Jvm.MethodName) prog_1_method_9_code (6 : Nat) (Option.some Jvm.ClassFile.FieldType.int)) ∈ lw_all := lw_g (lw_at lw_m0 106 rfl) rfl
theorem in_X0 : ∀ w ∈ wsX00, w ∈ lw_all := lw_in wsX00 [37, 39, 41, 43, 45, 47, 49] (by decide +kernel) (by decide +kernel)
end
section
/-! CausalCheckModel -/
set_option maxRecDepth 100000
def RX1 : String := "CausalCheckModel"
def TX1 : u_T := fun k => match k with
  | 0 => ("CausalCheckModel", "held", "I", false)
  | 1 => ("CausalCheckModel", "users", "[I", true)
  | 2 => ("CausalCheckModel", "cells", "[I", true)
  | 3 => ("CausalCheckModel", "writes", "[Z", true)
  | 4 => ("CausalCheckModel", "sources", "[I", true)
  | 5 => ("CausalCheckModel", "earlier", "[I", true)
  | 6 => ("CausalCheckModel", "rows", "[Z", true)
  | _ => ("CausalCheckModel", "order", "[I", true)
def tyX1 : Nat → FieldType := fun k => match k with
  | 0 => .int
  | 1 => .array .int
  | 2 => .array .int
  | 3 => .array .boolean
  | 4 => .array .int
  | 5 => .array .int
  | 6 => .array .boolean
  | _ => .array .int
abbrev wsX10 : List Cond := u_ws RX1 TX1 8
theorem nmX1 : ∀ a, a < 8 → ∀ b, b < 8 → a ≠ b → (TX1 a).2.1 ≠ (TX1 b).2.1 := by decide +kernel
theorem tyX1_ok : ∀ k, k < 8 → parseFieldDescriptor (TX1 k).2.2.1 = some (tyX1 k) := by decide +kernel
abbrev cX1_init : ByteArray := prog_3_method_1_code
def yX1_init : MethodName := ⟨RX1, "<init>", "()V"⟩
theorem dX1_init_0 : decode cX1_init 0 = .ok (.aload_n 0, 1) := by decide +kernel
theorem dX1_init_1 : decode cX1_init 1 = .ok (.invokespecial 1, 3) := by decide +kernel
theorem dX1_init_4 : decode cX1_init 4 = .ok (.aload_n 0, 1) := by decide +kernel
theorem dX1_init_5 : decode cX1_init 5 = .ok (.bipush 8, 2) := by decide +kernel
theorem dX1_init_7 : decode cX1_init 7 = .ok (.newarray .int, 2) := by decide +kernel
theorem dX1_init_9 : decode cX1_init 9 = .ok (.putfield 7, 3) := by decide +kernel
theorem dX1_init_12 : decode cX1_init 12 = .ok (.aload_n 0, 1) := by decide +kernel
theorem dX1_init_13 : decode cX1_init 13 = .ok (.bipush 8, 2) := by decide +kernel
theorem dX1_init_15 : decode cX1_init 15 = .ok (.newarray .int, 2) := by decide +kernel
theorem dX1_init_17 : decode cX1_init 17 = .ok (.putfield 13, 3) := by decide +kernel
theorem dX1_init_20 : decode cX1_init 20 = .ok (.aload_n 0, 1) := by decide +kernel
theorem dX1_init_21 : decode cX1_init 21 = .ok (.bipush 8, 2) := by decide +kernel
theorem dX1_init_23 : decode cX1_init 23 = .ok (.newarray .boolean, 2) := by decide +kernel
theorem dX1_init_25 : decode cX1_init 25 = .ok (.putfield 16, 3) := by decide +kernel
theorem dX1_init_28 : decode cX1_init 28 = .ok (.aload_n 0, 1) := by decide +kernel
theorem dX1_init_29 : decode cX1_init 29 = .ok (.bipush 8, 2) := by decide +kernel
theorem dX1_init_31 : decode cX1_init 31 = .ok (.newarray .int, 2) := by decide +kernel
theorem dX1_init_33 : decode cX1_init 33 = .ok (.putfield 20, 3) := by decide +kernel
theorem dX1_init_36 : decode cX1_init 36 = .ok (.aload_n 0, 1) := by decide +kernel
theorem dX1_init_37 : decode cX1_init 37 = .ok (.bipush 8, 2) := by decide +kernel
theorem dX1_init_39 : decode cX1_init 39 = .ok (.newarray .int, 2) := by decide +kernel
theorem dX1_init_41 : decode cX1_init 41 = .ok (.putfield 23, 3) := by decide +kernel
theorem dX1_init_44 : decode cX1_init 44 = .ok (.aload_n 0, 1) := by decide +kernel
theorem dX1_init_45 : decode cX1_init 45 = .ok (.sipush 10368, 3) := by decide +kernel
theorem dX1_init_48 : decode cX1_init 48 = .ok (.newarray .boolean, 2) := by decide +kernel
theorem dX1_init_50 : decode cX1_init 50 = .ok (.putfield 26, 3) := by decide +kernel
theorem dX1_init_53 : decode cX1_init 53 = .ok (.aload_n 0, 1) := by decide +kernel
theorem dX1_init_54 : decode cX1_init 54 = .ok (.bipush 8, 2) := by decide +kernel
theorem dX1_init_56 : decode cX1_init 56 = .ok (.newarray .int, 2) := by decide +kernel
theorem dX1_init_58 : decode cX1_init 58 = .ok (.putfield 29, 3) := by decide +kernel
theorem dX1_init_61 : decode cX1_init 61 = .ok (.return_, 1) := by decide +kernel
abbrev cX1_write : ByteArray := prog_3_method_4_code
def yX1_write : MethodName := ⟨RX1, "write", "(II)I"⟩
theorem dX1_write_0 : decode cX1_write 0 = .ok (.iload_n 1, 1) := by decide +kernel
theorem dX1_write_1 : decode cX1_write 1 = .ok (.iload_n 2, 1) := by decide +kernel
theorem dX1_write_2 : decode cX1_write 2 = .ok (.invokestatic 36, 3) := by decide +kernel
theorem dX1_write_5 : decode cX1_write 5 = .ok (.ifCond .ne 12, 3) := by decide +kernel
theorem dX1_write_8 : decode cX1_write 8 = .ok (.aload_n 0, 1) := by decide +kernel
theorem dX1_write_9 : decode cX1_write 9 = .ok (.getfield 32, 3) := by decide +kernel
theorem dX1_write_12 : decode cX1_write 12 = .ok (.bipush 7, 2) := by decide +kernel
theorem dX1_write_14 : decode cX1_write 14 = .ok (.if_icmp .ne 5, 3) := by decide +kernel
theorem dX1_write_17 : decode cX1_write 17 = .ok (.iconst (-1), 1) := by decide +kernel
theorem dX1_write_18 : decode cX1_write 18 = .ok (.ireturn, 1) := by decide +kernel
theorem dX1_write_19 : decode cX1_write 19 = .ok (.aload_n 0, 1) := by decide +kernel
theorem dX1_write_20 : decode cX1_write 20 = .ok (.iload_n 1, 1) := by decide +kernel
theorem dX1_write_21 : decode cX1_write 21 = .ok (.iload_n 2, 1) := by decide +kernel
theorem dX1_write_22 : decode cX1_write 22 = .ok (.iconst 1, 1) := by decide +kernel
theorem dX1_write_23 : decode cX1_write 23 = .ok (.iconst (-1), 1) := by decide +kernel
theorem dX1_write_24 : decode cX1_write 24 = .ok (.invokevirtual 40, 3) := by decide +kernel
theorem dX1_write_27 : decode cX1_write 27 = .ok (.aload_n 0, 1) := by decide +kernel
theorem dX1_write_28 : decode cX1_write 28 = .ok (.dup, 1) := by decide +kernel
theorem dX1_write_29 : decode cX1_write 29 = .ok (.getfield 32, 3) := by decide +kernel
theorem dX1_write_32 : decode cX1_write 32 = .ok (.iconst 1, 1) := by decide +kernel
theorem dX1_write_33 : decode cX1_write 33 = .ok (.iadd, 1) := by decide +kernel
theorem dX1_write_34 : decode cX1_write 34 = .ok (.putfield 32, 3) := by decide +kernel
theorem dX1_write_37 : decode cX1_write 37 = .ok (.aload_n 0, 1) := by decide +kernel
theorem dX1_write_38 : decode cX1_write 38 = .ok (.getfield 32, 3) := by decide +kernel
theorem dX1_write_41 : decode cX1_write 41 = .ok (.iconst 1, 1) := by decide +kernel
theorem dX1_write_42 : decode cX1_write 42 = .ok (.isub, 1) := by decide +kernel
theorem dX1_write_43 : decode cX1_write 43 = .ok (.ireturn, 1) := by decide +kernel
abbrev cX1_badPlace : ByteArray := prog_3_method_2_code
def yX1_badPlace : MethodName := ⟨RX1, "badPlace", "(II)Z"⟩
theorem dX1_badPlace_0 : decode cX1_badPlace 0 = .ok (.iload_n 0, 1) := by decide +kernel
theorem dX1_badPlace_1 : decode cX1_badPlace 1 = .ok (.ifCond .lt 17, 3) := by decide +kernel
theorem dX1_badPlace_4 : decode cX1_badPlace 4 = .ok (.iload_n 0, 1) := by decide +kernel
theorem dX1_badPlace_5 : decode cX1_badPlace 5 = .ok (.iconst 2, 1) := by decide +kernel
theorem dX1_badPlace_6 : decode cX1_badPlace 6 = .ok (.if_icmp .gt 12, 3) := by decide +kernel
theorem dX1_badPlace_9 : decode cX1_badPlace 9 = .ok (.iload_n 1, 1) := by decide +kernel
theorem dX1_badPlace_10 : decode cX1_badPlace 10 = .ok (.ifCond .lt 8, 3) := by decide +kernel
theorem dX1_badPlace_13 : decode cX1_badPlace 13 = .ok (.iload_n 1, 1) := by decide +kernel
theorem dX1_badPlace_14 : decode cX1_badPlace 14 = .ok (.iconst 1, 1) := by decide +kernel
theorem dX1_badPlace_15 : decode cX1_badPlace 15 = .ok (.if_icmp .le 7, 3) := by decide +kernel
theorem dX1_badPlace_18 : decode cX1_badPlace 18 = .ok (.iconst 1, 1) := by decide +kernel
theorem dX1_badPlace_19 : decode cX1_badPlace 19 = .ok (.goto 4, 3) := by decide +kernel
theorem dX1_badPlace_22 : decode cX1_badPlace 22 = .ok (.iconst 0, 1) := by decide +kernel
theorem dX1_badPlace_23 : decode cX1_badPlace 23 = .ok (.ireturn, 1) := by decide +kernel
abbrev cX1_put : ByteArray := prog_3_method_3_code
def yX1_put : MethodName := ⟨RX1, "put", "(IIZI)V"⟩
theorem dX1_put_0 : decode cX1_put 0 = .ok (.aload_n 0, 1) := by decide +kernel
theorem dX1_put_1 : decode cX1_put 1 = .ok (.getfield 7, 3) := by decide +kernel
theorem dX1_put_4 : decode cX1_put 4 = .ok (.aload_n 0, 1) := by decide +kernel
theorem dX1_put_5 : decode cX1_put 5 = .ok (.getfield 32, 3) := by decide +kernel
theorem dX1_put_8 : decode cX1_put 8 = .ok (.iload_n 1, 1) := by decide +kernel
theorem dX1_put_9 : decode cX1_put 9 = .ok (.iastore, 1) := by decide +kernel
theorem dX1_put_10 : decode cX1_put 10 = .ok (.aload_n 0, 1) := by decide +kernel
theorem dX1_put_11 : decode cX1_put 11 = .ok (.getfield 13, 3) := by decide +kernel
theorem dX1_put_14 : decode cX1_put 14 = .ok (.aload_n 0, 1) := by decide +kernel
theorem dX1_put_15 : decode cX1_put 15 = .ok (.getfield 32, 3) := by decide +kernel
theorem dX1_put_18 : decode cX1_put 18 = .ok (.iload_n 2, 1) := by decide +kernel
theorem dX1_put_19 : decode cX1_put 19 = .ok (.iastore, 1) := by decide +kernel
theorem dX1_put_20 : decode cX1_put 20 = .ok (.aload_n 0, 1) := by decide +kernel
theorem dX1_put_21 : decode cX1_put 21 = .ok (.getfield 16, 3) := by decide +kernel
theorem dX1_put_24 : decode cX1_put 24 = .ok (.aload_n 0, 1) := by decide +kernel
theorem dX1_put_25 : decode cX1_put 25 = .ok (.getfield 32, 3) := by decide +kernel
theorem dX1_put_28 : decode cX1_put 28 = .ok (.iload_n 3, 1) := by decide +kernel
theorem dX1_put_29 : decode cX1_put 29 = .ok (.bastore, 1) := by decide +kernel
theorem dX1_put_30 : decode cX1_put 30 = .ok (.aload_n 0, 1) := by decide +kernel
theorem dX1_put_31 : decode cX1_put 31 = .ok (.getfield 20, 3) := by decide +kernel
theorem dX1_put_34 : decode cX1_put 34 = .ok (.aload_n 0, 1) := by decide +kernel
theorem dX1_put_35 : decode cX1_put 35 = .ok (.getfield 32, 3) := by decide +kernel
theorem dX1_put_38 : decode cX1_put 38 = .ok (.iload 4, 2) := by decide +kernel
theorem dX1_put_40 : decode cX1_put 40 = .ok (.iastore, 1) := by decide +kernel
theorem dX1_put_41 : decode cX1_put 41 = .ok (.iconst 0, 1) := by decide +kernel
theorem dX1_put_42 : decode cX1_put 42 = .ok (.istore 5, 2) := by decide +kernel
theorem dX1_put_44 : decode cX1_put 44 = .ok (.iconst 0, 1) := by decide +kernel
theorem dX1_put_45 : decode cX1_put 45 = .ok (.istore 6, 2) := by decide +kernel
theorem dX1_put_47 : decode cX1_put 47 = .ok (.iload 6, 2) := by decide +kernel
theorem dX1_put_49 : decode cX1_put 49 = .ok (.aload_n 0, 1) := by decide +kernel
theorem dX1_put_50 : decode cX1_put 50 = .ok (.getfield 32, 3) := by decide +kernel
theorem dX1_put_53 : decode cX1_put 53 = .ok (.if_icmp .ge 48, 3) := by decide +kernel
theorem dX1_put_56 : decode cX1_put 56 = .ok (.aload_n 0, 1) := by decide +kernel
theorem dX1_put_57 : decode cX1_put 57 = .ok (.getfield 7, 3) := by decide +kernel
theorem dX1_put_60 : decode cX1_put 60 = .ok (.iload 6, 2) := by decide +kernel
theorem dX1_put_62 : decode cX1_put 62 = .ok (.iaload, 1) := by decide +kernel
theorem dX1_put_63 : decode cX1_put 63 = .ok (.iload_n 1, 1) := by decide +kernel
theorem dX1_put_64 : decode cX1_put 64 = .ok (.if_icmp .eq 14, 3) := by decide +kernel
theorem dX1_put_67 : decode cX1_put 67 = .ok (.iload_n 3, 1) := by decide +kernel
theorem dX1_put_68 : decode cX1_put 68 = .ok (.ifCond .ne 27, 3) := by decide +kernel
theorem dX1_put_71 : decode cX1_put 71 = .ok (.iload 6, 2) := by decide +kernel
theorem dX1_put_73 : decode cX1_put 73 = .ok (.iload 4, 2) := by decide +kernel
theorem dX1_put_75 : decode cX1_put 75 = .ok (.if_icmp .ne 20, 3) := by decide +kernel
theorem dX1_put_78 : decode cX1_put 78 = .ok (.iload 5, 2) := by decide +kernel
theorem dX1_put_80 : decode cX1_put 80 = .ok (.aload_n 0, 1) := by decide +kernel
theorem dX1_put_81 : decode cX1_put 81 = .ok (.getfield 23, 3) := by decide +kernel
theorem dX1_put_84 : decode cX1_put 84 = .ok (.iload 6, 2) := by decide +kernel
theorem dX1_put_86 : decode cX1_put 86 = .ok (.iaload, 1) := by decide +kernel
theorem dX1_put_87 : decode cX1_put 87 = .ok (.iconst 1, 1) := by decide +kernel
theorem dX1_put_88 : decode cX1_put 88 = .ok (.iload 6, 2) := by decide +kernel
theorem dX1_put_90 : decode cX1_put 90 = .ok (.ishl, 1) := by decide +kernel
theorem dX1_put_91 : decode cX1_put 91 = .ok (.ior, 1) := by decide +kernel
theorem dX1_put_92 : decode cX1_put 92 = .ok (.ior, 1) := by decide +kernel
theorem dX1_put_93 : decode cX1_put 93 = .ok (.istore 5, 2) := by decide +kernel
theorem dX1_put_95 : decode cX1_put 95 = .ok (.iinc 6 1, 3) := by decide +kernel
theorem dX1_put_98 : decode cX1_put 98 = .ok (.goto (-51), 3) := by decide +kernel
theorem dX1_put_101 : decode cX1_put 101 = .ok (.aload_n 0, 1) := by decide +kernel
theorem dX1_put_102 : decode cX1_put 102 = .ok (.getfield 23, 3) := by decide +kernel
theorem dX1_put_105 : decode cX1_put 105 = .ok (.aload_n 0, 1) := by decide +kernel
theorem dX1_put_106 : decode cX1_put 106 = .ok (.getfield 32, 3) := by decide +kernel
theorem dX1_put_109 : decode cX1_put 109 = .ok (.iload 5, 2) := by decide +kernel
theorem dX1_put_111 : decode cX1_put 111 = .ok (.iastore, 1) := by decide +kernel
theorem dX1_put_112 : decode cX1_put 112 = .ok (.return_, 1) := by decide +kernel
abbrev cX1_read : ByteArray := prog_3_method_6_code
def yX1_read : MethodName := ⟨RX1, "read", "(III)I"⟩
theorem dX1_read_0 : decode cX1_read 0 = .ok (.iload_n 1, 1) := by decide +kernel
theorem dX1_read_1 : decode cX1_read 1 = .ok (.iload_n 2, 1) := by decide +kernel
theorem dX1_read_2 : decode cX1_read 2 = .ok (.invokestatic 36, 3) := by decide +kernel
theorem dX1_read_5 : decode cX1_read 5 = .ok (.ifCond .ne 21, 3) := by decide +kernel
theorem dX1_read_8 : decode cX1_read 8 = .ok (.aload_n 0, 1) := by decide +kernel
theorem dX1_read_9 : decode cX1_read 9 = .ok (.getfield 32, 3) := by decide +kernel
theorem dX1_read_12 : decode cX1_read 12 = .ok (.bipush 7, 2) := by decide +kernel
theorem dX1_read_14 : decode cX1_read 14 = .ok (.if_icmp .eq 12, 3) := by decide +kernel
theorem dX1_read_17 : decode cX1_read 17 = .ok (.aload_n 0, 1) := by decide +kernel
theorem dX1_read_18 : decode cX1_read 18 = .ok (.iload_n 2, 1) := by decide +kernel
theorem dX1_read_19 : decode cX1_read 19 = .ok (.iload_n 3, 1) := by decide +kernel
theorem dX1_read_20 : decode cX1_read 20 = .ok (.invokevirtual 44, 3) := by decide +kernel
theorem dX1_read_23 : decode cX1_read 23 = .ok (.ifCond .eq 5, 3) := by decide +kernel
theorem dX1_read_26 : decode cX1_read 26 = .ok (.iconst (-1), 1) := by decide +kernel
theorem dX1_read_27 : decode cX1_read 27 = .ok (.ireturn, 1) := by decide +kernel
theorem dX1_read_28 : decode cX1_read 28 = .ok (.aload_n 0, 1) := by decide +kernel
theorem dX1_read_29 : decode cX1_read 29 = .ok (.iload_n 1, 1) := by decide +kernel
theorem dX1_read_30 : decode cX1_read 30 = .ok (.iload_n 2, 1) := by decide +kernel
theorem dX1_read_31 : decode cX1_read 31 = .ok (.iconst 0, 1) := by decide +kernel
theorem dX1_read_32 : decode cX1_read 32 = .ok (.iload_n 3, 1) := by decide +kernel
theorem dX1_read_33 : decode cX1_read 33 = .ok (.invokevirtual 40, 3) := by decide +kernel
theorem dX1_read_36 : decode cX1_read 36 = .ok (.aload_n 0, 1) := by decide +kernel
theorem dX1_read_37 : decode cX1_read 37 = .ok (.dup, 1) := by decide +kernel
theorem dX1_read_38 : decode cX1_read 38 = .ok (.getfield 32, 3) := by decide +kernel
theorem dX1_read_41 : decode cX1_read 41 = .ok (.iconst 1, 1) := by decide +kernel
theorem dX1_read_42 : decode cX1_read 42 = .ok (.iadd, 1) := by decide +kernel
theorem dX1_read_43 : decode cX1_read 43 = .ok (.putfield 32, 3) := by decide +kernel
theorem dX1_read_46 : decode cX1_read 46 = .ok (.aload_n 0, 1) := by decide +kernel
theorem dX1_read_47 : decode cX1_read 47 = .ok (.getfield 32, 3) := by decide +kernel
theorem dX1_read_50 : decode cX1_read 50 = .ok (.iconst 1, 1) := by decide +kernel
theorem dX1_read_51 : decode cX1_read 51 = .ok (.isub, 1) := by decide +kernel
theorem dX1_read_52 : decode cX1_read 52 = .ok (.ireturn, 1) := by decide +kernel
abbrev cX1_noSource : ByteArray := prog_3_method_5_code
def yX1_noSource : MethodName := ⟨RX1, "noSource", "(II)Z"⟩
theorem dX1_noSource_0 : decode cX1_noSource 0 = .ok (.iload_n 2, 1) := by decide +kernel
theorem dX1_noSource_1 : decode cX1_noSource 1 = .ok (.iconst (-1), 1) := by decide +kernel
theorem dX1_noSource_2 : decode cX1_noSource 2 = .ok (.if_icmp .ne 5, 3) := by decide +kernel
theorem dX1_noSource_5 : decode cX1_noSource 5 = .ok (.iconst 0, 1) := by decide +kernel
theorem dX1_noSource_6 : decode cX1_noSource 6 = .ok (.ireturn, 1) := by decide +kernel
theorem dX1_noSource_7 : decode cX1_noSource 7 = .ok (.iload_n 2, 1) := by decide +kernel
theorem dX1_noSource_8 : decode cX1_noSource 8 = .ok (.ifCond .lt 30, 3) := by decide +kernel
theorem dX1_noSource_11 : decode cX1_noSource 11 = .ok (.iload_n 2, 1) := by decide +kernel
theorem dX1_noSource_12 : decode cX1_noSource 12 = .ok (.aload_n 0, 1) := by decide +kernel
theorem dX1_noSource_13 : decode cX1_noSource 13 = .ok (.getfield 32, 3) := by decide +kernel
theorem dX1_noSource_16 : decode cX1_noSource 16 = .ok (.if_icmp .ge 22, 3) := by decide +kernel
theorem dX1_noSource_19 : decode cX1_noSource 19 = .ok (.aload_n 0, 1) := by decide +kernel
theorem dX1_noSource_20 : decode cX1_noSource 20 = .ok (.getfield 16, 3) := by decide +kernel
theorem dX1_noSource_23 : decode cX1_noSource 23 = .ok (.iload_n 2, 1) := by decide +kernel
theorem dX1_noSource_24 : decode cX1_noSource 24 = .ok (.baload, 1) := by decide +kernel
theorem dX1_noSource_25 : decode cX1_noSource 25 = .ok (.ifCond .eq 13, 3) := by decide +kernel
theorem dX1_noSource_28 : decode cX1_noSource 28 = .ok (.aload_n 0, 1) := by decide +kernel
theorem dX1_noSource_29 : decode cX1_noSource 29 = .ok (.getfield 13, 3) := by decide +kernel
theorem dX1_noSource_32 : decode cX1_noSource 32 = .ok (.iload_n 2, 1) := by decide +kernel
theorem dX1_noSource_33 : decode cX1_noSource 33 = .ok (.iaload, 1) := by decide +kernel
theorem dX1_noSource_34 : decode cX1_noSource 34 = .ok (.iload_n 1, 1) := by decide +kernel
theorem dX1_noSource_35 : decode cX1_noSource 35 = .ok (.if_icmp .eq 7, 3) := by decide +kernel
theorem dX1_noSource_38 : decode cX1_noSource 38 = .ok (.iconst 1, 1) := by decide +kernel
theorem dX1_noSource_39 : decode cX1_noSource 39 = .ok (.goto 4, 3) := by decide +kernel
theorem dX1_noSource_42 : decode cX1_noSource 42 = .ok (.iconst 0, 1) := by decide +kernel
theorem dX1_noSource_43 : decode cX1_noSource 43 = .ok (.ireturn, 1) := by decide +kernel
abbrev cX1_back : ByteArray := prog_3_method_7_code
def yX1_back : MethodName := ⟨RX1, "back", "()I"⟩
theorem dX1_back_0 : decode cX1_back 0 = .ok (.aload_n 0, 1) := by decide +kernel
theorem dX1_back_1 : decode cX1_back 1 = .ok (.getfield 32, 3) := by decide +kernel
theorem dX1_back_4 : decode cX1_back 4 = .ok (.ifCond .ne 5, 3) := by decide +kernel
theorem dX1_back_7 : decode cX1_back 7 = .ok (.iconst (-1), 1) := by decide +kernel
theorem dX1_back_8 : decode cX1_back 8 = .ok (.ireturn, 1) := by decide +kernel
theorem dX1_back_9 : decode cX1_back 9 = .ok (.aload_n 0, 1) := by decide +kernel
theorem dX1_back_10 : decode cX1_back 10 = .ok (.dup, 1) := by decide +kernel
theorem dX1_back_11 : decode cX1_back 11 = .ok (.getfield 32, 3) := by decide +kernel
theorem dX1_back_14 : decode cX1_back 14 = .ok (.iconst 1, 1) := by decide +kernel
theorem dX1_back_15 : decode cX1_back 15 = .ok (.isub, 1) := by decide +kernel
theorem dX1_back_16 : decode cX1_back 16 = .ok (.putfield 32, 3) := by decide +kernel
theorem dX1_back_19 : decode cX1_back 19 = .ok (.aload_n 0, 1) := by decide +kernel
theorem dX1_back_20 : decode cX1_back 20 = .ok (.getfield 32, 3) := by decide +kernel
theorem dX1_back_23 : decode cX1_back 23 = .ok (.ireturn, 1) := by decide +kernel
abbrev cX1_before : ByteArray := prog_3_method_9_code
def yX1_before : MethodName := ⟨RX1, "before", "(II)I"⟩
theorem dX1_before_0 : decode cX1_before 0 = .ok (.aload_n 0, 1) := by decide +kernel
theorem dX1_before_1 : decode cX1_before 1 = .ok (.iload_n 1, 1) := by decide +kernel
theorem dX1_before_2 : decode cX1_before 2 = .ok (.invokevirtual 47, 3) := by decide +kernel
theorem dX1_before_5 : decode cX1_before 5 = .ok (.ifCond .ne 11, 3) := by decide +kernel
theorem dX1_before_8 : decode cX1_before 8 = .ok (.aload_n 0, 1) := by decide +kernel
theorem dX1_before_9 : decode cX1_before 9 = .ok (.iload_n 2, 1) := by decide +kernel
theorem dX1_before_10 : decode cX1_before 10 = .ok (.invokevirtual 47, 3) := by decide +kernel
theorem dX1_before_13 : decode cX1_before 13 = .ok (.ifCond .eq 5, 3) := by decide +kernel
theorem dX1_before_16 : decode cX1_before 16 = .ok (.iconst (-1), 1) := by decide +kernel
theorem dX1_before_17 : decode cX1_before 17 = .ok (.ireturn, 1) := by decide +kernel
theorem dX1_before_18 : decode cX1_before 18 = .ok (.aload_n 0, 1) := by decide +kernel
theorem dX1_before_19 : decode cX1_before 19 = .ok (.getfield 23, 3) := by decide +kernel
theorem dX1_before_22 : decode cX1_before 22 = .ok (.iload_n 2, 1) := by decide +kernel
theorem dX1_before_23 : decode cX1_before 23 = .ok (.iaload, 1) := by decide +kernel
theorem dX1_before_24 : decode cX1_before 24 = .ok (.iload_n 1, 1) := by decide +kernel
theorem dX1_before_25 : decode cX1_before 25 = .ok (.ishr, 1) := by decide +kernel
theorem dX1_before_26 : decode cX1_before 26 = .ok (.iconst 1, 1) := by decide +kernel
theorem dX1_before_27 : decode cX1_before 27 = .ok (.iand, 1) := by decide +kernel
theorem dX1_before_28 : decode cX1_before 28 = .ok (.ireturn, 1) := by decide +kernel
abbrev cX1_missing : ByteArray := prog_3_method_8_code
def yX1_missing : MethodName := ⟨RX1, "missing", "(I)Z"⟩
theorem dX1_missing_0 : decode cX1_missing 0 = .ok (.iload_n 1, 1) := by decide +kernel
theorem dX1_missing_1 : decode cX1_missing 1 = .ok (.ifCond .lt 11, 3) := by decide +kernel
theorem dX1_missing_4 : decode cX1_missing 4 = .ok (.iload_n 1, 1) := by decide +kernel
theorem dX1_missing_5 : decode cX1_missing 5 = .ok (.aload_n 0, 1) := by decide +kernel
theorem dX1_missing_6 : decode cX1_missing 6 = .ok (.getfield 32, 3) := by decide +kernel
theorem dX1_missing_9 : decode cX1_missing 9 = .ok (.if_icmp .lt 7, 3) := by decide +kernel
theorem dX1_missing_12 : decode cX1_missing 12 = .ok (.iconst 1, 1) := by decide +kernel
theorem dX1_missing_13 : decode cX1_missing 13 = .ok (.goto 4, 3) := by decide +kernel
theorem dX1_missing_16 : decode cX1_missing 16 = .ok (.iconst 0, 1) := by decide +kernel
theorem dX1_missing_17 : decode cX1_missing 17 = .ok (.ireturn, 1) := by decide +kernel
abbrev cX1_weak : ByteArray := prog_3_method_12_code
def yX1_weak : MethodName := ⟨RX1, "weak", "(I)I"⟩
theorem dX1_weak_0 : decode cX1_weak 0 = .ok (.aload_n 0, 1) := by decide +kernel
theorem dX1_weak_1 : decode cX1_weak 1 = .ok (.iload_n 1, 1) := by decide +kernel
theorem dX1_weak_2 : decode cX1_weak 2 = .ok (.invokevirtual 47, 3) := by decide +kernel
theorem dX1_weak_5 : decode cX1_weak 5 = .ok (.ifCond .eq 5, 3) := by decide +kernel
theorem dX1_weak_8 : decode cX1_weak 8 = .ok (.iconst (-1), 1) := by decide +kernel
theorem dX1_weak_9 : decode cX1_weak 9 = .ok (.ireturn, 1) := by decide +kernel
theorem dX1_weak_10 : decode cX1_weak 10 = .ok (.aload_n 0, 1) := by decide +kernel
theorem dX1_weak_11 : decode cX1_weak 11 = .ok (.getfield 16, 3) := by decide +kernel
theorem dX1_weak_14 : decode cX1_weak 14 = .ok (.iload_n 1, 1) := by decide +kernel
theorem dX1_weak_15 : decode cX1_weak 15 = .ok (.baload, 1) := by decide +kernel
theorem dX1_weak_16 : decode cX1_weak 16 = .ok (.ifCond .ne 12, 3) := by decide +kernel
theorem dX1_weak_19 : decode cX1_weak 19 = .ok (.aload_n 0, 1) := by decide +kernel
theorem dX1_weak_20 : decode cX1_weak 20 = .ok (.iload_n 1, 1) := by decide +kernel
theorem dX1_weak_21 : decode cX1_weak 21 = .ok (.iconst 0, 1) := by decide +kernel
theorem dX1_weak_22 : decode cX1_weak 22 = .ok (.invokevirtual 55, 3) := by decide +kernel
theorem dX1_weak_25 : decode cX1_weak 25 = .ok (.ifCond .eq 7, 3) := by decide +kernel
theorem dX1_weak_28 : decode cX1_weak 28 = .ok (.iconst 1, 1) := by decide +kernel
theorem dX1_weak_29 : decode cX1_weak 29 = .ok (.goto 4, 3) := by decide +kernel
theorem dX1_weak_32 : decode cX1_weak 32 = .ok (.iconst 0, 1) := by decide +kernel
theorem dX1_weak_33 : decode cX1_weak 33 = .ok (.ireturn, 1) := by decide +kernel
abbrev cX1_hasRow : ByteArray := prog_3_method_11_code
def yX1_hasRow : MethodName := ⟨RX1, "hasRow", "(IZ)Z"⟩
theorem dX1_hasRow_0 : decode cX1_hasRow 0 = .ok (.aload_n 0, 1) := by decide +kernel
theorem dX1_hasRow_1 : decode cX1_hasRow 1 = .ok (.getfield 23, 3) := by decide +kernel
theorem dX1_hasRow_4 : decode cX1_hasRow 4 = .ok (.iload_n 1, 1) := by decide +kernel
theorem dX1_hasRow_5 : decode cX1_hasRow 5 = .ok (.iaload, 1) := by decide +kernel
theorem dX1_hasRow_6 : decode cX1_hasRow 6 = .ok (.iconst 1, 1) := by decide +kernel
theorem dX1_hasRow_7 : decode cX1_hasRow 7 = .ok (.iload_n 1, 1) := by decide +kernel
theorem dX1_hasRow_8 : decode cX1_hasRow 8 = .ok (.ishl, 1) := by decide +kernel
theorem dX1_hasRow_9 : decode cX1_hasRow 9 = .ok (.ior, 1) := by decide +kernel
theorem dX1_hasRow_10 : decode cX1_hasRow 10 = .ok (.istore_n 3, 1) := by decide +kernel
theorem dX1_hasRow_11 : decode cX1_hasRow 11 = .ok (.iconst 0, 1) := by decide +kernel
theorem dX1_hasRow_12 : decode cX1_hasRow 12 = .ok (.istore 4, 2) := by decide +kernel
theorem dX1_hasRow_14 : decode cX1_hasRow 14 = .ok (.iload 4, 2) := by decide +kernel
theorem dX1_hasRow_16 : decode cX1_hasRow 16 = .ok (.sipush 10368, 3) := by decide +kernel
theorem dX1_hasRow_19 : decode cX1_hasRow 19 = .ok (.if_icmp .ge 17, 3) := by decide +kernel
theorem dX1_hasRow_22 : decode cX1_hasRow 22 = .ok (.aload_n 0, 1) := by decide +kernel
theorem dX1_hasRow_23 : decode cX1_hasRow 23 = .ok (.getfield 26, 3) := by decide +kernel
theorem dX1_hasRow_26 : decode cX1_hasRow 26 = .ok (.iload 4, 2) := by decide +kernel
theorem dX1_hasRow_28 : decode cX1_hasRow 28 = .ok (.iconst 0, 1) := by decide +kernel
theorem dX1_hasRow_29 : decode cX1_hasRow 29 = .ok (.bastore, 1) := by decide +kernel
theorem dX1_hasRow_30 : decode cX1_hasRow 30 = .ok (.iinc 4 1, 3) := by decide +kernel
theorem dX1_hasRow_33 : decode cX1_hasRow 33 = .ok (.goto (-19), 3) := by decide +kernel
theorem dX1_hasRow_36 : decode cX1_hasRow 36 = .ok (.aload_n 0, 1) := by decide +kernel
theorem dX1_hasRow_37 : decode cX1_hasRow 37 = .ok (.getfield 26, 3) := by decide +kernel
theorem dX1_hasRow_40 : decode cX1_hasRow 40 = .ok (.bipush 80, 2) := by decide +kernel
theorem dX1_hasRow_42 : decode cX1_hasRow 42 = .ok (.iconst 1, 1) := by decide +kernel
theorem dX1_hasRow_43 : decode cX1_hasRow 43 = .ok (.bastore, 1) := by decide +kernel
theorem dX1_hasRow_44 : decode cX1_hasRow 44 = .ok (.iconst 0, 1) := by decide +kernel
theorem dX1_hasRow_45 : decode cX1_hasRow 45 = .ok (.istore 4, 2) := by decide +kernel
theorem dX1_hasRow_47 : decode cX1_hasRow 47 = .ok (.iload 4, 2) := by decide +kernel
theorem dX1_hasRow_49 : decode cX1_hasRow 49 = .ok (.sipush 10368, 3) := by decide +kernel
theorem dX1_hasRow_52 : decode cX1_hasRow 52 = .ok (.if_icmp .ge 167, 3) := by decide +kernel
theorem dX1_hasRow_55 : decode cX1_hasRow 55 = .ok (.iload 4, 2) := by decide +kernel
theorem dX1_hasRow_57 : decode cX1_hasRow 57 = .ok (.bipush 81, 2) := by decide +kernel
theorem dX1_hasRow_59 : decode cX1_hasRow 59 = .ok (.idiv, 1) := by decide +kernel
theorem dX1_hasRow_60 : decode cX1_hasRow 60 = .ok (.istore 5, 2) := by decide +kernel
theorem dX1_hasRow_62 : decode cX1_hasRow 62 = .ok (.iconst 0, 1) := by decide +kernel
theorem dX1_hasRow_63 : decode cX1_hasRow 63 = .ok (.istore 6, 2) := by decide +kernel
theorem dX1_hasRow_65 : decode cX1_hasRow 65 = .ok (.iload 6, 2) := by decide +kernel
theorem dX1_hasRow_67 : decode cX1_hasRow 67 = .ok (.aload_n 0, 1) := by decide +kernel
theorem dX1_hasRow_68 : decode cX1_hasRow 68 = .ok (.getfield 32, 3) := by decide +kernel
theorem dX1_hasRow_71 : decode cX1_hasRow 71 = .ok (.if_icmp .ge 142, 3) := by decide +kernel
theorem dX1_hasRow_74 : decode cX1_hasRow 74 = .ok (.aload_n 0, 1) := by decide +kernel
theorem dX1_hasRow_75 : decode cX1_hasRow 75 = .ok (.getfield 26, 3) := by decide +kernel
theorem dX1_hasRow_78 : decode cX1_hasRow 78 = .ok (.iload 4, 2) := by decide +kernel
theorem dX1_hasRow_80 : decode cX1_hasRow 80 = .ok (.baload, 1) := by decide +kernel
theorem dX1_hasRow_81 : decode cX1_hasRow 81 = .ok (.ifCond .eq 132, 3) := by decide +kernel
theorem dX1_hasRow_84 : decode cX1_hasRow 84 = .ok (.iload_n 3, 1) := by decide +kernel
theorem dX1_hasRow_85 : decode cX1_hasRow 85 = .ok (.iload 6, 2) := by decide +kernel
theorem dX1_hasRow_87 : decode cX1_hasRow 87 = .ok (.ishr, 1) := by decide +kernel
theorem dX1_hasRow_88 : decode cX1_hasRow 88 = .ok (.iconst 1, 1) := by decide +kernel
theorem dX1_hasRow_89 : decode cX1_hasRow 89 = .ok (.iand, 1) := by decide +kernel
theorem dX1_hasRow_90 : decode cX1_hasRow 90 = .ok (.iconst 1, 1) := by decide +kernel
theorem dX1_hasRow_91 : decode cX1_hasRow 91 = .ok (.if_icmp .ne 32, 3) := by decide +kernel
theorem dX1_hasRow_94 : decode cX1_hasRow 94 = .ok (.iload 5, 2) := by decide +kernel
theorem dX1_hasRow_96 : decode cX1_hasRow 96 = .ok (.iload 6, 2) := by decide +kernel
theorem dX1_hasRow_98 : decode cX1_hasRow 98 = .ok (.ishr, 1) := by decide +kernel
theorem dX1_hasRow_99 : decode cX1_hasRow 99 = .ok (.iconst 1, 1) := by decide +kernel
theorem dX1_hasRow_100 : decode cX1_hasRow 100 = .ok (.iand, 1) := by decide +kernel
theorem dX1_hasRow_101 : decode cX1_hasRow 101 = .ok (.ifCond .ne 22, 3) := by decide +kernel
theorem dX1_hasRow_104 : decode cX1_hasRow 104 = .ok (.aload_n 0, 1) := by decide +kernel
theorem dX1_hasRow_105 : decode cX1_hasRow 105 = .ok (.getfield 23, 3) := by decide +kernel
theorem dX1_hasRow_108 : decode cX1_hasRow 108 = .ok (.iload 6, 2) := by decide +kernel
theorem dX1_hasRow_110 : decode cX1_hasRow 110 = .ok (.iaload, 1) := by decide +kernel
theorem dX1_hasRow_111 : decode cX1_hasRow 111 = .ok (.iload 5, 2) := by decide +kernel
theorem dX1_hasRow_113 : decode cX1_hasRow 113 = .ok (.iconst (-1), 1) := by decide +kernel
theorem dX1_hasRow_114 : decode cX1_hasRow 114 = .ok (.ixor, 1) := by decide +kernel
theorem dX1_hasRow_115 : decode cX1_hasRow 115 = .ok (.iand, 1) := by decide +kernel
theorem dX1_hasRow_116 : decode cX1_hasRow 116 = .ok (.ifCond .ne 7, 3) := by decide +kernel
theorem dX1_hasRow_119 : decode cX1_hasRow 119 = .ok (.iconst 1, 1) := by decide +kernel
theorem dX1_hasRow_120 : decode cX1_hasRow 120 = .ok (.goto 4, 3) := by decide +kernel
theorem dX1_hasRow_123 : decode cX1_hasRow 123 = .ok (.iconst 0, 1) := by decide +kernel
theorem dX1_hasRow_124 : decode cX1_hasRow 124 = .ok (.istore 7, 2) := by decide +kernel
theorem dX1_hasRow_126 : decode cX1_hasRow 126 = .ok (.iload 6, 2) := by decide +kernel
theorem dX1_hasRow_128 : decode cX1_hasRow 128 = .ok (.iload_n 1, 1) := by decide +kernel
theorem dX1_hasRow_129 : decode cX1_hasRow 129 = .ok (.if_icmp .eq 23, 3) := by decide +kernel
theorem dX1_hasRow_132 : decode cX1_hasRow 132 = .ok (.iload_n 2, 1) := by decide +kernel
theorem dX1_hasRow_133 : decode cX1_hasRow 133 = .ok (.ifCond .eq 23, 3) := by decide +kernel
theorem dX1_hasRow_136 : decode cX1_hasRow 136 = .ok (.aload_n 0, 1) := by decide +kernel
theorem dX1_hasRow_137 : decode cX1_hasRow 137 = .ok (.getfield 7, 3) := by decide +kernel
theorem dX1_hasRow_140 : decode cX1_hasRow 140 = .ok (.iload 6, 2) := by decide +kernel
theorem dX1_hasRow_142 : decode cX1_hasRow 142 = .ok (.iaload, 1) := by decide +kernel
theorem dX1_hasRow_143 : decode cX1_hasRow 143 = .ok (.aload_n 0, 1) := by decide +kernel
theorem dX1_hasRow_144 : decode cX1_hasRow 144 = .ok (.getfield 7, 3) := by decide +kernel
theorem dX1_hasRow_147 : decode cX1_hasRow 147 = .ok (.iload_n 1, 1) := by decide +kernel
theorem dX1_hasRow_148 : decode cX1_hasRow 148 = .ok (.iaload, 1) := by decide +kernel
theorem dX1_hasRow_149 : decode cX1_hasRow 149 = .ok (.if_icmp .ne 7, 3) := by decide +kernel
theorem dX1_hasRow_152 : decode cX1_hasRow 152 = .ok (.iconst 1, 1) := by decide +kernel
theorem dX1_hasRow_153 : decode cX1_hasRow 153 = .ok (.goto 4, 3) := by decide +kernel
theorem dX1_hasRow_156 : decode cX1_hasRow 156 = .ok (.iconst 0, 1) := by decide +kernel
theorem dX1_hasRow_157 : decode cX1_hasRow 157 = .ok (.istore 8, 2) := by decide +kernel
theorem dX1_hasRow_159 : decode cX1_hasRow 159 = .ok (.iload 7, 2) := by decide +kernel
theorem dX1_hasRow_161 : decode cX1_hasRow 161 = .ok (.ifCond .eq 19, 3) := by decide +kernel
theorem dX1_hasRow_164 : decode cX1_hasRow 164 = .ok (.aload_n 0, 1) := by decide +kernel
theorem dX1_hasRow_165 : decode cX1_hasRow 165 = .ok (.iload 4, 2) := by decide +kernel
theorem dX1_hasRow_167 : decode cX1_hasRow 167 = .ok (.bipush 81, 2) := by decide +kernel
theorem dX1_hasRow_169 : decode cX1_hasRow 169 = .ok (.irem, 1) := by decide +kernel
theorem dX1_hasRow_170 : decode cX1_hasRow 170 = .ok (.iload 6, 2) := by decide +kernel
theorem dX1_hasRow_172 : decode cX1_hasRow 172 = .ok (.iload 8, 2) := by decide +kernel
theorem dX1_hasRow_174 : decode cX1_hasRow 174 = .ok (.invokevirtual 51, 3) := by decide +kernel
theorem dX1_hasRow_177 : decode cX1_hasRow 177 = .ok (.goto 4, 3) := by decide +kernel
theorem dX1_hasRow_180 : decode cX1_hasRow 180 = .ok (.iconst (-1), 1) := by decide +kernel
theorem dX1_hasRow_181 : decode cX1_hasRow 181 = .ok (.istore 9, 2) := by decide +kernel
theorem dX1_hasRow_183 : decode cX1_hasRow 183 = .ok (.iload 9, 2) := by decide +kernel
theorem dX1_hasRow_185 : decode cX1_hasRow 185 = .ok (.ifCond .lt 22, 3) := by decide +kernel
theorem dX1_hasRow_188 : decode cX1_hasRow 188 = .ok (.aload_n 0, 1) := by decide +kernel
theorem dX1_hasRow_189 : decode cX1_hasRow 189 = .ok (.getfield 26, 3) := by decide +kernel
theorem dX1_hasRow_192 : decode cX1_hasRow 192 = .ok (.bipush 81, 2) := by decide +kernel
theorem dX1_hasRow_194 : decode cX1_hasRow 194 = .ok (.iload 5, 2) := by decide +kernel
theorem dX1_hasRow_196 : decode cX1_hasRow 196 = .ok (.iconst 1, 1) := by decide +kernel
theorem dX1_hasRow_197 : decode cX1_hasRow 197 = .ok (.iload 6, 2) := by decide +kernel
theorem dX1_hasRow_199 : decode cX1_hasRow 199 = .ok (.ishl, 1) := by decide +kernel
theorem dX1_hasRow_200 : decode cX1_hasRow 200 = .ok (.ior, 1) := by decide +kernel
theorem dX1_hasRow_201 : decode cX1_hasRow 201 = .ok (.imul, 1) := by decide +kernel
theorem dX1_hasRow_202 : decode cX1_hasRow 202 = .ok (.iload 9, 2) := by decide +kernel
theorem dX1_hasRow_204 : decode cX1_hasRow 204 = .ok (.iadd, 1) := by decide +kernel
theorem dX1_hasRow_205 : decode cX1_hasRow 205 = .ok (.iconst 1, 1) := by decide +kernel
theorem dX1_hasRow_206 : decode cX1_hasRow 206 = .ok (.bastore, 1) := by decide +kernel
theorem dX1_hasRow_207 : decode cX1_hasRow 207 = .ok (.iinc 6 1, 3) := by decide +kernel
theorem dX1_hasRow_210 : decode cX1_hasRow 210 = .ok (.goto (-145), 3) := by decide +kernel
theorem dX1_hasRow_213 : decode cX1_hasRow 213 = .ok (.iinc 4 1, 3) := by decide +kernel
theorem dX1_hasRow_216 : decode cX1_hasRow 216 = .ok (.goto (-169), 3) := by decide +kernel
theorem dX1_hasRow_219 : decode cX1_hasRow 219 = .ok (.iconst 0, 1) := by decide +kernel
theorem dX1_hasRow_220 : decode cX1_hasRow 220 = .ok (.istore 4, 2) := by decide +kernel
theorem dX1_hasRow_222 : decode cX1_hasRow 222 = .ok (.iload 4, 2) := by decide +kernel
theorem dX1_hasRow_224 : decode cX1_hasRow 224 = .ok (.bipush 81, 2) := by decide +kernel
theorem dX1_hasRow_226 : decode cX1_hasRow 226 = .ok (.if_icmp .ge 26, 3) := by decide +kernel
theorem dX1_hasRow_229 : decode cX1_hasRow 229 = .ok (.aload_n 0, 1) := by decide +kernel
theorem dX1_hasRow_230 : decode cX1_hasRow 230 = .ok (.getfield 26, 3) := by decide +kernel
theorem dX1_hasRow_233 : decode cX1_hasRow 233 = .ok (.bipush 81, 2) := by decide +kernel
theorem dX1_hasRow_235 : decode cX1_hasRow 235 = .ok (.iload_n 3, 1) := by decide +kernel
theorem dX1_hasRow_236 : decode cX1_hasRow 236 = .ok (.imul, 1) := by decide +kernel
theorem dX1_hasRow_237 : decode cX1_hasRow 237 = .ok (.iload 4, 2) := by decide +kernel
theorem dX1_hasRow_239 : decode cX1_hasRow 239 = .ok (.iadd, 1) := by decide +kernel
theorem dX1_hasRow_240 : decode cX1_hasRow 240 = .ok (.baload, 1) := by decide +kernel
theorem dX1_hasRow_241 : decode cX1_hasRow 241 = .ok (.ifCond .eq 5, 3) := by decide +kernel
theorem dX1_hasRow_244 : decode cX1_hasRow 244 = .ok (.iconst 1, 1) := by decide +kernel
theorem dX1_hasRow_245 : decode cX1_hasRow 245 = .ok (.ireturn, 1) := by decide +kernel
theorem dX1_hasRow_246 : decode cX1_hasRow 246 = .ok (.iinc 4 1, 3) := by decide +kernel
theorem dX1_hasRow_249 : decode cX1_hasRow 249 = .ok (.goto (-27), 3) := by decide +kernel
theorem dX1_hasRow_252 : decode cX1_hasRow 252 = .ok (.iconst 0, 1) := by decide +kernel
theorem dX1_hasRow_253 : decode cX1_hasRow 253 = .ok (.ireturn, 1) := by decide +kernel
end
section
set_option maxRecDepth 100000
abbrev cX1_after : ByteArray := prog_3_method_10_code
def yX1_after : MethodName := ⟨RX1, "after", "(IIZ)I"⟩
theorem dX1_after_0 : decode cX1_after 0 = .ok (.aload_n 0, 1) := by decide +kernel
theorem dX1_after_1 : decode cX1_after 1 = .ok (.getfield 13, 3) := by decide +kernel
theorem dX1_after_4 : decode cX1_after 4 = .ok (.iload_n 2, 1) := by decide +kernel
theorem dX1_after_5 : decode cX1_after 5 = .ok (.iaload, 1) := by decide +kernel
theorem dX1_after_6 : decode cX1_after 6 = .ok (.ifCond .ne 10, 3) := by decide +kernel
theorem dX1_after_9 : decode cX1_after 9 = .ok (.iload_n 1, 1) := by decide +kernel
theorem dX1_after_10 : decode cX1_after 10 = .ok (.bipush 9, 2) := by decide +kernel
theorem dX1_after_12 : decode cX1_after 12 = .ok (.idiv, 1) := by decide +kernel
theorem dX1_after_13 : decode cX1_after 13 = .ok (.goto 7, 3) := by decide +kernel
theorem dX1_after_16 : decode cX1_after 16 = .ok (.iload_n 1, 1) := by decide +kernel
theorem dX1_after_17 : decode cX1_after 17 = .ok (.bipush 9, 2) := by decide +kernel
theorem dX1_after_19 : decode cX1_after 19 = .ok (.irem, 1) := by decide +kernel
theorem dX1_after_20 : decode cX1_after 20 = .ok (.istore 4, 2) := by decide +kernel
theorem dX1_after_22 : decode cX1_after 22 = .ok (.aload_n 0, 1) := by decide +kernel
theorem dX1_after_23 : decode cX1_after 23 = .ok (.getfield 16, 3) := by decide +kernel
theorem dX1_after_26 : decode cX1_after 26 = .ok (.iload_n 2, 1) := by decide +kernel
theorem dX1_after_27 : decode cX1_after 27 = .ok (.baload, 1) := by decide +kernel
theorem dX1_after_28 : decode cX1_after 28 = .ok (.ifCond .ne 38, 3) := by decide +kernel
theorem dX1_after_31 : decode cX1_after 31 = .ok (.iload_n 3, 1) := by decide +kernel
theorem dX1_after_32 : decode cX1_after 32 = .ok (.ifCond .eq 32, 3) := by decide +kernel
theorem dX1_after_35 : decode cX1_after 35 = .ok (.iload 4, 2) := by decide +kernel
theorem dX1_after_37 : decode cX1_after 37 = .ok (.aload_n 0, 1) := by decide +kernel
theorem dX1_after_38 : decode cX1_after 38 = .ok (.getfield 20, 3) := by decide +kernel
theorem dX1_after_41 : decode cX1_after 41 = .ok (.iload_n 2, 1) := by decide +kernel
theorem dX1_after_42 : decode cX1_after 42 = .ok (.iaload, 1) := by decide +kernel
theorem dX1_after_43 : decode cX1_after 43 = .ok (.ifCond .ge 8, 3) := by decide +kernel
theorem dX1_after_46 : decode cX1_after 46 = .ok (.bipush 8, 2) := by decide +kernel
theorem dX1_after_48 : decode cX1_after 48 = .ok (.goto 9, 3) := by decide +kernel
theorem dX1_after_51 : decode cX1_after 51 = .ok (.aload_n 0, 1) := by decide +kernel
theorem dX1_after_52 : decode cX1_after 52 = .ok (.getfield 20, 3) := by decide +kernel
theorem dX1_after_55 : decode cX1_after 55 = .ok (.iload_n 2, 1) := by decide +kernel
theorem dX1_after_56 : decode cX1_after 56 = .ok (.iaload, 1) := by decide +kernel
theorem dX1_after_57 : decode cX1_after 57 = .ok (.if_icmp .eq 7, 3) := by decide +kernel
theorem dX1_after_60 : decode cX1_after 60 = .ok (.iconst (-1), 1) := by decide +kernel
theorem dX1_after_61 : decode cX1_after 61 = .ok (.goto 4, 3) := by decide +kernel
theorem dX1_after_64 : decode cX1_after 64 = .ok (.iload_n 1, 1) := by decide +kernel
theorem dX1_after_65 : decode cX1_after 65 = .ok (.ireturn, 1) := by decide +kernel
theorem dX1_after_66 : decode cX1_after 66 = .ok (.aload_n 0, 1) := by decide +kernel
theorem dX1_after_67 : decode cX1_after 67 = .ok (.getfield 13, 3) := by decide +kernel
theorem dX1_after_70 : decode cX1_after 70 = .ok (.iload_n 2, 1) := by decide +kernel
theorem dX1_after_71 : decode cX1_after 71 = .ok (.iaload, 1) := by decide +kernel
theorem dX1_after_72 : decode cX1_after 72 = .ok (.ifCond .ne 15, 3) := by decide +kernel
theorem dX1_after_75 : decode cX1_after 75 = .ok (.bipush 9, 2) := by decide +kernel
theorem dX1_after_77 : decode cX1_after 77 = .ok (.iload_n 2, 1) := by decide +kernel
theorem dX1_after_78 : decode cX1_after 78 = .ok (.imul, 1) := by decide +kernel
theorem dX1_after_79 : decode cX1_after 79 = .ok (.iload_n 1, 1) := by decide +kernel
theorem dX1_after_80 : decode cX1_after 80 = .ok (.bipush 9, 2) := by decide +kernel
theorem dX1_after_82 : decode cX1_after 82 = .ok (.irem, 1) := by decide +kernel
theorem dX1_after_83 : decode cX1_after 83 = .ok (.iadd, 1) := by decide +kernel
theorem dX1_after_84 : decode cX1_after 84 = .ok (.goto 12, 3) := by decide +kernel
theorem dX1_after_87 : decode cX1_after 87 = .ok (.iload_n 1, 1) := by decide +kernel
theorem dX1_after_88 : decode cX1_after 88 = .ok (.bipush 9, 2) := by decide +kernel
theorem dX1_after_90 : decode cX1_after 90 = .ok (.idiv, 1) := by decide +kernel
theorem dX1_after_91 : decode cX1_after 91 = .ok (.bipush 9, 2) := by decide +kernel
theorem dX1_after_93 : decode cX1_after 93 = .ok (.imul, 1) := by decide +kernel
theorem dX1_after_94 : decode cX1_after 94 = .ok (.iload_n 2, 1) := by decide +kernel
theorem dX1_after_95 : decode cX1_after 95 = .ok (.iadd, 1) := by decide +kernel
theorem dX1_after_96 : decode cX1_after 96 = .ok (.ireturn, 1) := by decide +kernel
abbrev cX1_strong : ByteArray := prog_3_method_13_code
def yX1_strong : MethodName := ⟨RX1, "strong", "(I)I"⟩
theorem dX1_strong_0 : decode cX1_strong 0 = .ok (.aload_n 0, 1) := by decide +kernel
theorem dX1_strong_1 : decode cX1_strong 1 = .ok (.iload_n 1, 1) := by decide +kernel
theorem dX1_strong_2 : decode cX1_strong 2 = .ok (.invokevirtual 47, 3) := by decide +kernel
theorem dX1_strong_5 : decode cX1_strong 5 = .ok (.ifCond .eq 5, 3) := by decide +kernel
theorem dX1_strong_8 : decode cX1_strong 8 = .ok (.iconst (-1), 1) := by decide +kernel
theorem dX1_strong_9 : decode cX1_strong 9 = .ok (.ireturn, 1) := by decide +kernel
theorem dX1_strong_10 : decode cX1_strong 10 = .ok (.aload_n 0, 1) := by decide +kernel
theorem dX1_strong_11 : decode cX1_strong 11 = .ok (.iload_n 1, 1) := by decide +kernel
theorem dX1_strong_12 : decode cX1_strong 12 = .ok (.iconst 1, 1) := by decide +kernel
theorem dX1_strong_13 : decode cX1_strong 13 = .ok (.invokevirtual 55, 3) := by decide +kernel
theorem dX1_strong_16 : decode cX1_strong 16 = .ok (.ifCond .eq 7, 3) := by decide +kernel
theorem dX1_strong_19 : decode cX1_strong 19 = .ok (.iconst 1, 1) := by decide +kernel
theorem dX1_strong_20 : decode cX1_strong 20 = .ok (.goto 4, 3) := by decide +kernel
theorem dX1_strong_23 : decode cX1_strong 23 = .ok (.iconst 0, 1) := by decide +kernel
theorem dX1_strong_24 : decode cX1_strong 24 = .ok (.ireturn, 1) := by decide +kernel
abbrev cX1_sound : ByteArray := prog_3_method_18_code
def yX1_sound : MethodName := ⟨RX1, "sound", "()I"⟩
theorem dX1_sound_0 : decode cX1_sound 0 = .ok (.iconst 1, 1) := by decide +kernel
theorem dX1_sound_1 : decode cX1_sound 1 = .ok (.istore_n 1, 1) := by decide +kernel
theorem dX1_sound_2 : decode cX1_sound 2 = .ok (.iconst 1, 1) := by decide +kernel
theorem dX1_sound_3 : decode cX1_sound 3 = .ok (.istore_n 2, 1) := by decide +kernel
theorem dX1_sound_4 : decode cX1_sound 4 = .ok (.iconst 0, 1) := by decide +kernel
theorem dX1_sound_5 : decode cX1_sound 5 = .ok (.istore_n 3, 1) := by decide +kernel
theorem dX1_sound_6 : decode cX1_sound 6 = .ok (.iload_n 3, 1) := by decide +kernel
theorem dX1_sound_7 : decode cX1_sound 7 = .ok (.aload_n 0, 1) := by decide +kernel
theorem dX1_sound_8 : decode cX1_sound 8 = .ok (.getfield 32, 3) := by decide +kernel
theorem dX1_sound_11 : decode cX1_sound 11 = .ok (.if_icmp .ge 29, 3) := by decide +kernel
theorem dX1_sound_14 : decode cX1_sound 14 = .ok (.aload_n 0, 1) := by decide +kernel
theorem dX1_sound_15 : decode cX1_sound 15 = .ok (.iload_n 3, 1) := by decide +kernel
theorem dX1_sound_16 : decode cX1_sound 16 = .ok (.invokevirtual 69, 3) := by decide +kernel
theorem dX1_sound_19 : decode cX1_sound 19 = .ok (.ifCond .ne 5, 3) := by decide +kernel
theorem dX1_sound_22 : decode cX1_sound 22 = .ok (.iconst 0, 1) := by decide +kernel
theorem dX1_sound_23 : decode cX1_sound 23 = .ok (.istore_n 1, 1) := by decide +kernel
theorem dX1_sound_24 : decode cX1_sound 24 = .ok (.aload_n 0, 1) := by decide +kernel
theorem dX1_sound_25 : decode cX1_sound 25 = .ok (.iload_n 3, 1) := by decide +kernel
theorem dX1_sound_26 : decode cX1_sound 26 = .ok (.invokevirtual 73, 3) := by decide +kernel
theorem dX1_sound_29 : decode cX1_sound 29 = .ok (.ifCond .ne 5, 3) := by decide +kernel
theorem dX1_sound_32 : decode cX1_sound 32 = .ok (.iconst 0, 1) := by decide +kernel
theorem dX1_sound_33 : decode cX1_sound 33 = .ok (.istore_n 2, 1) := by decide +kernel
theorem dX1_sound_34 : decode cX1_sound 34 = .ok (.iinc 3 1, 3) := by decide +kernel
theorem dX1_sound_37 : decode cX1_sound 37 = .ok (.goto (-31), 3) := by decide +kernel
theorem dX1_sound_40 : decode cX1_sound 40 = .ok (.iload_n 1, 1) := by decide +kernel
theorem dX1_sound_41 : decode cX1_sound 41 = .ok (.ifCond .eq 7, 3) := by decide +kernel
theorem dX1_sound_44 : decode cX1_sound 44 = .ok (.iconst 1, 1) := by decide +kernel
theorem dX1_sound_45 : decode cX1_sound 45 = .ok (.goto 4, 3) := by decide +kernel
theorem dX1_sound_48 : decode cX1_sound 48 = .ok (.iconst 0, 1) := by decide +kernel
theorem dX1_sound_49 : decode cX1_sound 49 = .ok (.iload_n 2, 1) := by decide +kernel
theorem dX1_sound_50 : decode cX1_sound 50 = .ok (.ifCond .eq 7, 3) := by decide +kernel
theorem dX1_sound_53 : decode cX1_sound 53 = .ok (.iconst 2, 1) := by decide +kernel
theorem dX1_sound_54 : decode cX1_sound 54 = .ok (.goto 4, 3) := by decide +kernel
theorem dX1_sound_57 : decode cX1_sound 57 = .ok (.iconst 0, 1) := by decide +kernel
theorem dX1_sound_58 : decode cX1_sound 58 = .ok (.iadd, 1) := by decide +kernel
theorem dX1_sound_59 : decode cX1_sound 59 = .ok (.aload_n 0, 1) := by decide +kernel
theorem dX1_sound_60 : decode cX1_sound 60 = .ok (.aload_n 0, 1) := by decide +kernel
theorem dX1_sound_61 : decode cX1_sound 61 = .ok (.getfield 32, 3) := by decide +kernel
theorem dX1_sound_64 : decode cX1_sound 64 = .ok (.invokevirtual 76, 3) := by decide +kernel
theorem dX1_sound_67 : decode cX1_sound 67 = .ok (.ifCond .eq 7, 3) := by decide +kernel
theorem dX1_sound_70 : decode cX1_sound 70 = .ok (.iconst 4, 1) := by decide +kernel
theorem dX1_sound_71 : decode cX1_sound 71 = .ok (.goto 4, 3) := by decide +kernel
theorem dX1_sound_74 : decode cX1_sound 74 = .ok (.iconst 0, 1) := by decide +kernel
theorem dX1_sound_75 : decode cX1_sound 75 = .ok (.iadd, 1) := by decide +kernel
theorem dX1_sound_76 : decode cX1_sound 76 = .ok (.ireturn, 1) := by decide +kernel
abbrev cX1_converges : ByteArray := prog_3_method_16_code
def yX1_converges : MethodName := ⟨RX1, "converges", "(I)Z"⟩
theorem dX1_converges_0 : decode cX1_converges 0 = .ok (.iconst 0, 1) := by decide +kernel
theorem dX1_converges_1 : decode cX1_converges 1 = .ok (.istore_n 2, 1) := by decide +kernel
theorem dX1_converges_2 : decode cX1_converges 2 = .ok (.iconst 1, 1) := by decide +kernel
theorem dX1_converges_3 : decode cX1_converges 3 = .ok (.istore_n 3, 1) := by decide +kernel
theorem dX1_converges_4 : decode cX1_converges 4 = .ok (.iconst 0, 1) := by decide +kernel
theorem dX1_converges_5 : decode cX1_converges 5 = .ok (.istore 4, 2) := by decide +kernel
theorem dX1_converges_7 : decode cX1_converges 7 = .ok (.iload 4, 2) := by decide +kernel
theorem dX1_converges_9 : decode cX1_converges 9 = .ok (.iload_n 1, 1) := by decide +kernel
theorem dX1_converges_10 : decode cX1_converges 10 = .ok (.if_icmp .ge 26, 3) := by decide +kernel
theorem dX1_converges_13 : decode cX1_converges 13 = .ok (.aload_n 0, 1) := by decide +kernel
theorem dX1_converges_14 : decode cX1_converges 14 = .ok (.getfield 16, 3) := by decide +kernel
theorem dX1_converges_17 : decode cX1_converges 17 = .ok (.iload 4, 2) := by decide +kernel
theorem dX1_converges_19 : decode cX1_converges 19 = .ok (.baload, 1) := by decide +kernel
theorem dX1_converges_20 : decode cX1_converges 20 = .ok (.ifCond .eq 10, 3) := by decide +kernel
theorem dX1_converges_23 : decode cX1_converges 23 = .ok (.iinc 2 1, 3) := by decide +kernel
theorem dX1_converges_26 : decode cX1_converges 26 = .ok (.iload_n 3, 1) := by decide +kernel
theorem dX1_converges_27 : decode cX1_converges 27 = .ok (.iload_n 2, 1) := by decide +kernel
theorem dX1_converges_28 : decode cX1_converges 28 = .ok (.imul, 1) := by decide +kernel
theorem dX1_converges_29 : decode cX1_converges 29 = .ok (.istore_n 3, 1) := by decide +kernel
theorem dX1_converges_30 : decode cX1_converges 30 = .ok (.iinc 4 1, 3) := by decide +kernel
theorem dX1_converges_33 : decode cX1_converges 33 = .ok (.goto (-26), 3) := by decide +kernel
theorem dX1_converges_36 : decode cX1_converges 36 = .ok (.iconst 0, 1) := by decide +kernel
theorem dX1_converges_37 : decode cX1_converges 37 = .ok (.istore 4, 2) := by decide +kernel
theorem dX1_converges_39 : decode cX1_converges 39 = .ok (.iload 4, 2) := by decide +kernel
theorem dX1_converges_41 : decode cX1_converges 41 = .ok (.iload_n 3, 1) := by decide +kernel
theorem dX1_converges_42 : decode cX1_converges 42 = .ok (.if_icmp .ge 35, 3) := by decide +kernel
theorem dX1_converges_45 : decode cX1_converges 45 = .ok (.aload_n 0, 1) := by decide +kernel
theorem dX1_converges_46 : decode cX1_converges 46 = .ok (.iload_n 2, 1) := by decide +kernel
theorem dX1_converges_47 : decode cX1_converges 47 = .ok (.iload 4, 2) := by decide +kernel
theorem dX1_converges_49 : decode cX1_converges 49 = .ok (.invokevirtual 59, 3) := by decide +kernel
theorem dX1_converges_52 : decode cX1_converges 52 = .ok (.aload_n 0, 1) := by decide +kernel
theorem dX1_converges_53 : decode cX1_converges 53 = .ok (.iload_n 2, 1) := by decide +kernel
theorem dX1_converges_54 : decode cX1_converges 54 = .ok (.invokevirtual 63, 3) := by decide +kernel
theorem dX1_converges_57 : decode cX1_converges 57 = .ok (.ifCond .eq 14, 3) := by decide +kernel
theorem dX1_converges_60 : decode cX1_converges 60 = .ok (.aload_n 0, 1) := by decide +kernel
theorem dX1_converges_61 : decode cX1_converges 61 = .ok (.iload_n 2, 1) := by decide +kernel
theorem dX1_converges_62 : decode cX1_converges 62 = .ok (.iload_n 1, 1) := by decide +kernel
theorem dX1_converges_63 : decode cX1_converges 63 = .ok (.invokevirtual 66, 3) := by decide +kernel
theorem dX1_converges_66 : decode cX1_converges 66 = .ok (.ifCond .eq 5, 3) := by decide +kernel
theorem dX1_converges_69 : decode cX1_converges 69 = .ok (.iconst 1, 1) := by decide +kernel
theorem dX1_converges_70 : decode cX1_converges 70 = .ok (.ireturn, 1) := by decide +kernel
theorem dX1_converges_71 : decode cX1_converges 71 = .ok (.iinc 4 1, 3) := by decide +kernel
theorem dX1_converges_74 : decode cX1_converges 74 = .ok (.goto (-35), 3) := by decide +kernel
theorem dX1_converges_77 : decode cX1_converges 77 = .ok (.iconst 0, 1) := by decide +kernel
theorem dX1_converges_78 : decode cX1_converges 78 = .ok (.ireturn, 1) := by decide +kernel
abbrev cX1_arrange : ByteArray := prog_3_method_17_code
def yX1_arrange : MethodName := ⟨RX1, "arrange", "(II)V"⟩
theorem dX1_arrange_0 : decode cX1_arrange 0 = .ok (.iconst 0, 1) := by decide +kernel
theorem dX1_arrange_1 : decode cX1_arrange 1 = .ok (.istore_n 3, 1) := by decide +kernel
theorem dX1_arrange_2 : decode cX1_arrange 2 = .ok (.iload_n 2, 1) := by decide +kernel
theorem dX1_arrange_3 : decode cX1_arrange 3 = .ok (.istore 4, 2) := by decide +kernel
theorem dX1_arrange_5 : decode cX1_arrange 5 = .ok (.iconst 0, 1) := by decide +kernel
theorem dX1_arrange_6 : decode cX1_arrange 6 = .ok (.istore 5, 2) := by decide +kernel
theorem dX1_arrange_8 : decode cX1_arrange 8 = .ok (.iload 5, 2) := by decide +kernel
theorem dX1_arrange_10 : decode cX1_arrange 10 = .ok (.aload_n 0, 1) := by decide +kernel
theorem dX1_arrange_11 : decode cX1_arrange 11 = .ok (.getfield 32, 3) := by decide +kernel
theorem dX1_arrange_14 : decode cX1_arrange 14 = .ok (.if_icmp .ge 30, 3) := by decide +kernel
theorem dX1_arrange_17 : decode cX1_arrange 17 = .ok (.iload_n 3, 1) := by decide +kernel
theorem dX1_arrange_18 : decode cX1_arrange 18 = .ok (.aload_n 0, 1) := by decide +kernel
theorem dX1_arrange_19 : decode cX1_arrange 19 = .ok (.getfield 16, 3) := by decide +kernel
theorem dX1_arrange_22 : decode cX1_arrange 22 = .ok (.iload 5, 2) := by decide +kernel
theorem dX1_arrange_24 : decode cX1_arrange 24 = .ok (.baload, 1) := by decide +kernel
theorem dX1_arrange_25 : decode cX1_arrange 25 = .ok (.ifCond .eq 10, 3) := by decide +kernel
theorem dX1_arrange_28 : decode cX1_arrange 28 = .ok (.iconst 1, 1) := by decide +kernel
theorem dX1_arrange_29 : decode cX1_arrange 29 = .ok (.iload 5, 2) := by decide +kernel
theorem dX1_arrange_31 : decode cX1_arrange 31 = .ok (.ishl, 1) := by decide +kernel
theorem dX1_arrange_32 : decode cX1_arrange 32 = .ok (.goto 4, 3) := by decide +kernel
theorem dX1_arrange_35 : decode cX1_arrange 35 = .ok (.iconst 0, 1) := by decide +kernel
theorem dX1_arrange_36 : decode cX1_arrange 36 = .ok (.ior, 1) := by decide +kernel
theorem dX1_arrange_37 : decode cX1_arrange 37 = .ok (.istore_n 3, 1) := by decide +kernel
theorem dX1_arrange_38 : decode cX1_arrange 38 = .ok (.iinc 5 1, 3) := by decide +kernel
theorem dX1_arrange_41 : decode cX1_arrange 41 = .ok (.goto (-33), 3) := by decide +kernel
theorem dX1_arrange_44 : decode cX1_arrange 44 = .ok (.iconst 0, 1) := by decide +kernel
theorem dX1_arrange_45 : decode cX1_arrange 45 = .ok (.istore 5, 2) := by decide +kernel
theorem dX1_arrange_47 : decode cX1_arrange 47 = .ok (.iload 5, 2) := by decide +kernel
theorem dX1_arrange_49 : decode cX1_arrange 49 = .ok (.iload_n 1, 1) := by decide +kernel
theorem dX1_arrange_50 : decode cX1_arrange 50 = .ok (.if_icmp .ge 88, 3) := by decide +kernel
theorem dX1_arrange_53 : decode cX1_arrange 53 = .ok (.iload 4, 2) := by decide +kernel
theorem dX1_arrange_55 : decode cX1_arrange 55 = .ok (.iload_n 1, 1) := by decide +kernel
theorem dX1_arrange_56 : decode cX1_arrange 56 = .ok (.iload 5, 2) := by decide +kernel
theorem dX1_arrange_58 : decode cX1_arrange 58 = .ok (.isub, 1) := by decide +kernel
theorem dX1_arrange_59 : decode cX1_arrange 59 = .ok (.irem, 1) := by decide +kernel
theorem dX1_arrange_60 : decode cX1_arrange 60 = .ok (.istore 6, 2) := by decide +kernel
theorem dX1_arrange_62 : decode cX1_arrange 62 = .ok (.iload 4, 2) := by decide +kernel
theorem dX1_arrange_64 : decode cX1_arrange 64 = .ok (.iload_n 1, 1) := by decide +kernel
theorem dX1_arrange_65 : decode cX1_arrange 65 = .ok (.iload 5, 2) := by decide +kernel
theorem dX1_arrange_67 : decode cX1_arrange 67 = .ok (.isub, 1) := by decide +kernel
theorem dX1_arrange_68 : decode cX1_arrange 68 = .ok (.idiv, 1) := by decide +kernel
theorem dX1_arrange_69 : decode cX1_arrange 69 = .ok (.istore 4, 2) := by decide +kernel
theorem dX1_arrange_71 : decode cX1_arrange 71 = .ok (.iconst 0, 1) := by decide +kernel
theorem dX1_arrange_72 : decode cX1_arrange 72 = .ok (.istore 7, 2) := by decide +kernel
theorem dX1_arrange_74 : decode cX1_arrange 74 = .ok (.iload 7, 2) := by decide +kernel
theorem dX1_arrange_76 : decode cX1_arrange 76 = .ok (.bipush 8, 2) := by decide +kernel
theorem dX1_arrange_78 : decode cX1_arrange 78 = .ok (.if_icmp .ge 36, 3) := by decide +kernel
theorem dX1_arrange_81 : decode cX1_arrange 81 = .ok (.iload_n 3, 1) := by decide +kernel
theorem dX1_arrange_82 : decode cX1_arrange 82 = .ok (.iload 7, 2) := by decide +kernel
theorem dX1_arrange_84 : decode cX1_arrange 84 = .ok (.ishr, 1) := by decide +kernel
theorem dX1_arrange_85 : decode cX1_arrange 85 = .ok (.iconst 1, 1) := by decide +kernel
theorem dX1_arrange_86 : decode cX1_arrange 86 = .ok (.iand, 1) := by decide +kernel
theorem dX1_arrange_87 : decode cX1_arrange 87 = .ok (.ifCond .eq 8, 3) := by decide +kernel
theorem dX1_arrange_90 : decode cX1_arrange 90 = .ok (.iload 6, 2) := by decide +kernel
theorem dX1_arrange_92 : decode cX1_arrange 92 = .ok (.ifCond .le 22, 3) := by decide +kernel
theorem dX1_arrange_95 : decode cX1_arrange 95 = .ok (.iload_n 3, 1) := by decide +kernel
theorem dX1_arrange_96 : decode cX1_arrange 96 = .ok (.iload 7, 2) := by decide +kernel
theorem dX1_arrange_98 : decode cX1_arrange 98 = .ok (.ishr, 1) := by decide +kernel
theorem dX1_arrange_99 : decode cX1_arrange 99 = .ok (.iconst 1, 1) := by decide +kernel
theorem dX1_arrange_100 : decode cX1_arrange 100 = .ok (.iand, 1) := by decide +kernel
theorem dX1_arrange_101 : decode cX1_arrange 101 = .ok (.iconst 1, 1) := by decide +kernel
theorem dX1_arrange_102 : decode cX1_arrange 102 = .ok (.if_icmp .ne 6, 3) := by decide +kernel
theorem dX1_arrange_105 : decode cX1_arrange 105 = .ok (.iinc 6 (-1), 3) := by decide +kernel
theorem dX1_arrange_108 : decode cX1_arrange 108 = .ok (.iinc 7 1, 3) := by decide +kernel
theorem dX1_arrange_111 : decode cX1_arrange 111 = .ok (.goto (-37), 3) := by decide +kernel
theorem dX1_arrange_114 : decode cX1_arrange 114 = .ok (.aload_n 0, 1) := by decide +kernel
theorem dX1_arrange_115 : decode cX1_arrange 115 = .ok (.getfield 29, 3) := by decide +kernel
theorem dX1_arrange_118 : decode cX1_arrange 118 = .ok (.iload 5, 2) := by decide +kernel
theorem dX1_arrange_120 : decode cX1_arrange 120 = .ok (.iload 7, 2) := by decide +kernel
theorem dX1_arrange_122 : decode cX1_arrange 122 = .ok (.iastore, 1) := by decide +kernel
theorem dX1_arrange_123 : decode cX1_arrange 123 = .ok (.iload_n 3, 1) := by decide +kernel
theorem dX1_arrange_124 : decode cX1_arrange 124 = .ok (.iconst 1, 1) := by decide +kernel
theorem dX1_arrange_125 : decode cX1_arrange 125 = .ok (.iload 7, 2) := by decide +kernel
theorem dX1_arrange_127 : decode cX1_arrange 127 = .ok (.ishl, 1) := by decide +kernel
theorem dX1_arrange_128 : decode cX1_arrange 128 = .ok (.iconst (-1), 1) := by decide +kernel
theorem dX1_arrange_129 : decode cX1_arrange 129 = .ok (.ixor, 1) := by decide +kernel
theorem dX1_arrange_130 : decode cX1_arrange 130 = .ok (.iand, 1) := by decide +kernel
theorem dX1_arrange_131 : decode cX1_arrange 131 = .ok (.istore_n 3, 1) := by decide +kernel
theorem dX1_arrange_132 : decode cX1_arrange 132 = .ok (.iinc 5 1, 3) := by decide +kernel
theorem dX1_arrange_135 : decode cX1_arrange 135 = .ok (.goto (-88), 3) := by decide +kernel
theorem dX1_arrange_138 : decode cX1_arrange 138 = .ok (.return_, 1) := by decide +kernel
abbrev cX1_isRow : ByteArray := prog_3_method_14_code
def yX1_isRow : MethodName := ⟨RX1, "isRow", "(I)Z"⟩
theorem dX1_isRow_0 : decode cX1_isRow 0 = .ok (.iconst 0, 1) := by decide +kernel
theorem dX1_isRow_1 : decode cX1_isRow 1 = .ok (.istore_n 2, 1) := by decide +kernel
theorem dX1_isRow_2 : decode cX1_isRow 2 = .ok (.iload_n 2, 1) := by decide +kernel
theorem dX1_isRow_3 : decode cX1_isRow 3 = .ok (.iload_n 1, 1) := by decide +kernel
theorem dX1_isRow_4 : decode cX1_isRow 4 = .ok (.if_icmp .ge 63, 3) := by decide +kernel
theorem dX1_isRow_7 : decode cX1_isRow 7 = .ok (.iconst 0, 1) := by decide +kernel
theorem dX1_isRow_8 : decode cX1_isRow 8 = .ok (.istore_n 3, 1) := by decide +kernel
theorem dX1_isRow_9 : decode cX1_isRow 9 = .ok (.iload_n 3, 1) := by decide +kernel
theorem dX1_isRow_10 : decode cX1_isRow 10 = .ok (.iload_n 2, 1) := by decide +kernel
theorem dX1_isRow_11 : decode cX1_isRow 11 = .ok (.if_icmp .ge 50, 3) := by decide +kernel
theorem dX1_isRow_14 : decode cX1_isRow 14 = .ok (.aload_n 0, 1) := by decide +kernel
theorem dX1_isRow_15 : decode cX1_isRow 15 = .ok (.getfield 29, 3) := by decide +kernel
theorem dX1_isRow_18 : decode cX1_isRow 18 = .ok (.iload_n 2, 1) := by decide +kernel
theorem dX1_isRow_19 : decode cX1_isRow 19 = .ok (.iaload, 1) := by decide +kernel
theorem dX1_isRow_20 : decode cX1_isRow 20 = .ok (.aload_n 0, 1) := by decide +kernel
theorem dX1_isRow_21 : decode cX1_isRow 21 = .ok (.getfield 29, 3) := by decide +kernel
theorem dX1_isRow_24 : decode cX1_isRow 24 = .ok (.iload_n 3, 1) := by decide +kernel
theorem dX1_isRow_25 : decode cX1_isRow 25 = .ok (.iaload, 1) := by decide +kernel
theorem dX1_isRow_26 : decode cX1_isRow 26 = .ok (.if_icmp .eq 27, 3) := by decide +kernel
theorem dX1_isRow_29 : decode cX1_isRow 29 = .ok (.aload_n 0, 1) := by decide +kernel
theorem dX1_isRow_30 : decode cX1_isRow 30 = .ok (.getfield 23, 3) := by decide +kernel
theorem dX1_isRow_33 : decode cX1_isRow 33 = .ok (.aload_n 0, 1) := by decide +kernel
theorem dX1_isRow_34 : decode cX1_isRow 34 = .ok (.getfield 29, 3) := by decide +kernel
theorem dX1_isRow_37 : decode cX1_isRow 37 = .ok (.iload_n 3, 1) := by decide +kernel
theorem dX1_isRow_38 : decode cX1_isRow 38 = .ok (.iaload, 1) := by decide +kernel
theorem dX1_isRow_39 : decode cX1_isRow 39 = .ok (.iaload, 1) := by decide +kernel
theorem dX1_isRow_40 : decode cX1_isRow 40 = .ok (.aload_n 0, 1) := by decide +kernel
theorem dX1_isRow_41 : decode cX1_isRow 41 = .ok (.getfield 29, 3) := by decide +kernel
theorem dX1_isRow_44 : decode cX1_isRow 44 = .ok (.iload_n 2, 1) := by decide +kernel
theorem dX1_isRow_45 : decode cX1_isRow 45 = .ok (.iaload, 1) := by decide +kernel
theorem dX1_isRow_46 : decode cX1_isRow 46 = .ok (.ishr, 1) := by decide +kernel
theorem dX1_isRow_47 : decode cX1_isRow 47 = .ok (.iconst 1, 1) := by decide +kernel
theorem dX1_isRow_48 : decode cX1_isRow 48 = .ok (.iand, 1) := by decide +kernel
theorem dX1_isRow_49 : decode cX1_isRow 49 = .ok (.iconst 1, 1) := by decide +kernel
theorem dX1_isRow_50 : decode cX1_isRow 50 = .ok (.if_icmp .ne 5, 3) := by decide +kernel
theorem dX1_isRow_53 : decode cX1_isRow 53 = .ok (.iconst 0, 1) := by decide +kernel
theorem dX1_isRow_54 : decode cX1_isRow 54 = .ok (.ireturn, 1) := by decide +kernel
theorem dX1_isRow_55 : decode cX1_isRow 55 = .ok (.iinc 3 1, 3) := by decide +kernel
theorem dX1_isRow_58 : decode cX1_isRow 58 = .ok (.goto (-49), 3) := by decide +kernel
theorem dX1_isRow_61 : decode cX1_isRow 61 = .ok (.iinc 2 1, 3) := by decide +kernel
theorem dX1_isRow_64 : decode cX1_isRow 64 = .ok (.goto (-62), 3) := by decide +kernel
theorem dX1_isRow_67 : decode cX1_isRow 67 = .ok (.iconst 1, 1) := by decide +kernel
theorem dX1_isRow_68 : decode cX1_isRow 68 = .ok (.ireturn, 1) := by decide +kernel
abbrev cX1_fits : ByteArray := prog_3_method_15_code
def yX1_fits : MethodName := ⟨RX1, "fits", "(II)Z"⟩
theorem dX1_fits_0 : decode cX1_fits 0 = .ok (.iconst 0, 1) := by decide +kernel
theorem dX1_fits_1 : decode cX1_fits 1 = .ok (.istore_n 3, 1) := by decide +kernel
theorem dX1_fits_2 : decode cX1_fits 2 = .ok (.iload_n 3, 1) := by decide +kernel
theorem dX1_fits_3 : decode cX1_fits 3 = .ok (.iload_n 2, 1) := by decide +kernel
theorem dX1_fits_4 : decode cX1_fits 4 = .ok (.if_icmp .ge 93, 3) := by decide +kernel
theorem dX1_fits_7 : decode cX1_fits 7 = .ok (.iconst (-1), 1) := by decide +kernel
theorem dX1_fits_8 : decode cX1_fits 8 = .ok (.istore 4, 2) := by decide +kernel
theorem dX1_fits_10 : decode cX1_fits 10 = .ok (.iconst 0, 1) := by decide +kernel
theorem dX1_fits_11 : decode cX1_fits 11 = .ok (.istore 5, 2) := by decide +kernel
theorem dX1_fits_13 : decode cX1_fits 13 = .ok (.iload 5, 2) := by decide +kernel
theorem dX1_fits_15 : decode cX1_fits 15 = .ok (.iload_n 1, 1) := by decide +kernel
theorem dX1_fits_16 : decode cX1_fits 16 = .ok (.if_icmp .ge 53, 3) := by decide +kernel
theorem dX1_fits_19 : decode cX1_fits 19 = .ok (.aload_n 0, 1) := by decide +kernel
theorem dX1_fits_20 : decode cX1_fits 20 = .ok (.getfield 29, 3) := by decide +kernel
theorem dX1_fits_23 : decode cX1_fits 23 = .ok (.iload 5, 2) := by decide +kernel
theorem dX1_fits_25 : decode cX1_fits 25 = .ok (.iaload, 1) := by decide +kernel
theorem dX1_fits_26 : decode cX1_fits 26 = .ok (.istore 6, 2) := by decide +kernel
theorem dX1_fits_28 : decode cX1_fits 28 = .ok (.aload_n 0, 1) := by decide +kernel
theorem dX1_fits_29 : decode cX1_fits 29 = .ok (.getfield 13, 3) := by decide +kernel
theorem dX1_fits_32 : decode cX1_fits 32 = .ok (.iload 6, 2) := by decide +kernel
theorem dX1_fits_34 : decode cX1_fits 34 = .ok (.iaload, 1) := by decide +kernel
theorem dX1_fits_35 : decode cX1_fits 35 = .ok (.aload_n 0, 1) := by decide +kernel
theorem dX1_fits_36 : decode cX1_fits 36 = .ok (.getfield 13, 3) := by decide +kernel
theorem dX1_fits_39 : decode cX1_fits 39 = .ok (.iload_n 3, 1) := by decide +kernel
theorem dX1_fits_40 : decode cX1_fits 40 = .ok (.iaload, 1) := by decide +kernel
theorem dX1_fits_41 : decode cX1_fits 41 = .ok (.if_icmp .ne 22, 3) := by decide +kernel
theorem dX1_fits_44 : decode cX1_fits 44 = .ok (.aload_n 0, 1) := by decide +kernel
theorem dX1_fits_45 : decode cX1_fits 45 = .ok (.getfield 23, 3) := by decide +kernel
theorem dX1_fits_48 : decode cX1_fits 48 = .ok (.iload_n 3, 1) := by decide +kernel
theorem dX1_fits_49 : decode cX1_fits 49 = .ok (.iaload, 1) := by decide +kernel
theorem dX1_fits_50 : decode cX1_fits 50 = .ok (.iload 6, 2) := by decide +kernel
theorem dX1_fits_52 : decode cX1_fits 52 = .ok (.ishr, 1) := by decide +kernel
theorem dX1_fits_53 : decode cX1_fits 53 = .ok (.iconst 1, 1) := by decide +kernel
theorem dX1_fits_54 : decode cX1_fits 54 = .ok (.iand, 1) := by decide +kernel
theorem dX1_fits_55 : decode cX1_fits 55 = .ok (.iconst 1, 1) := by decide +kernel
theorem dX1_fits_56 : decode cX1_fits 56 = .ok (.if_icmp .ne 7, 3) := by decide +kernel
theorem dX1_fits_59 : decode cX1_fits 59 = .ok (.iload 6, 2) := by decide +kernel
theorem dX1_fits_61 : decode cX1_fits 61 = .ok (.istore 4, 2) := by decide +kernel
theorem dX1_fits_63 : decode cX1_fits 63 = .ok (.iinc 5 1, 3) := by decide +kernel
theorem dX1_fits_66 : decode cX1_fits 66 = .ok (.goto (-53), 3) := by decide +kernel
theorem dX1_fits_69 : decode cX1_fits 69 = .ok (.aload_n 0, 1) := by decide +kernel
theorem dX1_fits_70 : decode cX1_fits 70 = .ok (.getfield 16, 3) := by decide +kernel
theorem dX1_fits_73 : decode cX1_fits 73 = .ok (.iload_n 3, 1) := by decide +kernel
theorem dX1_fits_74 : decode cX1_fits 74 = .ok (.baload, 1) := by decide +kernel
theorem dX1_fits_75 : decode cX1_fits 75 = .ok (.ifCond .ne 16, 3) := by decide +kernel
theorem dX1_fits_78 : decode cX1_fits 78 = .ok (.iload 4, 2) := by decide +kernel
theorem dX1_fits_80 : decode cX1_fits 80 = .ok (.aload_n 0, 1) := by decide +kernel
theorem dX1_fits_81 : decode cX1_fits 81 = .ok (.getfield 20, 3) := by decide +kernel
theorem dX1_fits_84 : decode cX1_fits 84 = .ok (.iload_n 3, 1) := by decide +kernel
theorem dX1_fits_85 : decode cX1_fits 85 = .ok (.iaload, 1) := by decide +kernel
theorem dX1_fits_86 : decode cX1_fits 86 = .ok (.if_icmp .eq 5, 3) := by decide +kernel
theorem dX1_fits_89 : decode cX1_fits 89 = .ok (.iconst 0, 1) := by decide +kernel
theorem dX1_fits_90 : decode cX1_fits 90 = .ok (.ireturn, 1) := by decide +kernel
theorem dX1_fits_91 : decode cX1_fits 91 = .ok (.iinc 3 1, 3) := by decide +kernel
theorem dX1_fits_94 : decode cX1_fits 94 = .ok (.goto (-92), 3) := by decide +kernel
theorem dX1_fits_97 : decode cX1_fits 97 = .ok (.iconst 1, 1) := by decide +kernel
theorem dX1_fits_98 : decode cX1_fits 98 = .ok (.ireturn, 1) := by decide +kernel
abbrev cX1_choices : ByteArray := prog_3_method_19_code
def yX1_choices : MethodName := ⟨RX1, "choices", "(II)I"⟩
theorem dX1_choices_0 : decode cX1_choices 0 = .ok (.iload_n 1, 1) := by decide +kernel
theorem dX1_choices_1 : decode cX1_choices 1 = .ok (.iload_n 2, 1) := by decide +kernel
theorem dX1_choices_2 : decode cX1_choices 2 = .ok (.invokestatic 36, 3) := by decide +kernel
theorem dX1_choices_5 : decode cX1_choices 5 = .ok (.ifCond .eq 5, 3) := by decide +kernel
theorem dX1_choices_8 : decode cX1_choices 8 = .ok (.iconst (-1), 1) := by decide +kernel
theorem dX1_choices_9 : decode cX1_choices 9 = .ok (.ireturn, 1) := by decide +kernel
theorem dX1_choices_10 : decode cX1_choices 10 = .ok (.iconst 0, 1) := by decide +kernel
theorem dX1_choices_11 : decode cX1_choices 11 = .ok (.istore_n 3, 1) := by decide +kernel
theorem dX1_choices_12 : decode cX1_choices 12 = .ok (.iconst (-1), 1) := by decide +kernel
theorem dX1_choices_13 : decode cX1_choices 13 = .ok (.istore 4, 2) := by decide +kernel
theorem dX1_choices_15 : decode cX1_choices 15 = .ok (.iload 4, 2) := by decide +kernel
theorem dX1_choices_17 : decode cX1_choices 17 = .ok (.aload_n 0, 1) := by decide +kernel
theorem dX1_choices_18 : decode cX1_choices 18 = .ok (.getfield 32, 3) := by decide +kernel
theorem dX1_choices_21 : decode cX1_choices 21 = .ok (.if_icmp .ge 59, 3) := by decide +kernel
theorem dX1_choices_24 : decode cX1_choices 24 = .ok (.aload_n 0, 1) := by decide +kernel
theorem dX1_choices_25 : decode cX1_choices 25 = .ok (.iload_n 2, 1) := by decide +kernel
theorem dX1_choices_26 : decode cX1_choices 26 = .ok (.iload 4, 2) := by decide +kernel
theorem dX1_choices_28 : decode cX1_choices 28 = .ok (.invokevirtual 44, 3) := by decide +kernel
theorem dX1_choices_31 : decode cX1_choices 31 = .ok (.ifCond .ne 43, 3) := by decide +kernel
theorem dX1_choices_34 : decode cX1_choices 34 = .ok (.aload_n 0, 1) := by decide +kernel
theorem dX1_choices_35 : decode cX1_choices 35 = .ok (.iload_n 1, 1) := by decide +kernel
theorem dX1_choices_36 : decode cX1_choices 36 = .ok (.iload_n 2, 1) := by decide +kernel
theorem dX1_choices_37 : decode cX1_choices 37 = .ok (.iconst 0, 1) := by decide +kernel
theorem dX1_choices_38 : decode cX1_choices 38 = .ok (.iload 4, 2) := by decide +kernel
theorem dX1_choices_40 : decode cX1_choices 40 = .ok (.invokevirtual 40, 3) := by decide +kernel
theorem dX1_choices_43 : decode cX1_choices 43 = .ok (.aload_n 0, 1) := by decide +kernel
theorem dX1_choices_44 : decode cX1_choices 44 = .ok (.aload_n 0, 1) := by decide +kernel
theorem dX1_choices_45 : decode cX1_choices 45 = .ok (.getfield 32, 3) := by decide +kernel
theorem dX1_choices_48 : decode cX1_choices 48 = .ok (.iconst 1, 1) := by decide +kernel
theorem dX1_choices_49 : decode cX1_choices 49 = .ok (.iadd, 1) := by decide +kernel
theorem dX1_choices_50 : decode cX1_choices 50 = .ok (.invokevirtual 76, 3) := by decide +kernel
theorem dX1_choices_53 : decode cX1_choices 53 = .ok (.ifCond .eq 21, 3) := by decide +kernel
theorem dX1_choices_56 : decode cX1_choices 56 = .ok (.iload_n 3, 1) := by decide +kernel
theorem dX1_choices_57 : decode cX1_choices 57 = .ok (.iload 4, 2) := by decide +kernel
theorem dX1_choices_59 : decode cX1_choices 59 = .ok (.ifCond .ge 9, 3) := by decide +kernel
theorem dX1_choices_62 : decode cX1_choices 62 = .ok (.sipush 128, 3) := by decide +kernel
theorem dX1_choices_65 : decode cX1_choices 65 = .ok (.goto 7, 3) := by decide +kernel
theorem dX1_choices_68 : decode cX1_choices 68 = .ok (.iconst 1, 1) := by decide +kernel
theorem dX1_choices_69 : decode cX1_choices 69 = .ok (.iload 4, 2) := by decide +kernel
theorem dX1_choices_71 : decode cX1_choices 71 = .ok (.ishl, 1) := by decide +kernel
theorem dX1_choices_72 : decode cX1_choices 72 = .ok (.ior, 1) := by decide +kernel
theorem dX1_choices_73 : decode cX1_choices 73 = .ok (.istore_n 3, 1) := by decide +kernel
theorem dX1_choices_74 : decode cX1_choices 74 = .ok (.iinc 4 1, 3) := by decide +kernel
theorem dX1_choices_77 : decode cX1_choices 77 = .ok (.goto (-62), 3) := by decide +kernel
theorem dX1_choices_80 : decode cX1_choices 80 = .ok (.iload_n 3, 1) := by decide +kernel
theorem dX1_choices_81 : decode cX1_choices 81 = .ok (.ireturn, 1) := by decide +kernel
theorem q21 : (Jvm.Cond.initialized "CausalCheckModel") ∈ lw_all := lw_g (lw_at lw_m0 2 rfl) rfl
theorem q127 : (Jvm.Cond.instantiable "CausalCheckModel" (8 : Nat)) ∈ lw_all := lw_g (lw_at lw_m0 108 rfl) rfl
theorem q129 : (Jvm.Cond.instanceMethod ({ cls := "CausalCheckModel", name := "<init>", desc := "()V" } : Jvm.MethodName)) ∈ lw_all := lw_g (lw_at lw_m0 110 rfl) rfl
theorem q130 : (Jvm.Cond.code ({ cls := "CausalCheckModel", name := "<init>", desc := "()V" } : Jvm.MethodName) prog_3_method_1_code (1 : Nat) (Option.none : Option Jvm.ClassFile.FieldType)) ∈ lw_all := lw_g (lw_at lw_m0 111 rfl) rfl
theorem q131 : (Jvm.Cond.methodLink "CausalCheckModel" (1 : Nat) ({ cls := "java/lang/Object", name := "<init>", desc := "()V" } : Jvm.MethodName)) ∈ lw_all := lw_g (lw_at lw_m0 112 rfl) rfl
theorem q132 : (Jvm.Cond.fieldLink "CausalCheckModel" (32 : Nat) "CausalCheckModel" "held" "I") ∈ lw_all := lw_g (lw_at lw_m0 113 rfl) rfl
theorem q133 : (Jvm.Cond.fieldLink "CausalCheckModel" (7 : Nat) "CausalCheckModel" "users" "[I") ∈ lw_all := lw_g (lw_at lw_m0 114 rfl) rfl
theorem q134 : (Jvm.Cond.fieldLink "CausalCheckModel" (13 : Nat) "CausalCheckModel" "cells" "[I") ∈ lw_all := lw_g (lw_at lw_m0 115 rfl) rfl
theorem q135 : (Jvm.Cond.fieldLink "CausalCheckModel" (16 : Nat) "CausalCheckModel" "writes" "[Z") ∈ lw_all := lw_g (lw_at lw_m0 116 rfl) rfl
theorem q136 : (Jvm.Cond.fieldLink "CausalCheckModel" (20 : Nat) "CausalCheckModel" "sources" "[I") ∈ lw_all := lw_g (lw_at lw_m0 117 rfl) rfl
theorem q137 : (Jvm.Cond.fieldLink "CausalCheckModel" (23 : Nat) "CausalCheckModel" "earlier" "[I") ∈ lw_all := lw_g (lw_at lw_m0 118 rfl) rfl
theorem q138 : (Jvm.Cond.fieldLink "CausalCheckModel" (26 : Nat) "CausalCheckModel" "rows" "[Z") ∈ lw_all := lw_g (lw_at lw_m0 119 rfl) rfl
theorem q139 : (Jvm.Cond.fieldLink "CausalCheckModel" (29 : Nat) "CausalCheckModel" "order" "[I") ∈ lw_all := lw_g (lw_at lw_m0 120 rfl) rfl
theorem q140 : (Jvm.Cond.lays "CausalCheckModel" "CausalCheckModel" "held" "I") ∈ lw_all := lw_g (lw_at lw_m0 121 rfl) rfl
theorem q141 : (Jvm.Cond.soleField "CausalCheckModel" "held") ∈ lw_all := lw_g (lw_at lw_m0 122 rfl) rfl
theorem q142 : (Jvm.Cond.laysFinal "CausalCheckModel" "CausalCheckModel" "users" "[I") ∈ lw_all := lw_g (lw_at lw_m0 123 rfl) rfl
theorem q143 : (Jvm.Cond.soleField "CausalCheckModel" "users") ∈ lw_all := lw_g (lw_at lw_m0 124 rfl) rfl
theorem q144 : (Jvm.Cond.laysFinal "CausalCheckModel" "CausalCheckModel" "cells" "[I") ∈ lw_all := lw_g (lw_at lw_m0 125 rfl) rfl
theorem q145 : (Jvm.Cond.soleField "CausalCheckModel" "cells") ∈ lw_all := lw_g (lw_at lw_m0 126 rfl) rfl
theorem q146 : (Jvm.Cond.laysFinal "CausalCheckModel" "CausalCheckModel" "writes" "[Z") ∈ lw_all := lw_g (lw_at lw_m0 127 rfl) rfl
theorem q147 : (Jvm.Cond.soleField "CausalCheckModel" "writes") ∈ lw_all := lw_g (lw_at lw_m0 128 rfl) rfl
theorem q148 : (Jvm.Cond.laysFinal "CausalCheckModel" "CausalCheckModel" "sources" "[I") ∈ lw_all := lw_g (lw_at lw_m0 129 rfl) rfl
theorem q149 : (Jvm.Cond.soleField "CausalCheckModel" "sources") ∈ lw_all := lw_g (lw_at lw_m0 130 rfl) rfl
theorem q150 : (Jvm.Cond.laysFinal "CausalCheckModel" "CausalCheckModel" "earlier" "[I") ∈ lw_all := lw_g (lw_at lw_m0 131 rfl) rfl
theorem q151 : (Jvm.Cond.soleField "CausalCheckModel" "earlier") ∈ lw_all := lw_g (lw_at lw_m0 132 rfl) rfl
theorem q152 : (Jvm.Cond.laysFinal "CausalCheckModel" "CausalCheckModel" "rows" "[Z") ∈ lw_all := lw_g (lw_at lw_m0 133 rfl) rfl
theorem q153 : (Jvm.Cond.soleField "CausalCheckModel" "rows") ∈ lw_all := lw_g (lw_at lw_m0 134 rfl) rfl
theorem q154 : (Jvm.Cond.laysFinal "CausalCheckModel" "CausalCheckModel" "order" "[I") ∈ lw_all := lw_g (lw_at lw_m0 135 rfl) rfl
theorem q155 : (Jvm.Cond.soleField "CausalCheckModel" "order") ∈ lw_all := lw_g (lw_at lw_m0 136 rfl) rfl
theorem q156 : (Jvm.Cond.superclass "CausalCheckModel" "java/lang/Object") ∈ lw_all := lw_g (lw_at lw_m0 137 rfl) rfl
theorem q158 : (Jvm.Cond.instanceMethod ({ cls := "CausalCheckModel", name := "write", desc := "(II)I" } : Jvm.MethodName)) ∈ lw_all := lw_g (lw_at lw_m0 139 rfl) rfl
theorem q159 : (Jvm.Cond.selects "CausalCheckModel" ({ cls := "CausalCheckModel", name := "write", desc := "(II)I" } : Jvm.MethodName) ({ cls := "CausalCheckModel", name := "write", desc := "(II)I" } : Jvm.MethodName)) ∈ lw_all := lw_g (lw_at lw_m0 140 rfl) rfl
theorem q160 : (Jvm.Cond.code ({ cls := "CausalCheckModel", name := "write", desc := "(II)I" } : Jvm.MethodName) prog_3_method_4_code (3 : Nat) (Option.some Jvm.ClassFile.FieldType.int)) ∈ lw_all := lw_g (lw_at lw_m0 141 rfl) rfl
theorem q161 : (Jvm.Cond.methodLink "CausalCheckModel" (36 : Nat) ({ cls := "CausalCheckModel", name := "badPlace", desc := "(II)Z" } : Jvm.MethodName)) ∈ lw_all := lw_g (lw_at lw_m0 142 rfl) rfl
theorem q162 : (Jvm.Cond.static ({ cls := "CausalCheckModel", name := "badPlace", desc := "(II)Z" } : Jvm.MethodName)) ∈ lw_all := lw_g (lw_at lw_m0 143 rfl) rfl
theorem q163 : (Jvm.Cond.code ({ cls := "CausalCheckModel", name := "badPlace", desc := "(II)Z" } : Jvm.MethodName) prog_3_method_2_code (2 : Nat) (Option.some Jvm.ClassFile.FieldType.boolean)) ∈ lw_all := lw_g (lw_at lw_m0 144 rfl) rfl
theorem q164 : (Jvm.Cond.methodLink "CausalCheckModel" (40 : Nat) ({ cls := "CausalCheckModel", name := "put", desc := "(IIZI)V" } : Jvm.MethodName)) ∈ lw_all := lw_g (lw_at lw_m0 145 rfl) rfl
theorem q165 : (Jvm.Cond.privateMethod ({ cls := "CausalCheckModel", name := "put", desc := "(IIZI)V" } : Jvm.MethodName)) ∈ lw_tbl := lw_at lw_m0 146 rfl
theorem q166 : (Jvm.Cond.instanceMethod ({ cls := "CausalCheckModel", name := "put", desc := "(IIZI)V" } : Jvm.MethodName)) ∈ lw_all := lw_g (lw_at lw_m0 147 rfl) rfl
theorem q167 : (Jvm.Cond.code ({ cls := "CausalCheckModel", name := "put", desc := "(IIZI)V" } : Jvm.MethodName) prog_3_method_3_code (7 : Nat) (Option.none : Option Jvm.ClassFile.FieldType)) ∈ lw_all := lw_g (lw_at lw_m0 148 rfl) rfl
theorem q169 : (Jvm.Cond.instanceMethod ({ cls := "CausalCheckModel", name := "read", desc := "(III)I" } : Jvm.MethodName)) ∈ lw_all := lw_g (lw_at lw_m0 150 rfl) rfl
theorem q170 : (Jvm.Cond.selects "CausalCheckModel" ({ cls := "CausalCheckModel", name := "read", desc := "(III)I" } : Jvm.MethodName) ({ cls := "CausalCheckModel", name := "read", desc := "(III)I" } : Jvm.MethodName)) ∈ lw_all := lw_g (lw_at lw_m0 151 rfl) rfl
theorem q171 : (Jvm.Cond.code ({ cls := "CausalCheckModel", name := "read", desc := "(III)I" } : Jvm.MethodName) prog_3_method_6_code (4 : Nat) (Option.some Jvm.ClassFile.FieldType.int)) ∈ lw_all := lw_g (lw_at lw_m0 152 rfl) rfl
theorem q172 : (Jvm.Cond.methodLink "CausalCheckModel" (44 : Nat) ({ cls := "CausalCheckModel", name := "noSource", desc := "(II)Z" } : Jvm.MethodName)) ∈ lw_all := lw_g (lw_at lw_m0 153 rfl) rfl
theorem q173 : (Jvm.Cond.privateMethod ({ cls := "CausalCheckModel", name := "noSource", desc := "(II)Z" } : Jvm.MethodName)) ∈ lw_tbl := lw_at lw_m0 154 rfl
theorem q174 : (Jvm.Cond.instanceMethod ({ cls := "CausalCheckModel", name := "noSource", desc := "(II)Z" } : Jvm.MethodName)) ∈ lw_all := lw_g (lw_at lw_m0 155 rfl) rfl
theorem q175 : (Jvm.Cond.code ({ cls := "CausalCheckModel", name := "noSource", desc := "(II)Z" } : Jvm.MethodName) prog_3_method_5_code (3 : Nat) (Option.some Jvm.ClassFile.FieldType.boolean)) ∈ lw_all := lw_g (lw_at lw_m0 156 rfl) rfl
theorem q177 : (Jvm.Cond.instanceMethod ({ cls := "CausalCheckModel", name := "back", desc := "()I" } : Jvm.MethodName)) ∈ lw_all := lw_g (lw_at lw_m0 158 rfl) rfl
theorem q178 : (Jvm.Cond.selects "CausalCheckModel" ({ cls := "CausalCheckModel", name := "back", desc := "()I" } : Jvm.MethodName) ({ cls := "CausalCheckModel", name := "back", desc := "()I" } : Jvm.MethodName)) ∈ lw_all := lw_g (lw_at lw_m0 159 rfl) rfl
theorem q179 : (Jvm.Cond.code ({ cls := "CausalCheckModel", name := "back", desc := "()I" } : Jvm.MethodName) prog_3_method_7_code (1 : Nat) (Option.some Jvm.ClassFile.FieldType.int)) ∈ lw_all := lw_g (lw_at lw_m0 160 rfl) rfl
theorem q181 : (Jvm.Cond.instanceMethod ({ cls := "CausalCheckModel", name := "before", desc := "(II)I" } : Jvm.MethodName)) ∈ lw_all := lw_g (lw_at lw_m0 162 rfl) rfl
theorem q182 : (Jvm.Cond.selects "CausalCheckModel" ({ cls := "CausalCheckModel", name := "before", desc := "(II)I" } : Jvm.MethodName) ({ cls := "CausalCheckModel", name := "before", desc := "(II)I" } : Jvm.MethodName)) ∈ lw_all := lw_g (lw_at lw_m0 163 rfl) rfl
theorem q183 : (Jvm.Cond.code ({ cls := "CausalCheckModel", name := "before", desc := "(II)I" } : Jvm.MethodName) prog_3_method_9_code (3 : Nat) (Option.some Jvm.ClassFile.FieldType.int)) ∈ lw_all := lw_g (lw_at lw_m0 164 rfl) rfl
theorem q184 : (Jvm.Cond.methodLink "CausalCheckModel" (47 : Nat) ({ cls := "CausalCheckModel", name := "missing", desc := "(I)Z" } : Jvm.MethodName)) ∈ lw_all := lw_g (lw_at lw_m0 165 rfl) rfl
theorem q185 : (Jvm.Cond.privateMethod ({ cls := "CausalCheckModel", name := "missing", desc := "(I)Z" } : Jvm.MethodName)) ∈ lw_tbl := lw_at lw_m0 166 rfl
theorem q186 : (Jvm.Cond.instanceMethod ({ cls := "CausalCheckModel", name := "missing", desc := "(I)Z" } : Jvm.MethodName)) ∈ lw_all := lw_g (lw_at lw_m0 167 rfl) rfl
theorem q187 : (Jvm.Cond.code ({ cls := "CausalCheckModel", name := "missing", desc := "(I)Z" } : Jvm.MethodName) prog_3_method_8_code (2 : Nat) (Option.some Jvm.ClassFile.FieldType.boolean)) ∈ lw_all := lw_g (lw_at lw_m0 168 rfl) rfl
theorem q189 : (Jvm.Cond.instanceMethod ({ cls := "CausalCheckModel", name := "weak", desc := "(I)I" } : Jvm.MethodName)) ∈ lw_all := lw_g (lw_at lw_m0 170 rfl) rfl
theorem q190 : (Jvm.Cond.selects "CausalCheckModel" ({ cls := "CausalCheckModel", name := "weak", desc := "(I)I" } : Jvm.MethodName) ({ cls := "CausalCheckModel", name := "weak", desc := "(I)I" } : Jvm.MethodName)) ∈ lw_all := lw_g (lw_at lw_m0 171 rfl) rfl
theorem q191 : (Jvm.Cond.code ({ cls := "CausalCheckModel", name := "weak", desc := "(I)I" } : Jvm.MethodName) prog_3_method_12_code (2 : Nat) (Option.some Jvm.ClassFile.FieldType.int)) ∈ lw_all := lw_g (lw_at lw_m0 172 rfl) rfl
theorem q192 : (Jvm.Cond.methodLink "CausalCheckModel" (55 : Nat) ({ cls := "CausalCheckModel", name := "hasRow", desc := "(IZ)Z" } : Jvm.MethodName)) ∈ lw_all := lw_g (lw_at lw_m0 173 rfl) rfl
theorem q193 : (Jvm.Cond.privateMethod ({ cls := "CausalCheckModel", name := "hasRow", desc := "(IZ)Z" } : Jvm.MethodName)) ∈ lw_tbl := lw_at lw_m0 174 rfl
theorem q194 : (Jvm.Cond.instanceMethod ({ cls := "CausalCheckModel", name := "hasRow", desc := "(IZ)Z" } : Jvm.MethodName)) ∈ lw_all := lw_g (lw_at lw_m0 175 rfl) rfl
theorem q195 : (Jvm.Cond.code ({ cls := "CausalCheckModel", name := "hasRow", desc := "(IZ)Z" } : Jvm.MethodName) prog_3_method_11_code (10 : Nat) (Option.some Jvm.ClassFile.FieldType.boolean)) ∈ lw_all := lw_g (lw_at lw_m0 176 rfl) rfl
theorem q196 : (Jvm.Cond.methodLink "CausalCheckModel" (51 : Nat) ({ cls := "CausalCheckModel", name := "after", desc := "(IIZ)I" } : Jvm.MethodName)) ∈ lw_all := lw_g (lw_at lw_m0 177 rfl) rfl
theorem q197 : (Jvm.Cond.privateMethod ({ cls := "CausalCheckModel", name := "after", desc := "(IIZ)I" } : Jvm.MethodName)) ∈ lw_tbl := lw_at lw_m0 178 rfl
theorem q198 : (Jvm.Cond.instanceMethod ({ cls := "CausalCheckModel", name := "after", desc := "(IIZ)I" } : Jvm.MethodName)) ∈ lw_all := lw_g (lw_at lw_m0 179 rfl) rfl
theorem q199 : (Jvm.Cond.code ({ cls := "CausalCheckModel", name := "after", desc := "(IIZ)I" } : Jvm.MethodName) prog_3_method_10_code (5 : Nat) (Option.some Jvm.ClassFile.FieldType.int)) ∈ lw_all := lw_g (lw_at lw_m0 180 rfl) rfl
theorem q201 : (Jvm.Cond.instanceMethod ({ cls := "CausalCheckModel", name := "strong", desc := "(I)I" } : Jvm.MethodName)) ∈ lw_all := lw_g (lw_at lw_m0 182 rfl) rfl
theorem q202 : (Jvm.Cond.selects "CausalCheckModel" ({ cls := "CausalCheckModel", name := "strong", desc := "(I)I" } : Jvm.MethodName) ({ cls := "CausalCheckModel", name := "strong", desc := "(I)I" } : Jvm.MethodName)) ∈ lw_all := lw_g (lw_at lw_m0 183 rfl) rfl
theorem q203 : (Jvm.Cond.code ({ cls := "CausalCheckModel", name := "strong", desc := "(I)I" } : Jvm.MethodName) prog_3_method_13_code (2 : Nat) (Option.some Jvm.ClassFile.FieldType.int)) ∈ lw_all := lw_g (lw_at lw_m0 184 rfl) rfl
theorem q205 : (Jvm.Cond.instanceMethod ({ cls := "CausalCheckModel", name := "sound", desc := "()I" } : Jvm.MethodName)) ∈ lw_all := lw_g (lw_at lw_m0 186 rfl) rfl
theorem q206 : (Jvm.Cond.selects "CausalCheckModel" ({ cls := "CausalCheckModel", name := "sound", desc := "()I" } : Jvm.MethodName) ({ cls := "CausalCheckModel", name := "sound", desc := "()I" } : Jvm.MethodName)) ∈ lw_all := lw_g (lw_at lw_m0 187 rfl) rfl
theorem q207 : (Jvm.Cond.code ({ cls := "CausalCheckModel", name := "sound", desc := "()I" } : Jvm.MethodName) prog_3_method_18_code (4 : Nat) (Option.some Jvm.ClassFile.FieldType.int)) ∈ lw_all := lw_g (lw_at lw_m0 188 rfl) rfl
theorem q208 : (Jvm.Cond.methodLink "CausalCheckModel" (69 : Nat) ({ cls := "CausalCheckModel", name := "weak", desc := "(I)I" } : Jvm.MethodName)) ∈ lw_all := lw_g (lw_at lw_m0 189 rfl) rfl
theorem q209 : (Jvm.Cond.methodLink "CausalCheckModel" (73 : Nat) ({ cls := "CausalCheckModel", name := "strong", desc := "(I)I" } : Jvm.MethodName)) ∈ lw_all := lw_g (lw_at lw_m0 190 rfl) rfl
theorem q210 : (Jvm.Cond.methodLink "CausalCheckModel" (76 : Nat) ({ cls := "CausalCheckModel", name := "converges", desc := "(I)Z" } : Jvm.MethodName)) ∈ lw_all := lw_g (lw_at lw_m0 191 rfl) rfl
theorem q211 : (Jvm.Cond.privateMethod ({ cls := "CausalCheckModel", name := "converges", desc := "(I)Z" } : Jvm.MethodName)) ∈ lw_tbl := lw_at lw_m0 192 rfl
theorem q212 : (Jvm.Cond.instanceMethod ({ cls := "CausalCheckModel", name := "converges", desc := "(I)Z" } : Jvm.MethodName)) ∈ lw_all := lw_g (lw_at lw_m0 193 rfl) rfl
theorem q213 : (Jvm.Cond.code ({ cls := "CausalCheckModel", name := "converges", desc := "(I)Z" } : Jvm.MethodName) prog_3_method_16_code (5 : Nat) (Option.some Jvm.ClassFile.FieldType.boolean)) ∈ lw_all := lw_g (lw_at lw_m0 194 rfl) rfl
theorem q214 : (Jvm.Cond.methodLink "CausalCheckModel" (59 : Nat) ({ cls := "CausalCheckModel", name := "arrange", desc := "(II)V" } : Jvm.MethodName)) ∈ lw_all := lw_g (lw_at lw_m0 195 rfl) rfl
theorem q215 : (Jvm.Cond.privateMethod ({ cls := "CausalCheckModel", name := "arrange", desc := "(II)V" } : Jvm.MethodName)) ∈ lw_tbl := lw_at lw_m0 196 rfl
theorem q216 : (Jvm.Cond.instanceMethod ({ cls := "CausalCheckModel", name := "arrange", desc := "(II)V" } : Jvm.MethodName)) ∈ lw_all := lw_g (lw_at lw_m0 197 rfl) rfl
theorem q217 : (Jvm.Cond.code ({ cls := "CausalCheckModel", name := "arrange", desc := "(II)V" } : Jvm.MethodName) prog_3_method_17_code (8 : Nat) (Option.none : Option Jvm.ClassFile.FieldType)) ∈ lw_all := lw_g (lw_at lw_m0 198 rfl) rfl
theorem q218 : (Jvm.Cond.methodLink "CausalCheckModel" (63 : Nat) ({ cls := "CausalCheckModel", name := "isRow", desc := "(I)Z" } : Jvm.MethodName)) ∈ lw_all := lw_g (lw_at lw_m0 199 rfl) rfl
theorem q219 : (Jvm.Cond.privateMethod ({ cls := "CausalCheckModel", name := "isRow", desc := "(I)Z" } : Jvm.MethodName)) ∈ lw_tbl := lw_at lw_m0 200 rfl
theorem q220 : (Jvm.Cond.instanceMethod ({ cls := "CausalCheckModel", name := "isRow", desc := "(I)Z" } : Jvm.MethodName)) ∈ lw_all := lw_g (lw_at lw_m0 201 rfl) rfl
theorem q221 : (Jvm.Cond.code ({ cls := "CausalCheckModel", name := "isRow", desc := "(I)Z" } : Jvm.MethodName) prog_3_method_14_code (4 : Nat) (Option.some Jvm.ClassFile.FieldType.boolean)) ∈ lw_all := lw_g (lw_at lw_m0 202 rfl) rfl
theorem q222 : (Jvm.Cond.methodLink "CausalCheckModel" (66 : Nat) ({ cls := "CausalCheckModel", name := "fits", desc := "(II)Z" } : Jvm.MethodName)) ∈ lw_all := lw_g (lw_at lw_m0 203 rfl) rfl
theorem q223 : (Jvm.Cond.privateMethod ({ cls := "CausalCheckModel", name := "fits", desc := "(II)Z" } : Jvm.MethodName)) ∈ lw_tbl := lw_at lw_m0 204 rfl
theorem q224 : (Jvm.Cond.instanceMethod ({ cls := "CausalCheckModel", name := "fits", desc := "(II)Z" } : Jvm.MethodName)) ∈ lw_all := lw_g (lw_at lw_m0 205 rfl) rfl
theorem q225 : (Jvm.Cond.code ({ cls := "CausalCheckModel", name := "fits", desc := "(II)Z" } : Jvm.MethodName) prog_3_method_15_code (7 : Nat) (Option.some Jvm.ClassFile.FieldType.boolean)) ∈ lw_all := lw_g (lw_at lw_m0 206 rfl) rfl
theorem q227 : (Jvm.Cond.instanceMethod ({ cls := "CausalCheckModel", name := "choices", desc := "(II)I" } : Jvm.MethodName)) ∈ lw_all := lw_g (lw_at lw_m0 208 rfl) rfl
theorem q228 : (Jvm.Cond.selects "CausalCheckModel" ({ cls := "CausalCheckModel", name := "choices", desc := "(II)I" } : Jvm.MethodName) ({ cls := "CausalCheckModel", name := "choices", desc := "(II)I" } : Jvm.MethodName)) ∈ lw_all := lw_g (lw_at lw_m0 209 rfl) rfl
theorem q229 : (Jvm.Cond.code ({ cls := "CausalCheckModel", name := "choices", desc := "(II)I" } : Jvm.MethodName) prog_3_method_19_code (5 : Nat) (Option.some Jvm.ClassFile.FieldType.int)) ∈ lw_all := lw_g (lw_at lw_m0 210 rfl) rfl
theorem in_X1 : ∀ w ∈ wsX10, w ∈ lw_all := lw_in wsX10 [140, 142, 144, 146, 148, 150, 152, 154] (by decide +kernel) (by decide +kernel)
end
section
/-! the law's own entry -/
set_option maxRecDepth 100000
abbrev cL_law : ByteArray := code
theorem dL_law_0 : decode cL_law 0 = .ok (.new 7, 3) := by decide +kernel
theorem dL_law_3 : decode cL_law 3 = .ok (.dup, 1) := by decide +kernel
theorem dL_law_4 : decode cL_law 4 = .ok (.invokespecial 9, 3) := by decide +kernel
theorem dL_law_7 : decode cL_law 7 = .ok (.astore_n 1, 1) := by decide +kernel
theorem dL_law_8 : decode cL_law 8 = .ok (.new 10, 3) := by decide +kernel
theorem dL_law_11 : decode cL_law 11 = .ok (.dup, 1) := by decide +kernel
theorem dL_law_12 : decode cL_law 12 = .ok (.invokespecial 12, 3) := by decide +kernel
theorem dL_law_15 : decode cL_law 15 = .ok (.astore_n 2, 1) := by decide +kernel
theorem dL_law_16 : decode cL_law 16 = .ok (.iconst 0, 1) := by decide +kernel
theorem dL_law_17 : decode cL_law 17 = .ok (.istore_n 3, 1) := by decide +kernel
theorem dL_law_18 : decode cL_law 18 = .ok (.iload_n 3, 1) := by decide +kernel
theorem dL_law_19 : decode cL_law 19 = .ok (.aload_n 0, 1) := by decide +kernel
theorem dL_law_20 : decode cL_law 20 = .ok (.arraylength, 1) := by decide +kernel
theorem dL_law_21 : decode cL_law 21 = .ok (.iconst 4, 1) := by decide +kernel
theorem dL_law_22 : decode cL_law 22 = .ok (.isub, 1) := by decide +kernel
theorem dL_law_23 : decode cL_law 23 = .ok (.if_icmp .gt 277, 3) := by decide +kernel
theorem dL_law_26 : decode cL_law 26 = .ok (.aload_n 0, 1) := by decide +kernel
theorem dL_law_27 : decode cL_law 27 = .ok (.iload_n 3, 1) := by decide +kernel
theorem dL_law_28 : decode cL_law 28 = .ok (.iaload, 1) := by decide +kernel
theorem dL_law_29 : decode cL_law 29 = .ok (.bipush 7, 2) := by decide +kernel
theorem dL_law_31 : decode cL_law 31 = .ok (.iand, 1) := by decide +kernel
theorem dL_law_32 : decode cL_law 32 = .ok (.tableswitch 262 0 7 #[48, 81, 124, 137, 170, 193, 216, 229], 48) := by decide +kernel
theorem dL_law_80 : decode cL_law 80 = .ok (.aload_n 1, 1) := by decide +kernel
theorem dL_law_81 : decode cL_law 81 = .ok (.aload_n 0, 1) := by decide +kernel
theorem dL_law_82 : decode cL_law 82 = .ok (.iload_n 3, 1) := by decide +kernel
theorem dL_law_83 : decode cL_law 83 = .ok (.iconst 1, 1) := by decide +kernel
theorem dL_law_84 : decode cL_law 84 = .ok (.iadd, 1) := by decide +kernel
theorem dL_law_85 : decode cL_law 85 = .ok (.iaload, 1) := by decide +kernel
theorem dL_law_86 : decode cL_law 86 = .ok (.aload_n 0, 1) := by decide +kernel
theorem dL_law_87 : decode cL_law 87 = .ok (.iload_n 3, 1) := by decide +kernel
theorem dL_law_88 : decode cL_law 88 = .ok (.iconst 2, 1) := by decide +kernel
theorem dL_law_89 : decode cL_law 89 = .ok (.iadd, 1) := by decide +kernel
theorem dL_law_90 : decode cL_law 90 = .ok (.iaload, 1) := by decide +kernel
theorem dL_law_91 : decode cL_law 91 = .ok (.invokevirtual 13, 3) := by decide +kernel
theorem dL_law_94 : decode cL_law 94 = .ok (.aload_n 2, 1) := by decide +kernel
theorem dL_law_95 : decode cL_law 95 = .ok (.aload_n 0, 1) := by decide +kernel
theorem dL_law_96 : decode cL_law 96 = .ok (.iload_n 3, 1) := by decide +kernel
theorem dL_law_97 : decode cL_law 97 = .ok (.iconst 1, 1) := by decide +kernel
theorem dL_law_98 : decode cL_law 98 = .ok (.iadd, 1) := by decide +kernel
theorem dL_law_99 : decode cL_law 99 = .ok (.iaload, 1) := by decide +kernel
theorem dL_law_100 : decode cL_law 100 = .ok (.aload_n 0, 1) := by decide +kernel
theorem dL_law_101 : decode cL_law 101 = .ok (.iload_n 3, 1) := by decide +kernel
theorem dL_law_102 : decode cL_law 102 = .ok (.iconst 2, 1) := by decide +kernel
theorem dL_law_103 : decode cL_law 103 = .ok (.iadd, 1) := by decide +kernel
theorem dL_law_104 : decode cL_law 104 = .ok (.iaload, 1) := by decide +kernel
theorem dL_law_105 : decode cL_law 105 = .ok (.invokevirtual 17, 3) := by decide +kernel
theorem dL_law_108 : decode cL_law 108 = .ok (.if_icmp .eq 186, 3) := by decide +kernel
theorem dL_law_111 : decode cL_law 111 = .ok (.iconst 0, 1) := by decide +kernel
theorem dL_law_112 : decode cL_law 112 = .ok (.ireturn, 1) := by decide +kernel
theorem dL_law_113 : decode cL_law 113 = .ok (.aload_n 1, 1) := by decide +kernel
theorem dL_law_114 : decode cL_law 114 = .ok (.aload_n 0, 1) := by decide +kernel
theorem dL_law_115 : decode cL_law 115 = .ok (.iload_n 3, 1) := by decide +kernel
theorem dL_law_116 : decode cL_law 116 = .ok (.iconst 1, 1) := by decide +kernel
theorem dL_law_117 : decode cL_law 117 = .ok (.iadd, 1) := by decide +kernel
theorem dL_law_118 : decode cL_law 118 = .ok (.iaload, 1) := by decide +kernel
theorem dL_law_119 : decode cL_law 119 = .ok (.aload_n 0, 1) := by decide +kernel
theorem dL_law_120 : decode cL_law 120 = .ok (.iload_n 3, 1) := by decide +kernel
theorem dL_law_121 : decode cL_law 121 = .ok (.iconst 2, 1) := by decide +kernel
theorem dL_law_122 : decode cL_law 122 = .ok (.iadd, 1) := by decide +kernel
theorem dL_law_123 : decode cL_law 123 = .ok (.iaload, 1) := by decide +kernel
theorem dL_law_124 : decode cL_law 124 = .ok (.aload_n 0, 1) := by decide +kernel
theorem dL_law_125 : decode cL_law 125 = .ok (.iload_n 3, 1) := by decide +kernel
theorem dL_law_126 : decode cL_law 126 = .ok (.iconst 3, 1) := by decide +kernel
theorem dL_law_127 : decode cL_law 127 = .ok (.iadd, 1) := by decide +kernel
theorem dL_law_128 : decode cL_law 128 = .ok (.iaload, 1) := by decide +kernel
theorem dL_law_129 : decode cL_law 129 = .ok (.invokevirtual 18, 3) := by decide +kernel
theorem dL_law_132 : decode cL_law 132 = .ok (.aload_n 2, 1) := by decide +kernel
theorem dL_law_133 : decode cL_law 133 = .ok (.aload_n 0, 1) := by decide +kernel
theorem dL_law_134 : decode cL_law 134 = .ok (.iload_n 3, 1) := by decide +kernel
theorem dL_law_135 : decode cL_law 135 = .ok (.iconst 1, 1) := by decide +kernel
theorem dL_law_136 : decode cL_law 136 = .ok (.iadd, 1) := by decide +kernel
theorem dL_law_137 : decode cL_law 137 = .ok (.iaload, 1) := by decide +kernel
theorem dL_law_138 : decode cL_law 138 = .ok (.aload_n 0, 1) := by decide +kernel
theorem dL_law_139 : decode cL_law 139 = .ok (.iload_n 3, 1) := by decide +kernel
theorem dL_law_140 : decode cL_law 140 = .ok (.iconst 2, 1) := by decide +kernel
theorem dL_law_141 : decode cL_law 141 = .ok (.iadd, 1) := by decide +kernel
theorem dL_law_142 : decode cL_law 142 = .ok (.iaload, 1) := by decide +kernel
theorem dL_law_143 : decode cL_law 143 = .ok (.aload_n 0, 1) := by decide +kernel
theorem dL_law_144 : decode cL_law 144 = .ok (.iload_n 3, 1) := by decide +kernel
theorem dL_law_145 : decode cL_law 145 = .ok (.iconst 3, 1) := by decide +kernel
theorem dL_law_146 : decode cL_law 146 = .ok (.iadd, 1) := by decide +kernel
theorem dL_law_147 : decode cL_law 147 = .ok (.iaload, 1) := by decide +kernel
theorem dL_law_148 : decode cL_law 148 = .ok (.invokevirtual 22, 3) := by decide +kernel
theorem dL_law_151 : decode cL_law 151 = .ok (.if_icmp .eq 143, 3) := by decide +kernel
theorem dL_law_154 : decode cL_law 154 = .ok (.iconst 0, 1) := by decide +kernel
theorem dL_law_155 : decode cL_law 155 = .ok (.ireturn, 1) := by decide +kernel
theorem dL_law_156 : decode cL_law 156 = .ok (.aload_n 1, 1) := by decide +kernel
theorem dL_law_157 : decode cL_law 157 = .ok (.invokevirtual 23, 3) := by decide +kernel
theorem dL_law_160 : decode cL_law 160 = .ok (.aload_n 2, 1) := by decide +kernel
theorem dL_law_161 : decode cL_law 161 = .ok (.invokevirtual 27, 3) := by decide +kernel
theorem dL_law_164 : decode cL_law 164 = .ok (.if_icmp .eq 130, 3) := by decide +kernel
theorem dL_law_167 : decode cL_law 167 = .ok (.iconst 0, 1) := by decide +kernel
theorem dL_law_168 : decode cL_law 168 = .ok (.ireturn, 1) := by decide +kernel
theorem dL_law_169 : decode cL_law 169 = .ok (.aload_n 1, 1) := by decide +kernel
theorem dL_law_170 : decode cL_law 170 = .ok (.aload_n 0, 1) := by decide +kernel
theorem dL_law_171 : decode cL_law 171 = .ok (.iload_n 3, 1) := by decide +kernel
theorem dL_law_172 : decode cL_law 172 = .ok (.iconst 1, 1) := by decide +kernel
theorem dL_law_173 : decode cL_law 173 = .ok (.iadd, 1) := by decide +kernel
theorem dL_law_174 : decode cL_law 174 = .ok (.iaload, 1) := by decide +kernel
theorem dL_law_175 : decode cL_law 175 = .ok (.aload_n 0, 1) := by decide +kernel
theorem dL_law_176 : decode cL_law 176 = .ok (.iload_n 3, 1) := by decide +kernel
theorem dL_law_177 : decode cL_law 177 = .ok (.iconst 2, 1) := by decide +kernel
theorem dL_law_178 : decode cL_law 178 = .ok (.iadd, 1) := by decide +kernel
theorem dL_law_179 : decode cL_law 179 = .ok (.iaload, 1) := by decide +kernel
theorem dL_law_180 : decode cL_law 180 = .ok (.invokevirtual 28, 3) := by decide +kernel
theorem dL_law_183 : decode cL_law 183 = .ok (.aload_n 2, 1) := by decide +kernel
theorem dL_law_184 : decode cL_law 184 = .ok (.aload_n 0, 1) := by decide +kernel
theorem dL_law_185 : decode cL_law 185 = .ok (.iload_n 3, 1) := by decide +kernel
theorem dL_law_186 : decode cL_law 186 = .ok (.iconst 1, 1) := by decide +kernel
theorem dL_law_187 : decode cL_law 187 = .ok (.iadd, 1) := by decide +kernel
theorem dL_law_188 : decode cL_law 188 = .ok (.iaload, 1) := by decide +kernel
theorem dL_law_189 : decode cL_law 189 = .ok (.aload_n 0, 1) := by decide +kernel
theorem dL_law_190 : decode cL_law 190 = .ok (.iload_n 3, 1) := by decide +kernel
theorem dL_law_191 : decode cL_law 191 = .ok (.iconst 2, 1) := by decide +kernel
theorem dL_law_192 : decode cL_law 192 = .ok (.iadd, 1) := by decide +kernel
theorem dL_law_193 : decode cL_law 193 = .ok (.iaload, 1) := by decide +kernel
theorem dL_law_194 : decode cL_law 194 = .ok (.invokevirtual 31, 3) := by decide +kernel
theorem dL_law_197 : decode cL_law 197 = .ok (.if_icmp .eq 97, 3) := by decide +kernel
theorem dL_law_200 : decode cL_law 200 = .ok (.iconst 0, 1) := by decide +kernel
theorem dL_law_201 : decode cL_law 201 = .ok (.ireturn, 1) := by decide +kernel
theorem dL_law_202 : decode cL_law 202 = .ok (.aload_n 1, 1) := by decide +kernel
theorem dL_law_203 : decode cL_law 203 = .ok (.aload_n 0, 1) := by decide +kernel
theorem dL_law_204 : decode cL_law 204 = .ok (.iload_n 3, 1) := by decide +kernel
theorem dL_law_205 : decode cL_law 205 = .ok (.iconst 1, 1) := by decide +kernel
theorem dL_law_206 : decode cL_law 206 = .ok (.iadd, 1) := by decide +kernel
theorem dL_law_207 : decode cL_law 207 = .ok (.iaload, 1) := by decide +kernel
theorem dL_law_208 : decode cL_law 208 = .ok (.invokevirtual 32, 3) := by decide +kernel
theorem dL_law_211 : decode cL_law 211 = .ok (.aload_n 2, 1) := by decide +kernel
theorem dL_law_212 : decode cL_law 212 = .ok (.aload_n 0, 1) := by decide +kernel
theorem dL_law_213 : decode cL_law 213 = .ok (.iload_n 3, 1) := by decide +kernel
theorem dL_law_214 : decode cL_law 214 = .ok (.iconst 1, 1) := by decide +kernel
theorem dL_law_215 : decode cL_law 215 = .ok (.iadd, 1) := by decide +kernel
theorem dL_law_216 : decode cL_law 216 = .ok (.iaload, 1) := by decide +kernel
theorem dL_law_217 : decode cL_law 217 = .ok (.invokevirtual 36, 3) := by decide +kernel
theorem dL_law_220 : decode cL_law 220 = .ok (.if_icmp .eq 74, 3) := by decide +kernel
theorem dL_law_223 : decode cL_law 223 = .ok (.iconst 0, 1) := by decide +kernel
theorem dL_law_224 : decode cL_law 224 = .ok (.ireturn, 1) := by decide +kernel
theorem dL_law_225 : decode cL_law 225 = .ok (.aload_n 1, 1) := by decide +kernel
theorem dL_law_226 : decode cL_law 226 = .ok (.aload_n 0, 1) := by decide +kernel
theorem dL_law_227 : decode cL_law 227 = .ok (.iload_n 3, 1) := by decide +kernel
theorem dL_law_228 : decode cL_law 228 = .ok (.iconst 1, 1) := by decide +kernel
theorem dL_law_229 : decode cL_law 229 = .ok (.iadd, 1) := by decide +kernel
theorem dL_law_230 : decode cL_law 230 = .ok (.iaload, 1) := by decide +kernel
theorem dL_law_231 : decode cL_law 231 = .ok (.invokevirtual 37, 3) := by decide +kernel
theorem dL_law_234 : decode cL_law 234 = .ok (.aload_n 2, 1) := by decide +kernel
theorem dL_law_235 : decode cL_law 235 = .ok (.aload_n 0, 1) := by decide +kernel
theorem dL_law_236 : decode cL_law 236 = .ok (.iload_n 3, 1) := by decide +kernel
theorem dL_law_237 : decode cL_law 237 = .ok (.iconst 1, 1) := by decide +kernel
theorem dL_law_238 : decode cL_law 238 = .ok (.iadd, 1) := by decide +kernel
theorem dL_law_239 : decode cL_law 239 = .ok (.iaload, 1) := by decide +kernel
theorem dL_law_240 : decode cL_law 240 = .ok (.invokevirtual 40, 3) := by decide +kernel
theorem dL_law_243 : decode cL_law 243 = .ok (.if_icmp .eq 51, 3) := by decide +kernel
theorem dL_law_246 : decode cL_law 246 = .ok (.iconst 0, 1) := by decide +kernel
theorem dL_law_247 : decode cL_law 247 = .ok (.ireturn, 1) := by decide +kernel
theorem dL_law_248 : decode cL_law 248 = .ok (.aload_n 1, 1) := by decide +kernel
theorem dL_law_249 : decode cL_law 249 = .ok (.invokevirtual 41, 3) := by decide +kernel
theorem dL_law_252 : decode cL_law 252 = .ok (.aload_n 2, 1) := by decide +kernel
theorem dL_law_253 : decode cL_law 253 = .ok (.invokevirtual 44, 3) := by decide +kernel
theorem dL_law_256 : decode cL_law 256 = .ok (.if_icmp .eq 38, 3) := by decide +kernel
theorem dL_law_259 : decode cL_law 259 = .ok (.iconst 0, 1) := by decide +kernel
theorem dL_law_260 : decode cL_law 260 = .ok (.ireturn, 1) := by decide +kernel
theorem dL_law_261 : decode cL_law 261 = .ok (.aload_n 1, 1) := by decide +kernel
theorem dL_law_262 : decode cL_law 262 = .ok (.aload_n 0, 1) := by decide +kernel
theorem dL_law_263 : decode cL_law 263 = .ok (.iload_n 3, 1) := by decide +kernel
theorem dL_law_264 : decode cL_law 264 = .ok (.iconst 1, 1) := by decide +kernel
theorem dL_law_265 : decode cL_law 265 = .ok (.iadd, 1) := by decide +kernel
theorem dL_law_266 : decode cL_law 266 = .ok (.iaload, 1) := by decide +kernel
theorem dL_law_267 : decode cL_law 267 = .ok (.aload_n 0, 1) := by decide +kernel
theorem dL_law_268 : decode cL_law 268 = .ok (.iload_n 3, 1) := by decide +kernel
theorem dL_law_269 : decode cL_law 269 = .ok (.iconst 2, 1) := by decide +kernel
theorem dL_law_270 : decode cL_law 270 = .ok (.iadd, 1) := by decide +kernel
theorem dL_law_271 : decode cL_law 271 = .ok (.iaload, 1) := by decide +kernel
theorem dL_law_272 : decode cL_law 272 = .ok (.invokevirtual 45, 3) := by decide +kernel
theorem dL_law_275 : decode cL_law 275 = .ok (.aload_n 2, 1) := by decide +kernel
theorem dL_law_276 : decode cL_law 276 = .ok (.aload_n 0, 1) := by decide +kernel
theorem dL_law_277 : decode cL_law 277 = .ok (.iload_n 3, 1) := by decide +kernel
theorem dL_law_278 : decode cL_law 278 = .ok (.iconst 1, 1) := by decide +kernel
theorem dL_law_279 : decode cL_law 279 = .ok (.iadd, 1) := by decide +kernel
theorem dL_law_280 : decode cL_law 280 = .ok (.iaload, 1) := by decide +kernel
theorem dL_law_281 : decode cL_law 281 = .ok (.aload_n 0, 1) := by decide +kernel
theorem dL_law_282 : decode cL_law 282 = .ok (.iload_n 3, 1) := by decide +kernel
theorem dL_law_283 : decode cL_law 283 = .ok (.iconst 2, 1) := by decide +kernel
theorem dL_law_284 : decode cL_law 284 = .ok (.iadd, 1) := by decide +kernel
theorem dL_law_285 : decode cL_law 285 = .ok (.iaload, 1) := by decide +kernel
theorem dL_law_286 : decode cL_law 286 = .ok (.invokevirtual 48, 3) := by decide +kernel
theorem dL_law_289 : decode cL_law 289 = .ok (.if_icmp .eq 5, 3) := by decide +kernel
theorem dL_law_292 : decode cL_law 292 = .ok (.iconst 0, 1) := by decide +kernel
theorem dL_law_293 : decode cL_law 293 = .ok (.ireturn, 1) := by decide +kernel
theorem dL_law_294 : decode cL_law 294 = .ok (.iinc 3 4, 3) := by decide +kernel
theorem dL_law_297 : decode cL_law 297 = .ok (.goto (-279), 3) := by decide +kernel
theorem dL_law_300 : decode cL_law 300 = .ok (.iconst 1, 1) := by decide +kernel
theorem dL_law_301 : decode cL_law 301 = .ok (.ireturn, 1) := by decide +kernel
end
section
/-! PURE PART 1: truth values, masks, counting. No program in sight. -/
noncomputable def cx_B (P : Prop) : Bool := @decide P (Classical.propDecidable P)
theorem cx_B_t {P : Prop} (h : P) : cx_B P = true := @decide_eq_true P (Classical.propDecidable P) h
theorem cx_B_f {P : Prop} (h : ¬ P) : cx_B P = false := @decide_eq_false P (Classical.propDecidable P) h
theorem cx_B_iff {P : Prop} : cx_B P = true ↔ P :=
  ⟨fun h => Classical.byContradiction fun q => (by rw [cx_B_f q] at h; cases h), cx_B_t⟩
theorem cx_B_eq {P Q : Prop} (h : P ↔ Q) : cx_B P = cx_B Q := by rw [propext h]
theorem cx_B_of {b : Bool} {P : Prop} (h : b = true ↔ P) : b = cx_B P := by
  cases b with
  | false => exact (cx_B_f (fun q => Bool.noConfusion (h.mpr q))).symm
  | true => exact (cx_B_t (h.mp rfl)).symm
/-- bits -/
theorem cx_or {a b i : Nat} : (a ||| b).testBit i = true ↔ a.testBit i = true ∨ b.testBit i = true := by
  rw [Nat.testBit_or, Bool.or_eq_true]
theorem cx_p2 {k i : Nat} : (2 ^ k).testBit i = true ↔ k = i := by
  rw [Nat.testBit_two_pow, decide_eq_true_eq]
theorem cx_orp {a k i : Nat} : (a ||| 2 ^ k).testBit i = true ↔ a.testBit i = true ∨ k = i := by
  rw [cx_or, cx_p2]
theorem cx_nt {b : Bool} : ¬ b = true ↔ b = false := by cases b <;> simp
theorem cx_nf {b : Bool} : ¬ b = false ↔ b = true := by cases b <;> simp
theorem cx_beq {a b : Bool} (h : a = true ↔ b = true) : a = b := by
  cases a <;> cases b <;> simp at h ⊢
theorem cx_ext {a b : Nat} (h : ∀ i, a.testBit i = true ↔ b.testBit i = true) : a = b :=
  Nat.eq_of_testBit_eq fun i => cx_beq (h i)
theorem cx_lt {a k i : Nat} (h : a < 2 ^ k) (hi : a.testBit i = true) : i < k := by
  rcases Nat.lt_or_ge i k with q | q
  · exact q
  · have h2 : a < 2 ^ i := Nat.lt_of_lt_of_le h (Nat.pow_le_pow_right (by decide) q)
    rw [Nat.testBit_lt_two_pow h2] at hi
    cases hi
theorem cx_ltof {a k : Nat} (h : ∀ i, a.testBit i = true → i < k) : a < 2 ^ k :=
  Nat.lt_pow_two_of_testBit a fun i hi => by
    rcases hb : a.testBit i with _ | _
    · rfl
    · exact absurd (h i hb) (by omega)
theorem cx_orlt {a b k : Nat} (ha : a < 2 ^ k) (hb : b < 2 ^ k) : a ||| b < 2 ^ k :=
  cx_ltof fun i hi => by
    rcases cx_or.mp hi with q | q
    · exact cx_lt ha q
    · exact cx_lt hb q
def cx_sub (a b : Nat) : Bool := decide (a &&& b = a)
theorem cx_sub_iff {a b : Nat} : cx_sub a b = true ↔ ∀ i, a.testBit i = true → b.testBit i = true := by
  unfold cx_sub
  rw [decide_eq_true_eq]
  constructor
  · intro h i hi
    rw [← h, Nat.testBit_and, Bool.and_eq_true] at hi
    exact hi.2
  · intro h
    refine cx_ext fun i => ?_
    rw [Nat.testBit_and, Bool.and_eq_true]
    exact ⟨fun q => q.1, fun q => ⟨q, h i q⟩⟩
/-- a mask by its bits -/
def cx_mk (p : Nat → Bool) : Nat → Nat
  | 0 => 0
  | k + 1 => cx_mk p k ||| (if p k = true then 2 ^ k else 0)
theorem cx_mk_bit (p : Nat → Bool) : ∀ k i, (cx_mk p k).testBit i = true ↔ i < k ∧ p i = true
  | 0, i => by
    rw [cx_mk, Nat.zero_testBit]
    exact ⟨fun h => (by cases h), fun h => absurd h.1 (by omega)⟩
  | k + 1, i => by
    rw [cx_mk, cx_or, cx_mk_bit p k i]
    by_cases hk : p k = true
    · rw [if_pos hk, cx_p2]
      constructor
      · intro h
        rcases h with h | h
        · exact ⟨by omega, h.2⟩
        · subst h
          exact ⟨by omega, hk⟩
      · intro h
        by_cases q : k = i
        · exact Or.inr q
        · exact Or.inl ⟨by omega, h.2⟩
    · rw [if_neg hk, Nat.zero_testBit]
      constructor
      · intro h
        rcases h with h | h
        · exact ⟨by omega, h.2⟩
        · cases h
      · intro h
        by_cases q : k = i
        · subst q
          exact absurd h.2 hk
        · exact Or.inl ⟨by omega, h.2⟩
theorem cx_mk_lt (p : Nat → Bool) (k : Nat) : cx_mk p k < 2 ^ k := cx_ltof fun i hi => ((cx_mk_bit p k i).mp hi).1
/-- how many below k -/
def cx_cn (p : Nat → Bool) : Nat → Nat
  | 0 => 0
  | k + 1 => cx_cn p k + (if p k = true then 1 else 0)
theorem cx_cn_le (p : Nat → Bool) : ∀ k, cx_cn p k ≤ k
  | 0 => Nat.le_refl 0
  | k + 1 => by
    have := cx_cn_le p k
    rw [cx_cn]
    split <;> omega
theorem cx_cn_mono {p q : Nat → Bool} : ∀ k, (∀ i, i < k → p i = true → q i = true) → cx_cn p k ≤ cx_cn q k
  | 0, _ => Nat.le_refl 0
  | k + 1, h => by
    have h1 := cx_cn_mono k (fun i hi => h i (by omega))
    have h2 := h k (by omega)
    rw [cx_cn, cx_cn]
    by_cases hp : p k = true
    · rw [if_pos hp, if_pos (h2 hp)]
      omega
    · rw [if_neg hp]
      omega
theorem cx_cn_lt {p q : Nat → Bool} : ∀ k, (∀ i, i < k → p i = true → q i = true) → ∀ i, i < k → ¬ p i = true → q i = true → cx_cn p k < cx_cn q k
  | 0, _, i, hi, _, _ => absurd hi (by omega)
  | k + 1, h, i, hi, hp, hq => by
    have h0 : ∀ i, i < k → p i = true → q i = true := fun i hi => h i (by omega)
    have h2 := h k (by omega)
    rw [cx_cn, cx_cn]
    by_cases e : i = k
    · subst e
      have h1 := cx_cn_mono i h0
      rw [if_neg hp, if_pos hq]
      omega
    · have h1 := cx_cn_lt k h0 i (by omega) hp hq
      by_cases hp : p k = true
      · rw [if_pos hp, if_pos (h2 hp)]
        omega
      · rw [if_neg hp]
        omega
theorem cx_cn_congr {p q : Nat → Bool} (k : Nat) (h : ∀ i, i < k → (p i = true ↔ q i = true)) : cx_cn p k = cx_cn q k :=
  Nat.le_antisymm (cx_cn_mono k fun i hi => (h i hi).mp) (cx_cn_mono k fun i hi => (h i hi).mpr)
/-- sums -/
def cx_sm (f : Nat → Nat) : Nat → Nat
  | 0 => 0
  | k + 1 => cx_sm f k + f k
theorem cx_sm_mem (f : Nat → Nat) : ∀ k i, i < k → f i ≤ cx_sm f k
  | 0, i, h => absurd h (by omega)
  | k + 1, i, h => by
    rw [cx_sm]
    by_cases e : i = k
    · subst e
      omega
    · have := cx_sm_mem f k i (by omega)
      omega
theorem cx_sm_mono {f g : Nat → Nat} : ∀ k, (∀ i, i < k → f i ≤ g i) → cx_sm f k ≤ cx_sm g k
  | 0, _ => Nat.le_refl 0
  | k + 1, h => by
    have h1 := cx_sm_mono k (fun i hi => h i (by omega))
    have h2 := h k (by omega)
    rw [cx_sm, cx_sm]
    omega
theorem cx_sm_lt {f g : Nat → Nat} : ∀ k, (∀ i, i < k → f i ≤ g i) → ∀ i, i < k → f i < g i → cx_sm f k < cx_sm g k
  | 0, _, i, hi, _ => absurd hi (by omega)
  | k + 1, h, i, hi, hl => by
    have h0 : ∀ i, i < k → f i ≤ g i := fun i hi => h i (by omega)
    have h2 := h k (by omega)
    rw [cx_sm, cx_sm]
    by_cases e : i = k
    · subst e
      have h1 := cx_sm_mono i h0
      omega
    · have h1 := cx_sm_lt k h0 i (by omega) hl
      omega
theorem cx_sm_bd {f : Nat → Nat} {c : Nat} : ∀ k, (∀ i, i < k → f i ≤ c) → cx_sm f k ≤ k * c
  | 0, _ => by rw [cx_sm]; omega
  | k + 1, h => by
    have h1 := cx_sm_bd k (fun i hi => h i (by omega))
    have h2 := h k (by omega)
    rw [cx_sm, Nat.succ_mul]
    omega
/-- the measure of a table of masks: bits below 7 in rows below 8 -/
def cx_pc (M : Nat → Nat) : Nat := cx_sm (fun a => cx_cn (M a).testBit 7) 8
theorem cx_pc_le (M : Nat → Nat) : cx_pc M ≤ 56 := cx_sm_bd (c := 7) 8 fun _ _ => cx_cn_le _ 7
theorem cx_pc_mono {M N : Nat → Nat} (h : ∀ a, a < 8 → ∀ i, (M a).testBit i = true → (N a).testBit i = true) : cx_pc M ≤ cx_pc N :=
  cx_sm_mono 8 fun a ha => cx_cn_mono 7 fun i _ => h a ha i
theorem cx_pc_lt {M N : Nat → Nat} (h : ∀ a, a < 8 → ∀ i, (M a).testBit i = true → (N a).testBit i = true) {a i : Nat} (ha : a < 8) (hi : i < 7) (h1 : ¬ (M a).testBit i = true) (h2 : (N a).testBit i = true) : cx_pc M < cx_pc N :=
  cx_sm_lt 8 (fun a ha => cx_cn_mono 7 fun i _ => h a ha i) a ha (cx_cn_lt 7 (fun i _ => h a ha i) i hi h1 h2)
theorem cx_up_self {α : Type} (f : Nat → α) (k : Nat) : va_up f k (f k) = f := by
  funext j
  unfold va_up
  split
  · next h => rw [h]
  · rfl
/-- what is before a new operation -/
def cx_en (us ea : Nat → Nat) (u s : Nat) : Nat → Nat
  | 0 => 0
  | o + 1 => if us o = u ∨ o = s then cx_en us ea u s o ||| (2 ^ o ||| ea o) else cx_en us ea u s o
theorem cx_en_bit (us ea : Nat → Nat) (u s : Nat) : ∀ k i, (cx_en us ea u s k).testBit i = true ↔ ∃ o, o < k ∧ (us o = u ∨ o = s) ∧ (o = i ∨ (ea o).testBit i = true)
  | 0, i => by
    rw [cx_en, Nat.zero_testBit]
    exact ⟨fun h => (by cases h), fun ⟨o, h, _⟩ => absurd h (by omega)⟩
  | k + 1, i => by
    rw [cx_en]
    by_cases hc : us k = u ∨ k = s
    · rw [if_pos hc, cx_or, cx_or, cx_p2, cx_en_bit us ea u s k i]
      constructor
      · intro h
        rcases h with ⟨o, h1, h2, h3⟩ | h
        · exact ⟨o, by omega, h2, h3⟩
        · exact ⟨k, by omega, hc, h⟩
      · intro ⟨o, h1, h2, h3⟩
        by_cases e : o = k
        · subst e
          exact Or.inr h3
        · exact Or.inl ⟨o, by omega, h2, h3⟩
    · rw [if_neg hc, cx_en_bit us ea u s k i]
      constructor
      · intro ⟨o, h1, h2, h3⟩
        exact ⟨o, by omega, h2, h3⟩
      · intro ⟨o, h1, h2, h3⟩
        by_cases e : o = k
        · subst e
          exact absurd h2 hc
        · exact ⟨o, by omega, h2, h3⟩
/-- a history of n operations as both objects hold it -/
def cx_Va (n : Nat) (us cs : Nat → Nat) (wr : Nat → Bool) (so ea : Nat → Nat) : Prop :=
  (∀ a, us a < 3) ∧ (∀ a, cs a < 2) ∧ (∀ a, so a ≤ 8) ∧ (∀ a, ea a < 256) ∧ (∀ a, a < n → ea a < 2 ^ a) ∧
  (∀ a b c, a < n → (ea a).testBit b = true → (ea b).testBit c = true → (ea a).testBit c = true) ∧
  (∀ a b, a < n → b < a → us b = us a → (ea a).testBit b = true) ∧
  (∀ a, a < n → wr a = false → so a = 8 ∨ (so a < a ∧ wr (so a) = true ∧ cs (so a) = cs a ∧ (ea a).testBit (so a) = true))
theorem cx_Va_0 : cx_Va 0 (fun _ => 0) (fun _ => 0) (fun _ => false) (fun _ => 0) (fun _ => 0) :=
  ⟨fun _ => (by simp), fun _ => (by simp), fun _ => (by simp), fun _ => (by simp), fun a h => absurd h (by omega), fun a _ _ h => absurd h (by omega), fun a _ h => absurd h (by omega), fun a h => absurd h (by omega)⟩
theorem cx_Va_mono {n m : Nat} {us cs : Nat → Nat} {wr : Nat → Bool} {so ea : Nat → Nat} (h : cx_Va n us cs wr so ea) (hm : m ≤ n) : cx_Va m us cs wr so ea := by
  obtain ⟨h1, h2, h3, h4, h5, h6, h7, h8⟩ := h
  exact ⟨h1, h2, h3, h4, fun a q => h5 a (by omega), fun a b c q => h6 a b c (by omega), fun a b q => h7 a b (by omega), fun a q => h8 a (by omega)⟩
theorem cx_Va_lt {n : Nat} {us cs : Nat → Nat} {wr : Nat → Bool} {so ea : Nat → Nat} (h : cx_Va n us cs wr so ea) {a b : Nat} (ha : a < n) (hb : (ea a).testBit b = true) : b < a := cx_lt (h.2.2.2.2.1 a ha) hb
theorem cx_Va_en {n : Nat} {us cs : Nat → Nat} {wr : Nat → Bool} {so ea : Nat → Nat} (h : cx_Va n us cs wr so ea) (hn : n ≤ 7) {u c s : Nat} {w : Bool} (hu : u < 3) (hc : c < 2) (hs : s ≤ 8) (hw : w = false → s = 8 ∨ (s < n ∧ wr s = true ∧ cs s = c)) :
    cx_Va (n + 1) (va_up us n u) (va_up cs n c) (va_up wr n w) (va_up so n s) (va_up ea n (cx_en us ea u s n)) := by
  have hlt : ∀ {a b : Nat}, a < n → (ea a).testBit b = true → b < a := fun ha hb => cx_Va_lt h ha hb
  obtain ⟨h1, h2, h3, h4, h5, h6, h7, h8⟩ := h
  have hen : cx_en us ea u s n < 2 ^ n := cx_ltof fun i hi => by
    obtain ⟨o, q1, q2, q3⟩ := (cx_en_bit us ea u s n i).mp hi
    rcases q3 with q3 | q3
    · omega
    · have := hlt q1 q3
      omega
  have hpow : 2 ^ n ≤ 2 ^ 8 := Nat.pow_le_pow_right (by decide) (by omega)
  refine ⟨fun a => ?_, fun a => ?_, fun a => ?_, fun a => ?_, fun a ha => ?_, fun a b d ha => ?_, fun a b ha hb => ?_, fun a ha => ?_⟩
  · unfold va_up; split
    · exact hu
    · exact h1 a
  · unfold va_up; split
    · exact hc
    · exact h2 a
  · unfold va_up; split
    · exact hs
    · exact h3 a
  · unfold va_up; split
    · omega
    · exact h4 a
  · unfold va_up; split
    · next e => rw [e]; exact hen
    · exact h5 a (by omega)
  · by_cases e : a = n
    · subst e
      rw [va_up_self]
      intro hb
      obtain ⟨o, q1, q2, q3⟩ := (cx_en_bit us ea u s a b).mp hb
      have hbn : b < a := by
        rcases q3 with q3 | q3
        · omega
        · have := hlt q1 q3
          omega
      rw [va_up_ne _ _ (by omega)]
      intro hd
      refine (cx_en_bit us ea u s a d).mpr ⟨o, q1, q2, Or.inr ?_⟩
      rcases q3 with q3 | q3
      · rw [q3]; exact hd
      · exact h6 o b d q1 q3 hd
    · rw [va_up_ne _ _ e]
      intro hb
      have hb2 := hlt (by omega) hb
      rw [va_up_ne _ _ (by omega)]
      exact h6 a b d (by omega) hb
  · by_cases e : a = n
    · subst e
      rw [va_up_self, va_up_self, va_up_ne _ _ (by omega)]
      intro q
      exact (cx_en_bit us ea u s a b).mpr ⟨b, hb, Or.inl q, Or.inl rfl⟩
    · rw [va_up_ne _ _ e, va_up_ne _ _ e, va_up_ne _ _ (by omega)]
      exact h7 a b (by omega) hb
  · by_cases e : a = n
    · subst e
      rw [va_up_self, va_up_self, va_up_self, va_up_self]
      intro hw0
      rcases hw hw0 with q | ⟨q1, q2, q3⟩
      · exact Or.inl q
      · refine Or.inr ⟨q1, ?_, ?_, ?_⟩
        · rw [va_up_ne _ _ (by omega)]; exact q2
        · rw [va_up_ne _ _ (by omega)]; exact q3
        · exact (cx_en_bit us ea u s a s).mpr ⟨s, q1, Or.inr rfl, Or.inl rfl⟩
    · rw [va_up_ne _ _ e, va_up_ne _ _ e, va_up_ne _ _ e, va_up_ne _ _ e]
      intro hw0
      rcases h8 a (by omega) hw0 with q | ⟨q1, q2, q3, q4⟩
      · exact Or.inl q
      · refine Or.inr ⟨q1, ?_, ?_, q4⟩
        · rw [va_up_ne _ _ (by omega)]; exact q2
        · rw [va_up_ne _ _ (by omega)]; exact q3
end
section
/-! PURE PART 2: rows (orders of a past), the weak check, the table of rows. -/
/-- K orders the past: apart, no operation behind one that it is before, and the reads that must be right are right -/
def cx_RowK (cs : Nat → Nat) (wr : Nat → Bool) (so ea : Nat → Nat) (past : Nat) (ms : Nat → Bool) (K : Nat → Nat) : Prop :=
  (∀ a b, past.testBit a = true → past.testBit b = true → K a = K b → a = b) ∧
  (∀ a b, past.testBit a = true → (ea a).testBit b = true → K b < K a) ∧
  (∀ r, past.testBit r = true → wr r = false → ms r = true →
    (so r = 8 → ∀ w, past.testBit w = true → wr w = true → cs w = cs r → ¬ K w < K r) ∧
    (so r ≠ 8 → ∀ w, past.testBit w = true → wr w = true → cs w = cs r → K w < K r → w = so r ∨ K w < K (so r)))
def cx_Row (cs : Nat → Nat) (wr : Nat → Bool) (so ea : Nat → Nat) (past : Nat) (ms : Nat → Bool) : Prop := ∃ K, cx_RowK cs wr so ea past ms K
/-- the past of an operation -/
def cx_pa (ea : Nat → Nat) (o : Nat) : Nat := ea o ||| 2 ^ o
theorem cx_pa_bit {ea : Nat → Nat} {o i : Nat} : (cx_pa ea o).testBit i = true ↔ (ea o).testBit i = true ∨ o = i := cx_orp
theorem cx_pa_in {n : Nat} {us cs : Nat → Nat} {wr : Nat → Bool} {so ea : Nat → Nat} (h : cx_Va n us cs wr so ea) {o i : Nat} (ho : o < n) (hi : (cx_pa ea o).testBit i = true) : i ≤ o := by
  rcases cx_pa_bit.mp hi with q | q
  · have := cx_Va_lt h ho q
    omega
  · omega
theorem cx_pa_cl {n : Nat} {us cs : Nat → Nat} {wr : Nat → Bool} {so ea : Nat → Nat} (h : cx_Va n us cs wr so ea) {o i j : Nat} (ho : o < n) (hi : (cx_pa ea o).testBit i = true) (hj : (ea i).testBit j = true) : (cx_pa ea o).testBit j = true := by
  refine cx_pa_bit.mpr (Or.inl ?_)
  rcases cx_pa_bit.mp hi with q | q
  · exact h.2.2.2.2.2.1 o i j ho q hj
  · rw [q]; exact hj
theorem cx_pa_lt {n : Nat} {us cs : Nat → Nat} {wr : Nat → Bool} {so ea : Nat → Nat} (h : cx_Va n us cs wr so ea) {o : Nat} (ho : o < n) (hn : n ≤ 7) : cx_pa ea o < 2 ^ 7 :=
  cx_ltof fun i hi => by
    have := cx_pa_in h ho hi
    omega
/-- the weak check -/
def cx_Wk (n : Nat) (cs : Nat → Nat) (wr : Nat → Bool) (so ea : Nat → Nat) (r : Nat) : Prop :=
  ∀ w, w < n → ¬ (wr w = true ∧ cs w = cs r ∧ (ea r).testBit w = true ∧ (so r = 8 ∨ (ea w).testBit (so r) = true))
theorem cx_weak {n : Nat} {us cs : Nat → Nat} {wr : Nat → Bool} {so ea : Nat → Nat} (h : cx_Va n us cs wr so ea) (hn : n ≤ 8) {r : Nat} (hr : r < n) (hw : wr r = false) :
    cx_Wk n cs wr so ea r ↔ cx_Row cs wr so ea (cx_pa ea r) (fun c => decide (c = r)) := by
  have h8 := h.2.2.2.2.2.2.2
  have h6 := h.2.2.2.2.2.1
  constructor
  · intro hk
    refine ⟨fun c => (if c = so r ∨ (ea c).testBit (so r) = true then 8 else 0) + c, fun a b ha hb => ?_, fun a b ha hb => ?_, fun q hq hwq hm => ?_⟩
    · have h1 := cx_pa_in h hr ha
      have h2 := cx_pa_in h hr hb
      dsimp only
      split <;> split <;> omega
    · have h1 := cx_pa_in h hr ha
      have h2 := cx_Va_lt h (by omega : a < n) hb
      dsimp only
      by_cases e : b = so r ∨ (ea b).testBit (so r) = true
      · have e2 : a = so r ∨ (ea a).testBit (so r) = true := by
          rcases e with e | e
          · exact Or.inr (by rw [← e]; exact hb)
          · exact Or.inr (h6 a b _ (by omega) hb e)
        rw [if_pos e, if_pos e2]
        omega
      · rw [if_neg e]
        split <;> omega
    · have e : q = r := of_decide_eq_true hm
      subst e
      constructor
      · intro hs w hpw hww hcw _
        rcases cx_pa_bit.mp hpw with p1 | p1
        · exact hk w (by have := cx_Va_lt h hr p1; omega) ⟨hww, hcw, p1, Or.inl hs⟩
        · subst p1
          rw [hw] at hww
          cases hww
      · intro hs w hpw hww hcw _
        rcases cx_pa_bit.mp hpw with p1 | p1
        · have hwn := cx_Va_lt h hr p1
          by_cases e : w = so q
          · exact Or.inl e
          · right
            have hb : ¬ (ea w).testBit (so q) = true := fun hb => hk w (by omega) ⟨hww, hcw, p1, Or.inr hb⟩
            dsimp only
            rw [if_neg (fun z => z.elim e hb), if_pos (Or.inl rfl)]
            omega
        · subst p1
          rw [hw] at hww
          cases hww
  · intro ⟨K, k1, k2, k3⟩ w hwn ⟨hww, hcw, hrw, hs⟩
    have hpr : (cx_pa ea r).testBit r = true := cx_pa_bit.mpr (Or.inr rfl)
    have hpw : (cx_pa ea r).testBit w = true := cx_pa_bit.mpr (Or.inl hrw)
    obtain ⟨g1, g2⟩ := k3 r hpr hw (decide_eq_true rfl)
    have hlt := k2 r w hpr hrw
    by_cases hs8 : so r = 8
    · exact g1 hs8 w hpw hww hcw hlt
    · have hb : (ea w).testBit (so r) = true := hs.resolve_left hs8
      have hsw := k2 w (so r) hpw hb
      rcases g2 hs8 w hpw hww hcw hlt with e | e
      · rw [← e] at hsw
        omega
      · omega
/-- the table of rows: one step on -/
def cx_af (cs : Nat → Nat) (wr : Nat → Bool) (so : Nat → Nat) (last c : Nat) (mu : Bool) : Option Nat :=
  if wr c = true then some (if cs c = 0 then 9 * c + last % 9 else last / 9 * 9 + c)
  else if mu = true ∧ (if cs c = 0 then last / 9 else last % 9) ≠ so c then none else some last
def cx_ed (cs : Nat → Nat) (wr : Nat → Bool) (so ea : Nat → Nat) (past : Nat) (ms : Nat → Bool) (i c : Nat) : Option Nat :=
  if past.testBit c = true ∧ (i / 81).testBit c = false ∧ cx_sub (ea c) (i / 81) = true then
    (cx_af cs wr so (i % 81) c (ms c)).map (fun l => 81 * ((i / 81) ||| 2 ^ c) + l)
  else none
theorem cx_af_lt {cs : Nat → Nat} {wr : Nat → Bool} {so : Nat → Nat} {last c l : Nat} {mu : Bool} (hl : last < 81) (hc : c < 9) (h : cx_af cs wr so last c mu = some l) : l < 81 := by
  unfold cx_af at h
  split at h
  · cases h
    split <;> omega
  · by_cases e : mu = true ∧ (if cs c = 0 then last / 9 else last % 9) ≠ so c
    · rw [if_pos e] at h
      cases h
    · rw [if_neg e] at h
      cases h
      exact hl
theorem cx_or_gt {a c : Nat} (h : a.testBit c = false) : a < a ||| 2 ^ c := by
  have h1 : a ≤ a ||| 2 ^ c := Nat.left_le_or
  rcases Nat.lt_or_ge a (a ||| 2 ^ c) with q | q
  · exact q
  · have e : a ||| 2 ^ c = a := by omega
    have h2 : (a ||| 2 ^ c).testBit c = true := cx_orp.mpr (Or.inr rfl)
    rw [e, h] at h2
    cases h2
theorem cx_ed_some {cs : Nat → Nat} {wr : Nat → Bool} {so ea : Nat → Nat} {past : Nat} {ms : Nat → Bool} {i c j : Nat} (h : cx_ed cs wr so ea past ms i c = some j) :
    past.testBit c = true ∧ (i / 81).testBit c = false ∧ cx_sub (ea c) (i / 81) = true ∧ ∃ l, cx_af cs wr so (i % 81) c (ms c) = some l ∧ j = 81 * ((i / 81) ||| 2 ^ c) + l := by
  unfold cx_ed at h
  split at h
  · next q =>
    refine ⟨q.1, q.2.1, q.2.2, ?_⟩
    cases e : cx_af cs wr so (i % 81) c (ms c) with
    | none => rw [e] at h; cases h
    | some l => rw [e] at h; cases h; exact ⟨l, rfl, rfl⟩
  · cases h
theorem cx_ed_gt {cs : Nat → Nat} {wr : Nat → Bool} {so ea : Nat → Nat} {past : Nat} {ms : Nat → Bool} {i c j : Nat} (h : cx_ed cs wr so ea past ms i c = some j) : i < j := by
  obtain ⟨h1, h2, h3, l, h4, h5⟩ := cx_ed_some h
  have := cx_or_gt h2
  omega
/-- what can be reached in m steps -/
def cx_Rc (n : Nat) (ed : Nat → Nat → Option Nat) : Nat → Nat → Prop
  | 0, j => j = 80
  | m + 1, j => ∃ i c, cx_Rc n ed m i ∧ c < n ∧ ed i c = some j
def cx_Re (n : Nat) (ed : Nat → Nat → Option Nat) (j : Nat) : Prop := ∃ m, cx_Rc n ed m j
theorem cx_Re_iff {n : Nat} {ed : Nat → Nat → Option Nat} {j : Nat} : cx_Re n ed j ↔ j = 80 ∨ ∃ i c, cx_Re n ed i ∧ c < n ∧ ed i c = some j := by
  constructor
  · intro ⟨m, h⟩
    cases m with
    | zero => exact Or.inl h
    | succ m =>
      obtain ⟨i, c, h1, h2, h3⟩ := h
      exact Or.inr ⟨i, c, ⟨m, h1⟩, h2, h3⟩
  · intro h
    rcases h with h | ⟨i, c, ⟨m, h1⟩, h2, h3⟩
    · exact ⟨0, h⟩
    · exact ⟨m + 1, i, c, h1, h2, h3⟩
/-- the table while it is filled: all steps from rows before i, and from row i by operations before c -/
def cx_DI (n : Nat) (ed : Nat → Nat → Option Nat) (rows : Nat → Bool) (i c : Nat) : Prop :=
  ∀ j, j < 10368 → (rows j = true ↔ (j = 80 ∨ ∃ i' c', cx_Re n ed i' ∧ c' < n ∧ ed i' c' = some j ∧ (i' < i ∨ (i' = i ∧ c' < c))))
theorem cx_DI_0 {n : Nat} {ed : Nat → Nat → Option Nat} {rows : Nat → Bool} (h : ∀ j, j < 10368 → (rows j = true ↔ j = 80)) : cx_DI n ed rows 0 0 := by
  intro j hj
  rw [h j hj]
  constructor
  · exact Or.inl
  · intro q
    rcases q with q | ⟨i', c', _, _, _, q⟩
    · exact q
    · omega
section DP
variable {n : Nat} {ed : Nat → Nat → Option Nat} {rows : Nat → Bool} {i c : Nat} (hg : ∀ i c j, ed i c = some j → i < j)
theorem cx_DI_at (hg : ∀ i c j, ed i c = some j → i < j) (h : cx_DI n ed rows i c) (hi : i < 10368) : rows i = true ↔ cx_Re n ed i := by
  rw [h i hi, cx_Re_iff]
  constructor
  · intro q
    rcases q with q | ⟨i', c', q1, q2, q3, _⟩
    · exact Or.inl q
    · exact Or.inr ⟨i', c', q1, q2, q3⟩
  · intro q
    rcases q with q | ⟨i', c', q1, q2, q3⟩
    · exact Or.inl q
    · exact Or.inr ⟨i', c', q1, q2, q3, Or.inl (hg _ _ _ q3)⟩
theorem cx_DI_next (hg : ∀ i c j, ed i c = some j → i < j) (h : cx_DI n ed rows i c) (hi : i < 10368) (hx : n ≤ c ∨ rows i = false) : cx_DI n ed rows (i + 1) 0 := by
  intro j hj
  rw [h j hj]
  constructor
  · intro q
    rcases q with q | ⟨i', c', q1, q2, q3, q4⟩
    · exact Or.inl q
    · exact Or.inr ⟨i', c', q1, q2, q3, Or.inl (by omega)⟩
  · intro q
    rcases q with q | ⟨i', c', q1, q2, q3, q4⟩
    · exact Or.inl q
    · refine Or.inr ⟨i', c', q1, q2, q3, ?_⟩
      by_cases e : i' < i
      · exact Or.inl e
      · have e : i' = i := by omega
        subst e
        rcases hx with hx | hx
        · exact Or.inr ⟨rfl, by omega⟩
        · have := (cx_DI_at hg h hi).mpr q1
          rw [hx] at this
          cases this
theorem cx_DI_none (h : cx_DI n ed rows i c) (he : ed i c = none) : cx_DI n ed rows i (c + 1) := by
  intro j hj
  rw [h j hj]
  constructor
  · intro q
    rcases q with q | ⟨i', c', q1, q2, q3, q4⟩
    · exact Or.inl q
    · exact Or.inr ⟨i', c', q1, q2, q3, by omega⟩
  · intro q
    rcases q with q | ⟨i', c', q1, q2, q3, q4⟩
    · exact Or.inl q
    · refine Or.inr ⟨i', c', q1, q2, q3, ?_⟩
      by_cases e : i' = i ∧ c' = c
      · obtain ⟨e1, e2⟩ := e
        subst e1; subst e2
        rw [he] at q3
        cases q3
      · omega
theorem cx_DI_some (hg : ∀ i c j, ed i c = some j → i < j) (h : cx_DI n ed rows i c) (hi : i < 10368) (hr : rows i = true) (hc : c < n) {k : Nat} (he : ed i c = some k) : cx_DI n ed (va_up rows k true) i (c + 1) := by
  have hR := (cx_DI_at hg h hi).mp hr
  intro j hj
  by_cases e : j = k
  · subst e
    rw [va_up_self]
    exact ⟨fun _ => Or.inr ⟨i, c, hR, hc, he, by omega⟩, fun _ => rfl⟩
  · rw [va_up_ne _ _ e, h j hj]
    constructor
    · intro q
      rcases q with q | ⟨i', c', q1, q2, q3, q4⟩
      · exact Or.inl q
      · exact Or.inr ⟨i', c', q1, q2, q3, by omega⟩
    · intro q
      rcases q with q | ⟨i', c', q1, q2, q3, q4⟩
      · exact Or.inl q
      · refine Or.inr ⟨i', c', q1, q2, q3, ?_⟩
        by_cases e2 : i' = i ∧ c' = c
        · obtain ⟨e1, e2⟩ := e2
          subst e1; subst e2
          rw [he] at q3
          cases q3
          exact absurd rfl e
        · omega
theorem cx_DI_end (hg : ∀ i c j, ed i c = some j → i < j) (h : cx_DI n ed rows 10368 0) {j : Nat} (hj : j < 10368) : rows j = true ↔ cx_Re n ed j := by
  rw [h j hj, cx_Re_iff]
  constructor
  · intro q
    rcases q with q | ⟨i', c', q1, q2, q3, _⟩
    · exact Or.inl q
    · exact Or.inr ⟨i', c', q1, q2, q3⟩
  · intro q
    rcases q with q | ⟨i', c', q1, q2, q3⟩
    · exact Or.inl q
    · exact Or.inr ⟨i', c', q1, q2, q3, Or.inl (by have := hg _ _ _ q3; omega)⟩
end DP
/-- v is the last write of the set to the cell, 8 if there is none -/
def cx_LW (cs : Nat → Nat) (wr : Nat → Bool) (set : Nat) (K : Nat → Nat) (cell v : Nat) : Prop :=
  (v = 8 ∧ ∀ w, set.testBit w = true → wr w = true → cs w ≠ cell) ∨
  (v ≠ 8 ∧ set.testBit v = true ∧ wr v = true ∧ cs v = cell ∧ ∀ w, set.testBit w = true → wr w = true → cs w = cell → w ≠ v → K w < K v)
theorem cx_LW_new {cs : Nat → Nat} {wr : Nat → Bool} {set : Nat} {K' : Nat → Nat} {cell c : Nat} (hc8 : c ≠ 8) (hlt : ∀ a, set.testBit a = true → K' a < K' c) (hw : wr c = true) (hcell : cs c = cell) : cx_LW cs wr (set ||| 2 ^ c) K' cell c := by
  refine Or.inr ⟨hc8, cx_orp.mpr (Or.inr rfl), hw, hcell, fun w h1 _ _ h4 => ?_⟩
  rcases cx_orp.mp h1 with q | q
  · exact hlt w q
  · exact absurd q.symm h4
theorem cx_LW_old {cs : Nat → Nat} {wr : Nat → Bool} {set : Nat} {K K' : Nat → Nat} {cell c v : Nat} (h : cx_LW cs wr set K cell v) (hK : ∀ a, set.testBit a = true → K' a = K a) (hn : ¬ (wr c = true ∧ cs c = cell)) : cx_LW cs wr (set ||| 2 ^ c) K' cell v := by
  rcases h with ⟨h1, h2⟩ | ⟨h1, h2, h3, h4, h5⟩
  · refine Or.inl ⟨h1, fun w q1 q2 q3 => ?_⟩
    rcases cx_orp.mp q1 with q | q
    · exact h2 w q q2 q3
    · subst q
      exact hn ⟨q2, q3⟩
  · refine Or.inr ⟨h1, cx_orp.mpr (Or.inl h2), h3, h4, fun w q1 q2 q3 q4 => ?_⟩
    rcases cx_orp.mp q1 with q | q
    · rw [hK w q, hK v h2]
      exact h5 w q q2 q3 q4
    · subst q
      exact absurd ⟨q2, q3⟩ hn
/-- what the last writes become by one more operation -/
theorem cx_LW_step {cs : Nat → Nat} {wr : Nat → Bool} {so : Nat → Nat} {set last c l : Nat} {mu : Bool} {K K' : Nat → Nat} (hcs : cs c < 2) (hc : c < 8) (h0 : cx_LW cs wr set K 0 (last / 9)) (h1 : cx_LW cs wr set K 1 (last % 9))
    (hK : ∀ a, set.testBit a = true → K' a = K a) (hlt : ∀ a, set.testBit a = true → K' a < K' c) (ha : cx_af cs wr so last c mu = some l) :
    cx_LW cs wr (set ||| 2 ^ c) K' 0 (l / 9) ∧ cx_LW cs wr (set ||| 2 ^ c) K' 1 (l % 9) := by
  unfold cx_af at ha
  split at ha
  · next hw =>
    cases ha
    by_cases e : cs c = 0
    · rw [if_pos e, show (9 * c + last % 9) / 9 = c by omega, show (9 * c + last % 9) % 9 = last % 9 by omega]
      exact ⟨cx_LW_new (by omega) hlt hw e, cx_LW_old h1 hK (fun q => by omega)⟩
    · rw [if_neg e, show (last / 9 * 9 + c) / 9 = last / 9 by omega, show (last / 9 * 9 + c) % 9 = c by omega]
      exact ⟨cx_LW_old h0 hK (fun q => e q.2), cx_LW_new (by omega) hlt hw (by omega)⟩
  · next hw =>
    by_cases e : mu = true ∧ (if cs c = 0 then last / 9 else last % 9) ≠ so c
    · rw [if_pos e] at ha
      cases ha
    · rw [if_neg e] at ha
      cases ha
      exact ⟨cx_LW_old h0 hK (fun q => hw q.1), cx_LW_old h1 hK (fun q => hw q.1)⟩
section DPM
variable {n : Nat} {us cs : Nat → Nat} {wr : Nat → Bool} {so ea : Nat → Nat}
/-- from the table to an order -/
theorem cx_dp_to (h : cx_Va n us cs wr so ea) (hn : n ≤ 7) (past : Nat) (ms : Nat → Bool) : ∀ m i, cx_Rc n (cx_ed cs wr so ea past ms) m i → ∃ K,
    i % 81 < 81 ∧ (∀ a, (i / 81).testBit a = true → past.testBit a = true ∧ K a < m ∧ a < n) ∧ (∀ a b, (i / 81).testBit a = true → (ea a).testBit b = true → (i / 81).testBit b = true) ∧ cx_RowK cs wr so ea (i / 81) ms K ∧ cx_LW cs wr (i / 81) K 0 (i % 81 / 9) ∧ cx_LW cs wr (i / 81) K 1 (i % 81 % 9)
  | 0, i, hR => by
    have e : i = 80 := hR
    subst e
    have hz : ∀ a, ¬ (80 / 81).testBit a = true := fun a => by
      rw [show 80 / 81 = 0 by decide, Nat.zero_testBit]
      decide
    exact ⟨fun _ => 0, by decide, fun a ha => absurd ha (hz a), fun a b ha => absurd ha (hz a), ⟨fun a b ha => absurd ha (hz a), fun a b ha => absurd ha (hz a), fun a ha => absurd ha (hz a)⟩, Or.inl ⟨by decide, fun a ha => absurd ha (hz a)⟩, Or.inl ⟨by decide, fun a ha => absurd ha (hz a)⟩⟩
  | m + 1, j, hR => by
    obtain ⟨i, c, hRi, hc, he⟩ := hR
    obtain ⟨K, hl, hs, hcl, hK, hw0, hw1⟩ := cx_dp_to h hn past ms m i hRi
    obtain ⟨g1, g2, g3, l, g4, g5⟩ := cx_ed_some he
    have hl2 : l < 81 := cx_af_lt hl (by omega) g4
    have ej : j / 81 = (i / 81) ||| 2 ^ c := by omega
    have ek : j % 81 = l := by omega
    rw [ej, ek]
    have hcs : cs c < 2 := h.2.1 c
    have hnc : ∀ a, (i / 81).testBit a = true → a ≠ c := fun a ha e => by
      rw [e, g2] at ha
      cases ha
    have hKs : ∀ a, (i / 81).testBit a = true → va_up K c m a = K a := fun a ha => va_up_ne _ _ (hnc a ha)
    have hKc : va_up K c m c = m := va_up_self _ _ _
    have hKl : ∀ a, (i / 81).testBit a = true → va_up K c m a < va_up K c m c := fun a ha => by
      rw [hKs a ha, hKc]
      exact (hs a ha).2.1
    have hsub := cx_sub_iff.mp g3
    obtain ⟨k1, k2, k3⟩ := hK
    have hsoin : ∀ r, (i / 81).testBit r = true → wr r = false → so r ≠ 8 → (i / 81).testBit (so r) = true := fun r hr hwr hs8 => by
      rcases h.2.2.2.2.2.2.2 r (hs r hr).2.2 hwr with q | q
      · exact absurd q hs8
      · exact hcl r _ hr q.2.2.2
    refine ⟨va_up K c m, by omega, fun a ha => ?_, fun a b ha hb => ?_, ⟨fun a b ha hb hab => ?_, fun a b ha hb => ?_, fun r hr hwr hmr => ?_⟩, cx_LW_step hcs (by omega) hw0 hw1 hKs hKl g4⟩
    · rcases cx_orp.mp ha with q | q
      · rw [hKs a q]
        have := hs a q
        exact ⟨this.1, by omega, this.2.2⟩
      · subst q
        rw [hKc]
        exact ⟨g1, by omega, hc⟩
    · rcases cx_orp.mp ha with q | q
      · exact cx_orp.mpr (Or.inl (hcl a b q hb))
      · subst q
        exact cx_orp.mpr (Or.inl (hsub b hb))
    · rcases cx_orp.mp ha with q | q <;> rcases cx_orp.mp hb with p | p
      · rw [hKs a q, hKs b p] at hab
        exact k1 a b q p hab
      · subst p
        have := hKl a q
        omega
      · subst q
        have := hKl b p
        omega
      · omega
    · rcases cx_orp.mp ha with q | q
      · rw [hKs a q, hKs b (hcl a b q hb)]
        exact k2 a b q hb
      · subst q
        exact hKl b (hsub b hb)
    · rcases cx_orp.mp hr with q | q
      · obtain ⟨r1, r2⟩ := k3 r q hwr hmr
        constructor
        · intro hs8 w hw1 hw2 hw3 hlt
          rcases cx_orp.mp hw1 with p | p
          · rw [hKs w p, hKs r q] at hlt
            exact r1 hs8 w p hw2 hw3 hlt
          · subst p
            have := hKl r q
            omega
        · intro hs8 w hw1 hw2 hw3 hlt
          rcases cx_orp.mp hw1 with p | p
          · rw [hKs w p, hKs r q] at hlt
            rw [hKs w p, hKs _ (hsoin r q hwr hs8)]
            exact r2 hs8 w p hw2 hw3 hlt
          · subst p
            have := hKl r q
            omega
      · subst q
        unfold cx_af at g4
        rw [if_neg (by rw [hwr]; decide)] at g4
        have hmine : (if cs c = 0 then i % 81 / 9 else i % 81 % 9) = so c := by
          rcases Nat.decEq (if cs c = 0 then i % 81 / 9 else i % 81 % 9) (so c) with e | e
          · rw [if_pos ⟨hmr, e⟩] at g4
            cases g4
          · exact e
        have hLW : cx_LW cs wr (i / 81) K (cs c) (so c) := by
          rw [← hmine]
          by_cases e : cs c = 0
          · rw [if_pos e]
            rw [← e] at hw0
            exact hw0
          · rw [if_neg e]
            rw [show (1 : Nat) = cs c by omega] at hw1
            exact hw1
        have hin : ∀ w, ((i / 81) ||| 2 ^ c).testBit w = true → wr w = true → (i / 81).testBit w = true := fun w q1 q2 => by
          rcases cx_orp.mp q1 with p | p
          · exact p
          · subst p
            rw [hwr] at q2
            cases q2
        constructor
        · intro hs8 w q1 q2 q3 _
          rcases hLW with ⟨_, z⟩ | ⟨z, _⟩
          · exact z w (hin w q1 q2) q2 q3
          · exact z hs8
        · intro hs8 w q1 q2 q3 _
          rcases hLW with ⟨z, _⟩ | ⟨_, z1, _, _, z2⟩
          · exact absurd z hs8
          · by_cases e : w = so c
            · exact Or.inl e
            · right
              rw [hKs w (hin w q1 q2), hKs _ z1]
              exact z2 w (hin w q1 q2) q2 q3 e
/-- from an order to the table -/
theorem cx_dp_of (h : cx_Va n us cs wr so ea) (hn : n ≤ 7) {past : Nat} {ms : Nat → Bool} (hp : ∀ a, past.testBit a = true → a < n) (hpc : ∀ a b, past.testBit a = true → (ea a).testBit b = true → past.testBit b = true) {K : Nat → Nat} (hK : cx_RowK cs wr so ea past ms K) :
    ∀ t, ∃ last, last < 81 ∧ cx_Re n (cx_ed cs wr so ea past ms) (81 * cx_mk (fun a => past.testBit a && decide (K a < t)) 8 + last) ∧ cx_LW cs wr (cx_mk (fun a => past.testBit a && decide (K a < t)) 8) K 0 (last / 9) ∧ cx_LW cs wr (cx_mk (fun a => past.testBit a && decide (K a < t)) 8) K 1 (last % 9) := by
  obtain ⟨k1, k2, k3⟩ := hK
  have hbit : ∀ t a, (cx_mk (fun a => past.testBit a && decide (K a < t)) 8).testBit a = true ↔ past.testBit a = true ∧ K a < t := fun t a => by
    rw [cx_mk_bit, Bool.and_eq_true, decide_eq_true_eq]
    exact ⟨fun q => q.2, fun q => ⟨by have := hp a q.1; omega, q⟩⟩
  intro t
  induction t with
  | zero =>
    have hz : ∀ a, ¬ (cx_mk (fun a => past.testBit a && decide (K a < 0)) 8).testBit a = true := fun a q => by
      have := ((hbit 0 a).mp q).2
      omega
    have e0 : cx_mk (fun a => past.testBit a && decide (K a < 0)) 8 = 0 := cx_ext fun i => ⟨fun q => absurd q (hz i), fun q => by rw [Nat.zero_testBit] at q; cases q⟩
    exact ⟨80, by decide, ⟨0, by rw [e0]; exact rfl⟩, Or.inl ⟨by decide, fun a ha => absurd ha (hz a)⟩, Or.inl ⟨by decide, fun a ha => absurd ha (hz a)⟩⟩
  | succ t ih =>
    obtain ⟨last, hl, hR, hw0, hw1⟩ := ih
    by_cases hex : ∃ c, past.testBit c = true ∧ K c = t
    · obtain ⟨c, hc, hct⟩ := hex
      have hcn := hp c hc
      have hset : cx_mk (fun a => past.testBit a && decide (K a < t + 1)) 8 = cx_mk (fun a => past.testBit a && decide (K a < t)) 8 ||| 2 ^ c := cx_ext fun i => by
        rw [cx_orp, hbit, hbit]
        constructor
        · intro q
          by_cases e : K i = t
          · exact Or.inr (k1 c i hc q.1 (by omega))
          · exact Or.inl ⟨q.1, by omega⟩
        · intro q
          rcases q with q | q
          · exact ⟨q.1, by omega⟩
          · subst q
            exact ⟨hc, by omega⟩
      rw [hset]
      generalize hse : cx_mk (fun a => past.testBit a && decide (K a < t)) 8 = set at hR hw0 hw1 ⊢
      have hbs : ∀ a, set.testBit a = true ↔ past.testBit a = true ∧ K a < t := fun a => by rw [← hse]; exact hbit t a
      have hnc : set.testBit c = false := cx_nt.mp fun q => by
        have := ((hbs c).mp q).2
        omega
      have hsub : cx_sub (ea c) set = true := cx_sub_iff.mpr fun b hb => (hbs b).mpr ⟨hpc c b hc hb, by have := k2 c b hc hb; omega⟩
      have hlt : ∀ a, set.testBit a = true → K a < K c := fun a ha => by
        have := ((hbs a).mp ha).2
        omega
      have hcs : cs c < 2 := h.2.1 c
      have hLW : cx_LW cs wr set K (cs c) (if cs c = 0 then last / 9 else last % 9) := by
        by_cases e : cs c = 0
        · rw [if_pos e]
          rw [← e] at hw0
          exact hw0
        · rw [if_neg e]
          rw [show (1 : Nat) = cs c by omega] at hw1
          exact hw1
      have haf : ∃ l, cx_af cs wr so last c (ms c) = some l := by
        unfold cx_af
        by_cases hw : wr c = true
        · rw [if_pos hw]
          exact ⟨_, rfl⟩
        · rw [if_neg hw]
          refine ⟨last, if_neg ?_⟩
          intro ⟨hm, hne⟩
          have hwf : wr c = false := cx_nt.mp hw
          obtain ⟨r1, r2⟩ := k3 c hc hwf hm
          generalize hv : (if cs c = 0 then last / 9 else last % 9) = v at hLW hne
          by_cases hs8 : so c = 8
          · rcases hLW with ⟨z, _⟩ | ⟨_, z1, z2, z3, _⟩
            · omega
            · exact r1 hs8 v ((hbs v).mp z1).1 z2 z3 (hlt v z1)
          · rcases h.2.2.2.2.2.2.2 c hcn hwf with q | ⟨_, q2, q3, q4⟩
            · exact hs8 q
            · have hsin : set.testBit (so c) = true := cx_sub_iff.mp hsub _ q4
              rcases hLW with ⟨_, z⟩ | ⟨_, z1, z2, z3, z4⟩
              · exact z _ hsin q2 q3
              · have e1 := z4 _ hsin q2 q3 (fun e => hne e.symm)
                rcases r2 hs8 v ((hbs v).mp z1).1 z2 z3 (hlt v z1) with e | e
                · exact hne e
                · omega
      obtain ⟨l, haf⟩ := haf
      have hl2 : l < 81 := cx_af_lt hl (by omega) haf
      obtain ⟨w0, w1⟩ := cx_LW_step (K' := K) hcs (by omega) hw0 hw1 (fun _ _ => rfl) hlt haf
      refine ⟨l, hl2, cx_Re_iff.mpr (Or.inr ⟨81 * set + last, c, hR, hcn, ?_⟩), w0, w1⟩
      unfold cx_ed
      rw [show (81 * set + last) / 81 = set by omega, show (81 * set + last) % 81 = last by omega, if_pos ⟨hc, hnc, hsub⟩, haf]
      rfl
    · have hset : cx_mk (fun a => past.testBit a && decide (K a < t + 1)) 8 = cx_mk (fun a => past.testBit a && decide (K a < t)) 8 := cx_ext fun i => by
        rw [hbit, hbit]
        constructor
        · intro q
          by_cases e : K i = t
          · exact absurd ⟨i, q.1, e⟩ hex
          · exact ⟨q.1, by omega⟩
        · intro q
          exact ⟨q.1, by omega⟩
      rw [hset]
      exact ⟨last, hl, hR, hw0, hw1⟩
/-- the table says of the past whether it has an order -/
theorem cx_dp (h : cx_Va n us cs wr so ea) (hn : n ≤ 7) {b : Nat} (hb : b < n) (ms : Nat → Bool) :
    (∃ last, last < 81 ∧ cx_Re n (cx_ed cs wr so ea (cx_pa ea b) ms) (81 * cx_pa ea b + last)) ↔ cx_Row cs wr so ea (cx_pa ea b) ms := by
  constructor
  · intro ⟨last, hl, m, hR⟩
    obtain ⟨K, _, _, _, hK, _⟩ := cx_dp_to h hn _ ms m _ hR
    rw [show (81 * cx_pa ea b + last) / 81 = cx_pa ea b by omega] at hK
    exact ⟨K, hK⟩
  · intro ⟨K, hK⟩
    have hp : ∀ a, (cx_pa ea b).testBit a = true → a < n := fun a ha => by
      have := cx_pa_in h hb ha
      omega
    obtain ⟨last, hl, hR, _, _⟩ := cx_dp_of h hn hp (fun a c ha hc => cx_pa_cl h hb ha hc) hK (cx_sm K 8 + 1)
    have e : cx_mk (fun a => (cx_pa ea b).testBit a && decide (K a < cx_sm K 8 + 1)) 8 = cx_pa ea b := cx_ext fun i => by
      rw [cx_mk_bit, Bool.and_eq_true, decide_eq_true_eq]
      constructor
      · exact fun q => q.2.1
      · intro q
        have h1 := hp i q
        have h2 := cx_sm_mem K 8 i (by omega)
        exact ⟨by omega, q, by omega⟩
    rw [e] at hR
    exact ⟨last, hl, hR⟩
end DPM
end
section
/-! PURE PART 3: the class's closing of `must`, and the strong check. -/
/-- one place of `close` -/
def cx_cS (w a b : Nat) (q : (Nat → Nat) × Bool) : (Nat → Nat) × Bool :=
  if w.testBit a = true ∧ (q.1 a).testBit b = true ∧ cx_sub (q.1 b) (q.1 a) = false then (va_up q.1 a (q.1 a ||| q.1 b), true) else q
def cx_cI (w a : Nat) : Nat → (Nat → Nat) × Bool → (Nat → Nat) × Bool
  | 0, q => q
  | b + 1, q => cx_cS w a b (cx_cI w a b q)
def cx_cO (w n : Nat) : Nat → (Nat → Nat) × Bool → (Nat → Nat) × Bool
  | 0, q => q
  | a + 1, q => cx_cI w a n (cx_cO w n a q)
/-- what `close` does to the table, and what it answers -/
def cx_cl (w n : Nat) (M : Nat → Nat) : (Nat → Nat) × Bool := cx_cO w n n (M, false)
theorem cx_cI_ind {w a n : Nat} {P : (Nat → Nat) × Bool → Prop} (hP : ∀ b q, b < n → P q → P (cx_cS w a b q)) : ∀ b, b ≤ n → ∀ q, P q → P (cx_cI w a b q)
  | 0, _, _, h => h
  | b + 1, hb, q, h => hP b _ (by omega) (cx_cI_ind hP b (by omega) q h)
theorem cx_cO_ind {w n : Nat} {P : (Nat → Nat) × Bool → Prop} (hP : ∀ a b q, a < n → b < n → P q → P (cx_cS w a b q)) : ∀ a, a ≤ n → ∀ q, P q → P (cx_cO w n a q)
  | 0, _, _, h => h
  | a + 1, ha, q, h => cx_cI_ind (fun b q hb => hP a b q (by omega) hb) n (Nat.le_refl n) _ (cx_cO_ind hP a (by omega) q h)
theorem cx_cS_f {w a b : Nat} {q : (Nat → Nat) × Bool} (h : (cx_cS w a b q).2 = false) : cx_cS w a b q = q ∧ ¬ (w.testBit a = true ∧ (q.1 a).testBit b = true ∧ cx_sub (q.1 b) (q.1 a) = false) := by
  unfold cx_cS at h ⊢
  split at h
  · cases h
  · next e => exact ⟨if_neg e, e⟩
theorem cx_cI_f {w a : Nat} : ∀ b q, (cx_cI w a b q).2 = false → cx_cI w a b q = q ∧ ∀ b', b' < b → ¬ (w.testBit a = true ∧ (q.1 a).testBit b' = true ∧ cx_sub (q.1 b') (q.1 a) = false)
  | 0, q, _ => ⟨rfl, fun b' h => absurd h (by omega)⟩
  | b + 1, q, h => by
    obtain ⟨h1, h2⟩ := cx_cS_f (q := cx_cI w a b q) h
    have h3 : (cx_cI w a b q).2 = false := by
      have h' : (cx_cS w a b (cx_cI w a b q)).2 = false := h
      rw [h1] at h'
      exact h'
    obtain ⟨h4, h5⟩ := cx_cI_f b q h3
    rw [h4] at h1 h2
    refine ⟨?_, fun b' hb' => ?_⟩
    · show cx_cS w a b (cx_cI w a b q) = q
      rw [h4]
      exact h1
    · by_cases e : b' = b
      · subst e
        exact h2
      · exact h5 b' (by omega)
theorem cx_cO_f {w n : Nat} : ∀ a q, (cx_cO w n a q).2 = false → cx_cO w n a q = q ∧ ∀ a' b, a' < a → b < n → ¬ (w.testBit a' = true ∧ (q.1 a').testBit b = true ∧ cx_sub (q.1 b) (q.1 a') = false)
  | 0, q, _ => ⟨rfl, fun a' b h => absurd h (by omega)⟩
  | a + 1, q, h => by
    obtain ⟨h1, h2⟩ := cx_cI_f n (cx_cO w n a q) h
    have h3 : (cx_cO w n a q).2 = false := by
      have h' : (cx_cI w a n (cx_cO w n a q)).2 = false := h
      rw [h1] at h'
      exact h'
    obtain ⟨h4, h5⟩ := cx_cO_f a q h3
    rw [h4] at h1 h2
    refine ⟨?_, fun a' b ha' hb => ?_⟩
    · show cx_cI w a n (cx_cO w n a q) = q
      rw [h4]
      exact h1
    · by_cases e : a' = a
      · subst e
        exact h2 b hb
      · exact h5 a' b (by omega) hb
/-- an answer 0 of `close`: nothing changed, and the table is closed -/
theorem cx_cl_f {w n : Nat} {M : Nat → Nat} (h : (cx_cl w n M).2 = false) : (cx_cl w n M).1 = M ∧ ∀ a b, a < n → b < n → w.testBit a = true → (M a).testBit b = true → ∀ i, (M b).testBit i = true → (M a).testBit i = true := by
  obtain ⟨h1, h2⟩ := cx_cO_f n (M, false) h
  refine ⟨by unfold cx_cl; rw [h1], fun a b ha hb q1 q2 => ?_⟩
  have h3 := h2 a b ha hb
  refine cx_sub_iff.mp ?_
  rcases e : cx_sub (M b) (M a) with _ | _
  · exact absurd ⟨q1, q2, e⟩ h3
  · rfl
/-- tables grow, and grow in measure if the answer is 1 -/
def cx_Gr (M : Nat → Nat) (q : (Nat → Nat) × Bool) : Prop := (∀ a i, (M a).testBit i = true → (q.1 a).testBit i = true) ∧ cx_pc M ≤ cx_pc q.1 ∧ (q.2 = true → cx_pc M < cx_pc q.1)
theorem cx_up_sub {M : Nat → Nat} {s x : Nat} (hx : ∀ i, (M s).testBit i = true → x.testBit i = true) (a i : Nat) (h : (M a).testBit i = true) : (va_up M s x a).testBit i = true := by
  unfold va_up
  split
  · next e => subst e; exact hx i h
  · exact h
theorem cx_Gr_up {M : Nat → Nat} {q : (Nat → Nat) × Bool} {s x : Nat} (h : cx_Gr M q) (hs : s < 8) (hx : ∀ i, (q.1 s).testBit i = true → x.testBit i = true) (h7 : x < 128) {ch : Bool} (hc : ch = true → q.2 = true ∨ x ≠ q.1 s) : cx_Gr M (va_up q.1 s x, ch) := by
  obtain ⟨h1, h2, h3⟩ := h
  have hm : cx_pc q.1 ≤ cx_pc (va_up q.1 s x) := cx_pc_mono fun a _ i => cx_up_sub hx a i
  refine ⟨fun a i q1 => cx_up_sub hx a i (h1 a i q1), Nat.le_trans h2 hm, fun hch => ?_⟩
  rcases hc hch with q1 | q1
  · exact Nat.lt_of_lt_of_le (h3 q1) hm
  · refine Nat.lt_of_le_of_lt h2 ?_
    obtain ⟨i, hi⟩ := Nat.exists_testBit_ne_of_ne q1
    have hxi : x.testBit i = true := by
      rcases e : x.testBit i with _ | _
      · rcases e2 : (q.1 s).testBit i with _ | _
        · exact absurd (e.trans e2.symm) hi
        · rw [hx i e2] at e
          cases e
      · rfl
    refine cx_pc_lt (fun a _ i => cx_up_sub hx a i) hs (cx_lt (k := 7) h7 hxi) (fun e => hi (hxi.trans e.symm)) ?_
    show (va_up q.1 s x s).testBit i = true
    rw [va_up_self]
    exact hxi
/-- `close` keeps what every one of its places keeps -/
theorem cx_cl_keep {w n : Nat} (hn : n ≤ 8) {I : (Nat → Nat) → Prop} (hb : ∀ M, I M → ∀ a, a < n → M a < 128) (hI : ∀ M a b, I M → a < n → b < n → w.testBit a = true → (M a).testBit b = true → I (va_up M a (M a ||| M b))) {M : Nat → Nat} (hM : I M) : I (cx_cl w n M).1 ∧ cx_Gr M (cx_cl w n M) := by
  refine cx_cO_ind (P := fun q => I q.1 ∧ cx_Gr M q) (fun a b q ha hb2 hq => ?_) n (Nat.le_refl n) (M, false) ⟨hM, fun _ _ h => h, Nat.le_refl _, fun h => by cases h⟩
  obtain ⟨h1, h2⟩ := hq
  unfold cx_cS
  split
  · next e =>
    refine ⟨hI q.1 a b h1 ha hb2 e.1 e.2.1, cx_Gr_up h2 (by omega) (fun i hi => cx_or.mpr (Or.inl hi)) (cx_orlt (k := 7) (hb _ h1 a ha) (hb _ h1 b hb2)) (fun _ => Or.inr fun z => ?_)⟩
    have e3 : cx_sub (q.1 b) (q.1 a) = true := cx_sub_iff.mpr fun i hi => by
      rw [← z]
      exact cx_or.mpr (Or.inr hi)
    rw [e.2.2] at e3
    cases e3
  · exact ⟨h1, h2⟩
/-- the rounds -/
def cx_wh (f : (Nat → Nat) → (Nat → Nat) × Bool) : Nat → (Nat → Nat) × Bool → (Nat → Nat) × Bool
  | 0, q => q
  | j + 1, q => if q.2 = true then cx_wh f j (f q.1) else q
theorem cx_wh_f (f : (Nat → Nat) → (Nat → Nat) × Bool) (M : Nat → Nat) : ∀ j, cx_wh f j (M, false) = (M, false)
  | 0 => rfl
  | j + 1 => by
    show (if (false : Bool) = true then _ else _) = _
    rw [if_neg (by decide)]
theorem cx_wh_end {f : (Nat → Nat) → (Nat → Nat) × Bool} {I : (Nat → Nat) → Prop} (hI : ∀ M, I M → I (f M).1 ∧ ((f M).2 = true → cx_pc M < cx_pc (f M).1)) : ∀ j M, I M → 56 < j + cx_pc M → ∃ M', I M' ∧ (f M').2 = false ∧ cx_wh f j (M, true) = ((f M').1, false)
  | 0, M, _, hj => absurd (cx_pc_le M) (by omega)
  | j + 1, M, hM, hj => by
    obtain ⟨h1, h2⟩ := hI M hM
    have e : cx_wh f (j + 1) (M, true) = cx_wh f j (f M) := by
      show (if (true : Bool) = true then _ else _) = _
      rw [if_pos rfl]
    rcases hc : (f M).2 with _ | _
    · refine ⟨M, hM, hc, ?_⟩
      rw [e, show f M = ((f M).1, false) from Prod.ext rfl hc]
      exact cx_wh_f f _ j
    · have e2 : f M = ((f M).1, true) := Prod.ext rfl hc
      obtain ⟨M', g1, g2, g3⟩ := cx_wh_end hI j (f M).1 h1 (by have := h2 hc; omega)
      refine ⟨M', g1, g2, ?_⟩
      rw [e, e2]
      exact g3
/-- `pushBefore`: the row of the source after w operations -/
def cx_pb (cs : Nat → Nat) (wr : Nat → Bool) (past r s : Nat) (M : Nat → Nat) : Nat → Nat
  | 0 => M s
  | w + 1 => if w ≠ s ∧ wr w = true ∧ cs w = cs r ∧ past.testBit w = true ∧ (M r).testBit w = true then cx_pb cs wr past r s M w ||| 2 ^ w else cx_pb cs wr past r s M w
theorem cx_pb_bit {cs : Nat → Nat} {wr : Nat → Bool} {past r s : Nat} {M : Nat → Nat} {i : Nat} : ∀ k, (cx_pb cs wr past r s M k).testBit i = true ↔ (M s).testBit i = true ∨ (i < k ∧ i ≠ s ∧ wr i = true ∧ cs i = cs r ∧ past.testBit i = true ∧ (M r).testBit i = true)
  | 0 => by
    rw [cx_pb]
    exact ⟨Or.inl, fun h => h.elim id fun q => absurd q.1 (by omega)⟩
  | k + 1 => by
    rw [cx_pb]
    split
    · next e =>
      rw [cx_orp, cx_pb_bit k]
      constructor
      · intro h
        rcases h with (h | h) | h
        · exact Or.inl h
        · exact Or.inr ⟨by omega, h.2⟩
        · subst h
          exact Or.inr ⟨by omega, e⟩
      · intro h
        rcases h with h | h
        · exact Or.inl (Or.inl h)
        · by_cases e2 : k = i
          · exact Or.inr e2
          · exact Or.inl (Or.inr ⟨by omega, h.2⟩)
    · next e =>
      rw [cx_pb_bit k]
      constructor
      · intro h
        rcases h with h | h
        · exact Or.inl h
        · exact Or.inr ⟨by omega, h.2⟩
      · intro h
        rcases h with h | h
        · exact Or.inl h
        · by_cases e2 : i = k
          · subst e2
            exact absurd h.2 e
          · exact Or.inr ⟨by omega, h.2⟩
/-- one read of a round -/
def cx_rS (n : Nat) (us cs : Nat → Nat) (wr : Nat → Bool) (so : Nat → Nat) (past o r : Nat) (q : (Nat → Nat) × Bool) : (Nat → Nat) × Bool :=
  if past.testBit r = true ∧ wr r = false ∧ us r = us o ∧ so r ≠ 8 then (va_up q.1 (so r) (cx_pb cs wr past r (so r) q.1 n), decide (cx_pb cs wr past r (so r) q.1 n ≠ q.1 (so r)) || q.2) else q
def cx_rI (n : Nat) (us cs : Nat → Nat) (wr : Nat → Bool) (so : Nat → Nat) (past o : Nat) : Nat → (Nat → Nat) × Bool → (Nat → Nat) × Bool
  | 0, q => q
  | r + 1, q => cx_rS n us cs wr so past o r (cx_rI n us cs wr so past o r q)
/-- a round -/
def cx_rd (n : Nat) (us cs : Nat → Nat) (wr : Nat → Bool) (so : Nat → Nat) (past o : Nat) (M : Nat → Nat) : (Nat → Nat) × Bool :=
  ((cx_cl past n (cx_rI n us cs wr so past o n (M, false)).1).1, (cx_cl past n (cx_rI n us cs wr so past o n (M, false)).1).2 || (cx_rI n us cs wr so past o n (M, false)).2)
def cx_ring (n : Nat) (M : Nat → Nat) : Prop := ∃ a, a < n ∧ (M a).testBit a = true
def cx_late (n : Nat) (us cs : Nat → Nat) (wr : Nat → Bool) (so : Nat → Nat) (past o : Nat) (M : Nat → Nat) : Prop :=
  ∃ r, r < n ∧ (past.testBit r = true ∧ wr r = false ∧ us r = us o ∧ so r = 8) ∧ ∃ w, w < n ∧ wr w = true ∧ cs w = cs r ∧ (M r).testBit w = true
section STRONG
variable {n : Nat} {us cs : Nat → Nat} {wr : Nat → Bool} {so ea : Nat → Nat} {o : Nat}
/-- what `must` is all through the rounds -/
def cx_SI (n : Nat) (us cs : Nat → Nat) (wr : Nat → Bool) (so ea : Nat → Nat) (o : Nat) (M : Nat → Nat) : Prop :=
  (∀ a, a < n → M a < 128) ∧ (∀ a i, a < n → (ea a).testBit i = true → (M a).testBit i = true) ∧
  (∀ a, a < n → (cx_pa ea o).testBit a = false → M a = ea a) ∧
  (∀ a i, (cx_pa ea o).testBit a = true → (M a).testBit i = true → (cx_pa ea o).testBit i = true) ∧
  (∀ K, cx_RowK cs wr so ea (cx_pa ea o) (fun c => decide (us c = us o)) K → ∀ a i, (cx_pa ea o).testBit a = true → (M a).testBit i = true → K i < K a)
theorem cx_SI_0 (h : cx_Va n us cs wr so ea) (hn : n ≤ 7) (ho : o < n) {M : Nat → Nat} (hM : ∀ a, a < n → M a = ea a) : cx_SI n us cs wr so ea o M := by
  have hin : ∀ a, (cx_pa ea o).testBit a = true → a < n := fun a ha => by
    have := cx_pa_in h ho ha
    omega
  refine ⟨fun a ha => ?_, fun a i ha hi => ?_, fun a ha _ => hM a ha, fun a i ha hi => ?_, fun K hK a i ha hi => ?_⟩
  · rw [hM a ha]
    exact Nat.lt_of_lt_of_le (h.2.2.2.2.1 a ha) (Nat.pow_le_pow_right (n := 2) (i := a) (j := 7) (by decide) (by omega))
  · rw [hM a ha]; exact hi
  · rw [hM a (hin a ha)] at hi
    exact cx_pa_cl h ho ha hi
  · rw [hM a (hin a ha)] at hi
    exact hK.2.1 a i ha hi
/-- a row of the past may grow by what is right in every order -/
theorem cx_SI_up (ho : ∀ a, (cx_pa ea o).testBit a = true → a < n) {M : Nat → Nat} (hM : cx_SI n us cs wr so ea o M) {s x : Nat} (hs : (cx_pa ea o).testBit s = true) (hx : ∀ i, (M s).testBit i = true → x.testBit i = true)
    (hn : ∀ i, x.testBit i = true → (M s).testBit i = true ∨ (i < 7 ∧ (cx_pa ea o).testBit i = true ∧ ∀ K, cx_RowK cs wr so ea (cx_pa ea o) (fun c => decide (us c = us o)) K → K i < K s)) : cx_SI n us cs wr so ea o (va_up M s x) := by
  obtain ⟨h1, h2, h3, h4, h5⟩ := hM
  refine ⟨fun a ha => ?_, fun a i ha hi => cx_up_sub hx a i (h2 a i ha hi), fun a ha hp => ?_, fun a i ha hi => ?_, fun K hK a i ha hi => ?_⟩
  · by_cases e : a = s
    · subst e
      rw [va_up_self]
      exact cx_ltof (k := 7) fun i hi => (hn i hi).elim (fun q => cx_lt (k := 7) (h1 a ha) q) (fun q => q.1)
    · rw [va_up_ne _ _ e]; exact h1 a ha
  · have e : a ≠ s := fun e => by
      rw [e, hs] at hp
      cases hp
    rw [va_up_ne _ _ e]
    exact h3 a ha hp
  · by_cases e : a = s
    · subst e
      rw [va_up_self] at hi
      exact (hn i hi).elim (h4 a i ha) (fun q => q.2.1)
    · rw [va_up_ne _ _ e] at hi
      exact h4 a i ha hi
  · by_cases e : a = s
    · subst e
      rw [va_up_self] at hi
      exact (hn i hi).elim (h5 K hK a i ha) (fun q => q.2.2 K hK)
    · rw [va_up_ne _ _ e] at hi
      exact h5 K hK a i ha hi
theorem cx_rS_keep (h : cx_Va n us cs wr so ea) (hn : n ≤ 7) (ho : o < n) {N : Nat → Nat} {q : (Nat → Nat) × Bool} {r : Nat} (hr : r < n) (hq : cx_SI n us cs wr so ea o q.1 ∧ cx_Gr N q) :
    cx_SI n us cs wr so ea o (cx_rS n us cs wr so (cx_pa ea o) o r q).1 ∧ cx_Gr N (cx_rS n us cs wr so (cx_pa ea o) o r q) := by
  have hin : ∀ a, (cx_pa ea o).testBit a = true → a < n := fun a ha => by
    have := cx_pa_in h ho ha
    omega
  unfold cx_rS
  split
  · next e =>
    obtain ⟨e1, e2, e3, e4⟩ := e
    obtain ⟨h1, h2⟩ := hq
    rcases h.2.2.2.2.2.2.2 r hr e2 with z | ⟨z1, z2, z3, z4⟩
    · exact absurd z e4
    have hsp : (cx_pa ea o).testBit (so r) = true := cx_pa_cl h ho e1 z4
    have hx : ∀ i, (q.1 (so r)).testBit i = true → (cx_pb cs wr (cx_pa ea o) r (so r) q.1 n).testBit i = true := fun i hi => (cx_pb_bit n).mpr (Or.inl hi)
    have hSI : cx_SI n us cs wr so ea o (va_up q.1 (so r) (cx_pb cs wr (cx_pa ea o) r (so r) q.1 n)) := by
      refine cx_SI_up hin h1 hsp hx fun i hi => ?_
      rcases (cx_pb_bit n).mp hi with q1 | ⟨q1, q2, q3, q4, q5, q6⟩
      · exact Or.inl q1
      · refine Or.inr ⟨by omega, q5, fun K hK => ?_⟩
        rcases (hK.2.2 r e1 e2 (decide_eq_true e3)).2 e4 i q5 q3 q4 (h1.2.2.2.2 K hK r i e1 q6) with q7 | q7
        · exact absurd q7 q2
        · exact q7
    refine ⟨hSI, cx_Gr_up h2 (by omega) hx ?_ fun hc => ?_⟩
    · have := hSI.1 (so r) (by omega)
      rw [va_up_self] at this
      exact this
    · rcases Bool.or_eq_true _ _ ▸ hc with q1 | q1
      · exact Or.inr (of_decide_eq_true q1)
      · exact Or.inl q1
  · exact hq
theorem cx_rI_keep (h : cx_Va n us cs wr so ea) (hn : n ≤ 7) (ho : o < n) {N : Nat → Nat} : ∀ k, k ≤ n → ∀ q : (Nat → Nat) × Bool, cx_SI n us cs wr so ea o q.1 ∧ cx_Gr N q →
    cx_SI n us cs wr so ea o (cx_rI n us cs wr so (cx_pa ea o) o k q).1 ∧ cx_Gr N (cx_rI n us cs wr so (cx_pa ea o) o k q)
  | 0, _, q, hq => hq
  | k + 1, hk, q, hq => cx_rS_keep h hn ho (by omega) (cx_rI_keep h hn ho k (by omega) q hq)
theorem cx_rS_f {past r : Nat} {q : (Nat → Nat) × Bool} (h : (cx_rS n us cs wr so past o r q).2 = false) : cx_rS n us cs wr so past o r q = q ∧ (past.testBit r = true ∧ wr r = false ∧ us r = us o ∧ so r ≠ 8 → cx_pb cs wr past r (so r) q.1 n = q.1 (so r)) := by
  unfold cx_rS at h ⊢
  split at h
  · next e =>
    have h0 : (decide (cx_pb cs wr past r (so r) q.1 n ≠ q.1 (so r)) || q.2) = false := h
    rw [Bool.or_eq_false_iff] at h0
    have e2 : cx_pb cs wr past r (so r) q.1 n = q.1 (so r) := Classical.not_not.mp (of_decide_eq_false h0.1)
    refine ⟨?_, fun _ => e2⟩
    rw [if_pos e, e2, cx_up_self]
    refine Prod.ext rfl ?_
    show (decide (q.1 (so r) ≠ q.1 (so r)) || q.2) = q.2
    rw [decide_eq_false (fun z => z rfl), Bool.false_or]
  · next e => exact ⟨if_neg e, fun z => absurd z e⟩
theorem cx_rI_f {past : Nat} : ∀ k q, (cx_rI n us cs wr so past o k q).2 = false → cx_rI n us cs wr so past o k q = q ∧ ∀ r, r < k → past.testBit r = true ∧ wr r = false ∧ us r = us o ∧ so r ≠ 8 → cx_pb cs wr past r (so r) q.1 n = q.1 (so r)
  | 0, q, _ => ⟨rfl, fun r h => absurd h (by omega)⟩
  | k + 1, q, h => by
    obtain ⟨h1, h2⟩ := cx_rS_f (q := cx_rI n us cs wr so past o k q) h
    have h3 : (cx_rI n us cs wr so past o k q).2 = false := by
      have h' : (cx_rS n us cs wr so past o k (cx_rI n us cs wr so past o k q)).2 = false := h
      rw [h1] at h'
      exact h'
    obtain ⟨h4, h5⟩ := cx_rI_f k q h3
    rw [h4] at h1 h2
    refine ⟨?_, fun r hr => ?_⟩
    · show cx_rS n us cs wr so past o k (cx_rI n us cs wr so past o k q) = q
      rw [h4]
      exact h1
    · by_cases e : r = k
      · subst e
        exact h2
      · exact h5 r (by omega)
theorem cx_rd_keep (h : cx_Va n us cs wr so ea) (hn : n ≤ 7) (ho : o < n) {M : Nat → Nat} (hM : cx_SI n us cs wr so ea o M) :
    cx_SI n us cs wr so ea o (cx_rd n us cs wr so (cx_pa ea o) o M).1 ∧ ((cx_rd n us cs wr so (cx_pa ea o) o M).2 = true → cx_pc M < cx_pc (cx_rd n us cs wr so (cx_pa ea o) o M).1) := by
  have hin : ∀ a, (cx_pa ea o).testBit a = true → a < n := fun a ha => by
    have := cx_pa_in h ho ha
    omega
  obtain ⟨h1, h2, h3, h4⟩ := cx_rI_keep h hn ho (N := M) n (Nat.le_refl n) (M, false) ⟨hM, fun _ _ z => z, Nat.le_refl _, fun z => by cases z⟩
  unfold cx_rd
  generalize cx_rI n us cs wr so (cx_pa ea o) o n (M, false) = q at h1 h2 h3 h4 ⊢
  obtain ⟨g1, g2, g3, g4⟩ := cx_cl_keep (w := cx_pa ea o) (n := n) (by omega) (I := cx_SI n us cs wr so ea o) (fun M hM => hM.1) (fun M a b hM ha hb hp hab => by
    refine cx_SI_up hin hM hp (fun i hi => cx_or.mpr (Or.inl hi)) fun i hi => ?_
    rcases cx_or.mp hi with z | z
    · exact Or.inl z
    · have hbp := hM.2.2.2.1 a b hp hab
      refine Or.inr ⟨cx_lt (k := 7) (hM.1 b hb) z, hM.2.2.2.1 b i hbp z, fun K hK => ?_⟩
      have k1 := hM.2.2.2.2 K hK b i hbp z
      have k2 := hM.2.2.2.2 K hK a b hp hab
      omega) h1
  refine ⟨g1, fun hc => ?_⟩
  show cx_pc M < cx_pc (cx_cl (cx_pa ea o) n q.1).1
  rcases Bool.or_eq_true _ _ ▸ hc with z | z
  · have := g4 z
    omega
  · have := h4 z
    omega
/-- where each operation stands, out of a closed table -/
def cx_rk (us : Nat → Nat) (wr : Nat → Bool) (past o : Nat) (M : Nat → Nat) (c : Nat) : Nat :=
  cx_cn (fun r => past.testBit r && !wr r && decide (us r = us o) && decide (r ≠ c) && !(M r).testBit c) 8
theorem cx_rk_bit {us : Nat → Nat} {wr : Nat → Bool} {past o : Nat} {M : Nat → Nat} {c r : Nat} : (past.testBit r && !wr r && decide (us r = us o) && decide (r ≠ c) && !(M r).testBit c) = true ↔ (past.testBit r = true ∧ wr r = false ∧ us r = us o) ∧ r ≠ c ∧ ¬ (M r).testBit c = true := by
  simp [and_assoc]
theorem cx_strong (h : cx_Va n us cs wr so ea) (hn : n ≤ 7) (ho : o < n) {M0 : Nat → Nat} (hM0 : ∀ a, a < n → M0 a = ea a) :
    (¬ cx_ring n (cx_wh (cx_rd n us cs wr so (cx_pa ea o) o) 60 (M0, true)).1 ∧ ¬ cx_late n us cs wr so (cx_pa ea o) o (cx_wh (cx_rd n us cs wr so (cx_pa ea o) o) 60 (M0, true)).1) ↔ cx_Row cs wr so ea (cx_pa ea o) (fun c => decide (us c = us o)) := by
  have hin : ∀ a, (cx_pa ea o).testBit a = true → a < n := fun a ha => by
    have := cx_pa_in h ho ha
    omega
  obtain ⟨M, hM, hf, he⟩ := cx_wh_end (f := cx_rd n us cs wr so (cx_pa ea o) o) (I := cx_SI n us cs wr so ea o) (fun M hM => cx_rd_keep h hn ho hM) 60 M0 (cx_SI_0 h hn ho hM0) (by omega)
  rw [he]
  have hf0 : ((cx_cl (cx_pa ea o) n (cx_rI n us cs wr so (cx_pa ea o) o n (M, false)).1).2 || (cx_rI n us cs wr so (cx_pa ea o) o n (M, false)).2) = false := hf
  rw [Bool.or_eq_false_iff] at hf0
  obtain ⟨r1, r2⟩ := cx_rI_f n (M, false) hf0.2
  have hc0 := hf0.1
  rw [r1] at hc0
  obtain ⟨c1, c2⟩ := cx_cl_f hc0
  have e1 : (cx_rd n us cs wr so (cx_pa ea o) o M).1 = M := by
    unfold cx_rd
    rw [r1]
    exact c1
  rw [e1]
  obtain ⟨m1, m2, m3, m4, m5⟩ := hM
  constructor
  · intro ⟨hring, hlate⟩
    have hirr : ∀ a, a < n → ¬ (M a).testBit a = true := fun a ha q => hring ⟨a, ha, q⟩
    have hb8 : ∀ a i, a < n → (M a).testBit i = true → i < 7 := fun a i ha hi => cx_lt (k := 7) (m1 a ha) hi
    have hkey : ∀ x y b a : Nat, x < y → b < 16 → x * 16 + b < y * 16 + a := fun x y b a _ _ => by omega
    have F1 : ∀ a b, (cx_pa ea o).testBit a = true → (M a).testBit b = true → (cx_rk us wr (cx_pa ea o) o M b * 16 + cx_cn (M b).testBit 8) * 16 + b < (cx_rk us wr (cx_pa ea o) o M a * 16 + cx_cn (M a).testBit 8) * 16 + a := by
      intro a b ha hab
      have han := hin a ha
      have hbp := m4 a b ha hab
      have hbn := hin b hbp
      have k1 : cx_rk us wr (cx_pa ea o) o M b ≤ cx_rk us wr (cx_pa ea o) o M a := cx_cn_mono 8 fun r _ hr => by
        obtain ⟨p1, p2, p3⟩ := cx_rk_bit.mp hr
        refine cx_rk_bit.mpr ⟨p1, fun e => ?_, fun e => ?_⟩
        · subst e
          exact p3 hab
        · exact p3 (c2 r a (hin r p1.1) han p1.1 e b hab)
      have k2 : cx_cn (M b).testBit 8 < cx_cn (M a).testBit 8 := cx_cn_lt 8 (fun i _ hi => c2 a b han hbn ha hab i hi) b (by omega) (hirr b hbn) hab
      exact hkey _ _ _ _ (by omega) (by omega)
    have F2 : ∀ r c, (cx_pa ea o).testBit r = true → wr r = false → us r = us o → c ≠ r → ¬ (M r).testBit c = true → (cx_rk us wr (cx_pa ea o) o M r * 16 + cx_cn (M r).testBit 8) * 16 + r < (cx_rk us wr (cx_pa ea o) o M c * 16 + cx_cn (M c).testBit 8) * 16 + c := by
      intro r c hr hw hu hcr hMc
      have hrn := hin r hr
      have k1 : cx_rk us wr (cx_pa ea o) o M r < cx_rk us wr (cx_pa ea o) o M c := by
        refine cx_cn_lt 8 (fun q _ hq => ?_) r (by omega) (fun z => (cx_rk_bit.mp z).2.1 rfl) (cx_rk_bit.mpr ⟨⟨hr, hw, hu⟩, fun e => hcr e.symm, hMc⟩)
        obtain ⟨p1, p2, p3⟩ := cx_rk_bit.mp hq
        have hqn := hin q p1.1
        have hqr : q < r := by
          rcases Nat.lt_or_ge q r with z | z
          · exact z
          · exact absurd (m2 q r hqn (h.2.2.2.2.2.2.1 q r hqn (by omega) (hu.trans p1.2.2.symm))) p3
        have hMrq : (M r).testBit q = true := m2 r q hrn (h.2.2.2.2.2.2.1 r q hrn hqr (p1.2.2.trans hu.symm))
        refine cx_rk_bit.mpr ⟨p1, fun e => ?_, fun e => ?_⟩
        · subst e
          exact hMc hMrq
        · exact hMc (c2 r q hrn hqn hr hMrq c e)
      have k2 := cx_cn_le (M r).testBit 8
      exact hkey _ _ _ _ (by omega) (by omega)
    refine ⟨fun c => (cx_rk us wr (cx_pa ea o) o M c * 16 + cx_cn (M c).testBit 8) * 16 + c, fun a b ha hb hab => ?_, fun a b ha hb => F1 a b ha (m2 a b (hin a ha) hb), fun r hr hw hms => ?_⟩
    · have h1 := hin a ha
      have h2 := hin b hb
      have hab : (cx_rk us wr (cx_pa ea o) o M a * 16 + cx_cn (M a).testBit 8) * 16 + a = (cx_rk us wr (cx_pa ea o) o M b * 16 + cx_cn (M b).testBit 8) * 16 + b := hab
      omega
    · have hu : us r = us o := of_decide_eq_true hms
      have hrn := hin r hr
      have hne : ∀ w, wr w = true → w ≠ r := fun w h1 e => by
        rw [e, hw] at h1
        cases h1
      constructor
      · intro hs8 w hpw hww hcw hlt
        have := F2 r w hr hw hu (hne w hww) (fun z => hlate ⟨r, hrn, ⟨hr, hw, hu, hs8⟩, w, hin w hpw, hww, hcw, z⟩)
        exact Nat.lt_asymm this hlt
      · intro hs8 w hpw hww hcw hlt
        by_cases e : w = so r
        · exact Or.inl e
        · right
          have hMw : (M r).testBit w = true := by
            rcases z : (M r).testBit w with _ | _
            · exact absurd hlt (Nat.lt_asymm (F2 r w hr hw hu (hne w hww) (by rw [z]; decide)))
            · rfl
          rcases h.2.2.2.2.2.2.2 r hrn hw with z | ⟨z1, z2, z3, z4⟩
          · exact absurd z hs8
          have hsp : (cx_pa ea o).testBit (so r) = true := cx_pa_cl h ho hr z4
          have hpb := r2 r hrn ⟨hr, hw, hu, hs8⟩
          have hbit : (M (so r)).testBit w = true := by
            have z5 : (cx_pb cs wr (cx_pa ea o) r (so r) M n).testBit w = true := (cx_pb_bit n).mpr (Or.inr ⟨hin w hpw, e, hww, hcw, hpw, hMw⟩)
            rw [hpb] at z5
            exact z5
          exact F1 (so r) w hsp hbit
  · intro ⟨K, hK⟩
    refine ⟨fun ⟨a, ha, hb⟩ => ?_, fun ⟨r, hr, ⟨q1, q2, q3, q4⟩, w, hw, p1, p2, p3⟩ => ?_⟩
    · rcases z : (cx_pa ea o).testBit a with _ | _
      · rw [m3 a ha z] at hb
        have := cx_Va_lt h ha hb
        omega
      · exact Nat.lt_irrefl _ (m5 K hK a a z hb)
    · exact (hK.2.2 r q1 q2 (decide_eq_true q3)).1 q4 w (m4 r w q1 p3) p1 p2 (m5 K hK r w q1 p3)
end STRONG
end
section
/-! PURE PART 4: convergence, as the class finds it. -/
def cx_CvK (n : Nat) (cs : Nat → Nat) (wr : Nat → Bool) (so ea : Nat → Nat) (K : Nat → Nat) : Prop :=
  (∀ a b, a < n → b < n → wr a = true → wr b = true → K a = K b → a = b) ∧
  (∀ a b, a < n → b < n → wr a = true → wr b = true → (ea a).testBit b = true → K b < K a) ∧
  (∀ r, r < n → wr r = false → ∀ w, w < n → wr w = true → cs w = cs r → (ea r).testBit w = true → so r ≠ 8 ∧ (w ≠ so r → K w < K (so r)))
/-- there is an order of the writes that suits all reads -/
def cx_Cv (n : Nat) (cs : Nat → Nat) (wr : Nat → Bool) (so ea : Nat → Nat) : Prop := ∃ K, cx_CvK n cs wr so ea K
/-- the read r sees the write w -/
def cx_se (cs : Nat → Nat) (wr : Nat → Bool) (ea : Nat → Nat) (r w : Nat) : Prop := wr r = false ∧ wr w = true ∧ cs w = cs r ∧ (ea r).testBit w = true
def cx_vS (cs : Nat → Nat) (wr : Nat → Bool) (so ea : Nat → Nat) (r w : Nat) (M : Nat → Nat) : Nat → Nat :=
  if wr r = false ∧ wr w = true ∧ cs w = cs r ∧ (ea r).testBit w = true ∧ w ≠ so r then va_up M (so r) (M (so r) ||| 2 ^ w) else M
def cx_vI (cs : Nat → Nat) (wr : Nat → Bool) (so ea : Nat → Nat) (r : Nat) : Nat → (Nat → Nat) → (Nat → Nat)
  | 0, M => M
  | w + 1, M => cx_vS cs wr so ea r w (cx_vI cs wr so ea r w M)
def cx_vO (n : Nat) (cs : Nat → Nat) (wr : Nat → Bool) (so ea : Nat → Nat) : Nat → (Nat → Nat) → (Nat → Nat)
  | 0, M => M
  | r + 1, M => cx_vI cs wr so ea r n (cx_vO n cs wr so ea r M)
theorem cx_vI_ind {n : Nat} {cs : Nat → Nat} {wr : Nat → Bool} {so ea : Nat → Nat} {r : Nat} {P : (Nat → Nat) → Prop} (hP : ∀ w M, w < n → P M → P (cx_vS cs wr so ea r w M)) : ∀ w, w ≤ n → ∀ M, P M → P (cx_vI cs wr so ea r w M)
  | 0, _, _, h => h
  | w + 1, hw, M, h => hP w _ (by omega) (cx_vI_ind hP w (by omega) M h)
theorem cx_vO_ind {n : Nat} {cs : Nat → Nat} {wr : Nat → Bool} {so ea : Nat → Nat} {P : (Nat → Nat) → Prop} (hP : ∀ r w M, r < n → w < n → P M → P (cx_vS cs wr so ea r w M)) : ∀ r, r ≤ n → ∀ M, P M → P (cx_vO n cs wr so ea r M)
  | 0, _, _, h => h
  | r + 1, hr, M, h => cx_vI_ind (fun w M hw => hP r w M (by omega) hw) n (Nat.le_refl n) _ (cx_vO_ind hP r (by omega) M h)
theorem cx_vS_sub {cs : Nat → Nat} {wr : Nat → Bool} {so ea : Nat → Nat} {r w : Nat} {M : Nat → Nat} (a i : Nat) (h : (M a).testBit i = true) : (cx_vS cs wr so ea r w M a).testBit i = true := by
  unfold cx_vS
  split
  · exact cx_up_sub (fun i hi => cx_or.mpr (Or.inl hi)) a i h
  · exact h
theorem cx_vI_sub {cs : Nat → Nat} {wr : Nat → Bool} {so ea : Nat → Nat} {r : Nat} {M : Nat → Nat} : ∀ w a i, (M a).testBit i = true → (cx_vI cs wr so ea r w M a).testBit i = true
  | 0, _, _, h => h
  | w + 1, a, i, h => cx_vS_sub a i (cx_vI_sub w a i h)
theorem cx_vO_sub {n : Nat} {cs : Nat → Nat} {wr : Nat → Bool} {so ea : Nat → Nat} {M : Nat → Nat} : ∀ r a i, (M a).testBit i = true → (cx_vO n cs wr so ea r M a).testBit i = true
  | 0, _, _, h => h
  | r + 1, a, i, h => cx_vI_sub n a i (cx_vO_sub r a i h)
theorem cx_vS_has {cs : Nat → Nat} {wr : Nat → Bool} {so ea : Nat → Nat} {r w : Nat} {M : Nat → Nat} (h : cx_se cs wr ea r w) (hw : w ≠ so r) : (cx_vS cs wr so ea r w M (so r)).testBit w = true := by
  unfold cx_vS
  rw [if_pos ⟨h.1, h.2.1, h.2.2.1, h.2.2.2, hw⟩, va_up_self]
  exact cx_orp.mpr (Or.inr rfl)
theorem cx_vI_has {cs : Nat → Nat} {wr : Nat → Bool} {so ea : Nat → Nat} {r w : Nat} {M : Nat → Nat} (h : cx_se cs wr ea r w) (hw : w ≠ so r) : ∀ k, w < k → (cx_vI cs wr so ea r k M (so r)).testBit w = true
  | 0, hk => absurd hk (by omega)
  | k + 1, hk => by
    by_cases e : w = k
    · subst e
      exact cx_vS_has h hw
    · exact cx_vS_sub _ _ (cx_vI_has h hw k (by omega))
theorem cx_vO_has {n : Nat} {cs : Nat → Nat} {wr : Nat → Bool} {so ea : Nat → Nat} {r w : Nat} {M : Nat → Nat} (h : cx_se cs wr ea r w) (hw : w ≠ so r) (hn : w < n) : ∀ k, r < k → (cx_vO n cs wr so ea k M (so r)).testBit w = true
  | 0, hk => absurd hk (by omega)
  | k + 1, hk => by
    by_cases e : r = k
    · subst e
      exact cx_vI_has h hw n hn
    · exact cx_vI_sub n _ _ (cx_vO_has h hw hn k (by omega))
section CONV
variable {n : Nat} {us cs : Nat → Nat} {wr : Nat → Bool} {so ea : Nat → Nat}
/-- b is before a by an order K of the writes and `earlier` -/
def cx_Q (n : Nat) (wr : Nat → Bool) (ea : Nat → Nat) (K : Nat → Nat) (a b : Nat) : Prop :=
  (ea a).testBit b = true ∨ ∃ w v, w < n ∧ v < n ∧ wr w = true ∧ wr v = true ∧ (a = w ∨ (ea a).testBit w = true) ∧ (v = b ∨ (ea v).testBit b = true) ∧ K v < K w
theorem cx_Q_tr (h : cx_Va n us cs wr so ea) {K : Nat → Nat} (hK : cx_CvK n cs wr so ea K) {a b c : Nat} (ha : a < n) (hb : b < n) (h1 : cx_Q n wr ea K a b) (h2 : cx_Q n wr ea K b c) : cx_Q n wr ea K a c := by
  have tr := h.2.2.2.2.2.1
  rcases h1 with h1 | ⟨w, v, w1, v1, w2, v2, w3, v3, k1⟩
  · rcases h2 with h2 | ⟨w', v', w1', v1', w2', v2', w3', v3', k1'⟩
    · exact Or.inl (tr a b c ha h1 h2)
    · refine Or.inr ⟨w', v', w1', v1', w2', v2', ?_, v3', k1'⟩
      rcases w3' with q | q
      · exact Or.inr (by rw [← q]; exact h1)
      · exact Or.inr (tr a b w' ha h1 q)
  · rcases h2 with h2 | ⟨w', v', w1', v1', w2', v2', w3', v3', k1'⟩
    · refine Or.inr ⟨w, v, w1, v1, w2, v2, w3, ?_, k1⟩
      rcases v3 with q | q
      · exact Or.inr (by rw [q]; exact h2)
      · exact Or.inr (tr v b c v1 q h2)
    · refine Or.inr ⟨w, v', w1, v1', w2, v2', w3, v3', ?_⟩
      have hvw : K w' ≤ K v := by
        have hvb : v = w' ∨ (ea v).testBit w' = true := by
          rcases v3 with q | q
          · rcases w3' with p | p
            · exact Or.inl (q.trans p)
            · exact Or.inr (by rw [q]; exact p)
          · rcases w3' with p | p
            · exact Or.inr (by rw [← p]; exact q)
            · exact Or.inr (tr v b w' v1 q p)
        rcases hvb with q | q
        · rw [q]
          exact Nat.le_refl _
        · exact Nat.le_of_lt (hK.2.1 v w' v1 w1' v2 w2' q)
      omega
theorem cx_Q_irr (h : cx_Va n us cs wr so ea) {K : Nat → Nat} (hK : cx_CvK n cs wr so ea K) {a : Nat} (ha : a < n) : ¬ cx_Q n wr ea K a a := by
  intro hq
  rcases hq with q | ⟨w, v, w1, v1, w2, v2, w3, v3, k1⟩
  · have := cx_Va_lt h ha q
    omega
  · have hvw : v = w ∨ (ea v).testBit w = true := by
      rcases v3 with q | q
      · rcases w3 with p | p
        · exact Or.inl (q.trans p)
        · exact Or.inr (by rw [q]; exact p)
      · rcases w3 with p | p
        · exact Or.inr (by rw [← p]; exact q)
        · exact Or.inr (h.2.2.2.2.2.1 v a w v1 q p)
    rcases hvw with q | q
    · rw [q] at k1
      exact Nat.lt_irrefl _ k1
    · have := hK.2.1 v w v1 w1 v2 w2 q
      omega
/-- what `must` is all through -/
def cx_CI (n : Nat) (cs : Nat → Nat) (wr : Nat → Bool) (so ea : Nat → Nat) (M : Nat → Nat) : Prop :=
  (∀ a, a < n → M a < 128) ∧ (∀ a i, a < n → (ea a).testBit i = true → (M a).testBit i = true) ∧
  (∀ K, cx_CvK n cs wr so ea K → ∀ a i, a < n → (M a).testBit i = true → cx_Q n wr ea K a i)
theorem cx_CI_up {M : Nat → Nat} (hM : cx_CI n cs wr so ea M) {s x : Nat} (hx : ∀ i, (M s).testBit i = true → x.testBit i = true)
    (hn : s < n → ∀ i, x.testBit i = true → (M s).testBit i = true ∨ (i < 7 ∧ ∀ K, cx_CvK n cs wr so ea K → cx_Q n wr ea K s i)) : cx_CI n cs wr so ea (va_up M s x) := by
  obtain ⟨h1, h2, h3⟩ := hM
  refine ⟨fun a ha => ?_, fun a i ha hi => cx_up_sub hx a i (h2 a i ha hi), fun K hK a i ha hi => ?_⟩
  · by_cases e : a = s
    · subst e
      rw [va_up_self]
      exact cx_ltof (k := 7) fun i hi => (hn ha i hi).elim (fun q => cx_lt (k := 7) (h1 a ha) q) (fun q => q.1)
    · rw [va_up_ne _ _ e]; exact h1 a ha
  · by_cases e : a = s
    · subst e
      rw [va_up_self] at hi
      exact (hn ha i hi).elim (h3 K hK a i ha) (fun q => q.2 K hK)
    · rw [va_up_ne _ _ e] at hi
      exact h3 K hK a i ha hi
/-- the class's answer -/
theorem cx_conv (h : cx_Va n us cs wr so ea) (hn : n ≤ 8) {M0 : Nat → Nat} (hM0 : ∀ a, a < n → M0 a = ea a) :
    ((¬ ∃ r w, r < n ∧ w < n ∧ cx_se cs wr ea r w ∧ so r = 8) ∧ ¬ cx_ring n (cx_wh (cx_cl 255 n) 60 (cx_vO n cs wr so ea n M0, true)).1) ↔ cx_Cv n cs wr so ea := by
  have h255 : ∀ a, a < n → (255 : Nat).testBit a = true := fun a ha => by
    have h0 := Nat.testBit_two_pow_sub_one 8 a
    rw [decide_eq_true (by omega : a < 8)] at h0
    exact h0
  have hC0 : cx_CI n cs wr so ea M0 := by
    refine ⟨fun a ha => ?_, fun a i ha hi => ?_, fun K hK a i ha hi => ?_⟩
    · rw [hM0 a ha]
      exact Nat.lt_of_lt_of_le (h.2.2.2.2.1 a ha) (Nat.pow_le_pow_right (n := 2) (i := a) (j := 7) (by decide) (by omega))
    · rw [hM0 a ha]; exact hi
    · rw [hM0 a ha] at hi
      exact Or.inl hi
  have hC1 : cx_CI n cs wr so ea (cx_vO n cs wr so ea n M0) := by
    refine cx_vO_ind (P := cx_CI n cs wr so ea) (fun r w M hr hw hM => ?_) n (Nat.le_refl n) M0 hC0
    unfold cx_vS
    split
    · next e =>
      obtain ⟨e1, e2, e3, e4, e5⟩ := e
      refine cx_CI_up hM (fun i hi => cx_or.mpr (Or.inl hi)) fun hs i hi => ?_
      rcases cx_orp.mp hi with z | z
      · exact Or.inl z
      · subst z
        refine Or.inr ⟨by have := cx_Va_lt h hr e4; omega, fun K hK => ?_⟩
        have hk := hK.2.2 r hr e1 w hw e2 e3 e4
        rcases h.2.2.2.2.2.2.2 r hr e1 with z | ⟨z1, z2, z3, z4⟩
        · exact absurd z hk.1
        · exact Or.inr ⟨so r, w, hs, hw, z2, e2, Or.inl rfl, Or.inl rfl, hk.2 e5⟩
    · exact hM
  have hkeep : ∀ M, (cx_CI n cs wr so ea M ∧ ∀ a i, (cx_vO n cs wr so ea n M0 a).testBit i = true → (M a).testBit i = true) → (cx_CI n cs wr so ea (cx_cl 255 n M).1 ∧ ∀ a i, (cx_vO n cs wr so ea n M0 a).testBit i = true → ((cx_cl 255 n M).1 a).testBit i = true) ∧ ((cx_cl 255 n M).2 = true → cx_pc M < cx_pc (cx_cl 255 n M).1) := by
    intro M ⟨hM, hsub⟩
    obtain ⟨g1, g2, g3, g4⟩ := cx_cl_keep (w := 255) (n := n) hn (I := cx_CI n cs wr so ea) (fun M hM => hM.1) (fun M a b hM ha hb _ hab => by
      refine cx_CI_up hM (fun i hi => cx_or.mpr (Or.inl hi)) fun _ i hi => ?_
      rcases cx_or.mp hi with z | z
      · exact Or.inl z
      · refine Or.inr ⟨cx_lt (k := 7) (hM.1 b hb) z, fun K hK => ?_⟩
        exact cx_Q_tr h hK ha hb (hM.2.2 K hK a b ha hab) (hM.2.2 K hK b i hb z)) hM
    exact ⟨⟨g1, fun a i hi => g2 a i (hsub a i hi)⟩, g4⟩
  obtain ⟨M, ⟨hM, hsub⟩, hf, he⟩ := cx_wh_end (f := cx_cl 255 n) (I := fun M => cx_CI n cs wr so ea M ∧ ∀ a i, (cx_vO n cs wr so ea n M0 a).testBit i = true → (M a).testBit i = true) hkeep 60 (cx_vO n cs wr so ea n M0) ⟨hC1, fun _ _ z => z⟩ (by omega)
  rw [he]
  obtain ⟨c1, c2⟩ := cx_cl_f hf
  rw [c1]
  obtain ⟨m1, m2, m3⟩ := hM
  constructor
  · intro ⟨hbad, hring⟩
    have hirr : ∀ a, a < n → ¬ (M a).testBit a = true := fun a ha q => hring ⟨a, ha, q⟩
    have F1 : ∀ a b, a < n → b < n → (M a).testBit b = true → cx_cn (M b).testBit 8 * 16 + b < cx_cn (M a).testBit 8 * 16 + a := by
      intro a b ha hb hab
      have k2 : cx_cn (M b).testBit 8 < cx_cn (M a).testBit 8 := cx_cn_lt 8 (fun i _ hi => c2 a b ha hb (h255 a ha) hab i hi) b (by omega) (hirr b hb) hab
      omega
    refine ⟨fun w => cx_cn (M w).testBit 8 * 16 + w, fun a b ha hb _ _ hab => ?_, fun a b ha hb _ _ hab => F1 a b ha hb (m2 a b ha hab), fun r hr hwr w hw hww hcw hew => ?_⟩
    · have hab : cx_cn (M a).testBit 8 * 16 + a = cx_cn (M b).testBit 8 * 16 + b := hab
      omega
    · have hs8 : so r ≠ 8 := fun z => hbad ⟨r, w, hr, hw, ⟨hwr, hww, hcw, hew⟩, z⟩
      refine ⟨hs8, fun hne => ?_⟩
      rcases h.2.2.2.2.2.2.2 r hr hwr with z | ⟨z1, z2, z3, z4⟩
      · exact absurd z hs8
      · exact F1 (so r) w (by omega) hw (hsub _ _ (cx_vO_has ⟨hwr, hww, hcw, hew⟩ hne hw n hr))
  · intro ⟨K, hK⟩
    refine ⟨fun ⟨r, w, hr, hw, ⟨q1, q2, q3, q4⟩, q5⟩ => (hK.2.2 r hr q1 w hw q2 q3 q4).1 q5, fun ⟨a, ha, hb⟩ => cx_Q_irr h hK ha (m3 K hK a a ha hb)⟩
end CONV
end
section
/-! PURE PART 5: convergence, as the reference finds it: all orders of the writes. -/
def cx_fa : Nat → Nat
  | 0 => 1
  | k + 1 => (k + 1) * cx_fa k
/-- the place of the write that has so many before it in the mask: j places left -/
def cx_pk (l : Nat) : Nat → Nat → Nat
  | 0, _ => 8
  | j + 1, sk => if l.testBit (7 - j) = false ∨ 0 < sk then cx_pk l j (if l.testBit (7 - j) = true then sk - 1 else sk) else 7 - j
def cx_cr (l w : Nat) : Nat := l ^^^ 2 ^ w
theorem cx_cr_bit {l w : Nat} (h : l.testBit w = true) {i : Nat} : (cx_cr l w).testBit i = true ↔ l.testBit i = true ∧ i ≠ w := by
  unfold cx_cr
  rw [Nat.testBit_xor, Nat.testBit_two_pow]
  by_cases e : w = i
  · subst e
    rw [h, decide_eq_true rfl]
    exact ⟨fun q => (by cases q), fun q => absurd rfl q.2⟩
  · rw [decide_eq_false e, Bool.xor_false]
    exact ⟨fun q => ⟨q, fun z => e z.symm⟩, fun q => q.1⟩
set_option maxRecDepth 100000 in
theorem cx_pk_1 : ∀ l, l < 256 → ∀ w, w < 8 → l.testBit w = true → cx_pk l 8 (cx_cn l.testBit w) = w ∧ cx_cn l.testBit w < cx_cn l.testBit 8 ∧ cx_cr l w < 256 ∧ cx_cn (cx_cr l w).testBit 8 + 1 = cx_cn l.testBit 8 := by
  decide +kernel
set_option maxRecDepth 100000 in
theorem cx_pk_2 : ∀ l, l < 256 → ∀ sk, sk < 8 → sk < cx_cn l.testBit 8 → cx_pk l 8 sk < 8 ∧ l.testBit (cx_pk l 8 sk) = true := by
  decide +kernel
/-- the mask and the rest of the number after i places -/
def cx_lr (k l num : Nat) : Nat → Nat × Nat
  | 0 => (l, num)
  | i + 1 => (cx_cr (cx_lr k l num i).1 (cx_pk (cx_lr k l num i).1 8 ((cx_lr k l num i).2 % (k - i))), (cx_lr k l num i).2 / (k - i))
def cx_ar (k l num i : Nat) : Nat := cx_pk (cx_lr k l num i).1 8 ((cx_lr k l num i).2 % (k - i))
theorem cx_lr_s (k l num : Nat) : ∀ i, cx_lr (k + 1) l num (i + 1) = cx_lr k (cx_cr l (cx_pk l 8 (num % (k + 1)))) (num / (k + 1)) i
  | 0 => rfl
  | i + 1 => by
    rw [cx_lr, cx_lr_s k l num i, cx_lr, show k + 1 - (i + 1) = k - i by omega]
theorem cx_ar_0 (k l num : Nat) : cx_ar (k + 1) l num 0 = cx_pk l 8 (num % (k + 1)) := rfl
theorem cx_ar_s (k l num i : Nat) : cx_ar (k + 1) l num (i + 1) = cx_ar k (cx_cr l (cx_pk l 8 (num % (k + 1)))) (num / (k + 1)) i := by
  unfold cx_ar
  rw [cx_lr_s, show k + 1 - (i + 1) = k - i by omega]
theorem cx_b8 {l w : Nat} (hl : l < 256) (h : l.testBit w = true) : w < 8 := cx_lt (k := 8) hl h
theorem cx_ar_1 : ∀ k l num, l < 256 → cx_cn l.testBit 8 = k → (∀ i, i < k → l.testBit (cx_ar k l num i) = true) ∧ (∀ w, l.testBit w = true → ∃ i, i < k ∧ cx_ar k l num i = w)
  | 0, l, num, hl, hk => by
    refine ⟨fun i h => absurd h (by omega), fun w hw => ?_⟩
    have := (cx_pk_1 l hl w (cx_b8 hl hw) hw).2.1
    omega
  | k + 1, l, num, hl, hk => by
    have hsk : num % (k + 1) < k + 1 := Nat.mod_lt _ (by omega)
    have hk8 := cx_cn_le l.testBit 8
    obtain ⟨p1, p2⟩ := cx_pk_2 l hl (num % (k + 1)) (by omega) (by omega)
    generalize hw0 : cx_pk l 8 (num % (k + 1)) = w0 at p1 p2
    obtain ⟨_, _, q3, q4⟩ := cx_pk_1 l hl w0 p1 p2
    obtain ⟨i1, i2⟩ := cx_ar_1 k (cx_cr l w0) (num / (k + 1)) q3 (by omega)
    refine ⟨fun i hi => ?_, fun w hw => ?_⟩
    · cases i with
      | zero => rw [cx_ar_0, hw0]; exact p2
      | succ i =>
        rw [cx_ar_s, hw0]
        exact ((cx_cr_bit p2).mp (i1 i (by omega))).1
    · by_cases e : w = w0
      · exact ⟨0, by omega, by rw [cx_ar_0, hw0, e]⟩
      · obtain ⟨i, h1, h2⟩ := i2 w ((cx_cr_bit p2).mpr ⟨hw, e⟩)
        exact ⟨i + 1, by omega, by rw [cx_ar_s, hw0, h2]⟩
theorem cx_ar_2 (K : Nat → Nat) : ∀ k l, l < 256 → cx_cn l.testBit 8 = k → (∀ a b, l.testBit a = true → l.testBit b = true → K a = K b → a = b) → ∃ num, num < cx_fa k ∧ ∀ i j, i < j → j < k → K (cx_ar k l num i) < K (cx_ar k l num j)
  | 0, l, _, _, _ => ⟨0, by decide, fun i j _ h => absurd h (by omega)⟩
  | k + 1, l, hl, hk, hinj => by
    have hk8 := cx_cn_le l.testBit 8
    obtain ⟨a1, a2⟩ := cx_pk_2 l hl 0 (by omega) (by omega)
    obtain ⟨t, ⟨w0, b1, b2⟩, b3⟩ := pk_least (fun t => ∃ w, l.testBit w = true ∧ K w = t) ⟨_, _, a2, rfl⟩
    have hmin : ∀ w, l.testBit w = true → K w0 ≤ K w := fun w hw => by
      rcases Nat.lt_or_ge (K w) t with z | z
      · exact absurd ⟨w, hw, rfl⟩ (b3 _ z)
      · omega
    obtain ⟨q1, q2, q3, q4⟩ := cx_pk_1 l hl w0 (cx_b8 hl b1) b1
    obtain ⟨num, n1, n2⟩ := cx_ar_2 K k (cx_cr l w0) q3 (by omega) (fun a b ha hb => hinj a b ((cx_cr_bit b1).mp ha).1 ((cx_cr_bit b1).mp hb).1)
    have hm : (cx_cn l.testBit w0 + (k + 1) * num) % (k + 1) = cx_cn l.testBit w0 := by
      rw [Nat.add_mul_mod_self_left]
      exact Nat.mod_eq_of_lt (by omega)
    have hd : (cx_cn l.testBit w0 + (k + 1) * num) / (k + 1) = num := by
      rw [Nat.add_mul_div_left _ _ (by omega), Nat.div_eq_of_lt (by omega)]
      omega
    have hbd : cx_cn l.testBit w0 + (k + 1) * num < cx_fa (k + 1) := by
      have h1 : (k + 1) * (num + 1) ≤ (k + 1) * cx_fa k := Nat.mul_le_mul_left _ n1
      rw [cx_fa]
      rw [Nat.mul_succ] at h1
      omega
    have hcov := (cx_ar_1 k (cx_cr l w0) num q3 (by omega)).1
    refine ⟨cx_cn l.testBit w0 + (k + 1) * num, hbd, fun i j hij hj => ?_⟩
    cases j with
    | zero => omega
    | succ j =>
      have ej : cx_ar (k + 1) l (cx_cn l.testBit w0 + (k + 1) * num) (j + 1) = cx_ar k (cx_cr l w0) num j := by
        rw [cx_ar_s, hm, hd, q1]
      cases i with
      | zero =>
        rw [ej, cx_ar_0, hm, q1]
        obtain ⟨z1, z2⟩ := (cx_cr_bit b1).mp (hcov j (by omega))
        have z3 := hmin _ z1
        rcases Nat.lt_or_ge (K w0) (K (cx_ar k (cx_cr l w0) num j)) with z | z
        · exact z
        · exact absurd (hinj _ _ z1 b1 (by omega)) z2
      | succ i =>
        have ei : cx_ar (k + 1) l (cx_cn l.testBit w0 + (k + 1) * num) (i + 1) = cx_ar k (cx_cr l w0) num i := by
          rw [cx_ar_s, hm, hd, q1]
        rw [ej, ei]
        exact n2 i j (by omega) (by omega)
/-- the last of the first i places of the order that r sees -/
def cx_la (cs : Nat → Nat) (ea : Nat → Nat) (od : Nat → Nat) (r : Nat) : Nat → Nat
  | 0 => 8
  | i + 1 => if cs (od i) = cs r ∧ (ea r).testBit (od i) = true then od i else cx_la cs ea od r i
theorem cx_la_spec {cs ea od : Nat → Nat} {r : Nat} : ∀ k, (cx_la cs ea od r k = 8 ∧ ∀ i, i < k → ¬ (cs (od i) = cs r ∧ (ea r).testBit (od i) = true)) ∨ (∃ i, i < k ∧ cx_la cs ea od r k = od i ∧ (cs (od i) = cs r ∧ (ea r).testBit (od i) = true) ∧ ∀ j, i < j → j < k → ¬ (cs (od j) = cs r ∧ (ea r).testBit (od j) = true))
  | 0 => Or.inl ⟨rfl, fun i h => absurd h (by omega)⟩
  | k + 1 => by
    rw [cx_la]
    split
    · next e => exact Or.inr ⟨k, by omega, rfl, e, fun j h1 h2 => absurd h2 (by omega)⟩
    · next e =>
      rcases cx_la_spec (cs := cs) (ea := ea) (od := od) (r := r) k with ⟨h1, h2⟩ | ⟨i, h1, h2, h3, h4⟩
      · refine Or.inl ⟨h1, fun i hi => ?_⟩
        by_cases z : i = k
        · subst z
          exact e
        · exact h2 i (by omega)
      · refine Or.inr ⟨i, by omega, h2, h3, fun j hj1 hj2 => ?_⟩
        by_cases z : j = k
        · subst z
          exact e
        · exact h4 j hj1 (by omega)
theorem cx_la_congr {cs ea od od' : Nat → Nat} {r : Nat} : ∀ k, (∀ i, i < k → od i = od' i) → cx_la cs ea od r k = cx_la cs ea od' r k
  | 0, _ => rfl
  | k + 1, h => by
    rw [cx_la, cx_la, h k (by omega), cx_la_congr k (fun i hi => h i (by omega))]
def cx_iR (ea od : Nat → Nat) (k : Nat) : Prop := ∀ i, i < k → ∀ j, j < i → od i ≠ od j ∧ ¬ (ea (od j)).testBit (od i) = true
def cx_fi (n : Nat) (cs : Nat → Nat) (wr : Nat → Bool) (so ea od : Nat → Nat) (k : Nat) : Prop := ∀ r, r < n → ¬ (wr r = false ∧ cx_la cs ea od r k ≠ so r)
theorem cx_iR_congr {ea od od' : Nat → Nat} {k : Nat} (h : ∀ i, i < k → od i = od' i) (q : cx_iR ea od k) : cx_iR ea od' k := fun i hi j hj => by
  rw [← h i hi, ← h j (by omega)]
  exact q i hi j hj
theorem cx_fi_congr {n : Nat} {cs : Nat → Nat} {wr : Nat → Bool} {so ea od od' : Nat → Nat} {k : Nat} (h : ∀ i, i < k → od i = od' i) (q : cx_fi n cs wr so ea od k) : cx_fi n cs wr so ea od' k := fun r hr => by
  rw [← cx_la_congr k h]
  exact q r hr
def cx_ix (od : Nat → Nat) (w : Nat) : Nat → Nat
  | 0 => 0
  | i + 1 => if od i = w then i else cx_ix od w i
theorem cx_ix_spec {od : Nat → Nat} {w : Nat} : ∀ k, (∃ i, i < k ∧ od i = w) → cx_ix od w k < k ∧ od (cx_ix od w k) = w
  | 0, ⟨i, h, _⟩ => absurd h (by omega)
  | k + 1, ⟨i, h1, h2⟩ => by
    rw [cx_ix]
    split
    · next e => exact ⟨by omega, e⟩
    · next e =>
      have := cx_ix_spec (od := od) (w := w) k ⟨i, by
        by_cases z : i = k
        · subst z
          exact absurd h2 e
        · omega, h2⟩
      exact ⟨by omega, this.2⟩
theorem cx_cn_ext {p : Nat → Bool} {n : Nat} : ∀ k, n ≤ k → (∀ i, n ≤ i → i < k → ¬ p i = true) → cx_cn p k = cx_cn p n
  | 0, hk, _ => by
    have : n = 0 := by omega
    rw [this]
  | k + 1, hk, h => by
    by_cases e : n = k + 1
    · rw [e]
    · rw [cx_cn, if_neg (h k (by omega) (by omega)), cx_cn_ext k (by omega) (fun i h1 h2 => h i h1 (by omega))]
      omega
theorem cx_mk_cn (wr : Nat → Bool) {n : Nat} (hn : n ≤ 8) : cx_cn (cx_mk wr n).testBit 8 = cx_cn wr n := by
  rw [cx_cn_ext (n := n) 8 hn (fun i h1 _ q => by have := ((cx_mk_bit wr n i).mp q).1; omega)]
  exact cx_cn_congr n fun i hi => ⟨fun q => ((cx_mk_bit wr n i).mp q).2, fun q => (cx_mk_bit wr n i).mpr ⟨hi, q⟩⟩
theorem cx_mconv {n : Nat} {us cs : Nat → Nat} {wr : Nat → Bool} {so ea : Nat → Nat} (h : cx_Va n us cs wr so ea) (hn : n ≤ 8) :
    (∃ num, num < cx_fa (cx_cn wr n) ∧ cx_iR ea (cx_ar (cx_cn wr n) (cx_mk wr n) num) (cx_cn wr n) ∧ cx_fi n cs wr so ea (cx_ar (cx_cn wr n) (cx_mk wr n) num) (cx_cn wr n)) ↔ cx_Cv n cs wr so ea := by
  have hk := cx_mk_cn wr hn
  have hl : cx_mk wr n < 256 := Nat.lt_of_lt_of_le (cx_mk_lt wr n) (Nat.pow_le_pow_right (n := 2) (i := n) (j := 8) (by decide) hn)
  have hb : ∀ w, (cx_mk wr n).testBit w = true ↔ w < n ∧ wr w = true := fun w => cx_mk_bit wr n w
  generalize cx_mk wr n = l at hk hl hb ⊢
  generalize cx_cn wr n = k at hk ⊢
  constructor
  · intro ⟨num, _, hR, hF⟩
    obtain ⟨a1, a2⟩ := cx_ar_1 k l num hl hk
    generalize cx_ar k l num = od at hR hF a1 a2
    have hix : ∀ w, w < n → wr w = true → cx_ix od w k < k ∧ od (cx_ix od w k) = w := fun w h1 h2 => cx_ix_spec k (a2 w ((hb w).mpr ⟨h1, h2⟩))
    have hdis : ∀ i j, i < k → j < k → od i = od j → i = j := fun i j hi hj e => by
      rcases Nat.lt_or_ge i j with z | z
      · exact absurd e.symm (hR j hj i z).1
      · by_cases z2 : i = j
        · exact z2
        · exact absurd e (hR i hi j (by omega)).1
    refine ⟨fun w => cx_ix od w k, fun a b ha hb wa wb e => ?_, fun a b ha hb wa wb e => ?_, fun r hr hwr w hw hww hcw hew => ?_⟩
    · rw [← (hix a ha wa).2, ← (hix b hb wb).2]
      exact congrArg od e
    · obtain ⟨x1, x2⟩ := hix a ha wa
      obtain ⟨y1, y2⟩ := hix b hb wb
      have hab := cx_Va_lt h ha e
      show cx_ix od b k < cx_ix od a k
      rcases Nat.lt_or_ge (cx_ix od b k) (cx_ix od a k) with z | z
      · exact z
      · by_cases z2 : cx_ix od a k = cx_ix od b k
        · rw [z2, y2] at x2
          omega
        · have := (hR _ y1 (cx_ix od a k) (by omega)).2
          rw [x2, y2] at this
          exact absurd e this
    · have hfr := hF r hr
      have hlast : cx_la cs ea od r k = so r := Classical.not_not.mp fun z => hfr ⟨hwr, z⟩
      obtain ⟨y1, y2⟩ := hix w hw hww
      rcases cx_la_spec (cs := cs) (ea := ea) (od := od) (r := r) k with ⟨_, g2⟩ | ⟨i, g1, g2, g3, g4⟩
      · exact absurd (by rw [y2]; exact ⟨hcw, hew⟩) (g2 _ y1)
      · have hso : so r = od i := hlast.symm.trans g2
        have hodi := (hb _).mp (a1 i g1)
        refine ⟨fun z => ?_, fun z => ?_⟩
        · rw [z] at hso
          omega
        · obtain ⟨x1, x2⟩ := hix (od i) hodi.1 hodi.2
          have e1 := hdis _ _ x1 g1 x2
          show cx_ix od w k < cx_ix od (so r) k
          rw [hso, e1]
          rcases Nat.lt_or_ge (cx_ix od w k) i with q | q
          · exact q
          · by_cases q2 : i = cx_ix od w k
            · rw [← q2] at y2
              exact absurd (hso.trans y2).symm z
            · exact absurd (by rw [y2]; exact ⟨hcw, hew⟩) (g4 _ (by omega) y1)
  · intro ⟨K, k1, k2, k3⟩
    obtain ⟨num, n1, n2⟩ := cx_ar_2 K k l hl hk (fun a b ha hb2 e => k1 a b ((hb a).mp ha).1 ((hb b).mp hb2).1 ((hb a).mp ha).2 ((hb b).mp hb2).2 e)
    obtain ⟨a1, a2⟩ := cx_ar_1 k l num hl hk
    refine ⟨num, n1, ?_⟩
    generalize cx_ar k l num = od at n2 a1 a2 ⊢
    refine ⟨fun i hi j hj => ?_, fun r hr ⟨hwr, hne⟩ => ?_⟩
    · have z := n2 j i hj hi
      refine ⟨fun e => ?_, fun e => ?_⟩
      · rw [e] at z
        exact Nat.lt_irrefl _ z
      · have p1 := (hb _).mp (a1 i hi)
        have p2 := (hb _).mp (a1 j (by omega))
        have := k2 _ _ p2.1 p1.1 p2.2 p1.2 e
        omega
    · rcases cx_la_spec (cs := cs) (ea := ea) (od := od) (r := r) k with ⟨g1, g2⟩ | ⟨i, g1, g2, g3, g4⟩
      · rcases h.2.2.2.2.2.2.2 r hr hwr with z | ⟨z1, z2, z3, z4⟩
        · exact hne (g1.trans z.symm)
        · obtain ⟨i, i1, i2⟩ := a2 (so r) ((hb _).mpr ⟨by omega, z2⟩)
          exact g2 i i1 (by rw [i2]; exact ⟨z3, z4⟩)
      · have p1 := (hb _).mp (a1 i g1)
        obtain ⟨q1, q2⟩ := k3 r hr hwr (od i) p1.1 p1.2 g3.1 g3.2
        rcases h.2.2.2.2.2.2.2 r hr hwr with z | ⟨z1, z2, z3, z4⟩
        · exact q1 z
        · obtain ⟨j, j1, j2⟩ := a2 (so r) ((hb _).mpr ⟨by omega, z2⟩)
          have hne2 : od i ≠ so r := fun e => hne (g2.trans e)
          have hlt := q2 hne2
          rw [← j2] at hlt
          rcases Nat.lt_or_ge i j with y | y
          · exact g4 j y j1 (by rw [j2]; exact ⟨z3, z4⟩)
          · by_cases y2 : i = j
            · rw [y2] at hlt
              exact Nat.lt_irrefl _ hlt
            · have := n2 j i (by omega) g1
              omega
end
section
/-! ROWS OF MY OWN: the machine's numbers as naturals, truth values and sources (8 for none). -/
def cx_bI (b : Bool) : Int32 := if b = true then 1 else 0
def cx_sI (s : Nat) : Int32 := if s = 8 then -1 else nI s
def cx_nA (f : Nat → Nat) : Nat → Int32 := fun j => nI (f j)
def cx_bA (f : Nat → Bool) : Nat → Int32 := fun j => cx_bI (f j)
def cx_sA (f : Nat → Nat) : Nat → Int32 := fun j => cx_sI (f j)
theorem cx_t {x k : Nat} (h : x < k) (hk : k ≤ 2147483648 := by decide) : x < 2 ^ 31 := Nat.lt_of_lt_of_le h hk
theorem cx_bI_eq0 {b : Bool} : cx_bI b = 0 ↔ b = false := by cases b <;> decide
theorem cx_bI_eq1 {b : Bool} : cx_bI b = nI 1 ↔ b = true := by cases b <;> decide
theorem cx_bI_t : cx_bI true = 1 := rfl
theorem cx_bI_f : cx_bI false = 0 := rfl
theorem cx_bI_nar (b : Bool) : narrow .boolean (.int (cx_bI b)) = .int (cx_bI b) := by cases b <;> rfl
theorem cx_sI_8 : cx_sI 8 = -1 := rfl
theorem cx_sI_n {s : Nat} (h : s ≠ 8) : cx_sI s = nI s := if_neg h
theorem cx_sI_lt {s : Nat} (h : s ≤ 8) : cx_sI s < 0 ↔ s = 8 := by
  by_cases e : s = 8
  · subst e
    exact ⟨fun _ => rfl, fun _ => by decide⟩
  · rw [cx_sI_n e]
    exact ⟨fun q => absurd q (nI_pos (by omega)), fun q => absurd q e⟩
theorem cx_nI_ne_m1 {w : Nat} (hw : w < 2 ^ 31) : nI w ≠ -1 := fun e => by
  have h := nI_pos hw
  rw [e] at h
  exact h (by decide)
theorem cx_sI_eq {w s : Nat} (hw : w < 8) (hs : s ≤ 8) : nI w = cx_sI s ↔ w = s := by
  by_cases e : s = 8
  · subst e
    exact ⟨fun q => absurd q (cx_nI_ne_m1 (by omega)), fun q => absurd q (by omega)⟩
  · rw [cx_sI_n e]
    exact nI_eq (by omega) (by omega)
theorem cx_sI_inj {a b : Nat} (ha : a ≤ 8) (hb : b ≤ 8) : cx_sI a = cx_sI b ↔ a = b := by
  by_cases e : a = 8
  · subst e
    by_cases e2 : b = 8
    · subst e2
      exact ⟨fun _ => rfl, fun _ => rfl⟩
    · rw [cx_sI_n e2]
      exact ⟨fun q => absurd q.symm (cx_nI_ne_m1 (by omega)), fun q => absurd q.symm e2⟩
  · rw [cx_sI_n e]
    exact cx_sI_eq (by omega) hb
theorem cx_and_n (a b : Nat) : nI a &&& nI b = nI (a &&& b) := by
  apply Int32.toBitVec_inj.1
  show BitVec.ofNat 32 a &&& BitVec.ofNat 32 b = BitVec.ofNat 32 (a &&& b)
  apply BitVec.eq_of_getLsbD_eq
  intro i hi
  simp [hi]
theorem cx_or_n (a b : Nat) : nI a ||| nI b = nI (a ||| b) := by
  apply Int32.toBitVec_inj.1
  show BitVec.ofNat 32 a ||| BitVec.ofNat 32 b = BitVec.ofNat 32 (a ||| b)
  apply BitVec.eq_of_getLsbD_eq
  intro i hi
  simp [hi]
theorem cx_sl : ∀ n, n < 32 → ((nI n &&& 31).toBitVec.smod 32).toNat = n := by decide +kernel
theorem cx_su : ∀ n, n < 32 → (((nI n).toUInt32 &&& Int32.toUInt32 31).toBitVec % 32).toNat = n := by decide +kernel
theorem cx_shl_n : ∀ y, y < 31 → nI 1 <<< (nI y &&& 31) = nI (2 ^ y) := by decide +kernel
theorem cx_ushr_n {x y : Nat} (hx : x < 2 ^ 31) (hy : y < 32) : ((nI x).toUInt32 >>> ((nI y).toUInt32 &&& Int32.toUInt32 31)).toInt32 = nI (x >>> y) := by
  rw [pk_ushrN (by omega) _ y (cx_su y hy), Nat.shiftRight_eq_div_pow]
theorem cx_shr_n {x y : Nat} (hx : x < 2 ^ 31) (hy : y < 32) : nI x >>> (nI y &&& 31) = nI (x >>> y) := by
  rw [pk_shrN hx _ y (cx_sl y hy), Nat.shiftRight_eq_div_pow]
theorem cx_bitI (x y : Nat) : nI (x >>> y) &&& nI 1 = cx_bI (x.testBit y) := by
  rw [cx_and_n, Nat.and_one_is_mod, Nat.testBit_eq_decide_div_mod_eq, Nat.shiftRight_eq_div_pow]
  rcases Nat.mod_two_eq_zero_or_one (x / 2 ^ y) with e | e
  · rw [e]
    rfl
  · rw [e]
    rfl
theorem cx_bt (x i : Nat) (hi : i < 32) : (nI x).toBitVec.getLsbD i = x.testBit i := by
  show (BitVec.ofNat 32 x).getLsbD i = _
  rw [BitVec.getLsbD_ofNat, decide_eq_true hi, Bool.true_and]
theorem cx_m1 : ∀ i, i < 32 → (-1 : Int32).toBitVec.getLsbD i = true := by decide +kernel
theorem cx_an {x y : Nat} (hx : x < 2 ^ 31) : (nI x &&& (nI y ^^^ (-1))) = 0 ↔ cx_sub x y = true := by
  rw [cx_sub_iff]
  have key : ∀ i, i < 32 → (nI x &&& (nI y ^^^ (-1))).toBitVec.getLsbD i = (x.testBit i && !y.testBit i) := fun i hi => by
    rw [Int32.toBitVec_and, Int32.toBitVec_xor, BitVec.getLsbD_and, BitVec.getLsbD_xor, cx_bt x i hi, cx_bt y i hi, cx_m1 i hi, Bool.xor_true]
  constructor
  · intro h i hi
    have h32 : i < 32 := Nat.lt_trans (cx_lt hx hi) (by decide)
    have h0 := key i h32
    rw [h, hi, Bool.true_and] at h0
    have hz : (0 : Int32).toBitVec.getLsbD i = false := BitVec.getLsbD_zero
    rw [hz] at h0
    rcases e : y.testBit i with _ | _
    · rw [e] at h0
      cases h0
    · rfl
  · intro h
    apply Int32.toBitVec_inj.1
    apply BitVec.eq_of_getLsbD_eq
    intro i hi
    rw [key i hi, show (0 : Int32).toBitVec.getLsbD i = false from BitVec.getLsbD_zero]
    rcases e : x.testBit i with _ | _
    · rfl
    · rw [h i e]
      rfl
set_option maxRecDepth 100000 in
theorem cx_clr : ∀ l, l < 256 → ∀ w, w < 8 → l.testBit w = true → nI l &&& (nI (2 ^ w) ^^^ (-1)) = nI (cx_cr l w) := by decide +kernel
theorem cx_upd_n {f : Nat → Nat} {i x : Nat} (hi : i < 2 ^ 31) : upd (cx_nA f) (nI i).toNatClampNeg (nI x) = cx_nA (va_up f i x) := by
  rw [nI_clamp hi]
  funext j
  unfold upd cx_nA va_up
  split <;> rfl
theorem cx_upd_s {f : Nat → Nat} {i x : Nat} (hi : i < 2 ^ 31) : upd (cx_sA f) (nI i).toNatClampNeg (cx_sI x) = cx_sA (va_up f i x) := by
  rw [nI_clamp hi]
  funext j
  unfold upd cx_sA va_up
  split <;> rfl
theorem cx_upd_b {f : Nat → Bool} {i : Nat} {x : Bool} (hi : i < 2 ^ 31) : upd (cx_bA f) (nI i).toNatClampNeg (vp_nar .boolean (cx_bI x)) = cx_bA (va_up f i x) := by
  rw [nI_clamp hi]
  have e : vp_nar .boolean (cx_bI x) = cx_bI x := by cases x <;> rfl
  rw [e]
  funext j
  unfold upd cx_bA va_up
  split <;> rfl
section ROWS
variable {p : Program} {l : Launch} {e : Env} {R : Room} {s : State} {m : MethodId} {args : Array Value} {below : List Frame} {meth : Method} {c : Code} {H : Heap} {locs : List Loc} {cells slots : Nat} {Q : State → Prop}
variable {cc : ByteArray} {pc : Nat} {ls : Array Slot} {rest : List Value} {D : va_G} {cl : List vw_C} {A : Nat → Prop} {a : Nat} {tys : List (ClassId × FieldType)} {ws : va_W} {H0 : Heap}
theorem cx_top {x y : Int32} (h : x = y) (k : W p l e R s m args below meth c H locs cells slots Q (F0 m pc ls (.int y :: rest))) : W p l e R s m args below meth c H locs cells slots Q (F0 m pc ls (.int x :: rest)) := h ▸ k
theorem cx_top2 {x y : Int32} {v : Value} (h : x = y) (k : W p l e R s m args below meth c H locs cells slots Q (F0 m pc ls (v :: .int y :: rest))) : W p l e R s m args below meth c H locs cells slots Q (F0 m pc ls (v :: .int x :: rest)) := h ▸ k
/-- a cell of numbers, of sources, of truth values, read -/
theorem cx_ald (hx : p.tables.exec = Jvm.exec) (hb : c.code = cc) (hK : va_K D cl tys s) (hP : va_P D cl ws H) (q0 t0 : Nat) {cA : ClassId} {n : Nat} {f : Nat → Nat} (ha : ws[q0]? = some (a, .inl (cA, n, .inl (cx_nA f)))) (ht : tys[t0]? = some (cA, .int)) {i : Nat} (hi : i < n) (hn : n < 2 ^ 31) (hdg : decode cc pc = .ok (.iaload, 1))
    (kk : W p l e R s m args below meth c H locs cells slots Q (F0 m (pc + 1) ls (.int (nI (f i)) :: rest))) : W p l e R s m args below meth c H locs cells slots Q (F0 m pc ls (.int (nI i) :: .ref a :: rest)) := by
  refine va_iald hx hb hK hP q0 t0 ha ht (vp_in_nI hi hn) hdg ?_
  rw [nI_clamp (by omega)]
  exact kk
theorem cx_aldS (hx : p.tables.exec = Jvm.exec) (hb : c.code = cc) (hK : va_K D cl tys s) (hP : va_P D cl ws H) (q0 t0 : Nat) {cA : ClassId} {n : Nat} {f : Nat → Nat} (ha : ws[q0]? = some (a, .inl (cA, n, .inl (cx_sA f)))) (ht : tys[t0]? = some (cA, .int)) {i : Nat} (hi : i < n) (hn : n < 2 ^ 31) (hdg : decode cc pc = .ok (.iaload, 1))
    (kk : W p l e R s m args below meth c H locs cells slots Q (F0 m (pc + 1) ls (.int (cx_sI (f i)) :: rest))) : W p l e R s m args below meth c H locs cells slots Q (F0 m pc ls (.int (nI i) :: .ref a :: rest)) := by
  refine va_iald hx hb hK hP q0 t0 ha ht (vp_in_nI hi hn) hdg ?_
  rw [nI_clamp (by omega)]
  exact kk
theorem cx_aldB (hx : p.tables.exec = Jvm.exec) (hb : c.code = cc) (hK : va_K D cl tys s) (hP : va_P D cl ws H) (q0 t0 : Nat) {cA : ClassId} {n : Nat} {f : Nat → Bool} (ha : ws[q0]? = some (a, .inl (cA, n, .inl (cx_bA f)))) (ht : tys[t0]? = some (cA, .boolean)) {i : Nat} (hi : i < n) (hn : n < 2 ^ 31) (hdg : decode cc pc = .ok (.baload, 1))
    (kk : W p l e R s m args below meth c H locs cells slots Q (F0 m (pc + 1) ls (.int (cx_bI (f i)) :: rest))) : W p l e R s m args below meth c H locs cells slots Q (F0 m pc ls (.int (nI i) :: .ref a :: rest)) := by
  refine va_zald hx hb hK hP q0 t0 ha ht (vp_in_nI hi hn) hdg ?_
  rw [nI_clamp (by omega)]
  exact kk
/-- the world of a method: its cells hold, are apart, and nothing else has changed -/
def cx_H (D : va_G) (cl : List vw_C) (ws : va_W) (A : Nat → Prop) (H0 H : Heap) (locs : List Loc) : Prop := va_P D cl ws H ∧ va_D A ws ∧ va_S A H0 H locs
theorem cx_ast (hx : p.tables.exec = Jvm.exec) (hb : c.code = cc) (hK : va_K D cl tys s) (hw : cx_H D cl ws A H0 H locs) (q0 t0 : Nat) {cA : ClassId} {n : Nat} {f : Nat → Nat} (ha : ws[q0]? = some (a, .inl (cA, n, .inl (cx_nA f)))) (ht : tys[t0]? = some (cA, .int)) {i x : Nat} (hi : i < n) (hn : n < 2 ^ 31) (hdg : decode cc pc = .ok (.iastore, 1))
    (kk : ∀ (H1 : Heap) (locs1 : List Loc), cx_H D cl (ws.set q0 (a, .inl (cA, n, .inl (cx_nA (va_up f i x))))) A H0 H1 locs1 → W p l e R s m args below meth c H1 locs1 cells slots Q (F0 m (pc + 1) ls rest)) : W p l e R s m args below meth c H locs cells slots Q (F0 m pc ls (.int (nI x) :: .int (nI i) :: .ref a :: rest)) := by
  refine va_iast hx hb hK hw.1 hw.2.1 hw.2.2 q0 t0 ha ht (vp_in_nI hi hn) hdg fun H1 locs1 h1 h2 h3 => ?_
  rw [cx_upd_n (by omega)] at h1 h2
  exact kk H1 locs1 ⟨h1, h2, h3⟩
theorem cx_astS (hx : p.tables.exec = Jvm.exec) (hb : c.code = cc) (hK : va_K D cl tys s) (hw : cx_H D cl ws A H0 H locs) (q0 t0 : Nat) {cA : ClassId} {n : Nat} {f : Nat → Nat} (ha : ws[q0]? = some (a, .inl (cA, n, .inl (cx_sA f)))) (ht : tys[t0]? = some (cA, .int)) {i x : Nat} (hi : i < n) (hn : n < 2 ^ 31) (hdg : decode cc pc = .ok (.iastore, 1))
    (kk : ∀ (H1 : Heap) (locs1 : List Loc), cx_H D cl (ws.set q0 (a, .inl (cA, n, .inl (cx_sA (va_up f i x))))) A H0 H1 locs1 → W p l e R s m args below meth c H1 locs1 cells slots Q (F0 m (pc + 1) ls rest)) : W p l e R s m args below meth c H locs cells slots Q (F0 m pc ls (.int (cx_sI x) :: .int (nI i) :: .ref a :: rest)) := by
  refine va_iast hx hb hK hw.1 hw.2.1 hw.2.2 q0 t0 ha ht (vp_in_nI hi hn) hdg fun H1 locs1 h1 h2 h3 => ?_
  rw [cx_upd_s (by omega)] at h1 h2
  exact kk H1 locs1 ⟨h1, h2, h3⟩
theorem cx_astB (hx : p.tables.exec = Jvm.exec) (hb : c.code = cc) (hK : va_K D cl tys s) (hw : cx_H D cl ws A H0 H locs) (q0 t0 : Nat) {cA : ClassId} {n : Nat} {f : Nat → Bool} (ha : ws[q0]? = some (a, .inl (cA, n, .inl (cx_bA f)))) (ht : tys[t0]? = some (cA, .boolean)) {i : Nat} {x : Bool} (hi : i < n) (hn : n < 2 ^ 31) (hdg : decode cc pc = .ok (.bastore, 1))
    (kk : ∀ (H1 : Heap) (locs1 : List Loc), cx_H D cl (ws.set q0 (a, .inl (cA, n, .inl (cx_bA (va_up f i x))))) A H0 H1 locs1 → W p l e R s m args below meth c H1 locs1 cells slots Q (F0 m (pc + 1) ls rest)) : W p l e R s m args below meth c H locs cells slots Q (F0 m pc ls (.int (cx_bI x) :: .int (nI i) :: .ref a :: rest)) := by
  refine va_zast hx hb hK hw.1 hw.2.1 hw.2.2 q0 t0 ha ht (vp_in_nI hi hn) hdg fun H1 locs1 h1 h2 h3 => ?_
  rw [cx_upd_b (by omega)] at h1 h2
  exact kk H1 locs1 ⟨h1, h2, h3⟩
/-- arithmetic -/
theorem cx_iadd (hx : p.tables.exec = Jvm.exec) (hb : c.code = cc) {x y : Nat} (hdg : decode cc pc = .ok (.iadd, 1)) (k : W p l e R s m args below meth c H locs cells slots Q (F0 m (pc + 1) ls (.int (nI (x + y)) :: rest))) : W p l e R s m args below meth c H locs cells slots Q (F0 m pc ls (.int (nI y) :: .int (nI x) :: rest)) :=
  lv_iadd hx hb hdg (cx_top (nI_add x y) k)
theorem cx_isub (hx : p.tables.exec = Jvm.exec) (hb : c.code = cc) {x y : Nat} (hdg : decode cc pc = .ok (.isub, 1)) (h : y ≤ x) (k : W p l e R s m args below meth c H locs cells slots Q (F0 m (pc + 1) ls (.int (nI (x - y)) :: rest))) : W p l e R s m args below meth c H locs cells slots Q (F0 m pc ls (.int (nI y) :: .int (nI x) :: rest)) :=
  lv_isub hx hb hdg (cx_top (pk_sub h) k)
theorem cx_imul (hx : p.tables.exec = Jvm.exec) (hb : c.code = cc) {x y : Nat} (hdg : decode cc pc = .ok (.imul, 1)) (k : W p l e R s m args below meth c H locs cells slots Q (F0 m (pc + 1) ls (.int (nI (x * y)) :: rest))) : W p l e R s m args below meth c H locs cells slots Q (F0 m pc ls (.int (nI y) :: .int (nI x) :: rest)) :=
  lv_imul hx hb hdg (cx_top (pk_mul x y) k)
theorem cx_idiv (hx : p.tables.exec = Jvm.exec) (hb : c.code = cc) {x y : Nat} (hdg : decode cc pc = .ok (.idiv, 1)) (h1 : x < 2 ^ 31) (h2 : 0 < y) (h3 : y < 2 ^ 31) (k : W p l e R s m args below meth c H locs cells slots Q (F0 m (pc + 1) ls (.int (nI (x / y)) :: rest))) : W p l e R s m args below meth c H locs cells slots Q (F0 m pc ls (.int (nI y) :: .int (nI x) :: rest)) :=
  lv_idiv hx hb hdg (nI_ne0 h2 h3) (cx_top (pk_div h1 h2 h3) k)
theorem cx_irem (hx : p.tables.exec = Jvm.exec) (hb : c.code = cc) {x y : Nat} (hdg : decode cc pc = .ok (.irem, 1)) (h1 : x < 2 ^ 31) (h2 : 0 < y) (h3 : y < 2 ^ 31) (k : W p l e R s m args below meth c H locs cells slots Q (F0 m (pc + 1) ls (.int (nI (x % y)) :: rest))) : W p l e R s m args below meth c H locs cells slots Q (F0 m pc ls (.int (nI y) :: .int (nI x) :: rest)) :=
  lv_irem hx hb hdg (nI_ne0 h2 h3) (cx_top (pk_rem h1 h2 h3) k)
theorem cx_ior (hx : p.tables.exec = Jvm.exec) (hb : c.code = cc) {x y : Nat} (hdg : decode cc pc = .ok (.ior, 1)) (k : W p l e R s m args below meth c H locs cells slots Q (F0 m (pc + 1) ls (.int (nI (x ||| y)) :: rest))) : W p l e R s m args below meth c H locs cells slots Q (F0 m pc ls (.int (nI y) :: .int (nI x) :: rest)) :=
  lv_ior hx hb hdg (cx_top (cx_or_n x y) k)
theorem cx_iand1 (hx : p.tables.exec = Jvm.exec) (hb : c.code = cc) {x y : Nat} (hdg : decode cc pc = .ok (.iand, 1)) (k : W p l e R s m args below meth c H locs cells slots Q (F0 m (pc + 1) ls (.int (cx_bI (x.testBit y)) :: rest))) : W p l e R s m args below meth c H locs cells slots Q (F0 m pc ls (.int (nI 1) :: .int (nI (x >>> y)) :: rest)) :=
  lv_iand hx hb hdg (cx_top (cx_bitI x y) k)
theorem cx_ishl (hx : p.tables.exec = Jvm.exec) (hb : c.code = cc) {y : Nat} (hdg : decode cc pc = .ok (.ishl, 1)) (h : y < 31) (k : W p l e R s m args below meth c H locs cells slots Q (F0 m (pc + 1) ls (.int (nI (2 ^ y)) :: rest))) : W p l e R s m args below meth c H locs cells slots Q (F0 m pc ls (.int (nI y) :: .int (nI 1) :: rest)) :=
  lv_ishl hx hb hdg (cx_top (cx_shl_n y h) k)
theorem cx_iushr (hx : p.tables.exec = Jvm.exec) (hb : c.code = cc) {x y : Nat} (hdg : decode cc pc = .ok (.iushr, 1)) (h1 : x < 2 ^ 31) (h2 : y < 32) (k : W p l e R s m args below meth c H locs cells slots Q (F0 m (pc + 1) ls (.int (nI (x >>> y)) :: rest))) : W p l e R s m args below meth c H locs cells slots Q (F0 m pc ls (.int (nI y) :: .int (nI x) :: rest)) :=
  lv_iushr hx hb hdg (cx_ushr_n h1 h2) k
theorem cx_ishr (hx : p.tables.exec = Jvm.exec) (hb : c.code = cc) {x y : Nat} (hdg : decode cc pc = .ok (.ishr, 1)) (h1 : x < 2 ^ 31) (h2 : y < 32) (k : W p l e R s m args below meth c H locs cells slots Q (F0 m (pc + 1) ls (.int (nI (x >>> y)) :: rest))) : W p l e R s m args below meth c H locs cells slots Q (F0 m pc ls (.int (nI y) :: .int (nI x) :: rest)) :=
  lv_ishr hx hb hdg (cx_top (cx_shr_n h1 h2) k)
/-- branches -/
theorem cx_ifeq_b (hx : p.tables.exec = Jvm.exec) (hb : c.code = cc) {b : Bool} {off : Int} {tgt : Nat} (hdg : decode cc pc = .ok (.ifCond .eq off, 3)) (ht : (pc : Int) + off = (tgt : Int)) (kt : b = false → W p l e R s m args below meth c H locs cells slots Q (F0 m tgt ls rest)) (kf : b = true → W p l e R s m args below meth c H locs cells slots Q (F0 m (pc + 3) ls rest)) : W p l e R s m args below meth c H locs cells slots Q (F0 m pc ls (.int (cx_bI b) :: rest)) :=
  lv_if_eq hx hb hdg ht (fun h => kt (cx_bI_eq0.mp h)) (fun h => kf (cx_nf.mp (fun q => h (cx_bI_eq0.mpr q))))
theorem cx_ifne_b (hx : p.tables.exec = Jvm.exec) (hb : c.code = cc) {b : Bool} {off : Int} {tgt : Nat} (hdg : decode cc pc = .ok (.ifCond .ne off, 3)) (ht : (pc : Int) + off = (tgt : Int)) (kt : b = true → W p l e R s m args below meth c H locs cells slots Q (F0 m tgt ls rest)) (kf : b = false → W p l e R s m args below meth c H locs cells slots Q (F0 m (pc + 3) ls rest)) : W p l e R s m args below meth c H locs cells slots Q (F0 m pc ls (.int (cx_bI b) :: rest)) :=
  lv_if_ne hx hb hdg ht (fun h => kt (cx_nf.mp (fun q => h (cx_bI_eq0.mpr q)))) (fun h => kf (cx_bI_eq0.mp h))
theorem cx_icmp_ne_b1 (hx : p.tables.exec = Jvm.exec) (hb : c.code = cc) {b : Bool} {off : Int} {tgt : Nat} (hdg : decode cc pc = .ok (.if_icmp .ne off, 3)) (ht : (pc : Int) + off = (tgt : Int)) (kt : b = false → W p l e R s m args below meth c H locs cells slots Q (F0 m tgt ls rest)) (kf : b = true → W p l e R s m args below meth c H locs cells slots Q (F0 m (pc + 3) ls rest)) : W p l e R s m args below meth c H locs cells slots Q (F0 m pc ls (.int (nI 1) :: .int (cx_bI b) :: rest)) :=
  lv_icmp_ne hx hb hdg ht (fun h => kt (cx_nt.mp (fun q => h (cx_bI_eq1.mpr q)))) (fun h => kf (cx_bI_eq1.mp h))
theorem cx_ifeq_an (hx : p.tables.exec = Jvm.exec) (hb : c.code = cc) {x y : Nat} {off : Int} {tgt : Nat} (hdg : decode cc pc = .ok (.ifCond .eq off, 3)) (ht : (pc : Int) + off = (tgt : Int)) (hxl : x < 2 ^ 31) (kt : cx_sub x y = true → W p l e R s m args below meth c H locs cells slots Q (F0 m tgt ls rest)) (kf : cx_sub x y = false → W p l e R s m args below meth c H locs cells slots Q (F0 m (pc + 3) ls rest)) : W p l e R s m args below meth c H locs cells slots Q (F0 m pc ls (.int (nI x &&& (nI y ^^^ (-1))) :: rest)) :=
  lv_if_eq hx hb hdg ht (fun h => kt ((cx_an hxl).mp h)) (fun h => kf (cx_nt.mp (fun q => h ((cx_an hxl).mpr q))))
theorem cx_ifne_an (hx : p.tables.exec = Jvm.exec) (hb : c.code = cc) {x y : Nat} {off : Int} {tgt : Nat} (hdg : decode cc pc = .ok (.ifCond .ne off, 3)) (ht : (pc : Int) + off = (tgt : Int)) (hxl : x < 2 ^ 31) (kt : cx_sub x y = false → W p l e R s m args below meth c H locs cells slots Q (F0 m tgt ls rest)) (kf : cx_sub x y = true → W p l e R s m args below meth c H locs cells slots Q (F0 m (pc + 3) ls rest)) : W p l e R s m args below meth c H locs cells slots Q (F0 m pc ls (.int (nI x &&& (nI y ^^^ (-1))) :: rest)) :=
  lv_if_ne hx hb hdg ht (fun h => kt (cx_nt.mp (fun q => h ((cx_an hxl).mpr q)))) (fun h => kf ((cx_an hxl).mp h))
theorem cx_ifne_n (hx : p.tables.exec = Jvm.exec) (hb : c.code = cc) {x : Nat} {off : Int} {tgt : Nat} (hdg : decode cc pc = .ok (.ifCond .ne off, 3)) (ht : (pc : Int) + off = (tgt : Int)) (hxl : x < 2 ^ 31) (kt : x ≠ 0 → W p l e R s m args below meth c H locs cells slots Q (F0 m tgt ls rest)) (kf : x = 0 → W p l e R s m args below meth c H locs cells slots Q (F0 m (pc + 3) ls rest)) : W p l e R s m args below meth c H locs cells slots Q (F0 m pc ls (.int (nI x) :: rest)) :=
  lv_if_ne hx hb hdg ht (fun h => kt (fun q => h (by rw [q]; rfl))) (fun h => kf ((nI_eq (b := 0) hxl (by omega)).mp h))
theorem cx_ifle_n (hx : p.tables.exec = Jvm.exec) (hb : c.code = cc) {x : Nat} {off : Int} {tgt : Nat} (hdg : decode cc pc = .ok (.ifCond .le off, 3)) (ht : (pc : Int) + off = (tgt : Int)) (hxl : x < 2 ^ 31) (kt : x = 0 → W p l e R s m args below meth c H locs cells slots Q (F0 m tgt ls rest)) (kf : 0 < x → W p l e R s m args below meth c H locs cells slots Q (F0 m (pc + 3) ls rest)) : W p l e R s m args below meth c H locs cells slots Q (F0 m pc ls (.int (nI x) :: rest)) :=
  lv_if_le hx hb hdg ht (fun h => kt (Nat.le_zero.mp ((nI_leI (b := 0) hxl (by omega)).mp h))) (fun h => kf (Nat.pos_of_ne_zero (fun q => h (by rw [q]; decide))))
theorem cx_iflt_s (hx : p.tables.exec = Jvm.exec) (hb : c.code = cc) {x : Nat} {off : Int} {tgt : Nat} (hdg : decode cc pc = .ok (.ifCond .lt off, 3)) (ht : (pc : Int) + off = (tgt : Int)) (hxl : x ≤ 8) (kt : x = 8 → W p l e R s m args below meth c H locs cells slots Q (F0 m tgt ls rest)) (kf : x ≠ 8 → W p l e R s m args below meth c H locs cells slots Q (F0 m (pc + 3) ls rest)) : W p l e R s m args below meth c H locs cells slots Q (F0 m pc ls (.int (cx_sI x) :: rest)) :=
  lv_if_lt hx hb hdg ht (fun h => kt ((cx_sI_lt hxl).mp h)) (fun h => kf (fun q => h ((cx_sI_lt hxl).mpr q)))
theorem cx_ifge_s (hx : p.tables.exec = Jvm.exec) (hb : c.code = cc) {x : Nat} {off : Int} {tgt : Nat} (hdg : decode cc pc = .ok (.ifCond .ge off, 3)) (ht : (pc : Int) + off = (tgt : Int)) (hxl : x ≤ 8) (kt : x ≠ 8 → W p l e R s m args below meth c H locs cells slots Q (F0 m tgt ls rest)) (kf : x = 8 → W p l e R s m args below meth c H locs cells slots Q (F0 m (pc + 3) ls rest)) : W p l e R s m args below meth c H locs cells slots Q (F0 m pc ls (.int (cx_sI x) :: rest)) :=
  lv_if_ge hx hb hdg ht (fun h => kt (fun q => by rw [q, cx_sI_8] at h; exact absurd h (by decide))) (fun h => kf (Classical.byContradiction fun q => h (by rw [cx_sI_n q]; exact nI_pos' (by omega))))
theorem cx_icmp_eq (hx : p.tables.exec = Jvm.exec) (hb : c.code = cc) {x y : Nat} {off : Int} {tgt : Nat} (hdg : decode cc pc = .ok (.if_icmp .eq off, 3)) (ht : (pc : Int) + off = (tgt : Int)) (h1 : x < 2 ^ 31) (h2 : y < 2 ^ 31) (kt : x = y → W p l e R s m args below meth c H locs cells slots Q (F0 m tgt ls rest)) (kf : x ≠ y → W p l e R s m args below meth c H locs cells slots Q (F0 m (pc + 3) ls rest)) : W p l e R s m args below meth c H locs cells slots Q (F0 m pc ls (.int (nI y) :: .int (nI x) :: rest)) :=
  lv_icmp_eq hx hb hdg ht (fun h => kt ((nI_eq h1 h2).mp h)) (fun h => kf (fun q => h ((nI_eq h1 h2).mpr q)))
theorem cx_icmp_ne (hx : p.tables.exec = Jvm.exec) (hb : c.code = cc) {x y : Nat} {off : Int} {tgt : Nat} (hdg : decode cc pc = .ok (.if_icmp .ne off, 3)) (ht : (pc : Int) + off = (tgt : Int)) (h1 : x < 2 ^ 31) (h2 : y < 2 ^ 31) (kt : x ≠ y → W p l e R s m args below meth c H locs cells slots Q (F0 m tgt ls rest)) (kf : x = y → W p l e R s m args below meth c H locs cells slots Q (F0 m (pc + 3) ls rest)) : W p l e R s m args below meth c H locs cells slots Q (F0 m pc ls (.int (nI y) :: .int (nI x) :: rest)) :=
  lv_icmp_ne hx hb hdg ht (fun h => kt (fun q => h ((nI_eq h1 h2).mpr q))) (fun h => kf ((nI_eq h1 h2).mp h))
theorem cx_icmp_ge (hx : p.tables.exec = Jvm.exec) (hb : c.code = cc) {x y : Nat} {off : Int} {tgt : Nat} (hdg : decode cc pc = .ok (.if_icmp .ge off, 3)) (ht : (pc : Int) + off = (tgt : Int)) (h1 : x < 2 ^ 31) (h2 : y < 2 ^ 31) (kt : y ≤ x → W p l e R s m args below meth c H locs cells slots Q (F0 m tgt ls rest)) (kf : x < y → W p l e R s m args below meth c H locs cells slots Q (F0 m (pc + 3) ls rest)) : W p l e R s m args below meth c H locs cells slots Q (F0 m pc ls (.int (nI y) :: .int (nI x) :: rest)) :=
  lv_icmp_ge hx hb hdg ht (fun h => kt ((nI_leI h2 h1).mp h)) (fun h => kf (Nat.lt_of_not_le (fun q => h ((nI_leI h2 h1).mpr q))))
theorem cx_icmp_lt (hx : p.tables.exec = Jvm.exec) (hb : c.code = cc) {x y : Nat} {off : Int} {tgt : Nat} (hdg : decode cc pc = .ok (.if_icmp .lt off, 3)) (ht : (pc : Int) + off = (tgt : Int)) (h1 : x < 2 ^ 31) (h2 : y < 2 ^ 31) (kt : x < y → W p l e R s m args below meth c H locs cells slots Q (F0 m tgt ls rest)) (kf : y ≤ x → W p l e R s m args below meth c H locs cells slots Q (F0 m (pc + 3) ls rest)) : W p l e R s m args below meth c H locs cells slots Q (F0 m pc ls (.int (nI y) :: .int (nI x) :: rest)) :=
  lv_icmp_lt hx hb hdg ht (fun h => kt ((nI_ltI h1 h2).mp h)) (fun h => kf (Nat.le_of_not_lt (fun q => h ((nI_ltI h1 h2).mpr q))))
theorem cx_icmp_eq_s (hx : p.tables.exec = Jvm.exec) (hb : c.code = cc) {x y : Nat} {off : Int} {tgt : Nat} (hdg : decode cc pc = .ok (.if_icmp .eq off, 3)) (ht : (pc : Int) + off = (tgt : Int)) (h1 : x < 8) (h2 : y ≤ 8) (kt : x = y → W p l e R s m args below meth c H locs cells slots Q (F0 m tgt ls rest)) (kf : x ≠ y → W p l e R s m args below meth c H locs cells slots Q (F0 m (pc + 3) ls rest)) : W p l e R s m args below meth c H locs cells slots Q (F0 m pc ls (.int (cx_sI y) :: .int (nI x) :: rest)) :=
  lv_icmp_eq hx hb hdg ht (fun h => kt ((cx_sI_eq h1 h2).mp h)) (fun h => kf (fun q => h ((cx_sI_eq h1 h2).mpr q)))
theorem cx_icmp_ne_s (hx : p.tables.exec = Jvm.exec) (hb : c.code = cc) {x y : Nat} {off : Int} {tgt : Nat} (hdg : decode cc pc = .ok (.if_icmp .ne off, 3)) (ht : (pc : Int) + off = (tgt : Int)) (h1 : x < 8) (h2 : y ≤ 8) (kt : x ≠ y → W p l e R s m args below meth c H locs cells slots Q (F0 m tgt ls rest)) (kf : x = y → W p l e R s m args below meth c H locs cells slots Q (F0 m (pc + 3) ls rest)) : W p l e R s m args below meth c H locs cells slots Q (F0 m pc ls (.int (cx_sI y) :: .int (nI x) :: rest)) :=
  lv_icmp_ne hx hb hdg ht (fun h => kt (fun q => h ((cx_sI_eq h1 h2).mpr q))) (fun h => kf ((cx_sI_eq h1 h2).mp h))
theorem cx_icmp_eq_ss (hx : p.tables.exec = Jvm.exec) (hb : c.code = cc) {x y : Nat} {off : Int} {tgt : Nat} (hdg : decode cc pc = .ok (.if_icmp .eq off, 3)) (ht : (pc : Int) + off = (tgt : Int)) (h1 : x ≤ 8) (h2 : y ≤ 8) (kt : x = y → W p l e R s m args below meth c H locs cells slots Q (F0 m tgt ls rest)) (kf : x ≠ y → W p l e R s m args below meth c H locs cells slots Q (F0 m (pc + 3) ls rest)) : W p l e R s m args below meth c H locs cells slots Q (F0 m pc ls (.int (cx_sI y) :: .int (cx_sI x) :: rest)) :=
  lv_icmp_eq hx hb hdg ht (fun h => kt ((cx_sI_inj h1 h2).mp h)) (fun h => kf (fun q => h ((cx_sI_inj h1 h2).mpr q)))
end ROWS
end
section
/-! CONTRACTS: how a method over a world of cells is stated, entered, left and called. -/
abbrev cx_Cl : List vw_C := [(RX0, TX0, 7), (RX1, TX1, 8)]
abbrev cx_ty (cI cZ : ClassId) : List (ClassId × FieldType) := [(cI, .int), (cZ, .boolean)]
def cx_Pr (D : va_G) (cI cZ : ClassId) {T : Type} (wd : T → va_W) (av : List Value) (σ : T) (sz : Nat) : Array Value → State → Prop :=
  va_Pc av (fun U => U.heap.size = sz ∧ va_P D cx_Cl (wd σ) U.heap ∧ va_K D cx_Cl (cx_ty cI cZ) U ∧ va_D (fun _ => True) (wd σ))
def cx_Bo (D : va_G) (cI cZ : ClassId) {T : Type} (wd : T → va_W) (σ : T) (sz : Nat) : T → State → Prop :=
  fun σ' t => va_P D cx_Cl (wd σ') t.heap ∧ va_K D cx_Cl (cx_ty cI cZ) t ∧ va_D (va_A (wd σ) sz) (wd σ')
/-- the contract of a method with an int answer: from the world σ it comes to an answer and a world with post, the cells being the same ones -/
def cx_Ki (l : Launch) (y : MethodName) (b : ByteArray) (nL : Nat) (ret : Option FieldType) (rm : Room) (D : va_G) (cI cZ : ClassId) {T : Type} (wd : T → va_W) (av : List Value) (σ : T) (post : Int32 → T → Prop) : Prop :=
  ∀ sz, Met l y (ws_ y b nL ret) rm (cx_Pr D cI cZ wd av σ sz) (va_Qi post (cx_Bo D cI cZ wd σ sz) (va_A (wd σ) sz)) 0 0 (va_A (wd σ) sz)
def cx_Kv (l : Launch) (y : MethodName) (b : ByteArray) (nL : Nat) (rm : Room) (D : va_G) (cI cZ : ClassId) {T : Type} (wd : T → va_W) (av : List Value) (σ : T) (post : T → Prop) : Prop :=
  ∀ sz, Met l y (ws_ y b nL none) rm (cx_Pr D cI cZ wd av σ sz) (va_Qv post (cx_Bo D cI cZ wd σ sz) (va_A (wd σ) sz)) 0 0 (va_A (wd σ) sz)
theorem cx_ent {l : Launch} {y : MethodName} {b : ByteArray} {nL : Nat} {ret : Option FieldType} {rm : Room} {D : va_G} {cI cZ : ClassId} {T : Type} {wd : T → va_W} {av : List Value} {σ : T} {post : Int32 → T → Prop} (hy : plainName y.cls = true) {rt : FieldType} (hret : ret = some rt) (hn : ∀ v σ', post v σ' → narrow rt (.int v) = .int v) (hlen : (lg_sl av).length ≤ nL)
    (body : ∀ (p : Program) (e : Env) (s : State) (m : MethodId) (args : Array Value) (below : List Frame) (meth : Method) (c : Code) (ls : Array Slot) (Q : State → Prop) (A : Nat → Prop),
      CallFix p m c b nL s args lw_all y.cls → va_K D cx_Cl (cx_ty cI cZ) s → cx_H D cx_Cl (wd σ) A s.heap s.heap [] → (∀ q, s.heap.size ≤ q → A q) → lv_has ls nL (lv_args 0 av) →
      (∀ (v : Int32) (σ' : T) (H : Heap) (locs : List Loc) (pc : Nat) (ls : Array Slot), decode b pc = .ok (.ireturn, 1) → cx_H D cx_Cl (wd σ') A s.heap H locs → post v σ' → W p l e rm s m args below meth c H locs 0 0 Q (F0 m pc ls [.int v])) →
      W p l e rm s m args below meth c s.heap [] 0 0 Q (F0 m 0 ls [])) : cx_Ki l y b nL ret rm D cI cZ wd av σ post := by
  intro sz
  refine Met.ofW (cc := b) (maxL := nL) (ret := ret) hy rfl ?_
  intro p e s m args below meth c s₁ B hml hv
  obtain ⟨rfl, hsz, hP, hK, hD0⟩ := hv
  have hx := B.exec
  have hb := B.bytes
  have hr := B.returns
  have hts := atoms_spec (ws := ws_ y b nL ret) B.pre
  have hts : ∀ w ∈ lw_all, w.before _ s = true := fun w h => hts w (List.mem_cons_of_mem _ h)
  have hown : s.vm.findClass y.cls = some m.cls := findClass_of_methodNamed B.named
  have hlocks := B.notSynchronized
  subst hsz
  have hD := hD0.self (sz := s.heap.size)
  have hl := lv_entry av (n := nL) hlen
  rw [lg_entry_eq]
  refine body p e s m _ below meth c _ _ (va_A (wd σ) s.heap.size) ⟨hx, hb, hml, hown, hts⟩ hK ⟨hP, hD, va_S.rf⟩ (fun q h => Or.inr h) hl ?_
  intro v σ' H locs pc ls hd hw hpost
  exact W.zret (v := v) hx hb (hr.trans hret) (hn v σ' hpost) (fun t ht hW => ⟨⟨v, σ', rfl, hpost, by rw [ht]; exact hw.1, va_K.moved hW.alike hK, hw.2.1⟩, hw.2.2.F ht⟩) hw.2.2.2.2 hd
theorem cx_entv {l : Launch} {y : MethodName} {b : ByteArray} {nL : Nat} {rm : Room} {D : va_G} {cI cZ : ClassId} {T : Type} {wd : T → va_W} {av : List Value} {σ : T} {post : T → Prop} (hy : plainName y.cls = true) (hlen : (lg_sl av).length ≤ nL)
    (body : ∀ (p : Program) (e : Env) (s : State) (m : MethodId) (args : Array Value) (below : List Frame) (meth : Method) (c : Code) (ls : Array Slot) (Q : State → Prop) (A : Nat → Prop),
      CallFix p m c b nL s args lw_all y.cls → va_K D cx_Cl (cx_ty cI cZ) s → cx_H D cx_Cl (wd σ) A s.heap s.heap [] → (∀ q, s.heap.size ≤ q → A q) → lv_has ls nL (lv_args 0 av) →
      (∀ (σ' : T) (H : Heap) (locs : List Loc) (pc : Nat) (ls : Array Slot), decode b pc = .ok (.return_, 1) → cx_H D cx_Cl (wd σ') A s.heap H locs → post σ' → W p l e rm s m args below meth c H locs 0 0 Q (F0 m pc ls [])) →
      W p l e rm s m args below meth c s.heap [] 0 0 Q (F0 m 0 ls [])) : cx_Kv l y b nL rm D cI cZ wd av σ post := by
  intro sz
  refine Met.ofW (cc := b) (maxL := nL) (ret := none) hy rfl ?_
  intro p e s m args below meth c s₁ B hml hv
  obtain ⟨rfl, hsz, hP, hK, hD0⟩ := hv
  have hx := B.exec
  have hb := B.bytes
  have hr := B.returns
  have hts := atoms_spec (ws := ws_ y b nL none) B.pre
  have hts : ∀ w ∈ lw_all, w.before _ s = true := fun w h => hts w (List.mem_cons_of_mem _ h)
  have hown : s.vm.findClass y.cls = some m.cls := findClass_of_methodNamed B.named
  have hlocks := B.notSynchronized
  subst hsz
  have hD := hD0.self (sz := s.heap.size)
  have hl := lv_entry av (n := nL) hlen
  rw [lg_entry_eq]
  refine body p e s m _ below meth c _ _ (va_A (wd σ) s.heap.size) ⟨hx, hb, hml, hown, hts⟩ hK ⟨hP, hD, va_S.rf⟩ (fun q h => Or.inr h) hl ?_
  intro σ' H locs pc ls hd hw hpost
  exact W.vret hx hb hr (fun t ht hW => ⟨⟨σ', rfl, hpost, by rw [ht]; exact hw.1, va_K.moved hW.alike hK, hw.2.1⟩, hw.2.2.F ht⟩) hw.2.2.2.2 hd
section CALLS
variable {p : Program} {l : Launch} {e : Env} {R : Room} {s : State} {m : MethodId} {args : Array Value} {below : List Frame} {meth : Method} {c : Code} {H : Heap} {locs : List Loc} {cells slots : Nat} {Q : State → Prop}
variable {cc : ByteArray} {pc : Nat} {ls : Array Slot} {rest st : List Value} {D : va_G} {A : Nat → Prop} {H0 : Heap} {nL : Nat} {own : String}
variable {y : MethodName} {b : ByteArray} {nL' : Nat} {ret : Option FieldType} {rm : Room} {cI cZ : ClassId} {T : Type} {wd : T → va_W} {As : List Value} {σ : T} {o ci n idx : Nat} {fs : List Value} {q : vw_C}
theorem cx_fre {ws : va_W} {cl : List vw_C} (hw : cx_H D cl ws A H0 H locs) (hA : ∀ q, H0.size ≤ q → A q) : ∀ q, va_A ws H.size q → A q := by
  intro q h
  rcases h with ⟨k, z, h⟩ | h
  · exact hw.2.1.2 k (q, z) h
  · exact hA q (Nat.le_trans hw.2.2.1 h)
theorem cx_cali {post : Int32 → T → Prop} (S : CallFix p m c cc nL s args lw_all own) (hM : cx_Ki l y b nL' ret rm D cI cZ wd (.ref o :: As) σ post) (cw : CallW R s args own y.cls idx y b nL' ret (ws_ y b nL' ret) rm 0 0 n) (hK : va_K D cx_Cl (cx_ty cI cZ) s) (hw : cx_H D cx_Cl (wd σ) A H0 H locs) (hA : ∀ q, H0.size ≤ q → A q) (hrecv : (wd σ)[0]? = some (o, .inr (ci, fs))) (hc : cx_Cl[ci]? = some q) (hq : q.1 = y.cls) (hn : As.length = n) (hls : ls.size = nL) (hst : st = As.reverse ++ .ref o :: rest) (hroom : (rest.map fun v => v.category).sum ≤ 8) (hdg : decode cc pc = .ok (.invokevirtual idx, 3)) (hcs : cells ≤ R.cells ∧ slots ≤ R.slots)
    (kk : ∀ (r : Int32) (σ' : T) (H1 : Heap) (locs1 : List Loc), post r σ' → cx_H D cx_Cl (wd σ') A H0 H1 locs1 → W p l e R s m args below meth c H1 locs1 cells slots Q (F0 m (pc + 3) ls (.int r :: rest))) : W p l e R s m args below meth c H locs cells slots Q (F0 m pc ls st) := by
  subst hst
  have hFc := cx_fre hw hA
  refine va_calli (va_runV (As := As) (rest := rest) S (hM H.size) cw ⟨fun a U g mk q => by obtain ⟨q0, q1, qP, qK, qD⟩ := q; exact ⟨q0, q1, qP, va_K.moved (u := U) (U := U.calling g mk a) (Vm.Alike.refl U.vm) qK, qD⟩, hq ▸ va_recv hK hw.1 (ci := ci) (q0 := 0) hc hrecv, fun U hU hW => ⟨rfl, by rw [hU], by rw [hU]; exact hw.1, va_K.moved hW.alike hK, hw.2.1.weaken (fun _ _ _ _ => trivial)⟩⟩ rfl hn hls rfl (lv_room hroom) hdg hcs) hw.2.2 (fun q _ h => hFc q h) hFc (fun r u t H1 locs1 ht hvm hp hB hz1 hk1 hS => ?_)
  exact kk r u H1 locs1 hp ⟨by rw [← ht]; exact hB.1, hB.2.2.weaken (fun k q _ h => hFc q.1 h), hS⟩
theorem cx_calv {post : T → Prop} (S : CallFix p m c cc nL s args lw_all own) (hM : cx_Kv l y b nL' rm D cI cZ wd (.ref o :: As) σ post) (cw : CallW R s args own y.cls idx y b nL' none (ws_ y b nL' none) rm 0 0 n) (hK : va_K D cx_Cl (cx_ty cI cZ) s) (hw : cx_H D cx_Cl (wd σ) A H0 H locs) (hA : ∀ q, H0.size ≤ q → A q) (hrecv : (wd σ)[0]? = some (o, .inr (ci, fs))) (hc : cx_Cl[ci]? = some q) (hq : q.1 = y.cls) (hn : As.length = n) (hls : ls.size = nL) (hst : st = As.reverse ++ .ref o :: rest) (hroom : (rest.map fun v => v.category).sum ≤ 8) (hdg : decode cc pc = .ok (.invokevirtual idx, 3)) (hcs : cells ≤ R.cells ∧ slots ≤ R.slots)
    (kk : ∀ (σ' : T) (H1 : Heap) (locs1 : List Loc), post σ' → cx_H D cx_Cl (wd σ') A H0 H1 locs1 → W p l e R s m args below meth c H1 locs1 cells slots Q (F0 m (pc + 3) ls rest)) : W p l e R s m args below meth c H locs cells slots Q (F0 m pc ls st) := by
  subst hst
  have hFc := cx_fre hw hA
  refine va_callv (va_runV (As := As) (rest := rest) S (hM H.size) cw ⟨fun a U g mk q => by obtain ⟨q0, q1, qP, qK, qD⟩ := q; exact ⟨q0, q1, qP, va_K.moved (u := U) (U := U.calling g mk a) (Vm.Alike.refl U.vm) qK, qD⟩, hq ▸ va_recv hK hw.1 (ci := ci) (q0 := 0) hc hrecv, fun U hU hW => ⟨rfl, by rw [hU], by rw [hU]; exact hw.1, va_K.moved hW.alike hK, hw.2.1.weaken (fun _ _ _ _ => trivial)⟩⟩ rfl hn hls rfl (lv_room hroom) hdg hcs) hw.2.2 (fun q _ h => hFc q h) hFc (fun u t H1 locs1 ht hvm hp hB hz1 hk1 hS => ?_)
  exact kk u H1 locs1 hp ⟨by rw [← ht]; exact hB.1, hB.2.2.weaken (fun k q _ h => hFc q.1 h), hS⟩
/-- a static method's call, with no object: its world is the caller's -/
theorem cx_cals {post : Int32 → T → Prop} (S : CallFix p m c cc nL s args lw_all own) (hM : cx_Ki l y b nL' ret rm D cI cZ wd As σ post) (cw : CallB R s args own idx y b nL' ret (ws_ y b nL' ret) rm 0 0 n ∧ (Cond.static y).before args s = true) (hK : va_K D cx_Cl (cx_ty cI cZ) s) (hw : cx_H D cx_Cl (wd σ) A H0 H locs) (hA : ∀ q, H0.size ≤ q → A q) (hn : As.length = n) (hls : ls.size = nL) (hst : st = As.reverse ++ rest) (hroom : (rest.map fun v => v.category).sum ≤ 8) (hdg : decode cc pc = .ok (.invokestatic idx, 3)) (hcs : cells ≤ R.cells ∧ slots ≤ R.slots)
    (kk : ∀ (r : Int32) (σ' : T) (H1 : Heap) (locs1 : List Loc), post r σ' → cx_H D cx_Cl (wd σ') A H0 H1 locs1 → W p l e R s m args below meth c H1 locs1 cells slots Q (F0 m (pc + 3) ls (.int r :: rest))) : W p l e R s m args below meth c H locs cells slots Q (F0 m pc ls st) := by
  subst hst
  have hFc := cx_fre hw hA
  refine va_calli (va_runS (As := As) (rest := rest) S (hM H.size) cw ⟨fun a U g mk q => by obtain ⟨q0, q1, qP, qK, qD⟩ := q; exact ⟨q0, q1, qP, va_K.moved (u := U) (U := U.calling g mk a) (Vm.Alike.refl U.vm) qK, qD⟩, fun U hU hW => ⟨rfl, by rw [hU], by rw [hU]; exact hw.1, va_K.moved hW.alike hK, hw.2.1.weaken (fun _ _ _ _ => trivial)⟩⟩ rfl hn hls rfl (lv_room hroom) hdg hcs) hw.2.2 (fun q _ h => hFc q h) hFc (fun r u t H1 locs1 ht hvm hp hB hz1 hk1 hS => ?_)
  exact kk r u H1 locs1 hp ⟨by rw [← ht]; exact hB.1, hB.2.2.weaken (fun k q _ h => hFc q.1 h), hS⟩
end CALLS
end
section
/-! THE CELLS of the two objects, and a row for each of their fields and arrays (printed by gen/world.py). -/
abbrev cx_T0 : Type := Nat × (Nat → Nat) × (Nat → Nat) × (Nat → Bool) × (Nat → Nat) × (Nat → Nat) × (Nat → Nat)
def cx_w0 (cI cZ : ClassId) (ad : Nat → Nat) (σ : cx_T0) : va_W := [(ad 0, .inr (0, [.int (nI σ.1), .ref (ad 1), .ref (ad 2), .ref (ad 3), .ref (ad 4), .ref (ad 5), .ref (ad 6)])), (ad 1, .inl (cI, 8, .inl (cx_nA σ.2.1))), (ad 2, .inl (cI, 8, .inl (cx_nA σ.2.2.1))), (ad 3, .inl (cZ, 8, .inl (cx_bA σ.2.2.2.1))), (ad 4, .inl (cI, 8, .inl (cx_sA σ.2.2.2.2.1))), (ad 5, .inl (cI, 8, .inl (cx_nA σ.2.2.2.2.2.1))), (ad 6, .inl (cI, 8, .inl (cx_nA σ.2.2.2.2.2.2)))]
abbrev cx_T1 : Type := Nat × (Nat → Nat) × (Nat → Nat) × (Nat → Bool) × (Nat → Nat) × (Nat → Nat) × (Nat → Bool) × (Nat → Nat)
def cx_w1 (cI cZ : ClassId) (ad : Nat → Nat) (σ : cx_T1) : va_W := [(ad 0, .inr (1, [.int (nI σ.1), .ref (ad 1), .ref (ad 2), .ref (ad 3), .ref (ad 4), .ref (ad 5), .ref (ad 6), .ref (ad 7)])), (ad 1, .inl (cI, 8, .inl (cx_nA σ.2.1))), (ad 2, .inl (cI, 8, .inl (cx_nA σ.2.2.1))), (ad 3, .inl (cZ, 8, .inl (cx_bA σ.2.2.2.1))), (ad 4, .inl (cI, 8, .inl (cx_sA σ.2.2.2.2.1))), (ad 5, .inl (cI, 8, .inl (cx_nA σ.2.2.2.2.2.1))), (ad 6, .inl (cZ, 10368, .inl (cx_bA σ.2.2.2.2.2.2.1))), (ad 7, .inl (cI, 8, .inl (cx_nA σ.2.2.2.2.2.2.2)))]
section WORLD0
variable {p : Program} {l : Launch} {e : Env} {R : Room} {s : State} {m : MethodId} {args : Array Value} {below : List Frame} {meth : Method} {c : Code} {H : Heap} {locs : List Loc} {cells slots : Nat} {Q : State → Prop}
variable {cc : ByteArray} {pc : Nat} {ls : Array Slot} {rest : List Value} {D : va_G} {A : Nat → Prop} {H0 : Heap} {nL : Nat} {cI cZ : ClassId} {ad : Nat → Nat}
variable {n : Nat} {us : Nat → Nat} {cs : Nat → Nat} {wr : Nat → Bool} {so : Nat → Nat} {ea : Nat → Nat} {mu : Nat → Nat}
theorem cx0_gn (S : CallFix p m c cc nL s args lw_all RX0) (hK : va_K D cx_Cl (cx_ty cI cZ) s) (hw : cx_H D cx_Cl (cx_w0 cI cZ ad (n, us, cs, wr, so, ea, mu)) A H0 H locs) (hdg : decode cc pc = .ok (.getfield 29, 3)) (k : W p l e R s m args below meth c H locs cells slots Q (F0 m (pc + 3) ls (.int (nI n) :: rest))) : W p l e R s m args below meth c H locs cells slots Q (F0 m pc ls (.ref (ad 0) :: rest)) :=
  va_get (D := D) (ci := 0) (v := .int (nI n)) (C := RX0) (T := TX0) (N := 7) S.1 S.2.1 S.2.2.2.2 in_X0 S.2.2.2.1 hK hw.1 0 rfl rfl 0 (by decide) (S.2.2.2.2 _ q30) (fun _ h9 => h9) rfl hdg k
theorem cx0_pn (S : CallFix p m c cc nL s args lw_all RX0) (hK : va_K D cx_Cl (cx_ty cI cZ) s) (hw : cx_H D cx_Cl (cx_w0 cI cZ ad (n, us, cs, wr, so, ea, mu)) A H0 H locs) {v : Nat} (hdg : decode cc pc = .ok (.putfield 29, 3)) (k : ∀ (H1 : Heap) (locs1 : List Loc), cx_H D cx_Cl (cx_w0 cI cZ ad (v, us, cs, wr, so, ea, mu)) A H0 H1 locs1 → W p l e R s m args below meth c H1 locs1 cells slots Q (F0 m (pc + 3) ls rest)) : W p l e R s m args below meth c H locs cells slots Q (F0 m pc ls (.int (nI v) :: .ref (ad 0) :: rest)) :=
  va_put (D := D) (ci := 0) (v := .int (nI v)) (ty := .int) (C := RX0) (T := TX0) (N := 7) S.1 S.2.1 S.2.2.2.2 in_X0 tyX0 tyX0_ok nmX0 S.2.2.2.1 hK hw.1 hw.2.1 hw.2.2 0 rfl rfl 0 (by decide) (S.2.2.2.2 _ q30) (fun _ h9 => h9) rfl (by decide +kernel) rfl rfl (Nat.le_of_ble_eq_true rfl) hdg (fun H1 locs1 h1 h2 h3 => k H1 locs1 ⟨h1, h2, h3⟩)
theorem cx0_gU (S : CallFix p m c cc nL s args lw_all RX0) (hK : va_K D cx_Cl (cx_ty cI cZ) s) (hw : cx_H D cx_Cl (cx_w0 cI cZ ad (n, us, cs, wr, so, ea, mu)) A H0 H locs) (hdg : decode cc pc = .ok (.getfield 7, 3)) (k : W p l e R s m args below meth c H locs cells slots Q (F0 m (pc + 3) ls (.ref (ad 1) :: rest))) : W p l e R s m args below meth c H locs cells slots Q (F0 m pc ls (.ref (ad 0) :: rest)) :=
  va_get (D := D) (ci := 0) (v := .ref (ad 1)) (C := RX0) (T := TX0) (N := 7) S.1 S.2.1 S.2.2.2.2 in_X0 S.2.2.2.1 hK hw.1 0 rfl rfl 1 (by decide) (S.2.2.2.2 _ q31) (fun _ h9 => h9) rfl hdg k
theorem cx0_aU (S : CallFix p m c cc nL s args lw_all RX0) (hK : va_K D cx_Cl (cx_ty cI cZ) s) (hw : cx_H D cx_Cl (cx_w0 cI cZ ad (n, us, cs, wr, so, ea, mu)) A H0 H locs) {i : Nat} (hi : i < 8) (hdg : decode cc pc = .ok (.iaload, 1)) (k : W p l e R s m args below meth c H locs cells slots Q (F0 m (pc + 1) ls (.int (nI (us i)) :: rest))) : W p l e R s m args below meth c H locs cells slots Q (F0 m pc ls (.int (nI i) :: .ref (ad 1) :: rest)) :=
  cx_ald S.1 S.2.1 hK hw.1 1 0 rfl rfl hi (by decide) hdg k
theorem cx0_sU (S : CallFix p m c cc nL s args lw_all RX0) (hK : va_K D cx_Cl (cx_ty cI cZ) s) (hw : cx_H D cx_Cl (cx_w0 cI cZ ad (n, us, cs, wr, so, ea, mu)) A H0 H locs) {i : Nat} {x : Nat} (hi : i < 8) (hdg : decode cc pc = .ok (.iastore, 1)) (k : ∀ (H1 : Heap) (locs1 : List Loc), cx_H D cx_Cl (cx_w0 cI cZ ad (n, va_up us i x, cs, wr, so, ea, mu)) A H0 H1 locs1 → W p l e R s m args below meth c H1 locs1 cells slots Q (F0 m (pc + 1) ls rest)) : W p l e R s m args below meth c H locs cells slots Q (F0 m pc ls (.int (nI x) :: .int (nI i) :: .ref (ad 1) :: rest)) :=
  cx_ast S.1 S.2.1 hK hw 1 0 rfl rfl hi (by decide) hdg (fun H1 locs1 h => k H1 locs1 h)
theorem cx0_gC (S : CallFix p m c cc nL s args lw_all RX0) (hK : va_K D cx_Cl (cx_ty cI cZ) s) (hw : cx_H D cx_Cl (cx_w0 cI cZ ad (n, us, cs, wr, so, ea, mu)) A H0 H locs) (hdg : decode cc pc = .ok (.getfield 13, 3)) (k : W p l e R s m args below meth c H locs cells slots Q (F0 m (pc + 3) ls (.ref (ad 2) :: rest))) : W p l e R s m args below meth c H locs cells slots Q (F0 m pc ls (.ref (ad 0) :: rest)) :=
  va_get (D := D) (ci := 0) (v := .ref (ad 2)) (C := RX0) (T := TX0) (N := 7) S.1 S.2.1 S.2.2.2.2 in_X0 S.2.2.2.1 hK hw.1 0 rfl rfl 2 (by decide) (S.2.2.2.2 _ q32) (fun _ h9 => h9) rfl hdg k
theorem cx0_aC (S : CallFix p m c cc nL s args lw_all RX0) (hK : va_K D cx_Cl (cx_ty cI cZ) s) (hw : cx_H D cx_Cl (cx_w0 cI cZ ad (n, us, cs, wr, so, ea, mu)) A H0 H locs) {i : Nat} (hi : i < 8) (hdg : decode cc pc = .ok (.iaload, 1)) (k : W p l e R s m args below meth c H locs cells slots Q (F0 m (pc + 1) ls (.int (nI (cs i)) :: rest))) : W p l e R s m args below meth c H locs cells slots Q (F0 m pc ls (.int (nI i) :: .ref (ad 2) :: rest)) :=
  cx_ald S.1 S.2.1 hK hw.1 2 0 rfl rfl hi (by decide) hdg k
theorem cx0_sC (S : CallFix p m c cc nL s args lw_all RX0) (hK : va_K D cx_Cl (cx_ty cI cZ) s) (hw : cx_H D cx_Cl (cx_w0 cI cZ ad (n, us, cs, wr, so, ea, mu)) A H0 H locs) {i : Nat} {x : Nat} (hi : i < 8) (hdg : decode cc pc = .ok (.iastore, 1)) (k : ∀ (H1 : Heap) (locs1 : List Loc), cx_H D cx_Cl (cx_w0 cI cZ ad (n, us, va_up cs i x, wr, so, ea, mu)) A H0 H1 locs1 → W p l e R s m args below meth c H1 locs1 cells slots Q (F0 m (pc + 1) ls rest)) : W p l e R s m args below meth c H locs cells slots Q (F0 m pc ls (.int (nI x) :: .int (nI i) :: .ref (ad 2) :: rest)) :=
  cx_ast S.1 S.2.1 hK hw 2 0 rfl rfl hi (by decide) hdg (fun H1 locs1 h => k H1 locs1 h)
theorem cx0_gW (S : CallFix p m c cc nL s args lw_all RX0) (hK : va_K D cx_Cl (cx_ty cI cZ) s) (hw : cx_H D cx_Cl (cx_w0 cI cZ ad (n, us, cs, wr, so, ea, mu)) A H0 H locs) (hdg : decode cc pc = .ok (.getfield 16, 3)) (k : W p l e R s m args below meth c H locs cells slots Q (F0 m (pc + 3) ls (.ref (ad 3) :: rest))) : W p l e R s m args below meth c H locs cells slots Q (F0 m pc ls (.ref (ad 0) :: rest)) :=
  va_get (D := D) (ci := 0) (v := .ref (ad 3)) (C := RX0) (T := TX0) (N := 7) S.1 S.2.1 S.2.2.2.2 in_X0 S.2.2.2.1 hK hw.1 0 rfl rfl 3 (by decide) (S.2.2.2.2 _ q33) (fun _ h9 => h9) rfl hdg k
theorem cx0_aW (S : CallFix p m c cc nL s args lw_all RX0) (hK : va_K D cx_Cl (cx_ty cI cZ) s) (hw : cx_H D cx_Cl (cx_w0 cI cZ ad (n, us, cs, wr, so, ea, mu)) A H0 H locs) {i : Nat} (hi : i < 8) (hdg : decode cc pc = .ok (.baload, 1)) (k : W p l e R s m args below meth c H locs cells slots Q (F0 m (pc + 1) ls (.int (cx_bI (wr i)) :: rest))) : W p l e R s m args below meth c H locs cells slots Q (F0 m pc ls (.int (nI i) :: .ref (ad 3) :: rest)) :=
  cx_aldB S.1 S.2.1 hK hw.1 3 1 rfl rfl hi (by decide) hdg k
theorem cx0_sW (S : CallFix p m c cc nL s args lw_all RX0) (hK : va_K D cx_Cl (cx_ty cI cZ) s) (hw : cx_H D cx_Cl (cx_w0 cI cZ ad (n, us, cs, wr, so, ea, mu)) A H0 H locs) {i : Nat} {x : Bool} (hi : i < 8) (hdg : decode cc pc = .ok (.bastore, 1)) (k : ∀ (H1 : Heap) (locs1 : List Loc), cx_H D cx_Cl (cx_w0 cI cZ ad (n, us, cs, va_up wr i x, so, ea, mu)) A H0 H1 locs1 → W p l e R s m args below meth c H1 locs1 cells slots Q (F0 m (pc + 1) ls rest)) : W p l e R s m args below meth c H locs cells slots Q (F0 m pc ls (.int (cx_bI x) :: .int (nI i) :: .ref (ad 3) :: rest)) :=
  cx_astB S.1 S.2.1 hK hw 3 1 rfl rfl hi (by decide) hdg (fun H1 locs1 h => k H1 locs1 h)
theorem cx0_gS (S : CallFix p m c cc nL s args lw_all RX0) (hK : va_K D cx_Cl (cx_ty cI cZ) s) (hw : cx_H D cx_Cl (cx_w0 cI cZ ad (n, us, cs, wr, so, ea, mu)) A H0 H locs) (hdg : decode cc pc = .ok (.getfield 20, 3)) (k : W p l e R s m args below meth c H locs cells slots Q (F0 m (pc + 3) ls (.ref (ad 4) :: rest))) : W p l e R s m args below meth c H locs cells slots Q (F0 m pc ls (.ref (ad 0) :: rest)) :=
  va_get (D := D) (ci := 0) (v := .ref (ad 4)) (C := RX0) (T := TX0) (N := 7) S.1 S.2.1 S.2.2.2.2 in_X0 S.2.2.2.1 hK hw.1 0 rfl rfl 4 (by decide) (S.2.2.2.2 _ q34) (fun _ h9 => h9) rfl hdg k
theorem cx0_aS (S : CallFix p m c cc nL s args lw_all RX0) (hK : va_K D cx_Cl (cx_ty cI cZ) s) (hw : cx_H D cx_Cl (cx_w0 cI cZ ad (n, us, cs, wr, so, ea, mu)) A H0 H locs) {i : Nat} (hi : i < 8) (hdg : decode cc pc = .ok (.iaload, 1)) (k : W p l e R s m args below meth c H locs cells slots Q (F0 m (pc + 1) ls (.int (cx_sI (so i)) :: rest))) : W p l e R s m args below meth c H locs cells slots Q (F0 m pc ls (.int (nI i) :: .ref (ad 4) :: rest)) :=
  cx_aldS S.1 S.2.1 hK hw.1 4 0 rfl rfl hi (by decide) hdg k
theorem cx0_sS (S : CallFix p m c cc nL s args lw_all RX0) (hK : va_K D cx_Cl (cx_ty cI cZ) s) (hw : cx_H D cx_Cl (cx_w0 cI cZ ad (n, us, cs, wr, so, ea, mu)) A H0 H locs) {i : Nat} {x : Nat} (hi : i < 8) (hdg : decode cc pc = .ok (.iastore, 1)) (k : ∀ (H1 : Heap) (locs1 : List Loc), cx_H D cx_Cl (cx_w0 cI cZ ad (n, us, cs, wr, va_up so i x, ea, mu)) A H0 H1 locs1 → W p l e R s m args below meth c H1 locs1 cells slots Q (F0 m (pc + 1) ls rest)) : W p l e R s m args below meth c H locs cells slots Q (F0 m pc ls (.int (cx_sI x) :: .int (nI i) :: .ref (ad 4) :: rest)) :=
  cx_astS S.1 S.2.1 hK hw 4 0 rfl rfl hi (by decide) hdg (fun H1 locs1 h => k H1 locs1 h)
theorem cx0_gE (S : CallFix p m c cc nL s args lw_all RX0) (hK : va_K D cx_Cl (cx_ty cI cZ) s) (hw : cx_H D cx_Cl (cx_w0 cI cZ ad (n, us, cs, wr, so, ea, mu)) A H0 H locs) (hdg : decode cc pc = .ok (.getfield 23, 3)) (k : W p l e R s m args below meth c H locs cells slots Q (F0 m (pc + 3) ls (.ref (ad 5) :: rest))) : W p l e R s m args below meth c H locs cells slots Q (F0 m pc ls (.ref (ad 0) :: rest)) :=
  va_get (D := D) (ci := 0) (v := .ref (ad 5)) (C := RX0) (T := TX0) (N := 7) S.1 S.2.1 S.2.2.2.2 in_X0 S.2.2.2.1 hK hw.1 0 rfl rfl 5 (by decide) (S.2.2.2.2 _ q35) (fun _ h9 => h9) rfl hdg k
theorem cx0_aE (S : CallFix p m c cc nL s args lw_all RX0) (hK : va_K D cx_Cl (cx_ty cI cZ) s) (hw : cx_H D cx_Cl (cx_w0 cI cZ ad (n, us, cs, wr, so, ea, mu)) A H0 H locs) {i : Nat} (hi : i < 8) (hdg : decode cc pc = .ok (.iaload, 1)) (k : W p l e R s m args below meth c H locs cells slots Q (F0 m (pc + 1) ls (.int (nI (ea i)) :: rest))) : W p l e R s m args below meth c H locs cells slots Q (F0 m pc ls (.int (nI i) :: .ref (ad 5) :: rest)) :=
  cx_ald S.1 S.2.1 hK hw.1 5 0 rfl rfl hi (by decide) hdg k
theorem cx0_sE (S : CallFix p m c cc nL s args lw_all RX0) (hK : va_K D cx_Cl (cx_ty cI cZ) s) (hw : cx_H D cx_Cl (cx_w0 cI cZ ad (n, us, cs, wr, so, ea, mu)) A H0 H locs) {i : Nat} {x : Nat} (hi : i < 8) (hdg : decode cc pc = .ok (.iastore, 1)) (k : ∀ (H1 : Heap) (locs1 : List Loc), cx_H D cx_Cl (cx_w0 cI cZ ad (n, us, cs, wr, so, va_up ea i x, mu)) A H0 H1 locs1 → W p l e R s m args below meth c H1 locs1 cells slots Q (F0 m (pc + 1) ls rest)) : W p l e R s m args below meth c H locs cells slots Q (F0 m pc ls (.int (nI x) :: .int (nI i) :: .ref (ad 5) :: rest)) :=
  cx_ast S.1 S.2.1 hK hw 5 0 rfl rfl hi (by decide) hdg (fun H1 locs1 h => k H1 locs1 h)
theorem cx0_gM (S : CallFix p m c cc nL s args lw_all RX0) (hK : va_K D cx_Cl (cx_ty cI cZ) s) (hw : cx_H D cx_Cl (cx_w0 cI cZ ad (n, us, cs, wr, so, ea, mu)) A H0 H locs) (hdg : decode cc pc = .ok (.getfield 26, 3)) (k : W p l e R s m args below meth c H locs cells slots Q (F0 m (pc + 3) ls (.ref (ad 6) :: rest))) : W p l e R s m args below meth c H locs cells slots Q (F0 m pc ls (.ref (ad 0) :: rest)) :=
  va_get (D := D) (ci := 0) (v := .ref (ad 6)) (C := RX0) (T := TX0) (N := 7) S.1 S.2.1 S.2.2.2.2 in_X0 S.2.2.2.1 hK hw.1 0 rfl rfl 6 (by decide) (S.2.2.2.2 _ q36) (fun _ h9 => h9) rfl hdg k
theorem cx0_aM (S : CallFix p m c cc nL s args lw_all RX0) (hK : va_K D cx_Cl (cx_ty cI cZ) s) (hw : cx_H D cx_Cl (cx_w0 cI cZ ad (n, us, cs, wr, so, ea, mu)) A H0 H locs) {i : Nat} (hi : i < 8) (hdg : decode cc pc = .ok (.iaload, 1)) (k : W p l e R s m args below meth c H locs cells slots Q (F0 m (pc + 1) ls (.int (nI (mu i)) :: rest))) : W p l e R s m args below meth c H locs cells slots Q (F0 m pc ls (.int (nI i) :: .ref (ad 6) :: rest)) :=
  cx_ald S.1 S.2.1 hK hw.1 6 0 rfl rfl hi (by decide) hdg k
theorem cx0_sM (S : CallFix p m c cc nL s args lw_all RX0) (hK : va_K D cx_Cl (cx_ty cI cZ) s) (hw : cx_H D cx_Cl (cx_w0 cI cZ ad (n, us, cs, wr, so, ea, mu)) A H0 H locs) {i : Nat} {x : Nat} (hi : i < 8) (hdg : decode cc pc = .ok (.iastore, 1)) (k : ∀ (H1 : Heap) (locs1 : List Loc), cx_H D cx_Cl (cx_w0 cI cZ ad (n, us, cs, wr, so, ea, va_up mu i x)) A H0 H1 locs1 → W p l e R s m args below meth c H1 locs1 cells slots Q (F0 m (pc + 1) ls rest)) : W p l e R s m args below meth c H locs cells slots Q (F0 m pc ls (.int (nI x) :: .int (nI i) :: .ref (ad 6) :: rest)) :=
  cx_ast S.1 S.2.1 hK hw 6 0 rfl rfl hi (by decide) hdg (fun H1 locs1 h => k H1 locs1 h)
end WORLD0
section WORLD1
variable {p : Program} {l : Launch} {e : Env} {R : Room} {s : State} {m : MethodId} {args : Array Value} {below : List Frame} {meth : Method} {c : Code} {H : Heap} {locs : List Loc} {cells slots : Nat} {Q : State → Prop}
variable {cc : ByteArray} {pc : Nat} {ls : Array Slot} {rest : List Value} {D : va_G} {A : Nat → Prop} {H0 : Heap} {nL : Nat} {cI cZ : ClassId} {ad : Nat → Nat}
variable {n : Nat} {us : Nat → Nat} {cs : Nat → Nat} {wr : Nat → Bool} {so : Nat → Nat} {ea : Nat → Nat} {rw : Nat → Bool} {od : Nat → Nat}
theorem cx1_gn (S : CallFix p m c cc nL s args lw_all RX1) (hK : va_K D cx_Cl (cx_ty cI cZ) s) (hw : cx_H D cx_Cl (cx_w1 cI cZ ad (n, us, cs, wr, so, ea, rw, od)) A H0 H locs) (hdg : decode cc pc = .ok (.getfield 32, 3)) (k : W p l e R s m args below meth c H locs cells slots Q (F0 m (pc + 3) ls (.int (nI n) :: rest))) : W p l e R s m args below meth c H locs cells slots Q (F0 m pc ls (.ref (ad 0) :: rest)) :=
  va_get (D := D) (ci := 1) (v := .int (nI n)) (C := RX1) (T := TX1) (N := 8) S.1 S.2.1 S.2.2.2.2 in_X1 S.2.2.2.1 hK hw.1 0 rfl rfl 0 (by decide) (S.2.2.2.2 _ q132) (fun _ h9 => h9) rfl hdg k
theorem cx1_pn (S : CallFix p m c cc nL s args lw_all RX1) (hK : va_K D cx_Cl (cx_ty cI cZ) s) (hw : cx_H D cx_Cl (cx_w1 cI cZ ad (n, us, cs, wr, so, ea, rw, od)) A H0 H locs) {v : Nat} (hdg : decode cc pc = .ok (.putfield 32, 3)) (k : ∀ (H1 : Heap) (locs1 : List Loc), cx_H D cx_Cl (cx_w1 cI cZ ad (v, us, cs, wr, so, ea, rw, od)) A H0 H1 locs1 → W p l e R s m args below meth c H1 locs1 cells slots Q (F0 m (pc + 3) ls rest)) : W p l e R s m args below meth c H locs cells slots Q (F0 m pc ls (.int (nI v) :: .ref (ad 0) :: rest)) :=
  va_put (D := D) (ci := 1) (v := .int (nI v)) (ty := .int) (C := RX1) (T := TX1) (N := 8) S.1 S.2.1 S.2.2.2.2 in_X1 tyX1 tyX1_ok nmX1 S.2.2.2.1 hK hw.1 hw.2.1 hw.2.2 0 rfl rfl 0 (by decide) (S.2.2.2.2 _ q132) (fun _ h9 => h9) rfl (by decide +kernel) rfl rfl (Nat.le_of_ble_eq_true rfl) hdg (fun H1 locs1 h1 h2 h3 => k H1 locs1 ⟨h1, h2, h3⟩)
theorem cx1_gU (S : CallFix p m c cc nL s args lw_all RX1) (hK : va_K D cx_Cl (cx_ty cI cZ) s) (hw : cx_H D cx_Cl (cx_w1 cI cZ ad (n, us, cs, wr, so, ea, rw, od)) A H0 H locs) (hdg : decode cc pc = .ok (.getfield 7, 3)) (k : W p l e R s m args below meth c H locs cells slots Q (F0 m (pc + 3) ls (.ref (ad 1) :: rest))) : W p l e R s m args below meth c H locs cells slots Q (F0 m pc ls (.ref (ad 0) :: rest)) :=
  va_get (D := D) (ci := 1) (v := .ref (ad 1)) (C := RX1) (T := TX1) (N := 8) S.1 S.2.1 S.2.2.2.2 in_X1 S.2.2.2.1 hK hw.1 0 rfl rfl 1 (by decide) (S.2.2.2.2 _ q133) (fun _ h9 => h9) rfl hdg k
theorem cx1_aU (S : CallFix p m c cc nL s args lw_all RX1) (hK : va_K D cx_Cl (cx_ty cI cZ) s) (hw : cx_H D cx_Cl (cx_w1 cI cZ ad (n, us, cs, wr, so, ea, rw, od)) A H0 H locs) {i : Nat} (hi : i < 8) (hdg : decode cc pc = .ok (.iaload, 1)) (k : W p l e R s m args below meth c H locs cells slots Q (F0 m (pc + 1) ls (.int (nI (us i)) :: rest))) : W p l e R s m args below meth c H locs cells slots Q (F0 m pc ls (.int (nI i) :: .ref (ad 1) :: rest)) :=
  cx_ald S.1 S.2.1 hK hw.1 1 0 rfl rfl hi (by decide) hdg k
theorem cx1_sU (S : CallFix p m c cc nL s args lw_all RX1) (hK : va_K D cx_Cl (cx_ty cI cZ) s) (hw : cx_H D cx_Cl (cx_w1 cI cZ ad (n, us, cs, wr, so, ea, rw, od)) A H0 H locs) {i : Nat} {x : Nat} (hi : i < 8) (hdg : decode cc pc = .ok (.iastore, 1)) (k : ∀ (H1 : Heap) (locs1 : List Loc), cx_H D cx_Cl (cx_w1 cI cZ ad (n, va_up us i x, cs, wr, so, ea, rw, od)) A H0 H1 locs1 → W p l e R s m args below meth c H1 locs1 cells slots Q (F0 m (pc + 1) ls rest)) : W p l e R s m args below meth c H locs cells slots Q (F0 m pc ls (.int (nI x) :: .int (nI i) :: .ref (ad 1) :: rest)) :=
  cx_ast S.1 S.2.1 hK hw 1 0 rfl rfl hi (by decide) hdg (fun H1 locs1 h => k H1 locs1 h)
theorem cx1_gC (S : CallFix p m c cc nL s args lw_all RX1) (hK : va_K D cx_Cl (cx_ty cI cZ) s) (hw : cx_H D cx_Cl (cx_w1 cI cZ ad (n, us, cs, wr, so, ea, rw, od)) A H0 H locs) (hdg : decode cc pc = .ok (.getfield 13, 3)) (k : W p l e R s m args below meth c H locs cells slots Q (F0 m (pc + 3) ls (.ref (ad 2) :: rest))) : W p l e R s m args below meth c H locs cells slots Q (F0 m pc ls (.ref (ad 0) :: rest)) :=
  va_get (D := D) (ci := 1) (v := .ref (ad 2)) (C := RX1) (T := TX1) (N := 8) S.1 S.2.1 S.2.2.2.2 in_X1 S.2.2.2.1 hK hw.1 0 rfl rfl 2 (by decide) (S.2.2.2.2 _ q134) (fun _ h9 => h9) rfl hdg k
theorem cx1_aC (S : CallFix p m c cc nL s args lw_all RX1) (hK : va_K D cx_Cl (cx_ty cI cZ) s) (hw : cx_H D cx_Cl (cx_w1 cI cZ ad (n, us, cs, wr, so, ea, rw, od)) A H0 H locs) {i : Nat} (hi : i < 8) (hdg : decode cc pc = .ok (.iaload, 1)) (k : W p l e R s m args below meth c H locs cells slots Q (F0 m (pc + 1) ls (.int (nI (cs i)) :: rest))) : W p l e R s m args below meth c H locs cells slots Q (F0 m pc ls (.int (nI i) :: .ref (ad 2) :: rest)) :=
  cx_ald S.1 S.2.1 hK hw.1 2 0 rfl rfl hi (by decide) hdg k
theorem cx1_sC (S : CallFix p m c cc nL s args lw_all RX1) (hK : va_K D cx_Cl (cx_ty cI cZ) s) (hw : cx_H D cx_Cl (cx_w1 cI cZ ad (n, us, cs, wr, so, ea, rw, od)) A H0 H locs) {i : Nat} {x : Nat} (hi : i < 8) (hdg : decode cc pc = .ok (.iastore, 1)) (k : ∀ (H1 : Heap) (locs1 : List Loc), cx_H D cx_Cl (cx_w1 cI cZ ad (n, us, va_up cs i x, wr, so, ea, rw, od)) A H0 H1 locs1 → W p l e R s m args below meth c H1 locs1 cells slots Q (F0 m (pc + 1) ls rest)) : W p l e R s m args below meth c H locs cells slots Q (F0 m pc ls (.int (nI x) :: .int (nI i) :: .ref (ad 2) :: rest)) :=
  cx_ast S.1 S.2.1 hK hw 2 0 rfl rfl hi (by decide) hdg (fun H1 locs1 h => k H1 locs1 h)
theorem cx1_gW (S : CallFix p m c cc nL s args lw_all RX1) (hK : va_K D cx_Cl (cx_ty cI cZ) s) (hw : cx_H D cx_Cl (cx_w1 cI cZ ad (n, us, cs, wr, so, ea, rw, od)) A H0 H locs) (hdg : decode cc pc = .ok (.getfield 16, 3)) (k : W p l e R s m args below meth c H locs cells slots Q (F0 m (pc + 3) ls (.ref (ad 3) :: rest))) : W p l e R s m args below meth c H locs cells slots Q (F0 m pc ls (.ref (ad 0) :: rest)) :=
  va_get (D := D) (ci := 1) (v := .ref (ad 3)) (C := RX1) (T := TX1) (N := 8) S.1 S.2.1 S.2.2.2.2 in_X1 S.2.2.2.1 hK hw.1 0 rfl rfl 3 (by decide) (S.2.2.2.2 _ q135) (fun _ h9 => h9) rfl hdg k
theorem cx1_aW (S : CallFix p m c cc nL s args lw_all RX1) (hK : va_K D cx_Cl (cx_ty cI cZ) s) (hw : cx_H D cx_Cl (cx_w1 cI cZ ad (n, us, cs, wr, so, ea, rw, od)) A H0 H locs) {i : Nat} (hi : i < 8) (hdg : decode cc pc = .ok (.baload, 1)) (k : W p l e R s m args below meth c H locs cells slots Q (F0 m (pc + 1) ls (.int (cx_bI (wr i)) :: rest))) : W p l e R s m args below meth c H locs cells slots Q (F0 m pc ls (.int (nI i) :: .ref (ad 3) :: rest)) :=
  cx_aldB S.1 S.2.1 hK hw.1 3 1 rfl rfl hi (by decide) hdg k
theorem cx1_sW (S : CallFix p m c cc nL s args lw_all RX1) (hK : va_K D cx_Cl (cx_ty cI cZ) s) (hw : cx_H D cx_Cl (cx_w1 cI cZ ad (n, us, cs, wr, so, ea, rw, od)) A H0 H locs) {i : Nat} {x : Bool} (hi : i < 8) (hdg : decode cc pc = .ok (.bastore, 1)) (k : ∀ (H1 : Heap) (locs1 : List Loc), cx_H D cx_Cl (cx_w1 cI cZ ad (n, us, cs, va_up wr i x, so, ea, rw, od)) A H0 H1 locs1 → W p l e R s m args below meth c H1 locs1 cells slots Q (F0 m (pc + 1) ls rest)) : W p l e R s m args below meth c H locs cells slots Q (F0 m pc ls (.int (cx_bI x) :: .int (nI i) :: .ref (ad 3) :: rest)) :=
  cx_astB S.1 S.2.1 hK hw 3 1 rfl rfl hi (by decide) hdg (fun H1 locs1 h => k H1 locs1 h)
theorem cx1_gS (S : CallFix p m c cc nL s args lw_all RX1) (hK : va_K D cx_Cl (cx_ty cI cZ) s) (hw : cx_H D cx_Cl (cx_w1 cI cZ ad (n, us, cs, wr, so, ea, rw, od)) A H0 H locs) (hdg : decode cc pc = .ok (.getfield 20, 3)) (k : W p l e R s m args below meth c H locs cells slots Q (F0 m (pc + 3) ls (.ref (ad 4) :: rest))) : W p l e R s m args below meth c H locs cells slots Q (F0 m pc ls (.ref (ad 0) :: rest)) :=
  va_get (D := D) (ci := 1) (v := .ref (ad 4)) (C := RX1) (T := TX1) (N := 8) S.1 S.2.1 S.2.2.2.2 in_X1 S.2.2.2.1 hK hw.1 0 rfl rfl 4 (by decide) (S.2.2.2.2 _ q136) (fun _ h9 => h9) rfl hdg k
theorem cx1_aS (S : CallFix p m c cc nL s args lw_all RX1) (hK : va_K D cx_Cl (cx_ty cI cZ) s) (hw : cx_H D cx_Cl (cx_w1 cI cZ ad (n, us, cs, wr, so, ea, rw, od)) A H0 H locs) {i : Nat} (hi : i < 8) (hdg : decode cc pc = .ok (.iaload, 1)) (k : W p l e R s m args below meth c H locs cells slots Q (F0 m (pc + 1) ls (.int (cx_sI (so i)) :: rest))) : W p l e R s m args below meth c H locs cells slots Q (F0 m pc ls (.int (nI i) :: .ref (ad 4) :: rest)) :=
  cx_aldS S.1 S.2.1 hK hw.1 4 0 rfl rfl hi (by decide) hdg k
theorem cx1_sS (S : CallFix p m c cc nL s args lw_all RX1) (hK : va_K D cx_Cl (cx_ty cI cZ) s) (hw : cx_H D cx_Cl (cx_w1 cI cZ ad (n, us, cs, wr, so, ea, rw, od)) A H0 H locs) {i : Nat} {x : Nat} (hi : i < 8) (hdg : decode cc pc = .ok (.iastore, 1)) (k : ∀ (H1 : Heap) (locs1 : List Loc), cx_H D cx_Cl (cx_w1 cI cZ ad (n, us, cs, wr, va_up so i x, ea, rw, od)) A H0 H1 locs1 → W p l e R s m args below meth c H1 locs1 cells slots Q (F0 m (pc + 1) ls rest)) : W p l e R s m args below meth c H locs cells slots Q (F0 m pc ls (.int (cx_sI x) :: .int (nI i) :: .ref (ad 4) :: rest)) :=
  cx_astS S.1 S.2.1 hK hw 4 0 rfl rfl hi (by decide) hdg (fun H1 locs1 h => k H1 locs1 h)
theorem cx1_gE (S : CallFix p m c cc nL s args lw_all RX1) (hK : va_K D cx_Cl (cx_ty cI cZ) s) (hw : cx_H D cx_Cl (cx_w1 cI cZ ad (n, us, cs, wr, so, ea, rw, od)) A H0 H locs) (hdg : decode cc pc = .ok (.getfield 23, 3)) (k : W p l e R s m args below meth c H locs cells slots Q (F0 m (pc + 3) ls (.ref (ad 5) :: rest))) : W p l e R s m args below meth c H locs cells slots Q (F0 m pc ls (.ref (ad 0) :: rest)) :=
  va_get (D := D) (ci := 1) (v := .ref (ad 5)) (C := RX1) (T := TX1) (N := 8) S.1 S.2.1 S.2.2.2.2 in_X1 S.2.2.2.1 hK hw.1 0 rfl rfl 5 (by decide) (S.2.2.2.2 _ q137) (fun _ h9 => h9) rfl hdg k
theorem cx1_aE (S : CallFix p m c cc nL s args lw_all RX1) (hK : va_K D cx_Cl (cx_ty cI cZ) s) (hw : cx_H D cx_Cl (cx_w1 cI cZ ad (n, us, cs, wr, so, ea, rw, od)) A H0 H locs) {i : Nat} (hi : i < 8) (hdg : decode cc pc = .ok (.iaload, 1)) (k : W p l e R s m args below meth c H locs cells slots Q (F0 m (pc + 1) ls (.int (nI (ea i)) :: rest))) : W p l e R s m args below meth c H locs cells slots Q (F0 m pc ls (.int (nI i) :: .ref (ad 5) :: rest)) :=
  cx_ald S.1 S.2.1 hK hw.1 5 0 rfl rfl hi (by decide) hdg k
theorem cx1_sE (S : CallFix p m c cc nL s args lw_all RX1) (hK : va_K D cx_Cl (cx_ty cI cZ) s) (hw : cx_H D cx_Cl (cx_w1 cI cZ ad (n, us, cs, wr, so, ea, rw, od)) A H0 H locs) {i : Nat} {x : Nat} (hi : i < 8) (hdg : decode cc pc = .ok (.iastore, 1)) (k : ∀ (H1 : Heap) (locs1 : List Loc), cx_H D cx_Cl (cx_w1 cI cZ ad (n, us, cs, wr, so, va_up ea i x, rw, od)) A H0 H1 locs1 → W p l e R s m args below meth c H1 locs1 cells slots Q (F0 m (pc + 1) ls rest)) : W p l e R s m args below meth c H locs cells slots Q (F0 m pc ls (.int (nI x) :: .int (nI i) :: .ref (ad 5) :: rest)) :=
  cx_ast S.1 S.2.1 hK hw 5 0 rfl rfl hi (by decide) hdg (fun H1 locs1 h => k H1 locs1 h)
theorem cx1_gR (S : CallFix p m c cc nL s args lw_all RX1) (hK : va_K D cx_Cl (cx_ty cI cZ) s) (hw : cx_H D cx_Cl (cx_w1 cI cZ ad (n, us, cs, wr, so, ea, rw, od)) A H0 H locs) (hdg : decode cc pc = .ok (.getfield 26, 3)) (k : W p l e R s m args below meth c H locs cells slots Q (F0 m (pc + 3) ls (.ref (ad 6) :: rest))) : W p l e R s m args below meth c H locs cells slots Q (F0 m pc ls (.ref (ad 0) :: rest)) :=
  va_get (D := D) (ci := 1) (v := .ref (ad 6)) (C := RX1) (T := TX1) (N := 8) S.1 S.2.1 S.2.2.2.2 in_X1 S.2.2.2.1 hK hw.1 0 rfl rfl 6 (by decide) (S.2.2.2.2 _ q138) (fun _ h9 => h9) rfl hdg k
theorem cx1_aR (S : CallFix p m c cc nL s args lw_all RX1) (hK : va_K D cx_Cl (cx_ty cI cZ) s) (hw : cx_H D cx_Cl (cx_w1 cI cZ ad (n, us, cs, wr, so, ea, rw, od)) A H0 H locs) {i : Nat} (hi : i < 10368) (hdg : decode cc pc = .ok (.baload, 1)) (k : W p l e R s m args below meth c H locs cells slots Q (F0 m (pc + 1) ls (.int (cx_bI (rw i)) :: rest))) : W p l e R s m args below meth c H locs cells slots Q (F0 m pc ls (.int (nI i) :: .ref (ad 6) :: rest)) :=
  cx_aldB S.1 S.2.1 hK hw.1 6 1 rfl rfl hi (by decide) hdg k
theorem cx1_sR (S : CallFix p m c cc nL s args lw_all RX1) (hK : va_K D cx_Cl (cx_ty cI cZ) s) (hw : cx_H D cx_Cl (cx_w1 cI cZ ad (n, us, cs, wr, so, ea, rw, od)) A H0 H locs) {i : Nat} {x : Bool} (hi : i < 10368) (hdg : decode cc pc = .ok (.bastore, 1)) (k : ∀ (H1 : Heap) (locs1 : List Loc), cx_H D cx_Cl (cx_w1 cI cZ ad (n, us, cs, wr, so, ea, va_up rw i x, od)) A H0 H1 locs1 → W p l e R s m args below meth c H1 locs1 cells slots Q (F0 m (pc + 1) ls rest)) : W p l e R s m args below meth c H locs cells slots Q (F0 m pc ls (.int (cx_bI x) :: .int (nI i) :: .ref (ad 6) :: rest)) :=
  cx_astB S.1 S.2.1 hK hw 6 1 rfl rfl hi (by decide) hdg (fun H1 locs1 h => k H1 locs1 h)
theorem cx1_gO (S : CallFix p m c cc nL s args lw_all RX1) (hK : va_K D cx_Cl (cx_ty cI cZ) s) (hw : cx_H D cx_Cl (cx_w1 cI cZ ad (n, us, cs, wr, so, ea, rw, od)) A H0 H locs) (hdg : decode cc pc = .ok (.getfield 29, 3)) (k : W p l e R s m args below meth c H locs cells slots Q (F0 m (pc + 3) ls (.ref (ad 7) :: rest))) : W p l e R s m args below meth c H locs cells slots Q (F0 m pc ls (.ref (ad 0) :: rest)) :=
  va_get (D := D) (ci := 1) (v := .ref (ad 7)) (C := RX1) (T := TX1) (N := 8) S.1 S.2.1 S.2.2.2.2 in_X1 S.2.2.2.1 hK hw.1 0 rfl rfl 7 (by decide) (S.2.2.2.2 _ q139) (fun _ h9 => h9) rfl hdg k
theorem cx1_aO (S : CallFix p m c cc nL s args lw_all RX1) (hK : va_K D cx_Cl (cx_ty cI cZ) s) (hw : cx_H D cx_Cl (cx_w1 cI cZ ad (n, us, cs, wr, so, ea, rw, od)) A H0 H locs) {i : Nat} (hi : i < 8) (hdg : decode cc pc = .ok (.iaload, 1)) (k : W p l e R s m args below meth c H locs cells slots Q (F0 m (pc + 1) ls (.int (nI (od i)) :: rest))) : W p l e R s m args below meth c H locs cells slots Q (F0 m pc ls (.int (nI i) :: .ref (ad 7) :: rest)) :=
  cx_ald S.1 S.2.1 hK hw.1 7 0 rfl rfl hi (by decide) hdg k
theorem cx1_sO (S : CallFix p m c cc nL s args lw_all RX1) (hK : va_K D cx_Cl (cx_ty cI cZ) s) (hw : cx_H D cx_Cl (cx_w1 cI cZ ad (n, us, cs, wr, so, ea, rw, od)) A H0 H locs) {i : Nat} {x : Nat} (hi : i < 8) (hdg : decode cc pc = .ok (.iastore, 1)) (k : ∀ (H1 : Heap) (locs1 : List Loc), cx_H D cx_Cl (cx_w1 cI cZ ad (n, us, cs, wr, so, ea, rw, va_up od i x)) A H0 H1 locs1 → W p l e R s m args below meth c H1 locs1 cells slots Q (F0 m (pc + 1) ls rest)) : W p l e R s m args below meth c H locs cells slots Q (F0 m pc ls (.int (nI x) :: .int (nI i) :: .ref (ad 7) :: rest)) :=
  cx_ast S.1 S.2.1 hK hw 7 0 rfl rfl hi (by decide) hdg (fun H1 locs1 h => k H1 locs1 h)
end WORLD1
end
section
/-! MORE ROWS: counting up, joins of truth values, held places. -/
theorem cx_inc1 (a : Nat) : nI a + Int32.ofInt 1 = nI (a + 1) := nI_1 a
theorem cx_inc4 (a : Nat) : nI a + Int32.ofInt 4 = nI (a + 4) := by
  rw [← nI_add]
  rfl
theorem cx_dec {a : Nat} (h : 0 < a) : nI a + Int32.ofInt (-1) = nI (a - 1) := sb_m1 h
theorem cx_j1 {b : Bool} (h : b = true) : nI 1 = cx_bI b := by rw [h]; decide
theorem cx_j0 {b : Bool} (h : b = false) : nI 0 = cx_bI b := by rw [h]; decide
theorem cx_hd_t {o : Int32} {n : Nat} (h1 : ¬ o < 0) (h2 : ¬ nI n ≤ o) (hn : n < 2 ^ 31) : ∃ k, k < n ∧ o = nI k := by
  rcases pk_ix o hn with q | q | q
  · exact absurd q h1
  · exact absurd q h2
  · exact q
theorem cx_hd_f1 {o : Int32} {n : Nat} (h : o < 0) (hn : n < 2 ^ 31) : ¬ ∃ k, k < n ∧ o = nI k := fun ⟨k, h1, h2⟩ => by
  rw [h2] at h
  exact nI_pos (by omega) h
theorem cx_hd_f2 {o : Int32} {n : Nat} (h : nI n ≤ o) (hn : n < 2 ^ 31) : ¬ ∃ k, k < n ∧ o = nI k := fun ⟨k, h1, h2⟩ => by
  rw [h2] at h
  exact nI_ge h1 hn h
/-- a source that may be named for the cell c -/
def cx_sk (n : Nat) (cs : Nat → Nat) (wr : Nat → Bool) (s : Int32) (c : Nat) : Prop := s = -1 ∨ ∃ k, k < n ∧ s = nI k ∧ wr k = true ∧ cs k = c
theorem cx_sk_f {n : Nat} {cs : Nat → Nat} {wr : Nat → Bool} {s : Int32} {c : Nat} (h0 : ¬ s = -1) (h : ¬ ∃ k, k < n ∧ s = nI k) : ¬ cx_sk n cs wr s c := fun q => by
  rcases q with q | ⟨k, q1, q2, _⟩
  · exact h0 q
  · exact h ⟨k, q1, q2⟩
theorem cx_sk_g {n : Nat} {cs : Nat → Nat} {wr : Nat → Bool} {k c : Nat} (hk : k < n) (hn : n < 2 ^ 31) : cx_sk n cs wr (nI k) c ↔ wr k = true ∧ cs k = c := by
  constructor
  · intro q
    rcases q with q | ⟨j, q1, q2, q3⟩
    · exact absurd q (cx_nI_ne_m1 (by omega))
    · have e : k = j := (nI_eq (by omega) (by omega)).mp q2
      subst e
      exact q3
  · intro q
    exact Or.inr ⟨k, hk, rfl, q⟩
end
section
/-! SMALL PURE ROWS for the walks. -/
theorem cx_pb_lt {cs : Nat → Nat} {wr : Nat → Bool} {past r s : Nat} {M : Nat → Nat} {k : Nat} (h : M s < 256) (hk : k ≤ 8) : cx_pb cs wr past r s M k < 256 :=
  cx_ltof (k := 8) fun i hi => by
    rcases (cx_pb_bit k).mp hi with q | q
    · exact cx_lt (k := 8) h q
    · omega
theorem cx_upB {n : Nat} {M : Nat → Nat} (h : ∀ x, x < n → M x < 256) {a v : Nat} (hv : v < 256) : ∀ x, x < n → va_up M a v x < 256 := fun x hx => by
  unfold va_up
  split
  · exact hv
  · exact h x hx
theorem cx_or8 {a b : Nat} (ha : a < 256) (hb : b < 256) : a ||| b < 256 := cx_orlt (k := 8) ha hb
theorem cx_p28 {w : Nat} (h : w < 8) : 2 ^ w < 256 := Nat.pow_lt_pow_right (a := 2) (m := w) (n := 8) (by decide) h
theorem cx_pa8 {n : Nat} {us cs : Nat → Nat} {wr : Nat → Bool} {so ea : Nat → Nat} (h : cx_Va n us cs wr so ea) {o : Nat} (ho : o < n) (hn : n ≤ 8) : cx_pa ea o < 256 := cx_or8 (h.2.2.2.1 o) (cx_p28 (by omega))
end
section
/-! PURE ROWS for the walks of the callers. -/
theorem cx_B_n {P : Prop} (h : cx_B P = false) : ¬ P := fun q => by
  rw [cx_B_t q] at h
  cases h
theorem cx_cp {ea M : Nat → Nat} {a : Nat} (h : ∀ x, x < a → M x = ea x) : ∀ x, x < a + 1 → va_up M a (ea a) x = ea x := fun x hx => by
  unfold va_up
  split
  · next e => rw [e]
  · exact h x (by omega)
theorem cx_SI_b {n : Nat} {us cs : Nat → Nat} {wr : Nat → Bool} {so ea : Nat → Nat} {o : Nat} {M : Nat → Nat} (h : cx_SI n us cs wr so ea o M) : ∀ x, x < n → M x < 256 := fun x hx => Nat.lt_trans (h.1 x hx) (by decide)
theorem cx_rI_SI {n : Nat} {us cs : Nat → Nat} {wr : Nat → Bool} {so ea : Nat → Nat} {o : Nat} (hV : cx_Va n us cs wr so ea) (hn : n ≤ 7) (ho : o < n) {M N : Nat → Nat} {ch : Bool} {r : Nat} (hr : r ≤ n) (hM : cx_SI n us cs wr so ea o M) (hq : cx_rI n us cs wr so (cx_pa ea o) o r (M, false) = (N, ch)) : cx_SI n us cs wr so ea o N := by
  have z := (cx_rI_keep hV hn ho (N := M) r hr (M, false) ⟨hM, fun _ _ z => z, Nat.le_refl _, fun z => by cases z⟩).1
  rw [hq] at z
  exact z
theorem cx_rd_eq {n : Nat} {us cs : Nat → Nat} {wr : Nat → Bool} {so : Nat → Nat} {past o : Nat} {M N : Nat → Nat} {ch : Bool} (hq : cx_rI n us cs wr so past o n (M, false) = (N, ch)) : cx_rd n us cs wr so past o M = ((cx_cl past n N).1, (cx_cl past n N).2 || ch) := by
  unfold cx_rd
  rw [hq]
theorem cx_wh_s {f : (Nat → Nat) → (Nat → Nat) × Bool} {M : Nat → Nat} {k : Nat} (hk : k < 60) : cx_wh f (60 - k) (M, true) = cx_wh f (60 - (k + 1)) (f M) := by
  rw [show 60 - k = (60 - (k + 1)) + 1 by omega]
  show (if (true : Bool) = true then _ else _) = _
  rw [if_pos rfl]
theorem cx_cl_B {w n : Nat} {M : Nat → Nat} (h : ∀ x, x < n → M x < 256) : ∀ x, x < n → (cx_cl w n M).1 x < 256 := by
  refine cx_cO_ind (P := fun q => ∀ x, x < n → q.1 x < 256) (fun a b q ha hb hq => ?_) n (Nat.le_refl n) (M, false) h
  unfold cx_cS
  split
  · exact cx_upB hq (cx_or8 (hq a ha) (hq b hb))
  · exact hq
/-- what the questions ask -/
def cx_WK (cs : Nat → Nat) (wr : Nat → Bool) (so ea : Nat → Nat) (k : Nat) : Prop := wr k = true ∨ cx_Row cs wr so ea (cx_pa ea k) (fun c => decide (c = k))
def cx_SK (us cs : Nat → Nat) (wr : Nat → Bool) (so ea : Nat → Nat) (k : Nat) : Prop := cx_Row cs wr so ea (cx_pa ea k) (fun c => decide (us c = us k))
theorem cx_WK_iff {n : Nat} {us cs : Nat → Nat} {wr : Nat → Bool} {so ea : Nat → Nat} (h : cx_Va n us cs wr so ea) (hn : n ≤ 8) {r : Nat} (hr : r < n) : (wr r = true ∨ cx_Wk n cs wr so ea r) ↔ cx_WK cs wr so ea r := by
  unfold cx_WK
  rcases e : wr r with _ | _
  · rw [cx_weak h hn hr e]
  · exact ⟨fun _ => Or.inl rfl, fun _ => Or.inl rfl⟩
/-- an answer for a place o that may not be held: f, or -1 -/
def cx_R1 (n : Nat) (f : Nat → Int32) (o v : Int32) : Prop := (∃ k, k < n ∧ o = nI k ∧ v = f k) ∨ ((¬ ∃ k, k < n ∧ o = nI k) ∧ v = -1)
theorem cx_R1_u {n : Nat} {f g : Nat → Int32} {o v w : Int32} (hn : n < 2 ^ 31) (hfg : ∀ k, k < n → f k = g k) (h1 : cx_R1 n f o v) (h2 : cx_R1 n g o w) : v = w := by
  rcases h1 with ⟨k, a1, a2, a3⟩ | ⟨a1, a2⟩
  · rcases h2 with ⟨j, b1, b2, b3⟩ | ⟨b1, b2⟩
    · have e : k = j := (nI_eq (by omega) (by omega)).mp (a2.symm.trans b2)
      subst e
      rw [a3, b3, hfg k a1]
    · exact absurd ⟨k, a1, a2⟩ b1
  · rcases h2 with ⟨j, b1, b2, b3⟩ | ⟨b1, b2⟩
    · exact absurd ⟨j, b1, b2⟩ a1
    · rw [a2, b2]
def cx_R2 (n : Nat) (f : Nat → Nat → Int32) (a b v : Int32) : Prop := (∃ k j, k < n ∧ j < n ∧ a = nI k ∧ b = nI j ∧ v = f k j) ∨ (((¬ ∃ k, k < n ∧ a = nI k) ∨ (¬ ∃ k, k < n ∧ b = nI k)) ∧ v = -1)
theorem cx_R2_u {n : Nat} {f : Nat → Nat → Int32} {a b v w : Int32} (hn : n < 2 ^ 31) (h1 : cx_R2 n f a b v) (h2 : cx_R2 n f a b w) : v = w := by
  rcases h1 with ⟨k, j, a1, a2, a3, a4, a5⟩ | ⟨a1, a2⟩
  · rcases h2 with ⟨k', j', b1, b2, b3, b4, b5⟩ | ⟨b1, b2⟩
    · have e : k = k' := (nI_eq (by omega) (by omega)).mp (a3.symm.trans b3)
      have e2 : j = j' := (nI_eq (by omega) (by omega)).mp (a4.symm.trans b4)
      subst e; subst e2
      rw [a5, b5]
    · rcases b1 with b1 | b1
      · exact absurd ⟨k, a1, a3⟩ b1
      · exact absurd ⟨j, a2, a4⟩ b1
  · rcases h2 with ⟨k', j', b1, b2, b3, b4, b5⟩ | ⟨b1, b2⟩
    · rcases a1 with a1 | a1
      · exact absurd ⟨k', b1, b3⟩ a1
      · exact absurd ⟨j', b2, b4⟩ a1
    · rw [a2, b2]
def cx_rb (n : Nat) : Int32 := if n = 0 then -1 else nI (n - 1)
/-- user and cell as they must be -/
def cx_pl (x y : Int32) : Prop := ∃ u d, u < 3 ∧ d < 2 ∧ x = nI u ∧ y = nI d
theorem cx_pl_t {x y : Int32} (h1 : ¬ x < 0) (h2 : ¬ nI 2 < x) (h3 : ¬ y < 0) (h4 : ¬ nI 1 < y) : cx_pl x y := by
  obtain ⟨u, hu, rfl⟩ := nI_of h1
  obtain ⟨d, hd, rfl⟩ := nI_of h3
  have a : ¬ 2 < u := fun q => h2 (nI_lt q hu)
  have b : ¬ 1 < d := fun q => h4 (nI_lt q hd)
  exact ⟨u, d, by omega, by omega, rfl, rfl⟩
theorem cx_pl_1 {x y : Int32} (h : x < 0) : ¬ cx_pl x y := fun ⟨u, d, hu, hd, e1, e2⟩ => by
  rw [e1] at h
  exact nI_pos (by omega) h
theorem cx_pl_2 {x y : Int32} (h : nI 2 < x) : ¬ cx_pl x y := fun ⟨u, d, hu, hd, e1, e2⟩ => by
  rw [e1] at h
  have := (nI_ltI (by omega) (by omega)).mp h
  omega
theorem cx_pl_3 {x y : Int32} (h : y < 0) : ¬ cx_pl x y := fun ⟨u, d, hu, hd, e1, e2⟩ => by
  rw [e2] at h
  exact nI_pos (by omega) h
theorem cx_pl_4 {x y : Int32} (h : nI 1 < y) : ¬ cx_pl x y := fun ⟨u, d, hu, hd, e1, e2⟩ => by
  rw [e2] at h
  have := (nI_ltI (by omega) (by omega)).mp h
  omega
/-- a source that may be named, by its number -/
theorem cx_sk_s {n : Nat} {cs : Nat → Nat} {wr : Nat → Bool} {x : Int32} {d : Nat} (hn : n ≤ 8) (h : cx_sk n cs wr x d) : ∃ t, t ≤ 8 ∧ x = cx_sI t ∧ (t = 8 ∨ (t < n ∧ wr t = true ∧ cs t = d)) := by
  rcases h with h | ⟨k, h1, h2, h3, h4⟩
  · exact ⟨8, by omega, h, Or.inl rfl⟩
  · exact ⟨k, by omega, by rw [h2, cx_sI_n (by omega)], Or.inr ⟨h1, h3, h4⟩⟩
/-- the five tables that both objects hold -/
abbrev cx_C5 : Type := (Nat → Nat) × (Nat → Nat) × (Nat → Bool) × (Nat → Nat) × (Nat → Nat)
def cx_pt (n u d : Nat) (w : Bool) (t : Nat) (q : cx_C5) : cx_C5 := (va_up q.1 n u, va_up q.2.1 n d, va_up q.2.2.1 n w, va_up q.2.2.2.1 n t, va_up q.2.2.2.2 n (cx_en q.1 q.2.2.2.2 u t n))
/-- sources in the order in which they are tried: none, 0, 1 .. -/
def cx_st (i : Nat) : Nat := if i = 0 then 8 else i - 1
def cx_sb (i : Nat) : Nat := if i = 0 then 7 else i - 1
theorem cx_st_le {i : Nat} (h : i ≤ 8) : cx_st i ≤ 8 := by
  unfold cx_st
  split <;> omega
theorem cx_st_ge {n i : Nat} (hn : n ≤ 7) (hi : i ≤ n + 1) : nI n ≤ cx_sI (cx_st i) ↔ n + 1 ≤ i := by
  unfold cx_st
  by_cases e : i = 0
  · rw [if_pos e, cx_sI_8]
    constructor
    · intro h
      exact absurd (Int32.le_trans (nI_pos' (n := n) (by omega)) h) (by decide)
    · intro h
      omega
  · rw [if_neg e, cx_sI_n (by omega), nI_leI (by omega) (by omega)]
    omega
theorem cx_st_s {i : Nat} (h : i ≤ 7) : cx_sI (cx_st i) + Int32.ofInt 1 = cx_sI (cx_st (i + 1)) := by
  unfold cx_st
  rw [if_neg (by omega : ¬ i + 1 = 0)]
  by_cases e : i = 0
  · subst e
    decide
  · rw [if_neg e, cx_sI_n (by omega), cx_sI_n (by omega), cx_inc1]
    congr 1
    omega
theorem cx_st_8 {i : Nat} (hi : i ≤ 8) : cx_st i = 8 ↔ i = 0 := by
  unfold cx_st
  split <;> omega
theorem cx_st_sb {i : Nat} (h : cx_st i ≠ 8) (hi : i ≤ 8) : cx_st i = cx_sb i := by
  unfold cx_st cx_sb at *
  split
  · next e => rw [if_pos e] at h; exact absurd rfl h
  · rfl
/-- one try of `choices` -/
noncomputable def cx_hS (n u d i : Nat) (q : cx_C5 × Nat) : cx_C5 × Nat :=
  if cx_B (cx_sk n q.1.2.1 q.1.2.2.1 (cx_sI (cx_st i)) d) = true then
    (cx_pt n u d false (cx_st i) q.1, q.2 ||| (if cx_B (cx_Cv (n + 1) (cx_pt n u d false (cx_st i) q.1).2.1 (cx_pt n u d false (cx_st i) q.1).2.2.1 (cx_pt n u d false (cx_st i) q.1).2.2.2.1 (cx_pt n u d false (cx_st i) q.1).2.2.2.2) = true then 2 ^ cx_sb i else 0))
  else q
noncomputable def cx_ch (n u d : Nat) : Nat → cx_C5 × Nat → cx_C5 × Nat
  | 0, q => q
  | i + 1, q => cx_hS n u d i (cx_ch n u d i q)
def cx_q (b : Bool) (x : Nat) : Nat := if b = true then x else 0
/-- the sum that `sound` answers -/
noncomputable def cx_sd (n : Nat) (us cs : Nat → Nat) (wr : Nat → Bool) (so ea : Nat → Nat) : Nat :=
  cx_q (cx_B (∀ k, k < n → cx_WK cs wr so ea k)) 1 + cx_q (cx_B (∀ k, k < n → cx_SK us cs wr so ea k)) 2 + cx_q (cx_B (cx_Cv n cs wr so ea)) 4
end
section
/-! PURE ROWS for the methods that the law calls. -/
def cx_wrP (n : Nat) (x y : Int32) (u d : Nat) : Prop := n < 7 ∧ u < 3 ∧ d < 2 ∧ x = nI u ∧ y = nI d
def cx_rdP (n : Nat) (cs : Nat → Nat) (wr : Nat → Bool) (x y z : Int32) (u d t : Nat) : Prop := n < 7 ∧ u < 3 ∧ d < 2 ∧ x = nI u ∧ y = nI d ∧ t ≤ 8 ∧ z = cx_sI t ∧ (t = 8 ∨ (t < n ∧ wr t = true ∧ cs t = d))
theorem cx_wrP_pl {n : Nat} {x y : Int32} (h : ∃ u d, cx_wrP n x y u d) : cx_pl x y ∧ n < 7 := by
  obtain ⟨u, d, h0, h1, h2, h3, h4⟩ := h
  exact ⟨⟨u, d, h1, h2, h3, h4⟩, h0⟩
theorem cx_rdP_pl {n : Nat} {cs : Nat → Nat} {wr : Nat → Bool} {x y z : Int32} (h : ∃ u d t, cx_rdP n cs wr x y z u d t) : cx_pl x y ∧ n < 7 := by
  obtain ⟨u, d, t, h0, h1, h2, h3, h4, _⟩ := h
  exact ⟨⟨u, d, h1, h2, h3, h4⟩, h0⟩
theorem cx_rdP_sk {n : Nat} {cs : Nat → Nat} {wr : Nat → Bool} {x z : Int32} {d : Nat} (hd : d < 2) (h : ∃ u d' t, cx_rdP n cs wr x (nI d) z u d' t) : cx_sk n cs wr z d := by
  obtain ⟨u, d', t, h0, h1, h2, h3, h4, h5, h6, h7⟩ := h
  have e : d = d' := (nI_eq (by omega) (by omega)).mp h4
  subst e
  rcases h7 with h7 | ⟨h7, h8, h9⟩
  · subst h7
    exact Or.inl h6
  · exact Or.inr ⟨t, h7, by rw [h6, cx_sI_n (by omega)], h8, h9⟩
theorem cx_sk_st {n : Nat} {cs : Nat → Nat} {wr : Nat → Bool} {s d : Nat} (hn : n ≤ 8) (hs : s ≤ 8) (h : cx_sk n cs wr (cx_sI s) d) : s = 8 ∨ (s < n ∧ wr s = true ∧ cs s = d) := by
  obtain ⟨t, h1, h2, h3⟩ := cx_sk_s hn h
  have e : s = t := (cx_sI_inj hs h1).mp h2
  subst e
  exact h3
theorem cx_hS_t {n u d i : Nat} {us cs : Nat → Nat} {wr : Nat → Bool} {so ea : Nat → Nat} {set : Nat} {Z : Bool} (h : cx_B (cx_sk n cs wr (cx_sI (cx_st i)) d) = true) (hZ : Z = cx_B (cx_Cv (n + 1) (va_up cs n d) (va_up wr n false) (va_up so n (cx_st i)) (va_up ea n (cx_en us ea u (cx_st i) n)))) :
    cx_hS n u d i ((us, cs, wr, so, ea), set) = ((va_up us n u, va_up cs n d, va_up wr n false, va_up so n (cx_st i), va_up ea n (cx_en us ea u (cx_st i) n)), set ||| cx_q Z (2 ^ cx_sb i)) := by
  subst hZ
  exact if_pos h
theorem cx_hS_f {n u d i : Nat} {us cs : Nat → Nat} {wr : Nat → Bool} {so ea : Nat → Nat} {set : Nat} (h : cx_B (cx_sk n cs wr (cx_sI (cx_st i)) d) = false) :
    cx_hS n u d i ((us, cs, wr, so, ea), set) = ((us, cs, wr, so, ea), set) := if_neg (fun z => Bool.noConfusion (h.symm.trans z))
theorem cx_all_s {P : Nat → Prop} {o : Nat} {a X : Bool} (ha : a = true ↔ ∀ k, k < o → P k) (hX : X = true ↔ P o) : (a && X) = true ↔ ∀ k, k < o + 1 → P k := by
  rw [Bool.and_eq_true, ha, hX]
  constructor
  · intro h
    exact lt_s h.1 h.2
  · intro h
    exact ⟨fun k hk => h k (by omega), h o (by omega)⟩
theorem cx_all_0 {P : Nat → Prop} : true = true ↔ ∀ k, k < 0 → P k := ⟨fun _ k hk => absurd hk (by omega), fun _ => rfl⟩
end
section
/-! ROWS for the reference's methods. -/
def cx_oI : Option Nat → Int32
  | none => -1
  | some x => nI x
def cx_ms (us : Nat → Nat) (b : Nat) (al : Bool) (c : Nat) : Bool := decide (c = b) || (al && decide (us c = us b))
theorem cx_ms_f (us : Nat → Nat) (b : Nat) : cx_ms us b false = fun c => decide (c = b) := by
  funext c
  unfold cx_ms
  rw [Bool.false_and, Bool.or_false]
theorem cx_ms_t (us : Nat → Nat) (b : Nat) : cx_ms us b true = fun c => decide (us c = us b) := by
  funext c
  unfold cx_ms
  by_cases e : c = b
  · subst e
    simp
  · simp [e]
theorem cx_dp0 {ro : Nat → Bool} (h : ∀ j, j < 10368 → ro j = false) : ∀ j, j < 10368 → (va_up ro 80 true j = true ↔ j = 80) := fun j hj => by
  unfold va_up
  split
  · next e => exact ⟨fun _ => e, fun _ => rfl⟩
  · next e =>
    rw [h j hj]
    exact ⟨fun z => Bool.noConfusion z, fun z => absurd z e⟩
section ED
variable {cs : Nat → Nat} {wr : Nat → Bool} {so ea : Nat → Nat} {past : Nat} {ms : Nat → Bool} {i c l : Nat}
theorem cx_ed_0 (h : (past.testBit c && !(i / 81).testBit c && cx_sub (ea c) (i / 81)) = false) : cx_ed cs wr so ea past ms i c = none := by
  refine if_neg (fun z => ?_)
  rw [z.1, z.2.1, z.2.2] at h
  cases h
theorem cx_ed_c (h : (past.testBit c && !(i / 81).testBit c && cx_sub (ea c) (i / 81)) = true) : past.testBit c = true ∧ (i / 81).testBit c = false ∧ cx_sub (ea c) (i / 81) = true := by
  rw [Bool.and_eq_true, Bool.and_eq_true, Bool.not_eq_true'] at h
  exact ⟨h.1.1, h.1.2, h.2⟩
theorem cx_ed_1 (h : (past.testBit c && !(i / 81).testBit c && cx_sub (ea c) (i / 81)) = true) (ha : cx_af cs wr so (i % 81) c (ms c) = none) : cx_ed cs wr so ea past ms i c = none := by
  unfold cx_ed
  rw [if_pos (cx_ed_c h), ha]
  rfl
theorem cx_ed_2 (h : (past.testBit c && !(i / 81).testBit c && cx_sub (ea c) (i / 81)) = true) (ha : cx_af cs wr so (i % 81) c (ms c) = some l) : cx_ed cs wr so ea past ms i c = some (81 * ((i / 81) ||| 2 ^ c) + l) := by
  unfold cx_ed
  rw [if_pos (cx_ed_c h), ha]
  rfl
end ED
theorem cx_zc {ro : Nat → Bool} {i : Nat} (h : ∀ x, x < i → ro x = false) : ∀ x, x < i + 1 → va_up ro i false x = false := fun x hx => by
  unfold va_up
  split
  · rfl
  · exact h x (by omega)
theorem cx_la_le {cs ea od : Nat → Nat} {r : Nat} : ∀ k, (∀ i, i < k → od i < 8) → cx_la cs ea od r k ≤ 8
  | 0, _ => Nat.le_refl 8
  | k + 1, h => by
    rw [cx_la]
    split
    · have := h k (by omega)
      omega
    · exact cx_la_le k (fun i hi => h i (by omega))
theorem cx_pk_s {l w sk : Nat} (hw : w < 8) (h : l.testBit w = false ∨ 0 < sk) : cx_pk l (8 - w) sk = cx_pk l (8 - (w + 1)) (if l.testBit w = true then sk - 1 else sk) := by
  have e : 8 - w = (8 - (w + 1)) + 1 := by omega
  have e2 : 7 - (8 - (w + 1)) = w := by omega
  rw [e, cx_pk, e2, if_pos h]
theorem cx_pk_e {l w sk : Nat} (hw : w < 8) (h : l.testBit w = true) (hs : sk = 0) : cx_pk l (8 - w) sk = w := by
  have e : 8 - w = (8 - (w + 1)) + 1 := by omega
  have e2 : 7 - (8 - (w + 1)) = w := by omega
  rw [e, cx_pk, e2, if_neg]
  intro z
  rcases z with z | z
  · rw [h] at z
    cases z
  · omega
theorem cx_fa_le : ∀ k, k ≤ 8 → cx_fa k ≤ 40320 := by decide
theorem cx_mk_s {wr : Nat → Bool} {n : Nat} (h : wr n = false) : cx_mk wr (n + 1) = cx_mk wr n := by
  rw [cx_mk, if_neg (by rw [h]; decide), Nat.or_zero]
theorem cx_cn_s {wr : Nat → Bool} {n : Nat} (h : wr n = false) : cx_cn wr (n + 1) = cx_cn wr n := by
  rw [cx_cn, if_neg (by rw [h]; decide)]
  rfl
theorem cx_od {od : Nat → Nat} {k l num i w : Nat} (h : ∀ x, x < i → od x = cx_ar k l num x) (hw : w = cx_ar k l num i) : ∀ x, x < i + 1 → va_up od i w x = cx_ar k l num x := fun x hx => by
  unfold va_up
  split
  · next e => rw [e]; exact hw
  · exact h x (by omega)
theorem cx_R1_at {n : Nat} {f : Nat → Int32} {k : Nat} {v : Int32} (hk : k < n) (hn : n < 2 ^ 31) (h : cx_R1 n f (nI k) v) : v = f k := by
  rcases h with ⟨j, a1, a2, a3⟩ | ⟨a1, _⟩
  · have e : k = j := (nI_eq (by omega) (by omega)).mp a2
    subst e
    exact a3
  · exact absurd ⟨k, hk, rfl⟩ a1
section OROW
variable {p : Program} {l : Launch} {e : Env} {R : Room} {s : State} {m : MethodId} {args : Array Value} {below : List Frame} {meth : Method} {c : Code} {H : Heap} {locs : List Loc} {cells slots : Nat} {Q : State → Prop}
variable {cc : ByteArray} {pc : Nat} {ls : Array Slot} {rest : List Value}
theorem cx_iflt_o (hx : p.tables.exec = Jvm.exec) (hb : c.code = cc) {t : Option Nat} {off : Int} {tgt : Nat} (hdg : decode cc pc = .ok (.ifCond .lt off, 3)) (ht : (pc : Int) + off = (tgt : Int)) (hl : ∀ x, t = some x → x < 2 ^ 31) (kt : t = none → W p l e R s m args below meth c H locs cells slots Q (F0 m tgt ls rest)) (kf : ∀ x, t = some x → W p l e R s m args below meth c H locs cells slots Q (F0 m (pc + 3) ls rest)) : W p l e R s m args below meth c H locs cells slots Q (F0 m pc ls (.int (cx_oI t) :: rest)) :=
  lv_if_lt hx hb hdg ht (fun h => by
    cases t with
    | none => exact kt rfl
    | some x => exact absurd h (nI_pos (hl x rfl))) (fun h => by
    cases t with
    | none => exact absurd (by decide) h
    | some x => exact kf x rfl)
end OROW
end
section
/-! MORE PURE ROWS for the reference's methods. -/
theorem cx_la_t {cs ea od : Nat → Nat} {r i : Nat} (h1 : cs (od i) = cs r) (h2 : (ea r).testBit (od i) = true) : cx_la cs ea od r (i + 1) = od i := if_pos ⟨h1, h2⟩
theorem cx_la_f {cs ea od : Nat → Nat} {r i : Nat} (h : ¬ (cs (od i) = cs r ∧ (ea r).testBit (od i) = true)) : cx_la cs ea od r (i + 1) = cx_la cs ea od r i := if_neg h
theorem cx_lr_n {k l num i l1 r1 w : Nat} (h : cx_lr k l num i = (l1, r1)) (hw : cx_pk l1 8 (r1 % (k - i)) = w) : cx_lr k l num (i + 1) = (cx_cr l1 w, r1 / (k - i)) := by
  rw [cx_lr, h]
  show (cx_cr l1 (cx_pk l1 8 (r1 % (k - i))), r1 / (k - i)) = _
  rw [hw]
theorem cx_ar_at {k l num i l1 r1 w : Nat} (h : cx_lr k l num i = (l1, r1)) (hw : cx_pk l1 8 (r1 % (k - i)) = w) : w = cx_ar k l num i := by
  unfold cx_ar
  rw [h]
  exact hw.symm
theorem cx_lr_inv {k l num : Nat} (hl : l < 256) (hk : cx_cn l.testBit 8 = k) (h8 : k ≤ 8) : ∀ i, i ≤ k → (cx_lr k l num i).1 < 256 ∧ cx_cn (cx_lr k l num i).1.testBit 8 = k - i ∧ (cx_lr k l num i).2 ≤ num
  | 0, _ => ⟨hl, hk, Nat.le_refl num⟩
  | i + 1, hi => by
    obtain ⟨a1, a2, a3⟩ := cx_lr_inv hl hk h8 i (by omega)
    have b1 : (cx_lr k l num i).2 % (k - i) < k - i := Nat.mod_lt _ (by omega)
    obtain ⟨c1, c2⟩ := cx_pk_2 _ a1 ((cx_lr k l num i).2 % (k - i)) (by omega) (by omega)
    obtain ⟨_, _, d3, d4⟩ := cx_pk_1 _ a1 _ c1 c2
    refine ⟨d3, ?_, Nat.le_trans (Nat.div_le_self _ _) a3⟩
    show cx_cn (cx_cr (cx_lr k l num i).1 (cx_pk (cx_lr k l num i).1 8 ((cx_lr k l num i).2 % (k - i)))).testBit 8 = k - (i + 1)
    omega
theorem cx_mk_256 (wr : Nat → Bool) {n : Nat} (hn : n ≤ 8) : cx_mk wr n < 256 := Nat.lt_of_lt_of_le (cx_mk_lt wr n) (Nat.pow_le_pow_right (n := 2) (i := n) (j := 8) (by decide) hn)
theorem cx_ar_8 {wr : Nat → Bool} {n k num i : Nat} (hn : n ≤ 8) (hk : cx_cn wr n = k) (hi : i < k) : cx_ar k (cx_mk wr n) num i < 8 :=
  cx_b8 (cx_mk_256 wr hn) ((cx_ar_1 k (cx_mk wr n) num (cx_mk_256 wr hn) ((cx_mk_cn wr hn).trans hk)).1 i hi)
/-- one step of the walk along the mask -/
theorem cx_pk_st1 {l w sk x : Nat} (h : x = cx_pk l (8 - w) sk) (hw : w < 8) (h1 : l.testBit w = true) (h2 : 0 < sk) : x = cx_pk l (8 - (w + 1)) (sk - 1) := by
  rw [h, cx_pk_s hw (Or.inr h2), if_pos h1]
theorem cx_pk_st0 {l w sk x : Nat} (h : x = cx_pk l (8 - w) sk) (hw : w < 8) (h1 : l.testBit w = false) : x = cx_pk l (8 - (w + 1)) sk := by
  rw [h, cx_pk_s hw (Or.inl h1), if_neg (by rw [h1]; decide)]
theorem cx_pk_no {l w sk x : Nat} (h : x = cx_pk l (8 - w) sk) (hx : x < 8) (hw : 8 ≤ w) : False := by
  rw [h, show 8 - w = 0 by omega] at hx
  exact absurd hx (Nat.lt_irrefl 8)
theorem cx_mkq {wr : Nat → Bool} {n q : Nat} (h : q = n ∨ (q = n + 1 ∧ wr n = false)) : cx_mk wr q = cx_mk wr n := by
  rcases h with h | ⟨h, h2⟩
  · rw [h]
  · rw [h, cx_mk_s h2]
theorem cx_cnq {wr : Nat → Bool} {n q : Nat} (h : q = n ∨ (q = n + 1 ∧ wr n = false)) : cx_cn wr q = cx_cn wr n := by
  rcases h with h | ⟨h, h2⟩
  · rw [h]
  · rw [h, cx_cn_s h2]
theorem cx_cn_t {wr : Nat → Bool} {n : Nat} (h : wr n = true) : cx_cn wr (n + 1) = cx_cn wr n + 1 := by
  rw [cx_cn, if_pos h]
theorem cx_fa_t {wr : Nat → Bool} {n : Nat} (h : wr n = true) : cx_fa (cx_cn wr (n + 1)) = cx_fa (cx_cn wr n) * (cx_cn wr n + 1) := by
  rw [cx_cn_t h, cx_fa, Nat.mul_comm]
theorem cx_mk_t {wr : Nat → Bool} {n : Nat} (h : wr n = true) : cx_mk wr n ||| 2 ^ n = cx_mk wr (n + 1) := by
  show _ = cx_mk wr n ||| (if wr n = true then 2 ^ n else 0)
  rw [if_pos h]
theorem cx_mk_f {wr : Nat → Bool} {n : Nat} (h : wr n = false) : cx_mk wr n ||| 0 = cx_mk wr (n + 1) := by
  rw [cx_mk_s h, Nat.or_zero]
theorem cx_or7 {a c : Nat} (ha : a < 128) (hc : c < 7) : a ||| 2 ^ c < 128 := cx_orlt (k := 7) ha (Nat.pow_lt_pow_right (a := 2) (m := c) (n := 7) (by decide) hc)
end
section
/-! CausalCheck: isHeld, isSource, enter, isWeak (printed by gen/x0.py) -/
abbrev rm0_isHeld : Room := { frames := 0, cells := 0, slots := 0, locals := 0 }
set_option maxHeartbeats 4000000 in
set_option maxRecDepth 100000 in
/-- isHeld(o): whether o is the place of an operation -/
theorem k0_isHeld (l : Launch) (D : va_G) (cI cZ : ClassId) (ad : Nat → Nat) {n : Nat} {us cs : Nat → Nat} {wr : Nat → Bool} {so ea mu : Nat → Nat} (hn : n ≤ 8) (o : Int32) : cx_Ki l yX0_isHeld cX0_isHeld 2 (some .boolean) rm0_isHeld D cI cZ (cx_w0 cI cZ ad) [.ref (ad 0), .int o] (n, us, cs, wr, so, ea, mu) (fun v σ' => v = cx_bI (cx_B (∃ k, k < n ∧ o = nI k)) ∧ σ' = (n, us, cs, wr, so, ea, mu)) := by
  refine cx_ent (by decide) rfl (fun v σ' h => by rw [h.1]; exact cx_bI_nar _) (Nat.le_of_ble_eq_true rfl) ?_
  intro p e s m args below meth c ls Q A S hK hw hA hl ret
  have hx := S.1
  have hb := S.2.1
  have hts := S.2.2.2.2
  have hl : lv_has ls 2 [(0, .ref (ad 0)), (1, .int o)] := hl
  have S : CallFix p m c cX0_isHeld 2 s args lw_all RX0 := S
  refine lv_iload_n hx hb dX0_isHeld_0 rfl (lv_at hl 1 rfl) ?_
  refine lv_if_lt (tgt := 16) hx hb dX0_isHeld_1 (by decide) (fun h1 => ?_) (fun h1 => ?_)
  · refine lv_iconst (v := nI 0) hx hb dX0_isHeld_16 (by decide) ?_
    exact ret _ (n, us, cs, wr, so, ea, mu) _ _ _ _ dX0_isHeld_17 hw (⟨cx_j0 (cx_B_f (cx_hd_f1 h1 (by omega))), rfl⟩)
  · refine lv_iload_n hx hb dX0_isHeld_4 rfl (lv_at hl 1 rfl) ?_
    refine lv_aload_n hx hb dX0_isHeld_5 rfl (lv_at hl 0 rfl) ?_
    refine cx0_gn S hK hw dX0_isHeld_6 ?_
    refine lv_icmp_ge (tgt := 16) hx hb dX0_isHeld_9 (by decide) (fun h9 => ?_) (fun h9 => ?_)
    · refine lv_iconst (v := nI 0) hx hb dX0_isHeld_16 (by decide) ?_
      exact ret _ (n, us, cs, wr, so, ea, mu) _ _ _ _ dX0_isHeld_17 hw (⟨cx_j0 (cx_B_f (cx_hd_f2 h9 (by omega))), rfl⟩)
    · refine lv_iconst (v := nI 1) hx hb dX0_isHeld_12 (by decide) ?_
      refine lv_goto (tgt := 17) hx hb dX0_isHeld_13 (by decide) ?_
      exact ret _ (n, us, cs, wr, so, ea, mu) _ _ _ _ dX0_isHeld_17 hw (⟨cx_j1 (cx_B_t (cx_hd_t h1 h9 (by omega))), rfl⟩)
abbrev rm0_isSource : Room := { frames := 0, cells := 0, slots := 0, locals := 0 }
set_option maxHeartbeats 4000000 in
set_option maxRecDepth 100000 in
/-- isSource(s, d): whether s may be read from for the cell d -/
theorem k0_isSource (l : Launch) (D : va_G) (cI cZ : ClassId) (ad : Nat → Nat) {n : Nat} {us cs : Nat → Nat} {wr : Nat → Bool} {so ea mu : Nat → Nat} (hn : n ≤ 8) (hC : ∀ a, cs a < 2) (s0 : Int32) {d : Nat} (hd : d < 2) : cx_Ki l yX0_isSource cX0_isSource 3 (some .boolean) rm0_isSource D cI cZ (cx_w0 cI cZ ad) [.ref (ad 0), .int s0, .int (nI d)] (n, us, cs, wr, so, ea, mu) (fun v σ' => v = cx_bI (cx_B (cx_sk n cs wr s0 d)) ∧ σ' = (n, us, cs, wr, so, ea, mu)) := by
  refine cx_ent (by decide) rfl (fun v σ' h => by rw [h.1]; exact cx_bI_nar _) (Nat.le_of_ble_eq_true rfl) ?_
  intro p e s m args below meth c ls Q A S hK hw hA hl ret
  have hx := S.1
  have hb := S.2.1
  have hts := S.2.2.2.2
  have hl : lv_has ls 3 [(0, .ref (ad 0)), (1, .int s0), (2, .int (nI d))] := hl
  have S : CallFix p m c cX0_isSource 3 s args lw_all RX0 := S
  refine lv_iload_n hx hb dX0_isSource_0 rfl (lv_at hl 1 rfl) ?_
  refine lv_iconst (v := -1) hx hb dX0_isSource_1 (by decide) ?_
  refine lv_icmp_eq (tgt := 36) hx hb dX0_isSource_2 (by decide) (fun h2 => ?_) (fun h2 => ?_)
  · refine lv_iconst (v := nI 1) hx hb dX0_isSource_36 (by decide) ?_
    refine lv_goto (tgt := 41) hx hb dX0_isSource_37 (by decide) ?_
    exact ret _ (n, us, cs, wr, so, ea, mu) _ _ _ _ dX0_isSource_41 hw ⟨cx_j1 (cx_B_t (Or.inl h2)), rfl⟩
  · refine lv_iload_n hx hb dX0_isSource_5 rfl (lv_at hl 1 rfl) ?_
    refine lv_if_lt (tgt := 40) hx hb dX0_isSource_6 (by decide) (fun h6 => ?_) (fun h6 => ?_)
    · refine lv_iconst (v := nI 0) hx hb dX0_isSource_40 (by decide) ?_
      exact ret _ (n, us, cs, wr, so, ea, mu) _ _ _ _ dX0_isSource_41 hw ⟨cx_j0 (cx_B_f (cx_sk_f h2 (cx_hd_f1 h6 (by omega)))), rfl⟩
    · refine lv_iload_n hx hb dX0_isSource_9 rfl (lv_at hl 1 rfl) ?_
      refine lv_aload_n hx hb dX0_isSource_10 rfl (lv_at hl 0 rfl) ?_
      refine cx0_gn S hK hw dX0_isSource_11 ?_
      refine lv_icmp_ge (tgt := 40) hx hb dX0_isSource_14 (by decide) (fun h14 => ?_) (fun h14 => ?_)
      · refine lv_iconst (v := nI 0) hx hb dX0_isSource_40 (by decide) ?_
        exact ret _ (n, us, cs, wr, so, ea, mu) _ _ _ _ dX0_isSource_41 hw ⟨cx_j0 (cx_B_f (cx_sk_f h2 (cx_hd_f2 h14 (by omega)))), rfl⟩
      · obtain ⟨k, hk, rfl⟩ := cx_hd_t h6 h14 (by omega)
        refine lv_aload_n hx hb dX0_isSource_17 rfl (lv_at hl 0 rfl) ?_
        refine cx0_gW S hK hw dX0_isSource_18 ?_
        refine lv_iload_n hx hb dX0_isSource_21 rfl (lv_at hl 1 rfl) ?_
        refine cx0_aW S hK hw (by omega) dX0_isSource_22 ?_
        refine cx_ifeq_b (tgt := 40) hx hb dX0_isSource_23 (by decide) (fun h23 => ?_) (fun h23 => ?_)
        · refine lv_iconst (v := nI 0) hx hb dX0_isSource_40 (by decide) ?_
          exact ret _ (n, us, cs, wr, so, ea, mu) _ _ _ _ dX0_isSource_41 hw ⟨cx_j0 (cx_B_f (fun z => by rw [((cx_sk_g hk (by omega)).mp z).1] at h23; cases h23)), rfl⟩
        · refine lv_aload_n hx hb dX0_isSource_26 rfl (lv_at hl 0 rfl) ?_
          refine cx0_gC S hK hw dX0_isSource_27 ?_
          refine lv_iload_n hx hb dX0_isSource_30 rfl (lv_at hl 1 rfl) ?_
          refine cx0_aC S hK hw (by omega) dX0_isSource_31 ?_
          have b31 := hC k
          refine lv_iload_n hx hb dX0_isSource_32 rfl (lv_at hl 2 rfl) ?_
          refine cx_icmp_ne (tgt := 40) hx hb dX0_isSource_33 (by decide) (by omega) (by omega) (fun h33 => ?_) (fun h33 => ?_)
          · refine lv_iconst (v := nI 0) hx hb dX0_isSource_40 (by decide) ?_
            exact ret _ (n, us, cs, wr, so, ea, mu) _ _ _ _ dX0_isSource_41 hw ⟨cx_j0 (cx_B_f (fun z => h33 ((cx_sk_g hk (by omega)).mp z).2)), rfl⟩
          · refine lv_iconst (v := nI 1) hx hb dX0_isSource_36 (by decide) ?_
            refine lv_goto (tgt := 41) hx hb dX0_isSource_37 (by decide) ?_
            exact ret _ (n, us, cs, wr, so, ea, mu) _ _ _ _ dX0_isSource_41 hw ⟨cx_j1 (cx_B_t ((cx_sk_g hk (by omega)).mpr ⟨h23, h33⟩)), rfl⟩
abbrev rm0_isWeak : Room := { frames := 0, cells := 0, slots := 0, locals := 0 }
set_option maxHeartbeats 4000000 in
set_option maxRecDepth 100000 in
/-- isWeak(r) -/
theorem k0_isWeak (l : Launch) (D : va_G) (cI cZ : ClassId) (ad : Nat → Nat) {n : Nat} {us cs : Nat → Nat} {wr : Nat → Bool} {so ea mu : Nat → Nat} (hV : cx_Va n us cs wr so ea) (hn : n ≤ 8) {r : Nat} (hr : r < n) : cx_Ki l yX0_isWeak cX0_isWeak 4 (some .boolean) rm0_isWeak D cI cZ (cx_w0 cI cZ ad) [.ref (ad 0), .int (nI r)] (n, us, cs, wr, so, ea, mu) (fun v σ' => v = cx_bI (cx_B (wr r = true ∨ cx_Wk n cs wr so ea r)) ∧ σ' = (n, us, cs, wr, so, ea, mu)) := by
  refine cx_ent (by decide) rfl (fun v σ' h => by rw [h.1]; exact cx_bI_nar _) (Nat.le_of_ble_eq_true rfl) ?_
  intro p e s m args below meth c ls Q A S hK hw hA hl ret
  have hx := S.1
  have hb := S.2.1
  have hts := S.2.2.2.2
  have hl : lv_has ls 4 [(0, .ref (ad 0)), (1, .int (nI r))] := hl
  have S : CallFix p m c cX0_isWeak 4 s args lw_all RX0 := S
  have hU := hV.1
  have hC := hV.2.1
  have hS := hV.2.2.1
  have hE := hV.2.2.2.1
  refine lv_aload_n hx hb dX0_isWeak_0 rfl (lv_at hl 0 rfl) ?_
  refine cx0_gW S hK hw dX0_isWeak_1 ?_
  refine lv_iload_n hx hb dX0_isWeak_4 rfl (lv_at hl 1 rfl) ?_
  refine cx0_aW S hK hw (by omega) dX0_isWeak_5 ?_
  refine cx_ifeq_b (tgt := 11) hx hb dX0_isWeak_6 (by decide) (fun h6 => ?_) (fun h6 => ?_)
  · refine lv_iconst (v := nI 0) hx hb dX0_isWeak_11 (by decide) ?_
    refine lv_istore_n (lv' := [(2, .int (nI 0)), (0, .ref (ad 0)), (1, .int (nI r))]) hx hb dX0_isWeak_12 rfl hl (by decide) rfl (fun ls hl => ?_)
    have L13 : ∀ (k : Nat) (w : Nat) (H : Heap) (locs : List Loc) (ls : Array Slot), n - w < k → w ≤ n → (∀ v, v < w → ¬ (wr v = true ∧ cs v = cs r ∧ (ea r).testBit v = true ∧ (so r = 8 ∨ (ea v).testBit (so r) = true))) → cx_H D cx_Cl (cx_w0 cI cZ ad (n, us, cs, wr, so, ea, mu)) A s.heap H locs → lv_has ls 4 [(2, .int (nI w)), (1, .int (nI r)), (0, .ref (ad 0))] → W p l e rm0_isWeak s m args below meth c H locs 0 0 Q (F0 m 13 ls []) := by
      intro k
      induction k with
      | zero => intro w H locs ls hme; exact absurd hme (Nat.not_lt_zero _)
      | succ k ihL13 =>
        intro w H locs ls hme hwn hi hw hl
        refine lv_iload_n hx hb dX0_isWeak_13 rfl (lv_at hl 0 rfl) ?_
        refine lv_aload_n hx hb dX0_isWeak_14 rfl (lv_at hl 2 rfl) ?_
        refine cx0_gn S hK hw dX0_isWeak_15 ?_
        refine cx_icmp_ge (tgt := 103) hx hb dX0_isWeak_18 (by decide) (by omega) (by omega) (fun h18 => ?_) (fun h18 => ?_)
        · refine lv_iconst (v := nI 1) hx hb dX0_isWeak_103 (by decide) ?_
          exact ret _ (n, us, cs, wr, so, ea, mu) _ _ _ _ dX0_isWeak_104 hw ⟨cx_j1 (cx_B_t (Or.inr (fun v hv => hi v (by omega)))), rfl⟩
        · have J63 : W p l e rm0_isWeak s m args below meth c H locs 0 0 Q (F0 m 63 ls [.int (cx_bI (wr w && decide (cs w = cs r) && (ea r).testBit w))]) := by
            refine lv_istore_n (lv' := [(3, .int (cx_bI (wr w && decide (cs w = cs r) && (ea r).testBit w))), (2, .int (nI w)), (1, .int (nI r)), (0, .ref (ad 0))]) hx hb dX0_isWeak_63 rfl hl (by decide) rfl (fun ls hl => ?_)
            refine lv_iload_n hx hb dX0_isWeak_64 rfl (lv_at hl 0 rfl) ?_
            refine cx_ifeq_b (tgt := 97) hx hb dX0_isWeak_65 (by decide) (fun h65 => ?_) (fun h65 => ?_)
            · refine lv_iinc (v := (nI (w + 1))) (lv' := [(2, .int (nI (w + 1))), (3, .int (cx_bI (wr w && decide (cs w = cs r) && (ea r).testBit w))), (1, .int (nI r)), (0, .ref (ad 0))]) hx hb dX0_isWeak_97 hl (k := 1) rfl (cx_inc1 _) (by decide) rfl (fun ls hl => ?_)
              refine lv_goto (tgt := 13) hx hb dX0_isWeak_100 (by decide) ?_
              exact ihL13 (w + 1) _ _ _ (by omega) (by omega) (lt_s hi (fun z => by rcases z with ⟨z1, z2, z3, z4⟩; simp [z1, z2, z3] at h65)) hw (lv_sub hl [0, 2, 3] rfl)
            · refine lv_aload_n hx hb dX0_isWeak_68 rfl (lv_at hl 3 rfl) ?_
              refine cx0_gS S hK hw dX0_isWeak_69 ?_
              refine lv_iload_n hx hb dX0_isWeak_72 rfl (lv_at hl 2 rfl) ?_
              refine cx0_aS S hK hw (by omega) dX0_isWeak_73 ?_
              have b73 := hS r
              refine cx_iflt_s (tgt := 95) hx hb dX0_isWeak_74 (by decide) (by omega) (fun h74 => ?_) (fun h74 => ?_)
              · refine lv_iconst (v := nI 0) hx hb dX0_isWeak_95 (by decide) ?_
                exact ret _ (n, us, cs, wr, so, ea, mu) _ _ _ _ dX0_isWeak_96 hw ⟨cx_j0 (cx_B_f (fun z => z.elim (fun z => by rw [h6] at z; cases z) (fun z => z w h18 (by simp at h65; exact ⟨h65.1.1, h65.1.2, h65.2, (Or.inl h74)⟩)))), rfl⟩
              · refine lv_aload_n hx hb dX0_isWeak_77 rfl (lv_at hl 3 rfl) ?_
                refine cx0_gE S hK hw dX0_isWeak_78 ?_
                refine lv_iload_n hx hb dX0_isWeak_81 rfl (lv_at hl 1 rfl) ?_
                refine cx0_aE S hK hw (by omega) dX0_isWeak_82 ?_
                have b82 := hE w
                refine lv_aload_n hx hb dX0_isWeak_83 rfl (lv_at hl 3 rfl) ?_
                refine cx0_gS S hK hw dX0_isWeak_84 ?_
                refine lv_iload_n hx hb dX0_isWeak_87 rfl (lv_at hl 2 rfl) ?_
                refine cx0_aS S hK hw (by omega) dX0_isWeak_88 ?_
                have b88 := hS r
                refine cx_top (cx_sI_n h74) ?_
                refine cx_iushr hx hb dX0_isWeak_89 (by omega) (by omega) ?_
                refine lv_iconst (v := nI 1) hx hb dX0_isWeak_90 (by decide) ?_
                refine cx_iand1 hx hb dX0_isWeak_91 ?_
                refine cx_ifeq_b (tgt := 97) hx hb dX0_isWeak_92 (by decide) (fun h92 => ?_) (fun h92 => ?_)
                · refine lv_iinc (v := (nI (w + 1))) (lv' := [(2, .int (nI (w + 1))), (3, .int (cx_bI (wr w && decide (cs w = cs r) && (ea r).testBit w))), (1, .int (nI r)), (0, .ref (ad 0))]) hx hb dX0_isWeak_97 hl (k := 1) rfl (cx_inc1 _) (by decide) rfl (fun ls hl => ?_)
                  refine lv_goto (tgt := 13) hx hb dX0_isWeak_100 (by decide) ?_
                  exact ihL13 (w + 1) _ _ _ (by omega) (by omega) (lt_s hi (fun z => z.2.2.2.elim h74 (fun y => by rw [h92] at y; cases y))) hw (lv_sub hl [0, 2, 3] rfl)
                · refine lv_iconst (v := nI 0) hx hb dX0_isWeak_95 (by decide) ?_
                  exact ret _ (n, us, cs, wr, so, ea, mu) _ _ _ _ dX0_isWeak_96 hw ⟨cx_j0 (cx_B_f (fun z => z.elim (fun z => by rw [h6] at z; cases z) (fun z => z w h18 (by simp at h65; exact ⟨h65.1.1, h65.1.2, h65.2, (Or.inr h92)⟩)))), rfl⟩
          refine lv_aload_n hx hb dX0_isWeak_21 rfl (lv_at hl 2 rfl) ?_
          refine cx0_gW S hK hw dX0_isWeak_22 ?_
          refine lv_iload_n hx hb dX0_isWeak_25 rfl (lv_at hl 0 rfl) ?_
          refine cx0_aW S hK hw (by omega) dX0_isWeak_26 ?_
          refine cx_ifeq_b (tgt := 62) hx hb dX0_isWeak_27 (by decide) (fun h27 => ?_) (fun h27 => ?_)
          · refine lv_iconst (v := nI 0) hx hb dX0_isWeak_62 (by decide) ?_
            exact cx_top (cx_j0 (by simp [h27])) J63
          · refine lv_aload_n hx hb dX0_isWeak_30 rfl (lv_at hl 2 rfl) ?_
            refine cx0_gC S hK hw dX0_isWeak_31 ?_
            refine lv_iload_n hx hb dX0_isWeak_34 rfl (lv_at hl 0 rfl) ?_
            refine cx0_aC S hK hw (by omega) dX0_isWeak_35 ?_
            have b35 := hC w
            refine lv_aload_n hx hb dX0_isWeak_36 rfl (lv_at hl 2 rfl) ?_
            refine cx0_gC S hK hw dX0_isWeak_37 ?_
            refine lv_iload_n hx hb dX0_isWeak_40 rfl (lv_at hl 1 rfl) ?_
            refine cx0_aC S hK hw (by omega) dX0_isWeak_41 ?_
            have b41 := hC r
            refine cx_icmp_ne (tgt := 62) hx hb dX0_isWeak_42 (by decide) (by omega) (by omega) (fun h42 => ?_) (fun h42 => ?_)
            · refine lv_iconst (v := nI 0) hx hb dX0_isWeak_62 (by decide) ?_
              exact cx_top (cx_j0 (by simp [h27, h42])) J63
            · refine lv_aload_n hx hb dX0_isWeak_45 rfl (lv_at hl 2 rfl) ?_
              refine cx0_gE S hK hw dX0_isWeak_46 ?_
              refine lv_iload_n hx hb dX0_isWeak_49 rfl (lv_at hl 1 rfl) ?_
              refine cx0_aE S hK hw (by omega) dX0_isWeak_50 ?_
              have b50 := hE r
              refine lv_iload_n hx hb dX0_isWeak_51 rfl (lv_at hl 0 rfl) ?_
              refine cx_iushr hx hb dX0_isWeak_52 (by omega) (by omega) ?_
              refine lv_iconst (v := nI 1) hx hb dX0_isWeak_53 (by decide) ?_
              refine cx_iand1 hx hb dX0_isWeak_54 ?_
              refine cx_ifeq_b (tgt := 62) hx hb dX0_isWeak_55 (by decide) (fun h55 => ?_) (fun h55 => ?_)
              · refine lv_iconst (v := nI 0) hx hb dX0_isWeak_62 (by decide) ?_
                exact cx_top (cx_j0 (by simp [h27, h42, h55])) J63
              · refine lv_iconst (v := nI 1) hx hb dX0_isWeak_58 (by decide) ?_
                refine lv_goto (tgt := 63) hx hb dX0_isWeak_59 (by decide) ?_
                exact cx_top (cx_j1 (by simp [h27, h42, h55])) J63
    exact L13 _ 0 _ _ _ (Nat.lt_succ_self _) (by omega) lt_0 hw (lv_sub hl [0, 2, 1] rfl)
  · refine lv_iconst (v := nI 1) hx hb dX0_isWeak_9 (by decide) ?_
    exact ret _ (n, us, cs, wr, so, ea, mu) _ _ _ _ dX0_isWeak_10 hw ⟨cx_j1 (cx_B_t (Or.inl h6)), rfl⟩
end
section
/-! CausalCheck: enter, pushBefore, close, hasRing, comesTooLate (printed by gen/x0b.py) -/
abbrev rm0_enter : Room := { frames := 0, cells := 0, slots := 0, locals := 0 }
set_option maxHeartbeats 4000000 in
set_option maxRecDepth 100000 in
/-- enter(u, d, x, t) -/
theorem k0_enter (l : Launch) (D : va_G) (cI cZ : ClassId) (ad : Nat → Nat) {n : Nat} {us cs : Nat → Nat} {wr : Nat → Bool} {so ea mu : Nat → Nat} (hn : n ≤ 7) (hU : ∀ a, us a < 3) {u d t : Nat} {x : Bool} (hu : u < 3) (ht : t ≤ 8) : cx_Kv l yX0_enter cX0_enter 6 rm0_enter D cI cZ (cx_w0 cI cZ ad) [.ref (ad 0), .int (nI u), .int (nI d), .int (cx_bI x), .int (cx_sI t)] (n, us, cs, wr, so, ea, mu) (fun σ' => σ' = (n + 1, va_up us n u, va_up cs n d, va_up wr n x, va_up so n t, va_up ea n (cx_en us ea u t n), mu)) := by
  refine cx_entv (by decide) (Nat.le_of_ble_eq_true rfl) ?_
  intro p e s m args below meth c ls Q A S hK hw hA hl ret
  have hx := S.1
  have hb := S.2.1
  have hts := S.2.2.2.2
  have hl : lv_has ls 6 [(0, .ref (ad 0)), (1, .int (nI u)), (2, .int (nI d)), (3, .int (cx_bI x)), (4, .int (cx_sI t))] := hl
  have S : CallFix p m c cX0_enter 6 s args lw_all RX0 := S
  refine lv_aload_n hx hb dX0_enter_0 rfl (lv_at hl 0 rfl) ?_
  refine cx0_gU S hK hw dX0_enter_1 ?_
  refine lv_aload_n hx hb dX0_enter_4 rfl (lv_at hl 0 rfl) ?_
  refine cx0_gn S hK hw dX0_enter_5 ?_
  refine lv_iload_n hx hb dX0_enter_8 rfl (lv_at hl 1 rfl) ?_
  refine cx0_sU S hK hw (by omega) dX0_enter_9 (fun H locs hw => ?_)
  refine lv_aload_n hx hb dX0_enter_10 rfl (lv_at hl 0 rfl) ?_
  refine cx0_gC S hK hw dX0_enter_11 ?_
  refine lv_aload_n hx hb dX0_enter_14 rfl (lv_at hl 0 rfl) ?_
  refine cx0_gn S hK hw dX0_enter_15 ?_
  refine lv_iload_n hx hb dX0_enter_18 rfl (lv_at hl 2 rfl) ?_
  refine cx0_sC S hK hw (by omega) dX0_enter_19 (fun H locs hw => ?_)
  refine lv_aload_n hx hb dX0_enter_20 rfl (lv_at hl 0 rfl) ?_
  refine cx0_gW S hK hw dX0_enter_21 ?_
  refine lv_aload_n hx hb dX0_enter_24 rfl (lv_at hl 0 rfl) ?_
  refine cx0_gn S hK hw dX0_enter_25 ?_
  refine lv_iload_n hx hb dX0_enter_28 rfl (lv_at hl 3 rfl) ?_
  refine cx0_sW S hK hw (by omega) dX0_enter_29 (fun H locs hw => ?_)
  refine lv_aload_n hx hb dX0_enter_30 rfl (lv_at hl 0 rfl) ?_
  refine cx0_gS S hK hw dX0_enter_31 ?_
  refine lv_aload_n hx hb dX0_enter_34 rfl (lv_at hl 0 rfl) ?_
  refine cx0_gn S hK hw dX0_enter_35 ?_
  refine lv_iload hx hb dX0_enter_38 (lv_at hl 4 rfl) ?_
  refine cx0_sS S hK hw (by omega) dX0_enter_40 (fun H locs hw => ?_)
  refine lv_aload_n hx hb dX0_enter_41 rfl (lv_at hl 0 rfl) ?_
  refine cx0_gE S hK hw dX0_enter_42 ?_
  refine lv_aload_n hx hb dX0_enter_45 rfl (lv_at hl 0 rfl) ?_
  refine cx0_gn S hK hw dX0_enter_46 ?_
  refine lv_iconst (v := nI 0) hx hb dX0_enter_49 (by decide) ?_
  refine cx0_sE S hK hw (by omega) dX0_enter_50 (fun H locs hw => ?_)
  refine lv_iconst (v := nI 0) hx hb dX0_enter_51 (by decide) ?_
  refine lv_istore (lv' := [(5, .int (nI 0)), (0, .ref (ad 0)), (1, .int (nI u)), (2, .int (nI d)), (3, .int (cx_bI x)), (4, .int (cx_sI t))]) hx hb dX0_enter_52 hl (by decide) rfl (fun ls hl => ?_)
  have L54 : ∀ (k : Nat) (o : Nat) (H : Heap) (locs : List Loc) (ls : Array Slot), n - o < k → o ≤ n → cx_H D cx_Cl (cx_w0 cI cZ ad (n, (va_up us n u), (va_up cs n d), (va_up wr n x), (va_up so n t), (va_up ea n (cx_en us ea u t o)), mu)) A s.heap H locs → lv_has ls 6 [(5, .int (nI o)), (4, .int (cx_sI t)), (3, .int (cx_bI x)), (2, .int (nI d)), (1, .int (nI u)), (0, .ref (ad 0))] → W p l e rm0_enter s m args below meth c H locs 0 0 Q (F0 m 54 ls []) := by
    intro k
    induction k with
    | zero => intro o H locs ls hme; exact absurd hme (Nat.not_lt_zero _)
    | succ k ihL54 =>
      intro o H locs ls hme hon hw hl
      refine lv_iload hx hb dX0_enter_54 (lv_at hl 0 rfl) ?_
      refine lv_aload_n hx hb dX0_enter_56 rfl (lv_at hl 5 rfl) ?_
      refine cx0_gn S hK hw dX0_enter_57 ?_
      refine cx_icmp_ge (tgt := 111) hx hb dX0_enter_60 (by decide) (by omega) (by omega) (fun h60 => ?_) (fun h60 => ?_)
      · have e111 : o = n := by omega
        rw [e111] at hw
        refine lv_aload_n hx hb dX0_enter_111 rfl (lv_at hl 5 rfl) ?_
        refine lv_dup hx hb dX0_enter_112 rfl ?_
        refine cx0_gn S hK hw dX0_enter_113 ?_
        refine lv_iconst (v := nI 1) hx hb dX0_enter_116 (by decide) ?_
        refine cx_iadd hx hb dX0_enter_117 ?_
        refine cx0_pn S hK hw dX0_enter_118 (fun H locs hw => ?_)
        exact ret ((n + 1), (va_up us n u), (va_up cs n d), (va_up wr n x), (va_up so n t), (va_up ea n (cx_en us ea u t n)), mu) _ _ _ _ dX0_enter_121 hw (rfl)
      · refine lv_aload_n hx hb dX0_enter_63 rfl (lv_at hl 5 rfl) ?_
        refine cx0_gU S hK hw dX0_enter_64 ?_
        refine lv_iload hx hb dX0_enter_67 (lv_at hl 0 rfl) ?_
        refine cx0_aU S hK hw (by omega) dX0_enter_69 ?_
        refine cx_top (congrArg nI (va_up_ne _ _ (by omega))) ?_
        have b69 := hU o
        refine lv_iload_n hx hb dX0_enter_70 rfl (lv_at hl 4 rfl) ?_
        refine cx_icmp_eq (tgt := 81) hx hb dX0_enter_71 (by decide) (by omega) (by omega) (fun h71 => ?_) (fun h71 => ?_)
        · refine lv_aload_n hx hb dX0_enter_81 rfl (lv_at hl 5 rfl) ?_
          refine cx0_gE S hK hw dX0_enter_82 ?_
          refine lv_aload_n hx hb dX0_enter_85 rfl (lv_at hl 5 rfl) ?_
          refine cx0_gn S hK hw dX0_enter_86 ?_
          refine lv_dup2_11 hx hb dX0_enter_89 rfl rfl ?_
          refine cx0_aE S hK hw (by omega) dX0_enter_90 ?_
          refine cx_top (congrArg nI (va_up_self _ _ _)) ?_
          refine lv_iconst (v := nI 1) hx hb dX0_enter_91 (by decide) ?_
          refine lv_iload hx hb dX0_enter_92 (lv_at hl 0 rfl) ?_
          refine cx_ishl hx hb dX0_enter_94 (by omega) ?_
          refine lv_aload_n hx hb dX0_enter_95 rfl (lv_at hl 5 rfl) ?_
          refine cx0_gE S hK hw dX0_enter_96 ?_
          refine lv_iload hx hb dX0_enter_99 (lv_at hl 0 rfl) ?_
          refine cx0_aE S hK hw (by omega) dX0_enter_101 ?_
          refine cx_top (congrArg nI (va_up_ne _ _ (by omega))) ?_
          refine cx_ior hx hb dX0_enter_102 ?_
          refine cx_ior hx hb dX0_enter_103 ?_
          refine cx0_sE S hK hw (by omega) dX0_enter_104 (fun H locs hw => ?_)
          rw [bx_uu] at hw
          rw [← (if_pos (Or.inl h71) : cx_en us ea u t (o + 1) = _)] at hw
          refine lv_iinc (v := (nI (o + 1))) (lv' := [(5, .int (nI (o + 1))), (4, .int (cx_sI t)), (3, .int (cx_bI x)), (2, .int (nI d)), (1, .int (nI u)), (0, .ref (ad 0))]) hx hb dX0_enter_105 hl (k := 0) rfl (cx_inc1 _) (by decide) rfl (fun ls hl => ?_)
          refine lv_goto (tgt := 54) hx hb dX0_enter_108 (by decide) ?_
          exact ihL54 (o + 1) _ _ _ (by omega) (by omega) hw (lv_sub hl [0, 1, 2, 3, 4, 5] rfl)
        · refine lv_iload hx hb dX0_enter_74 (lv_at hl 0 rfl) ?_
          refine lv_iload hx hb dX0_enter_76 (lv_at hl 1 rfl) ?_
          refine cx_icmp_ne_s (tgt := 105) hx hb dX0_enter_78 (by decide) (by omega) (by omega) (fun h78 => ?_) (fun h78 => ?_)
          · rw [← (if_neg (fun z => z.elim h71 h78) : cx_en us ea u t (o + 1) = _)] at hw
            refine lv_iinc (v := (nI (o + 1))) (lv' := [(5, .int (nI (o + 1))), (4, .int (cx_sI t)), (3, .int (cx_bI x)), (2, .int (nI d)), (1, .int (nI u)), (0, .ref (ad 0))]) hx hb dX0_enter_105 hl (k := 0) rfl (cx_inc1 _) (by decide) rfl (fun ls hl => ?_)
            refine lv_goto (tgt := 54) hx hb dX0_enter_108 (by decide) ?_
            exact ihL54 (o + 1) _ _ _ (by omega) (by omega) hw (lv_sub hl [0, 1, 2, 3, 4, 5] rfl)
          · refine lv_aload_n hx hb dX0_enter_81 rfl (lv_at hl 5 rfl) ?_
            refine cx0_gE S hK hw dX0_enter_82 ?_
            refine lv_aload_n hx hb dX0_enter_85 rfl (lv_at hl 5 rfl) ?_
            refine cx0_gn S hK hw dX0_enter_86 ?_
            refine lv_dup2_11 hx hb dX0_enter_89 rfl rfl ?_
            refine cx0_aE S hK hw (by omega) dX0_enter_90 ?_
            refine cx_top (congrArg nI (va_up_self _ _ _)) ?_
            refine lv_iconst (v := nI 1) hx hb dX0_enter_91 (by decide) ?_
            refine lv_iload hx hb dX0_enter_92 (lv_at hl 0 rfl) ?_
            refine cx_ishl hx hb dX0_enter_94 (by omega) ?_
            refine lv_aload_n hx hb dX0_enter_95 rfl (lv_at hl 5 rfl) ?_
            refine cx0_gE S hK hw dX0_enter_96 ?_
            refine lv_iload hx hb dX0_enter_99 (lv_at hl 0 rfl) ?_
            refine cx0_aE S hK hw (by omega) dX0_enter_101 ?_
            refine cx_top (congrArg nI (va_up_ne _ _ (by omega))) ?_
            refine cx_ior hx hb dX0_enter_102 ?_
            refine cx_ior hx hb dX0_enter_103 ?_
            refine cx0_sE S hK hw (by omega) dX0_enter_104 (fun H locs hw => ?_)
            rw [bx_uu] at hw
            rw [← (if_pos (Or.inr h78) : cx_en us ea u t (o + 1) = _)] at hw
            refine lv_iinc (v := (nI (o + 1))) (lv' := [(5, .int (nI (o + 1))), (4, .int (cx_sI t)), (3, .int (cx_bI x)), (2, .int (nI d)), (1, .int (nI u)), (0, .ref (ad 0))]) hx hb dX0_enter_105 hl (k := 0) rfl (cx_inc1 _) (by decide) rfl (fun ls hl => ?_)
            refine lv_goto (tgt := 54) hx hb dX0_enter_108 (by decide) ?_
            exact ihL54 (o + 1) _ _ _ (by omega) (by omega) hw (lv_sub hl [0, 1, 2, 3, 4, 5] rfl)
  exact L54 _ 0 _ _ _ (Nat.lt_succ_self _) (by omega) hw (lv_sub hl [0, 5, 4, 3, 2, 1] rfl)
abbrev rm0_pushBefore : Room := { frames := 0, cells := 0, slots := 0, locals := 0 }
set_option maxHeartbeats 4000000 in
set_option maxRecDepth 100000 in
/-- pushBefore(r, past) -/
theorem k0_pushBefore (l : Launch) (D : va_G) (cI cZ : ClassId) (ad : Nat → Nat) {n : Nat} {us cs : Nat → Nat} {wr : Nat → Bool} {so ea mu : Nat → Nat} (hV : cx_Va n us cs wr so ea) (hn : n ≤ 8) {r past : Nat} (hr : r < n) (hw0 : wr r = false) (hs : so r ≠ 8) (hp : past < 256) (hM : ∀ a, a < n → mu a < 256) : cx_Ki l yX0_pushBefore cX0_pushBefore 7 (some .boolean) rm0_pushBefore D cI cZ (cx_w0 cI cZ ad) [.ref (ad 0), .int (nI r), .int (nI past)] (n, us, cs, wr, so, ea, mu) (fun v σ' => v = cx_bI (decide (cx_pb cs wr past r (so r) mu n ≠ mu (so r))) ∧ σ' = (n, us, cs, wr, so, ea, va_up mu (so r) (cx_pb cs wr past r (so r) mu n))) := by
  refine cx_ent (by decide) rfl (fun v σ' h => by rw [h.1]; exact cx_bI_nar _) (Nat.le_of_ble_eq_true rfl) ?_
  intro p e s m args below meth c ls Q A S hK hw hA hl ret
  have hx := S.1
  have hb := S.2.1
  have hts := S.2.2.2.2
  have hl : lv_has ls 7 [(0, .ref (ad 0)), (1, .int (nI r)), (2, .int (nI past))] := hl
  have S : CallFix p m c cX0_pushBefore 7 s args lw_all RX0 := S
  have hU := hV.1
  have hC := hV.2.1
  have hS := hV.2.2.1
  have hE := hV.2.2.2.1
  have hsr : so r < r := (hV.2.2.2.2.2.2.2 r hr hw0).elim (fun z => absurd z hs) (fun z => z.1)
  refine lv_aload_n hx hb dX0_pushBefore_0 rfl (lv_at hl 0 rfl) ?_
  refine cx0_gS S hK hw dX0_pushBefore_1 ?_
  refine lv_iload_n hx hb dX0_pushBefore_4 rfl (lv_at hl 1 rfl) ?_
  refine cx0_aS S hK hw (by omega) dX0_pushBefore_5 ?_
  have b5 := hS r
  refine cx_top (cx_sI_n hs) ?_
  refine lv_istore_n (lv' := [(3, .int (nI (so r))), (0, .ref (ad 0)), (1, .int (nI r)), (2, .int (nI past))]) hx hb dX0_pushBefore_6 rfl hl (by decide) rfl (fun ls hl => ?_)
  refine lv_aload_n hx hb dX0_pushBefore_7 rfl (lv_at hl 1 rfl) ?_
  refine cx0_gM S hK hw dX0_pushBefore_8 ?_
  refine lv_iload_n hx hb dX0_pushBefore_11 rfl (lv_at hl 0 rfl) ?_
  refine cx0_aM S hK hw (by omega) dX0_pushBefore_12 ?_
  have b12 := hM (so r) (by omega)
  refine lv_istore (lv' := [(4, .int (nI (mu (so r)))), (3, .int (nI (so r))), (0, .ref (ad 0)), (1, .int (nI r)), (2, .int (nI past))]) hx hb dX0_pushBefore_13 hl (by decide) rfl (fun ls hl => ?_)
  refine lv_iconst (v := nI 0) hx hb dX0_pushBefore_15 (by decide) ?_
  refine lv_istore (lv' := [(5, .int (nI 0)), (4, .int (nI (mu (so r)))), (3, .int (nI (so r))), (0, .ref (ad 0)), (1, .int (nI r)), (2, .int (nI past))]) hx hb dX0_pushBefore_16 hl (by decide) rfl (fun ls hl => ?_)
  have L18 : ∀ (k : Nat) (w : Nat) (H : Heap) (locs : List Loc) (ls : Array Slot), n - w < k → w ≤ n → cx_H D cx_Cl (cx_w0 cI cZ ad (n, us, cs, wr, so, ea, (va_up mu (so r) (cx_pb cs wr past r (so r) mu w)))) A s.heap H locs → lv_has ls 7 [(5, .int (nI w)), (4, .int (nI (mu (so r)))), (3, .int (nI (so r))), (2, .int (nI past)), (1, .int (nI r)), (0, .ref (ad 0))] → W p l e rm0_pushBefore s m args below meth c H locs 0 0 Q (F0 m 18 ls []) := by
    intro k
    induction k with
    | zero => intro w H locs ls hme; exact absurd hme (Nat.not_lt_zero _)
    | succ k ihL18 =>
      intro w H locs ls hme hwn hw hl
      refine lv_iload hx hb dX0_pushBefore_18 (lv_at hl 0 rfl) ?_
      refine lv_aload_n hx hb dX0_pushBefore_20 rfl (lv_at hl 5 rfl) ?_
      refine cx0_gn S hK hw dX0_pushBefore_21 ?_
      refine cx_icmp_ge (tgt := 113) hx hb dX0_pushBefore_24 (by decide) (by omega) (by omega) (fun h24 => ?_) (fun h24 => ?_)
      · have e113 : w = n := by omega
        rw [e113] at hw
        have b113 := hM (so r) (by omega)
        have c113 := cx_pb_lt (cs := cs) (wr := wr) (past := past) (r := r) (k := n) b113 hn
        refine lv_aload_n hx hb dX0_pushBefore_113 rfl (lv_at hl 5 rfl) ?_
        refine cx0_gM S hK hw dX0_pushBefore_114 ?_
        refine lv_iload_n hx hb dX0_pushBefore_117 rfl (lv_at hl 2 rfl) ?_
        refine cx0_aM S hK hw (by omega) dX0_pushBefore_118 ?_
        refine cx_top (congrArg nI (va_up_self _ _ _)) ?_
        refine lv_iload hx hb dX0_pushBefore_119 (lv_at hl 1 rfl) ?_
        refine cx_icmp_eq (tgt := 128) hx hb dX0_pushBefore_121 (by decide) (by omega) (by omega) (fun h121 => ?_) (fun h121 => ?_)
        · refine lv_iconst (v := nI 0) hx hb dX0_pushBefore_128 (by decide) ?_
          exact ret _ (n, us, cs, wr, so, ea, (va_up mu (so r) (cx_pb cs wr past r (so r) mu n))) _ _ _ _ dX0_pushBefore_129 hw ⟨cx_j0 (decide_eq_false (fun z => z h121)), rfl⟩
        · refine lv_iconst (v := nI 1) hx hb dX0_pushBefore_124 (by decide) ?_
          refine lv_goto (tgt := 129) hx hb dX0_pushBefore_125 (by decide) ?_
          exact ret _ (n, us, cs, wr, so, ea, (va_up mu (so r) (cx_pb cs wr past r (so r) mu n))) _ _ _ _ dX0_pushBefore_129 hw ⟨cx_j1 (decide_eq_true h121), rfl⟩
      · have J73 : W p l e rm0_pushBefore s m args below meth c H locs 0 0 Q (F0 m 73 ls [.int (cx_bI (decide (w ≠ so r) && wr w && decide (cs w = cs r) && past.testBit w))]) := by
          refine lv_istore (lv' := [(6, .int (cx_bI (decide (w ≠ so r) && wr w && decide (cs w = cs r) && past.testBit w))), (5, .int (nI w)), (4, .int (nI (mu (so r)))), (3, .int (nI (so r))), (2, .int (nI past)), (1, .int (nI r)), (0, .ref (ad 0))]) hx hb dX0_pushBefore_73 hl (by decide) rfl (fun ls hl => ?_)
          refine lv_iload hx hb dX0_pushBefore_75 (lv_at hl 0 rfl) ?_
          refine cx_ifeq_b (tgt := 107) hx hb dX0_pushBefore_77 (by decide) (fun h77 => ?_) (fun h77 => ?_)
          · rw [← (if_neg (fun z => by simp [z.1, z.2.1, z.2.2.1, z.2.2.2.1] at h77) : cx_pb cs wr past r (so r) mu (w + 1) = _)] at hw
            refine lv_iinc (v := (nI (w + 1))) (lv' := [(5, .int (nI (w + 1))), (6, .int (cx_bI (decide (w ≠ so r) && wr w && decide (cs w = cs r) && past.testBit w))), (4, .int (nI (mu (so r)))), (3, .int (nI (so r))), (2, .int (nI past)), (1, .int (nI r)), (0, .ref (ad 0))]) hx hb dX0_pushBefore_107 hl (k := 1) rfl (cx_inc1 _) (by decide) rfl (fun ls hl => ?_)
            refine lv_goto (tgt := 18) hx hb dX0_pushBefore_110 (by decide) ?_
            exact ihL18 (w + 1) _ _ _ (by omega) (by omega) hw (lv_sub hl [0, 2, 3, 4, 5, 6] rfl)
          · refine lv_aload_n hx hb dX0_pushBefore_80 rfl (lv_at hl 6 rfl) ?_
            refine cx0_gM S hK hw dX0_pushBefore_81 ?_
            refine lv_iload_n hx hb dX0_pushBefore_84 rfl (lv_at hl 5 rfl) ?_
            refine cx0_aM S hK hw (by omega) dX0_pushBefore_85 ?_
            refine cx_top (congrArg nI (va_up_ne _ _ (by omega))) ?_
            have b85 := hM r (by omega)
            refine lv_iload hx hb dX0_pushBefore_86 (lv_at hl 1 rfl) ?_
            refine cx_iushr hx hb dX0_pushBefore_88 (by omega) (by omega) ?_
            refine lv_iconst (v := nI 1) hx hb dX0_pushBefore_89 (by decide) ?_
            refine cx_iand1 hx hb dX0_pushBefore_90 ?_
            refine cx_ifeq_b (tgt := 107) hx hb dX0_pushBefore_91 (by decide) (fun h91 => ?_) (fun h91 => ?_)
            · rw [← (if_neg (fun z => by have z9 := z.2.2.2.2; rw [h91] at z9; cases z9) : cx_pb cs wr past r (so r) mu (w + 1) = _)] at hw
              refine lv_iinc (v := (nI (w + 1))) (lv' := [(5, .int (nI (w + 1))), (6, .int (cx_bI (decide (w ≠ so r) && wr w && decide (cs w = cs r) && past.testBit w))), (4, .int (nI (mu (so r)))), (3, .int (nI (so r))), (2, .int (nI past)), (1, .int (nI r)), (0, .ref (ad 0))]) hx hb dX0_pushBefore_107 hl (k := 1) rfl (cx_inc1 _) (by decide) rfl (fun ls hl => ?_)
              refine lv_goto (tgt := 18) hx hb dX0_pushBefore_110 (by decide) ?_
              exact ihL18 (w + 1) _ _ _ (by omega) (by omega) hw (lv_sub hl [0, 2, 3, 4, 5, 6] rfl)
            · refine lv_aload_n hx hb dX0_pushBefore_94 rfl (lv_at hl 6 rfl) ?_
              refine cx0_gM S hK hw dX0_pushBefore_95 ?_
              refine lv_iload_n hx hb dX0_pushBefore_98 rfl (lv_at hl 3 rfl) ?_
              refine lv_dup2_11 hx hb dX0_pushBefore_99 rfl rfl ?_
              refine cx0_aM S hK hw (by omega) dX0_pushBefore_100 ?_
              refine cx_top (congrArg nI (va_up_self _ _ _)) ?_
              refine lv_iconst (v := nI 1) hx hb dX0_pushBefore_101 (by decide) ?_
              refine lv_iload hx hb dX0_pushBefore_102 (lv_at hl 1 rfl) ?_
              refine cx_ishl hx hb dX0_pushBefore_104 (by omega) ?_
              refine cx_ior hx hb dX0_pushBefore_105 ?_
              refine cx0_sM S hK hw (by omega) dX0_pushBefore_106 (fun H locs hw => ?_)
              rw [bx_uu] at hw
              rw [← (if_pos (by simp at h77; exact ⟨h77.1.1.1, h77.1.1.2, h77.1.2, h77.2, h91⟩) : cx_pb cs wr past r (so r) mu (w + 1) = _)] at hw
              refine lv_iinc (v := (nI (w + 1))) (lv' := [(5, .int (nI (w + 1))), (6, .int (cx_bI (decide (w ≠ so r) && wr w && decide (cs w = cs r) && past.testBit w))), (4, .int (nI (mu (so r)))), (3, .int (nI (so r))), (2, .int (nI past)), (1, .int (nI r)), (0, .ref (ad 0))]) hx hb dX0_pushBefore_107 hl (k := 1) rfl (cx_inc1 _) (by decide) rfl (fun ls hl => ?_)
              refine lv_goto (tgt := 18) hx hb dX0_pushBefore_110 (by decide) ?_
              exact ihL18 (w + 1) _ _ _ (by omega) (by omega) hw (lv_sub hl [0, 2, 3, 4, 5, 6] rfl)
        refine lv_iload hx hb dX0_pushBefore_27 (lv_at hl 0 rfl) ?_
        refine lv_iload_n hx hb dX0_pushBefore_29 rfl (lv_at hl 2 rfl) ?_
        refine cx_icmp_eq (tgt := 72) hx hb dX0_pushBefore_30 (by decide) (by omega) (by omega) (fun h30 => ?_) (fun h30 => ?_)
        · refine lv_iconst (v := nI 0) hx hb dX0_pushBefore_72 (by decide) ?_
          exact cx_top (cx_j0 (by simp [h30])) J73
        · refine lv_aload_n hx hb dX0_pushBefore_33 rfl (lv_at hl 5 rfl) ?_
          refine cx0_gW S hK hw dX0_pushBefore_34 ?_
          refine lv_iload hx hb dX0_pushBefore_37 (lv_at hl 0 rfl) ?_
          refine cx0_aW S hK hw (by omega) dX0_pushBefore_39 ?_
          refine cx_ifeq_b (tgt := 72) hx hb dX0_pushBefore_40 (by decide) (fun h40 => ?_) (fun h40 => ?_)
          · refine lv_iconst (v := nI 0) hx hb dX0_pushBefore_72 (by decide) ?_
            exact cx_top (cx_j0 (by simp [h30, h40])) J73
          · refine lv_aload_n hx hb dX0_pushBefore_43 rfl (lv_at hl 5 rfl) ?_
            refine cx0_gC S hK hw dX0_pushBefore_44 ?_
            refine lv_iload hx hb dX0_pushBefore_47 (lv_at hl 0 rfl) ?_
            refine cx0_aC S hK hw (by omega) dX0_pushBefore_49 ?_
            have b49 := hC w
            refine lv_aload_n hx hb dX0_pushBefore_50 rfl (lv_at hl 5 rfl) ?_
            refine cx0_gC S hK hw dX0_pushBefore_51 ?_
            refine lv_iload_n hx hb dX0_pushBefore_54 rfl (lv_at hl 4 rfl) ?_
            refine cx0_aC S hK hw (by omega) dX0_pushBefore_55 ?_
            have b55 := hC r
            refine cx_icmp_ne (tgt := 72) hx hb dX0_pushBefore_56 (by decide) (by omega) (by omega) (fun h56 => ?_) (fun h56 => ?_)
            · refine lv_iconst (v := nI 0) hx hb dX0_pushBefore_72 (by decide) ?_
              exact cx_top (cx_j0 (by simp [h30, h40, h56])) J73
            · refine lv_iload_n hx hb dX0_pushBefore_59 rfl (lv_at hl 3 rfl) ?_
              refine lv_iload hx hb dX0_pushBefore_60 (lv_at hl 0 rfl) ?_
              refine cx_iushr hx hb dX0_pushBefore_62 (by omega) (by omega) ?_
              refine lv_iconst (v := nI 1) hx hb dX0_pushBefore_63 (by decide) ?_
              refine cx_iand1 hx hb dX0_pushBefore_64 ?_
              refine cx_ifeq_b (tgt := 72) hx hb dX0_pushBefore_65 (by decide) (fun h65 => ?_) (fun h65 => ?_)
              · refine lv_iconst (v := nI 0) hx hb dX0_pushBefore_72 (by decide) ?_
                exact cx_top (cx_j0 (by simp [h30, h40, h56, h65])) J73
              · refine lv_iconst (v := nI 1) hx hb dX0_pushBefore_68 (by decide) ?_
                refine lv_goto (tgt := 73) hx hb dX0_pushBefore_69 (by decide) ?_
                exact cx_top (cx_j1 (by simp [h30, h40, h56, h65])) J73
  rw [← cx_up_self mu (so r)] at hw
  exact L18 _ 0 _ _ _ (Nat.lt_succ_self _) (by omega) hw (lv_sub hl [0, 1, 2, 5, 4, 3] rfl)
abbrev rm0_close : Room := { frames := 0, cells := 0, slots := 0, locals := 0 }
set_option maxHeartbeats 4000000 in
set_option maxRecDepth 100000 in
/-- close(q) -/
theorem k0_close (l : Launch) (D : va_G) (cI cZ : ClassId) (ad : Nat → Nat) {n : Nat} {us cs : Nat → Nat} {wr : Nat → Bool} {so ea mu : Nat → Nat} (hn : n ≤ 8) {q : Nat} (hq : q < 256) (hM : ∀ a, a < n → mu a < 256) : cx_Ki l yX0_close cX0_close 5 (some .boolean) rm0_close D cI cZ (cx_w0 cI cZ ad) [.ref (ad 0), .int (nI q)] (n, us, cs, wr, so, ea, mu) (fun v σ' => v = cx_bI (cx_cl q n mu).2 ∧ σ' = (n, us, cs, wr, so, ea, (cx_cl q n mu).1)) := by
  refine cx_ent (by decide) rfl (fun v σ' h => by rw [h.1]; exact cx_bI_nar _) (Nat.le_of_ble_eq_true rfl) ?_
  intro p e s m args below meth c ls Q A S hK hw hA hl ret
  have hx := S.1
  have hb := S.2.1
  have hts := S.2.2.2.2
  have hl : lv_has ls 5 [(0, .ref (ad 0)), (1, .int (nI q))] := hl
  have S : CallFix p m c cX0_close 5 s args lw_all RX0 := S
  refine lv_iconst (v := nI 0) hx hb dX0_close_0 (by decide) ?_
  refine cx_top (y := cx_bI false) (by decide) ?_
  refine lv_istore_n (lv' := [(2, .int (cx_bI false)), (0, .ref (ad 0)), (1, .int (nI q))]) hx hb dX0_close_1 rfl hl (by decide) rfl (fun ls hl => ?_)
  refine lv_iconst (v := nI 0) hx hb dX0_close_2 (by decide) ?_
  refine lv_istore_n (lv' := [(3, .int (nI 0)), (2, .int (cx_bI false)), (0, .ref (ad 0)), (1, .int (nI q))]) hx hb dX0_close_3 rfl hl (by decide) rfl (fun ls hl => ?_)
  have L4 : ∀ (k : Nat) (a : Nat) (M : Nat → Nat) (ch : Bool) (H : Heap) (locs : List Loc) (ls : Array Slot), n - a < k → a ≤ n → cx_cO q n a (mu, false) = (M, ch) → (∀ x, x < n → M x < 256) → cx_H D cx_Cl (cx_w0 cI cZ ad (n, us, cs, wr, so, ea, M)) A s.heap H locs → lv_has ls 5 [(3, .int (nI a)), (2, .int (cx_bI ch)), (1, .int (nI q)), (0, .ref (ad 0))] → W p l e rm0_close s m args below meth c H locs 0 0 Q (F0 m 4 ls []) := by
    intro k
    induction k with
    | zero => intro a M ch H locs ls hme; exact absurd hme (Nat.not_lt_zero _)
    | succ k ihL4 =>
      intro a M ch H locs ls hme han hQ hB hw hl
      refine lv_iload_n hx hb dX0_close_4 rfl (lv_at hl 0 rfl) ?_
      refine lv_aload_n hx hb dX0_close_5 rfl (lv_at hl 3 rfl) ?_
      refine cx0_gn S hK hw dX0_close_6 ?_
      refine cx_icmp_ge (tgt := 95) hx hb dX0_close_9 (by decide) (by omega) (by omega) (fun h9 => ?_) (fun h9 => ?_)
      · refine lv_iload_n hx hb dX0_close_95 rfl (lv_at hl 1 rfl) ?_
        have e95 : a = n := by omega
        rw [e95] at hQ
        exact ret _ (n, us, cs, wr, so, ea, M) _ _ _ _ dX0_close_96 hw ⟨by unfold cx_cl; rw [hQ], by unfold cx_cl; rw [hQ]⟩
      · refine lv_iconst (v := nI 0) hx hb dX0_close_12 (by decide) ?_
        refine lv_istore (lv' := [(4, .int (nI 0)), (3, .int (nI a)), (2, .int (cx_bI ch)), (1, .int (nI q)), (0, .ref (ad 0))]) hx hb dX0_close_13 hl (by decide) rfl (fun ls hl => ?_)
        have L15 : ∀ (j : Nat) (b : Nat) (M : Nat → Nat) (ch : Bool) (H : Heap) (locs : List Loc) (ls : Array Slot), n - b < j → b ≤ n → cx_cI q a b (cx_cO q n a (mu, false)) = (M, ch) → (∀ x, x < n → M x < 256) → cx_H D cx_Cl (cx_w0 cI cZ ad (n, us, cs, wr, so, ea, M)) A s.heap H locs → lv_has ls 5 [(4, .int (nI b)), (3, .int (nI a)), (2, .int (cx_bI ch)), (1, .int (nI q)), (0, .ref (ad 0))] → W p l e rm0_close s m args below meth c H locs 0 0 Q (F0 m 15 ls []) := by
          intro j
          induction j with
          | zero => intro b M ch H locs ls hme; exact absurd hme (Nat.not_lt_zero _)
          | succ j ihL15 =>
            intro b M ch H locs ls hme hbn hQ2 hB hw hl
            refine lv_iload hx hb dX0_close_15 (lv_at hl 0 rfl) ?_
            refine lv_aload_n hx hb dX0_close_17 rfl (lv_at hl 4 rfl) ?_
            refine cx0_gn S hK hw dX0_close_18 ?_
            refine cx_icmp_ge (tgt := 89) hx hb dX0_close_21 (by decide) (by omega) (by omega) (fun h21 => ?_) (fun h21 => ?_)
            · refine lv_iinc (v := (nI (a + 1))) (lv' := [(3, .int (nI (a + 1))), (4, .int (nI b)), (2, .int (cx_bI ch)), (1, .int (nI q)), (0, .ref (ad 0))]) hx hb dX0_close_89 hl (k := 1) rfl (cx_inc1 _) (by decide) rfl (fun ls hl => ?_)
              refine lv_goto (tgt := 4) hx hb dX0_close_92 (by decide) ?_
              exact ihL4 (a + 1) M ch _ _ _ (by omega) (by omega) (by have e9 : b = n := (by omega); rw [e9] at hQ2; exact hQ2) hB hw (lv_sub hl [0, 2, 3, 4] rfl)
            · refine lv_iload_n hx hb dX0_close_24 rfl (lv_at hl 3 rfl) ?_
              refine lv_iload_n hx hb dX0_close_25 rfl (lv_at hl 1 rfl) ?_
              refine cx_iushr hx hb dX0_close_26 (by omega) (by omega) ?_
              refine lv_iconst (v := nI 1) hx hb dX0_close_27 (by decide) ?_
              refine cx_iand1 hx hb dX0_close_28 ?_
              refine cx_ifeq_b (tgt := 83) hx hb dX0_close_29 (by decide) (fun h29 => ?_) (fun h29 => ?_)
              · refine lv_iinc (v := (nI (b + 1))) (lv' := [(4, .int (nI (b + 1))), (3, .int (nI a)), (2, .int (cx_bI ch)), (1, .int (nI q)), (0, .ref (ad 0))]) hx hb dX0_close_83 hl (k := 0) rfl (cx_inc1 _) (by decide) rfl (fun ls hl => ?_)
                refine lv_goto (tgt := 15) hx hb dX0_close_86 (by decide) ?_
                exact ihL15 (b + 1) M ch _ _ _ (by omega) (by omega) (by show cx_cS q a b (cx_cI q a b _) = _; rw [hQ2]; exact if_neg (fun z => by have z9 := z.1; rw [h29] at z9; cases z9)) hB hw (lv_sub hl [0, 1, 2, 3, 4] rfl)
              · refine lv_aload_n hx hb dX0_close_32 rfl (lv_at hl 4 rfl) ?_
                refine cx0_gM S hK hw dX0_close_33 ?_
                refine lv_iload_n hx hb dX0_close_36 rfl (lv_at hl 1 rfl) ?_
                refine cx0_aM S hK hw (by omega) dX0_close_37 ?_
                have b37 := hB a (by omega)
                refine lv_iload hx hb dX0_close_38 (lv_at hl 0 rfl) ?_
                refine cx_iushr hx hb dX0_close_40 (by omega) (by omega) ?_
                refine lv_iconst (v := nI 1) hx hb dX0_close_41 (by decide) ?_
                refine cx_iand1 hx hb dX0_close_42 ?_
                refine cx_ifeq_b (tgt := 83) hx hb dX0_close_43 (by decide) (fun h43 => ?_) (fun h43 => ?_)
                · refine lv_iinc (v := (nI (b + 1))) (lv' := [(4, .int (nI (b + 1))), (3, .int (nI a)), (2, .int (cx_bI ch)), (1, .int (nI q)), (0, .ref (ad 0))]) hx hb dX0_close_83 hl (k := 0) rfl (cx_inc1 _) (by decide) rfl (fun ls hl => ?_)
                  refine lv_goto (tgt := 15) hx hb dX0_close_86 (by decide) ?_
                  exact ihL15 (b + 1) M ch _ _ _ (by omega) (by omega) (by show cx_cS q a b (cx_cI q a b _) = _; rw [hQ2]; exact if_neg (fun z => by have z9 := z.2.1; dsimp only at z9; rw [h43] at z9; cases z9)) hB hw (lv_sub hl [0, 1, 2, 3, 4] rfl)
                · refine lv_aload_n hx hb dX0_close_46 rfl (lv_at hl 4 rfl) ?_
                  refine cx0_gM S hK hw dX0_close_47 ?_
                  refine lv_iload hx hb dX0_close_50 (lv_at hl 0 rfl) ?_
                  refine cx0_aM S hK hw (by omega) dX0_close_52 ?_
                  have b52 := hB b (by omega)
                  refine lv_aload_n hx hb dX0_close_53 rfl (lv_at hl 4 rfl) ?_
                  refine cx0_gM S hK hw dX0_close_54 ?_
                  refine lv_iload_n hx hb dX0_close_57 rfl (lv_at hl 1 rfl) ?_
                  refine cx0_aM S hK hw (by omega) dX0_close_58 ?_
                  have b58 := hB a (by omega)
                  refine lv_iconst (v := -1) hx hb dX0_close_59 (by decide) ?_
                  refine lv_ixor hx hb dX0_close_60 ?_
                  refine lv_iand hx hb dX0_close_61 ?_
                  refine cx_ifeq_an (tgt := 83) hx hb dX0_close_62 (by decide) (by omega) (fun h62 => ?_) (fun h62 => ?_)
                  · refine lv_iinc (v := (nI (b + 1))) (lv' := [(4, .int (nI (b + 1))), (3, .int (nI a)), (2, .int (cx_bI ch)), (1, .int (nI q)), (0, .ref (ad 0))]) hx hb dX0_close_83 hl (k := 0) rfl (cx_inc1 _) (by decide) rfl (fun ls hl => ?_)
                    refine lv_goto (tgt := 15) hx hb dX0_close_86 (by decide) ?_
                    exact ihL15 (b + 1) M ch _ _ _ (by omega) (by omega) (by show cx_cS q a b (cx_cI q a b _) = _; rw [hQ2]; exact if_neg (fun z => by have z9 := z.2.2; rw [h62] at z9; cases z9)) hB hw (lv_sub hl [0, 1, 2, 3, 4] rfl)
                  · refine lv_aload_n hx hb dX0_close_65 rfl (lv_at hl 4 rfl) ?_
                    refine cx0_gM S hK hw dX0_close_66 ?_
                    refine lv_iload_n hx hb dX0_close_69 rfl (lv_at hl 1 rfl) ?_
                    refine lv_dup2_11 hx hb dX0_close_70 rfl rfl ?_
                    refine cx0_aM S hK hw (by omega) dX0_close_71 ?_
                    have b71 := hB a (by omega)
                    refine lv_aload_n hx hb dX0_close_72 rfl (lv_at hl 4 rfl) ?_
                    refine cx0_gM S hK hw dX0_close_73 ?_
                    refine lv_iload hx hb dX0_close_76 (lv_at hl 0 rfl) ?_
                    refine cx0_aM S hK hw (by omega) dX0_close_78 ?_
                    have b78 := hB b (by omega)
                    refine cx_ior hx hb dX0_close_79 ?_
                    refine cx0_sM S hK hw (by omega) dX0_close_80 (fun H locs hw => ?_)
                    refine lv_iconst (v := nI 1) hx hb dX0_close_81 (by decide) ?_
                    refine cx_top (y := cx_bI true) (by decide) ?_
                    refine lv_istore_n (lv' := [(2, .int (cx_bI true)), (4, .int (nI b)), (3, .int (nI a)), (1, .int (nI q)), (0, .ref (ad 0))]) hx hb dX0_close_82 rfl hl (by decide) rfl (fun ls hl => ?_)
                    refine lv_iinc (v := (nI (b + 1))) (lv' := [(4, .int (nI (b + 1))), (2, .int (cx_bI true)), (3, .int (nI a)), (1, .int (nI q)), (0, .ref (ad 0))]) hx hb dX0_close_83 hl (k := 1) rfl (cx_inc1 _) (by decide) rfl (fun ls hl => ?_)
                    refine lv_goto (tgt := 15) hx hb dX0_close_86 (by decide) ?_
                    exact ihL15 (b + 1) (va_up M a ((M a) ||| (M b))) true _ _ _ (by omega) (by omega) (by show cx_cS q a b (cx_cI q a b _) = _; rw [hQ2]; exact if_pos ⟨h29, h43, h62⟩) (cx_upB hB (cx_or8 (hB a (by omega)) (hB b (by omega)))) hw (lv_sub hl [0, 2, 1, 3, 4] rfl)
        exact L15 _ 0 M ch _ _ _ (Nat.lt_succ_self _) (by omega) hQ hB hw (lv_sub hl [0, 1, 2, 3, 4] rfl)
  exact L4 _ 0 mu false _ _ _ (Nat.lt_succ_self _) (by omega) rfl hM hw (lv_sub hl [0, 1, 3, 2] rfl)
abbrev rm0_hasRing : Room := { frames := 0, cells := 0, slots := 0, locals := 0 }
set_option maxHeartbeats 4000000 in
set_option maxRecDepth 100000 in
/-- hasRing() -/
theorem k0_hasRing (l : Launch) (D : va_G) (cI cZ : ClassId) (ad : Nat → Nat) {n : Nat} {us cs : Nat → Nat} {wr : Nat → Bool} {so ea mu : Nat → Nat} (hn : n ≤ 8) (hM : ∀ a, a < n → mu a < 256) : cx_Ki l yX0_hasRing cX0_hasRing 2 (some .boolean) rm0_hasRing D cI cZ (cx_w0 cI cZ ad) [.ref (ad 0)] (n, us, cs, wr, so, ea, mu) (fun v σ' => v = cx_bI (cx_B (cx_ring n mu)) ∧ σ' = (n, us, cs, wr, so, ea, mu)) := by
  refine cx_ent (by decide) rfl (fun v σ' h => by rw [h.1]; exact cx_bI_nar _) (Nat.le_of_ble_eq_true rfl) ?_
  intro p e s m args below meth c ls Q A S hK hw hA hl ret
  have hx := S.1
  have hb := S.2.1
  have hts := S.2.2.2.2
  have hl : lv_has ls 2 [(0, .ref (ad 0))] := hl
  have S : CallFix p m c cX0_hasRing 2 s args lw_all RX0 := S
  refine lv_iconst (v := nI 0) hx hb dX0_hasRing_0 (by decide) ?_
  refine lv_istore_n (lv' := [(1, .int (nI 0)), (0, .ref (ad 0))]) hx hb dX0_hasRing_1 rfl hl (by decide) rfl (fun ls hl => ?_)
  have L2 : ∀ (k : Nat) (a : Nat) (H : Heap) (locs : List Loc) (ls : Array Slot), n - a < k → a ≤ n → (∀ x, x < a → ¬ (mu x).testBit x = true) → cx_H D cx_Cl (cx_w0 cI cZ ad (n, us, cs, wr, so, ea, mu)) A s.heap H locs → lv_has ls 2 [(1, .int (nI a)), (0, .ref (ad 0))] → W p l e rm0_hasRing s m args below meth c H locs 0 0 Q (F0 m 2 ls []) := by
    intro k
    induction k with
    | zero => intro a H locs ls hme; exact absurd hme (Nat.not_lt_zero _)
    | succ k ihL2 =>
      intro a H locs ls hme han hi hw hl
      refine lv_iload_n hx hb dX0_hasRing_2 rfl (lv_at hl 0 rfl) ?_
      refine lv_aload_n hx hb dX0_hasRing_3 rfl (lv_at hl 1 rfl) ?_
      refine cx0_gn S hK hw dX0_hasRing_4 ?_
      refine cx_icmp_ge (tgt := 31) hx hb dX0_hasRing_7 (by decide) (by omega) (by omega) (fun h7 => ?_) (fun h7 => ?_)
      · refine lv_iconst (v := nI 0) hx hb dX0_hasRing_31 (by decide) ?_
        exact ret _ (n, us, cs, wr, so, ea, mu) _ _ _ _ dX0_hasRing_32 hw (⟨cx_j0 (cx_B_f (fun ⟨x, z1, z2⟩ => hi x (by omega) z2)), rfl⟩)
      · refine lv_aload_n hx hb dX0_hasRing_10 rfl (lv_at hl 1 rfl) ?_
        refine cx0_gM S hK hw dX0_hasRing_11 ?_
        refine lv_iload_n hx hb dX0_hasRing_14 rfl (lv_at hl 0 rfl) ?_
        refine cx0_aM S hK hw (by omega) dX0_hasRing_15 ?_
        have b15 := hM a (by omega)
        refine lv_iload_n hx hb dX0_hasRing_16 rfl (lv_at hl 0 rfl) ?_
        refine cx_iushr hx hb dX0_hasRing_17 (by omega) (by omega) ?_
        refine lv_iconst (v := nI 1) hx hb dX0_hasRing_18 (by decide) ?_
        refine cx_iand1 hx hb dX0_hasRing_19 ?_
        refine cx_ifeq_b (tgt := 25) hx hb dX0_hasRing_20 (by decide) (fun h20 => ?_) (fun h20 => ?_)
        · refine lv_iinc (v := (nI (a + 1))) (lv' := [(1, .int (nI (a + 1))), (0, .ref (ad 0))]) hx hb dX0_hasRing_25 hl (k := 0) rfl (cx_inc1 _) (by decide) rfl (fun ls hl => ?_)
          refine lv_goto (tgt := 2) hx hb dX0_hasRing_28 (by decide) ?_
          exact ihL2 (a + 1) _ _ _ (by omega) (by omega) (lt_s hi (by rw [h20]; decide)) hw (lv_sub hl [0, 1] rfl)
        · refine lv_iconst (v := nI 1) hx hb dX0_hasRing_23 (by decide) ?_
          exact ret _ (n, us, cs, wr, so, ea, mu) _ _ _ _ dX0_hasRing_24 hw (⟨cx_j1 (cx_B_t ⟨a, h7, h20⟩), rfl⟩)
  exact L2 _ 0 _ _ _ (Nat.lt_succ_self _) (by omega) lt_0 hw (lv_sub hl [0, 1] rfl)
abbrev rm0_comesTooLate : Room := { frames := 0, cells := 0, slots := 0, locals := 0 }
set_option maxHeartbeats 4000000 in
set_option maxRecDepth 100000 in
/-- comesTooLate(o, past) -/
theorem k0_comesTooLate (l : Launch) (D : va_G) (cI cZ : ClassId) (ad : Nat → Nat) {n : Nat} {us cs : Nat → Nat} {wr : Nat → Bool} {so ea mu : Nat → Nat} (hV : cx_Va n us cs wr so ea) (hn : n ≤ 8) {o past : Nat} (ho : o < n) (hp : past < 256) (hM : ∀ a, a < n → mu a < 256) : cx_Ki l yX0_comesTooLate cX0_comesTooLate 7 (some .boolean) rm0_comesTooLate D cI cZ (cx_w0 cI cZ ad) [.ref (ad 0), .int (nI o), .int (nI past)] (n, us, cs, wr, so, ea, mu) (fun v σ' => v = cx_bI (cx_B (cx_late n us cs wr so past o mu)) ∧ σ' = (n, us, cs, wr, so, ea, mu)) := by
  refine cx_ent (by decide) rfl (fun v σ' h => by rw [h.1]; exact cx_bI_nar _) (Nat.le_of_ble_eq_true rfl) ?_
  intro p e s m args below meth c ls Q A S hK hw hA hl ret
  have hx := S.1
  have hb := S.2.1
  have hts := S.2.2.2.2
  have hl : lv_has ls 7 [(0, .ref (ad 0)), (1, .int (nI o)), (2, .int (nI past))] := hl
  have S : CallFix p m c cX0_comesTooLate 7 s args lw_all RX0 := S
  have hU := hV.1
  have hC := hV.2.1
  have hS := hV.2.2.1
  have hE := hV.2.2.2.1
  refine lv_iconst (v := nI 0) hx hb dX0_comesTooLate_0 (by decide) ?_
  refine lv_istore_n (lv' := [(3, .int (nI 0)), (0, .ref (ad 0)), (1, .int (nI o)), (2, .int (nI past))]) hx hb dX0_comesTooLate_1 rfl hl (by decide) rfl (fun ls hl => ?_)
  have L2 : ∀ (k : Nat) (r : Nat) (H : Heap) (locs : List Loc) (ls : Array Slot), n - r < k → r ≤ n → (∀ x, x < r → ¬ ((past.testBit x = true ∧ wr x = false ∧ us x = us o ∧ so x = 8) ∧ ∃ w, w < n ∧ wr w = true ∧ cs w = cs x ∧ (mu x).testBit w = true)) → cx_H D cx_Cl (cx_w0 cI cZ ad (n, us, cs, wr, so, ea, mu)) A s.heap H locs → lv_has ls 7 [(3, .int (nI r)), (2, .int (nI past)), (1, .int (nI o)), (0, .ref (ad 0))] → W p l e rm0_comesTooLate s m args below meth c H locs 0 0 Q (F0 m 2 ls []) := by
    intro k
    induction k with
    | zero => intro r H locs ls hme; exact absurd hme (Nat.not_lt_zero _)
    | succ k ihL2 =>
      intro r H locs ls hme hrn hi hw hl
      refine lv_iload_n hx hb dX0_comesTooLate_2 rfl (lv_at hl 0 rfl) ?_
      refine lv_aload_n hx hb dX0_comesTooLate_3 rfl (lv_at hl 3 rfl) ?_
      refine cx0_gn S hK hw dX0_comesTooLate_4 ?_
      refine cx_icmp_ge (tgt := 141) hx hb dX0_comesTooLate_7 (by decide) (by omega) (by omega) (fun h7 => ?_) (fun h7 => ?_)
      · refine lv_iconst (v := nI 0) hx hb dX0_comesTooLate_141 (by decide) ?_
        exact ret _ (n, us, cs, wr, so, ea, mu) _ _ _ _ dX0_comesTooLate_142 hw (⟨cx_j0 (cx_B_f (fun ⟨x, z1, z2⟩ => hi x (by omega) z2)), rfl⟩)
      · have J56 : W p l e rm0_comesTooLate s m args below meth c H locs 0 0 Q (F0 m 56 ls [.int (cx_bI (past.testBit r && !wr r && decide (us r = us o) && decide (so r = 8)))]) := by
          refine lv_istore (lv' := [(4, .int (cx_bI (past.testBit r && !wr r && decide (us r = us o) && decide (so r = 8)))), (3, .int (nI r)), (2, .int (nI past)), (1, .int (nI o)), (0, .ref (ad 0))]) hx hb dX0_comesTooLate_56 hl (by decide) rfl (fun ls hl => ?_)
          refine lv_iconst (v := nI 0) hx hb dX0_comesTooLate_58 (by decide) ?_
          refine lv_istore (lv' := [(5, .int (nI 0)), (4, .int (cx_bI (past.testBit r && !wr r && decide (us r = us o) && decide (so r = 8)))), (3, .int (nI r)), (2, .int (nI past)), (1, .int (nI o)), (0, .ref (ad 0))]) hx hb dX0_comesTooLate_59 hl (by decide) rfl (fun ls hl => ?_)
          have L61 : ∀ (j : Nat) (w : Nat) (H : Heap) (locs : List Loc) (ls : Array Slot), n - w < j → w ≤ n → (∀ x, x < w → ¬ ((past.testBit r && !wr r && decide (us r = us o) && decide (so r = 8)) = true ∧ (wr x = true ∧ cs x = cs r ∧ (mu r).testBit x = true))) → cx_H D cx_Cl (cx_w0 cI cZ ad (n, us, cs, wr, so, ea, mu)) A s.heap H locs → lv_has ls 7 [(5, .int (nI w)), (4, .int (cx_bI (past.testBit r && !wr r && decide (us r = us o) && decide (so r = 8)))), (3, .int (nI r)), (2, .int (nI past)), (1, .int (nI o)), (0, .ref (ad 0))] → W p l e rm0_comesTooLate s m args below meth c H locs 0 0 Q (F0 m 61 ls []) := by
            intro j
            induction j with
            | zero => intro w H locs ls hme; exact absurd hme (Nat.not_lt_zero _)
            | succ j ihL61 =>
              intro w H locs ls hme hwn hi2 hw hl
              refine lv_iload hx hb dX0_comesTooLate_61 (lv_at hl 0 rfl) ?_
              refine lv_aload_n hx hb dX0_comesTooLate_63 rfl (lv_at hl 5 rfl) ?_
              refine cx0_gn S hK hw dX0_comesTooLate_64 ?_
              refine cx_icmp_ge (tgt := 135) hx hb dX0_comesTooLate_67 (by decide) (by omega) (by omega) (fun h67 => ?_) (fun h67 => ?_)
              · refine lv_iinc (v := (nI (r + 1))) (lv' := [(3, .int (nI (r + 1))), (5, .int (nI w)), (4, .int (cx_bI (past.testBit r && !wr r && decide (us r = us o) && decide (so r = 8)))), (2, .int (nI past)), (1, .int (nI o)), (0, .ref (ad 0))]) hx hb dX0_comesTooLate_135 hl (k := 2) rfl (cx_inc1 _) (by decide) rfl (fun ls hl => ?_)
                refine lv_goto (tgt := 2) hx hb dX0_comesTooLate_138 (by decide) ?_
                exact ihL2 (r + 1) _ _ _ (by omega) (by omega) (lt_s hi (fun z => by obtain ⟨z1, w9, z2, z3⟩ := z; exact hi2 w9 (by omega) ⟨by simp [z1], z3⟩)) hw (lv_sub hl [0, 3, 4, 5] rfl)
              · have J115 : W p l e rm0_comesTooLate s m args below meth c H locs 0 0 Q (F0 m 115 ls [.int (cx_bI (wr w && decide (cs w = cs r) && (mu r).testBit w))]) := by
                  refine lv_istore (lv' := [(6, .int (cx_bI (wr w && decide (cs w = cs r) && (mu r).testBit w))), (5, .int (nI w)), (4, .int (cx_bI (past.testBit r && !wr r && decide (us r = us o) && decide (so r = 8)))), (3, .int (nI r)), (2, .int (nI past)), (1, .int (nI o)), (0, .ref (ad 0))]) hx hb dX0_comesTooLate_115 hl (by decide) rfl (fun ls hl => ?_)
                  refine lv_iload hx hb dX0_comesTooLate_117 (lv_at hl 2 rfl) ?_
                  refine cx_ifeq_b (tgt := 129) hx hb dX0_comesTooLate_119 (by decide) (fun h119 => ?_) (fun h119 => ?_)
                  · refine lv_iinc (v := (nI (w + 1))) (lv' := [(5, .int (nI (w + 1))), (6, .int (cx_bI (wr w && decide (cs w = cs r) && (mu r).testBit w))), (4, .int (cx_bI (past.testBit r && !wr r && decide (us r = us o) && decide (so r = 8)))), (3, .int (nI r)), (2, .int (nI past)), (1, .int (nI o)), (0, .ref (ad 0))]) hx hb dX0_comesTooLate_129 hl (k := 1) rfl (cx_inc1 _) (by decide) rfl (fun ls hl => ?_)
                    refine lv_goto (tgt := 61) hx hb dX0_comesTooLate_132 (by decide) ?_
                    exact ihL61 (w + 1) _ _ _ (by omega) (by omega) (lt_s hi2 (fun z => by rw [h119] at z; exact absurd z.1 (by decide))) hw (lv_sub hl [0, 2, 3, 4, 5, 6] rfl)
                  · refine lv_iload hx hb dX0_comesTooLate_122 (lv_at hl 0 rfl) ?_
                    refine cx_ifeq_b (tgt := 129) hx hb dX0_comesTooLate_124 (by decide) (fun h124 => ?_) (fun h124 => ?_)
                    · refine lv_iinc (v := (nI (w + 1))) (lv' := [(5, .int (nI (w + 1))), (6, .int (cx_bI (wr w && decide (cs w = cs r) && (mu r).testBit w))), (4, .int (cx_bI (past.testBit r && !wr r && decide (us r = us o) && decide (so r = 8)))), (3, .int (nI r)), (2, .int (nI past)), (1, .int (nI o)), (0, .ref (ad 0))]) hx hb dX0_comesTooLate_129 hl (k := 1) rfl (cx_inc1 _) (by decide) rfl (fun ls hl => ?_)
                      refine lv_goto (tgt := 61) hx hb dX0_comesTooLate_132 (by decide) ?_
                      exact ihL61 (w + 1) _ _ _ (by omega) (by omega) (lt_s hi2 (fun z => by simp [z.2.1, z.2.2.1, z.2.2.2] at h124)) hw (lv_sub hl [0, 2, 3, 4, 5, 6] rfl)
                    · refine lv_iconst (v := nI 1) hx hb dX0_comesTooLate_127 (by decide) ?_
                      exact ret _ (n, us, cs, wr, so, ea, mu) _ _ _ _ dX0_comesTooLate_128 hw (⟨cx_j1 (cx_B_t ⟨r, h7, by simp at h119; exact ⟨h119.1.1.1, h119.1.1.2, h119.1.2, h119.2⟩, w, h67, by simp at h124; exact ⟨h124.1.1, h124.1.2, h124.2⟩⟩), rfl⟩)
                refine lv_aload_n hx hb dX0_comesTooLate_70 rfl (lv_at hl 5 rfl) ?_
                refine cx0_gW S hK hw dX0_comesTooLate_71 ?_
                refine lv_iload hx hb dX0_comesTooLate_74 (lv_at hl 0 rfl) ?_
                refine cx0_aW S hK hw (by omega) dX0_comesTooLate_76 ?_
                refine cx_ifeq_b (tgt := 114) hx hb dX0_comesTooLate_77 (by decide) (fun h77 => ?_) (fun h77 => ?_)
                · refine lv_iconst (v := nI 0) hx hb dX0_comesTooLate_114 (by decide) ?_
                  exact cx_top (cx_j0 (by simp [h77])) J115
                · refine lv_aload_n hx hb dX0_comesTooLate_80 rfl (lv_at hl 5 rfl) ?_
                  refine cx0_gC S hK hw dX0_comesTooLate_81 ?_
                  refine lv_iload hx hb dX0_comesTooLate_84 (lv_at hl 0 rfl) ?_
                  refine cx0_aC S hK hw (by omega) dX0_comesTooLate_86 ?_
                  have b86 := hC w
                  refine lv_aload_n hx hb dX0_comesTooLate_87 rfl (lv_at hl 5 rfl) ?_
                  refine cx0_gC S hK hw dX0_comesTooLate_88 ?_
                  refine lv_iload_n hx hb dX0_comesTooLate_91 rfl (lv_at hl 2 rfl) ?_
                  refine cx0_aC S hK hw (by omega) dX0_comesTooLate_92 ?_
                  have b92 := hC r
                  refine cx_icmp_ne (tgt := 114) hx hb dX0_comesTooLate_93 (by decide) (by omega) (by omega) (fun h93 => ?_) (fun h93 => ?_)
                  · refine lv_iconst (v := nI 0) hx hb dX0_comesTooLate_114 (by decide) ?_
                    exact cx_top (cx_j0 (by simp [h77, h93])) J115
                  · refine lv_aload_n hx hb dX0_comesTooLate_96 rfl (lv_at hl 5 rfl) ?_
                    refine cx0_gM S hK hw dX0_comesTooLate_97 ?_
                    refine lv_iload_n hx hb dX0_comesTooLate_100 rfl (lv_at hl 2 rfl) ?_
                    refine cx0_aM S hK hw (by omega) dX0_comesTooLate_101 ?_
                    have b101 := hM r (by omega)
                    refine lv_iload hx hb dX0_comesTooLate_102 (lv_at hl 0 rfl) ?_
                    refine cx_iushr hx hb dX0_comesTooLate_104 (by omega) (by omega) ?_
                    refine lv_iconst (v := nI 1) hx hb dX0_comesTooLate_105 (by decide) ?_
                    refine cx_iand1 hx hb dX0_comesTooLate_106 ?_
                    refine cx_ifeq_b (tgt := 114) hx hb dX0_comesTooLate_107 (by decide) (fun h107 => ?_) (fun h107 => ?_)
                    · refine lv_iconst (v := nI 0) hx hb dX0_comesTooLate_114 (by decide) ?_
                      exact cx_top (cx_j0 (by simp [h77, h93, h107])) J115
                    · refine lv_iconst (v := nI 1) hx hb dX0_comesTooLate_110 (by decide) ?_
                      refine lv_goto (tgt := 115) hx hb dX0_comesTooLate_111 (by decide) ?_
                      exact cx_top (cx_j1 (by simp [h77, h93, h107])) J115
          exact L61 _ 0 _ _ _ (Nat.lt_succ_self _) (by omega) lt_0 hw (lv_sub hl [0, 1, 2, 3, 4, 5] rfl)
        refine lv_iload_n hx hb dX0_comesTooLate_10 rfl (lv_at hl 1 rfl) ?_
        refine lv_iload_n hx hb dX0_comesTooLate_11 rfl (lv_at hl 0 rfl) ?_
        refine cx_iushr hx hb dX0_comesTooLate_12 (by omega) (by omega) ?_
        refine lv_iconst (v := nI 1) hx hb dX0_comesTooLate_13 (by decide) ?_
        refine cx_iand1 hx hb dX0_comesTooLate_14 ?_
        refine cx_ifeq_b (tgt := 55) hx hb dX0_comesTooLate_15 (by decide) (fun h15 => ?_) (fun h15 => ?_)
        · refine lv_iconst (v := nI 0) hx hb dX0_comesTooLate_55 (by decide) ?_
          exact cx_top (cx_j0 (by simp [h15])) J56
        · refine lv_aload_n hx hb dX0_comesTooLate_18 rfl (lv_at hl 3 rfl) ?_
          refine cx0_gW S hK hw dX0_comesTooLate_19 ?_
          refine lv_iload_n hx hb dX0_comesTooLate_22 rfl (lv_at hl 0 rfl) ?_
          refine cx0_aW S hK hw (by omega) dX0_comesTooLate_23 ?_
          refine cx_ifne_b (tgt := 55) hx hb dX0_comesTooLate_24 (by decide) (fun h24 => ?_) (fun h24 => ?_)
          · refine lv_iconst (v := nI 0) hx hb dX0_comesTooLate_55 (by decide) ?_
            exact cx_top (cx_j0 (by simp [h15, h24])) J56
          · refine lv_aload_n hx hb dX0_comesTooLate_27 rfl (lv_at hl 3 rfl) ?_
            refine cx0_gU S hK hw dX0_comesTooLate_28 ?_
            refine lv_iload_n hx hb dX0_comesTooLate_31 rfl (lv_at hl 0 rfl) ?_
            refine cx0_aU S hK hw (by omega) dX0_comesTooLate_32 ?_
            have b32 := hU r
            refine lv_aload_n hx hb dX0_comesTooLate_33 rfl (lv_at hl 3 rfl) ?_
            refine cx0_gU S hK hw dX0_comesTooLate_34 ?_
            refine lv_iload_n hx hb dX0_comesTooLate_37 rfl (lv_at hl 2 rfl) ?_
            refine cx0_aU S hK hw (by omega) dX0_comesTooLate_38 ?_
            have b38 := hU o
            refine cx_icmp_ne (tgt := 55) hx hb dX0_comesTooLate_39 (by decide) (by omega) (by omega) (fun h39 => ?_) (fun h39 => ?_)
            · refine lv_iconst (v := nI 0) hx hb dX0_comesTooLate_55 (by decide) ?_
              exact cx_top (cx_j0 (by simp [h15, h24, h39])) J56
            · refine lv_aload_n hx hb dX0_comesTooLate_42 rfl (lv_at hl 3 rfl) ?_
              refine cx0_gS S hK hw dX0_comesTooLate_43 ?_
              refine lv_iload_n hx hb dX0_comesTooLate_46 rfl (lv_at hl 0 rfl) ?_
              refine cx0_aS S hK hw (by omega) dX0_comesTooLate_47 ?_
              have b47 := hS r
              refine cx_ifge_s (tgt := 55) hx hb dX0_comesTooLate_48 (by decide) (by omega) (fun h48 => ?_) (fun h48 => ?_)
              · refine lv_iconst (v := nI 0) hx hb dX0_comesTooLate_55 (by decide) ?_
                exact cx_top (cx_j0 (by simp [h15, h24, h39, h48])) J56
              · refine lv_iconst (v := nI 1) hx hb dX0_comesTooLate_51 (by decide) ?_
                refine lv_goto (tgt := 56) hx hb dX0_comesTooLate_52 (by decide) ?_
                exact cx_top (cx_j1 (by simp [h15, h24, h39, h48])) J56
  exact L2 _ 0 _ _ _ (Nat.lt_succ_self _) (by omega) lt_0 hw (lv_sub hl [0, 3, 2, 1] rfl)
end
section
/-! CausalCheck: isStrong, converges (printed by gen/x0c.py) -/
abbrev rm0_isStrong : Room := { frames := 1, cells := 0, slots := 0, locals := 26 }
set_option maxHeartbeats 4000000 in
set_option maxRecDepth 100000 in
/-- isStrong(o) -/
theorem k0_isStrong (l : Launch) (D : va_G) (cI cZ : ClassId) (ad : Nat → Nat) {n : Nat} {us cs : Nat → Nat} {wr : Nat → Bool} {so ea mu : Nat → Nat} (hV : cx_Va n us cs wr so ea) (hn : n ≤ 7) {o : Nat} (ho : o < n) : cx_Ki l yX0_isStrong cX0_isStrong 7 (some .boolean) rm0_isStrong D cI cZ (cx_w0 cI cZ ad) [.ref (ad 0), .int (nI o)] (n, us, cs, wr, so, ea, mu) (fun v σ' => v = cx_bI (cx_B (cx_SK us cs wr so ea o)) ∧ ∃ mu', σ' = (n, us, cs, wr, so, ea, mu')) := by
  refine cx_ent (by decide) rfl (fun v σ' h => by rw [h.1]; exact cx_bI_nar _) (Nat.le_of_ble_eq_true rfl) ?_
  intro p e s m args below meth c ls Q A S hK hw hA hl ret
  have hx := S.1
  have hb := S.2.1
  have hts := S.2.2.2.2
  have hl : lv_has ls 7 [(0, .ref (ad 0)), (1, .int (nI o))] := hl
  have S : CallFix p m c cX0_isStrong 7 s args lw_all RX0 := S
  have hU := hV.1
  have hC := hV.2.1
  have hS := hV.2.2.1
  have hE := hV.2.2.2.1
  have hp : cx_pa ea o < 256 := cx_pa8 hV ho (by omega)
  refine lv_aload_n hx hb dX0_isStrong_0 rfl (lv_at hl 0 rfl) ?_
  refine cx0_gE S hK hw dX0_isStrong_1 ?_
  refine lv_iload_n hx hb dX0_isStrong_4 rfl (lv_at hl 1 rfl) ?_
  refine cx0_aE S hK hw (by omega) dX0_isStrong_5 ?_
  have b5 := hE o
  refine lv_iconst (v := nI 1) hx hb dX0_isStrong_6 (by decide) ?_
  refine lv_iload_n hx hb dX0_isStrong_7 rfl (lv_at hl 1 rfl) ?_
  refine cx_ishl hx hb dX0_isStrong_8 (by omega) ?_
  refine cx_ior hx hb dX0_isStrong_9 ?_
  refine cx_top (y := nI (cx_pa ea o)) rfl ?_
  refine lv_istore_n (lv' := [(2, .int (nI (cx_pa ea o))), (0, .ref (ad 0)), (1, .int (nI o))]) hx hb dX0_isStrong_10 rfl hl (by decide) rfl (fun ls hl => ?_)
  refine lv_iconst (v := nI 0) hx hb dX0_isStrong_11 (by decide) ?_
  refine lv_istore_n (lv' := [(3, .int (nI 0)), (2, .int (nI (cx_pa ea o))), (0, .ref (ad 0)), (1, .int (nI o))]) hx hb dX0_isStrong_12 rfl hl (by decide) rfl (fun ls hl => ?_)
  have L13 : ∀ (k : Nat) (a : Nat) (M : Nat → Nat) (H : Heap) (locs : List Loc) (ls : Array Slot), n - a < k → a ≤ n → (∀ x, x < a → M x = ea x) → cx_H D cx_Cl (cx_w0 cI cZ ad (n, us, cs, wr, so, ea, M)) A s.heap H locs → lv_has ls 7 [(3, .int (nI a)), (2, .int (nI (cx_pa ea o))), (1, .int (nI o)), (0, .ref (ad 0))] → W p l e rm0_isStrong s m args below meth c H locs 0 0 Q (F0 m 13 ls []) := by
    intro k
    induction k with
    | zero => intro a M H locs ls hme; exact absurd hme (Nat.not_lt_zero _)
    | succ k ihL13 =>
      intro a M H locs ls hme han hc hw hl
      refine lv_iload_n hx hb dX0_isStrong_13 rfl (lv_at hl 0 rfl) ?_
      refine lv_aload_n hx hb dX0_isStrong_14 rfl (lv_at hl 3 rfl) ?_
      refine cx0_gn S hK hw dX0_isStrong_15 ?_
      refine cx_icmp_ge (tgt := 39) hx hb dX0_isStrong_18 (by decide) (by omega) (by omega) (fun h18 => ?_) (fun h18 => ?_)
      · have hc : ∀ x, x < n → M x = ea x := fun x hx => hc x (by omega)
        have hSI0 := cx_SI_0 hV hn ho hc
        refine lv_iconst (v := nI 1) hx hb dX0_isStrong_39 (by decide) ?_
        refine cx_top (y := cx_bI true) (by decide) ?_
        refine lv_istore_n (lv' := [(3, .int (cx_bI true)), (2, .int (nI (cx_pa ea o))), (1, .int (nI o)), (0, .ref (ad 0))]) hx hb dX0_isStrong_40 rfl hl (by decide) rfl (fun ls hl => ?_)
        refine lv_iconst (v := nI 0) hx hb dX0_isStrong_41 (by decide) ?_
        refine lv_istore (lv' := [(4, .int (nI 0)), (3, .int (cx_bI true)), (2, .int (nI (cx_pa ea o))), (1, .int (nI o)), (0, .ref (ad 0))]) hx hb dX0_isStrong_42 hl (by decide) rfl (fun ls hl => ?_)
        have L44 : ∀ (f4 : Nat) (k : Nat) (M1 : Nat → Nat) (ch : Bool) (H : Heap) (locs : List Loc) (ls : Array Slot), 60 - k < f4 → k ≤ 60 → cx_wh (cx_rd n us cs wr so (cx_pa ea o) o) 60 (M, true) = cx_wh (cx_rd n us cs wr so (cx_pa ea o) o) (60 - k) (M1, ch) → cx_SI n us cs wr so ea o M1 → cx_H D cx_Cl (cx_w0 cI cZ ad (n, us, cs, wr, so, ea, M1)) A s.heap H locs → lv_has ls 7 [(4, .int (nI k)), (3, .int (cx_bI ch)), (2, .int (nI (cx_pa ea o))), (1, .int (nI o)), (0, .ref (ad 0))] → W p l e rm0_isStrong s m args below meth c H locs 0 0 Q (F0 m 44 ls []) := by
          intro f4
          induction f4 with
          | zero => intro k M1 ch H locs ls hme; exact absurd hme (Nat.not_lt_zero _)
          | succ f4 ihL44 =>
            intro k M1 ch H locs ls hme hk hR hSI hw hl
            refine lv_iload hx hb dX0_isStrong_44 (lv_at hl 0 rfl) ?_
            refine lv_bipush (v := nI 60) hx hb dX0_isStrong_46 (by decide) ?_
            refine cx_icmp_ge (tgt := 176) hx hb dX0_isStrong_48 (by decide) (by omega) (by omega) (fun h48 => ?_) (fun h48 => ?_)
            · have hfin : (cx_wh (cx_rd n us cs wr so (cx_pa ea o) o) 60 (M, true)).1 = M1 := by rw [hR, show 60 - k = 0 by omega]; rfl
              have hst := cx_strong hV hn ho hc
              rw [hfin] at hst
              refine lv_aload_n hx hb dX0_isStrong_176 rfl (lv_at hl 4 rfl) ?_
              refine cx_cali S (k0_hasRing l D cI cZ ad (by omega) (cx_SI_b hSI)) (cwV 0 hts (lw_V q106 q108 qs7 q20 q109) rfl rfl rfl (by decide +kernel) ⟨Nat.le_of_ble_eq_true rfl, Nat.le_of_ble_eq_true rfl⟩) hK hw hA rfl rfl rfl rfl hl.1 rfl (Nat.le_of_ble_eq_true rfl) dX0_isStrong_177 ⟨Nat.zero_le _, Nat.zero_le _⟩ (fun r177 σ1 H locs hp hw => ?_)
              obtain ⟨rfl, rfl⟩ := hp
              refine cx_ifne_b (tgt := 196) hx hb dX0_isStrong_180 (by decide) (fun h180 => ?_) (fun h180 => ?_)
              · refine lv_iconst (v := nI 0) hx hb dX0_isStrong_196 (by decide) ?_
                exact ret _ (n, us, cs, wr, so, ea, M1) _ _ _ _ dX0_isStrong_197 hw ⟨cx_j0 (cx_B_f (fun z => (hst.mpr z).1 (cx_B_iff.mp h180))), _, rfl⟩
              · refine lv_aload_n hx hb dX0_isStrong_183 rfl (lv_at hl 4 rfl) ?_
                refine lv_iload_n hx hb dX0_isStrong_184 rfl (lv_at hl 3 rfl) ?_
                refine lv_iload_n hx hb dX0_isStrong_185 rfl (lv_at hl 2 rfl) ?_
                refine cx_cali S (k0_comesTooLate l D cI cZ ad hV (by omega) ho hp (cx_SI_b hSI)) (cwV 2 hts (lw_V q110 q112 qs8 q20 q113) rfl rfl rfl (by decide +kernel) ⟨Nat.le_of_ble_eq_true rfl, Nat.le_of_ble_eq_true rfl⟩) hK hw hA rfl rfl rfl rfl hl.1 rfl (Nat.le_of_ble_eq_true rfl) dX0_isStrong_186 ⟨Nat.zero_le _, Nat.zero_le _⟩ (fun r186 σ1 H locs hp hw => ?_)
                obtain ⟨rfl, rfl⟩ := hp
                refine cx_ifne_b (tgt := 196) hx hb dX0_isStrong_189 (by decide) (fun h189 => ?_) (fun h189 => ?_)
                · refine lv_iconst (v := nI 0) hx hb dX0_isStrong_196 (by decide) ?_
                  exact ret _ (n, us, cs, wr, so, ea, M1) _ _ _ _ dX0_isStrong_197 hw ⟨cx_j0 (cx_B_f (fun z => (hst.mpr z).2 (cx_B_iff.mp h189))), _, rfl⟩
                · refine lv_iconst (v := nI 1) hx hb dX0_isStrong_192 (by decide) ?_
                  refine lv_goto (tgt := 197) hx hb dX0_isStrong_193 (by decide) ?_
                  exact ret _ (n, us, cs, wr, so, ea, M1) _ _ _ _ dX0_isStrong_197 hw ⟨cx_j1 (cx_B_t (hst.mp ⟨cx_B_n h180, cx_B_n h189⟩)), _, rfl⟩
            · refine lv_iload_n hx hb dX0_isStrong_51 rfl (lv_at hl 1 rfl) ?_
              refine cx_ifeq_b (tgt := 176) hx hb dX0_isStrong_52 (by decide) (fun h52 => ?_) (fun h52 => ?_)
              · have hfin : (cx_wh (cx_rd n us cs wr so (cx_pa ea o) o) 60 (M, true)).1 = M1 := by rw [hR, h52, cx_wh_f]
                have hst := cx_strong hV hn ho hc
                rw [hfin] at hst
                refine lv_aload_n hx hb dX0_isStrong_176 rfl (lv_at hl 4 rfl) ?_
                refine cx_cali S (k0_hasRing l D cI cZ ad (by omega) (cx_SI_b hSI)) (cwV 0 hts (lw_V q106 q108 qs7 q20 q109) rfl rfl rfl (by decide +kernel) ⟨Nat.le_of_ble_eq_true rfl, Nat.le_of_ble_eq_true rfl⟩) hK hw hA rfl rfl rfl rfl hl.1 rfl (Nat.le_of_ble_eq_true rfl) dX0_isStrong_177 ⟨Nat.zero_le _, Nat.zero_le _⟩ (fun r177 σ1 H locs hp hw => ?_)
                obtain ⟨rfl, rfl⟩ := hp
                refine cx_ifne_b (tgt := 196) hx hb dX0_isStrong_180 (by decide) (fun h180 => ?_) (fun h180 => ?_)
                · refine lv_iconst (v := nI 0) hx hb dX0_isStrong_196 (by decide) ?_
                  exact ret _ (n, us, cs, wr, so, ea, M1) _ _ _ _ dX0_isStrong_197 hw ⟨cx_j0 (cx_B_f (fun z => (hst.mpr z).1 (cx_B_iff.mp h180))), _, rfl⟩
                · refine lv_aload_n hx hb dX0_isStrong_183 rfl (lv_at hl 4 rfl) ?_
                  refine lv_iload_n hx hb dX0_isStrong_184 rfl (lv_at hl 3 rfl) ?_
                  refine lv_iload_n hx hb dX0_isStrong_185 rfl (lv_at hl 2 rfl) ?_
                  refine cx_cali S (k0_comesTooLate l D cI cZ ad hV (by omega) ho hp (cx_SI_b hSI)) (cwV 2 hts (lw_V q110 q112 qs8 q20 q113) rfl rfl rfl (by decide +kernel) ⟨Nat.le_of_ble_eq_true rfl, Nat.le_of_ble_eq_true rfl⟩) hK hw hA rfl rfl rfl rfl hl.1 rfl (Nat.le_of_ble_eq_true rfl) dX0_isStrong_186 ⟨Nat.zero_le _, Nat.zero_le _⟩ (fun r186 σ1 H locs hp hw => ?_)
                  obtain ⟨rfl, rfl⟩ := hp
                  refine cx_ifne_b (tgt := 196) hx hb dX0_isStrong_189 (by decide) (fun h189 => ?_) (fun h189 => ?_)
                  · refine lv_iconst (v := nI 0) hx hb dX0_isStrong_196 (by decide) ?_
                    exact ret _ (n, us, cs, wr, so, ea, M1) _ _ _ _ dX0_isStrong_197 hw ⟨cx_j0 (cx_B_f (fun z => (hst.mpr z).2 (cx_B_iff.mp h189))), _, rfl⟩
                  · refine lv_iconst (v := nI 1) hx hb dX0_isStrong_192 (by decide) ?_
                    refine lv_goto (tgt := 197) hx hb dX0_isStrong_193 (by decide) ?_
                    exact ret _ (n, us, cs, wr, so, ea, M1) _ _ _ _ dX0_isStrong_197 hw ⟨cx_j1 (cx_B_t (hst.mp ⟨cx_B_n h180, cx_B_n h189⟩)), _, rfl⟩
              · refine lv_iconst (v := nI 0) hx hb dX0_isStrong_55 (by decide) ?_
                refine cx_top (y := cx_bI false) (by decide) ?_
                refine lv_istore_n (lv' := [(3, .int (cx_bI false)), (4, .int (nI k)), (2, .int (nI (cx_pa ea o))), (1, .int (nI o)), (0, .ref (ad 0))]) hx hb dX0_isStrong_56 rfl hl (by decide) rfl (fun ls hl => ?_)
                refine lv_iconst (v := nI 0) hx hb dX0_isStrong_57 (by decide) ?_
                refine lv_istore (lv' := [(5, .int (nI 0)), (3, .int (cx_bI false)), (4, .int (nI k)), (2, .int (nI (cx_pa ea o))), (1, .int (nI o)), (0, .ref (ad 0))]) hx hb dX0_isStrong_58 hl (by decide) rfl (fun ls hl => ?_)
                have L60 : ∀ (f6 : Nat) (r : Nat) (M2 : Nat → Nat) (c2 : Bool) (H : Heap) (locs : List Loc) (ls : Array Slot), n - r < f6 → r ≤ n → cx_rI n us cs wr so (cx_pa ea o) o r (M1, false) = (M2, c2) → cx_H D cx_Cl (cx_w0 cI cZ ad (n, us, cs, wr, so, ea, M2)) A s.heap H locs → lv_has ls 7 [(5, .int (nI r)), (4, .int (nI k)), (3, .int (cx_bI c2)), (2, .int (nI (cx_pa ea o))), (1, .int (nI o)), (0, .ref (ad 0))] → W p l e rm0_isStrong s m args below meth c H locs 0 0 Q (F0 m 60 ls []) := by
                  intro f6
                  induction f6 with
                  | zero => intro r M2 c2 H locs ls hme; exact absurd hme (Nat.not_lt_zero _)
                  | succ f6 ihL60 =>
                    intro r M2 c2 H locs ls hme hrn hq hw hl
                    refine lv_iload hx hb dX0_isStrong_60 (lv_at hl 0 rfl) ?_
                    refine lv_aload_n hx hb dX0_isStrong_62 rfl (lv_at hl 5 rfl) ?_
                    refine cx0_gn S hK hw dX0_isStrong_63 ?_
                    refine cx_icmp_ge (tgt := 152) hx hb dX0_isStrong_66 (by decide) (by omega) (by omega) (fun h66 => ?_) (fun h66 => ?_)
                    · have e152 : r = n := by omega
                      rw [e152] at hq
                      have hSI2 := cx_rI_SI hV hn ho (Nat.le_refl n) hSI hq
                      refine lv_aload_n hx hb dX0_isStrong_152 rfl (lv_at hl 5 rfl) ?_
                      refine lv_iload_n hx hb dX0_isStrong_153 rfl (lv_at hl 3 rfl) ?_
                      refine cx_cali S (k0_close l D cI cZ ad (by omega) hp (cx_SI_b hSI2)) (cwV 1 hts (lw_V q102 q104 qs6 q20 q105) rfl rfl rfl (by decide +kernel) ⟨Nat.le_of_ble_eq_true rfl, Nat.le_of_ble_eq_true rfl⟩) hK hw hA rfl rfl rfl rfl hl.1 rfl (Nat.le_of_ble_eq_true rfl) dX0_isStrong_154 ⟨Nat.zero_le _, Nat.zero_le _⟩ (fun r154 σ1 H locs hp hw => ?_)
                      obtain ⟨hr9, rfl⟩ := hp
                      obtain ⟨Y, hY⟩ : ∃ Y, Y = (cx_cl (cx_pa ea o) n M2).2 := ⟨_, rfl⟩
                      rw [← hY] at hr9
                      subst hr9
                      have J169 : W p l e rm0_isStrong s m args below meth c H locs 0 0 Q (F0 m 169 ls [.int (cx_bI (Y || c2))]) := by
                        refine lv_istore_n (lv' := [(3, .int (cx_bI (Y || c2))), (5, .int (nI r)), (4, .int (nI k)), (2, .int (nI (cx_pa ea o))), (1, .int (nI o)), (0, .ref (ad 0))]) hx hb dX0_isStrong_169 rfl hl (by decide) rfl (fun ls hl => ?_)
                        refine lv_iinc (v := (nI (k + 1))) (lv' := [(4, .int (nI (k + 1))), (3, .int (cx_bI (Y || c2))), (5, .int (nI r)), (2, .int (nI (cx_pa ea o))), (1, .int (nI o)), (0, .ref (ad 0))]) hx hb dX0_isStrong_170 hl (k := 2) rfl (cx_inc1 _) (by decide) rfl (fun ls hl => ?_)
                        refine lv_goto (tgt := 44) hx hb dX0_isStrong_173 (by decide) ?_
                        exact ihL44 (k + 1) ((cx_cl (cx_pa ea o) n M2).1) (Y || c2) _ _ _ (by omega) (by omega) (by rw [hR, h52, cx_wh_s h48, cx_rd_eq hq, hY]) (by have z := (cx_rd_keep hV hn ho hSI).1; rw [cx_rd_eq hq] at z; exact z) hw (lv_sub hl [0, 1, 3, 4, 5] rfl)
                      refine cx_ifne_b (tgt := 164) hx hb dX0_isStrong_157 (by decide) (fun h157 => ?_) (fun h157 => ?_)
                      · refine lv_iconst (v := nI 1) hx hb dX0_isStrong_164 (by decide) ?_
                        refine lv_goto (tgt := 169) hx hb dX0_isStrong_165 (by decide) ?_
                        exact cx_top (cx_j1 (by simp [h157])) J169
                      · refine lv_iload_n hx hb dX0_isStrong_160 rfl (lv_at hl 2 rfl) ?_
                        refine cx_ifeq_b (tgt := 168) hx hb dX0_isStrong_161 (by decide) (fun h161 => ?_) (fun h161 => ?_)
                        · refine lv_iconst (v := nI 0) hx hb dX0_isStrong_168 (by decide) ?_
                          exact cx_top (cx_j0 (by simp [h157, h161])) J169
                        · refine lv_iconst (v := nI 1) hx hb dX0_isStrong_164 (by decide) ?_
                          refine lv_goto (tgt := 169) hx hb dX0_isStrong_165 (by decide) ?_
                          exact cx_top (cx_j1 (by simp [h157, h161])) J169
                    · have J109 : W p l e rm0_isStrong s m args below meth c H locs 0 0 Q (F0 m 109 ls [.int (cx_bI ((cx_pa ea o).testBit r && !wr r && decide (us r = us o)))]) := by
                        refine lv_istore (lv' := [(6, .int (cx_bI ((cx_pa ea o).testBit r && !wr r && decide (us r = us o)))), (5, .int (nI r)), (4, .int (nI k)), (3, .int (cx_bI c2)), (2, .int (nI (cx_pa ea o))), (1, .int (nI o)), (0, .ref (ad 0))]) hx hb dX0_isStrong_109 hl (by decide) rfl (fun ls hl => ?_)
                        refine lv_iload hx hb dX0_isStrong_111 (lv_at hl 0 rfl) ?_
                        refine cx_ifeq_b (tgt := 146) hx hb dX0_isStrong_113 (by decide) (fun h113 => ?_) (fun h113 => ?_)
                        · refine lv_iinc (v := (nI (r + 1))) (lv' := [(5, .int (nI (r + 1))), (6, .int (cx_bI ((cx_pa ea o).testBit r && !wr r && decide (us r = us o)))), (4, .int (nI k)), (3, .int (cx_bI c2)), (2, .int (nI (cx_pa ea o))), (1, .int (nI o)), (0, .ref (ad 0))]) hx hb dX0_isStrong_146 hl (k := 1) rfl (cx_inc1 _) (by decide) rfl (fun ls hl => ?_)
                          refine lv_goto (tgt := 60) hx hb dX0_isStrong_149 (by decide) ?_
                          exact ihL60 (r + 1) M2 c2 _ _ _ (by omega) (by omega) (by show cx_rS n us cs wr so (cx_pa ea o) o r (cx_rI n us cs wr so (cx_pa ea o) o r _) = _; rw [hq]; unfold cx_rS; exact if_neg (fun z => by simp [z.1, z.2.1, z.2.2.1] at h113)) hw (lv_sub hl [0, 2, 3, 4, 5, 6] rfl)
                        · refine lv_aload_n hx hb dX0_isStrong_116 rfl (lv_at hl 6 rfl) ?_
                          refine cx0_gS S hK hw dX0_isStrong_117 ?_
                          refine lv_iload hx hb dX0_isStrong_120 (lv_at hl 1 rfl) ?_
                          refine cx0_aS S hK hw (by omega) dX0_isStrong_122 ?_
                          have b122 := hS r
                          refine cx_iflt_s (tgt := 146) hx hb dX0_isStrong_123 (by decide) (by omega) (fun h123 => ?_) (fun h123 => ?_)
                          · refine lv_iinc (v := (nI (r + 1))) (lv' := [(5, .int (nI (r + 1))), (6, .int (cx_bI ((cx_pa ea o).testBit r && !wr r && decide (us r = us o)))), (4, .int (nI k)), (3, .int (cx_bI c2)), (2, .int (nI (cx_pa ea o))), (1, .int (nI o)), (0, .ref (ad 0))]) hx hb dX0_isStrong_146 hl (k := 1) rfl (cx_inc1 _) (by decide) rfl (fun ls hl => ?_)
                            refine lv_goto (tgt := 60) hx hb dX0_isStrong_149 (by decide) ?_
                            exact ihL60 (r + 1) M2 c2 _ _ _ (by omega) (by omega) (by show cx_rS n us cs wr so (cx_pa ea o) o r (cx_rI n us cs wr so (cx_pa ea o) o r _) = _; rw [hq]; unfold cx_rS; exact if_neg (fun z => z.2.2.2 h123)) hw (lv_sub hl [0, 2, 3, 4, 5, 6] rfl)
                          · have hcd : (cx_pa ea o).testBit r = true ∧ wr r = false ∧ us r = us o := by simp at h113; exact ⟨h113.1.1, h113.1.2, h113.2⟩
                            have hSI2 := cx_rI_SI hV hn ho hrn hSI hq
                            refine lv_aload_n hx hb dX0_isStrong_126 rfl (lv_at hl 6 rfl) ?_
                            refine lv_iload hx hb dX0_isStrong_127 (lv_at hl 1 rfl) ?_
                            refine lv_iload_n hx hb dX0_isStrong_129 rfl (lv_at hl 4 rfl) ?_
                            refine cx_cali S (k0_pushBefore l D cI cZ ad hV (by omega) (by omega) hcd.2.1 h123 hp (cx_SI_b hSI2)) (cwV 2 hts (lw_V q98 q100 qs5 q20 q101) rfl rfl rfl (by decide +kernel) ⟨Nat.le_of_ble_eq_true rfl, Nat.le_of_ble_eq_true rfl⟩) hK hw hA rfl rfl rfl rfl hl.1 rfl (Nat.le_of_ble_eq_true rfl) dX0_isStrong_130 ⟨Nat.zero_le _, Nat.zero_le _⟩ (fun r130 σ1 H locs hp hw => ?_)
                            obtain ⟨hr9, rfl⟩ := hp
                            obtain ⟨X, hX⟩ : ∃ X, X = decide (cx_pb cs wr (cx_pa ea o) r (so r) M2 n ≠ M2 (so r)) := ⟨_, rfl⟩
                            rw [← hX] at hr9
                            subst hr9
                            have J145 : W p l e rm0_isStrong s m args below meth c H locs 0 0 Q (F0 m 145 ls [.int (cx_bI (X || c2))]) := by
                              refine lv_istore_n (lv' := [(3, .int (cx_bI (X || c2))), (6, .int (cx_bI ((cx_pa ea o).testBit r && !wr r && decide (us r = us o)))), (5, .int (nI r)), (4, .int (nI k)), (2, .int (nI (cx_pa ea o))), (1, .int (nI o)), (0, .ref (ad 0))]) hx hb dX0_isStrong_145 rfl hl (by decide) rfl (fun ls hl => ?_)
                              refine lv_iinc (v := (nI (r + 1))) (lv' := [(5, .int (nI (r + 1))), (3, .int (cx_bI (X || c2))), (6, .int (cx_bI ((cx_pa ea o).testBit r && !wr r && decide (us r = us o)))), (4, .int (nI k)), (2, .int (nI (cx_pa ea o))), (1, .int (nI o)), (0, .ref (ad 0))]) hx hb dX0_isStrong_146 hl (k := 2) rfl (cx_inc1 _) (by decide) rfl (fun ls hl => ?_)
                              refine lv_goto (tgt := 60) hx hb dX0_isStrong_149 (by decide) ?_
                              exact ihL60 (r + 1) (va_up M2 (so r) (cx_pb cs wr (cx_pa ea o) r (so r) M2 n)) (X || c2) _ _ _ (by omega) (by omega) (by show cx_rS n us cs wr so (cx_pa ea o) o r (cx_rI n us cs wr so (cx_pa ea o) o r _) = _; rw [hq]; unfold cx_rS; rw [if_pos ⟨hcd.1, hcd.2.1, hcd.2.2, h123⟩, hX]) hw (lv_sub hl [0, 3, 1, 4, 5, 6] rfl)
                            refine cx_ifne_b (tgt := 140) hx hb dX0_isStrong_133 (by decide) (fun h133 => ?_) (fun h133 => ?_)
                            · refine lv_iconst (v := nI 1) hx hb dX0_isStrong_140 (by decide) ?_
                              refine lv_goto (tgt := 145) hx hb dX0_isStrong_141 (by decide) ?_
                              exact cx_top (cx_j1 (by simp [h133])) J145
                            · refine lv_iload_n hx hb dX0_isStrong_136 rfl (lv_at hl 3 rfl) ?_
                              refine cx_ifeq_b (tgt := 144) hx hb dX0_isStrong_137 (by decide) (fun h137 => ?_) (fun h137 => ?_)
                              · refine lv_iconst (v := nI 0) hx hb dX0_isStrong_144 (by decide) ?_
                                exact cx_top (cx_j0 (by simp [h133, h137])) J145
                              · refine lv_iconst (v := nI 1) hx hb dX0_isStrong_140 (by decide) ?_
                                refine lv_goto (tgt := 145) hx hb dX0_isStrong_141 (by decide) ?_
                                exact cx_top (cx_j1 (by simp [h133, h137])) J145
                      refine lv_iload_n hx hb dX0_isStrong_69 rfl (lv_at hl 3 rfl) ?_
                      refine lv_iload hx hb dX0_isStrong_70 (lv_at hl 0 rfl) ?_
                      refine cx_iushr hx hb dX0_isStrong_72 (by omega) (by omega) ?_
                      refine lv_iconst (v := nI 1) hx hb dX0_isStrong_73 (by decide) ?_
                      refine cx_iand1 hx hb dX0_isStrong_74 ?_
                      refine cx_ifeq_b (tgt := 108) hx hb dX0_isStrong_75 (by decide) (fun h75 => ?_) (fun h75 => ?_)
                      · refine lv_iconst (v := nI 0) hx hb dX0_isStrong_108 (by decide) ?_
                        exact cx_top (cx_j0 (by simp [h75])) J109
                      · refine lv_aload_n hx hb dX0_isStrong_78 rfl (lv_at hl 5 rfl) ?_
                        refine cx0_gW S hK hw dX0_isStrong_79 ?_
                        refine lv_iload hx hb dX0_isStrong_82 (lv_at hl 0 rfl) ?_
                        refine cx0_aW S hK hw (by omega) dX0_isStrong_84 ?_
                        refine cx_ifne_b (tgt := 108) hx hb dX0_isStrong_85 (by decide) (fun h85 => ?_) (fun h85 => ?_)
                        · refine lv_iconst (v := nI 0) hx hb dX0_isStrong_108 (by decide) ?_
                          exact cx_top (cx_j0 (by simp [h75, h85])) J109
                        · refine lv_aload_n hx hb dX0_isStrong_88 rfl (lv_at hl 5 rfl) ?_
                          refine cx0_gU S hK hw dX0_isStrong_89 ?_
                          refine lv_iload hx hb dX0_isStrong_92 (lv_at hl 0 rfl) ?_
                          refine cx0_aU S hK hw (by omega) dX0_isStrong_94 ?_
                          have b94 := hU r
                          refine lv_aload_n hx hb dX0_isStrong_95 rfl (lv_at hl 5 rfl) ?_
                          refine cx0_gU S hK hw dX0_isStrong_96 ?_
                          refine lv_iload_n hx hb dX0_isStrong_99 rfl (lv_at hl 4 rfl) ?_
                          refine cx0_aU S hK hw (by omega) dX0_isStrong_100 ?_
                          have b100 := hU o
                          refine cx_icmp_ne (tgt := 108) hx hb dX0_isStrong_101 (by decide) (by omega) (by omega) (fun h101 => ?_) (fun h101 => ?_)
                          · refine lv_iconst (v := nI 0) hx hb dX0_isStrong_108 (by decide) ?_
                            exact cx_top (cx_j0 (by simp [h75, h85, h101])) J109
                          · refine lv_iconst (v := nI 1) hx hb dX0_isStrong_104 (by decide) ?_
                            refine lv_goto (tgt := 109) hx hb dX0_isStrong_105 (by decide) ?_
                            exact cx_top (cx_j1 (by simp [h75, h85, h101])) J109
                exact L60 _ 0 M1 false _ _ _ (Nat.lt_succ_self _) (by omega) rfl hw (lv_sub hl [0, 2, 1, 3, 4, 5] rfl)
        exact L44 _ 0 M true _ _ _ (Nat.lt_succ_self _) (by omega) rfl hSI0 hw (lv_sub hl [0, 1, 2, 3, 4] rfl)
      · refine lv_aload_n hx hb dX0_isStrong_21 rfl (lv_at hl 3 rfl) ?_
        refine cx0_gM S hK hw dX0_isStrong_22 ?_
        refine lv_iload_n hx hb dX0_isStrong_25 rfl (lv_at hl 0 rfl) ?_
        refine lv_aload_n hx hb dX0_isStrong_26 rfl (lv_at hl 3 rfl) ?_
        refine cx0_gE S hK hw dX0_isStrong_27 ?_
        refine lv_iload_n hx hb dX0_isStrong_30 rfl (lv_at hl 0 rfl) ?_
        refine cx0_aE S hK hw (by omega) dX0_isStrong_31 ?_
        have b31 := hE a
        refine cx0_sM S hK hw (by omega) dX0_isStrong_32 (fun H locs hw => ?_)
        refine lv_iinc (v := (nI (a + 1))) (lv' := [(3, .int (nI (a + 1))), (2, .int (nI (cx_pa ea o))), (1, .int (nI o)), (0, .ref (ad 0))]) hx hb dX0_isStrong_33 hl (k := 0) rfl (cx_inc1 _) (by decide) rfl (fun ls hl => ?_)
        refine lv_goto (tgt := 13) hx hb dX0_isStrong_36 (by decide) ?_
        exact ihL13 (a + 1) (va_up M a (ea a)) _ _ _ (by omega) (by omega) (cx_cp hc) hw (lv_sub hl [0, 1, 2, 3] rfl)
  exact L13 _ 0 mu _ _ _ (Nat.lt_succ_self _) (by omega) lt_0 hw (lv_sub hl [0, 1, 3, 2] rfl)
abbrev rm0_converges : Room := { frames := 1, cells := 0, slots := 0, locals := 24 }
set_option maxHeartbeats 4000000 in
set_option maxRecDepth 100000 in
/-- converges() -/
theorem k0_converges (l : Launch) (D : va_G) (cI cZ : ClassId) (ad : Nat → Nat) {n : Nat} {us cs : Nat → Nat} {wr : Nat → Bool} {so ea mu : Nat → Nat} (hV : cx_Va n us cs wr so ea) (hn : n ≤ 8) : cx_Ki l yX0_converges cX0_converges 4 (some .boolean) rm0_converges D cI cZ (cx_w0 cI cZ ad) [.ref (ad 0)] (n, us, cs, wr, so, ea, mu) (fun v σ' => v = cx_bI (cx_B (cx_Cv n cs wr so ea)) ∧ ∃ mu', σ' = (n, us, cs, wr, so, ea, mu')) := by
  refine cx_ent (by decide) rfl (fun v σ' h => by rw [h.1]; exact cx_bI_nar _) (Nat.le_of_ble_eq_true rfl) ?_
  intro p e s m args below meth c ls Q A S hK hw hA hl ret
  have hx := S.1
  have hb := S.2.1
  have hts := S.2.2.2.2
  have hl : lv_has ls 4 [(0, .ref (ad 0))] := hl
  have S : CallFix p m c cX0_converges 4 s args lw_all RX0 := S
  have hU := hV.1
  have hC := hV.2.1
  have hS := hV.2.2.1
  have hE := hV.2.2.2.1
  refine lv_iconst (v := nI 0) hx hb dX0_converges_0 (by decide) ?_
  refine lv_istore_n (lv' := [(1, .int (nI 0)), (0, .ref (ad 0))]) hx hb dX0_converges_1 rfl hl (by decide) rfl (fun ls hl => ?_)
  have L2 : ∀ (k : Nat) (a : Nat) (M : Nat → Nat) (H : Heap) (locs : List Loc) (ls : Array Slot), n - a < k → a ≤ n → (∀ x, x < a → M x = ea x) → cx_H D cx_Cl (cx_w0 cI cZ ad (n, us, cs, wr, so, ea, M)) A s.heap H locs → lv_has ls 4 [(1, .int (nI a)), (0, .ref (ad 0))] → W p l e rm0_converges s m args below meth c H locs 0 0 Q (F0 m 2 ls []) := by
    intro k
    induction k with
    | zero => intro a M H locs ls hme; exact absurd hme (Nat.not_lt_zero _)
    | succ k ihL2 =>
      intro a M H locs ls hme han hc hw hl
      refine lv_iload_n hx hb dX0_converges_2 rfl (lv_at hl 0 rfl) ?_
      refine lv_aload_n hx hb dX0_converges_3 rfl (lv_at hl 1 rfl) ?_
      refine cx0_gn S hK hw dX0_converges_4 ?_
      refine cx_icmp_ge (tgt := 28) hx hb dX0_converges_7 (by decide) (by omega) (by omega) (fun h7 => ?_) (fun h7 => ?_)
      · have hc : ∀ x, x < n → M x = ea x := fun x hx => hc x (by omega)
        have hB : ∀ x, x < n → M x < 256 := fun x hx => by rw [hc x hx]; exact hE x
        have hcv := cx_conv hV hn hc
        refine lv_iconst (v := nI 0) hx hb dX0_converges_28 (by decide) ?_
        refine lv_istore_n (lv' := [(1, .int (nI 0)), (0, .ref (ad 0))]) hx hb dX0_converges_29 rfl hl (by decide) rfl (fun ls hl => ?_)
        have L30 : ∀ (f3 : Nat) (r : Nat) (M1 : Nat → Nat) (H : Heap) (locs : List Loc) (ls : Array Slot), n - r < f3 → r ≤ n → cx_vO n cs wr so ea r M = M1 → (∀ x, x < r → ∀ v, v < n → ¬ (cx_se cs wr ea x v ∧ so x = 8)) → (∀ x, x < n → M1 x < 256) → cx_H D cx_Cl (cx_w0 cI cZ ad (n, us, cs, wr, so, ea, M1)) A s.heap H locs → lv_has ls 4 [(1, .int (nI r)), (0, .ref (ad 0))] → W p l e rm0_converges s m args below meth c H locs 0 0 Q (F0 m 30 ls []) := by
          intro f3
          induction f3 with
          | zero => intro r M1 H locs ls hme; exact absurd hme (Nat.not_lt_zero _)
          | succ f3 ihL30 =>
            intro r M1 H locs ls hme hrn hq hno hB1 hw hl
            refine lv_iload_n hx hb dX0_converges_30 rfl (lv_at hl 0 rfl) ?_
            refine lv_aload_n hx hb dX0_converges_31 rfl (lv_at hl 1 rfl) ?_
            refine cx0_gn S hK hw dX0_converges_32 ?_
            refine cx_icmp_ge (tgt := 158) hx hb dX0_converges_35 (by decide) (by omega) (by omega) (fun h35 => ?_) (fun h35 => ?_)
            · have e158 : r = n := by omega
              rw [e158] at hq hno
              rw [hq] at hcv
              refine lv_iconst (v := nI 1) hx hb dX0_converges_158 (by decide) ?_
              refine cx_top (y := cx_bI true) (by decide) ?_
              refine lv_istore_n (lv' := [(1, .int (cx_bI true)), (0, .ref (ad 0))]) hx hb dX0_converges_159 rfl hl (by decide) rfl (fun ls hl => ?_)
              refine lv_iconst (v := nI 0) hx hb dX0_converges_160 (by decide) ?_
              refine lv_istore_n (lv' := [(2, .int (nI 0)), (1, .int (cx_bI true)), (0, .ref (ad 0))]) hx hb dX0_converges_161 rfl hl (by decide) rfl (fun ls hl => ?_)
              have L162 : ∀ (f5 : Nat) (k : Nat) (M3 : Nat → Nat) (ch : Bool) (H : Heap) (locs : List Loc) (ls : Array Slot), 60 - k < f5 → k ≤ 60 → cx_wh (cx_cl 255 n) 60 (M1, true) = cx_wh (cx_cl 255 n) (60 - k) (M3, ch) → (∀ x, x < n → M3 x < 256) → cx_H D cx_Cl (cx_w0 cI cZ ad (n, us, cs, wr, so, ea, M3)) A s.heap H locs → lv_has ls 4 [(2, .int (nI k)), (1, .int (cx_bI ch)), (0, .ref (ad 0))] → W p l e rm0_converges s m args below meth c H locs 0 0 Q (F0 m 162 ls []) := by
                intro f5
                induction f5 with
                | zero => intro k M3 ch H locs ls hme; exact absurd hme (Nat.not_lt_zero _)
                | succ f5 ihL162 =>
                  intro k M3 ch H locs ls hme hk hR hB3 hw hl
                  refine lv_iload_n hx hb dX0_converges_162 rfl (lv_at hl 0 rfl) ?_
                  refine lv_bipush (v := nI 60) hx hb dX0_converges_163 (by decide) ?_
                  refine cx_icmp_ge (tgt := 186) hx hb dX0_converges_165 (by decide) (by omega) (by omega) (fun h165 => ?_) (fun h165 => ?_)
                  · have hfin : (cx_wh (cx_cl 255 n) 60 (M1, true)).1 = M3 := by rw [hR, show 60 - k = 0 by omega]; rfl
                    rw [hfin] at hcv
                    have hno9 : ¬ ∃ r w, r < n ∧ w < n ∧ cx_se cs wr ea r w ∧ so r = 8 := fun ⟨x, v, z1, z2, z3⟩ => hno x z1 v z2 z3
                    refine lv_aload_n hx hb dX0_converges_186 rfl (lv_at hl 2 rfl) ?_
                    refine cx_cali S (k0_hasRing l D cI cZ ad hn hB3) (cwV 0 hts (lw_V q106 q108 qs7 q20 q109) rfl rfl rfl (by decide +kernel) ⟨Nat.le_of_ble_eq_true rfl, Nat.le_of_ble_eq_true rfl⟩) hK hw hA rfl rfl rfl rfl hl.1 rfl (Nat.le_of_ble_eq_true rfl) dX0_converges_187 ⟨Nat.zero_le _, Nat.zero_le _⟩ (fun r187 σ1 H locs hp hw => ?_)
                    obtain ⟨rfl, rfl⟩ := hp
                    refine cx_ifne_b (tgt := 197) hx hb dX0_converges_190 (by decide) (fun h190 => ?_) (fun h190 => ?_)
                    · refine lv_iconst (v := nI 0) hx hb dX0_converges_197 (by decide) ?_
                      exact ret _ (n, us, cs, wr, so, ea, M3) _ _ _ _ dX0_converges_198 hw ⟨cx_j0 (cx_B_f (fun z => (hcv.mpr z).2 (cx_B_iff.mp h190))), _, rfl⟩
                    · refine lv_iconst (v := nI 1) hx hb dX0_converges_193 (by decide) ?_
                      refine lv_goto (tgt := 198) hx hb dX0_converges_194 (by decide) ?_
                      exact ret _ (n, us, cs, wr, so, ea, M3) _ _ _ _ dX0_converges_198 hw ⟨cx_j1 (cx_B_t (hcv.mp ⟨hno9, cx_B_n h190⟩)), _, rfl⟩
                  · refine lv_iload_n hx hb dX0_converges_168 rfl (lv_at hl 1 rfl) ?_
                    refine cx_ifeq_b (tgt := 186) hx hb dX0_converges_169 (by decide) (fun h169 => ?_) (fun h169 => ?_)
                    · have hfin : (cx_wh (cx_cl 255 n) 60 (M1, true)).1 = M3 := by rw [hR, h169, cx_wh_f]
                      rw [hfin] at hcv
                      have hno9 : ¬ ∃ r w, r < n ∧ w < n ∧ cx_se cs wr ea r w ∧ so r = 8 := fun ⟨x, v, z1, z2, z3⟩ => hno x z1 v z2 z3
                      refine lv_aload_n hx hb dX0_converges_186 rfl (lv_at hl 2 rfl) ?_
                      refine cx_cali S (k0_hasRing l D cI cZ ad hn hB3) (cwV 0 hts (lw_V q106 q108 qs7 q20 q109) rfl rfl rfl (by decide +kernel) ⟨Nat.le_of_ble_eq_true rfl, Nat.le_of_ble_eq_true rfl⟩) hK hw hA rfl rfl rfl rfl hl.1 rfl (Nat.le_of_ble_eq_true rfl) dX0_converges_187 ⟨Nat.zero_le _, Nat.zero_le _⟩ (fun r187 σ1 H locs hp hw => ?_)
                      obtain ⟨rfl, rfl⟩ := hp
                      refine cx_ifne_b (tgt := 197) hx hb dX0_converges_190 (by decide) (fun h190 => ?_) (fun h190 => ?_)
                      · refine lv_iconst (v := nI 0) hx hb dX0_converges_197 (by decide) ?_
                        exact ret _ (n, us, cs, wr, so, ea, M3) _ _ _ _ dX0_converges_198 hw ⟨cx_j0 (cx_B_f (fun z => (hcv.mpr z).2 (cx_B_iff.mp h190))), _, rfl⟩
                      · refine lv_iconst (v := nI 1) hx hb dX0_converges_193 (by decide) ?_
                        refine lv_goto (tgt := 198) hx hb dX0_converges_194 (by decide) ?_
                        exact ret _ (n, us, cs, wr, so, ea, M3) _ _ _ _ dX0_converges_198 hw ⟨cx_j1 (cx_B_t (hcv.mp ⟨hno9, cx_B_n h190⟩)), _, rfl⟩
                    · refine lv_aload_n hx hb dX0_converges_172 rfl (lv_at hl 2 rfl) ?_
                      refine lv_sipush (v := nI 255) hx hb dX0_converges_173 (by decide) ?_
                      refine cx_cali S (k0_close l D cI cZ ad hn (by decide) hB3) (cwV 1 hts (lw_V q102 q104 qs6 q20 q105) rfl rfl rfl (by decide +kernel) ⟨Nat.le_of_ble_eq_true rfl, Nat.le_of_ble_eq_true rfl⟩) hK hw hA rfl rfl rfl rfl hl.1 rfl (Nat.le_of_ble_eq_true rfl) dX0_converges_176 ⟨Nat.zero_le _, Nat.zero_le _⟩ (fun r176 σ1 H locs hp hw => ?_)
                      obtain ⟨rfl, rfl⟩ := hp
                      refine lv_istore_n (lv' := [(1, .int (cx_bI ((cx_cl 255 n M3).2))), (2, .int (nI k)), (0, .ref (ad 0))]) hx hb dX0_converges_179 rfl hl (by decide) rfl (fun ls hl => ?_)
                      refine lv_iinc (v := (nI (k + 1))) (lv' := [(2, .int (nI (k + 1))), (1, .int (cx_bI ((cx_cl 255 n M3).2))), (0, .ref (ad 0))]) hx hb dX0_converges_180 hl (k := 1) rfl (cx_inc1 _) (by decide) rfl (fun ls hl => ?_)
                      refine lv_goto (tgt := 162) hx hb dX0_converges_183 (by decide) ?_
                      exact ihL162 (k + 1) ((cx_cl 255 n M3).1) ((cx_cl 255 n M3).2) _ _ _ (by omega) (by omega) (by rw [hR, h169, cx_wh_s h165]) (cx_cl_B hB3) hw (lv_sub hl [0, 1, 2] rfl)
              exact L162 _ 0 M1 true _ _ _ (Nat.lt_succ_self _) (by omega) rfl hB1 hw (lv_sub hl [0, 1, 2] rfl)
            · refine lv_iconst (v := nI 0) hx hb dX0_converges_38 (by decide) ?_
              refine lv_istore_n (lv' := [(2, .int (nI 0)), (1, .int (nI r)), (0, .ref (ad 0))]) hx hb dX0_converges_39 rfl hl (by decide) rfl (fun ls hl => ?_)
              have L40 : ∀ (f4 : Nat) (w : Nat) (M2 : Nat → Nat) (H : Heap) (locs : List Loc) (ls : Array Slot), n - w < f4 → w ≤ n → cx_vI cs wr so ea r w (cx_vO n cs wr so ea r M) = M2 → (∀ v, v < w → ¬ (cx_se cs wr ea r v ∧ so r = 8)) → (∀ x, x < n → M2 x < 256) → cx_H D cx_Cl (cx_w0 cI cZ ad (n, us, cs, wr, so, ea, M2)) A s.heap H locs → lv_has ls 4 [(2, .int (nI w)), (1, .int (nI r)), (0, .ref (ad 0))] → W p l e rm0_converges s m args below meth c H locs 0 0 Q (F0 m 40 ls []) := by
                intro f4
                induction f4 with
                | zero => intro w M2 H locs ls hme; exact absurd hme (Nat.not_lt_zero _)
                | succ f4 ihL40 =>
                  intro w M2 H locs ls hme hwn hq2 hno2 hB2 hw hl
                  refine lv_iload_n hx hb dX0_converges_40 rfl (lv_at hl 0 rfl) ?_
                  refine lv_aload_n hx hb dX0_converges_41 rfl (lv_at hl 2 rfl) ?_
                  refine cx0_gn S hK hw dX0_converges_42 ?_
                  refine cx_icmp_ge (tgt := 152) hx hb dX0_converges_45 (by decide) (by omega) (by omega) (fun h45 => ?_) (fun h45 => ?_)
                  · refine lv_iinc (v := (nI (r + 1))) (lv' := [(1, .int (nI (r + 1))), (2, .int (nI w)), (0, .ref (ad 0))]) hx hb dX0_converges_152 hl (k := 1) rfl (cx_inc1 _) (by decide) rfl (fun ls hl => ?_)
                    refine lv_goto (tgt := 30) hx hb dX0_converges_155 (by decide) ?_
                    exact ihL30 (r + 1) M2 _ _ _ (by omega) (by omega) (by have e9 : w = n := (by omega); rw [e9] at hq2; exact hq2) (lt_s hno (fun v hv => hno2 v (by omega))) hB2 hw (lv_sub hl [0, 2] rfl)
                  · have J99 : W p l e rm0_converges s m args below meth c H locs 0 0 Q (F0 m 99 ls [.int (cx_bI (!wr r && wr w && decide (cs w = cs r) && (ea r).testBit w))]) := by
                      refine lv_istore_n (lv' := [(3, .int (cx_bI (!wr r && wr w && decide (cs w = cs r) && (ea r).testBit w))), (2, .int (nI w)), (1, .int (nI r)), (0, .ref (ad 0))]) hx hb dX0_converges_99 rfl hl (by decide) rfl (fun ls hl => ?_)
                      refine lv_iload_n hx hb dX0_converges_100 rfl (lv_at hl 0 rfl) ?_
                      refine cx_ifeq_b (tgt := 115) hx hb dX0_converges_101 (by decide) (fun h101 => ?_) (fun h101 => ?_)
                      · refine lv_iload_n hx hb dX0_converges_115 rfl (lv_at hl 0 rfl) ?_
                        refine cx_ifeq_b (tgt := 146) hx hb dX0_converges_116 (by decide) (fun h116 => ?_) (fun h116 => ?_)
                        · refine lv_iinc (v := (nI (w + 1))) (lv' := [(2, .int (nI (w + 1))), (3, .int (cx_bI (!wr r && wr w && decide (cs w = cs r) && (ea r).testBit w))), (1, .int (nI r)), (0, .ref (ad 0))]) hx hb dX0_converges_146 hl (k := 1) rfl (cx_inc1 _) (by decide) rfl (fun ls hl => ?_)
                          refine lv_goto (tgt := 40) hx hb dX0_converges_149 (by decide) ?_
                          exact ihL40 (w + 1) M2 _ _ _ (by omega) (by omega) (by show cx_vS cs wr so ea r w (cx_vI cs wr so ea r w _) = _; rw [hq2]; exact if_neg (fun z => by simp [z.1, z.2.1, z.2.2.1, z.2.2.2.1] at h116)) (lt_s hno2 (fun z => by obtain ⟨⟨z1, z2, z3, z4⟩, z5⟩ := z; simp [z1, z2, z3, z4] at h116)) hB2 hw (lv_sub hl [0, 2, 3] rfl)
                        · rw [h101] at h116
                          cases h116
                      · refine lv_aload_n hx hb dX0_converges_104 rfl (lv_at hl 3 rfl) ?_
                        refine cx0_gS S hK hw dX0_converges_105 ?_
                        refine lv_iload_n hx hb dX0_converges_108 rfl (lv_at hl 2 rfl) ?_
                        refine cx0_aS S hK hw (by omega) dX0_converges_109 ?_
                        have b109 := hS r
                        refine cx_ifge_s (tgt := 115) hx hb dX0_converges_110 (by decide) (by omega) (fun h110 => ?_) (fun h110 => ?_)
                        · refine lv_iload_n hx hb dX0_converges_115 rfl (lv_at hl 0 rfl) ?_
                          refine cx_ifeq_b (tgt := 146) hx hb dX0_converges_116 (by decide) (fun h116 => ?_) (fun h116 => ?_)
                          · refine lv_iinc (v := (nI (w + 1))) (lv' := [(2, .int (nI (w + 1))), (3, .int (cx_bI (!wr r && wr w && decide (cs w = cs r) && (ea r).testBit w))), (1, .int (nI r)), (0, .ref (ad 0))]) hx hb dX0_converges_146 hl (k := 1) rfl (cx_inc1 _) (by decide) rfl (fun ls hl => ?_)
                            refine lv_goto (tgt := 40) hx hb dX0_converges_149 (by decide) ?_
                            exact ihL40 (w + 1) M2 _ _ _ (by omega) (by omega) (by show cx_vS cs wr so ea r w (cx_vI cs wr so ea r w _) = _; rw [hq2]; exact if_neg (fun z => by simp [z.1, z.2.1, z.2.2.1, z.2.2.2.1] at h116)) (lt_s hno2 (fun z => by obtain ⟨⟨z1, z2, z3, z4⟩, z5⟩ := z; simp [z1, z2, z3, z4] at h116)) hB2 hw (lv_sub hl [0, 2, 3] rfl)
                          · have hse : cx_se cs wr ea r w := by simp at h116; exact ⟨h116.1.1.1, h116.1.1.2, h116.1.2, h116.2⟩
                            have hsr : so r < r := (hV.2.2.2.2.2.2.2 r (by omega) hse.1).elim (fun z => absurd z h110) (fun z => z.1)
                            refine lv_iload_n hx hb dX0_converges_119 rfl (lv_at hl 1 rfl) ?_
                            refine lv_aload_n hx hb dX0_converges_120 rfl (lv_at hl 3 rfl) ?_
                            refine cx0_gS S hK hw dX0_converges_121 ?_
                            refine lv_iload_n hx hb dX0_converges_124 rfl (lv_at hl 2 rfl) ?_
                            refine cx0_aS S hK hw (by omega) dX0_converges_125 ?_
                            have b125 := hS r
                            refine cx_icmp_eq_s (tgt := 146) hx hb dX0_converges_126 (by decide) (by omega) (by omega) (fun h126 => ?_) (fun h126 => ?_)
                            · refine lv_iinc (v := (nI (w + 1))) (lv' := [(2, .int (nI (w + 1))), (3, .int (cx_bI (!wr r && wr w && decide (cs w = cs r) && (ea r).testBit w))), (1, .int (nI r)), (0, .ref (ad 0))]) hx hb dX0_converges_146 hl (k := 1) rfl (cx_inc1 _) (by decide) rfl (fun ls hl => ?_)
                              refine lv_goto (tgt := 40) hx hb dX0_converges_149 (by decide) ?_
                              exact ihL40 (w + 1) M2 _ _ _ (by omega) (by omega) (by show cx_vS cs wr so ea r w (cx_vI cs wr so ea r w _) = _; rw [hq2]; exact if_neg (fun z => z.2.2.2.2 h126)) (lt_s hno2 (fun z => h110 z.2)) hB2 hw (lv_sub hl [0, 2, 3] rfl)
                            · refine lv_aload_n hx hb dX0_converges_129 rfl (lv_at hl 3 rfl) ?_
                              refine cx0_gM S hK hw dX0_converges_130 ?_
                              refine lv_aload_n hx hb dX0_converges_133 rfl (lv_at hl 3 rfl) ?_
                              refine cx0_gS S hK hw dX0_converges_134 ?_
                              refine lv_iload_n hx hb dX0_converges_137 rfl (lv_at hl 2 rfl) ?_
                              refine cx0_aS S hK hw (by omega) dX0_converges_138 ?_
                              have b138 := hS r
                              refine cx_top (cx_sI_n h110) ?_
                              refine lv_dup2_11 hx hb dX0_converges_139 rfl rfl ?_
                              refine cx0_aM S hK hw (by omega) dX0_converges_140 ?_
                              refine lv_iconst (v := nI 1) hx hb dX0_converges_141 (by decide) ?_
                              refine lv_iload_n hx hb dX0_converges_142 rfl (lv_at hl 1 rfl) ?_
                              refine cx_ishl hx hb dX0_converges_143 (by omega) ?_
                              refine cx_ior hx hb dX0_converges_144 ?_
                              refine cx0_sM S hK hw (by omega) dX0_converges_145 (fun H locs hw => ?_)
                              refine lv_iinc (v := (nI (w + 1))) (lv' := [(2, .int (nI (w + 1))), (3, .int (cx_bI (!wr r && wr w && decide (cs w = cs r) && (ea r).testBit w))), (1, .int (nI r)), (0, .ref (ad 0))]) hx hb dX0_converges_146 hl (k := 1) rfl (cx_inc1 _) (by decide) rfl (fun ls hl => ?_)
                              refine lv_goto (tgt := 40) hx hb dX0_converges_149 (by decide) ?_
                              exact ihL40 (w + 1) (va_up M2 (so r) ((M2 (so r)) ||| (2 ^ w))) _ _ _ (by omega) (by omega) (by show cx_vS cs wr so ea r w (cx_vI cs wr so ea r w _) = _; rw [hq2]; exact if_pos ⟨hse.1, hse.2.1, hse.2.2.1, hse.2.2.2, h126⟩) (lt_s hno2 (fun z => h110 z.2)) (cx_upB hB2 (cx_or8 (hB2 (so r) (by omega)) (cx_p28 (by omega)))) hw (lv_sub hl [0, 2, 3] rfl)
                        · refine lv_iconst (v := nI 0) hx hb dX0_converges_113 (by decide) ?_
                          have hse : cx_se cs wr ea r w := by simp at h101; exact ⟨h101.1.1.1, h101.1.1.2, h101.1.2, h101.2⟩
                          exact ret _ (n, us, cs, wr, so, ea, M2) _ _ _ _ dX0_converges_114 hw ⟨cx_j0 (cx_B_f (fun z => (hcv.mpr z).1 ⟨r, w, h35, h45, hse, h110⟩)), _, rfl⟩
                    refine lv_aload_n hx hb dX0_converges_48 rfl (lv_at hl 2 rfl) ?_
                    refine cx0_gW S hK hw dX0_converges_49 ?_
                    refine lv_iload_n hx hb dX0_converges_52 rfl (lv_at hl 1 rfl) ?_
                    refine cx0_aW S hK hw (by omega) dX0_converges_53 ?_
                    refine cx_ifne_b (tgt := 98) hx hb dX0_converges_54 (by decide) (fun h54 => ?_) (fun h54 => ?_)
                    · refine lv_iconst (v := nI 0) hx hb dX0_converges_98 (by decide) ?_
                      exact cx_top (cx_j0 (by simp [h54])) J99
                    · refine lv_aload_n hx hb dX0_converges_57 rfl (lv_at hl 2 rfl) ?_
                      refine cx0_gW S hK hw dX0_converges_58 ?_
                      refine lv_iload_n hx hb dX0_converges_61 rfl (lv_at hl 0 rfl) ?_
                      refine cx0_aW S hK hw (by omega) dX0_converges_62 ?_
                      refine cx_ifeq_b (tgt := 98) hx hb dX0_converges_63 (by decide) (fun h63 => ?_) (fun h63 => ?_)
                      · refine lv_iconst (v := nI 0) hx hb dX0_converges_98 (by decide) ?_
                        exact cx_top (cx_j0 (by simp [h54, h63])) J99
                      · refine lv_aload_n hx hb dX0_converges_66 rfl (lv_at hl 2 rfl) ?_
                        refine cx0_gC S hK hw dX0_converges_67 ?_
                        refine lv_iload_n hx hb dX0_converges_70 rfl (lv_at hl 0 rfl) ?_
                        refine cx0_aC S hK hw (by omega) dX0_converges_71 ?_
                        have b71 := hC w
                        refine lv_aload_n hx hb dX0_converges_72 rfl (lv_at hl 2 rfl) ?_
                        refine cx0_gC S hK hw dX0_converges_73 ?_
                        refine lv_iload_n hx hb dX0_converges_76 rfl (lv_at hl 1 rfl) ?_
                        refine cx0_aC S hK hw (by omega) dX0_converges_77 ?_
                        have b77 := hC r
                        refine cx_icmp_ne (tgt := 98) hx hb dX0_converges_78 (by decide) (by omega) (by omega) (fun h78 => ?_) (fun h78 => ?_)
                        · refine lv_iconst (v := nI 0) hx hb dX0_converges_98 (by decide) ?_
                          exact cx_top (cx_j0 (by simp [h54, h63, h78])) J99
                        · refine lv_aload_n hx hb dX0_converges_81 rfl (lv_at hl 2 rfl) ?_
                          refine cx0_gE S hK hw dX0_converges_82 ?_
                          refine lv_iload_n hx hb dX0_converges_85 rfl (lv_at hl 1 rfl) ?_
                          refine cx0_aE S hK hw (by omega) dX0_converges_86 ?_
                          have b86 := hE r
                          refine lv_iload_n hx hb dX0_converges_87 rfl (lv_at hl 0 rfl) ?_
                          refine cx_iushr hx hb dX0_converges_88 (by omega) (by omega) ?_
                          refine lv_iconst (v := nI 1) hx hb dX0_converges_89 (by decide) ?_
                          refine cx_iand1 hx hb dX0_converges_90 ?_
                          refine cx_ifeq_b (tgt := 98) hx hb dX0_converges_91 (by decide) (fun h91 => ?_) (fun h91 => ?_)
                          · refine lv_iconst (v := nI 0) hx hb dX0_converges_98 (by decide) ?_
                            exact cx_top (cx_j0 (by simp [h54, h63, h78, h91])) J99
                          · refine lv_iconst (v := nI 1) hx hb dX0_converges_94 (by decide) ?_
                            refine lv_goto (tgt := 99) hx hb dX0_converges_95 (by decide) ?_
                            exact cx_top (cx_j1 (by simp [h54, h63, h78, h91])) J99
              exact L40 _ 0 M1 _ _ _ (Nat.lt_succ_self _) (by omega) hq lt_0 hB1 hw (lv_sub hl [0, 1, 2] rfl)
        exact L30 _ 0 M _ _ _ (Nat.lt_succ_self _) (by omega) rfl lt_0 hB hw (lv_sub hl [0, 1] rfl)
      · refine lv_aload_n hx hb dX0_converges_10 rfl (lv_at hl 1 rfl) ?_
        refine cx0_gM S hK hw dX0_converges_11 ?_
        refine lv_iload_n hx hb dX0_converges_14 rfl (lv_at hl 0 rfl) ?_
        refine lv_aload_n hx hb dX0_converges_15 rfl (lv_at hl 1 rfl) ?_
        refine cx0_gE S hK hw dX0_converges_16 ?_
        refine lv_iload_n hx hb dX0_converges_19 rfl (lv_at hl 0 rfl) ?_
        refine cx0_aE S hK hw (by omega) dX0_converges_20 ?_
        have b20 := hE a
        refine cx0_sM S hK hw (by omega) dX0_converges_21 (fun H locs hw => ?_)
        refine lv_iinc (v := (nI (a + 1))) (lv' := [(1, .int (nI (a + 1))), (0, .ref (ad 0))]) hx hb dX0_converges_22 hl (k := 0) rfl (cx_inc1 _) (by decide) rfl (fun ls hl => ?_)
        refine lv_goto (tgt := 2) hx hb dX0_converges_25 (by decide) ?_
        exact ihL2 (a + 1) (va_up M a (ea a)) _ _ _ (by omega) (by omega) (cx_cp hc) hw (lv_sub hl [0, 1] rfl)
  exact L2 _ 0 mu _ _ _ (Nat.lt_succ_self _) (by omega) lt_0 hw (lv_sub hl [0, 1] rfl)
end
section
/-! CausalCheck: what the law calls (printed by gen/x0d.py) -/
abbrev rm0_back : Room := { frames := 0, cells := 0, slots := 0, locals := 0 }
set_option maxHeartbeats 4000000 in
set_option maxRecDepth 100000 in
/-- back() -/
theorem k0_back (l : Launch) (D : va_G) (cI cZ : ClassId) (ad : Nat → Nat) {n : Nat} {us cs : Nat → Nat} {wr : Nat → Bool} {so ea mu : Nat → Nat} (hn : n ≤ 7) : cx_Ki l yX0_back cX0_back 1 (some .int) rm0_back D cI cZ (cx_w0 cI cZ ad) [.ref (ad 0)] (n, us, cs, wr, so, ea, mu) (fun v σ' => v = cx_rb n ∧ σ' = (n - 1, us, cs, wr, so, ea, mu)) := by
  refine cx_ent (by decide) rfl (fun v _ _ => vp_nar_int v) (Nat.le_of_ble_eq_true rfl) ?_
  intro p e s m args below meth c ls Q A S hK hw hA hl ret
  have hx := S.1
  have hb := S.2.1
  have hts := S.2.2.2.2
  have hl : lv_has ls 1 [(0, .ref (ad 0))] := hl
  have S : CallFix p m c cX0_back 1 s args lw_all RX0 := S
  refine lv_aload_n hx hb dX0_back_0 rfl (lv_at hl 0 rfl) ?_
  refine cx0_gn S hK hw dX0_back_1 ?_
  refine cx_ifne_n (tgt := 9) hx hb dX0_back_4 (by decide) (by omega) (fun h4 => ?_) (fun h4 => ?_)
  · refine lv_aload_n hx hb dX0_back_9 rfl (lv_at hl 0 rfl) ?_
    refine lv_dup hx hb dX0_back_10 rfl ?_
    refine cx0_gn S hK hw dX0_back_11 ?_
    refine lv_iconst (v := nI 1) hx hb dX0_back_14 (by decide) ?_
    refine cx_isub hx hb dX0_back_15 (by omega) ?_
    refine cx0_pn S hK hw dX0_back_16 (fun H locs hw => ?_)
    refine lv_aload_n hx hb dX0_back_19 rfl (lv_at hl 0 rfl) ?_
    refine cx0_gn S hK hw dX0_back_20 ?_
    exact ret _ ((n - 1), us, cs, wr, so, ea, mu) _ _ _ _ dX0_back_23 hw (⟨(if_neg h4).symm, rfl⟩)
  · refine lv_iconst (v := -1) hx hb dX0_back_7 (by decide) ?_
    exact ret _ (n, us, cs, wr, so, ea, mu) _ _ _ _ dX0_back_8 hw (⟨(if_pos h4).symm, by rw [h4]⟩)
abbrev rm0_before : Room := { frames := 1, cells := 0, slots := 0, locals := 21 }
set_option maxHeartbeats 4000000 in
set_option maxRecDepth 100000 in
/-- before(a, b) -/
theorem k0_before (l : Launch) (D : va_G) (cI cZ : ClassId) (ad : Nat → Nat) {n : Nat} {us cs : Nat → Nat} {wr : Nat → Bool} {so ea mu : Nat → Nat} (hV : cx_Va n us cs wr so ea) (hn : n ≤ 8) (a0 b0 : Int32) : cx_Ki l yX0_before cX0_before 3 (some .int) rm0_before D cI cZ (cx_w0 cI cZ ad) [.ref (ad 0), .int a0, .int b0] (n, us, cs, wr, so, ea, mu) (fun v σ' => cx_R2 n (fun k j => cx_bI ((ea j).testBit k)) a0 b0 v ∧ σ' = (n, us, cs, wr, so, ea, mu)) := by
  refine cx_ent (by decide) rfl (fun v _ _ => vp_nar_int v) (Nat.le_of_ble_eq_true rfl) ?_
  intro p e s m args below meth c ls Q A S hK hw hA hl ret
  have hx := S.1
  have hb := S.2.1
  have hts := S.2.2.2.2
  have hl : lv_has ls 3 [(0, .ref (ad 0)), (1, .int a0), (2, .int b0)] := hl
  have S : CallFix p m c cX0_before 3 s args lw_all RX0 := S
  have hU := hV.1
  have hC := hV.2.1
  have hS := hV.2.2.1
  have hE := hV.2.2.2.1
  refine lv_aload_n hx hb dX0_before_0 rfl (lv_at hl 0 rfl) ?_
  refine lv_iload_n hx hb dX0_before_1 rfl (lv_at hl 1 rfl) ?_
  refine cx_cali S (k0_isHeld l D cI cZ ad hn a0) (cwV 1 hts (lw_V q78 q80 qs2 q20 q81) rfl rfl rfl (by decide +kernel) ⟨Nat.le_of_ble_eq_true rfl, Nat.le_of_ble_eq_true rfl⟩) hK hw hA rfl rfl rfl rfl hl.1 rfl (Nat.le_of_ble_eq_true rfl) dX0_before_2 ⟨Nat.zero_le _, Nat.zero_le _⟩ (fun r2 σ1 H locs hp hw => ?_)
  obtain ⟨rfl, rfl⟩ := hp
  refine cx_ifeq_b (tgt := 29) hx hb dX0_before_5 (by decide) (fun h5 => ?_) (fun h5 => ?_)
  · refine lv_iconst (v := -1) hx hb dX0_before_29 (by decide) ?_
    exact ret _ (n, us, cs, wr, so, ea, mu) _ _ _ _ dX0_before_30 hw ⟨Or.inr ⟨Or.inl (cx_B_n h5), rfl⟩, rfl⟩
  · refine lv_aload_n hx hb dX0_before_8 rfl (lv_at hl 0 rfl) ?_
    refine lv_iload_n hx hb dX0_before_9 rfl (lv_at hl 2 rfl) ?_
    refine cx_cali S (k0_isHeld l D cI cZ ad hn b0) (cwV 1 hts (lw_V q78 q80 qs2 q20 q81) rfl rfl rfl (by decide +kernel) ⟨Nat.le_of_ble_eq_true rfl, Nat.le_of_ble_eq_true rfl⟩) hK hw hA rfl rfl rfl rfl hl.1 rfl (Nat.le_of_ble_eq_true rfl) dX0_before_10 ⟨Nat.zero_le _, Nat.zero_le _⟩ (fun r10 σ1 H locs hp hw => ?_)
    obtain ⟨rfl, rfl⟩ := hp
    refine cx_ifeq_b (tgt := 29) hx hb dX0_before_13 (by decide) (fun h13 => ?_) (fun h13 => ?_)
    · refine lv_iconst (v := -1) hx hb dX0_before_29 (by decide) ?_
      exact ret _ (n, us, cs, wr, so, ea, mu) _ _ _ _ dX0_before_30 hw ⟨Or.inr ⟨Or.inr (cx_B_n h13), rfl⟩, rfl⟩
    · obtain ⟨k, hk, rfl⟩ := cx_B_iff.mp h5
      obtain ⟨j, hj, rfl⟩ := cx_B_iff.mp h13
      refine lv_aload_n hx hb dX0_before_16 rfl (lv_at hl 0 rfl) ?_
      refine cx0_gE S hK hw dX0_before_17 ?_
      refine lv_iload_n hx hb dX0_before_20 rfl (lv_at hl 2 rfl) ?_
      refine cx0_aE S hK hw (by omega) dX0_before_21 ?_
      have b21 := hE j
      refine lv_iload_n hx hb dX0_before_22 rfl (lv_at hl 1 rfl) ?_
      refine cx_iushr hx hb dX0_before_23 (by omega) (by omega) ?_
      refine lv_iconst (v := nI 1) hx hb dX0_before_24 (by decide) ?_
      refine cx_iand1 hx hb dX0_before_25 ?_
      refine lv_goto (tgt := 30) hx hb dX0_before_26 (by decide) ?_
      exact ret _ (n, us, cs, wr, so, ea, mu) _ _ _ _ dX0_before_30 hw ⟨Or.inl ⟨k, j, hk, hj, rfl, rfl, rfl⟩, rfl⟩
abbrev rm0_weak : Room := { frames := 1, cells := 0, slots := 0, locals := 23 }
set_option maxHeartbeats 4000000 in
set_option maxRecDepth 100000 in
/-- weak(o) -/
theorem k0_weak (l : Launch) (D : va_G) (cI cZ : ClassId) (ad : Nat → Nat) {n : Nat} {us cs : Nat → Nat} {wr : Nat → Bool} {so ea mu : Nat → Nat} (hV : cx_Va n us cs wr so ea) (hn : n ≤ 8) (o : Int32) : cx_Ki l yX0_weak cX0_weak 2 (some .int) rm0_weak D cI cZ (cx_w0 cI cZ ad) [.ref (ad 0), .int o] (n, us, cs, wr, so, ea, mu) (fun v σ' => cx_R1 n (fun k => cx_bI (cx_B (cx_WK cs wr so ea k))) o v ∧ ∃ mu', σ' = (n, us, cs, wr, so, ea, mu')) := by
  refine cx_ent (by decide) rfl (fun v _ _ => vp_nar_int v) (Nat.le_of_ble_eq_true rfl) ?_
  intro p e s m args below meth c ls Q A S hK hw hA hl ret
  have hx := S.1
  have hb := S.2.1
  have hts := S.2.2.2.2
  have hl : lv_has ls 2 [(0, .ref (ad 0)), (1, .int o)] := hl
  have S : CallFix p m c cX0_weak 2 s args lw_all RX0 := S
  refine lv_aload_n hx hb dX0_weak_0 rfl (lv_at hl 0 rfl) ?_
  refine lv_iload_n hx hb dX0_weak_1 rfl (lv_at hl 1 rfl) ?_
  refine cx_cali S (k0_isHeld l D cI cZ ad (by omega) o) (cwV 1 hts (lw_V q78 q80 qs2 q20 q81) rfl rfl rfl (by decide +kernel) ⟨Nat.le_of_ble_eq_true rfl, Nat.le_of_ble_eq_true rfl⟩) hK hw hA rfl rfl rfl rfl hl.1 rfl (Nat.le_of_ble_eq_true rfl) dX0_weak_2 ⟨Nat.zero_le _, Nat.zero_le _⟩ (fun r2 σ1 H locs hp hw => ?_)
  obtain ⟨rfl, rfl⟩ := hp
  refine cx_ifne_b (tgt := 10) hx hb dX0_weak_5 (by decide) (fun h5 => ?_) (fun h5 => ?_)
  · obtain ⟨k, hk, rfl⟩ := cx_B_iff.mp h5
    refine lv_aload_n hx hb dX0_weak_10 rfl (lv_at hl 0 rfl) ?_
    refine lv_iload_n hx hb dX0_weak_11 rfl (lv_at hl 1 rfl) ?_
    refine cx_cali S (k0_isWeak l D cI cZ ad hV hn hk) (cwV 1 hts (lw_V q86 q88 qs3 q20 q89) rfl rfl rfl (by decide +kernel) ⟨Nat.le_of_ble_eq_true rfl, Nat.le_of_ble_eq_true rfl⟩) hK hw hA rfl rfl rfl rfl hl.1 rfl (Nat.le_of_ble_eq_true rfl) dX0_weak_12 ⟨Nat.zero_le _, Nat.zero_le _⟩ (fun r12 σ1 H locs hp hw => ?_)
    rw [cx_B_eq (cx_WK_iff hV hn hk)] at hp
    obtain ⟨rfl, rfl⟩ := hp
    refine cx_ifeq_b (tgt := 22) hx hb dX0_weak_15 (by decide) (fun h15 => ?_) (fun h15 => ?_)
    · refine lv_iconst (v := nI 0) hx hb dX0_weak_22 (by decide) ?_
      exact ret _ (n, us, cs, wr, so, ea, mu) _ _ _ _ dX0_weak_23 hw ⟨Or.inl ⟨k, hk, rfl, cx_j0 h15⟩, _, rfl⟩
    · refine lv_iconst (v := nI 1) hx hb dX0_weak_18 (by decide) ?_
      refine lv_goto (tgt := 23) hx hb dX0_weak_19 (by decide) ?_
      exact ret _ (n, us, cs, wr, so, ea, mu) _ _ _ _ dX0_weak_23 hw ⟨Or.inl ⟨k, hk, rfl, cx_j1 h15⟩, _, rfl⟩
  · refine lv_iconst (v := -1) hx hb dX0_weak_8 (by decide) ?_
    exact ret _ (n, us, cs, wr, so, ea, mu) _ _ _ _ dX0_weak_9 hw ⟨Or.inr ⟨cx_B_n h5, rfl⟩, _, rfl⟩
abbrev rm0_strong : Room := { frames := 2, cells := 0, slots := 0, locals := 52 }
set_option maxHeartbeats 4000000 in
set_option maxRecDepth 100000 in
/-- strong(o) -/
theorem k0_strong (l : Launch) (D : va_G) (cI cZ : ClassId) (ad : Nat → Nat) {n : Nat} {us cs : Nat → Nat} {wr : Nat → Bool} {so ea mu : Nat → Nat} (hV : cx_Va n us cs wr so ea) (hn : n ≤ 7) (o : Int32) : cx_Ki l yX0_strong cX0_strong 2 (some .int) rm0_strong D cI cZ (cx_w0 cI cZ ad) [.ref (ad 0), .int o] (n, us, cs, wr, so, ea, mu) (fun v σ' => cx_R1 n (fun k => cx_bI (cx_B (cx_SK us cs wr so ea k))) o v ∧ ∃ mu', σ' = (n, us, cs, wr, so, ea, mu')) := by
  refine cx_ent (by decide) rfl (fun v _ _ => vp_nar_int v) (Nat.le_of_ble_eq_true rfl) ?_
  intro p e s m args below meth c ls Q A S hK hw hA hl ret
  have hx := S.1
  have hb := S.2.1
  have hts := S.2.2.2.2
  have hl : lv_has ls 2 [(0, .ref (ad 0)), (1, .int o)] := hl
  have S : CallFix p m c cX0_strong 2 s args lw_all RX0 := S
  refine lv_aload_n hx hb dX0_strong_0 rfl (lv_at hl 0 rfl) ?_
  refine lv_iload_n hx hb dX0_strong_1 rfl (lv_at hl 1 rfl) ?_
  refine cx_cali S (k0_isHeld l D cI cZ ad (by omega) o) (cwV 1 hts (lw_V q78 q80 qs2 q20 q81) rfl rfl rfl (by decide +kernel) ⟨Nat.le_of_ble_eq_true rfl, Nat.le_of_ble_eq_true rfl⟩) hK hw hA rfl rfl rfl rfl hl.1 rfl (Nat.le_of_ble_eq_true rfl) dX0_strong_2 ⟨Nat.zero_le _, Nat.zero_le _⟩ (fun r2 σ1 H locs hp hw => ?_)
  obtain ⟨rfl, rfl⟩ := hp
  refine cx_ifne_b (tgt := 10) hx hb dX0_strong_5 (by decide) (fun h5 => ?_) (fun h5 => ?_)
  · obtain ⟨k, hk, rfl⟩ := cx_B_iff.mp h5
    refine lv_aload_n hx hb dX0_strong_10 rfl (lv_at hl 0 rfl) ?_
    refine lv_iload_n hx hb dX0_strong_11 rfl (lv_at hl 1 rfl) ?_
    refine cx_cali S (k0_isStrong l D cI cZ ad hV hn hk) (cwV 1 hts (lw_V q94 q96 qs4 q20 q97) rfl rfl rfl (by decide +kernel) ⟨Nat.le_of_ble_eq_true rfl, Nat.le_of_ble_eq_true rfl⟩) hK hw hA rfl rfl rfl rfl hl.1 rfl (Nat.le_of_ble_eq_true rfl) dX0_strong_12 ⟨Nat.zero_le _, Nat.zero_le _⟩ (fun r12 σ1 H locs hp hw => ?_)
    obtain ⟨rfl, mu1, rfl⟩ := hp
    refine cx_ifeq_b (tgt := 22) hx hb dX0_strong_15 (by decide) (fun h15 => ?_) (fun h15 => ?_)
    · refine lv_iconst (v := nI 0) hx hb dX0_strong_22 (by decide) ?_
      exact ret _ (n, us, cs, wr, so, ea, mu1) _ _ _ _ dX0_strong_23 hw ⟨Or.inl ⟨k, hk, rfl, cx_j0 h15⟩, _, rfl⟩
    · refine lv_iconst (v := nI 1) hx hb dX0_strong_18 (by decide) ?_
      refine lv_goto (tgt := 23) hx hb dX0_strong_19 (by decide) ?_
      exact ret _ (n, us, cs, wr, so, ea, mu1) _ _ _ _ dX0_strong_23 hw ⟨Or.inl ⟨k, hk, rfl, cx_j1 h15⟩, _, rfl⟩
  · refine lv_iconst (v := -1) hx hb dX0_strong_8 (by decide) ?_
    exact ret _ (n, us, cs, wr, so, ea, mu) _ _ _ _ dX0_strong_9 hw ⟨Or.inr ⟨cx_B_n h5, rfl⟩, _, rfl⟩
abbrev rm0_write : Room := { frames := 1, cells := 0, slots := 0, locals := 25 }
set_option maxHeartbeats 4000000 in
set_option maxRecDepth 100000 in
/-- write(x, y) -/
theorem k0_write (l : Launch) (D : va_G) (cI cZ : ClassId) (ad : Nat → Nat) {n : Nat} {us cs : Nat → Nat} {wr : Nat → Bool} {so ea mu : Nat → Nat} (hV : cx_Va n us cs wr so ea) (hn : n ≤ 7) (x y : Int32) : cx_Ki l yX0_write cX0_write 3 (some .int) rm0_write D cI cZ (cx_w0 cI cZ ad) [.ref (ad 0), .int x, .int y] (n, us, cs, wr, so, ea, mu) (fun v σ' => (∃ u d, cx_wrP n x y u d ∧ v = nI n ∧ σ' = (n + 1, va_up us n u, va_up cs n d, va_up wr n true, va_up so n 8, va_up ea n (cx_en us ea u 8 n), mu)) ∨ ((¬ ∃ u d, cx_wrP n x y u d) ∧ v = -1 ∧ σ' = (n, us, cs, wr, so, ea, mu))) := by
  refine cx_ent (by decide) rfl (fun v _ _ => vp_nar_int v) (Nat.le_of_ble_eq_true rfl) ?_
  intro p e s m args below meth c ls Q A S hK hw hA hl ret
  have hx := S.1
  have hb := S.2.1
  have hts := S.2.2.2.2
  have hl : lv_has ls 3 [(0, .ref (ad 0)), (1, .int x), (2, .int y)] := hl
  have S : CallFix p m c cX0_write 3 s args lw_all RX0 := S
  have hU := hV.1
  have hC := hV.2.1
  have hS := hV.2.2.1
  have hE := hV.2.2.2.1
  refine lv_iload_n hx hb dX0_write_0 rfl (lv_at hl 1 rfl) ?_
  refine lv_if_lt (tgt := 27) hx hb dX0_write_1 (by decide) (fun h1 => ?_) (fun h1 => ?_)
  · refine lv_iconst (v := -1) hx hb dX0_write_27 (by decide) ?_
    exact ret _ (n, us, cs, wr, so, ea, mu) _ _ _ _ dX0_write_28 hw (Or.inr ⟨fun z => cx_pl_1 h1 (cx_wrP_pl z).1, rfl, rfl⟩)
  · refine lv_iload_n hx hb dX0_write_4 rfl (lv_at hl 1 rfl) ?_
    refine lv_iconst (v := nI 2) hx hb dX0_write_5 (by decide) ?_
    refine lv_icmp_gt (tgt := 27) hx hb dX0_write_6 (by decide) (fun h6 => ?_) (fun h6 => ?_)
    · refine lv_iconst (v := -1) hx hb dX0_write_27 (by decide) ?_
      exact ret _ (n, us, cs, wr, so, ea, mu) _ _ _ _ dX0_write_28 hw (Or.inr ⟨fun z => cx_pl_2 h6 (cx_wrP_pl z).1, rfl, rfl⟩)
    · refine lv_iload_n hx hb dX0_write_9 rfl (lv_at hl 2 rfl) ?_
      refine lv_if_lt (tgt := 27) hx hb dX0_write_10 (by decide) (fun h10 => ?_) (fun h10 => ?_)
      · refine lv_iconst (v := -1) hx hb dX0_write_27 (by decide) ?_
        exact ret _ (n, us, cs, wr, so, ea, mu) _ _ _ _ dX0_write_28 hw (Or.inr ⟨fun z => cx_pl_3 h10 (cx_wrP_pl z).1, rfl, rfl⟩)
      · refine lv_iload_n hx hb dX0_write_13 rfl (lv_at hl 2 rfl) ?_
        refine lv_iconst (v := nI 1) hx hb dX0_write_14 (by decide) ?_
        refine lv_icmp_gt (tgt := 27) hx hb dX0_write_15 (by decide) (fun h15 => ?_) (fun h15 => ?_)
        · refine lv_iconst (v := -1) hx hb dX0_write_27 (by decide) ?_
          exact ret _ (n, us, cs, wr, so, ea, mu) _ _ _ _ dX0_write_28 hw (Or.inr ⟨fun z => cx_pl_4 h15 (cx_wrP_pl z).1, rfl, rfl⟩)
        · refine lv_aload_n hx hb dX0_write_18 rfl (lv_at hl 0 rfl) ?_
          refine cx0_gn S hK hw dX0_write_19 ?_
          refine lv_bipush (v := nI 7) hx hb dX0_write_22 (by decide) ?_
          refine cx_icmp_lt (tgt := 29) hx hb dX0_write_24 (by decide) (by omega) (by omega) (fun h24 => ?_) (fun h24 => ?_)
          · obtain ⟨u, d, hu, hd, rfl, rfl⟩ := cx_pl_t h1 h6 h10 h15
            refine lv_aload_n hx hb dX0_write_29 rfl (lv_at hl 0 rfl) ?_
            refine lv_iload_n hx hb dX0_write_30 rfl (lv_at hl 1 rfl) ?_
            refine lv_iload_n hx hb dX0_write_31 rfl (lv_at hl 2 rfl) ?_
            refine lv_iconst (v := nI 1) hx hb dX0_write_32 (by decide) ?_
            refine cx_top (y := cx_bI true) (by decide) ?_
            refine lv_iconst (v := cx_sI 8) hx hb dX0_write_33 (by decide) ?_
            refine cx_calv S (k0_enter l D cI cZ ad hn hU hu (Nat.le_refl 8)) (cwV 4 hts (lw_V q58 q60 qs0 q20 q61) rfl rfl rfl (by decide +kernel) ⟨Nat.le_of_ble_eq_true rfl, Nat.le_of_ble_eq_true rfl⟩) hK hw hA rfl rfl rfl rfl hl.1 rfl (Nat.le_of_ble_eq_true rfl) dX0_write_34 ⟨Nat.zero_le _, Nat.zero_le _⟩ (fun σ1 H locs hp hw => ?_)
            subst hp
            refine lv_aload_n hx hb dX0_write_37 rfl (lv_at hl 0 rfl) ?_
            refine cx0_gn S hK hw dX0_write_38 ?_
            refine lv_iconst (v := nI 1) hx hb dX0_write_41 (by decide) ?_
            refine cx_isub hx hb dX0_write_42 (by omega) ?_
            exact ret _ ((n + 1), (va_up us n u), (va_up cs n d), (va_up wr n true), (va_up so n 8), (va_up ea n (cx_en us ea u 8 n)), mu) _ _ _ _ dX0_write_43 hw (Or.inl ⟨u, d, ⟨h24, hu, hd, rfl, rfl⟩, rfl, rfl⟩)
          · refine lv_iconst (v := -1) hx hb dX0_write_27 (by decide) ?_
            exact ret _ (n, us, cs, wr, so, ea, mu) _ _ _ _ dX0_write_28 hw (Or.inr ⟨fun z => absurd (cx_wrP_pl z).2 (by omega), rfl, rfl⟩)
abbrev rm0_read : Room := { frames := 1, cells := 0, slots := 0, locals := 25 }
set_option maxHeartbeats 4000000 in
set_option maxRecDepth 100000 in
/-- read(x, y, z) -/
theorem k0_read (l : Launch) (D : va_G) (cI cZ : ClassId) (ad : Nat → Nat) {n : Nat} {us cs : Nat → Nat} {wr : Nat → Bool} {so ea mu : Nat → Nat} (hV : cx_Va n us cs wr so ea) (hn : n ≤ 7) (x y z : Int32) : cx_Ki l yX0_read cX0_read 4 (some .int) rm0_read D cI cZ (cx_w0 cI cZ ad) [.ref (ad 0), .int x, .int y, .int z] (n, us, cs, wr, so, ea, mu) (fun v σ' => (∃ u d t, cx_rdP n cs wr x y z u d t ∧ v = nI n ∧ σ' = (n + 1, va_up us n u, va_up cs n d, va_up wr n false, va_up so n t, va_up ea n (cx_en us ea u t n), mu)) ∨ ((¬ ∃ u d t, cx_rdP n cs wr x y z u d t) ∧ v = -1 ∧ σ' = (n, us, cs, wr, so, ea, mu))) := by
  refine cx_ent (by decide) rfl (fun v _ _ => vp_nar_int v) (Nat.le_of_ble_eq_true rfl) ?_
  intro p e s m args below meth c ls Q A S hK hw hA hl ret
  have hx := S.1
  have hb := S.2.1
  have hts := S.2.2.2.2
  have hl : lv_has ls 4 [(0, .ref (ad 0)), (1, .int x), (2, .int y), (3, .int z)] := hl
  have S : CallFix p m c cX0_read 4 s args lw_all RX0 := S
  have hU := hV.1
  have hC := hV.2.1
  have hS := hV.2.2.1
  have hE := hV.2.2.2.1
  refine lv_iload_n hx hb dX0_read_0 rfl (lv_at hl 1 rfl) ?_
  refine lv_if_lt (tgt := 36) hx hb dX0_read_1 (by decide) (fun h1 => ?_) (fun h1 => ?_)
  · refine lv_iconst (v := -1) hx hb dX0_read_36 (by decide) ?_
    exact ret _ (n, us, cs, wr, so, ea, mu) _ _ _ _ dX0_read_37 hw (Or.inr ⟨fun z => cx_pl_1 h1 (cx_rdP_pl z).1, rfl, rfl⟩)
  · refine lv_iload_n hx hb dX0_read_4 rfl (lv_at hl 1 rfl) ?_
    refine lv_iconst (v := nI 2) hx hb dX0_read_5 (by decide) ?_
    refine lv_icmp_gt (tgt := 36) hx hb dX0_read_6 (by decide) (fun h6 => ?_) (fun h6 => ?_)
    · refine lv_iconst (v := -1) hx hb dX0_read_36 (by decide) ?_
      exact ret _ (n, us, cs, wr, so, ea, mu) _ _ _ _ dX0_read_37 hw (Or.inr ⟨fun z => cx_pl_2 h6 (cx_rdP_pl z).1, rfl, rfl⟩)
    · refine lv_iload_n hx hb dX0_read_9 rfl (lv_at hl 2 rfl) ?_
      refine lv_if_lt (tgt := 36) hx hb dX0_read_10 (by decide) (fun h10 => ?_) (fun h10 => ?_)
      · refine lv_iconst (v := -1) hx hb dX0_read_36 (by decide) ?_
        exact ret _ (n, us, cs, wr, so, ea, mu) _ _ _ _ dX0_read_37 hw (Or.inr ⟨fun z => cx_pl_3 h10 (cx_rdP_pl z).1, rfl, rfl⟩)
      · refine lv_iload_n hx hb dX0_read_13 rfl (lv_at hl 2 rfl) ?_
        refine lv_iconst (v := nI 1) hx hb dX0_read_14 (by decide) ?_
        refine lv_icmp_gt (tgt := 36) hx hb dX0_read_15 (by decide) (fun h15 => ?_) (fun h15 => ?_)
        · refine lv_iconst (v := -1) hx hb dX0_read_36 (by decide) ?_
          exact ret _ (n, us, cs, wr, so, ea, mu) _ _ _ _ dX0_read_37 hw (Or.inr ⟨fun z => cx_pl_4 h15 (cx_rdP_pl z).1, rfl, rfl⟩)
        · refine lv_aload_n hx hb dX0_read_18 rfl (lv_at hl 0 rfl) ?_
          refine cx0_gn S hK hw dX0_read_19 ?_
          refine lv_bipush (v := nI 7) hx hb dX0_read_22 (by decide) ?_
          refine cx_icmp_ge (tgt := 36) hx hb dX0_read_24 (by decide) (by omega) (by omega) (fun h24 => ?_) (fun h24 => ?_)
          · refine lv_iconst (v := -1) hx hb dX0_read_36 (by decide) ?_
            exact ret _ (n, us, cs, wr, so, ea, mu) _ _ _ _ dX0_read_37 hw (Or.inr ⟨fun z => absurd (cx_rdP_pl z).2 (by omega), rfl, rfl⟩)
          · obtain ⟨u, d, hu, hd, rfl, rfl⟩ := cx_pl_t h1 h6 h10 h15
            refine lv_aload_n hx hb dX0_read_27 rfl (lv_at hl 0 rfl) ?_
            refine lv_iload_n hx hb dX0_read_28 rfl (lv_at hl 3 rfl) ?_
            refine lv_iload_n hx hb dX0_read_29 rfl (lv_at hl 2 rfl) ?_
            refine cx_cali S (k0_isSource l D cI cZ ad (by omega) hC z hd) (cwV 2 hts (lw_V q66 q68 qs1 q20 q69) rfl rfl rfl (by decide +kernel) ⟨Nat.le_of_ble_eq_true rfl, Nat.le_of_ble_eq_true rfl⟩) hK hw hA rfl rfl rfl rfl hl.1 rfl (Nat.le_of_ble_eq_true rfl) dX0_read_30 ⟨Nat.zero_le _, Nat.zero_le _⟩ (fun r30 σ1 H locs hp hw => ?_)
            obtain ⟨rfl, rfl⟩ := hp
            refine cx_ifne_b (tgt := 38) hx hb dX0_read_33 (by decide) (fun h33 => ?_) (fun h33 => ?_)
            · obtain ⟨t, ht, rfl, htc⟩ := cx_sk_s (by omega) (cx_B_iff.mp h33)
              refine lv_aload_n hx hb dX0_read_38 rfl (lv_at hl 0 rfl) ?_
              refine lv_iload_n hx hb dX0_read_39 rfl (lv_at hl 1 rfl) ?_
              refine lv_iload_n hx hb dX0_read_40 rfl (lv_at hl 2 rfl) ?_
              refine lv_iconst (v := nI 0) hx hb dX0_read_41 (by decide) ?_
              refine cx_top (y := cx_bI false) (by decide) ?_
              refine lv_iload_n hx hb dX0_read_42 rfl (lv_at hl 3 rfl) ?_
              refine cx_calv S (k0_enter l D cI cZ ad hn hU hu ht) (cwV 4 hts (lw_V q58 q60 qs0 q20 q61) rfl rfl rfl (by decide +kernel) ⟨Nat.le_of_ble_eq_true rfl, Nat.le_of_ble_eq_true rfl⟩) hK hw hA rfl rfl rfl rfl hl.1 rfl (Nat.le_of_ble_eq_true rfl) dX0_read_43 ⟨Nat.zero_le _, Nat.zero_le _⟩ (fun σ1 H locs hp hw => ?_)
              subst hp
              refine lv_aload_n hx hb dX0_read_46 rfl (lv_at hl 0 rfl) ?_
              refine cx0_gn S hK hw dX0_read_47 ?_
              refine lv_iconst (v := nI 1) hx hb dX0_read_50 (by decide) ?_
              refine cx_isub hx hb dX0_read_51 (by omega) ?_
              exact ret _ ((n + 1), (va_up us n u), (va_up cs n d), (va_up wr n false), (va_up so n t), (va_up ea n (cx_en us ea u t n)), mu) _ _ _ _ dX0_read_52 hw (Or.inl ⟨u, d, t, ⟨h24, hu, hd, rfl, rfl, ht, rfl, htc⟩, rfl, rfl⟩)
            · refine lv_iconst (v := -1) hx hb dX0_read_36 (by decide) ?_
              exact ret _ (n, us, cs, wr, so, ea, mu) _ _ _ _ dX0_read_37 hw (Or.inr ⟨fun q => cx_B_n h33 (cx_rdP_sk hd q), rfl, rfl⟩)
abbrev rm0_sound : Room := { frames := 2, cells := 0, slots := 0, locals := 52 }
set_option maxHeartbeats 4000000 in
set_option maxRecDepth 100000 in
/-- sound() -/
theorem k0_sound (l : Launch) (D : va_G) (cI cZ : ClassId) (ad : Nat → Nat) {n : Nat} {us cs : Nat → Nat} {wr : Nat → Bool} {so ea mu : Nat → Nat} (hV : cx_Va n us cs wr so ea) (hn : n ≤ 7) : cx_Ki l yX0_sound cX0_sound 4 (some .int) rm0_sound D cI cZ (cx_w0 cI cZ ad) [.ref (ad 0)] (n, us, cs, wr, so, ea, mu) (fun v σ' => v = nI (cx_sd n us cs wr so ea) ∧ ∃ mu', σ' = (n, us, cs, wr, so, ea, mu')) := by
  refine cx_ent (by decide) rfl (fun v _ _ => vp_nar_int v) (Nat.le_of_ble_eq_true rfl) ?_
  intro p e s m args below meth c ls Q A S hK hw hA hl ret
  have hx := S.1
  have hb := S.2.1
  have hts := S.2.2.2.2
  have hl : lv_has ls 4 [(0, .ref (ad 0))] := hl
  have S : CallFix p m c cX0_sound 4 s args lw_all RX0 := S
  refine lv_iconst (v := nI 1) hx hb dX0_sound_0 (by decide) ?_
  refine cx_top (y := nI (cx_q true 1)) rfl ?_
  refine lv_istore_n (lv' := [(1, .int (nI (cx_q true 1))), (0, .ref (ad 0))]) hx hb dX0_sound_1 rfl hl (by decide) rfl (fun ls hl => ?_)
  refine lv_iconst (v := nI 2) hx hb dX0_sound_2 (by decide) ?_
  refine cx_top (y := nI (cx_q true 2)) rfl ?_
  refine lv_istore_n (lv' := [(2, .int (nI (cx_q true 2))), (1, .int (nI (cx_q true 1))), (0, .ref (ad 0))]) hx hb dX0_sound_3 rfl hl (by decide) rfl (fun ls hl => ?_)
  refine lv_iconst (v := nI 0) hx hb dX0_sound_4 (by decide) ?_
  refine lv_istore_n (lv' := [(3, .int (nI 0)), (2, .int (nI (cx_q true 2))), (1, .int (nI (cx_q true 1))), (0, .ref (ad 0))]) hx hb dX0_sound_5 rfl hl (by decide) rfl (fun ls hl => ?_)
  have L6 : ∀ (k : Nat) (o : Nat) (a : Bool) (b : Bool) (mu1 : Nat → Nat) (H : Heap) (locs : List Loc) (ls : Array Slot), n - o < k → o ≤ n → (a = true ↔ ∀ k, k < o → cx_WK cs wr so ea k) → (b = true ↔ ∀ k, k < o → cx_SK us cs wr so ea k) → cx_H D cx_Cl (cx_w0 cI cZ ad (n, us, cs, wr, so, ea, mu1)) A s.heap H locs → lv_has ls 4 [(3, .int (nI o)), (2, .int (nI (cx_q b 2))), (1, .int (nI (cx_q a 1))), (0, .ref (ad 0))] → W p l e rm0_sound s m args below meth c H locs 0 0 Q (F0 m 6 ls []) := by
    intro k
    induction k with
    | zero => intro o a b mu1 H locs ls hme; exact absurd hme (Nat.not_lt_zero _)
    | succ k ihL6 =>
      intro o a b mu1 H locs ls hme hon ha hb2 hw hl
      refine lv_iload_n hx hb dX0_sound_6 rfl (lv_at hl 0 rfl) ?_
      refine lv_aload_n hx hb dX0_sound_7 rfl (lv_at hl 3 rfl) ?_
      refine cx0_gn S hK hw dX0_sound_8 ?_
      refine cx_icmp_ge (tgt := 48) hx hb dX0_sound_11 (by decide) (by omega) (by omega) (fun h11 => ?_) (fun h11 => ?_)
      · refine lv_iload_n hx hb dX0_sound_48 rfl (lv_at hl 2 rfl) ?_
        refine lv_iload_n hx hb dX0_sound_49 rfl (lv_at hl 1 rfl) ?_
        refine cx_iadd hx hb dX0_sound_50 ?_
        refine lv_aload_n hx hb dX0_sound_51 rfl (lv_at hl 3 rfl) ?_
        refine cx_cali S (k0_converges l D cI cZ ad hV (by omega)) (cwV 0 hts (lw_V q118 q120 qs9 q20 q121) rfl rfl rfl (by decide +kernel) ⟨Nat.le_of_ble_eq_true rfl, Nat.le_of_ble_eq_true rfl⟩) hK hw hA rfl rfl rfl rfl hl.1 rfl (Nat.le_of_ble_eq_true rfl) dX0_sound_52 ⟨Nat.zero_le _, Nat.zero_le _⟩ (fun r52 σ1 H locs hp hw => ?_)
        obtain ⟨hr9, mu2, rfl⟩ := hp
        obtain ⟨Z, hZ9⟩ : ∃ Z, Z = cx_B (cx_Cv n cs wr so ea) := ⟨_, rfl⟩
        rw [← hZ9] at hr9
        subst hr9
        have J63 : W p l e rm0_sound s m args below meth c H locs 0 0 Q (F0 m 63 ls [.int (nI (cx_q Z 4)), .int (nI ((cx_q a 1) + (cx_q b 2)))]) := by
          refine cx_iadd hx hb dX0_sound_63 ?_
          have e48 : o = n := by omega
          rw [e48] at ha hb2
          exact ret _ (n, us, cs, wr, so, ea, mu2) _ _ _ _ dX0_sound_64 hw ⟨by unfold cx_sd; rw [← cx_B_of ha, ← cx_B_of hb2, ← hZ9], _, rfl⟩
        refine cx_ifeq_b (tgt := 62) hx hb dX0_sound_55 (by decide) (fun h55 => ?_) (fun h55 => ?_)
        · refine lv_iconst (v := nI 0) hx hb dX0_sound_62 (by decide) ?_
          exact cx_top (by simp [h55, cx_q]) J63
        · refine lv_iconst (v := nI 4) hx hb dX0_sound_58 (by decide) ?_
          refine lv_goto (tgt := 63) hx hb dX0_sound_59 (by decide) ?_
          exact cx_top (by simp [h55, cx_q]) J63
      · refine lv_aload_n hx hb dX0_sound_14 rfl (lv_at hl 3 rfl) ?_
        refine lv_iload_n hx hb dX0_sound_15 rfl (lv_at hl 0 rfl) ?_
        refine cx_cali S (k0_isWeak l D cI cZ ad hV (by omega) h11) (cwV 1 hts (lw_V q86 q88 qs3 q20 q89) rfl rfl rfl (by decide +kernel) ⟨Nat.le_of_ble_eq_true rfl, Nat.le_of_ble_eq_true rfl⟩) hK hw hA rfl rfl rfl rfl hl.1 rfl (Nat.le_of_ble_eq_true rfl) dX0_sound_16 ⟨Nat.zero_le _, Nat.zero_le _⟩ (fun r16 σ1 H locs hp hw => ?_)
        rw [cx_B_eq (cx_WK_iff hV (by omega) h11)] at hp
        obtain ⟨hr9, rfl⟩ := hp
        obtain ⟨X, hX9⟩ : ∃ X, X = cx_B (cx_WK cs wr so ea o) := ⟨_, rfl⟩
        have hX : X = true ↔ cx_WK cs wr so ea o := by rw [hX9]; exact cx_B_iff
        rw [← hX9] at hr9
        subst hr9
        have J27 : W p l e rm0_sound s m args below meth c H locs 0 0 Q (F0 m 27 ls [.int (nI (cx_q (a && X) 1))]) := by
          refine lv_istore_n (lv' := [(1, .int (nI (cx_q (a && X) 1))), (3, .int (nI o)), (2, .int (nI (cx_q b 2))), (0, .ref (ad 0))]) hx hb dX0_sound_27 rfl hl (by decide) rfl (fun ls hl => ?_)
          refine lv_aload_n hx hb dX0_sound_28 rfl (lv_at hl 3 rfl) ?_
          refine lv_iload_n hx hb dX0_sound_29 rfl (lv_at hl 1 rfl) ?_
          refine cx_cali S (k0_isStrong l D cI cZ ad hV hn h11) (cwV 1 hts (lw_V q94 q96 qs4 q20 q97) rfl rfl rfl (by decide +kernel) ⟨Nat.le_of_ble_eq_true rfl, Nat.le_of_ble_eq_true rfl⟩) hK hw hA rfl rfl rfl rfl hl.1 rfl (Nat.le_of_ble_eq_true rfl) dX0_sound_30 ⟨Nat.zero_le _, Nat.zero_le _⟩ (fun r30 σ1 H locs hp hw => ?_)
          obtain ⟨hr9, mu2, rfl⟩ := hp
          obtain ⟨Y, hY9⟩ : ∃ Y, Y = cx_B (cx_SK us cs wr so ea o) := ⟨_, rfl⟩
          have hY : Y = true ↔ cx_SK us cs wr so ea o := by rw [hY9]; exact cx_B_iff
          rw [← hY9] at hr9
          subst hr9
          have J41 : W p l e rm0_sound s m args below meth c H locs 0 0 Q (F0 m 41 ls [.int (nI (cx_q (b && Y) 2))]) := by
            refine lv_istore_n (lv' := [(2, .int (nI (cx_q (b && Y) 2))), (1, .int (nI (cx_q (a && X) 1))), (3, .int (nI o)), (0, .ref (ad 0))]) hx hb dX0_sound_41 rfl hl (by decide) rfl (fun ls hl => ?_)
            refine lv_iinc (v := (nI (o + 1))) (lv' := [(3, .int (nI (o + 1))), (2, .int (nI (cx_q (b && Y) 2))), (1, .int (nI (cx_q (a && X) 1))), (0, .ref (ad 0))]) hx hb dX0_sound_42 hl (k := 2) rfl (cx_inc1 _) (by decide) rfl (fun ls hl => ?_)
            refine lv_goto (tgt := 6) hx hb dX0_sound_45 (by decide) ?_
            exact ihL6 (o + 1) (a && X) (b && Y) mu2 _ _ _ (by omega) (by omega) (cx_all_s ha hX) (cx_all_s hb2 hY) hw (lv_sub hl [0, 1, 2, 3] rfl)
          refine cx_ifeq_b (tgt := 40) hx hb dX0_sound_33 (by decide) (fun h33 => ?_) (fun h33 => ?_)
          · refine lv_iconst (v := nI 0) hx hb dX0_sound_40 (by decide) ?_
            exact cx_top (by simp [h33, cx_q]) J41
          · refine lv_iload_n hx hb dX0_sound_36 rfl (lv_at hl 2 rfl) ?_
            refine lv_goto (tgt := 41) hx hb dX0_sound_37 (by decide) ?_
            exact cx_top (by simp [h33, cx_q]) J41
        refine cx_ifeq_b (tgt := 26) hx hb dX0_sound_19 (by decide) (fun h19 => ?_) (fun h19 => ?_)
        · refine lv_iconst (v := nI 0) hx hb dX0_sound_26 (by decide) ?_
          exact cx_top (by simp [h19, cx_q]) J27
        · refine lv_iload_n hx hb dX0_sound_22 rfl (lv_at hl 2 rfl) ?_
          refine lv_goto (tgt := 27) hx hb dX0_sound_23 (by decide) ?_
          exact cx_top (by simp [h19, cx_q]) J27
  exact L6 _ 0 true true mu _ _ _ (Nat.lt_succ_self _) (by omega) cx_all_0 cx_all_0 hw (lv_sub hl [0, 1, 2, 3] rfl)
abbrev rm0_choices : Room := { frames := 2, cells := 0, slots := 0, locals := 47 }
set_option maxHeartbeats 4000000 in
set_option maxRecDepth 100000 in
/-- choices(x, y) -/
theorem k0_choices (l : Launch) (D : va_G) (cI cZ : ClassId) (ad : Nat → Nat) {n : Nat} {us cs : Nat → Nat} {wr : Nat → Bool} {so ea mu : Nat → Nat} (hV : cx_Va n us cs wr so ea) (hn : n ≤ 7) (x y : Int32) : cx_Ki l yX0_choices cX0_choices 6 (some .int) rm0_choices D cI cZ (cx_w0 cI cZ ad) [.ref (ad 0), .int x, .int y] (n, us, cs, wr, so, ea, mu) (fun v σ' => (∃ u d us' cs' wr' so' ea' set mu', (u < 3 ∧ d < 2 ∧ x = nI u ∧ y = nI d) ∧ cx_ch n u d (n + 1) ((us, cs, wr, so, ea), 0) = ((us', cs', wr', so', ea'), set) ∧ cx_Va n us' cs' wr' so' ea' ∧ v = nI set ∧ σ' = (n, us', cs', wr', so', ea', mu')) ∨ (¬ cx_pl x y ∧ v = -1 ∧ σ' = (n, us, cs, wr, so, ea, mu))) := by
  refine cx_ent (by decide) rfl (fun v _ _ => vp_nar_int v) (Nat.le_of_ble_eq_true rfl) ?_
  intro p e s m args below meth c ls Q A S hK hw hA hl ret
  have hx := S.1
  have hb := S.2.1
  have hts := S.2.2.2.2
  have hl : lv_has ls 6 [(0, .ref (ad 0)), (1, .int x), (2, .int y)] := hl
  have S : CallFix p m c cX0_choices 6 s args lw_all RX0 := S
  refine lv_iload_n hx hb dX0_choices_0 rfl (lv_at hl 1 rfl) ?_
  refine lv_if_lt (tgt := 18) hx hb dX0_choices_1 (by decide) (fun h1 => ?_) (fun h1 => ?_)
  · refine lv_iconst (v := -1) hx hb dX0_choices_18 (by decide) ?_
    exact ret _ (n, us, cs, wr, so, ea, mu) _ _ _ _ dX0_choices_19 hw (Or.inr ⟨cx_pl_1 h1, rfl, rfl⟩)
  · refine lv_iload_n hx hb dX0_choices_4 rfl (lv_at hl 1 rfl) ?_
    refine lv_iconst (v := nI 2) hx hb dX0_choices_5 (by decide) ?_
    refine lv_icmp_gt (tgt := 18) hx hb dX0_choices_6 (by decide) (fun h6 => ?_) (fun h6 => ?_)
    · refine lv_iconst (v := -1) hx hb dX0_choices_18 (by decide) ?_
      exact ret _ (n, us, cs, wr, so, ea, mu) _ _ _ _ dX0_choices_19 hw (Or.inr ⟨cx_pl_2 h6, rfl, rfl⟩)
    · refine lv_iload_n hx hb dX0_choices_9 rfl (lv_at hl 2 rfl) ?_
      refine lv_if_lt (tgt := 18) hx hb dX0_choices_10 (by decide) (fun h10 => ?_) (fun h10 => ?_)
      · refine lv_iconst (v := -1) hx hb dX0_choices_18 (by decide) ?_
        exact ret _ (n, us, cs, wr, so, ea, mu) _ _ _ _ dX0_choices_19 hw (Or.inr ⟨cx_pl_3 h10, rfl, rfl⟩)
      · refine lv_iload_n hx hb dX0_choices_13 rfl (lv_at hl 2 rfl) ?_
        refine lv_iconst (v := nI 1) hx hb dX0_choices_14 (by decide) ?_
        refine lv_icmp_le (tgt := 20) hx hb dX0_choices_15 (by decide) (fun h15 => ?_) (fun h15 => ?_)
        · obtain ⟨u, d, hu, hd, rfl, rfl⟩ := cx_pl_t h1 h6 h10 (fun z => (Int32.not_le.mpr z) h15)
          refine lv_iconst (v := nI 0) hx hb dX0_choices_20 (by decide) ?_
          refine lv_istore_n (lv' := [(3, .int (nI 0)), (0, .ref (ad 0)), (1, .int (nI u)), (2, .int (nI d))]) hx hb dX0_choices_21 rfl hl (by decide) rfl (fun ls hl => ?_)
          refine lv_iconst (v := cx_sI 8) hx hb dX0_choices_22 (by decide) ?_
          refine cx_top (y := cx_sI (cx_st 0)) rfl ?_
          refine lv_istore (lv' := [(4, .int (cx_sI (cx_st 0))), (3, .int (nI 0)), (0, .ref (ad 0)), (1, .int (nI u)), (2, .int (nI d))]) hx hb dX0_choices_23 hl (by decide) rfl (fun ls hl => ?_)
          have L25 : ∀ (k : Nat) (i : Nat) (us1 : Nat → Nat) (cs1 : Nat → Nat) (wr1 : Nat → Bool) (so1 : Nat → Nat) (ea1 : Nat → Nat) (mu1 : Nat → Nat) (set : Nat) (H : Heap) (locs : List Loc) (ls : Array Slot), n + 1 - i < k → i ≤ n + 1 → cx_ch n u d i ((us, cs, wr, so, ea), 0) = ((us1, cs1, wr1, so1, ea1), set) → cx_Va n us1 cs1 wr1 so1 ea1 → cx_H D cx_Cl (cx_w0 cI cZ ad (n, us1, cs1, wr1, so1, ea1, mu1)) A s.heap H locs → lv_has ls 6 [(4, .int (cx_sI (cx_st i))), (3, .int (nI set)), (2, .int (nI d)), (1, .int (nI u)), (0, .ref (ad 0))] → W p l e rm0_choices s m args below meth c H locs 0 0 Q (F0 m 25 ls []) := by
            intro k
            induction k with
            | zero => intro i us1 cs1 wr1 so1 ea1 mu1 set H locs ls hme; exact absurd hme (Nat.not_lt_zero _)
            | succ k ihL25 =>
              intro i us1 cs1 wr1 so1 ea1 mu1 set H locs ls hme hin hq hV1 hw hl
              refine lv_iload hx hb dX0_choices_25 (lv_at hl 0 rfl) ?_
              refine lv_aload_n hx hb dX0_choices_27 rfl (lv_at hl 4 rfl) ?_
              refine cx0_gn S hK hw dX0_choices_28 ?_
              refine lv_icmp_ge (tgt := 101) hx hb dX0_choices_31 (by decide) (fun h31 => ?_) (fun h31 => ?_)
              · refine lv_iload_n hx hb dX0_choices_101 rfl (lv_at hl 1 rfl) ?_
                have e101 : i = n + 1 := by have := (cx_st_ge hn hin).mp h31; omega
                rw [e101] at hq
                exact ret _ (n, us1, cs1, wr1, so1, ea1, mu1) _ _ _ _ dX0_choices_102 hw (Or.inl ⟨u, d, us1, cs1, wr1, so1, ea1, set, mu1, ⟨hu, hd, rfl, rfl⟩, hq, hV1, rfl, rfl⟩)
              · have hi9 : i < n + 1 := Nat.lt_of_not_le (fun z => h31 ((cx_st_ge hn hin).mpr z))
                refine lv_aload_n hx hb dX0_choices_34 rfl (lv_at hl 4 rfl) ?_
                refine lv_iload hx hb dX0_choices_35 (lv_at hl 0 rfl) ?_
                refine lv_iload_n hx hb dX0_choices_37 rfl (lv_at hl 2 rfl) ?_
                refine cx_cali S (k0_isSource l D cI cZ ad (by omega) hV1.2.1 (cx_sI (cx_st i)) hd) (cwV 2 hts (lw_V q66 q68 qs1 q20 q69) rfl rfl rfl (by decide +kernel) ⟨Nat.le_of_ble_eq_true rfl, Nat.le_of_ble_eq_true rfl⟩) hK hw hA rfl rfl rfl rfl hl.1 rfl (Nat.le_of_ble_eq_true rfl) dX0_choices_38 ⟨Nat.zero_le _, Nat.zero_le _⟩ (fun r38 σ1 H locs hp hw => ?_)
                obtain ⟨rfl, rfl⟩ := hp
                refine cx_ifeq_b (tgt := 95) hx hb dX0_choices_41 (by decide) (fun h41 => ?_) (fun h41 => ?_)
                · refine lv_iinc (v := (cx_sI (cx_st (i + 1)))) (lv' := [(4, .int (cx_sI (cx_st (i + 1)))), (3, .int (nI set)), (2, .int (nI d)), (1, .int (nI u)), (0, .ref (ad 0))]) hx hb dX0_choices_95 hl (k := 0) rfl (cx_st_s (by omega)) (by decide) rfl (fun ls hl => ?_)
                  refine lv_goto (tgt := 25) hx hb dX0_choices_98 (by decide) ?_
                  exact ihL25 (i + 1) us1 cs1 wr1 so1 ea1 mu1 set _ _ _ (by omega) (by omega) (by show cx_hS n u d i (cx_ch n u d i _) = _; rw [hq, cx_hS_f h41]) hV1 hw (lv_sub hl [0, 1, 2, 3, 4] rfl)
                · have hs9 := cx_st_le (i := i) (by omega)
                  have hsc := cx_sk_st (by omega) hs9 (cx_B_iff.mp h41)
                  have hV2 := cx_Va_en (w := false) hV1 hn hu hd hs9 (fun _ => hsc)
                  refine lv_aload_n hx hb dX0_choices_44 rfl (lv_at hl 4 rfl) ?_
                  refine lv_iload_n hx hb dX0_choices_45 rfl (lv_at hl 3 rfl) ?_
                  refine lv_iload_n hx hb dX0_choices_46 rfl (lv_at hl 2 rfl) ?_
                  refine lv_iconst (v := nI 0) hx hb dX0_choices_47 (by decide) ?_
                  refine cx_top (y := cx_bI false) (by decide) ?_
                  refine lv_iload hx hb dX0_choices_48 (lv_at hl 0 rfl) ?_
                  refine cx_calv S (k0_enter l D cI cZ ad hn hV1.1 hu hs9) (cwV 4 hts (lw_V q58 q60 qs0 q20 q61) rfl rfl rfl (by decide +kernel) ⟨Nat.le_of_ble_eq_true rfl, Nat.le_of_ble_eq_true rfl⟩) hK hw hA rfl rfl rfl rfl hl.1 rfl (Nat.le_of_ble_eq_true rfl) dX0_choices_50 ⟨Nat.zero_le _, Nat.zero_le _⟩ (fun σ1 H locs hp hw => ?_)
                  subst hp
                  refine lv_aload_n hx hb dX0_choices_53 rfl (lv_at hl 4 rfl) ?_
                  refine cx_cali S (k0_converges l D cI cZ ad hV2 (by omega)) (cwV 0 hts (lw_V q118 q120 qs9 q20 q121) rfl rfl rfl (by decide +kernel) ⟨Nat.le_of_ble_eq_true rfl, Nat.le_of_ble_eq_true rfl⟩) hK hw hA rfl rfl rfl rfl hl.1 rfl (Nat.le_of_ble_eq_true rfl) dX0_choices_54 ⟨Nat.zero_le _, Nat.zero_le _⟩ (fun r54 σ1 H locs hp hw => ?_)
                  obtain ⟨hr9, mu2, rfl⟩ := hp
                  obtain ⟨Z, hZ⟩ : ∃ Z, Z = cx_B (cx_Cv (n + 1) (va_up cs1 n d) (va_up wr1 n false) (va_up so1 n (cx_st i)) (va_up ea1 n (cx_en us1 ea1 u (cx_st i) n))) := ⟨_, rfl⟩
                  rw [← hZ] at hr9
                  subst hr9
                  refine lv_istore (lv' := [(5, .int (cx_bI Z)), (4, .int (cx_sI (cx_st i))), (3, .int (nI set)), (2, .int (nI d)), (1, .int (nI u)), (0, .ref (ad 0))]) hx hb dX0_choices_57 hl (by decide) rfl (fun ls hl => ?_)
                  refine lv_aload_n hx hb dX0_choices_59 rfl (lv_at hl 5 rfl) ?_
                  refine lv_dup hx hb dX0_choices_60 rfl ?_
                  refine cx0_gn S hK hw dX0_choices_61 ?_
                  refine lv_iconst (v := nI 1) hx hb dX0_choices_64 (by decide) ?_
                  refine cx_isub hx hb dX0_choices_65 (by omega) ?_
                  refine cx0_pn S hK hw dX0_choices_66 (fun H locs hw => ?_)
                  have hw : cx_H D cx_Cl (cx_w0 cI cZ ad (n, (va_up us1 n u), (va_up cs1 n d), (va_up wr1 n false), (va_up so1 n (cx_st i)), (va_up ea1 n (cx_en us1 ea1 u (cx_st i) n)), mu2)) A s.heap H locs := hw
                  refine lv_iload_n hx hb dX0_choices_69 rfl (lv_at hl 2 rfl) ?_
                  refine lv_iload hx hb dX0_choices_70 (lv_at hl 0 rfl) ?_
                  refine cx_ifeq_b (tgt := 92) hx hb dX0_choices_72 (by decide) (fun h72 => ?_) (fun h72 => ?_)
                  · refine lv_iconst (v := nI 0) hx hb dX0_choices_92 (by decide) ?_
                    refine cx_ior hx hb dX0_choices_93 ?_
                    refine lv_istore_n (lv' := [(3, .int (nI (set ||| 0))), (5, .int (cx_bI Z)), (4, .int (cx_sI (cx_st i))), (2, .int (nI d)), (1, .int (nI u)), (0, .ref (ad 0))]) hx hb dX0_choices_94 rfl hl (by decide) rfl (fun ls hl => ?_)
                    refine lv_iinc (v := (cx_sI (cx_st (i + 1)))) (lv' := [(4, .int (cx_sI (cx_st (i + 1)))), (3, .int (nI (set ||| 0))), (5, .int (cx_bI Z)), (2, .int (nI d)), (1, .int (nI u)), (0, .ref (ad 0))]) hx hb dX0_choices_95 hl (k := 2) rfl (cx_st_s (by omega)) (by decide) rfl (fun ls hl => ?_)
                    refine lv_goto (tgt := 25) hx hb dX0_choices_98 (by decide) ?_
                    exact ihL25 (i + 1) (va_up us1 n u) (va_up cs1 n d) (va_up wr1 n false) (va_up so1 n (cx_st i)) (va_up ea1 n (cx_en us1 ea1 u (cx_st i) n)) mu2 (set ||| 0) _ _ _ (by omega) (by omega) (by show cx_hS n u d i (cx_ch n u d i _) = _; rw [hq, cx_hS_t h41 hZ, h72]; rfl) (cx_Va_mono hV2 (by omega)) hw (lv_sub hl [0, 1, 3, 4, 5] rfl)
                  · refine lv_iconst (v := nI 1) hx hb dX0_choices_75 (by decide) ?_
                    refine lv_iload hx hb dX0_choices_76 (lv_at hl 1 rfl) ?_
                    refine cx_ifge_s (tgt := 86) hx hb dX0_choices_78 (by decide) (by omega) (fun h78 => ?_) (fun h78 => ?_)
                    · refine lv_iload hx hb dX0_choices_86 (lv_at hl 1 rfl) ?_
                      refine cx_top (cx_sI_n h78) ?_
                      refine cx_ishl hx hb dX0_choices_88 (by omega) ?_
                      refine lv_goto (tgt := 93) hx hb dX0_choices_89 (by decide) ?_
                      refine cx_ior hx hb dX0_choices_93 ?_
                      refine lv_istore_n (lv' := [(3, .int (nI (set ||| (2 ^ (cx_st i))))), (5, .int (cx_bI Z)), (4, .int (cx_sI (cx_st i))), (2, .int (nI d)), (1, .int (nI u)), (0, .ref (ad 0))]) hx hb dX0_choices_94 rfl hl (by decide) rfl (fun ls hl => ?_)
                      refine lv_iinc (v := (cx_sI (cx_st (i + 1)))) (lv' := [(4, .int (cx_sI (cx_st (i + 1)))), (3, .int (nI (set ||| (2 ^ (cx_st i))))), (5, .int (cx_bI Z)), (2, .int (nI d)), (1, .int (nI u)), (0, .ref (ad 0))]) hx hb dX0_choices_95 hl (k := 2) rfl (cx_st_s (by omega)) (by decide) rfl (fun ls hl => ?_)
                      refine lv_goto (tgt := 25) hx hb dX0_choices_98 (by decide) ?_
                      exact ihL25 (i + 1) (va_up us1 n u) (va_up cs1 n d) (va_up wr1 n false) (va_up so1 n (cx_st i)) (va_up ea1 n (cx_en us1 ea1 u (cx_st i) n)) mu2 (set ||| (2 ^ (cx_st i))) _ _ _ (by omega) (by omega) (by show cx_hS n u d i (cx_ch n u d i _) = _; rw [hq, cx_hS_t h41 hZ, h72, ← cx_st_sb h78 (by omega)]; rfl) (cx_Va_mono hV2 (by omega)) hw (lv_sub hl [0, 1, 3, 4, 5] rfl)
                    · refine lv_bipush (v := nI 7) hx hb dX0_choices_81 (by decide) ?_
                      refine lv_goto (tgt := 88) hx hb dX0_choices_83 (by decide) ?_
                      refine cx_ishl hx hb dX0_choices_88 (by omega) ?_
                      refine lv_goto (tgt := 93) hx hb dX0_choices_89 (by decide) ?_
                      refine cx_ior hx hb dX0_choices_93 ?_
                      refine lv_istore_n (lv' := [(3, .int (nI (set ||| (2 ^ 7)))), (5, .int (cx_bI Z)), (4, .int (cx_sI (cx_st i))), (2, .int (nI d)), (1, .int (nI u)), (0, .ref (ad 0))]) hx hb dX0_choices_94 rfl hl (by decide) rfl (fun ls hl => ?_)
                      refine lv_iinc (v := (cx_sI (cx_st (i + 1)))) (lv' := [(4, .int (cx_sI (cx_st (i + 1)))), (3, .int (nI (set ||| (2 ^ 7)))), (5, .int (cx_bI Z)), (2, .int (nI d)), (1, .int (nI u)), (0, .ref (ad 0))]) hx hb dX0_choices_95 hl (k := 2) rfl (cx_st_s (by omega)) (by decide) rfl (fun ls hl => ?_)
                      refine lv_goto (tgt := 25) hx hb dX0_choices_98 (by decide) ?_
                      exact ihL25 (i + 1) (va_up us1 n u) (va_up cs1 n d) (va_up wr1 n false) (va_up so1 n (cx_st i)) (va_up ea1 n (cx_en us1 ea1 u (cx_st i) n)) mu2 (set ||| (2 ^ 7)) _ _ _ (by omega) (by omega) (by show cx_hS n u d i (cx_ch n u d i _) = _; rw [hq, cx_hS_t h41 hZ, h72, show cx_sb i = 7 from if_pos ((cx_st_8 (by omega)).mp h78)]; rfl) (cx_Va_mono hV2 (by omega)) hw (lv_sub hl [0, 1, 3, 4, 5] rfl)
          exact L25 _ 0 us cs wr so ea mu 0 _ _ _ (Nat.lt_succ_self _) (by omega) rfl hV hw (lv_sub hl [0, 1, 4, 3, 2] rfl)
        · refine lv_iconst (v := -1) hx hb dX0_choices_18 (by decide) ?_
          exact ret _ (n, us, cs, wr, so, ea, mu) _ _ _ _ dX0_choices_19 hw (Or.inr ⟨cx_pl_4 (Int32.not_le.mp h15), rfl, rfl⟩)
end
section
/-! CausalCheckModel: badPlace, put, noSource, missing, after (printed by gen/x1.py) -/
abbrev rm1_badPlace : Room := { frames := 0, cells := 0, slots := 0, locals := 0 }
set_option maxHeartbeats 4000000 in
set_option maxRecDepth 100000 in
/-- badPlace(x, y) -/
theorem k1_badPlace (l : Launch) (D : va_G) (cI cZ : ClassId) (ad : Nat → Nat) {n : Nat} {us cs : Nat → Nat} {wr : Nat → Bool} {so ea : Nat → Nat} {ro : Nat → Bool} {od : Nat → Nat} (x y : Int32) : cx_Ki l yX1_badPlace cX1_badPlace 2 (some .boolean) rm1_badPlace D cI cZ (cx_w1 cI cZ ad) [.int x, .int y] (n, us, cs, wr, so, ea, ro, od) (fun v σ' => v = cx_bI (cx_B (¬ cx_pl x y)) ∧ σ' = (n, us, cs, wr, so, ea, ro, od)) := by
  refine cx_ent (by decide) rfl (fun v σ' h => by rw [h.1]; exact cx_bI_nar _) (Nat.le_of_ble_eq_true rfl) ?_
  intro p e s m args below meth c ls Q A S hK hw hA hl ret
  have hx := S.1
  have hb := S.2.1
  have hts := S.2.2.2.2
  have hl : lv_has ls 2 [(0, .int x), (1, .int y)] := hl
  have S : CallFix p m c cX1_badPlace 2 s args lw_all RX1 := S
  refine lv_iload_n hx hb dX1_badPlace_0 rfl (lv_at hl 0 rfl) ?_
  refine lv_if_lt (tgt := 18) hx hb dX1_badPlace_1 (by decide) (fun h1 => ?_) (fun h1 => ?_)
  · refine lv_iconst (v := nI 1) hx hb dX1_badPlace_18 (by decide) ?_
    refine lv_goto (tgt := 23) hx hb dX1_badPlace_19 (by decide) ?_
    exact ret _ (n, us, cs, wr, so, ea, ro, od) _ _ _ _ dX1_badPlace_23 hw (⟨cx_j1 (cx_B_t (cx_pl_1 h1)), rfl⟩)
  · refine lv_iload_n hx hb dX1_badPlace_4 rfl (lv_at hl 0 rfl) ?_
    refine lv_iconst (v := nI 2) hx hb dX1_badPlace_5 (by decide) ?_
    refine lv_icmp_gt (tgt := 18) hx hb dX1_badPlace_6 (by decide) (fun h6 => ?_) (fun h6 => ?_)
    · refine lv_iconst (v := nI 1) hx hb dX1_badPlace_18 (by decide) ?_
      refine lv_goto (tgt := 23) hx hb dX1_badPlace_19 (by decide) ?_
      exact ret _ (n, us, cs, wr, so, ea, ro, od) _ _ _ _ dX1_badPlace_23 hw (⟨cx_j1 (cx_B_t (cx_pl_2 h6)), rfl⟩)
    · refine lv_iload_n hx hb dX1_badPlace_9 rfl (lv_at hl 1 rfl) ?_
      refine lv_if_lt (tgt := 18) hx hb dX1_badPlace_10 (by decide) (fun h10 => ?_) (fun h10 => ?_)
      · refine lv_iconst (v := nI 1) hx hb dX1_badPlace_18 (by decide) ?_
        refine lv_goto (tgt := 23) hx hb dX1_badPlace_19 (by decide) ?_
        exact ret _ (n, us, cs, wr, so, ea, ro, od) _ _ _ _ dX1_badPlace_23 hw (⟨cx_j1 (cx_B_t (cx_pl_3 h10)), rfl⟩)
      · refine lv_iload_n hx hb dX1_badPlace_13 rfl (lv_at hl 1 rfl) ?_
        refine lv_iconst (v := nI 1) hx hb dX1_badPlace_14 (by decide) ?_
        refine lv_icmp_le (tgt := 22) hx hb dX1_badPlace_15 (by decide) (fun h15 => ?_) (fun h15 => ?_)
        · refine lv_iconst (v := nI 0) hx hb dX1_badPlace_22 (by decide) ?_
          exact ret _ (n, us, cs, wr, so, ea, ro, od) _ _ _ _ dX1_badPlace_23 hw (⟨cx_j0 (cx_B_f (fun z => z (cx_pl_t h1 h6 h10 (fun q => (Int32.not_le.mpr q) h15)))), rfl⟩)
        · refine lv_iconst (v := nI 1) hx hb dX1_badPlace_18 (by decide) ?_
          refine lv_goto (tgt := 23) hx hb dX1_badPlace_19 (by decide) ?_
          exact ret _ (n, us, cs, wr, so, ea, ro, od) _ _ _ _ dX1_badPlace_23 hw (⟨cx_j1 (cx_B_t (cx_pl_4 (Int32.not_le.mp h15))), rfl⟩)
abbrev rm1_put : Room := { frames := 0, cells := 0, slots := 0, locals := 0 }
set_option maxHeartbeats 4000000 in
set_option maxRecDepth 100000 in
/-- put(u, d, x, t) -/
theorem k1_put (l : Launch) (D : va_G) (cI cZ : ClassId) (ad : Nat → Nat) {n : Nat} {us cs : Nat → Nat} {wr : Nat → Bool} {so ea : Nat → Nat} {ro : Nat → Bool} {od : Nat → Nat} (hn : n ≤ 7) (hU : ∀ a, us a < 3) {u d t : Nat} {x : Bool} (hu : u < 3) (ht : t ≤ 8) (hxt : x = true → t = 8) : cx_Kv l yX1_put cX1_put 7 rm1_put D cI cZ (cx_w1 cI cZ ad) [.ref (ad 0), .int (nI u), .int (nI d), .int (cx_bI x), .int (cx_sI t)] (n, us, cs, wr, so, ea, ro, od) (fun σ' => σ' = (n, va_up us n u, va_up cs n d, va_up wr n x, va_up so n t, va_up ea n (cx_en us ea u t n), ro, od)) := by
  refine cx_entv (by decide) (Nat.le_of_ble_eq_true rfl) ?_
  intro p e s m args below meth c ls Q A S hK hw hA hl ret
  have hx := S.1
  have hb := S.2.1
  have hts := S.2.2.2.2
  have hl : lv_has ls 7 [(0, .ref (ad 0)), (1, .int (nI u)), (2, .int (nI d)), (3, .int (cx_bI x)), (4, .int (cx_sI t))] := hl
  have S : CallFix p m c cX1_put 7 s args lw_all RX1 := S
  refine lv_aload_n hx hb dX1_put_0 rfl (lv_at hl 0 rfl) ?_
  refine cx1_gU S hK hw dX1_put_1 ?_
  refine lv_aload_n hx hb dX1_put_4 rfl (lv_at hl 0 rfl) ?_
  refine cx1_gn S hK hw dX1_put_5 ?_
  refine lv_iload_n hx hb dX1_put_8 rfl (lv_at hl 1 rfl) ?_
  refine cx1_sU S hK hw (by omega) dX1_put_9 (fun H locs hw => ?_)
  refine lv_aload_n hx hb dX1_put_10 rfl (lv_at hl 0 rfl) ?_
  refine cx1_gC S hK hw dX1_put_11 ?_
  refine lv_aload_n hx hb dX1_put_14 rfl (lv_at hl 0 rfl) ?_
  refine cx1_gn S hK hw dX1_put_15 ?_
  refine lv_iload_n hx hb dX1_put_18 rfl (lv_at hl 2 rfl) ?_
  refine cx1_sC S hK hw (by omega) dX1_put_19 (fun H locs hw => ?_)
  refine lv_aload_n hx hb dX1_put_20 rfl (lv_at hl 0 rfl) ?_
  refine cx1_gW S hK hw dX1_put_21 ?_
  refine lv_aload_n hx hb dX1_put_24 rfl (lv_at hl 0 rfl) ?_
  refine cx1_gn S hK hw dX1_put_25 ?_
  refine lv_iload_n hx hb dX1_put_28 rfl (lv_at hl 3 rfl) ?_
  refine cx1_sW S hK hw (by omega) dX1_put_29 (fun H locs hw => ?_)
  refine lv_aload_n hx hb dX1_put_30 rfl (lv_at hl 0 rfl) ?_
  refine cx1_gS S hK hw dX1_put_31 ?_
  refine lv_aload_n hx hb dX1_put_34 rfl (lv_at hl 0 rfl) ?_
  refine cx1_gn S hK hw dX1_put_35 ?_
  refine lv_iload hx hb dX1_put_38 (lv_at hl 4 rfl) ?_
  refine cx1_sS S hK hw (by omega) dX1_put_40 (fun H locs hw => ?_)
  refine lv_iconst (v := nI 0) hx hb dX1_put_41 (by decide) ?_
  refine lv_istore (lv' := [(5, .int (nI 0)), (0, .ref (ad 0)), (1, .int (nI u)), (2, .int (nI d)), (3, .int (cx_bI x)), (4, .int (cx_sI t))]) hx hb dX1_put_42 hl (by decide) rfl (fun ls hl => ?_)
  refine lv_iconst (v := nI 0) hx hb dX1_put_44 (by decide) ?_
  refine lv_istore (lv' := [(6, .int (nI 0)), (5, .int (nI 0)), (0, .ref (ad 0)), (1, .int (nI u)), (2, .int (nI d)), (3, .int (cx_bI x)), (4, .int (cx_sI t))]) hx hb dX1_put_45 hl (by decide) rfl (fun ls hl => ?_)
  have L47 : ∀ (k : Nat) (a : Nat) (H : Heap) (locs : List Loc) (ls : Array Slot), n - a < k → a ≤ n → cx_H D cx_Cl (cx_w1 cI cZ ad (n, (va_up us n u), (va_up cs n d), (va_up wr n x), (va_up so n t), ea, ro, od)) A s.heap H locs → lv_has ls 7 [(6, .int (nI a)), (5, .int (nI (cx_en us ea u t a))), (4, .int (cx_sI t)), (3, .int (cx_bI x)), (2, .int (nI d)), (1, .int (nI u)), (0, .ref (ad 0))] → W p l e rm1_put s m args below meth c H locs 0 0 Q (F0 m 47 ls []) := by
    intro k
    induction k with
    | zero => intro a H locs ls hme; exact absurd hme (Nat.not_lt_zero _)
    | succ k ihL47 =>
      intro a H locs ls hme han hw hl
      refine lv_iload hx hb dX1_put_47 (lv_at hl 0 rfl) ?_
      refine lv_aload_n hx hb dX1_put_49 rfl (lv_at hl 6 rfl) ?_
      refine cx1_gn S hK hw dX1_put_50 ?_
      refine cx_icmp_ge (tgt := 101) hx hb dX1_put_53 (by decide) (by omega) (by omega) (fun h53 => ?_) (fun h53 => ?_)
      · have e101 : a = n := by omega
        have hl : lv_has ls 7 [(6, .int (nI n)), (5, .int (nI (cx_en us ea u t n))), (4, .int (cx_sI t)), (3, .int (cx_bI x)), (2, .int (nI d)), (1, .int (nI u)), (0, .ref (ad 0))] := by rw [e101] at hl; exact hl
        refine lv_aload_n hx hb dX1_put_101 rfl (lv_at hl 6 rfl) ?_
        refine cx1_gE S hK hw dX1_put_102 ?_
        refine lv_aload_n hx hb dX1_put_105 rfl (lv_at hl 6 rfl) ?_
        refine cx1_gn S hK hw dX1_put_106 ?_
        refine lv_iload hx hb dX1_put_109 (lv_at hl 1 rfl) ?_
        refine cx1_sE S hK hw (by omega) dX1_put_111 (fun H locs hw => ?_)
        exact ret (n, (va_up us n u), (va_up cs n d), (va_up wr n x), (va_up so n t), (va_up ea n (cx_en us ea u t n)), ro, od) _ _ _ _ dX1_put_112 hw rfl
      · refine lv_aload_n hx hb dX1_put_56 rfl (lv_at hl 6 rfl) ?_
        refine cx1_gU S hK hw dX1_put_57 ?_
        refine lv_iload hx hb dX1_put_60 (lv_at hl 0 rfl) ?_
        refine cx1_aU S hK hw (by omega) dX1_put_62 ?_
        refine cx_top (congrArg nI (va_up_ne _ _ (by omega))) ?_
        have b62 := hU a
        refine lv_iload_n hx hb dX1_put_63 rfl (lv_at hl 5 rfl) ?_
        refine cx_icmp_eq (tgt := 78) hx hb dX1_put_64 (by decide) (by omega) (by omega) (fun h64 => ?_) (fun h64 => ?_)
        · refine lv_iload hx hb dX1_put_78 (lv_at hl 1 rfl) ?_
          refine lv_aload_n hx hb dX1_put_80 rfl (lv_at hl 6 rfl) ?_
          refine cx1_gE S hK hw dX1_put_81 ?_
          refine lv_iload hx hb dX1_put_84 (lv_at hl 0 rfl) ?_
          refine cx1_aE S hK hw (by omega) dX1_put_86 ?_
          refine lv_iconst (v := nI 1) hx hb dX1_put_87 (by decide) ?_
          refine lv_iload hx hb dX1_put_88 (lv_at hl 0 rfl) ?_
          refine cx_ishl hx hb dX1_put_90 (by omega) ?_
          refine cx_ior hx hb dX1_put_91 ?_
          refine cx_ior hx hb dX1_put_92 ?_
          refine cx_top (y := nI (cx_en us ea u t (a + 1))) (by rw [Nat.or_comm (ea a)]; exact congrArg nI (if_pos (Or.inl h64)).symm) ?_
          refine lv_istore (lv' := [(5, .int (nI (cx_en us ea u t (a + 1)))), (6, .int (nI a)), (4, .int (cx_sI t)), (3, .int (cx_bI x)), (2, .int (nI d)), (1, .int (nI u)), (0, .ref (ad 0))]) hx hb dX1_put_93 hl (by decide) rfl (fun ls hl => ?_)
          refine lv_iinc (v := (nI (a + 1))) (lv' := [(6, .int (nI (a + 1))), (5, .int (nI (cx_en us ea u t (a + 1)))), (4, .int (cx_sI t)), (3, .int (cx_bI x)), (2, .int (nI d)), (1, .int (nI u)), (0, .ref (ad 0))]) hx hb dX1_put_95 hl (k := 1) rfl (cx_inc1 _) (by decide) rfl (fun ls hl => ?_)
          refine lv_goto (tgt := 47) hx hb dX1_put_98 (by decide) ?_
          exact ihL47 (a + 1) _ _ _ (by omega) (by omega) hw (lv_sub hl [0, 1, 2, 3, 4, 5, 6] rfl)
        · refine lv_iload_n hx hb dX1_put_67 rfl (lv_at hl 3 rfl) ?_
          refine cx_ifne_b (tgt := 95) hx hb dX1_put_68 (by decide) (fun h68 => ?_) (fun h68 => ?_)
          · have e95 : cx_en us ea u t (a + 1) = cx_en us ea u t a := if_neg (fun z => z.elim h64 (fun z => by have := hxt h68; omega))
            have hl : lv_has ls 7 [(6, .int (nI a)), (5, .int (nI (cx_en us ea u t (a + 1)))), (4, .int (cx_sI t)), (3, .int (cx_bI x)), (2, .int (nI d)), (1, .int (nI u)), (0, .ref (ad 0))] := by rw [e95]; exact hl
            refine lv_iinc (v := (nI (a + 1))) (lv' := [(6, .int (nI (a + 1))), (5, .int (nI (cx_en us ea u t (a + 1)))), (4, .int (cx_sI t)), (3, .int (cx_bI x)), (2, .int (nI d)), (1, .int (nI u)), (0, .ref (ad 0))]) hx hb dX1_put_95 hl (k := 0) rfl (cx_inc1 _) (by decide) rfl (fun ls hl => ?_)
            refine lv_goto (tgt := 47) hx hb dX1_put_98 (by decide) ?_
            exact ihL47 (a + 1) _ _ _ (by omega) (by omega) hw (lv_sub hl [0, 1, 2, 3, 4, 5, 6] rfl)
          · refine lv_iload hx hb dX1_put_71 (lv_at hl 0 rfl) ?_
            refine lv_iload hx hb dX1_put_73 (lv_at hl 2 rfl) ?_
            refine cx_icmp_ne_s (tgt := 95) hx hb dX1_put_75 (by decide) (by omega) (by omega) (fun h75 => ?_) (fun h75 => ?_)
            · have e95 : cx_en us ea u t (a + 1) = cx_en us ea u t a := if_neg (fun z => z.elim h64 h75)
              have hl : lv_has ls 7 [(6, .int (nI a)), (5, .int (nI (cx_en us ea u t (a + 1)))), (4, .int (cx_sI t)), (3, .int (cx_bI x)), (2, .int (nI d)), (1, .int (nI u)), (0, .ref (ad 0))] := by rw [e95]; exact hl
              refine lv_iinc (v := (nI (a + 1))) (lv' := [(6, .int (nI (a + 1))), (5, .int (nI (cx_en us ea u t (a + 1)))), (4, .int (cx_sI t)), (3, .int (cx_bI x)), (2, .int (nI d)), (1, .int (nI u)), (0, .ref (ad 0))]) hx hb dX1_put_95 hl (k := 0) rfl (cx_inc1 _) (by decide) rfl (fun ls hl => ?_)
              refine lv_goto (tgt := 47) hx hb dX1_put_98 (by decide) ?_
              exact ihL47 (a + 1) _ _ _ (by omega) (by omega) hw (lv_sub hl [0, 1, 2, 3, 4, 5, 6] rfl)
            · refine lv_iload hx hb dX1_put_78 (lv_at hl 1 rfl) ?_
              refine lv_aload_n hx hb dX1_put_80 rfl (lv_at hl 6 rfl) ?_
              refine cx1_gE S hK hw dX1_put_81 ?_
              refine lv_iload hx hb dX1_put_84 (lv_at hl 0 rfl) ?_
              refine cx1_aE S hK hw (by omega) dX1_put_86 ?_
              refine lv_iconst (v := nI 1) hx hb dX1_put_87 (by decide) ?_
              refine lv_iload hx hb dX1_put_88 (lv_at hl 0 rfl) ?_
              refine cx_ishl hx hb dX1_put_90 (by omega) ?_
              refine cx_ior hx hb dX1_put_91 ?_
              refine cx_ior hx hb dX1_put_92 ?_
              refine cx_top (y := nI (cx_en us ea u t (a + 1))) (by rw [Nat.or_comm (ea a)]; exact congrArg nI (if_pos (Or.inr h75)).symm) ?_
              refine lv_istore (lv' := [(5, .int (nI (cx_en us ea u t (a + 1)))), (6, .int (nI a)), (4, .int (cx_sI t)), (3, .int (cx_bI x)), (2, .int (nI d)), (1, .int (nI u)), (0, .ref (ad 0))]) hx hb dX1_put_93 hl (by decide) rfl (fun ls hl => ?_)
              refine lv_iinc (v := (nI (a + 1))) (lv' := [(6, .int (nI (a + 1))), (5, .int (nI (cx_en us ea u t (a + 1)))), (4, .int (cx_sI t)), (3, .int (cx_bI x)), (2, .int (nI d)), (1, .int (nI u)), (0, .ref (ad 0))]) hx hb dX1_put_95 hl (k := 1) rfl (cx_inc1 _) (by decide) rfl (fun ls hl => ?_)
              refine lv_goto (tgt := 47) hx hb dX1_put_98 (by decide) ?_
              exact ihL47 (a + 1) _ _ _ (by omega) (by omega) hw (lv_sub hl [0, 1, 2, 3, 4, 5, 6] rfl)
  exact L47 _ 0 _ _ _ (Nat.lt_succ_self _) (by omega) hw (lv_sub hl [0, 1, 6, 5, 4, 3, 2] rfl)
abbrev rm1_noSource : Room := { frames := 0, cells := 0, slots := 0, locals := 0 }
set_option maxHeartbeats 4000000 in
set_option maxRecDepth 100000 in
/-- noSource(d, z) -/
theorem k1_noSource (l : Launch) (D : va_G) (cI cZ : ClassId) (ad : Nat → Nat) {n : Nat} {us cs : Nat → Nat} {wr : Nat → Bool} {so ea : Nat → Nat} {ro : Nat → Bool} {od : Nat → Nat} (hn : n ≤ 8) (hC : ∀ a, cs a < 2) {d : Nat} (hd : d < 2) (z : Int32) : cx_Ki l yX1_noSource cX1_noSource 3 (some .boolean) rm1_noSource D cI cZ (cx_w1 cI cZ ad) [.ref (ad 0), .int (nI d), .int z] (n, us, cs, wr, so, ea, ro, od) (fun v σ' => v = cx_bI (cx_B (¬ cx_sk n cs wr z d)) ∧ σ' = (n, us, cs, wr, so, ea, ro, od)) := by
  refine cx_ent (by decide) rfl (fun v σ' h => by rw [h.1]; exact cx_bI_nar _) (Nat.le_of_ble_eq_true rfl) ?_
  intro p e s m args below meth c ls Q A S hK hw hA hl ret
  have hx := S.1
  have hb := S.2.1
  have hts := S.2.2.2.2
  have hl : lv_has ls 3 [(0, .ref (ad 0)), (1, .int (nI d)), (2, .int z)] := hl
  have S : CallFix p m c cX1_noSource 3 s args lw_all RX1 := S
  refine lv_iload_n hx hb dX1_noSource_0 rfl (lv_at hl 2 rfl) ?_
  refine lv_iconst (v := -1) hx hb dX1_noSource_1 (by decide) ?_
  refine lv_icmp_ne (tgt := 7) hx hb dX1_noSource_2 (by decide) (fun h2 => ?_) (fun h2 => ?_)
  · refine lv_iload_n hx hb dX1_noSource_7 rfl (lv_at hl 2 rfl) ?_
    refine lv_if_lt (tgt := 38) hx hb dX1_noSource_8 (by decide) (fun h8 => ?_) (fun h8 => ?_)
    · refine lv_iconst (v := nI 1) hx hb dX1_noSource_38 (by decide) ?_
      refine lv_goto (tgt := 43) hx hb dX1_noSource_39 (by decide) ?_
      exact ret _ (n, us, cs, wr, so, ea, ro, od) _ _ _ _ dX1_noSource_43 hw (⟨cx_j1 (cx_B_t (cx_sk_f h2 (cx_hd_f1 h8 (by omega)))), rfl⟩)
    · refine lv_iload_n hx hb dX1_noSource_11 rfl (lv_at hl 2 rfl) ?_
      refine lv_aload_n hx hb dX1_noSource_12 rfl (lv_at hl 0 rfl) ?_
      refine cx1_gn S hK hw dX1_noSource_13 ?_
      refine lv_icmp_ge (tgt := 38) hx hb dX1_noSource_16 (by decide) (fun h16 => ?_) (fun h16 => ?_)
      · refine lv_iconst (v := nI 1) hx hb dX1_noSource_38 (by decide) ?_
        refine lv_goto (tgt := 43) hx hb dX1_noSource_39 (by decide) ?_
        exact ret _ (n, us, cs, wr, so, ea, ro, od) _ _ _ _ dX1_noSource_43 hw (⟨cx_j1 (cx_B_t (cx_sk_f h2 (cx_hd_f2 h16 (by omega)))), rfl⟩)
      · obtain ⟨k, hk, rfl⟩ := cx_hd_t h8 h16 (by omega)
        refine lv_aload_n hx hb dX1_noSource_19 rfl (lv_at hl 0 rfl) ?_
        refine cx1_gW S hK hw dX1_noSource_20 ?_
        refine lv_iload_n hx hb dX1_noSource_23 rfl (lv_at hl 2 rfl) ?_
        refine cx1_aW S hK hw (by omega) dX1_noSource_24 ?_
        refine cx_ifeq_b (tgt := 38) hx hb dX1_noSource_25 (by decide) (fun h25 => ?_) (fun h25 => ?_)
        · refine lv_iconst (v := nI 1) hx hb dX1_noSource_38 (by decide) ?_
          refine lv_goto (tgt := 43) hx hb dX1_noSource_39 (by decide) ?_
          exact ret _ (n, us, cs, wr, so, ea, ro, od) _ _ _ _ dX1_noSource_43 hw (⟨cx_j1 (cx_B_t (fun q => by rw [((cx_sk_g hk (by omega)).mp q).1] at h25; cases h25)), rfl⟩)
        · refine lv_aload_n hx hb dX1_noSource_28 rfl (lv_at hl 0 rfl) ?_
          refine cx1_gC S hK hw dX1_noSource_29 ?_
          refine lv_iload_n hx hb dX1_noSource_32 rfl (lv_at hl 2 rfl) ?_
          refine cx1_aC S hK hw (by omega) dX1_noSource_33 ?_
          have b33 := hC k
          refine lv_iload_n hx hb dX1_noSource_34 rfl (lv_at hl 1 rfl) ?_
          refine cx_icmp_eq (tgt := 42) hx hb dX1_noSource_35 (by decide) (by omega) (by omega) (fun h35 => ?_) (fun h35 => ?_)
          · refine lv_iconst (v := nI 0) hx hb dX1_noSource_42 (by decide) ?_
            exact ret _ (n, us, cs, wr, so, ea, ro, od) _ _ _ _ dX1_noSource_43 hw (⟨cx_j0 (cx_B_f (fun q => q ((cx_sk_g hk (by omega)).mpr ⟨h25, h35⟩))), rfl⟩)
          · refine lv_iconst (v := nI 1) hx hb dX1_noSource_38 (by decide) ?_
            refine lv_goto (tgt := 43) hx hb dX1_noSource_39 (by decide) ?_
            exact ret _ (n, us, cs, wr, so, ea, ro, od) _ _ _ _ dX1_noSource_43 hw (⟨cx_j1 (cx_B_t (fun q => h35 ((cx_sk_g hk (by omega)).mp q).2)), rfl⟩)
  · refine lv_iconst (v := nI 0) hx hb dX1_noSource_5 (by decide) ?_
    exact ret _ (n, us, cs, wr, so, ea, ro, od) _ _ _ _ dX1_noSource_6 hw (⟨cx_j0 (cx_B_f (fun q => q (Or.inl h2))), rfl⟩)
abbrev rm1_missing : Room := { frames := 0, cells := 0, slots := 0, locals := 0 }
set_option maxHeartbeats 4000000 in
set_option maxRecDepth 100000 in
/-- missing(o) -/
theorem k1_missing (l : Launch) (D : va_G) (cI cZ : ClassId) (ad : Nat → Nat) {n : Nat} {us cs : Nat → Nat} {wr : Nat → Bool} {so ea : Nat → Nat} {ro : Nat → Bool} {od : Nat → Nat} (hn : n ≤ 8) (o : Int32) : cx_Ki l yX1_missing cX1_missing 2 (some .boolean) rm1_missing D cI cZ (cx_w1 cI cZ ad) [.ref (ad 0), .int o] (n, us, cs, wr, so, ea, ro, od) (fun v σ' => v = cx_bI (cx_B (¬ ∃ k, k < n ∧ o = nI k)) ∧ σ' = (n, us, cs, wr, so, ea, ro, od)) := by
  refine cx_ent (by decide) rfl (fun v σ' h => by rw [h.1]; exact cx_bI_nar _) (Nat.le_of_ble_eq_true rfl) ?_
  intro p e s m args below meth c ls Q A S hK hw hA hl ret
  have hx := S.1
  have hb := S.2.1
  have hts := S.2.2.2.2
  have hl : lv_has ls 2 [(0, .ref (ad 0)), (1, .int o)] := hl
  have S : CallFix p m c cX1_missing 2 s args lw_all RX1 := S
  refine lv_iload_n hx hb dX1_missing_0 rfl (lv_at hl 1 rfl) ?_
  refine lv_if_lt (tgt := 12) hx hb dX1_missing_1 (by decide) (fun h1 => ?_) (fun h1 => ?_)
  · refine lv_iconst (v := nI 1) hx hb dX1_missing_12 (by decide) ?_
    refine lv_goto (tgt := 17) hx hb dX1_missing_13 (by decide) ?_
    exact ret _ (n, us, cs, wr, so, ea, ro, od) _ _ _ _ dX1_missing_17 hw (⟨cx_j1 (cx_B_t (cx_hd_f1 h1 (by omega))), rfl⟩)
  · refine lv_iload_n hx hb dX1_missing_4 rfl (lv_at hl 1 rfl) ?_
    refine lv_aload_n hx hb dX1_missing_5 rfl (lv_at hl 0 rfl) ?_
    refine cx1_gn S hK hw dX1_missing_6 ?_
    refine lv_icmp_lt (tgt := 16) hx hb dX1_missing_9 (by decide) (fun h9 => ?_) (fun h9 => ?_)
    · refine lv_iconst (v := nI 0) hx hb dX1_missing_16 (by decide) ?_
      exact ret _ (n, us, cs, wr, so, ea, ro, od) _ _ _ _ dX1_missing_17 hw (⟨cx_j0 (cx_B_f (fun q => q (cx_hd_t h1 (Int32.not_le.mpr h9) (by omega)))), rfl⟩)
    · refine lv_iconst (v := nI 1) hx hb dX1_missing_12 (by decide) ?_
      refine lv_goto (tgt := 17) hx hb dX1_missing_13 (by decide) ?_
      exact ret _ (n, us, cs, wr, so, ea, ro, od) _ _ _ _ dX1_missing_17 hw (⟨cx_j1 (cx_B_t (cx_hd_f2 (Int32.not_lt.mp h9) (by omega))), rfl⟩)
abbrev rm1_after : Room := { frames := 0, cells := 0, slots := 0, locals := 0 }
set_option maxHeartbeats 4000000 in
set_option maxRecDepth 100000 in
/-- after(last, c, must) -/
theorem k1_after (l : Launch) (D : va_G) (cI cZ : ClassId) (ad : Nat → Nat) {n : Nat} {us cs : Nat → Nat} {wr : Nat → Bool} {so ea : Nat → Nat} {ro : Nat → Bool} {od : Nat → Nat} (hC : ∀ a, cs a < 2) (hS : ∀ a, so a ≤ 8) {la c0 : Nat} {mb : Bool} (hla : la < 81) (hc : c0 < 8) : cx_Ki l yX1_after cX1_after 5 (some .int) rm1_after D cI cZ (cx_w1 cI cZ ad) [.ref (ad 0), .int (nI la), .int (nI c0), .int (cx_bI mb)] (n, us, cs, wr, so, ea, ro, od) (fun v σ' => v = cx_oI (cx_af cs wr so la c0 mb) ∧ σ' = (n, us, cs, wr, so, ea, ro, od)) := by
  refine cx_ent (by decide) rfl (fun v _ _ => vp_nar_int v) (Nat.le_of_ble_eq_true rfl) ?_
  intro p e s m args below meth c ls Q A S hK hw hA hl ret
  have hx := S.1
  have hb := S.2.1
  have hts := S.2.2.2.2
  have hl : lv_has ls 5 [(0, .ref (ad 0)), (1, .int (nI la)), (2, .int (nI c0)), (3, .int (cx_bI mb))] := hl
  have S : CallFix p m c cX1_after 5 s args lw_all RX1 := S
  refine lv_aload_n hx hb dX1_after_0 rfl (lv_at hl 0 rfl) ?_
  refine cx1_gC S hK hw dX1_after_1 ?_
  refine lv_iload_n hx hb dX1_after_4 rfl (lv_at hl 2 rfl) ?_
  refine cx1_aC S hK hw (by omega) dX1_after_5 ?_
  have b5 := hC c0
  have J20 : W p l e rm1_after s m args below meth c s.heap [] 0 0 Q (F0 m 20 ls [.int (nI (if cs c0 = 0 then la / 9 else la % 9))]) := by
    refine lv_istore (lv' := [(4, .int (nI (if cs c0 = 0 then la / 9 else la % 9))), (0, .ref (ad 0)), (1, .int (nI la)), (2, .int (nI c0)), (3, .int (cx_bI mb))]) hx hb dX1_after_20 hl (by decide) rfl (fun ls hl => ?_)
    have hmi : (if cs c0 = 0 then la / 9 else la % 9) < 9 := by split <;> omega
    refine lv_aload_n hx hb dX1_after_22 rfl (lv_at hl 1 rfl) ?_
    refine cx1_gW S hK hw dX1_after_23 ?_
    refine lv_iload_n hx hb dX1_after_26 rfl (lv_at hl 3 rfl) ?_
    refine cx1_aW S hK hw (by omega) dX1_after_27 ?_
    refine cx_ifne_b (tgt := 66) hx hb dX1_after_28 (by decide) (fun h28 => ?_) (fun h28 => ?_)
    · refine lv_aload_n hx hb dX1_after_66 rfl (lv_at hl 1 rfl) ?_
      refine cx1_gC S hK hw dX1_after_67 ?_
      refine lv_iload_n hx hb dX1_after_70 rfl (lv_at hl 3 rfl) ?_
      refine cx1_aC S hK hw (by omega) dX1_after_71 ?_
      have b71 := hC c0
      refine cx_ifne_n (tgt := 87) hx hb dX1_after_72 (by decide) (by omega) (fun h72 => ?_) (fun h72 => ?_)
      · refine lv_iload_n hx hb dX1_after_87 rfl (lv_at hl 2 rfl) ?_
        refine lv_bipush (v := nI 9) hx hb dX1_after_88 (by decide) ?_
        refine cx_idiv hx hb dX1_after_90 (by omega) (by omega) (by omega) ?_
        refine lv_bipush (v := nI 9) hx hb dX1_after_91 (by decide) ?_
        refine cx_imul hx hb dX1_after_93 ?_
        refine lv_iload_n hx hb dX1_after_94 rfl (lv_at hl 3 rfl) ?_
        refine cx_iadd hx hb dX1_after_95 ?_
        exact ret _ (n, us, cs, wr, so, ea, ro, od) _ _ _ _ dX1_after_96 hw (⟨by unfold cx_af; rw [if_pos h28, if_neg h72]; rfl, rfl⟩)
      · refine lv_bipush (v := nI 9) hx hb dX1_after_75 (by decide) ?_
        refine lv_iload_n hx hb dX1_after_77 rfl (lv_at hl 3 rfl) ?_
        refine cx_imul hx hb dX1_after_78 ?_
        refine lv_iload_n hx hb dX1_after_79 rfl (lv_at hl 2 rfl) ?_
        refine lv_bipush (v := nI 9) hx hb dX1_after_80 (by decide) ?_
        refine cx_irem hx hb dX1_after_82 (by omega) (by omega) (by omega) ?_
        refine cx_iadd hx hb dX1_after_83 ?_
        refine lv_goto (tgt := 96) hx hb dX1_after_84 (by decide) ?_
        exact ret _ (n, us, cs, wr, so, ea, ro, od) _ _ _ _ dX1_after_96 hw (⟨by unfold cx_af; rw [if_pos h28, if_pos h72]; rfl, rfl⟩)
    · refine lv_iload_n hx hb dX1_after_31 rfl (lv_at hl 4 rfl) ?_
      refine cx_ifeq_b (tgt := 64) hx hb dX1_after_32 (by decide) (fun h32 => ?_) (fun h32 => ?_)
      · refine lv_iload_n hx hb dX1_after_64 rfl (lv_at hl 2 rfl) ?_
        exact ret _ (n, us, cs, wr, so, ea, ro, od) _ _ _ _ dX1_after_65 hw (⟨by unfold cx_af; rw [if_neg (by rw [h28]; decide), if_neg (fun q => by rw [h32] at q; exact absurd q.1 (by decide))]; rfl, rfl⟩)
      · refine lv_iload hx hb dX1_after_35 (lv_at hl 0 rfl) ?_
        refine lv_aload_n hx hb dX1_after_37 rfl (lv_at hl 1 rfl) ?_
        refine cx1_gS S hK hw dX1_after_38 ?_
        refine lv_iload_n hx hb dX1_after_41 rfl (lv_at hl 3 rfl) ?_
        refine cx1_aS S hK hw (by omega) dX1_after_42 ?_
        have b42 := hS c0
        refine cx_ifge_s (tgt := 51) hx hb dX1_after_43 (by decide) (by omega) (fun h43 => ?_) (fun h43 => ?_)
        · refine lv_aload_n hx hb dX1_after_51 rfl (lv_at hl 1 rfl) ?_
          refine cx1_gS S hK hw dX1_after_52 ?_
          refine lv_iload_n hx hb dX1_after_55 rfl (lv_at hl 3 rfl) ?_
          refine cx1_aS S hK hw (by omega) dX1_after_56 ?_
          have b56 := hS c0
          refine cx_top (cx_sI_n h43) ?_
          refine cx_icmp_eq (tgt := 64) hx hb dX1_after_57 (by decide) (by omega) (by omega) (fun h57 => ?_) (fun h57 => ?_)
          · refine lv_iload_n hx hb dX1_after_64 rfl (lv_at hl 2 rfl) ?_
            exact ret _ (n, us, cs, wr, so, ea, ro, od) _ _ _ _ dX1_after_65 hw (⟨by unfold cx_af; rw [if_neg (by rw [h28]; decide), if_neg (fun q => q.2 (h57))]; rfl, rfl⟩)
          · refine lv_iconst (v := -1) hx hb dX1_after_60 (by decide) ?_
            refine lv_goto (tgt := 65) hx hb dX1_after_61 (by decide) ?_
            exact ret _ (n, us, cs, wr, so, ea, ro, od) _ _ _ _ dX1_after_65 hw (⟨by unfold cx_af; rw [if_neg (by rw [h28]; decide), if_pos ⟨h32, h57⟩]; rfl, rfl⟩)
        · refine lv_bipush (v := nI 8) hx hb dX1_after_46 (by decide) ?_
          refine lv_goto (tgt := 57) hx hb dX1_after_48 (by decide) ?_
          refine cx_icmp_eq (tgt := 64) hx hb dX1_after_57 (by decide) (by omega) (by omega) (fun h57 => ?_) (fun h57 => ?_)
          · refine lv_iload_n hx hb dX1_after_64 rfl (lv_at hl 2 rfl) ?_
            exact ret _ (n, us, cs, wr, so, ea, ro, od) _ _ _ _ dX1_after_65 hw (⟨by unfold cx_af; rw [if_neg (by rw [h28]; decide), if_neg (fun q => q.2 (h57.trans h43.symm))]; rfl, rfl⟩)
          · refine lv_iconst (v := -1) hx hb dX1_after_60 (by decide) ?_
            refine lv_goto (tgt := 65) hx hb dX1_after_61 (by decide) ?_
            exact ret _ (n, us, cs, wr, so, ea, ro, od) _ _ _ _ dX1_after_65 hw (⟨by unfold cx_af; rw [if_neg (by rw [h28]; decide), if_pos ⟨h32, fun q => h57 (q.trans h43)⟩]; rfl, rfl⟩)
  refine cx_ifne_n (tgt := 16) hx hb dX1_after_6 (by decide) (by omega) (fun h6 => ?_) (fun h6 => ?_)
  · refine lv_iload_n hx hb dX1_after_16 rfl (lv_at hl 1 rfl) ?_
    refine lv_bipush (v := nI 9) hx hb dX1_after_17 (by decide) ?_
    refine cx_irem hx hb dX1_after_19 (by omega) (by omega) (by omega) ?_
    exact cx_top (by simp [h6]) J20
  · refine lv_iload_n hx hb dX1_after_9 rfl (lv_at hl 1 rfl) ?_
    refine lv_bipush (v := nI 9) hx hb dX1_after_10 (by decide) ?_
    refine cx_idiv hx hb dX1_after_12 (by omega) (by omega) (by omega) ?_
    refine lv_goto (tgt := 20) hx hb dX1_after_13 (by decide) ?_
    exact cx_top (by simp [h6]) J20
end
section
/-! CausalCheckModel: hasRow, weak, strong (printed by gen/x1b.py) -/
abbrev rm1_hasRow : Room := { frames := 1, cells := 0, slots := 0, locals := 24 }
set_option maxHeartbeats 4000000 in
set_option maxRecDepth 100000 in
/-- hasRow(o, al) -/
theorem k1_hasRow (l : Launch) (D : va_G) (cI cZ : ClassId) (ad : Nat → Nat) {n : Nat} {us cs : Nat → Nat} {wr : Nat → Bool} {so ea : Nat → Nat} {ro : Nat → Bool} {od : Nat → Nat} (hV : cx_Va n us cs wr so ea) (hn : n ≤ 7) {o : Nat} (ho : o < n) {al : Bool} : cx_Ki l yX1_hasRow cX1_hasRow 10 (some .boolean) rm1_hasRow D cI cZ (cx_w1 cI cZ ad) [.ref (ad 0), .int (nI o), .int (cx_bI al)] (n, us, cs, wr, so, ea, ro, od) (fun v σ' => v = cx_bI (cx_B (cx_Row cs wr so ea (cx_pa ea o) (cx_ms us o al))) ∧ ∃ ro', σ' = (n, us, cs, wr, so, ea, ro', od)) := by
  refine cx_ent (by decide) rfl (fun v σ' h => by rw [h.1]; exact cx_bI_nar _) (Nat.le_of_ble_eq_true rfl) ?_
  intro p e s m args below meth c ls Q A S hK hw hA hl ret
  have hx := S.1
  have hb := S.2.1
  have hts := S.2.2.2.2
  have hl : lv_has ls 10 [(0, .ref (ad 0)), (1, .int (nI o)), (2, .int (cx_bI al))] := hl
  have S : CallFix p m c cX1_hasRow 10 s args lw_all RX1 := S
  have hU := hV.1
  have hC := hV.2.1
  have hS := hV.2.2.1
  have hE := hV.2.2.2.1
  have hp7 : cx_pa ea o < 128 := cx_pa_lt hV ho hn
  have hg : ∀ i c j, (cx_ed cs wr so ea (cx_pa ea o) (cx_ms us o al)) i c = some j → i < j := fun i c j h => cx_ed_gt h
  have hdp := cx_dp hV hn ho (cx_ms us o al)
  refine lv_aload_n hx hb dX1_hasRow_0 rfl (lv_at hl 0 rfl) ?_
  refine cx1_gE S hK hw dX1_hasRow_1 ?_
  refine lv_iload_n hx hb dX1_hasRow_4 rfl (lv_at hl 1 rfl) ?_
  refine cx1_aE S hK hw (by omega) dX1_hasRow_5 ?_
  have b5 := hE o
  refine lv_iconst (v := nI 1) hx hb dX1_hasRow_6 (by decide) ?_
  refine lv_iload_n hx hb dX1_hasRow_7 rfl (lv_at hl 1 rfl) ?_
  refine cx_ishl hx hb dX1_hasRow_8 (by omega) ?_
  refine cx_ior hx hb dX1_hasRow_9 ?_
  refine cx_top (y := nI (cx_pa ea o)) rfl ?_
  refine lv_istore_n (lv' := [(3, .int (nI (cx_pa ea o))), (0, .ref (ad 0)), (1, .int (nI o)), (2, .int (cx_bI al))]) hx hb dX1_hasRow_10 rfl hl (by decide) rfl (fun ls hl => ?_)
  refine lv_iconst (v := nI 0) hx hb dX1_hasRow_11 (by decide) ?_
  refine lv_istore (lv' := [(4, .int (nI 0)), (3, .int (nI (cx_pa ea o))), (0, .ref (ad 0)), (1, .int (nI o)), (2, .int (cx_bI al))]) hx hb dX1_hasRow_12 hl (by decide) rfl (fun ls hl => ?_)
  have L14 : ∀ (k : Nat) (i : Nat) (ro1 : Nat → Bool) (H : Heap) (locs : List Loc) (ls : Array Slot), 10368 - i < k → i ≤ 10368 → (∀ x, x < i → ro1 x = false) → cx_H D cx_Cl (cx_w1 cI cZ ad (n, us, cs, wr, so, ea, ro1, od)) A s.heap H locs → lv_has ls 10 [(4, .int (nI i)), (3, .int (nI (cx_pa ea o))), (2, .int (cx_bI al)), (1, .int (nI o)), (0, .ref (ad 0))] → W p l e rm1_hasRow s m args below meth c H locs 0 0 Q (F0 m 14 ls []) := by
    intro k
    induction k with
    | zero => intro i ro1 H locs ls hme; exact absurd hme (Nat.not_lt_zero _)
    | succ k ihL14 =>
      intro i ro1 H locs ls hme hi hz hw hl
      refine lv_iload hx hb dX1_hasRow_14 (lv_at hl 0 rfl) ?_
      refine lv_sipush (v := nI 10368) hx hb dX1_hasRow_16 (by decide) ?_
      refine cx_icmp_ge (tgt := 36) hx hb dX1_hasRow_19 (by decide) (by omega) (by omega) (fun h19 => ?_) (fun h19 => ?_)
      · have hz9 : ∀ x, x < 10368 → ro1 x = false := fun x h9 => hz x (by omega)
        refine lv_aload_n hx hb dX1_hasRow_36 rfl (lv_at hl 4 rfl) ?_
        refine cx1_gR S hK hw dX1_hasRow_37 ?_
        refine lv_bipush (v := nI 80) hx hb dX1_hasRow_40 (by decide) ?_
        refine lv_iconst (v := nI 1) hx hb dX1_hasRow_42 (by decide) ?_
        refine cx_top (y := cx_bI true) (by decide) ?_
        refine cx1_sR S hK hw (by omega) dX1_hasRow_43 (fun H locs hw => ?_)
        refine lv_iconst (v := nI 0) hx hb dX1_hasRow_44 (by decide) ?_
        refine lv_istore (lv' := [(4, .int (nI 0)), (3, .int (nI (cx_pa ea o))), (2, .int (cx_bI al)), (1, .int (nI o)), (0, .ref (ad 0))]) hx hb dX1_hasRow_45 hl (by decide) rfl (fun ls hl => ?_)
        have L47 : ∀ (f2 : Nat) (i : Nat) (ro2 : Nat → Bool) (H : Heap) (locs : List Loc) (ls : Array Slot), 10368 - i < f2 → i ≤ 10368 → cx_DI n (cx_ed cs wr so ea (cx_pa ea o) (cx_ms us o al)) ro2 i 0 → cx_H D cx_Cl (cx_w1 cI cZ ad (n, us, cs, wr, so, ea, ro2, od)) A s.heap H locs → lv_has ls 10 [(4, .int (nI i)), (3, .int (nI (cx_pa ea o))), (2, .int (cx_bI al)), (1, .int (nI o)), (0, .ref (ad 0))] → W p l e rm1_hasRow s m args below meth c H locs 0 0 Q (F0 m 47 ls []) := by
          intro f2
          induction f2 with
          | zero => intro i ro2 H locs ls hme; exact absurd hme (Nat.not_lt_zero _)
          | succ f2 ihL47 =>
            intro i ro2 H locs ls hme hi hD hw hl
            refine lv_iload hx hb dX1_hasRow_47 (lv_at hl 0 rfl) ?_
            refine lv_sipush (v := nI 10368) hx hb dX1_hasRow_49 (by decide) ?_
            refine cx_icmp_ge (tgt := 219) hx hb dX1_hasRow_52 (by decide) (by omega) (by omega) (fun h52 => ?_) (fun h52 => ?_)
            · have e219 : i = 10368 := by omega
              rw [e219] at hD
              have hend : ∀ j, j < 10368 → (ro2 j = true ↔ cx_Re n (cx_ed cs wr so ea (cx_pa ea o) (cx_ms us o al)) j) := fun j hj => cx_DI_end hg hD hj
              refine lv_iconst (v := nI 0) hx hb dX1_hasRow_219 (by decide) ?_
              refine lv_istore (lv' := [(4, .int (nI 0)), (3, .int (nI (cx_pa ea o))), (2, .int (cx_bI al)), (1, .int (nI o)), (0, .ref (ad 0))]) hx hb dX1_hasRow_220 hl (by decide) rfl (fun ls hl => ?_)
              have L222 : ∀ (f4 : Nat) (la : Nat) (H : Heap) (locs : List Loc) (ls : Array Slot), 81 - la < f4 → la ≤ 81 → (∀ x, x < la → ro2 (81 * cx_pa ea o + x) = false) → cx_H D cx_Cl (cx_w1 cI cZ ad (n, us, cs, wr, so, ea, ro2, od)) A s.heap H locs → lv_has ls 10 [(4, .int (nI la)), (3, .int (nI (cx_pa ea o))), (2, .int (cx_bI al)), (1, .int (nI o)), (0, .ref (ad 0))] → W p l e rm1_hasRow s m args below meth c H locs 0 0 Q (F0 m 222 ls []) := by
                intro f4
                induction f4 with
                | zero => intro la H locs ls hme; exact absurd hme (Nat.not_lt_zero _)
                | succ f4 ihL222 =>
                  intro la H locs ls hme hla hno hw hl
                  refine lv_iload hx hb dX1_hasRow_222 (lv_at hl 0 rfl) ?_
                  refine lv_bipush (v := nI 81) hx hb dX1_hasRow_224 (by decide) ?_
                  refine cx_icmp_ge (tgt := 252) hx hb dX1_hasRow_226 (by decide) (by omega) (by omega) (fun h226 => ?_) (fun h226 => ?_)
                  · refine lv_iconst (v := nI 0) hx hb dX1_hasRow_252 (by decide) ?_
                    exact ret _ (n, us, cs, wr, so, ea, ro2, od) _ _ _ _ dX1_hasRow_253 hw (⟨cx_j0 (cx_B_f (fun z => by obtain ⟨x, z1, z2⟩ := hdp.mpr z; have z3 := (hend _ (by omega)).mpr z2; rw [hno x (by omega)] at z3; cases z3)), _, rfl⟩)
                  · refine lv_aload_n hx hb dX1_hasRow_229 rfl (lv_at hl 4 rfl) ?_
                    refine cx1_gR S hK hw dX1_hasRow_230 ?_
                    refine lv_bipush (v := nI 81) hx hb dX1_hasRow_233 (by decide) ?_
                    refine lv_iload_n hx hb dX1_hasRow_235 rfl (lv_at hl 1 rfl) ?_
                    refine cx_imul hx hb dX1_hasRow_236 ?_
                    refine lv_iload hx hb dX1_hasRow_237 (lv_at hl 0 rfl) ?_
                    refine cx_iadd hx hb dX1_hasRow_239 ?_
                    refine cx1_aR S hK hw (by omega) dX1_hasRow_240 ?_
                    refine cx_ifeq_b (tgt := 246) hx hb dX1_hasRow_241 (by decide) (fun h241 => ?_) (fun h241 => ?_)
                    · refine lv_iinc (v := (nI (la + 1))) (lv' := [(4, .int (nI (la + 1))), (3, .int (nI (cx_pa ea o))), (2, .int (cx_bI al)), (1, .int (nI o)), (0, .ref (ad 0))]) hx hb dX1_hasRow_246 hl (k := 0) rfl (cx_inc1 _) (by decide) rfl (fun ls hl => ?_)
                      refine lv_goto (tgt := 222) hx hb dX1_hasRow_249 (by decide) ?_
                      exact ihL222 (la + 1) _ _ _ (by omega) (by omega) (lt_s hno h241) hw (lv_sub hl [0, 1, 2, 3, 4] rfl)
                    · refine lv_iconst (v := nI 1) hx hb dX1_hasRow_244 (by decide) ?_
                      exact ret _ (n, us, cs, wr, so, ea, ro2, od) _ _ _ _ dX1_hasRow_245 hw (⟨cx_j1 (cx_B_t (hdp.mp ⟨la, h226, (hend _ (by omega)).mp h241⟩)), _, rfl⟩)
              exact L222 _ 0 _ _ _ (Nat.lt_succ_self _) (by omega) lt_0 hw (lv_sub hl [0, 1, 2, 3, 4] rfl)
            · refine lv_iload hx hb dX1_hasRow_55 (lv_at hl 0 rfl) ?_
              refine lv_bipush (v := nI 81) hx hb dX1_hasRow_57 (by decide) ?_
              refine cx_idiv hx hb dX1_hasRow_59 (by omega) (by omega) (by omega) ?_
              refine lv_istore (lv' := [(5, .int (nI (i / 81))), (4, .int (nI i)), (3, .int (nI (cx_pa ea o))), (2, .int (cx_bI al)), (1, .int (nI o)), (0, .ref (ad 0))]) hx hb dX1_hasRow_60 hl (by decide) rfl (fun ls hl => ?_)
              refine lv_iconst (v := nI 0) hx hb dX1_hasRow_62 (by decide) ?_
              refine lv_istore (lv' := [(6, .int (nI 0)), (5, .int (nI (i / 81))), (4, .int (nI i)), (3, .int (nI (cx_pa ea o))), (2, .int (cx_bI al)), (1, .int (nI o)), (0, .ref (ad 0))]) hx hb dX1_hasRow_63 hl (by decide) rfl (fun ls hl => ?_)
              have L65 : ∀ (f3 : Nat) (c1 : Nat) (ro3 : Nat → Bool) (H : Heap) (locs : List Loc) (ls : Array Slot), n - c1 < f3 → c1 ≤ n → cx_DI n (cx_ed cs wr so ea (cx_pa ea o) (cx_ms us o al)) ro3 i c1 → cx_H D cx_Cl (cx_w1 cI cZ ad (n, us, cs, wr, so, ea, ro3, od)) A s.heap H locs → lv_has ls 10 [(6, .int (nI c1)), (5, .int (nI (i / 81))), (4, .int (nI i)), (3, .int (nI (cx_pa ea o))), (2, .int (cx_bI al)), (1, .int (nI o)), (0, .ref (ad 0))] → W p l e rm1_hasRow s m args below meth c H locs 0 0 Q (F0 m 65 ls []) := by
                intro f3
                induction f3 with
                | zero => intro c1 ro3 H locs ls hme; exact absurd hme (Nat.not_lt_zero _)
                | succ f3 ihL65 =>
                  intro c1 ro3 H locs ls hme hc hD3 hw hl
                  refine lv_iload hx hb dX1_hasRow_65 (lv_at hl 0 rfl) ?_
                  refine lv_aload_n hx hb dX1_hasRow_67 rfl (lv_at hl 6 rfl) ?_
                  refine cx1_gn S hK hw dX1_hasRow_68 ?_
                  refine cx_icmp_ge (tgt := 213) hx hb dX1_hasRow_71 (by decide) (by omega) (by omega) (fun h71 => ?_) (fun h71 => ?_)
                  · refine lv_iinc (v := (nI (i + 1))) (lv' := [(4, .int (nI (i + 1))), (6, .int (nI c1)), (5, .int (nI (i / 81))), (3, .int (nI (cx_pa ea o))), (2, .int (cx_bI al)), (1, .int (nI o)), (0, .ref (ad 0))]) hx hb dX1_hasRow_213 hl (k := 2) rfl (cx_inc1 _) (by decide) rfl (fun ls hl => ?_)
                    refine lv_goto (tgt := 47) hx hb dX1_hasRow_216 (by decide) ?_
                    exact ihL47 (i + 1) ro3 _ _ _ (by omega) (by omega) (cx_DI_next hg hD3 (by omega) (Or.inl h71)) hw (lv_sub hl [0, 3, 4, 5, 6] rfl)
                  · refine lv_aload_n hx hb dX1_hasRow_74 rfl (lv_at hl 6 rfl) ?_
                    refine cx1_gR S hK hw dX1_hasRow_75 ?_
                    refine lv_iload hx hb dX1_hasRow_78 (lv_at hl 2 rfl) ?_
                    refine cx1_aR S hK hw (by omega) dX1_hasRow_80 ?_
                    refine cx_ifeq_b (tgt := 213) hx hb dX1_hasRow_81 (by decide) (fun h81 => ?_) (fun h81 => ?_)
                    · refine lv_iinc (v := (nI (i + 1))) (lv' := [(4, .int (nI (i + 1))), (6, .int (nI c1)), (5, .int (nI (i / 81))), (3, .int (nI (cx_pa ea o))), (2, .int (cx_bI al)), (1, .int (nI o)), (0, .ref (ad 0))]) hx hb dX1_hasRow_213 hl (k := 2) rfl (cx_inc1 _) (by decide) rfl (fun ls hl => ?_)
                      refine lv_goto (tgt := 47) hx hb dX1_hasRow_216 (by decide) ?_
                      exact ihL47 (i + 1) ro3 _ _ _ (by omega) (by omega) (cx_DI_next hg hD3 (by omega) (Or.inr h81)) hw (lv_sub hl [0, 3, 4, 5, 6] rfl)
                    · have J124 : W p l e rm1_hasRow s m args below meth c H locs 0 0 Q (F0 m 124 ls [.int (cx_bI ((cx_pa ea o).testBit c1 && !(i / 81).testBit c1 && cx_sub (ea c1) (i / 81)))]) := by
                        refine lv_istore (lv' := [(7, .int (cx_bI ((cx_pa ea o).testBit c1 && !(i / 81).testBit c1 && cx_sub (ea c1) (i / 81)))), (6, .int (nI c1)), (5, .int (nI (i / 81))), (4, .int (nI i)), (3, .int (nI (cx_pa ea o))), (2, .int (cx_bI al)), (1, .int (nI o)), (0, .ref (ad 0))]) hx hb dX1_hasRow_124 hl (by decide) rfl (fun ls hl => ?_)
                        have J157 : W p l e rm1_hasRow s m args below meth c H locs 0 0 Q (F0 m 157 ls [.int (cx_bI (cx_ms us o al c1))]) := by
                          refine lv_istore (lv' := [(8, .int (cx_bI (cx_ms us o al c1))), (7, .int (cx_bI ((cx_pa ea o).testBit c1 && !(i / 81).testBit c1 && cx_sub (ea c1) (i / 81)))), (6, .int (nI c1)), (5, .int (nI (i / 81))), (4, .int (nI i)), (3, .int (nI (cx_pa ea o))), (2, .int (cx_bI al)), (1, .int (nI o)), (0, .ref (ad 0))]) hx hb dX1_hasRow_157 hl (by decide) rfl (fun ls hl => ?_)
                          refine lv_iload hx hb dX1_hasRow_159 (lv_at hl 1 rfl) ?_
                          refine cx_ifeq_b (tgt := 180) hx hb dX1_hasRow_161 (by decide) (fun h161 => ?_) (fun h161 => ?_)
                          · refine lv_iconst (v := -1) hx hb dX1_hasRow_180 (by decide) ?_
                            refine cx_top (y := cx_oI none) rfl ?_
                            refine lv_istore (lv' := [(9, .int (cx_oI none)), (8, .int (cx_bI (cx_ms us o al c1))), (7, .int (cx_bI ((cx_pa ea o).testBit c1 && !(i / 81).testBit c1 && cx_sub (ea c1) (i / 81)))), (6, .int (nI c1)), (5, .int (nI (i / 81))), (4, .int (nI i)), (3, .int (nI (cx_pa ea o))), (2, .int (cx_bI al)), (1, .int (nI o)), (0, .ref (ad 0))]) hx hb dX1_hasRow_181 hl (by decide) rfl (fun ls hl => ?_)
                            refine lv_iload hx hb dX1_hasRow_183 (lv_at hl 0 rfl) ?_
                            refine cx_iflt_o (tgt := 207) hx hb dX1_hasRow_185 (by decide) (fun x h9 => by cases h9) (fun h185 => ?_) (fun l9 h185 => ?_)
                            · refine lv_iinc (v := (nI (c1 + 1))) (lv' := [(6, .int (nI (c1 + 1))), (9, .int (cx_oI none)), (8, .int (cx_bI (cx_ms us o al c1))), (7, .int (cx_bI ((cx_pa ea o).testBit c1 && !(i / 81).testBit c1 && cx_sub (ea c1) (i / 81)))), (5, .int (nI (i / 81))), (4, .int (nI i)), (3, .int (nI (cx_pa ea o))), (2, .int (cx_bI al)), (1, .int (nI o)), (0, .ref (ad 0))]) hx hb dX1_hasRow_207 hl (k := 3) rfl (cx_inc1 _) (by decide) rfl (fun ls hl => ?_)
                              refine lv_goto (tgt := 65) hx hb dX1_hasRow_210 (by decide) ?_
                              exact ihL65 (c1 + 1) ro3 _ _ _ (by omega) (by omega) (cx_DI_none hD3 (cx_ed_0 h161)) hw (lv_sub hl [0, 4, 5, 6, 7, 8, 9] rfl)
                            · cases h185
                          · refine lv_aload_n hx hb dX1_hasRow_164 rfl (lv_at hl 8 rfl) ?_
                            refine lv_iload hx hb dX1_hasRow_165 (lv_at hl 4 rfl) ?_
                            refine lv_bipush (v := nI 81) hx hb dX1_hasRow_167 (by decide) ?_
                            refine cx_irem hx hb dX1_hasRow_169 (by omega) (by omega) (by omega) ?_
                            refine lv_iload hx hb dX1_hasRow_170 (lv_at hl 2 rfl) ?_
                            refine lv_iload hx hb dX1_hasRow_172 (lv_at hl 0 rfl) ?_
                            refine cx_cali S (k1_after l D cI cZ ad hC hS (by omega) (by omega)) (cwV 3 hts (lw_V q196 q198 qs14 q21 q199) rfl rfl rfl (by decide +kernel) ⟨Nat.le_of_ble_eq_true rfl, Nat.le_of_ble_eq_true rfl⟩) hK hw hA rfl rfl rfl rfl hl.1 rfl (Nat.le_of_ble_eq_true rfl) dX1_hasRow_174 ⟨Nat.zero_le _, Nat.zero_le _⟩ (fun r174 σ1 H locs hp hw => ?_)
                            obtain ⟨rfl, rfl⟩ := hp
                            refine lv_goto (tgt := 181) hx hb dX1_hasRow_177 (by decide) ?_
                            refine lv_istore (lv' := [(9, .int (cx_oI (cx_af cs wr so (i % 81) c1 (cx_ms us o al c1)))), (8, .int (cx_bI (cx_ms us o al c1))), (7, .int (cx_bI ((cx_pa ea o).testBit c1 && !(i / 81).testBit c1 && cx_sub (ea c1) (i / 81)))), (6, .int (nI c1)), (5, .int (nI (i / 81))), (4, .int (nI i)), (3, .int (nI (cx_pa ea o))), (2, .int (cx_bI al)), (1, .int (nI o)), (0, .ref (ad 0))]) hx hb dX1_hasRow_181 hl (by decide) rfl (fun ls hl => ?_)
                            refine lv_iload hx hb dX1_hasRow_183 (lv_at hl 0 rfl) ?_
                            refine cx_iflt_o (tgt := 207) hx hb dX1_hasRow_185 (by decide) (fun x h9 => by have := cx_af_lt (by omega) (by omega) h9; omega) (fun h185 => ?_) (fun l9 h185 => ?_)
                            · refine lv_iinc (v := (nI (c1 + 1))) (lv' := [(6, .int (nI (c1 + 1))), (9, .int (cx_oI (cx_af cs wr so (i % 81) c1 (cx_ms us o al c1)))), (8, .int (cx_bI (cx_ms us o al c1))), (7, .int (cx_bI ((cx_pa ea o).testBit c1 && !(i / 81).testBit c1 && cx_sub (ea c1) (i / 81)))), (5, .int (nI (i / 81))), (4, .int (nI i)), (3, .int (nI (cx_pa ea o))), (2, .int (cx_bI al)), (1, .int (nI o)), (0, .ref (ad 0))]) hx hb dX1_hasRow_207 hl (k := 3) rfl (cx_inc1 _) (by decide) rfl (fun ls hl => ?_)
                              refine lv_goto (tgt := 65) hx hb dX1_hasRow_210 (by decide) ?_
                              exact ihL65 (c1 + 1) ro3 _ _ _ (by omega) (by omega) (cx_DI_none hD3 (cx_ed_1 h161 h185)) hw (lv_sub hl [0, 4, 5, 6, 7, 8, 9] rfl)
                            · have g9 := cx_af_lt (by omega) (by omega) h185
                              have o9 : i / 81 ||| 2 ^ c1 < 128 := cx_or7 (by omega) (by omega)
                              have hl : lv_has ls 10 [(9, .int (nI l9)), (8, .int (cx_bI (cx_ms us o al c1))), (7, .int (cx_bI ((cx_pa ea o).testBit c1 && !(i / 81).testBit c1 && cx_sub (ea c1) (i / 81)))), (6, .int (nI c1)), (5, .int (nI (i / 81))), (4, .int (nI i)), (3, .int (nI (cx_pa ea o))), (2, .int (cx_bI al)), (1, .int (nI o)), (0, .ref (ad 0))] := by rw [h185] at hl; exact hl
                              refine lv_aload_n hx hb dX1_hasRow_188 rfl (lv_at hl 9 rfl) ?_
                              refine cx1_gR S hK hw dX1_hasRow_189 ?_
                              refine lv_bipush (v := nI 81) hx hb dX1_hasRow_192 (by decide) ?_
                              refine lv_iload hx hb dX1_hasRow_194 (lv_at hl 4 rfl) ?_
                              refine lv_iconst (v := nI 1) hx hb dX1_hasRow_196 (by decide) ?_
                              refine lv_iload hx hb dX1_hasRow_197 (lv_at hl 3 rfl) ?_
                              refine cx_ishl hx hb dX1_hasRow_199 (by omega) ?_
                              refine cx_ior hx hb dX1_hasRow_200 ?_
                              refine cx_imul hx hb dX1_hasRow_201 ?_
                              refine lv_iload hx hb dX1_hasRow_202 (lv_at hl 0 rfl) ?_
                              refine cx_iadd hx hb dX1_hasRow_204 ?_
                              refine lv_iconst (v := nI 1) hx hb dX1_hasRow_205 (by decide) ?_
                              refine cx_top (y := cx_bI true) (by decide) ?_
                              refine cx1_sR S hK hw (by omega) dX1_hasRow_206 (fun H locs hw => ?_)
                              refine lv_iinc (v := (nI (c1 + 1))) (lv' := [(6, .int (nI (c1 + 1))), (9, .int (nI l9)), (8, .int (cx_bI (cx_ms us o al c1))), (7, .int (cx_bI ((cx_pa ea o).testBit c1 && !(i / 81).testBit c1 && cx_sub (ea c1) (i / 81)))), (5, .int (nI (i / 81))), (4, .int (nI i)), (3, .int (nI (cx_pa ea o))), (2, .int (cx_bI al)), (1, .int (nI o)), (0, .ref (ad 0))]) hx hb dX1_hasRow_207 hl (k := 3) rfl (cx_inc1 _) (by decide) rfl (fun ls hl => ?_)
                              refine lv_goto (tgt := 65) hx hb dX1_hasRow_210 (by decide) ?_
                              exact ihL65 (c1 + 1) (va_up ro3 ((81 * ((i / 81) ||| (2 ^ c1))) + l9) true) _ _ _ (by omega) (by omega) (cx_DI_some hg hD3 (by omega) h81 h71 (cx_ed_2 h161 h185)) hw (lv_sub hl [0, 4, 5, 6, 7, 8, 9] rfl)
                        refine lv_iload hx hb dX1_hasRow_126 (lv_at hl 1 rfl) ?_
                        refine lv_iload_n hx hb dX1_hasRow_128 rfl (lv_at hl 6 rfl) ?_
                        refine cx_icmp_eq (tgt := 152) hx hb dX1_hasRow_129 (by decide) (by omega) (by omega) (fun h129 => ?_) (fun h129 => ?_)
                        · refine lv_iconst (v := nI 1) hx hb dX1_hasRow_152 (by decide) ?_
                          refine lv_goto (tgt := 157) hx hb dX1_hasRow_153 (by decide) ?_
                          exact cx_top (cx_j1 (by simp [h129, cx_ms])) J157
                        · refine lv_iload_n hx hb dX1_hasRow_132 rfl (lv_at hl 5 rfl) ?_
                          refine cx_ifeq_b (tgt := 156) hx hb dX1_hasRow_133 (by decide) (fun h133 => ?_) (fun h133 => ?_)
                          · refine lv_iconst (v := nI 0) hx hb dX1_hasRow_156 (by decide) ?_
                            exact cx_top (cx_j0 (by simp [h129, h133, cx_ms])) J157
                          · refine lv_aload_n hx hb dX1_hasRow_136 rfl (lv_at hl 7 rfl) ?_
                            refine cx1_gU S hK hw dX1_hasRow_137 ?_
                            refine lv_iload hx hb dX1_hasRow_140 (lv_at hl 1 rfl) ?_
                            refine cx1_aU S hK hw (by omega) dX1_hasRow_142 ?_
                            have b142 := hU c1
                            refine lv_aload_n hx hb dX1_hasRow_143 rfl (lv_at hl 7 rfl) ?_
                            refine cx1_gU S hK hw dX1_hasRow_144 ?_
                            refine lv_iload_n hx hb dX1_hasRow_147 rfl (lv_at hl 6 rfl) ?_
                            refine cx1_aU S hK hw (by omega) dX1_hasRow_148 ?_
                            have b148 := hU o
                            refine cx_icmp_ne (tgt := 156) hx hb dX1_hasRow_149 (by decide) (by omega) (by omega) (fun h149 => ?_) (fun h149 => ?_)
                            · refine lv_iconst (v := nI 0) hx hb dX1_hasRow_156 (by decide) ?_
                              exact cx_top (cx_j0 (by simp [h129, h133, h149, cx_ms])) J157
                            · refine lv_iconst (v := nI 1) hx hb dX1_hasRow_152 (by decide) ?_
                              refine lv_goto (tgt := 157) hx hb dX1_hasRow_153 (by decide) ?_
                              exact cx_top (cx_j1 (by simp [h129, h133, h149, cx_ms])) J157
                      refine lv_iload_n hx hb dX1_hasRow_84 rfl (lv_at hl 3 rfl) ?_
                      refine lv_iload hx hb dX1_hasRow_85 (lv_at hl 0 rfl) ?_
                      refine cx_ishr hx hb dX1_hasRow_87 (by omega) (by omega) ?_
                      refine lv_iconst (v := nI 1) hx hb dX1_hasRow_88 (by decide) ?_
                      refine cx_iand1 hx hb dX1_hasRow_89 ?_
                      refine lv_iconst (v := nI 1) hx hb dX1_hasRow_90 (by decide) ?_
                      refine cx_icmp_ne_b1 (tgt := 123) hx hb dX1_hasRow_91 (by decide) (fun h91 => ?_) (fun h91 => ?_)
                      · refine lv_iconst (v := nI 0) hx hb dX1_hasRow_123 (by decide) ?_
                        exact cx_top (cx_j0 (by simp [h91])) J124
                      · refine lv_iload hx hb dX1_hasRow_94 (lv_at hl 1 rfl) ?_
                        refine lv_iload hx hb dX1_hasRow_96 (lv_at hl 0 rfl) ?_
                        refine cx_ishr hx hb dX1_hasRow_98 (by omega) (by omega) ?_
                        refine lv_iconst (v := nI 1) hx hb dX1_hasRow_99 (by decide) ?_
                        refine cx_iand1 hx hb dX1_hasRow_100 ?_
                        refine cx_ifne_b (tgt := 123) hx hb dX1_hasRow_101 (by decide) (fun h101 => ?_) (fun h101 => ?_)
                        · refine lv_iconst (v := nI 0) hx hb dX1_hasRow_123 (by decide) ?_
                          exact cx_top (cx_j0 (by simp [h91, h101])) J124
                        · refine lv_aload_n hx hb dX1_hasRow_104 rfl (lv_at hl 6 rfl) ?_
                          refine cx1_gE S hK hw dX1_hasRow_105 ?_
                          refine lv_iload hx hb dX1_hasRow_108 (lv_at hl 0 rfl) ?_
                          refine cx1_aE S hK hw (by omega) dX1_hasRow_110 ?_
                          have b110 := hE c1
                          refine lv_iload hx hb dX1_hasRow_111 (lv_at hl 1 rfl) ?_
                          refine lv_iconst (v := -1) hx hb dX1_hasRow_113 (by decide) ?_
                          refine lv_ixor hx hb dX1_hasRow_114 ?_
                          refine lv_iand hx hb dX1_hasRow_115 ?_
                          refine cx_ifne_an (tgt := 123) hx hb dX1_hasRow_116 (by decide) (by omega) (fun h116 => ?_) (fun h116 => ?_)
                          · refine lv_iconst (v := nI 0) hx hb dX1_hasRow_123 (by decide) ?_
                            exact cx_top (cx_j0 (by simp [h91, h101, h116])) J124
                          · refine lv_iconst (v := nI 1) hx hb dX1_hasRow_119 (by decide) ?_
                            refine lv_goto (tgt := 124) hx hb dX1_hasRow_120 (by decide) ?_
                            exact cx_top (cx_j1 (by simp [h91, h101, h116])) J124
              exact L65 _ 0 ro2 _ _ _ (Nat.lt_succ_self _) (by omega) hD hw (lv_sub hl [0, 1, 2, 3, 4, 5, 6] rfl)
        exact L47 _ 0 (va_up ro1 80 true) _ _ _ (Nat.lt_succ_self _) (by omega) (cx_DI_0 (cx_dp0 hz9)) hw (lv_sub hl [0, 1, 2, 3, 4] rfl)
      · refine lv_aload_n hx hb dX1_hasRow_22 rfl (lv_at hl 4 rfl) ?_
        refine cx1_gR S hK hw dX1_hasRow_23 ?_
        refine lv_iload hx hb dX1_hasRow_26 (lv_at hl 0 rfl) ?_
        refine lv_iconst (v := nI 0) hx hb dX1_hasRow_28 (by decide) ?_
        refine cx_top (y := cx_bI false) (by decide) ?_
        refine cx1_sR S hK hw (by omega) dX1_hasRow_29 (fun H locs hw => ?_)
        refine lv_iinc (v := (nI (i + 1))) (lv' := [(4, .int (nI (i + 1))), (3, .int (nI (cx_pa ea o))), (2, .int (cx_bI al)), (1, .int (nI o)), (0, .ref (ad 0))]) hx hb dX1_hasRow_30 hl (k := 0) rfl (cx_inc1 _) (by decide) rfl (fun ls hl => ?_)
        refine lv_goto (tgt := 14) hx hb dX1_hasRow_33 (by decide) ?_
        exact ihL14 (i + 1) (va_up ro1 i false) _ _ _ (by omega) (by omega) (cx_zc hz) hw (lv_sub hl [0, 1, 2, 3, 4] rfl)
  exact L14 _ 0 ro _ _ _ (Nat.lt_succ_self _) (by omega) lt_0 hw (lv_sub hl [0, 1, 4, 3, 2] rfl)
abbrev rm1_weak : Room := { frames := 2, cells := 0, slots := 0, locals := 53 }
set_option maxHeartbeats 4000000 in
set_option maxRecDepth 100000 in
/-- weak(o) -/
theorem k1_weak (l : Launch) (D : va_G) (cI cZ : ClassId) (ad : Nat → Nat) {n : Nat} {us cs : Nat → Nat} {wr : Nat → Bool} {so ea : Nat → Nat} {ro : Nat → Bool} {od : Nat → Nat} (hV : cx_Va n us cs wr so ea) (hn : n ≤ 7) (o : Int32) : cx_Ki l yX1_weak cX1_weak 2 (some .int) rm1_weak D cI cZ (cx_w1 cI cZ ad) [.ref (ad 0), .int o] (n, us, cs, wr, so, ea, ro, od) (fun v σ' => cx_R1 n (fun k => cx_bI (cx_B (cx_WK cs wr so ea k))) o v ∧ ∃ ro', σ' = (n, us, cs, wr, so, ea, ro', od)) := by
  refine cx_ent (by decide) rfl (fun v _ _ => vp_nar_int v) (Nat.le_of_ble_eq_true rfl) ?_
  intro p e s m args below meth c ls Q A S hK hw hA hl ret
  have hx := S.1
  have hb := S.2.1
  have hts := S.2.2.2.2
  have hl : lv_has ls 2 [(0, .ref (ad 0)), (1, .int o)] := hl
  have S : CallFix p m c cX1_weak 2 s args lw_all RX1 := S
  refine lv_aload_n hx hb dX1_weak_0 rfl (lv_at hl 0 rfl) ?_
  refine lv_iload_n hx hb dX1_weak_1 rfl (lv_at hl 1 rfl) ?_
  refine cx_cali S (k1_missing l D cI cZ ad (by omega) o) (cwV 1 hts (lw_V q184 q186 qs12 q21 q187) rfl rfl rfl (by decide +kernel) ⟨Nat.le_of_ble_eq_true rfl, Nat.le_of_ble_eq_true rfl⟩) hK hw hA rfl rfl rfl rfl hl.1 rfl (Nat.le_of_ble_eq_true rfl) dX1_weak_2 ⟨Nat.zero_le _, Nat.zero_le _⟩ (fun r2 σ1 H locs hp hw => ?_)
  obtain ⟨rfl, rfl⟩ := hp
  refine cx_ifeq_b (tgt := 10) hx hb dX1_weak_5 (by decide) (fun h5 => ?_) (fun h5 => ?_)
  · obtain ⟨k, hk, rfl⟩ := Classical.not_not.mp (cx_B_n h5)
    refine lv_aload_n hx hb dX1_weak_10 rfl (lv_at hl 0 rfl) ?_
    refine cx1_gW S hK hw dX1_weak_11 ?_
    refine lv_iload_n hx hb dX1_weak_14 rfl (lv_at hl 1 rfl) ?_
    refine cx1_aW S hK hw (by omega) dX1_weak_15 ?_
    refine cx_ifne_b (tgt := 28) hx hb dX1_weak_16 (by decide) (fun h16 => ?_) (fun h16 => ?_)
    · refine lv_iconst (v := nI 1) hx hb dX1_weak_28 (by decide) ?_
      refine lv_goto (tgt := 33) hx hb dX1_weak_29 (by decide) ?_
      exact ret _ (n, us, cs, wr, so, ea, ro, od) _ _ _ _ dX1_weak_33 hw (⟨Or.inl ⟨k, hk, rfl, cx_j1 (cx_B_t (Or.inl h16))⟩, _, rfl⟩)
    · refine lv_aload_n hx hb dX1_weak_19 rfl (lv_at hl 0 rfl) ?_
      refine lv_iload_n hx hb dX1_weak_20 rfl (lv_at hl 1 rfl) ?_
      refine lv_iconst (v := nI 0) hx hb dX1_weak_21 (by decide) ?_
      refine cx_top (y := cx_bI false) (by decide) ?_
      refine cx_cali S (k1_hasRow l D cI cZ ad hV hn hk (al := false)) (cwV 2 hts (lw_V q192 q194 qs13 q21 q195) rfl rfl rfl (by decide +kernel) ⟨Nat.le_of_ble_eq_true rfl, Nat.le_of_ble_eq_true rfl⟩) hK hw hA rfl rfl rfl rfl hl.1 rfl (Nat.le_of_ble_eq_true rfl) dX1_weak_22 ⟨Nat.zero_le _, Nat.zero_le _⟩ (fun r22 σ1 H locs hp hw => ?_)
      rw [cx_ms_f] at hp
      obtain ⟨rfl, ro1, rfl⟩ := hp
      refine cx_ifeq_b (tgt := 32) hx hb dX1_weak_25 (by decide) (fun h25 => ?_) (fun h25 => ?_)
      · refine lv_iconst (v := nI 0) hx hb dX1_weak_32 (by decide) ?_
        exact ret _ (n, us, cs, wr, so, ea, ro1, od) _ _ _ _ dX1_weak_33 hw (⟨Or.inl ⟨k, hk, rfl, cx_j0 (cx_B_f (fun z => z.elim (fun q => by rw [h16] at q; cases q) (cx_B_n h25)))⟩, _, rfl⟩)
      · refine lv_iconst (v := nI 1) hx hb dX1_weak_28 (by decide) ?_
        refine lv_goto (tgt := 33) hx hb dX1_weak_29 (by decide) ?_
        exact ret _ (n, us, cs, wr, so, ea, ro1, od) _ _ _ _ dX1_weak_33 hw (⟨Or.inl ⟨k, hk, rfl, cx_j1 (cx_B_t (Or.inr (cx_B_iff.mp h25)))⟩, _, rfl⟩)
  · refine lv_iconst (v := -1) hx hb dX1_weak_8 (by decide) ?_
    exact ret _ (n, us, cs, wr, so, ea, ro, od) _ _ _ _ dX1_weak_9 hw (⟨Or.inr ⟨cx_B_iff.mp h5, rfl⟩, _, rfl⟩)
abbrev rm1_strong : Room := { frames := 2, cells := 0, slots := 0, locals := 53 }
set_option maxHeartbeats 4000000 in
set_option maxRecDepth 100000 in
/-- strong(o) -/
theorem k1_strong (l : Launch) (D : va_G) (cI cZ : ClassId) (ad : Nat → Nat) {n : Nat} {us cs : Nat → Nat} {wr : Nat → Bool} {so ea : Nat → Nat} {ro : Nat → Bool} {od : Nat → Nat} (hV : cx_Va n us cs wr so ea) (hn : n ≤ 7) (o : Int32) : cx_Ki l yX1_strong cX1_strong 2 (some .int) rm1_strong D cI cZ (cx_w1 cI cZ ad) [.ref (ad 0), .int o] (n, us, cs, wr, so, ea, ro, od) (fun v σ' => cx_R1 n (fun k => cx_bI (cx_B (cx_SK us cs wr so ea k))) o v ∧ ∃ ro', σ' = (n, us, cs, wr, so, ea, ro', od)) := by
  refine cx_ent (by decide) rfl (fun v _ _ => vp_nar_int v) (Nat.le_of_ble_eq_true rfl) ?_
  intro p e s m args below meth c ls Q A S hK hw hA hl ret
  have hx := S.1
  have hb := S.2.1
  have hts := S.2.2.2.2
  have hl : lv_has ls 2 [(0, .ref (ad 0)), (1, .int o)] := hl
  have S : CallFix p m c cX1_strong 2 s args lw_all RX1 := S
  refine lv_aload_n hx hb dX1_strong_0 rfl (lv_at hl 0 rfl) ?_
  refine lv_iload_n hx hb dX1_strong_1 rfl (lv_at hl 1 rfl) ?_
  refine cx_cali S (k1_missing l D cI cZ ad (by omega) o) (cwV 1 hts (lw_V q184 q186 qs12 q21 q187) rfl rfl rfl (by decide +kernel) ⟨Nat.le_of_ble_eq_true rfl, Nat.le_of_ble_eq_true rfl⟩) hK hw hA rfl rfl rfl rfl hl.1 rfl (Nat.le_of_ble_eq_true rfl) dX1_strong_2 ⟨Nat.zero_le _, Nat.zero_le _⟩ (fun r2 σ1 H locs hp hw => ?_)
  obtain ⟨rfl, rfl⟩ := hp
  refine cx_ifeq_b (tgt := 10) hx hb dX1_strong_5 (by decide) (fun h5 => ?_) (fun h5 => ?_)
  · obtain ⟨k, hk, rfl⟩ := Classical.not_not.mp (cx_B_n h5)
    refine lv_aload_n hx hb dX1_strong_10 rfl (lv_at hl 0 rfl) ?_
    refine lv_iload_n hx hb dX1_strong_11 rfl (lv_at hl 1 rfl) ?_
    refine lv_iconst (v := nI 1) hx hb dX1_strong_12 (by decide) ?_
    refine cx_top (y := cx_bI true) (by decide) ?_
    refine cx_cali S (k1_hasRow l D cI cZ ad hV hn hk (al := true)) (cwV 2 hts (lw_V q192 q194 qs13 q21 q195) rfl rfl rfl (by decide +kernel) ⟨Nat.le_of_ble_eq_true rfl, Nat.le_of_ble_eq_true rfl⟩) hK hw hA rfl rfl rfl rfl hl.1 rfl (Nat.le_of_ble_eq_true rfl) dX1_strong_13 ⟨Nat.zero_le _, Nat.zero_le _⟩ (fun r13 σ1 H locs hp hw => ?_)
    rw [cx_ms_t] at hp
    obtain ⟨hr9, ro1, rfl⟩ := hp
    have hr9 : r13 = cx_bI (cx_B (cx_SK us cs wr so ea k)) := hr9
    subst hr9
    refine cx_ifeq_b (tgt := 23) hx hb dX1_strong_16 (by decide) (fun h16 => ?_) (fun h16 => ?_)
    · refine lv_iconst (v := nI 0) hx hb dX1_strong_23 (by decide) ?_
      exact ret _ (n, us, cs, wr, so, ea, ro1, od) _ _ _ _ dX1_strong_24 hw (⟨Or.inl ⟨k, hk, rfl, cx_j0 h16⟩, _, rfl⟩)
    · refine lv_iconst (v := nI 1) hx hb dX1_strong_19 (by decide) ?_
      refine lv_goto (tgt := 24) hx hb dX1_strong_20 (by decide) ?_
      exact ret _ (n, us, cs, wr, so, ea, ro1, od) _ _ _ _ dX1_strong_24 hw (⟨Or.inl ⟨k, hk, rfl, cx_j1 h16⟩, _, rfl⟩)
  · refine lv_iconst (v := -1) hx hb dX1_strong_8 (by decide) ?_
    exact ret _ (n, us, cs, wr, so, ea, ro, od) _ _ _ _ dX1_strong_9 hw (⟨Or.inr ⟨cx_B_iff.mp h5, rfl⟩, _, rfl⟩)
end
section
/-! CausalCheckModel: isRow, fits, arrange (printed by gen/x1c.py) -/
abbrev rm1_isRow : Room := { frames := 0, cells := 0, slots := 0, locals := 0 }
set_option maxHeartbeats 4000000 in
set_option maxRecDepth 100000 in
/-- isRow(k) -/
theorem k1_isRow (l : Launch) (D : va_G) (cI cZ : ClassId) (ad : Nat → Nat) {n : Nat} {us cs : Nat → Nat} {wr : Nat → Bool} {so ea : Nat → Nat} {ro : Nat → Bool} {od : Nat → Nat} (hE : ∀ a, ea a < 256) {k : Nat} (hk : k ≤ 8) (ho : ∀ x, x < k → od x < 8) : cx_Ki l yX1_isRow cX1_isRow 4 (some .boolean) rm1_isRow D cI cZ (cx_w1 cI cZ ad) [.ref (ad 0), .int (nI k)] (n, us, cs, wr, so, ea, ro, od) (fun v σ' => v = cx_bI (cx_B (cx_iR ea od k)) ∧ σ' = (n, us, cs, wr, so, ea, ro, od)) := by
  refine cx_ent (by decide) rfl (fun v σ' h => by rw [h.1]; exact cx_bI_nar _) (Nat.le_of_ble_eq_true rfl) ?_
  intro p e s m args below meth c ls Q A S hK hw hA hl ret
  have hx := S.1
  have hb := S.2.1
  have hts := S.2.2.2.2
  have hl : lv_has ls 4 [(0, .ref (ad 0)), (1, .int (nI k))] := hl
  have S : CallFix p m c cX1_isRow 4 s args lw_all RX1 := S
  refine lv_iconst (v := nI 0) hx hb dX1_isRow_0 (by decide) ?_
  refine lv_istore_n (lv' := [(2, .int (nI 0)), (0, .ref (ad 0)), (1, .int (nI k))]) hx hb dX1_isRow_1 rfl hl (by decide) rfl (fun ls hl => ?_)
  have L2 : ∀ (f1 : Nat) (i : Nat) (H : Heap) (locs : List Loc) (ls : Array Slot), k - i < f1 → i ≤ k → (∀ x, x < i → ∀ j, j < x → od x ≠ od j ∧ ¬ (ea (od j)).testBit (od x) = true) → cx_H D cx_Cl (cx_w1 cI cZ ad (n, us, cs, wr, so, ea, ro, od)) A s.heap H locs → lv_has ls 4 [(2, .int (nI i)), (1, .int (nI k)), (0, .ref (ad 0))] → W p l e rm1_isRow s m args below meth c H locs 0 0 Q (F0 m 2 ls []) := by
    intro f1
    induction f1 with
    | zero => intro i H locs ls hme; exact absurd hme (Nat.not_lt_zero _)
    | succ f1 ihL2 =>
      intro i H locs ls hme hik hi1 hw hl
      refine lv_iload_n hx hb dX1_isRow_2 rfl (lv_at hl 0 rfl) ?_
      refine lv_iload_n hx hb dX1_isRow_3 rfl (lv_at hl 1 rfl) ?_
      refine cx_icmp_ge (tgt := 67) hx hb dX1_isRow_4 (by decide) (by omega) (by omega) (fun h4 => ?_) (fun h4 => ?_)
      · refine lv_iconst (v := nI 1) hx hb dX1_isRow_67 (by decide) ?_
        exact ret _ (n, us, cs, wr, so, ea, ro, od) _ _ _ _ dX1_isRow_68 hw (⟨cx_j1 (cx_B_t (fun x h9 => hi1 x (by omega))), rfl⟩)
      · refine lv_iconst (v := nI 0) hx hb dX1_isRow_7 (by decide) ?_
        refine lv_istore_n (lv' := [(3, .int (nI 0)), (2, .int (nI i)), (1, .int (nI k)), (0, .ref (ad 0))]) hx hb dX1_isRow_8 rfl hl (by decide) rfl (fun ls hl => ?_)
        have L9 : ∀ (f2 : Nat) (j : Nat) (H : Heap) (locs : List Loc) (ls : Array Slot), i - j < f2 → j ≤ i → (∀ x, x < j → od i ≠ od x ∧ ¬ (ea (od x)).testBit (od i) = true) → cx_H D cx_Cl (cx_w1 cI cZ ad (n, us, cs, wr, so, ea, ro, od)) A s.heap H locs → lv_has ls 4 [(3, .int (nI j)), (2, .int (nI i)), (1, .int (nI k)), (0, .ref (ad 0))] → W p l e rm1_isRow s m args below meth c H locs 0 0 Q (F0 m 9 ls []) := by
          intro f2
          induction f2 with
          | zero => intro j H locs ls hme; exact absurd hme (Nat.not_lt_zero _)
          | succ f2 ihL9 =>
            intro j H locs ls hme hji hj1 hw hl
            refine lv_iload_n hx hb dX1_isRow_9 rfl (lv_at hl 0 rfl) ?_
            refine lv_iload_n hx hb dX1_isRow_10 rfl (lv_at hl 1 rfl) ?_
            refine cx_icmp_ge (tgt := 61) hx hb dX1_isRow_11 (by decide) (by omega) (by omega) (fun h11 => ?_) (fun h11 => ?_)
            · refine lv_iinc (v := (nI (i + 1))) (lv' := [(2, .int (nI (i + 1))), (3, .int (nI j)), (1, .int (nI k)), (0, .ref (ad 0))]) hx hb dX1_isRow_61 hl (k := 1) rfl (cx_inc1 _) (by decide) rfl (fun ls hl => ?_)
              refine lv_goto (tgt := 2) hx hb dX1_isRow_64 (by decide) ?_
              exact ihL2 (i + 1) _ _ _ (by omega) (by omega) (lt_s hi1 (fun x h9 => hj1 x (by omega))) hw (lv_sub hl [0, 2, 3] rfl)
            · refine lv_aload_n hx hb dX1_isRow_14 rfl (lv_at hl 3 rfl) ?_
              refine cx1_gO S hK hw dX1_isRow_15 ?_
              refine lv_iload_n hx hb dX1_isRow_18 rfl (lv_at hl 1 rfl) ?_
              refine cx1_aO S hK hw (by omega) dX1_isRow_19 ?_
              have b19 := ho i (by omega)
              refine lv_aload_n hx hb dX1_isRow_20 rfl (lv_at hl 3 rfl) ?_
              refine cx1_gO S hK hw dX1_isRow_21 ?_
              refine lv_iload_n hx hb dX1_isRow_24 rfl (lv_at hl 0 rfl) ?_
              refine cx1_aO S hK hw (by omega) dX1_isRow_25 ?_
              have b25 := ho j (by omega)
              refine cx_icmp_eq (tgt := 53) hx hb dX1_isRow_26 (by decide) (by omega) (by omega) (fun h26 => ?_) (fun h26 => ?_)
              · refine lv_iconst (v := nI 0) hx hb dX1_isRow_53 (by decide) ?_
                exact ret _ (n, us, cs, wr, so, ea, ro, od) _ _ _ _ dX1_isRow_54 hw (⟨cx_j0 (cx_B_f (fun z => (z i (by omega) j (by omega)).1 h26)), rfl⟩)
              · refine lv_aload_n hx hb dX1_isRow_29 rfl (lv_at hl 3 rfl) ?_
                refine cx1_gE S hK hw dX1_isRow_30 ?_
                refine lv_aload_n hx hb dX1_isRow_33 rfl (lv_at hl 3 rfl) ?_
                refine cx1_gO S hK hw dX1_isRow_34 ?_
                refine lv_iload_n hx hb dX1_isRow_37 rfl (lv_at hl 0 rfl) ?_
                refine cx1_aO S hK hw (by omega) dX1_isRow_38 ?_
                have b38 := ho j (by omega)
                refine cx1_aE S hK hw (by omega) dX1_isRow_39 ?_
                have b39 := hE (od j)
                refine lv_aload_n hx hb dX1_isRow_40 rfl (lv_at hl 3 rfl) ?_
                refine cx1_gO S hK hw dX1_isRow_41 ?_
                refine lv_iload_n hx hb dX1_isRow_44 rfl (lv_at hl 1 rfl) ?_
                refine cx1_aO S hK hw (by omega) dX1_isRow_45 ?_
                have b45 := ho i (by omega)
                refine cx_ishr hx hb dX1_isRow_46 (by omega) (by omega) ?_
                refine lv_iconst (v := nI 1) hx hb dX1_isRow_47 (by decide) ?_
                refine cx_iand1 hx hb dX1_isRow_48 ?_
                refine lv_iconst (v := nI 1) hx hb dX1_isRow_49 (by decide) ?_
                refine cx_icmp_ne_b1 (tgt := 55) hx hb dX1_isRow_50 (by decide) (fun h50 => ?_) (fun h50 => ?_)
                · refine lv_iinc (v := (nI (j + 1))) (lv' := [(3, .int (nI (j + 1))), (2, .int (nI i)), (1, .int (nI k)), (0, .ref (ad 0))]) hx hb dX1_isRow_55 hl (k := 0) rfl (cx_inc1 _) (by decide) rfl (fun ls hl => ?_)
                  refine lv_goto (tgt := 9) hx hb dX1_isRow_58 (by decide) ?_
                  exact ihL9 (j + 1) _ _ _ (by omega) (by omega) (lt_s hj1 ⟨h26, cx_nt.mpr h50⟩) hw (lv_sub hl [0, 1, 2, 3] rfl)
                · refine lv_iconst (v := nI 0) hx hb dX1_isRow_53 (by decide) ?_
                  exact ret _ (n, us, cs, wr, so, ea, ro, od) _ _ _ _ dX1_isRow_54 hw (⟨cx_j0 (cx_B_f (fun z => (z i (by omega) j (by omega)).2 h50)), rfl⟩)
        exact L9 _ 0 _ _ _ (Nat.lt_succ_self _) (by omega) lt_0 hw (lv_sub hl [0, 1, 2, 3] rfl)
  exact L2 _ 0 _ _ _ (Nat.lt_succ_self _) (by omega) lt_0 hw (lv_sub hl [0, 2, 1] rfl)
abbrev rm1_fits : Room := { frames := 0, cells := 0, slots := 0, locals := 0 }
set_option maxHeartbeats 4000000 in
set_option maxRecDepth 100000 in
/-- fits(k, q) -/
theorem k1_fits (l : Launch) (D : va_G) (cI cZ : ClassId) (ad : Nat → Nat) {n : Nat} {us cs : Nat → Nat} {wr : Nat → Bool} {so ea : Nat → Nat} {ro : Nat → Bool} {od : Nat → Nat} (hC : ∀ a, cs a < 2) (hS : ∀ a, so a ≤ 8) (hE : ∀ a, ea a < 256) {k q : Nat} (hk : k ≤ 8) (hq : q ≤ 8) (ho : ∀ x, x < k → od x < 8) : cx_Ki l yX1_fits cX1_fits 7 (some .boolean) rm1_fits D cI cZ (cx_w1 cI cZ ad) [.ref (ad 0), .int (nI k), .int (nI q)] (n, us, cs, wr, so, ea, ro, od) (fun v σ' => v = cx_bI (cx_B (cx_fi q cs wr so ea od k)) ∧ σ' = (n, us, cs, wr, so, ea, ro, od)) := by
  refine cx_ent (by decide) rfl (fun v σ' h => by rw [h.1]; exact cx_bI_nar _) (Nat.le_of_ble_eq_true rfl) ?_
  intro p e s m args below meth c ls Q A S hK hw hA hl ret
  have hx := S.1
  have hb := S.2.1
  have hts := S.2.2.2.2
  have hl : lv_has ls 7 [(0, .ref (ad 0)), (1, .int (nI k)), (2, .int (nI q))] := hl
  have S : CallFix p m c cX1_fits 7 s args lw_all RX1 := S
  refine lv_iconst (v := nI 0) hx hb dX1_fits_0 (by decide) ?_
  refine lv_istore_n (lv' := [(3, .int (nI 0)), (0, .ref (ad 0)), (1, .int (nI k)), (2, .int (nI q))]) hx hb dX1_fits_1 rfl hl (by decide) rfl (fun ls hl => ?_)
  have L2 : ∀ (f1 : Nat) (r : Nat) (H : Heap) (locs : List Loc) (ls : Array Slot), q - r < f1 → r ≤ q → (∀ x, x < r → ¬ (wr x = false ∧ cx_la cs ea od x k ≠ so x)) → cx_H D cx_Cl (cx_w1 cI cZ ad (n, us, cs, wr, so, ea, ro, od)) A s.heap H locs → lv_has ls 7 [(3, .int (nI r)), (2, .int (nI q)), (1, .int (nI k)), (0, .ref (ad 0))] → W p l e rm1_fits s m args below meth c H locs 0 0 Q (F0 m 2 ls []) := by
    intro f1
    induction f1 with
    | zero => intro r H locs ls hme; exact absurd hme (Nat.not_lt_zero _)
    | succ f1 ihL2 =>
      intro r H locs ls hme hrq hr1 hw hl
      refine lv_iload_n hx hb dX1_fits_2 rfl (lv_at hl 0 rfl) ?_
      refine lv_iload_n hx hb dX1_fits_3 rfl (lv_at hl 1 rfl) ?_
      refine cx_icmp_ge (tgt := 97) hx hb dX1_fits_4 (by decide) (by omega) (by omega) (fun h4 => ?_) (fun h4 => ?_)
      · refine lv_iconst (v := nI 1) hx hb dX1_fits_97 (by decide) ?_
        exact ret _ (n, us, cs, wr, so, ea, ro, od) _ _ _ _ dX1_fits_98 hw (⟨cx_j1 (cx_B_t (fun x h9 => hr1 x (by omega))), rfl⟩)
      · refine lv_iconst (v := cx_sI 8) hx hb dX1_fits_7 (by decide) ?_
        refine cx_top (y := cx_sI (cx_la cs ea od r 0)) rfl ?_
        refine lv_istore (lv' := [(4, .int (cx_sI (cx_la cs ea od r 0))), (3, .int (nI r)), (2, .int (nI q)), (1, .int (nI k)), (0, .ref (ad 0))]) hx hb dX1_fits_8 hl (by decide) rfl (fun ls hl => ?_)
        refine lv_iconst (v := nI 0) hx hb dX1_fits_10 (by decide) ?_
        refine lv_istore (lv' := [(5, .int (nI 0)), (4, .int (cx_sI (cx_la cs ea od r 0))), (3, .int (nI r)), (2, .int (nI q)), (1, .int (nI k)), (0, .ref (ad 0))]) hx hb dX1_fits_11 hl (by decide) rfl (fun ls hl => ?_)
        have L13 : ∀ (f2 : Nat) (i : Nat) (H : Heap) (locs : List Loc) (ls : Array Slot), k - i < f2 → i ≤ k → cx_H D cx_Cl (cx_w1 cI cZ ad (n, us, cs, wr, so, ea, ro, od)) A s.heap H locs → lv_has ls 7 [(5, .int (nI i)), (4, .int (cx_sI (cx_la cs ea od r i))), (3, .int (nI r)), (2, .int (nI q)), (1, .int (nI k)), (0, .ref (ad 0))] → W p l e rm1_fits s m args below meth c H locs 0 0 Q (F0 m 13 ls []) := by
          intro f2
          induction f2 with
          | zero => intro i H locs ls hme; exact absurd hme (Nat.not_lt_zero _)
          | succ f2 ihL13 =>
            intro i H locs ls hme hik hw hl
            refine lv_iload hx hb dX1_fits_13 (lv_at hl 0 rfl) ?_
            refine lv_iload_n hx hb dX1_fits_15 rfl (lv_at hl 4 rfl) ?_
            refine cx_icmp_ge (tgt := 69) hx hb dX1_fits_16 (by decide) (by omega) (by omega) (fun h16 => ?_) (fun h16 => ?_)
            · have e69 : i = k := by omega
              have g69 := cx_la_le (cs := cs) (ea := ea) (r := r) k ho
              have hl : lv_has ls 7 [(5, .int (nI k)), (4, .int (cx_sI (cx_la cs ea od r k))), (3, .int (nI r)), (2, .int (nI q)), (1, .int (nI k)), (0, .ref (ad 0))] := by rw [e69] at hl; exact hl
              refine lv_aload_n hx hb dX1_fits_69 rfl (lv_at hl 5 rfl) ?_
              refine cx1_gW S hK hw dX1_fits_70 ?_
              refine lv_iload_n hx hb dX1_fits_73 rfl (lv_at hl 2 rfl) ?_
              refine cx1_aW S hK hw (by omega) dX1_fits_74 ?_
              refine cx_ifne_b (tgt := 91) hx hb dX1_fits_75 (by decide) (fun h75 => ?_) (fun h75 => ?_)
              · refine lv_iinc (v := (nI (r + 1))) (lv' := [(3, .int (nI (r + 1))), (5, .int (nI k)), (4, .int (cx_sI (cx_la cs ea od r k))), (2, .int (nI q)), (1, .int (nI k)), (0, .ref (ad 0))]) hx hb dX1_fits_91 hl (k := 2) rfl (cx_inc1 _) (by decide) rfl (fun ls hl => ?_)
                refine lv_goto (tgt := 2) hx hb dX1_fits_94 (by decide) ?_
                exact ihL2 (r + 1) _ _ _ (by omega) (by omega) (lt_s hr1 (fun z => Bool.noConfusion (h75.symm.trans z.1))) hw (lv_sub hl [0, 3, 4, 5] rfl)
              · refine lv_iload hx hb dX1_fits_78 (lv_at hl 1 rfl) ?_
                refine lv_aload_n hx hb dX1_fits_80 rfl (lv_at hl 5 rfl) ?_
                refine cx1_gS S hK hw dX1_fits_81 ?_
                refine lv_iload_n hx hb dX1_fits_84 rfl (lv_at hl 2 rfl) ?_
                refine cx1_aS S hK hw (by omega) dX1_fits_85 ?_
                have b85 := hS r
                refine cx_icmp_eq_ss (tgt := 91) hx hb dX1_fits_86 (by decide) (by omega) (by omega) (fun h86 => ?_) (fun h86 => ?_)
                · refine lv_iinc (v := (nI (r + 1))) (lv' := [(3, .int (nI (r + 1))), (5, .int (nI k)), (4, .int (cx_sI (cx_la cs ea od r k))), (2, .int (nI q)), (1, .int (nI k)), (0, .ref (ad 0))]) hx hb dX1_fits_91 hl (k := 2) rfl (cx_inc1 _) (by decide) rfl (fun ls hl => ?_)
                  refine lv_goto (tgt := 2) hx hb dX1_fits_94 (by decide) ?_
                  exact ihL2 (r + 1) _ _ _ (by omega) (by omega) (lt_s hr1 (fun z => z.2 h86)) hw (lv_sub hl [0, 3, 4, 5] rfl)
                · refine lv_iconst (v := nI 0) hx hb dX1_fits_89 (by decide) ?_
                  exact ret _ (n, us, cs, wr, so, ea, ro, od) _ _ _ _ dX1_fits_90 hw (⟨cx_j0 (cx_B_f (fun z => z r (by omega) ⟨h75, h86⟩)), rfl⟩)
            · refine lv_aload_n hx hb dX1_fits_19 rfl (lv_at hl 5 rfl) ?_
              refine cx1_gO S hK hw dX1_fits_20 ?_
              refine lv_iload hx hb dX1_fits_23 (lv_at hl 0 rfl) ?_
              refine cx1_aO S hK hw (by omega) dX1_fits_25 ?_
              have b25 := ho i (by omega)
              refine lv_istore (lv' := [(6, .int (nI (od i))), (5, .int (nI i)), (4, .int (cx_sI (cx_la cs ea od r i))), (3, .int (nI r)), (2, .int (nI q)), (1, .int (nI k)), (0, .ref (ad 0))]) hx hb dX1_fits_26 hl (by decide) rfl (fun ls hl => ?_)
              refine lv_aload_n hx hb dX1_fits_28 rfl (lv_at hl 6 rfl) ?_
              refine cx1_gC S hK hw dX1_fits_29 ?_
              refine lv_iload hx hb dX1_fits_32 (lv_at hl 0 rfl) ?_
              refine cx1_aC S hK hw (by omega) dX1_fits_34 ?_
              have b34 := hC (od i)
              refine lv_aload_n hx hb dX1_fits_35 rfl (lv_at hl 6 rfl) ?_
              refine cx1_gC S hK hw dX1_fits_36 ?_
              refine lv_iload_n hx hb dX1_fits_39 rfl (lv_at hl 3 rfl) ?_
              refine cx1_aC S hK hw (by omega) dX1_fits_40 ?_
              have b40 := hC r
              refine cx_icmp_ne (tgt := 63) hx hb dX1_fits_41 (by decide) (by omega) (by omega) (fun h41 => ?_) (fun h41 => ?_)
              · have e63 : cx_la cs ea od r (i + 1) = cx_la cs ea od r i := cx_la_f (fun z => h41 z.1)
                have hl : lv_has ls 7 [(6, .int (nI (od i))), (5, .int (nI i)), (4, .int (cx_sI (cx_la cs ea od r (i + 1)))), (3, .int (nI r)), (2, .int (nI q)), (1, .int (nI k)), (0, .ref (ad 0))] := by rw [e63]; exact hl
                refine lv_iinc (v := (nI (i + 1))) (lv' := [(5, .int (nI (i + 1))), (6, .int (nI (od i))), (4, .int (cx_sI (cx_la cs ea od r (i + 1)))), (3, .int (nI r)), (2, .int (nI q)), (1, .int (nI k)), (0, .ref (ad 0))]) hx hb dX1_fits_63 hl (k := 1) rfl (cx_inc1 _) (by decide) rfl (fun ls hl => ?_)
                refine lv_goto (tgt := 13) hx hb dX1_fits_66 (by decide) ?_
                exact ihL13 (i + 1) _ _ _ (by omega) (by omega) hw (lv_sub hl [0, 2, 3, 4, 5, 6] rfl)
              · refine lv_aload_n hx hb dX1_fits_44 rfl (lv_at hl 6 rfl) ?_
                refine cx1_gE S hK hw dX1_fits_45 ?_
                refine lv_iload_n hx hb dX1_fits_48 rfl (lv_at hl 3 rfl) ?_
                refine cx1_aE S hK hw (by omega) dX1_fits_49 ?_
                have b49 := hE r
                refine lv_iload hx hb dX1_fits_50 (lv_at hl 0 rfl) ?_
                refine cx_ishr hx hb dX1_fits_52 (by omega) (by omega) ?_
                refine lv_iconst (v := nI 1) hx hb dX1_fits_53 (by decide) ?_
                refine cx_iand1 hx hb dX1_fits_54 ?_
                refine lv_iconst (v := nI 1) hx hb dX1_fits_55 (by decide) ?_
                refine cx_icmp_ne_b1 (tgt := 63) hx hb dX1_fits_56 (by decide) (fun h56 => ?_) (fun h56 => ?_)
                · have e63 : cx_la cs ea od r (i + 1) = cx_la cs ea od r i := cx_la_f (fun z => Bool.noConfusion (h56.symm.trans z.2))
                  have hl : lv_has ls 7 [(6, .int (nI (od i))), (5, .int (nI i)), (4, .int (cx_sI (cx_la cs ea od r (i + 1)))), (3, .int (nI r)), (2, .int (nI q)), (1, .int (nI k)), (0, .ref (ad 0))] := by rw [e63]; exact hl
                  refine lv_iinc (v := (nI (i + 1))) (lv' := [(5, .int (nI (i + 1))), (6, .int (nI (od i))), (4, .int (cx_sI (cx_la cs ea od r (i + 1)))), (3, .int (nI r)), (2, .int (nI q)), (1, .int (nI k)), (0, .ref (ad 0))]) hx hb dX1_fits_63 hl (k := 1) rfl (cx_inc1 _) (by decide) rfl (fun ls hl => ?_)
                  refine lv_goto (tgt := 13) hx hb dX1_fits_66 (by decide) ?_
                  exact ihL13 (i + 1) _ _ _ (by omega) (by omega) hw (lv_sub hl [0, 2, 3, 4, 5, 6] rfl)
                · refine lv_iload hx hb dX1_fits_59 (lv_at hl 0 rfl) ?_
                  refine cx_top (y := cx_sI (cx_la cs ea od r (i + 1))) (by rw [cx_la_t h41 h56, cx_sI_n (by omega)]) ?_
                  refine lv_istore (lv' := [(4, .int (cx_sI (cx_la cs ea od r (i + 1)))), (6, .int (nI (od i))), (5, .int (nI i)), (3, .int (nI r)), (2, .int (nI q)), (1, .int (nI k)), (0, .ref (ad 0))]) hx hb dX1_fits_61 hl (by decide) rfl (fun ls hl => ?_)
                  refine lv_iinc (v := (nI (i + 1))) (lv' := [(5, .int (nI (i + 1))), (4, .int (cx_sI (cx_la cs ea od r (i + 1)))), (6, .int (nI (od i))), (3, .int (nI r)), (2, .int (nI q)), (1, .int (nI k)), (0, .ref (ad 0))]) hx hb dX1_fits_63 hl (k := 2) rfl (cx_inc1 _) (by decide) rfl (fun ls hl => ?_)
                  refine lv_goto (tgt := 13) hx hb dX1_fits_66 (by decide) ?_
                  exact ihL13 (i + 1) _ _ _ (by omega) (by omega) hw (lv_sub hl [0, 1, 3, 4, 5, 6] rfl)
        exact L13 _ 0 _ _ _ (Nat.lt_succ_self _) (by omega) hw (lv_sub hl [0, 1, 2, 3, 4, 5] rfl)
  exact L2 _ 0 _ _ _ (Nat.lt_succ_self _) (by omega) lt_0 hw (lv_sub hl [0, 3, 2, 1] rfl)
abbrev rm1_arrange : Room := { frames := 0, cells := 0, slots := 0, locals := 0 }
set_option maxHeartbeats 4000000 in
set_option maxRecDepth 100000 in
/-- arrange(k, num) -/
theorem k1_arrange (l : Launch) (D : va_G) (cI cZ : ClassId) (ad : Nat → Nat) {n : Nat} {us cs : Nat → Nat} {wr : Nat → Bool} {so ea : Nat → Nat} {ro : Nat → Bool} {od : Nat → Nat} (hn : n ≤ 8) {k num : Nat} (hk : cx_cn wr n = k) (hm : num < 2 ^ 31) : cx_Kv l yX1_arrange cX1_arrange 8 rm1_arrange D cI cZ (cx_w1 cI cZ ad) [.ref (ad 0), .int (nI k), .int (nI num)] (n, us, cs, wr, so, ea, ro, od) (fun σ' => ∃ od', (∀ x, x < k → od' x = cx_ar k (cx_mk wr n) num x) ∧ (∀ x, x < k → od' x < 8) ∧ σ' = (n, us, cs, wr, so, ea, ro, od')) := by
  refine cx_entv (by decide) (Nat.le_of_ble_eq_true rfl) ?_
  intro p e s m args below meth c ls Q A S hK hw hA hl ret
  have hx := S.1
  have hb := S.2.1
  have hts := S.2.2.2.2
  have hl : lv_has ls 8 [(0, .ref (ad 0)), (1, .int (nI k)), (2, .int (nI num))] := hl
  have S : CallFix p m c cX1_arrange 8 s args lw_all RX1 := S
  have hk8 : k ≤ n := by rw [← hk]; exact cx_cn_le wr n
  have hL := cx_mk_256 wr hn
  have hLk : cx_cn (cx_mk wr n).testBit 8 = k := (cx_mk_cn wr hn).trans hk
  refine lv_iconst (v := nI 0) hx hb dX1_arrange_0 (by decide) ?_
  refine cx_top (y := nI (cx_mk wr 0)) rfl ?_
  refine lv_istore_n (lv' := [(3, .int (nI (cx_mk wr 0))), (0, .ref (ad 0)), (1, .int (nI k)), (2, .int (nI num))]) hx hb dX1_arrange_1 rfl hl (by decide) rfl (fun ls hl => ?_)
  refine lv_iload_n hx hb dX1_arrange_2 rfl (lv_at hl 3 rfl) ?_
  refine lv_istore (lv' := [(4, .int (nI num)), (3, .int (nI (cx_mk wr 0))), (0, .ref (ad 0)), (1, .int (nI k)), (2, .int (nI num))]) hx hb dX1_arrange_3 hl (by decide) rfl (fun ls hl => ?_)
  refine lv_iconst (v := nI 0) hx hb dX1_arrange_5 (by decide) ?_
  refine lv_istore (lv' := [(5, .int (nI 0)), (4, .int (nI num)), (3, .int (nI (cx_mk wr 0))), (0, .ref (ad 0)), (1, .int (nI k)), (2, .int (nI num))]) hx hb dX1_arrange_6 hl (by decide) rfl (fun ls hl => ?_)
  have L8 : ∀ (f1 : Nat) (i : Nat) (H : Heap) (locs : List Loc) (ls : Array Slot), n - i < f1 → i ≤ n → cx_H D cx_Cl (cx_w1 cI cZ ad (n, us, cs, wr, so, ea, ro, od)) A s.heap H locs → lv_has ls 8 [(5, .int (nI i)), (4, .int (nI num)), (3, .int (nI (cx_mk wr i))), (2, .int (nI num)), (1, .int (nI k)), (0, .ref (ad 0))] → W p l e rm1_arrange s m args below meth c H locs 0 0 Q (F0 m 8 ls []) := by
    intro f1
    induction f1 with
    | zero => intro i H locs ls hme; exact absurd hme (Nat.not_lt_zero _)
    | succ f1 ihL8 =>
      intro i H locs ls hme hin hw hl
      refine lv_iload hx hb dX1_arrange_8 (lv_at hl 0 rfl) ?_
      refine lv_aload_n hx hb dX1_arrange_10 rfl (lv_at hl 5 rfl) ?_
      refine cx1_gn S hK hw dX1_arrange_11 ?_
      refine cx_icmp_ge (tgt := 44) hx hb dX1_arrange_14 (by decide) (by omega) (by omega) (fun h14 => ?_) (fun h14 => ?_)
      · have e44 : i = n := by omega
        have hl : lv_has ls 8 [(5, .int (nI n)), (4, .int (nI num)), (3, .int (nI (cx_mk wr n))), (2, .int (nI num)), (1, .int (nI k)), (0, .ref (ad 0))] := by rw [e44] at hl; exact hl
        refine lv_iconst (v := nI 0) hx hb dX1_arrange_44 (by decide) ?_
        refine lv_istore (lv' := [(5, .int (nI 0)), (4, .int (nI num)), (3, .int (nI (cx_mk wr n))), (2, .int (nI num)), (1, .int (nI k)), (0, .ref (ad 0))]) hx hb dX1_arrange_45 hl (by decide) rfl (fun ls hl => ?_)
        have L47 : ∀ (f2 : Nat) (i : Nat) (od1 : Nat → Nat) (l1 : Nat) (r1 : Nat) (H : Heap) (locs : List Loc) (ls : Array Slot), k - i < f2 → i ≤ k → (∀ x, x < i → od1 x = cx_ar k (cx_mk wr n) num x) → cx_lr k (cx_mk wr n) num i = (l1, r1) → cx_H D cx_Cl (cx_w1 cI cZ ad (n, us, cs, wr, so, ea, ro, od1)) A s.heap H locs → lv_has ls 8 [(5, .int (nI i)), (4, .int (nI r1)), (3, .int (nI l1)), (2, .int (nI num)), (1, .int (nI k)), (0, .ref (ad 0))] → W p l e rm1_arrange s m args below meth c H locs 0 0 Q (F0 m 47 ls []) := by
          intro f2
          induction f2 with
          | zero => intro i od1 l1 r1 H locs ls hme; exact absurd hme (Nat.not_lt_zero _)
          | succ f2 ihL47 =>
            intro i od1 l1 r1 H locs ls hme hik hod hlr hw hl
            refine lv_iload hx hb dX1_arrange_47 (lv_at hl 0 rfl) ?_
            refine lv_iload_n hx hb dX1_arrange_49 rfl (lv_at hl 4 rfl) ?_
            refine cx_icmp_ge (tgt := 138) hx hb dX1_arrange_50 (by decide) (by omega) (by omega) (fun h50 => ?_) (fun h50 => ?_)
            · exact ret (n, us, cs, wr, so, ea, ro, od1) _ _ _ _ dX1_arrange_138 hw ⟨od1, fun x h9 => hod x (by omega), fun x h9 => by rw [hod x (by omega)]; exact cx_ar_8 hn hk h9, rfl⟩
            · have hlv := cx_lr_inv (num := num) hL hLk (by omega) i (by omega)
              rw [hlr] at hlv
              have hl1 : l1 < 256 := hlv.1
              have hc1 : cx_cn l1.testBit 8 = k - i := hlv.2.1
              have hr1 : r1 ≤ num := hlv.2.2
              have hs1 : r1 % (k - i) < k - i := Nat.mod_lt _ (by omega)
              have hp1 := cx_pk_2 l1 hl1 (r1 % (k - i)) (by omega) (by omega)
              refine lv_iload hx hb dX1_arrange_53 (lv_at hl 1 rfl) ?_
              refine lv_iload_n hx hb dX1_arrange_55 rfl (lv_at hl 4 rfl) ?_
              refine lv_iload hx hb dX1_arrange_56 (lv_at hl 0 rfl) ?_
              refine cx_isub hx hb dX1_arrange_58 (by omega) ?_
              refine cx_irem hx hb dX1_arrange_59 (by omega) (by omega) (by omega) ?_
              refine lv_istore (lv' := [(6, .int (nI (r1 % (k - i)))), (5, .int (nI i)), (4, .int (nI r1)), (3, .int (nI l1)), (2, .int (nI num)), (1, .int (nI k)), (0, .ref (ad 0))]) hx hb dX1_arrange_60 hl (by decide) rfl (fun ls hl => ?_)
              refine lv_iload hx hb dX1_arrange_62 (lv_at hl 2 rfl) ?_
              refine lv_iload_n hx hb dX1_arrange_64 rfl (lv_at hl 5 rfl) ?_
              refine lv_iload hx hb dX1_arrange_65 (lv_at hl 1 rfl) ?_
              refine cx_isub hx hb dX1_arrange_67 (by omega) ?_
              refine cx_idiv hx hb dX1_arrange_68 (by omega) (by omega) (by omega) ?_
              refine lv_istore (lv' := [(4, .int (nI (r1 / (k - i)))), (6, .int (nI (r1 % (k - i)))), (5, .int (nI i)), (3, .int (nI l1)), (2, .int (nI num)), (1, .int (nI k)), (0, .ref (ad 0))]) hx hb dX1_arrange_69 hl (by decide) rfl (fun ls hl => ?_)
              refine lv_iconst (v := nI 0) hx hb dX1_arrange_71 (by decide) ?_
              refine lv_istore (lv' := [(7, .int (nI 0)), (4, .int (nI (r1 / (k - i)))), (6, .int (nI (r1 % (k - i)))), (5, .int (nI i)), (3, .int (nI l1)), (2, .int (nI num)), (1, .int (nI k)), (0, .ref (ad 0))]) hx hb dX1_arrange_72 hl (by decide) rfl (fun ls hl => ?_)
              have L74 : ∀ (f3 : Nat) (w : Nat) (sk : Nat) (H : Heap) (locs : List Loc) (ls : Array Slot), 8 - w < f3 → w ≤ 8 → sk < 8 → cx_pk l1 8 (r1 % (k - i)) = cx_pk l1 (8 - w) sk → cx_H D cx_Cl (cx_w1 cI cZ ad (n, us, cs, wr, so, ea, ro, od1)) A s.heap H locs → lv_has ls 8 [(7, .int (nI w)), (6, .int (nI sk)), (5, .int (nI i)), (4, .int (nI (r1 / (k - i)))), (3, .int (nI l1)), (2, .int (nI num)), (1, .int (nI k)), (0, .ref (ad 0))] → W p l e rm1_arrange s m args below meth c H locs 0 0 Q (F0 m 74 ls []) := by
                intro f3
                induction f3 with
                | zero => intro w sk H locs ls hme; exact absurd hme (Nat.not_lt_zero _)
                | succ f3 ihL74 =>
                  intro w sk H locs ls hme hw8 hsk hpk hw hl
                  refine lv_iload hx hb dX1_arrange_74 (lv_at hl 0 rfl) ?_
                  refine lv_bipush (v := nI 8) hx hb dX1_arrange_76 (by decide) ?_
                  refine cx_icmp_ge (tgt := 114) hx hb dX1_arrange_78 (by decide) (by omega) (by omega) (fun h78 => ?_) (fun h78 => ?_)
                  · exact (cx_pk_no hpk hp1.1 h78).elim
                  · refine lv_iload_n hx hb dX1_arrange_81 rfl (lv_at hl 4 rfl) ?_
                    refine lv_iload hx hb dX1_arrange_82 (lv_at hl 0 rfl) ?_
                    refine cx_ishr hx hb dX1_arrange_84 (by omega) (by omega) ?_
                    refine lv_iconst (v := nI 1) hx hb dX1_arrange_85 (by decide) ?_
                    refine cx_iand1 hx hb dX1_arrange_86 ?_
                    refine cx_ifeq_b (tgt := 95) hx hb dX1_arrange_87 (by decide) (fun h87 => ?_) (fun h87 => ?_)
                    · refine lv_iload_n hx hb dX1_arrange_95 rfl (lv_at hl 4 rfl) ?_
                      refine lv_iload hx hb dX1_arrange_96 (lv_at hl 0 rfl) ?_
                      refine cx_ishr hx hb dX1_arrange_98 (by omega) (by omega) ?_
                      refine lv_iconst (v := nI 1) hx hb dX1_arrange_99 (by decide) ?_
                      refine cx_iand1 hx hb dX1_arrange_100 ?_
                      refine lv_iconst (v := nI 1) hx hb dX1_arrange_101 (by decide) ?_
                      refine cx_icmp_ne_b1 (tgt := 108) hx hb dX1_arrange_102 (by decide) (fun h102 => ?_) (fun h102 => ?_)
                      · refine lv_iinc (v := (nI (w + 1))) (lv' := [(7, .int (nI (w + 1))), (6, .int (nI sk)), (5, .int (nI i)), (4, .int (nI (r1 / (k - i)))), (3, .int (nI l1)), (2, .int (nI num)), (1, .int (nI k)), (0, .ref (ad 0))]) hx hb dX1_arrange_108 hl (k := 0) rfl (cx_inc1 _) (by decide) rfl (fun ls hl => ?_)
                        refine lv_goto (tgt := 74) hx hb dX1_arrange_111 (by decide) ?_
                        exact ihL74 (w + 1) sk _ _ _ (by omega) (by omega) (by omega) (cx_pk_st0 hpk h78 h87) hw (lv_sub hl [0, 1, 2, 3, 4, 5, 6, 7] rfl)
                      · exact Bool.noConfusion (h87.symm.trans h102)
                    · refine lv_iload hx hb dX1_arrange_90 (lv_at hl 1 rfl) ?_
                      refine cx_ifle_n (tgt := 114) hx hb dX1_arrange_92 (by decide) (by omega) (fun h92 => ?_) (fun h92 => ?_)
                      · have hw9 : cx_pk l1 8 (r1 % (k - i)) = w := hpk.trans (cx_pk_e h78 h87 h92)
                        refine lv_aload_n hx hb dX1_arrange_114 rfl (lv_at hl 7 rfl) ?_
                        refine cx1_gO S hK hw dX1_arrange_115 ?_
                        refine lv_iload hx hb dX1_arrange_118 (lv_at hl 2 rfl) ?_
                        refine lv_iload hx hb dX1_arrange_120 (lv_at hl 0 rfl) ?_
                        refine cx1_sO S hK hw (by omega) dX1_arrange_122 (fun H locs hw => ?_)
                        refine lv_iload_n hx hb dX1_arrange_123 rfl (lv_at hl 4 rfl) ?_
                        refine lv_iconst (v := nI 1) hx hb dX1_arrange_124 (by decide) ?_
                        refine lv_iload hx hb dX1_arrange_125 (lv_at hl 0 rfl) ?_
                        refine cx_ishl hx hb dX1_arrange_127 (by omega) ?_
                        refine lv_iconst (v := -1) hx hb dX1_arrange_128 (by decide) ?_
                        refine lv_ixor hx hb dX1_arrange_129 ?_
                        refine lv_iand hx hb dX1_arrange_130 ?_
                        refine cx_top (y := nI (cx_cr l1 w)) (cx_clr l1 hl1 w h78 h87) ?_
                        refine lv_istore_n (lv' := [(3, .int (nI (cx_cr l1 w))), (7, .int (nI w)), (6, .int (nI sk)), (5, .int (nI i)), (4, .int (nI (r1 / (k - i)))), (2, .int (nI num)), (1, .int (nI k)), (0, .ref (ad 0))]) hx hb dX1_arrange_131 rfl hl (by decide) rfl (fun ls hl => ?_)
                        refine lv_iinc (v := (nI (i + 1))) (lv' := [(5, .int (nI (i + 1))), (3, .int (nI (cx_cr l1 w))), (7, .int (nI w)), (6, .int (nI sk)), (4, .int (nI (r1 / (k - i)))), (2, .int (nI num)), (1, .int (nI k)), (0, .ref (ad 0))]) hx hb dX1_arrange_132 hl (k := 3) rfl (cx_inc1 _) (by decide) rfl (fun ls hl => ?_)
                        refine lv_goto (tgt := 47) hx hb dX1_arrange_135 (by decide) ?_
                        exact ihL47 (i + 1) (va_up od1 i w) (cx_cr l1 w) (r1 / (k - i)) _ _ _ (by omega) (by omega) (cx_od hod (cx_ar_at hlr hw9)) (cx_lr_n hlr hw9) hw (lv_sub hl [0, 4, 1, 5, 6, 7] rfl)
                      · refine lv_iload_n hx hb dX1_arrange_95 rfl (lv_at hl 4 rfl) ?_
                        refine lv_iload hx hb dX1_arrange_96 (lv_at hl 0 rfl) ?_
                        refine cx_ishr hx hb dX1_arrange_98 (by omega) (by omega) ?_
                        refine lv_iconst (v := nI 1) hx hb dX1_arrange_99 (by decide) ?_
                        refine cx_iand1 hx hb dX1_arrange_100 ?_
                        refine lv_iconst (v := nI 1) hx hb dX1_arrange_101 (by decide) ?_
                        refine cx_icmp_ne_b1 (tgt := 108) hx hb dX1_arrange_102 (by decide) (fun h102 => ?_) (fun h102 => ?_)
                        · exact Bool.noConfusion (h87.symm.trans h102)
                        · refine lv_iinc (v := (nI (sk - 1))) (lv' := [(6, .int (nI (sk - 1))), (7, .int (nI w)), (5, .int (nI i)), (4, .int (nI (r1 / (k - i)))), (3, .int (nI l1)), (2, .int (nI num)), (1, .int (nI k)), (0, .ref (ad 0))]) hx hb dX1_arrange_105 hl (k := 1) rfl (cx_dec (by omega)) (by decide) rfl (fun ls hl => ?_)
                          refine lv_iinc (v := (nI (w + 1))) (lv' := [(7, .int (nI (w + 1))), (6, .int (nI (sk - 1))), (5, .int (nI i)), (4, .int (nI (r1 / (k - i)))), (3, .int (nI l1)), (2, .int (nI num)), (1, .int (nI k)), (0, .ref (ad 0))]) hx hb dX1_arrange_108 hl (k := 1) rfl (cx_inc1 _) (by decide) rfl (fun ls hl => ?_)
                          refine lv_goto (tgt := 74) hx hb dX1_arrange_111 (by decide) ?_
                          exact ihL74 (w + 1) (sk - 1) _ _ _ (by omega) (by omega) (by omega) (cx_pk_st1 hpk h78 h87 h92) hw (lv_sub hl [0, 1, 2, 3, 4, 5, 6, 7] rfl)
              exact L74 _ 0 (r1 % (k - i)) _ _ _ (Nat.lt_succ_self _) (by omega) (by omega) rfl hw (lv_sub hl [0, 2, 3, 1, 4, 5, 6, 7] rfl)
        exact L47 _ 0 od (cx_mk wr n) num _ _ _ (Nat.lt_succ_self _) (by omega) lt_0 rfl hw (lv_sub hl [0, 1, 2, 3, 4, 5] rfl)
      · refine lv_iload_n hx hb dX1_arrange_17 rfl (lv_at hl 2 rfl) ?_
        refine lv_aload_n hx hb dX1_arrange_18 rfl (lv_at hl 5 rfl) ?_
        refine cx1_gW S hK hw dX1_arrange_19 ?_
        refine lv_iload hx hb dX1_arrange_22 (lv_at hl 0 rfl) ?_
        refine cx1_aW S hK hw (by omega) dX1_arrange_24 ?_
        refine cx_ifeq_b (tgt := 35) hx hb dX1_arrange_25 (by decide) (fun h25 => ?_) (fun h25 => ?_)
        · refine lv_iconst (v := nI 0) hx hb dX1_arrange_35 (by decide) ?_
          refine cx_ior hx hb dX1_arrange_36 ?_
          refine cx_top (y := nI (cx_mk wr (i + 1))) (congrArg nI (cx_mk_f h25)) ?_
          refine lv_istore_n (lv' := [(3, .int (nI (cx_mk wr (i + 1)))), (5, .int (nI i)), (4, .int (nI num)), (2, .int (nI num)), (1, .int (nI k)), (0, .ref (ad 0))]) hx hb dX1_arrange_37 rfl hl (by decide) rfl (fun ls hl => ?_)
          refine lv_iinc (v := (nI (i + 1))) (lv' := [(5, .int (nI (i + 1))), (3, .int (nI (cx_mk wr (i + 1)))), (4, .int (nI num)), (2, .int (nI num)), (1, .int (nI k)), (0, .ref (ad 0))]) hx hb dX1_arrange_38 hl (k := 1) rfl (cx_inc1 _) (by decide) rfl (fun ls hl => ?_)
          refine lv_goto (tgt := 8) hx hb dX1_arrange_41 (by decide) ?_
          exact ihL8 (i + 1) _ _ _ (by omega) (by omega) hw (lv_sub hl [0, 2, 1, 3, 4, 5] rfl)
        · refine lv_iconst (v := nI 1) hx hb dX1_arrange_28 (by decide) ?_
          refine lv_iload hx hb dX1_arrange_29 (lv_at hl 0 rfl) ?_
          refine cx_ishl hx hb dX1_arrange_31 (by omega) ?_
          refine lv_goto (tgt := 36) hx hb dX1_arrange_32 (by decide) ?_
          refine cx_ior hx hb dX1_arrange_36 ?_
          refine cx_top (y := nI (cx_mk wr (i + 1))) (congrArg nI (cx_mk_t h25)) ?_
          refine lv_istore_n (lv' := [(3, .int (nI (cx_mk wr (i + 1)))), (5, .int (nI i)), (4, .int (nI num)), (2, .int (nI num)), (1, .int (nI k)), (0, .ref (ad 0))]) hx hb dX1_arrange_37 rfl hl (by decide) rfl (fun ls hl => ?_)
          refine lv_iinc (v := (nI (i + 1))) (lv' := [(5, .int (nI (i + 1))), (3, .int (nI (cx_mk wr (i + 1)))), (4, .int (nI num)), (2, .int (nI num)), (1, .int (nI k)), (0, .ref (ad 0))]) hx hb dX1_arrange_38 hl (k := 1) rfl (cx_inc1 _) (by decide) rfl (fun ls hl => ?_)
          refine lv_goto (tgt := 8) hx hb dX1_arrange_41 (by decide) ?_
          exact ihL8 (i + 1) _ _ _ (by omega) (by omega) hw (lv_sub hl [0, 2, 1, 3, 4, 5] rfl)
  exact L8 _ 0 _ _ _ (Nat.lt_succ_self _) (by omega) hw (lv_sub hl [0, 1, 2, 5, 4, 3] rfl)
end
section
/-! CausalCheckModel: converges (printed by gen/x1c.py) -/
abbrev rm1_converges : Room := { frames := 1, cells := 0, slots := 0, locals := 27 }
set_option maxHeartbeats 4000000 in
set_option maxRecDepth 100000 in
/-- converges(q) -/
theorem k1_converges (l : Launch) (D : va_G) (cI cZ : ClassId) (ad : Nat → Nat) {n : Nat} {us cs : Nat → Nat} {wr : Nat → Bool} {so ea : Nat → Nat} {ro : Nat → Bool} {od : Nat → Nat} {q : Nat} (hV : cx_Va q us cs wr so ea) (hq : q ≤ 8) (hqn : q = n ∨ (q = n + 1 ∧ wr n = false)) : cx_Ki l yX1_converges cX1_converges 5 (some .boolean) rm1_converges D cI cZ (cx_w1 cI cZ ad) [.ref (ad 0), .int (nI q)] (n, us, cs, wr, so, ea, ro, od) (fun v σ' => v = cx_bI (cx_B (cx_Cv q cs wr so ea)) ∧ ∃ od', σ' = (n, us, cs, wr, so, ea, ro, od')) := by
  refine cx_ent (by decide) rfl (fun v σ' h => by rw [h.1]; exact cx_bI_nar _) (Nat.le_of_ble_eq_true rfl) ?_
  intro p e s m args below meth c ls Q A S hK hw hA hl ret
  have hx := S.1
  have hb := S.2.1
  have hts := S.2.2.2.2
  have hl : lv_has ls 5 [(0, .ref (ad 0)), (1, .int (nI q))] := hl
  have S : CallFix p m c cX1_converges 5 s args lw_all RX1 := S
  have hU := hV.1
  have hC := hV.2.1
  have hS := hV.2.2.1
  have hE := hV.2.2.2.1
  have hnq : n ≤ 8 := by rcases hqn with h | h <;> omega
  have hcq : cx_cn wr n = cx_cn wr q := (cx_cnq hqn).symm
  have hk8 : cx_cn wr q ≤ 8 := Nat.le_trans (cx_cn_le wr q) hq
  have hfa := cx_fa_le (cx_cn wr q) hk8
  have hmc := cx_mconv hV hq
  rw [cx_mkq hqn] at hmc
  refine lv_iconst (v := nI 0) hx hb dX1_converges_0 (by decide) ?_
  refine cx_top (y := nI (cx_cn wr 0)) rfl ?_
  refine lv_istore_n (lv' := [(2, .int (nI (cx_cn wr 0))), (0, .ref (ad 0)), (1, .int (nI q))]) hx hb dX1_converges_1 rfl hl (by decide) rfl (fun ls hl => ?_)
  refine lv_iconst (v := nI 1) hx hb dX1_converges_2 (by decide) ?_
  refine cx_top (y := nI (cx_fa (cx_cn wr 0))) rfl ?_
  refine lv_istore_n (lv' := [(3, .int (nI (cx_fa (cx_cn wr 0)))), (2, .int (nI (cx_cn wr 0))), (0, .ref (ad 0)), (1, .int (nI q))]) hx hb dX1_converges_3 rfl hl (by decide) rfl (fun ls hl => ?_)
  refine lv_iconst (v := nI 0) hx hb dX1_converges_4 (by decide) ?_
  refine lv_istore (lv' := [(4, .int (nI 0)), (3, .int (nI (cx_fa (cx_cn wr 0)))), (2, .int (nI (cx_cn wr 0))), (0, .ref (ad 0)), (1, .int (nI q))]) hx hb dX1_converges_5 hl (by decide) rfl (fun ls hl => ?_)
  have L7 : ∀ (f1 : Nat) (i : Nat) (H : Heap) (locs : List Loc) (ls : Array Slot), q - i < f1 → i ≤ q → cx_H D cx_Cl (cx_w1 cI cZ ad (n, us, cs, wr, so, ea, ro, od)) A s.heap H locs → lv_has ls 5 [(4, .int (nI i)), (3, .int (nI (cx_fa (cx_cn wr i)))), (2, .int (nI (cx_cn wr i))), (1, .int (nI q)), (0, .ref (ad 0))] → W p l e rm1_converges s m args below meth c H locs 0 0 Q (F0 m 7 ls []) := by
    intro f1
    induction f1 with
    | zero => intro i H locs ls hme; exact absurd hme (Nat.not_lt_zero _)
    | succ f1 ihL7 =>
      intro i H locs ls hme hiq hw hl
      refine lv_iload hx hb dX1_converges_7 (lv_at hl 0 rfl) ?_
      refine lv_iload_n hx hb dX1_converges_9 rfl (lv_at hl 3 rfl) ?_
      refine cx_icmp_ge (tgt := 36) hx hb dX1_converges_10 (by decide) (by omega) (by omega) (fun h10 => ?_) (fun h10 => ?_)
      · have e36 : i = q := by omega
        have hl : lv_has ls 5 [(4, .int (nI q)), (3, .int (nI (cx_fa (cx_cn wr q)))), (2, .int (nI (cx_cn wr q))), (1, .int (nI q)), (0, .ref (ad 0))] := by rw [e36] at hl; exact hl
        refine lv_iconst (v := nI 0) hx hb dX1_converges_36 (by decide) ?_
        refine lv_istore (lv' := [(4, .int (nI 0)), (3, .int (nI (cx_fa (cx_cn wr q)))), (2, .int (nI (cx_cn wr q))), (1, .int (nI q)), (0, .ref (ad 0))]) hx hb dX1_converges_37 hl (by decide) rfl (fun ls hl => ?_)
        have L39 : ∀ (f2 : Nat) (num : Nat) (od1 : Nat → Nat) (H : Heap) (locs : List Loc) (ls : Array Slot), cx_fa (cx_cn wr q) - num < f2 → num ≤ cx_fa (cx_cn wr q) → (∀ x, x < num → ¬ (cx_iR ea (cx_ar (cx_cn wr q) (cx_mk wr n) x) (cx_cn wr q) ∧ cx_fi q cs wr so ea (cx_ar (cx_cn wr q) (cx_mk wr n) x) (cx_cn wr q))) → cx_H D cx_Cl (cx_w1 cI cZ ad (n, us, cs, wr, so, ea, ro, od1)) A s.heap H locs → lv_has ls 5 [(4, .int (nI num)), (3, .int (nI (cx_fa (cx_cn wr q)))), (2, .int (nI (cx_cn wr q))), (1, .int (nI q)), (0, .ref (ad 0))] → W p l e rm1_converges s m args below meth c H locs 0 0 Q (F0 m 39 ls []) := by
          intro f2
          induction f2 with
          | zero => intro num od1 H locs ls hme; exact absurd hme (Nat.not_lt_zero _)
          | succ f2 ihL39 =>
            intro num od1 H locs ls hme hnu hno hw hl
            refine lv_iload hx hb dX1_converges_39 (lv_at hl 0 rfl) ?_
            refine lv_iload_n hx hb dX1_converges_41 rfl (lv_at hl 1 rfl) ?_
            refine cx_icmp_ge (tgt := 77) hx hb dX1_converges_42 (by decide) (by omega) (by omega) (fun h42 => ?_) (fun h42 => ?_)
            · refine lv_iconst (v := nI 0) hx hb dX1_converges_77 (by decide) ?_
              exact ret _ (n, us, cs, wr, so, ea, ro, od1) _ _ _ _ dX1_converges_78 hw (⟨cx_j0 (cx_B_f (fun z => by obtain ⟨x, z1, z2⟩ := hmc.mpr z; exact hno x (by omega) z2)), _, rfl⟩)
            · refine lv_aload_n hx hb dX1_converges_45 rfl (lv_at hl 4 rfl) ?_
              refine lv_iload_n hx hb dX1_converges_46 rfl (lv_at hl 2 rfl) ?_
              refine lv_iload hx hb dX1_converges_47 (lv_at hl 0 rfl) ?_
              refine cx_calv S (k1_arrange l D cI cZ ad hnq hcq (by omega)) (cwV 2 hts (lw_V q214 q216 qs16 q21 q217) rfl rfl rfl (by decide +kernel) ⟨Nat.le_of_ble_eq_true rfl, Nat.le_of_ble_eq_true rfl⟩) hK hw hA rfl rfl rfl rfl hl.1 rfl (Nat.le_of_ble_eq_true rfl) dX1_converges_49 ⟨Nat.zero_le _, Nat.zero_le _⟩ (fun σ1 H locs hp hw => ?_)
              obtain ⟨od2, ho1, ho2, rfl⟩ := hp
              refine lv_aload_n hx hb dX1_converges_52 rfl (lv_at hl 4 rfl) ?_
              refine lv_iload_n hx hb dX1_converges_53 rfl (lv_at hl 2 rfl) ?_
              refine cx_cali S (k1_isRow l D cI cZ ad hE hk8 ho2) (cwV 1 hts (lw_V q218 q220 qs17 q21 q221) rfl rfl rfl (by decide +kernel) ⟨Nat.le_of_ble_eq_true rfl, Nat.le_of_ble_eq_true rfl⟩) hK hw hA rfl rfl rfl rfl hl.1 rfl (Nat.le_of_ble_eq_true rfl) dX1_converges_54 ⟨Nat.zero_le _, Nat.zero_le _⟩ (fun r54 σ1 H locs hp hw => ?_)
              obtain ⟨rfl, rfl⟩ := hp
              refine cx_ifeq_b (tgt := 71) hx hb dX1_converges_57 (by decide) (fun h57 => ?_) (fun h57 => ?_)
              · refine lv_iinc (v := (nI (num + 1))) (lv' := [(4, .int (nI (num + 1))), (3, .int (nI (cx_fa (cx_cn wr q)))), (2, .int (nI (cx_cn wr q))), (1, .int (nI q)), (0, .ref (ad 0))]) hx hb dX1_converges_71 hl (k := 0) rfl (cx_inc1 _) (by decide) rfl (fun ls hl => ?_)
                refine lv_goto (tgt := 39) hx hb dX1_converges_74 (by decide) ?_
                exact ihL39 (num + 1) od2 _ _ _ (by omega) (by omega) (lt_s hno (fun z => cx_B_n h57 (cx_iR_congr (fun x h9 => (ho1 x h9).symm) z.1))) hw (lv_sub hl [0, 1, 2, 3, 4] rfl)
              · refine lv_aload_n hx hb dX1_converges_60 rfl (lv_at hl 4 rfl) ?_
                refine lv_iload_n hx hb dX1_converges_61 rfl (lv_at hl 2 rfl) ?_
                refine lv_iload_n hx hb dX1_converges_62 rfl (lv_at hl 3 rfl) ?_
                refine cx_cali S (k1_fits l D cI cZ ad hC hS hE hk8 hq ho2) (cwV 2 hts (lw_V q222 q224 qs18 q21 q225) rfl rfl rfl (by decide +kernel) ⟨Nat.le_of_ble_eq_true rfl, Nat.le_of_ble_eq_true rfl⟩) hK hw hA rfl rfl rfl rfl hl.1 rfl (Nat.le_of_ble_eq_true rfl) dX1_converges_63 ⟨Nat.zero_le _, Nat.zero_le _⟩ (fun r63 σ1 H locs hp hw => ?_)
                obtain ⟨rfl, rfl⟩ := hp
                refine cx_ifeq_b (tgt := 71) hx hb dX1_converges_66 (by decide) (fun h66 => ?_) (fun h66 => ?_)
                · refine lv_iinc (v := (nI (num + 1))) (lv' := [(4, .int (nI (num + 1))), (3, .int (nI (cx_fa (cx_cn wr q)))), (2, .int (nI (cx_cn wr q))), (1, .int (nI q)), (0, .ref (ad 0))]) hx hb dX1_converges_71 hl (k := 0) rfl (cx_inc1 _) (by decide) rfl (fun ls hl => ?_)
                  refine lv_goto (tgt := 39) hx hb dX1_converges_74 (by decide) ?_
                  exact ihL39 (num + 1) od2 _ _ _ (by omega) (by omega) (lt_s hno (fun z => cx_B_n h66 (cx_fi_congr (fun x h9 => (ho1 x h9).symm) z.2))) hw (lv_sub hl [0, 1, 2, 3, 4] rfl)
                · refine lv_iconst (v := nI 1) hx hb dX1_converges_69 (by decide) ?_
                  exact ret _ (n, us, cs, wr, so, ea, ro, od2) _ _ _ _ dX1_converges_70 hw (⟨cx_j1 (cx_B_t (hmc.mp ⟨num, h42, cx_iR_congr ho1 (cx_B_iff.mp h57), cx_fi_congr ho1 (cx_B_iff.mp h66)⟩)), _, rfl⟩)
        exact L39 _ 0 od _ _ _ (Nat.lt_succ_self _) (by omega) lt_0 hw (lv_sub hl [0, 1, 2, 3, 4] rfl)
      · refine lv_aload_n hx hb dX1_converges_13 rfl (lv_at hl 4 rfl) ?_
        refine cx1_gW S hK hw dX1_converges_14 ?_
        refine lv_iload hx hb dX1_converges_17 (lv_at hl 0 rfl) ?_
        refine cx1_aW S hK hw (by omega) dX1_converges_19 ?_
        refine cx_ifeq_b (tgt := 30) hx hb dX1_converges_20 (by decide) (fun h20 => ?_) (fun h20 => ?_)
        · have hl : lv_has ls 5 [(4, .int (nI i)), (3, .int (nI (cx_fa (cx_cn wr (i + 1))))), (2, .int (nI (cx_cn wr (i + 1)))), (1, .int (nI q)), (0, .ref (ad 0))] := by rw [cx_cn_s h20]; exact hl
          refine lv_iinc (v := (nI (i + 1))) (lv' := [(4, .int (nI (i + 1))), (3, .int (nI (cx_fa (cx_cn wr (i + 1))))), (2, .int (nI (cx_cn wr (i + 1)))), (1, .int (nI q)), (0, .ref (ad 0))]) hx hb dX1_converges_30 hl (k := 0) rfl (cx_inc1 _) (by decide) rfl (fun ls hl => ?_)
          refine lv_goto (tgt := 7) hx hb dX1_converges_33 (by decide) ?_
          exact ihL7 (i + 1) _ _ _ (by omega) (by omega) hw (lv_sub hl [0, 1, 2, 3, 4] rfl)
        · refine lv_iinc (v := (nI (cx_cn wr i + 1))) (lv' := [(2, .int (nI (cx_cn wr i + 1))), (4, .int (nI i)), (3, .int (nI (cx_fa (cx_cn wr i)))), (1, .int (nI q)), (0, .ref (ad 0))]) hx hb dX1_converges_23 hl (k := 2) rfl (cx_inc1 _) (by decide) rfl (fun ls hl => ?_)
          refine lv_iload_n hx hb dX1_converges_26 rfl (lv_at hl 2 rfl) ?_
          refine lv_iload_n hx hb dX1_converges_27 rfl (lv_at hl 0 rfl) ?_
          refine cx_imul hx hb dX1_converges_28 ?_
          refine lv_istore_n (lv' := [(3, .int (nI ((cx_fa (cx_cn wr i)) * (cx_cn wr i + 1)))), (2, .int (nI (cx_cn wr i + 1))), (4, .int (nI i)), (1, .int (nI q)), (0, .ref (ad 0))]) hx hb dX1_converges_29 rfl hl (by decide) rfl (fun ls hl => ?_)
          have hl : lv_has ls 5 [(3, .int (nI (cx_fa (cx_cn wr (i + 1))))), (2, .int (nI (cx_cn wr (i + 1)))), (4, .int (nI i)), (1, .int (nI q)), (0, .ref (ad 0))] := by rw [cx_fa_t h20, cx_cn_t h20]; exact hl
          refine lv_iinc (v := (nI (i + 1))) (lv' := [(4, .int (nI (i + 1))), (3, .int (nI (cx_fa (cx_cn wr (i + 1))))), (2, .int (nI (cx_cn wr (i + 1)))), (1, .int (nI q)), (0, .ref (ad 0))]) hx hb dX1_converges_30 hl (k := 2) rfl (cx_inc1 _) (by decide) rfl (fun ls hl => ?_)
          refine lv_goto (tgt := 7) hx hb dX1_converges_33 (by decide) ?_
          exact ihL7 (i + 1) _ _ _ (by omega) (by omega) hw (lv_sub hl [0, 1, 2, 3, 4] rfl)
  exact L7 _ 0 _ _ _ (Nat.lt_succ_self _) (by omega) hw (lv_sub hl [0, 1, 2, 4, 3] rfl)
end
section
/-! CausalCheckModel: what the law calls: back, before, write, read (printed by gen/x1d.py) -/
abbrev rm1_back : Room := { frames := 0, cells := 0, slots := 0, locals := 0 }
set_option maxHeartbeats 4000000 in
set_option maxRecDepth 100000 in
/-- back() -/
theorem k1_back (l : Launch) (D : va_G) (cI cZ : ClassId) (ad : Nat → Nat) {n : Nat} {us cs : Nat → Nat} {wr : Nat → Bool} {so ea : Nat → Nat} {ro : Nat → Bool} {od : Nat → Nat} (hn : n ≤ 7) : cx_Ki l yX1_back cX1_back 1 (some .int) rm1_back D cI cZ (cx_w1 cI cZ ad) [.ref (ad 0)] (n, us, cs, wr, so, ea, ro, od) (fun v σ' => v = cx_rb n ∧ σ' = (n - 1, us, cs, wr, so, ea, ro, od)) := by
  refine cx_ent (by decide) rfl (fun v _ _ => vp_nar_int v) (Nat.le_of_ble_eq_true rfl) ?_
  intro p e s m args below meth c ls Q A S hK hw hA hl ret
  have hx := S.1
  have hb := S.2.1
  have hts := S.2.2.2.2
  have hl : lv_has ls 1 [(0, .ref (ad 0))] := hl
  have S : CallFix p m c cX1_back 1 s args lw_all RX1 := S
  refine lv_aload_n hx hb dX1_back_0 rfl (lv_at hl 0 rfl) ?_
  refine cx1_gn S hK hw dX1_back_1 ?_
  refine cx_ifne_n (tgt := 9) hx hb dX1_back_4 (by decide) (by omega) (fun h4 => ?_) (fun h4 => ?_)
  · refine lv_aload_n hx hb dX1_back_9 rfl (lv_at hl 0 rfl) ?_
    refine lv_dup hx hb dX1_back_10 rfl ?_
    refine cx1_gn S hK hw dX1_back_11 ?_
    refine lv_iconst (v := nI 1) hx hb dX1_back_14 (by decide) ?_
    refine cx_isub hx hb dX1_back_15 (by omega) ?_
    refine cx1_pn S hK hw dX1_back_16 (fun H locs hw => ?_)
    refine lv_aload_n hx hb dX1_back_19 rfl (lv_at hl 0 rfl) ?_
    refine cx1_gn S hK hw dX1_back_20 ?_
    exact ret _ ((n - 1), us, cs, wr, so, ea, ro, od) _ _ _ _ dX1_back_23 hw (⟨(if_neg h4).symm, rfl⟩)
  · refine lv_iconst (v := -1) hx hb dX1_back_7 (by decide) ?_
    exact ret _ (n, us, cs, wr, so, ea, ro, od) _ _ _ _ dX1_back_8 hw (⟨(if_pos h4).symm, by rw [h4]⟩)
abbrev rm1_before : Room := { frames := 1, cells := 0, slots := 0, locals := 21 }
set_option maxHeartbeats 4000000 in
set_option maxRecDepth 100000 in
/-- before(a, b) -/
theorem k1_before (l : Launch) (D : va_G) (cI cZ : ClassId) (ad : Nat → Nat) {n : Nat} {us cs : Nat → Nat} {wr : Nat → Bool} {so ea : Nat → Nat} {ro : Nat → Bool} {od : Nat → Nat} (hV : cx_Va n us cs wr so ea) (hn : n ≤ 8) (a0 b0 : Int32) : cx_Ki l yX1_before cX1_before 3 (some .int) rm1_before D cI cZ (cx_w1 cI cZ ad) [.ref (ad 0), .int a0, .int b0] (n, us, cs, wr, so, ea, ro, od) (fun v σ' => cx_R2 n (fun k j => cx_bI ((ea j).testBit k)) a0 b0 v ∧ σ' = (n, us, cs, wr, so, ea, ro, od)) := by
  refine cx_ent (by decide) rfl (fun v _ _ => vp_nar_int v) (Nat.le_of_ble_eq_true rfl) ?_
  intro p e s m args below meth c ls Q A S hK hw hA hl ret
  have hx := S.1
  have hb := S.2.1
  have hts := S.2.2.2.2
  have hl : lv_has ls 3 [(0, .ref (ad 0)), (1, .int a0), (2, .int b0)] := hl
  have S : CallFix p m c cX1_before 3 s args lw_all RX1 := S
  have hU := hV.1
  have hC := hV.2.1
  have hS := hV.2.2.1
  have hE := hV.2.2.2.1
  refine lv_aload_n hx hb dX1_before_0 rfl (lv_at hl 0 rfl) ?_
  refine lv_iload_n hx hb dX1_before_1 rfl (lv_at hl 1 rfl) ?_
  refine cx_cali S (k1_missing l D cI cZ ad hn a0) (cwV 1 hts (lw_V q184 q186 qs12 q21 q187) rfl rfl rfl (by decide +kernel) ⟨Nat.le_of_ble_eq_true rfl, Nat.le_of_ble_eq_true rfl⟩) hK hw hA rfl rfl rfl rfl hl.1 rfl (Nat.le_of_ble_eq_true rfl) dX1_before_2 ⟨Nat.zero_le _, Nat.zero_le _⟩ (fun r2 σ1 H locs hp hw => ?_)
  obtain ⟨rfl, rfl⟩ := hp
  refine cx_ifne_b (tgt := 16) hx hb dX1_before_5 (by decide) (fun h5 => ?_) (fun h5 => ?_)
  · refine lv_iconst (v := -1) hx hb dX1_before_16 (by decide) ?_
    exact ret _ (n, us, cs, wr, so, ea, ro, od) _ _ _ _ dX1_before_17 hw (⟨Or.inr ⟨Or.inl (cx_B_iff.mp h5), rfl⟩, rfl⟩)
  · refine lv_aload_n hx hb dX1_before_8 rfl (lv_at hl 0 rfl) ?_
    refine lv_iload_n hx hb dX1_before_9 rfl (lv_at hl 2 rfl) ?_
    refine cx_cali S (k1_missing l D cI cZ ad hn b0) (cwV 1 hts (lw_V q184 q186 qs12 q21 q187) rfl rfl rfl (by decide +kernel) ⟨Nat.le_of_ble_eq_true rfl, Nat.le_of_ble_eq_true rfl⟩) hK hw hA rfl rfl rfl rfl hl.1 rfl (Nat.le_of_ble_eq_true rfl) dX1_before_10 ⟨Nat.zero_le _, Nat.zero_le _⟩ (fun r10 σ1 H locs hp hw => ?_)
    obtain ⟨rfl, rfl⟩ := hp
    refine cx_ifeq_b (tgt := 18) hx hb dX1_before_13 (by decide) (fun h13 => ?_) (fun h13 => ?_)
    · obtain ⟨k, hk, rfl⟩ := Classical.not_not.mp (cx_B_n h5)
      obtain ⟨j, hj, rfl⟩ := Classical.not_not.mp (cx_B_n h13)
      refine lv_aload_n hx hb dX1_before_18 rfl (lv_at hl 0 rfl) ?_
      refine cx1_gE S hK hw dX1_before_19 ?_
      refine lv_iload_n hx hb dX1_before_22 rfl (lv_at hl 2 rfl) ?_
      refine cx1_aE S hK hw (by omega) dX1_before_23 ?_
      have b23 := hE j
      refine lv_iload_n hx hb dX1_before_24 rfl (lv_at hl 1 rfl) ?_
      refine cx_ishr hx hb dX1_before_25 (by omega) (by omega) ?_
      refine lv_iconst (v := nI 1) hx hb dX1_before_26 (by decide) ?_
      refine cx_iand1 hx hb dX1_before_27 ?_
      exact ret _ (n, us, cs, wr, so, ea, ro, od) _ _ _ _ dX1_before_28 hw (⟨Or.inl ⟨k, j, hk, hj, rfl, rfl, rfl⟩, rfl⟩)
    · refine lv_iconst (v := -1) hx hb dX1_before_16 (by decide) ?_
      exact ret _ (n, us, cs, wr, so, ea, ro, od) _ _ _ _ dX1_before_17 hw (⟨Or.inr ⟨Or.inr (cx_B_iff.mp h13), rfl⟩, rfl⟩)
abbrev rm1_write : Room := { frames := 1, cells := 0, slots := 0, locals := 26 }
set_option maxHeartbeats 4000000 in
set_option maxRecDepth 100000 in
/-- write(x, y) -/
theorem k1_write (l : Launch) (D : va_G) (cI cZ : ClassId) (ad : Nat → Nat) {n : Nat} {us cs : Nat → Nat} {wr : Nat → Bool} {so ea : Nat → Nat} {ro : Nat → Bool} {od : Nat → Nat} (hV : cx_Va n us cs wr so ea) (hn : n ≤ 7) (x y : Int32) : cx_Ki l yX1_write cX1_write 3 (some .int) rm1_write D cI cZ (cx_w1 cI cZ ad) [.ref (ad 0), .int x, .int y] (n, us, cs, wr, so, ea, ro, od) (fun v σ' => (∃ u d, cx_wrP n x y u d ∧ v = nI n ∧ σ' = (n + 1, va_up us n u, va_up cs n d, va_up wr n true, va_up so n 8, va_up ea n (cx_en us ea u 8 n), ro, od)) ∨ ((¬ ∃ u d, cx_wrP n x y u d) ∧ v = -1 ∧ σ' = (n, us, cs, wr, so, ea, ro, od))) := by
  refine cx_ent (by decide) rfl (fun v _ _ => vp_nar_int v) (Nat.le_of_ble_eq_true rfl) ?_
  intro p e s m args below meth c ls Q A S hK hw hA hl ret
  have hx := S.1
  have hb := S.2.1
  have hts := S.2.2.2.2
  have hl : lv_has ls 3 [(0, .ref (ad 0)), (1, .int x), (2, .int y)] := hl
  have S : CallFix p m c cX1_write 3 s args lw_all RX1 := S
  have hU := hV.1
  have hC := hV.2.1
  have hS := hV.2.2.1
  have hE := hV.2.2.2.1
  refine lv_iload_n hx hb dX1_write_0 rfl (lv_at hl 1 rfl) ?_
  refine lv_iload_n hx hb dX1_write_1 rfl (lv_at hl 2 rfl) ?_
  refine cx_cals S (k1_badPlace l D cI cZ ad x y) (va_cwS 2 hts (lw_S q161 q162 q21 q163) rfl rfl rfl (by decide +kernel) ⟨Nat.le_of_ble_eq_true rfl, Nat.le_of_ble_eq_true rfl⟩) hK hw hA rfl hl.1 rfl (Nat.le_of_ble_eq_true rfl) dX1_write_2 ⟨Nat.zero_le _, Nat.zero_le _⟩ (fun r2 σ1 H locs hp hw => ?_)
  obtain ⟨rfl, rfl⟩ := hp
  refine cx_ifne_b (tgt := 17) hx hb dX1_write_5 (by decide) (fun h5 => ?_) (fun h5 => ?_)
  · refine lv_iconst (v := -1) hx hb dX1_write_17 (by decide) ?_
    exact ret _ (n, us, cs, wr, so, ea, ro, od) _ _ _ _ dX1_write_18 hw (Or.inr ⟨fun z => cx_B_iff.mp h5 (cx_wrP_pl z).1, rfl, rfl⟩)
  · refine lv_aload_n hx hb dX1_write_8 rfl (lv_at hl 0 rfl) ?_
    refine cx1_gn S hK hw dX1_write_9 ?_
    refine lv_bipush (v := nI 7) hx hb dX1_write_12 (by decide) ?_
    refine cx_icmp_ne (tgt := 19) hx hb dX1_write_14 (by decide) (by omega) (by omega) (fun h14 => ?_) (fun h14 => ?_)
    · obtain ⟨u, d, hu, hd, rfl, rfl⟩ := Classical.not_not.mp (cx_B_n h5)
      refine lv_aload_n hx hb dX1_write_19 rfl (lv_at hl 0 rfl) ?_
      refine lv_iload_n hx hb dX1_write_20 rfl (lv_at hl 1 rfl) ?_
      refine lv_iload_n hx hb dX1_write_21 rfl (lv_at hl 2 rfl) ?_
      refine lv_iconst (v := nI 1) hx hb dX1_write_22 (by decide) ?_
      refine cx_top (y := cx_bI true) (by decide) ?_
      refine lv_iconst (v := cx_sI 8) hx hb dX1_write_23 (by decide) ?_
      refine cx_calv S (k1_put l D cI cZ ad hn hU hu (Nat.le_refl 8) (fun _ => rfl)) (cwV 4 hts (lw_V q164 q166 qs10 q21 q167) rfl rfl rfl (by decide +kernel) ⟨Nat.le_of_ble_eq_true rfl, Nat.le_of_ble_eq_true rfl⟩) hK hw hA rfl rfl rfl rfl hl.1 rfl (Nat.le_of_ble_eq_true rfl) dX1_write_24 ⟨Nat.zero_le _, Nat.zero_le _⟩ (fun σ1 H locs hp hw => ?_)
      subst hp
      refine lv_aload_n hx hb dX1_write_27 rfl (lv_at hl 0 rfl) ?_
      refine lv_dup hx hb dX1_write_28 rfl ?_
      refine cx1_gn S hK hw dX1_write_29 ?_
      refine lv_iconst (v := nI 1) hx hb dX1_write_32 (by decide) ?_
      refine cx_iadd hx hb dX1_write_33 ?_
      refine cx1_pn S hK hw dX1_write_34 (fun H locs hw => ?_)
      refine lv_aload_n hx hb dX1_write_37 rfl (lv_at hl 0 rfl) ?_
      refine cx1_gn S hK hw dX1_write_38 ?_
      refine lv_iconst (v := nI 1) hx hb dX1_write_41 (by decide) ?_
      refine cx_isub hx hb dX1_write_42 (by omega) ?_
      exact ret _ ((n + 1), (va_up us n u), (va_up cs n d), (va_up wr n true), (va_up so n 8), (va_up ea n (cx_en us ea u 8 n)), ro, od) _ _ _ _ dX1_write_43 hw (Or.inl ⟨u, d, ⟨by omega, hu, hd, rfl, rfl⟩, rfl, rfl⟩)
    · refine lv_iconst (v := -1) hx hb dX1_write_17 (by decide) ?_
      exact ret _ (n, us, cs, wr, so, ea, ro, od) _ _ _ _ dX1_write_18 hw (Or.inr ⟨fun z => absurd (cx_wrP_pl z).2 (by omega), rfl, rfl⟩)
abbrev rm1_read : Room := { frames := 1, cells := 0, slots := 0, locals := 26 }
set_option maxHeartbeats 4000000 in
set_option maxRecDepth 100000 in
/-- read(x, y, z) -/
theorem k1_read (l : Launch) (D : va_G) (cI cZ : ClassId) (ad : Nat → Nat) {n : Nat} {us cs : Nat → Nat} {wr : Nat → Bool} {so ea : Nat → Nat} {ro : Nat → Bool} {od : Nat → Nat} (hV : cx_Va n us cs wr so ea) (hn : n ≤ 7) (x y z : Int32) : cx_Ki l yX1_read cX1_read 4 (some .int) rm1_read D cI cZ (cx_w1 cI cZ ad) [.ref (ad 0), .int x, .int y, .int z] (n, us, cs, wr, so, ea, ro, od) (fun v σ' => (∃ u d t, cx_rdP n cs wr x y z u d t ∧ v = nI n ∧ σ' = (n + 1, va_up us n u, va_up cs n d, va_up wr n false, va_up so n t, va_up ea n (cx_en us ea u t n), ro, od)) ∨ ((¬ ∃ u d t, cx_rdP n cs wr x y z u d t) ∧ v = -1 ∧ σ' = (n, us, cs, wr, so, ea, ro, od))) := by
  refine cx_ent (by decide) rfl (fun v _ _ => vp_nar_int v) (Nat.le_of_ble_eq_true rfl) ?_
  intro p e s m args below meth c ls Q A S hK hw hA hl ret
  have hx := S.1
  have hb := S.2.1
  have hts := S.2.2.2.2
  have hl : lv_has ls 4 [(0, .ref (ad 0)), (1, .int x), (2, .int y), (3, .int z)] := hl
  have S : CallFix p m c cX1_read 4 s args lw_all RX1 := S
  have hU := hV.1
  have hC := hV.2.1
  have hS := hV.2.2.1
  have hE := hV.2.2.2.1
  refine lv_iload_n hx hb dX1_read_0 rfl (lv_at hl 1 rfl) ?_
  refine lv_iload_n hx hb dX1_read_1 rfl (lv_at hl 2 rfl) ?_
  refine cx_cals S (k1_badPlace l D cI cZ ad x y) (va_cwS 2 hts (lw_S q161 q162 q21 q163) rfl rfl rfl (by decide +kernel) ⟨Nat.le_of_ble_eq_true rfl, Nat.le_of_ble_eq_true rfl⟩) hK hw hA rfl hl.1 rfl (Nat.le_of_ble_eq_true rfl) dX1_read_2 ⟨Nat.zero_le _, Nat.zero_le _⟩ (fun r2 σ1 H locs hp hw => ?_)
  obtain ⟨rfl, rfl⟩ := hp
  refine cx_ifne_b (tgt := 26) hx hb dX1_read_5 (by decide) (fun h5 => ?_) (fun h5 => ?_)
  · refine lv_iconst (v := -1) hx hb dX1_read_26 (by decide) ?_
    exact ret _ (n, us, cs, wr, so, ea, ro, od) _ _ _ _ dX1_read_27 hw (Or.inr ⟨fun q => cx_B_iff.mp h5 (cx_rdP_pl q).1, rfl, rfl⟩)
  · refine lv_aload_n hx hb dX1_read_8 rfl (lv_at hl 0 rfl) ?_
    refine cx1_gn S hK hw dX1_read_9 ?_
    refine lv_bipush (v := nI 7) hx hb dX1_read_12 (by decide) ?_
    refine cx_icmp_eq (tgt := 26) hx hb dX1_read_14 (by decide) (by omega) (by omega) (fun h14 => ?_) (fun h14 => ?_)
    · refine lv_iconst (v := -1) hx hb dX1_read_26 (by decide) ?_
      exact ret _ (n, us, cs, wr, so, ea, ro, od) _ _ _ _ dX1_read_27 hw (Or.inr ⟨fun q => absurd (cx_rdP_pl q).2 (by omega), rfl, rfl⟩)
    · obtain ⟨u, d, hu, hd, rfl, rfl⟩ := Classical.not_not.mp (cx_B_n h5)
      refine lv_aload_n hx hb dX1_read_17 rfl (lv_at hl 0 rfl) ?_
      refine lv_iload_n hx hb dX1_read_18 rfl (lv_at hl 2 rfl) ?_
      refine lv_iload_n hx hb dX1_read_19 rfl (lv_at hl 3 rfl) ?_
      refine cx_cali S (k1_noSource l D cI cZ ad (by omega) hC hd z) (cwV 2 hts (lw_V q172 q174 qs11 q21 q175) rfl rfl rfl (by decide +kernel) ⟨Nat.le_of_ble_eq_true rfl, Nat.le_of_ble_eq_true rfl⟩) hK hw hA rfl rfl rfl rfl hl.1 rfl (Nat.le_of_ble_eq_true rfl) dX1_read_20 ⟨Nat.zero_le _, Nat.zero_le _⟩ (fun r20 σ1 H locs hp hw => ?_)
      obtain ⟨rfl, rfl⟩ := hp
      refine cx_ifeq_b (tgt := 28) hx hb dX1_read_23 (by decide) (fun h23 => ?_) (fun h23 => ?_)
      · obtain ⟨t, ht, rfl, htc⟩ := cx_sk_s (by omega) (Classical.not_not.mp (cx_B_n h23))
        refine lv_aload_n hx hb dX1_read_28 rfl (lv_at hl 0 rfl) ?_
        refine lv_iload_n hx hb dX1_read_29 rfl (lv_at hl 1 rfl) ?_
        refine lv_iload_n hx hb dX1_read_30 rfl (lv_at hl 2 rfl) ?_
        refine lv_iconst (v := nI 0) hx hb dX1_read_31 (by decide) ?_
        refine cx_top (y := cx_bI false) (by decide) ?_
        refine lv_iload_n hx hb dX1_read_32 rfl (lv_at hl 3 rfl) ?_
        refine cx_calv S (k1_put l D cI cZ ad hn hU hu ht (fun z => Bool.noConfusion z)) (cwV 4 hts (lw_V q164 q166 qs10 q21 q167) rfl rfl rfl (by decide +kernel) ⟨Nat.le_of_ble_eq_true rfl, Nat.le_of_ble_eq_true rfl⟩) hK hw hA rfl rfl rfl rfl hl.1 rfl (Nat.le_of_ble_eq_true rfl) dX1_read_33 ⟨Nat.zero_le _, Nat.zero_le _⟩ (fun σ1 H locs hp hw => ?_)
        subst hp
        refine lv_aload_n hx hb dX1_read_36 rfl (lv_at hl 0 rfl) ?_
        refine lv_dup hx hb dX1_read_37 rfl ?_
        refine cx1_gn S hK hw dX1_read_38 ?_
        refine lv_iconst (v := nI 1) hx hb dX1_read_41 (by decide) ?_
        refine cx_iadd hx hb dX1_read_42 ?_
        refine cx1_pn S hK hw dX1_read_43 (fun H locs hw => ?_)
        refine lv_aload_n hx hb dX1_read_46 rfl (lv_at hl 0 rfl) ?_
        refine cx1_gn S hK hw dX1_read_47 ?_
        refine lv_iconst (v := nI 1) hx hb dX1_read_50 (by decide) ?_
        refine cx_isub hx hb dX1_read_51 (by omega) ?_
        exact ret _ ((n + 1), (va_up us n u), (va_up cs n d), (va_up wr n false), (va_up so n t), (va_up ea n (cx_en us ea u t n)), ro, od) _ _ _ _ dX1_read_52 hw (Or.inl ⟨u, d, t, ⟨by omega, hu, hd, rfl, rfl, ht, rfl, htc⟩, rfl, rfl⟩)
      · refine lv_iconst (v := -1) hx hb dX1_read_26 (by decide) ?_
        exact ret _ (n, us, cs, wr, so, ea, ro, od) _ _ _ _ dX1_read_27 hw (Or.inr ⟨fun q => cx_B_iff.mp h23 (cx_rdP_sk hd q), rfl, rfl⟩)
end
section
/-! CausalCheckModel: what the law calls: sound, choices (printed by gen/x1d.py) -/
theorem cx_q0 {a x : Nat} : a ||| cx_q false x = a := Nat.or_zero a
abbrev rm1_sound : Room := { frames := 3, cells := 0, slots := 0, locals := 74 }
set_option maxHeartbeats 4000000 in
set_option maxRecDepth 100000 in
/-- sound() -/
theorem k1_sound (l : Launch) (D : va_G) (cI cZ : ClassId) (ad : Nat → Nat) {n : Nat} {us cs : Nat → Nat} {wr : Nat → Bool} {so ea : Nat → Nat} {ro : Nat → Bool} {od : Nat → Nat} (hV : cx_Va n us cs wr so ea) (hn : n ≤ 7) : cx_Ki l yX1_sound cX1_sound 4 (some .int) rm1_sound D cI cZ (cx_w1 cI cZ ad) [.ref (ad 0)] (n, us, cs, wr, so, ea, ro, od) (fun v σ' => v = nI (cx_sd n us cs wr so ea) ∧ ∃ ro' od', σ' = (n, us, cs, wr, so, ea, ro', od')) := by
  refine cx_ent (by decide) rfl (fun v _ _ => vp_nar_int v) (Nat.le_of_ble_eq_true rfl) ?_
  intro p e s m args below meth c ls Q A S hK hw hA hl ret
  have hx := S.1
  have hb := S.2.1
  have hts := S.2.2.2.2
  have hl : lv_has ls 4 [(0, .ref (ad 0))] := hl
  have S : CallFix p m c cX1_sound 4 s args lw_all RX1 := S
  refine lv_iconst (v := nI 1) hx hb dX1_sound_0 (by decide) ?_
  refine cx_top (y := cx_bI true) (by decide) ?_
  refine lv_istore_n (lv' := [(1, .int (cx_bI true)), (0, .ref (ad 0))]) hx hb dX1_sound_1 rfl hl (by decide) rfl (fun ls hl => ?_)
  refine lv_iconst (v := nI 1) hx hb dX1_sound_2 (by decide) ?_
  refine cx_top (y := cx_bI true) (by decide) ?_
  refine lv_istore_n (lv' := [(2, .int (cx_bI true)), (1, .int (cx_bI true)), (0, .ref (ad 0))]) hx hb dX1_sound_3 rfl hl (by decide) rfl (fun ls hl => ?_)
  refine lv_iconst (v := nI 0) hx hb dX1_sound_4 (by decide) ?_
  refine lv_istore_n (lv' := [(3, .int (nI 0)), (2, .int (cx_bI true)), (1, .int (cx_bI true)), (0, .ref (ad 0))]) hx hb dX1_sound_5 rfl hl (by decide) rfl (fun ls hl => ?_)
  have L6 : ∀ (k : Nat) (o : Nat) (a : Bool) (b : Bool) (ro1 : Nat → Bool) (H : Heap) (locs : List Loc) (ls : Array Slot), n - o < k → o ≤ n → (a = true ↔ ∀ k, k < o → cx_WK cs wr so ea k) → (b = true ↔ ∀ k, k < o → cx_SK us cs wr so ea k) → cx_H D cx_Cl (cx_w1 cI cZ ad (n, us, cs, wr, so, ea, ro1, od)) A s.heap H locs → lv_has ls 4 [(3, .int (nI o)), (2, .int (cx_bI b)), (1, .int (cx_bI a)), (0, .ref (ad 0))] → W p l e rm1_sound s m args below meth c H locs 0 0 Q (F0 m 6 ls []) := by
    intro k
    induction k with
    | zero => intro o a b ro1 H locs ls hme; exact absurd hme (Nat.not_lt_zero _)
    | succ k ihL6 =>
      intro o a b ro1 H locs ls hme hon ha hb2 hw hl
      refine lv_iload_n hx hb dX1_sound_6 rfl (lv_at hl 0 rfl) ?_
      refine lv_aload_n hx hb dX1_sound_7 rfl (lv_at hl 3 rfl) ?_
      refine cx1_gn S hK hw dX1_sound_8 ?_
      refine cx_icmp_ge (tgt := 40) hx hb dX1_sound_11 (by decide) (by omega) (by omega) (fun h11 => ?_) (fun h11 => ?_)
      · have e48 : o = n := by omega
        rw [e48] at ha hb2
        refine lv_iload_n hx hb dX1_sound_40 rfl (lv_at hl 2 rfl) ?_
        have J49 : W p l e rm1_sound s m args below meth c H locs 0 0 Q (F0 m 49 ls [.int (nI (cx_q a 1))]) := by
          refine lv_iload_n hx hb dX1_sound_49 rfl (lv_at hl 1 rfl) ?_
          have J58 : W p l e rm1_sound s m args below meth c H locs 0 0 Q (F0 m 58 ls [.int (nI (cx_q b 2)), .int (nI (cx_q a 1))]) := by
            refine cx_iadd hx hb dX1_sound_58 ?_
            refine lv_aload_n hx hb dX1_sound_59 rfl (lv_at hl 3 rfl) ?_
            refine lv_aload_n hx hb dX1_sound_60 rfl (lv_at hl 3 rfl) ?_
            refine cx1_gn S hK hw dX1_sound_61 ?_
            refine cx_cali S (k1_converges l D cI cZ ad hV (by omega) (Or.inl rfl)) (cwV 1 hts (lw_V q210 q212 qs15 q21 q213) rfl rfl rfl (by decide +kernel) ⟨Nat.le_of_ble_eq_true rfl, Nat.le_of_ble_eq_true rfl⟩) hK hw hA rfl rfl rfl rfl hl.1 rfl (Nat.le_of_ble_eq_true rfl) dX1_sound_64 ⟨Nat.zero_le _, Nat.zero_le _⟩ (fun r64 σ1 H locs hp hw => ?_)
            obtain ⟨hr9, od2, rfl⟩ := hp
            obtain ⟨Z, hZ9⟩ : ∃ Z, Z = cx_B (cx_Cv n cs wr so ea) := ⟨_, rfl⟩
            rw [← hZ9] at hr9
            subst hr9
            have J75 : W p l e rm1_sound s m args below meth c H locs 0 0 Q (F0 m 75 ls [.int (nI (cx_q Z 4)), .int (nI ((cx_q a 1) + (cx_q b 2)))]) := by
              refine cx_iadd hx hb dX1_sound_75 ?_
              exact ret _ (n, us, cs, wr, so, ea, ro1, od2) _ _ _ _ dX1_sound_76 hw (⟨by unfold cx_sd; rw [← cx_B_of ha, ← cx_B_of hb2, ← hZ9], _, _, rfl⟩)
            refine cx_ifeq_b (tgt := 74) hx hb dX1_sound_67 (by decide) (fun h67 => ?_) (fun h67 => ?_)
            · refine lv_iconst (v := nI 0) hx hb dX1_sound_74 (by decide) ?_
              exact cx_top (by simp [h67, cx_q]) J75
            · refine lv_iconst (v := nI 4) hx hb dX1_sound_70 (by decide) ?_
              refine lv_goto (tgt := 75) hx hb dX1_sound_71 (by decide) ?_
              exact cx_top (by simp [h67, cx_q]) J75
          refine cx_ifeq_b (tgt := 57) hx hb dX1_sound_50 (by decide) (fun h50 => ?_) (fun h50 => ?_)
          · refine lv_iconst (v := nI 0) hx hb dX1_sound_57 (by decide) ?_
            exact cx_top (by simp [h50, cx_q]) J58
          · refine lv_iconst (v := nI 2) hx hb dX1_sound_53 (by decide) ?_
            refine lv_goto (tgt := 58) hx hb dX1_sound_54 (by decide) ?_
            exact cx_top (by simp [h50, cx_q]) J58
        refine cx_ifeq_b (tgt := 48) hx hb dX1_sound_41 (by decide) (fun h41 => ?_) (fun h41 => ?_)
        · refine lv_iconst (v := nI 0) hx hb dX1_sound_48 (by decide) ?_
          exact cx_top (by simp [h41, cx_q]) J49
        · refine lv_iconst (v := nI 1) hx hb dX1_sound_44 (by decide) ?_
          refine lv_goto (tgt := 49) hx hb dX1_sound_45 (by decide) ?_
          exact cx_top (by simp [h41, cx_q]) J49
      · refine lv_aload_n hx hb dX1_sound_14 rfl (lv_at hl 3 rfl) ?_
        refine lv_iload_n hx hb dX1_sound_15 rfl (lv_at hl 0 rfl) ?_
        refine cx_cali S (k1_weak l D cI cZ ad hV hn (nI o)) (cwV 1 hts (lw_V q208 q189 q190 q21 q191) rfl rfl rfl (by decide +kernel) ⟨Nat.le_of_ble_eq_true rfl, Nat.le_of_ble_eq_true rfl⟩) hK hw hA rfl rfl rfl rfl hl.1 rfl (Nat.le_of_ble_eq_true rfl) dX1_sound_16 ⟨Nat.zero_le _, Nat.zero_le _⟩ (fun r16 σ1 H locs hp hw => ?_)
        obtain ⟨hr9, ro2, rfl⟩ := hp
        have hr9 : r16 = cx_bI (cx_B (cx_WK cs wr so ea o)) := cx_R1_at h11 (by omega) hr9
        obtain ⟨X, hX9⟩ : ∃ X, X = cx_B (cx_WK cs wr so ea o) := ⟨_, rfl⟩
        have hX : X = true ↔ cx_WK cs wr so ea o := by rw [hX9]; exact cx_B_iff
        rw [← hX9] at hr9
        subst hr9
        refine cx_ifne_b (tgt := 24) hx hb dX1_sound_19 (by decide) (fun h19 => ?_) (fun h19 => ?_)
        · have hl : lv_has ls 4 [(3, .int (nI o)), (2, .int (cx_bI b)), (1, .int (cx_bI (a && X))), (0, .ref (ad 0))] := by rw [h19, Bool.and_true]; exact hl
          refine lv_aload_n hx hb dX1_sound_24 rfl (lv_at hl 3 rfl) ?_
          refine lv_iload_n hx hb dX1_sound_25 rfl (lv_at hl 0 rfl) ?_
          refine cx_cali S (k1_strong l D cI cZ ad hV hn (nI o)) (cwV 1 hts (lw_V q209 q201 q202 q21 q203) rfl rfl rfl (by decide +kernel) ⟨Nat.le_of_ble_eq_true rfl, Nat.le_of_ble_eq_true rfl⟩) hK hw hA rfl rfl rfl rfl hl.1 rfl (Nat.le_of_ble_eq_true rfl) dX1_sound_26 ⟨Nat.zero_le _, Nat.zero_le _⟩ (fun r26 σ1 H locs hp hw => ?_)
          obtain ⟨hr9, ro3, rfl⟩ := hp
          have hr9 : r26 = cx_bI (cx_B (cx_SK us cs wr so ea o)) := cx_R1_at h11 (by omega) hr9
          obtain ⟨Y, hY9⟩ : ∃ X, X = cx_B (cx_SK us cs wr so ea o) := ⟨_, rfl⟩
          have hY : Y = true ↔ cx_SK us cs wr so ea o := by rw [hY9]; exact cx_B_iff
          rw [← hY9] at hr9
          subst hr9
          refine cx_ifne_b (tgt := 34) hx hb dX1_sound_29 (by decide) (fun h29 => ?_) (fun h29 => ?_)
          · have hl : lv_has ls 4 [(3, .int (nI o)), (2, .int (cx_bI (b && Y))), (1, .int (cx_bI (a && X))), (0, .ref (ad 0))] := by rw [h29, Bool.and_true]; exact hl
            refine lv_iinc (v := (nI (o + 1))) (lv' := [(3, .int (nI (o + 1))), (2, .int (cx_bI (b && Y))), (1, .int (cx_bI (a && X))), (0, .ref (ad 0))]) hx hb dX1_sound_34 hl (k := 0) rfl (cx_inc1 _) (by decide) rfl (fun ls hl => ?_)
            refine lv_goto (tgt := 6) hx hb dX1_sound_37 (by decide) ?_
            exact ihL6 (o + 1) (a && X) (b && Y) ro3 _ _ _ (by omega) (by omega) (cx_all_s ha hX) (cx_all_s hb2 hY) hw (lv_sub hl [0, 1, 2, 3] rfl)
          · refine lv_iconst (v := nI 0) hx hb dX1_sound_32 (by decide) ?_
            refine cx_top (y := cx_bI false) (by decide) ?_
            refine lv_istore_n (lv' := [(2, .int (cx_bI false)), (3, .int (nI o)), (1, .int (cx_bI (a && X))), (0, .ref (ad 0))]) hx hb dX1_sound_33 rfl hl (by decide) rfl (fun ls hl => ?_)
            have hl : lv_has ls 4 [(2, .int (cx_bI (b && Y))), (3, .int (nI o)), (1, .int (cx_bI (a && X))), (0, .ref (ad 0))] := by rw [h29, Bool.and_false]; exact hl
            refine lv_iinc (v := (nI (o + 1))) (lv' := [(3, .int (nI (o + 1))), (2, .int (cx_bI (b && Y))), (1, .int (cx_bI (a && X))), (0, .ref (ad 0))]) hx hb dX1_sound_34 hl (k := 1) rfl (cx_inc1 _) (by decide) rfl (fun ls hl => ?_)
            refine lv_goto (tgt := 6) hx hb dX1_sound_37 (by decide) ?_
            exact ihL6 (o + 1) (a && X) (b && Y) ro3 _ _ _ (by omega) (by omega) (cx_all_s ha hX) (cx_all_s hb2 hY) hw (lv_sub hl [0, 1, 2, 3] rfl)
        · refine lv_iconst (v := nI 0) hx hb dX1_sound_22 (by decide) ?_
          refine cx_top (y := cx_bI false) (by decide) ?_
          refine lv_istore_n (lv' := [(1, .int (cx_bI false)), (3, .int (nI o)), (2, .int (cx_bI b)), (0, .ref (ad 0))]) hx hb dX1_sound_23 rfl hl (by decide) rfl (fun ls hl => ?_)
          have hl : lv_has ls 4 [(1, .int (cx_bI (a && X))), (3, .int (nI o)), (2, .int (cx_bI b)), (0, .ref (ad 0))] := by rw [h19, Bool.and_false]; exact hl
          refine lv_aload_n hx hb dX1_sound_24 rfl (lv_at hl 3 rfl) ?_
          refine lv_iload_n hx hb dX1_sound_25 rfl (lv_at hl 1 rfl) ?_
          refine cx_cali S (k1_strong l D cI cZ ad hV hn (nI o)) (cwV 1 hts (lw_V q209 q201 q202 q21 q203) rfl rfl rfl (by decide +kernel) ⟨Nat.le_of_ble_eq_true rfl, Nat.le_of_ble_eq_true rfl⟩) hK hw hA rfl rfl rfl rfl hl.1 rfl (Nat.le_of_ble_eq_true rfl) dX1_sound_26 ⟨Nat.zero_le _, Nat.zero_le _⟩ (fun r26 σ1 H locs hp hw => ?_)
          obtain ⟨hr9, ro3, rfl⟩ := hp
          have hr9 : r26 = cx_bI (cx_B (cx_SK us cs wr so ea o)) := cx_R1_at h11 (by omega) hr9
          obtain ⟨Y, hY9⟩ : ∃ X, X = cx_B (cx_SK us cs wr so ea o) := ⟨_, rfl⟩
          have hY : Y = true ↔ cx_SK us cs wr so ea o := by rw [hY9]; exact cx_B_iff
          rw [← hY9] at hr9
          subst hr9
          refine cx_ifne_b (tgt := 34) hx hb dX1_sound_29 (by decide) (fun h29 => ?_) (fun h29 => ?_)
          · have hl : lv_has ls 4 [(1, .int (cx_bI (a && X))), (3, .int (nI o)), (2, .int (cx_bI (b && Y))), (0, .ref (ad 0))] := by rw [h29, Bool.and_true]; exact hl
            refine lv_iinc (v := (nI (o + 1))) (lv' := [(3, .int (nI (o + 1))), (1, .int (cx_bI (a && X))), (2, .int (cx_bI (b && Y))), (0, .ref (ad 0))]) hx hb dX1_sound_34 hl (k := 1) rfl (cx_inc1 _) (by decide) rfl (fun ls hl => ?_)
            refine lv_goto (tgt := 6) hx hb dX1_sound_37 (by decide) ?_
            exact ihL6 (o + 1) (a && X) (b && Y) ro3 _ _ _ (by omega) (by omega) (cx_all_s ha hX) (cx_all_s hb2 hY) hw (lv_sub hl [0, 2, 1, 3] rfl)
          · refine lv_iconst (v := nI 0) hx hb dX1_sound_32 (by decide) ?_
            refine cx_top (y := cx_bI false) (by decide) ?_
            refine lv_istore_n (lv' := [(2, .int (cx_bI false)), (1, .int (cx_bI (a && X))), (3, .int (nI o)), (0, .ref (ad 0))]) hx hb dX1_sound_33 rfl hl (by decide) rfl (fun ls hl => ?_)
            have hl : lv_has ls 4 [(2, .int (cx_bI (b && Y))), (1, .int (cx_bI (a && X))), (3, .int (nI o)), (0, .ref (ad 0))] := by rw [h29, Bool.and_false]; exact hl
            refine lv_iinc (v := (nI (o + 1))) (lv' := [(3, .int (nI (o + 1))), (2, .int (cx_bI (b && Y))), (1, .int (cx_bI (a && X))), (0, .ref (ad 0))]) hx hb dX1_sound_34 hl (k := 2) rfl (cx_inc1 _) (by decide) rfl (fun ls hl => ?_)
            refine lv_goto (tgt := 6) hx hb dX1_sound_37 (by decide) ?_
            exact ihL6 (o + 1) (a && X) (b && Y) ro3 _ _ _ (by omega) (by omega) (cx_all_s ha hX) (cx_all_s hb2 hY) hw (lv_sub hl [0, 1, 2, 3] rfl)
  exact L6 _ 0 true true ro _ _ _ (Nat.lt_succ_self _) (by omega) cx_all_0 cx_all_0 hw (lv_sub hl [0, 1, 2, 3] rfl)
abbrev rm1_choices : Room := { frames := 2, cells := 0, slots := 0, locals := 51 }
set_option maxHeartbeats 4000000 in
set_option maxRecDepth 100000 in
/-- choices(x, y) -/
theorem k1_choices (l : Launch) (D : va_G) (cI cZ : ClassId) (ad : Nat → Nat) {n : Nat} {us cs : Nat → Nat} {wr : Nat → Bool} {so ea : Nat → Nat} {ro : Nat → Bool} {od : Nat → Nat} (hV : cx_Va n us cs wr so ea) (hn : n ≤ 7) (x y : Int32) : cx_Ki l yX1_choices cX1_choices 5 (some .int) rm1_choices D cI cZ (cx_w1 cI cZ ad) [.ref (ad 0), .int x, .int y] (n, us, cs, wr, so, ea, ro, od) (fun v σ' => (∃ u d us' cs' wr' so' ea' set od', (u < 3 ∧ d < 2 ∧ x = nI u ∧ y = nI d) ∧ cx_ch n u d (n + 1) ((us, cs, wr, so, ea), 0) = ((us', cs', wr', so', ea'), set) ∧ cx_Va n us' cs' wr' so' ea' ∧ v = nI set ∧ σ' = (n, us', cs', wr', so', ea', ro, od')) ∨ (¬ cx_pl x y ∧ v = -1 ∧ σ' = (n, us, cs, wr, so, ea, ro, od))) := by
  refine cx_ent (by decide) rfl (fun v _ _ => vp_nar_int v) (Nat.le_of_ble_eq_true rfl) ?_
  intro p e s m args below meth c ls Q A S hK hw hA hl ret
  have hx := S.1
  have hb := S.2.1
  have hts := S.2.2.2.2
  have hl : lv_has ls 5 [(0, .ref (ad 0)), (1, .int x), (2, .int y)] := hl
  have S : CallFix p m c cX1_choices 5 s args lw_all RX1 := S
  refine lv_iload_n hx hb dX1_choices_0 rfl (lv_at hl 1 rfl) ?_
  refine lv_iload_n hx hb dX1_choices_1 rfl (lv_at hl 2 rfl) ?_
  refine cx_cals S (k1_badPlace l D cI cZ ad x y) (va_cwS 2 hts (lw_S q161 q162 q21 q163) rfl rfl rfl (by decide +kernel) ⟨Nat.le_of_ble_eq_true rfl, Nat.le_of_ble_eq_true rfl⟩) hK hw hA rfl hl.1 rfl (Nat.le_of_ble_eq_true rfl) dX1_choices_2 ⟨Nat.zero_le _, Nat.zero_le _⟩ (fun r2 σ1 H locs hp hw => ?_)
  obtain ⟨rfl, rfl⟩ := hp
  refine cx_ifeq_b (tgt := 10) hx hb dX1_choices_5 (by decide) (fun h5 => ?_) (fun h5 => ?_)
  · obtain ⟨u, d, hu, hd, rfl, rfl⟩ := Classical.not_not.mp (cx_B_n h5)
    refine lv_iconst (v := nI 0) hx hb dX1_choices_10 (by decide) ?_
    refine lv_istore_n (lv' := [(3, .int (nI 0)), (0, .ref (ad 0)), (1, .int (nI u)), (2, .int (nI d))]) hx hb dX1_choices_11 rfl hl (by decide) rfl (fun ls hl => ?_)
    refine lv_iconst (v := cx_sI 8) hx hb dX1_choices_12 (by decide) ?_
    refine cx_top (y := cx_sI (cx_st 0)) rfl ?_
    refine lv_istore (lv' := [(4, .int (cx_sI (cx_st 0))), (3, .int (nI 0)), (0, .ref (ad 0)), (1, .int (nI u)), (2, .int (nI d))]) hx hb dX1_choices_13 hl (by decide) rfl (fun ls hl => ?_)
    have L15 : ∀ (k : Nat) (i : Nat) (us1 : Nat → Nat) (cs1 : Nat → Nat) (wr1 : Nat → Bool) (so1 : Nat → Nat) (ea1 : Nat → Nat) (od1 : Nat → Nat) (set : Nat) (H : Heap) (locs : List Loc) (ls : Array Slot), n + 1 - i < k → i ≤ n + 1 → cx_ch n u d i ((us, cs, wr, so, ea), 0) = ((us1, cs1, wr1, so1, ea1), set) → cx_Va n us1 cs1 wr1 so1 ea1 → cx_H D cx_Cl (cx_w1 cI cZ ad (n, us1, cs1, wr1, so1, ea1, ro, od1)) A s.heap H locs → lv_has ls 5 [(4, .int (cx_sI (cx_st i))), (3, .int (nI set)), (2, .int (nI d)), (1, .int (nI u)), (0, .ref (ad 0))] → W p l e rm1_choices s m args below meth c H locs 0 0 Q (F0 m 15 ls []) := by
      intro k
      induction k with
      | zero => intro i us1 cs1 wr1 so1 ea1 od1 set H locs ls hme; exact absurd hme (Nat.not_lt_zero _)
      | succ k ihL15 =>
        intro i us1 cs1 wr1 so1 ea1 od1 set H locs ls hme hin hq hV1 hw hl
        refine lv_iload hx hb dX1_choices_15 (lv_at hl 0 rfl) ?_
        refine lv_aload_n hx hb dX1_choices_17 rfl (lv_at hl 4 rfl) ?_
        refine cx1_gn S hK hw dX1_choices_18 ?_
        refine lv_icmp_ge (tgt := 80) hx hb dX1_choices_21 (by decide) (fun h21 => ?_) (fun h21 => ?_)
        · refine lv_iload_n hx hb dX1_choices_80 rfl (lv_at hl 1 rfl) ?_
          have e81 : i = n + 1 := by have := (cx_st_ge hn hin).mp h21; omega
          rw [e81] at hq
          exact ret _ (n, us1, cs1, wr1, so1, ea1, ro, od1) _ _ _ _ dX1_choices_81 hw (Or.inl ⟨u, d, us1, cs1, wr1, so1, ea1, set, od1, ⟨hu, hd, rfl, rfl⟩, hq, hV1, rfl, rfl⟩)
        · have hi9 : i < n + 1 := Nat.lt_of_not_le (fun z => h21 ((cx_st_ge hn hin).mpr z))
          refine lv_aload_n hx hb dX1_choices_24 rfl (lv_at hl 4 rfl) ?_
          refine lv_iload_n hx hb dX1_choices_25 rfl (lv_at hl 2 rfl) ?_
          refine lv_iload hx hb dX1_choices_26 (lv_at hl 0 rfl) ?_
          refine cx_cali S (k1_noSource l D cI cZ ad (by omega) hV1.2.1 hd (cx_sI (cx_st i))) (cwV 2 hts (lw_V q172 q174 qs11 q21 q175) rfl rfl rfl (by decide +kernel) ⟨Nat.le_of_ble_eq_true rfl, Nat.le_of_ble_eq_true rfl⟩) hK hw hA rfl rfl rfl rfl hl.1 rfl (Nat.le_of_ble_eq_true rfl) dX1_choices_28 ⟨Nat.zero_le _, Nat.zero_le _⟩ (fun r28 σ1 H locs hp hw => ?_)
          obtain ⟨rfl, rfl⟩ := hp
          refine cx_ifne_b (tgt := 74) hx hb dX1_choices_31 (by decide) (fun h31 => ?_) (fun h31 => ?_)
          · refine lv_iinc (v := (cx_sI (cx_st (i + 1)))) (lv' := [(4, .int (cx_sI (cx_st (i + 1)))), (3, .int (nI set)), (2, .int (nI d)), (1, .int (nI u)), (0, .ref (ad 0))]) hx hb dX1_choices_74 hl (k := 0) rfl (cx_st_s (by omega)) (by decide) rfl (fun ls hl => ?_)
            refine lv_goto (tgt := 15) hx hb dX1_choices_77 (by decide) ?_
            exact ihL15 (i + 1) us1 cs1 wr1 so1 ea1 od1 set _ _ _ (by omega) (by omega) (by show cx_hS n u d i (cx_ch n u d i _) = _; rw [hq, cx_hS_f (cx_B_f (cx_B_iff.mp h31))]) hV1 hw (lv_sub hl [0, 1, 2, 3, 4] rfl)
          · have hs9 := cx_st_le (i := i) (by omega)
            have hk9 := Classical.not_not.mp (cx_B_n h31)
            have hsc := cx_sk_st (by omega) hs9 hk9
            have hV2 := cx_Va_en (w := false) hV1 hn hu hd hs9 (fun _ => hsc)
            refine lv_aload_n hx hb dX1_choices_34 rfl (lv_at hl 4 rfl) ?_
            refine lv_iload_n hx hb dX1_choices_35 rfl (lv_at hl 3 rfl) ?_
            refine lv_iload_n hx hb dX1_choices_36 rfl (lv_at hl 2 rfl) ?_
            refine lv_iconst (v := nI 0) hx hb dX1_choices_37 (by decide) ?_
            refine cx_top (y := cx_bI false) (by decide) ?_
            refine lv_iload hx hb dX1_choices_38 (lv_at hl 0 rfl) ?_
            refine cx_calv S (k1_put l D cI cZ ad hn hV1.1 hu hs9 (fun z => Bool.noConfusion z)) (cwV 4 hts (lw_V q164 q166 qs10 q21 q167) rfl rfl rfl (by decide +kernel) ⟨Nat.le_of_ble_eq_true rfl, Nat.le_of_ble_eq_true rfl⟩) hK hw hA rfl rfl rfl rfl hl.1 rfl (Nat.le_of_ble_eq_true rfl) dX1_choices_40 ⟨Nat.zero_le _, Nat.zero_le _⟩ (fun σ1 H locs hp hw => ?_)
            subst hp
            refine lv_aload_n hx hb dX1_choices_43 rfl (lv_at hl 4 rfl) ?_
            refine lv_aload_n hx hb dX1_choices_44 rfl (lv_at hl 4 rfl) ?_
            refine cx1_gn S hK hw dX1_choices_45 ?_
            refine lv_iconst (v := nI 1) hx hb dX1_choices_48 (by decide) ?_
            refine cx_iadd hx hb dX1_choices_49 ?_
            refine cx_cali S (k1_converges l D cI cZ ad hV2 (by omega) (Or.inr ⟨rfl, va_up_self _ _ _⟩)) (cwV 1 hts (lw_V q210 q212 qs15 q21 q213) rfl rfl rfl (by decide +kernel) ⟨Nat.le_of_ble_eq_true rfl, Nat.le_of_ble_eq_true rfl⟩) hK hw hA rfl rfl rfl rfl hl.1 rfl (Nat.le_of_ble_eq_true rfl) dX1_choices_50 ⟨Nat.zero_le _, Nat.zero_le _⟩ (fun r50 σ1 H locs hp hw => ?_)
            obtain ⟨hr9, od2, rfl⟩ := hp
            obtain ⟨Z, hZ⟩ : ∃ Z, Z = cx_B (cx_Cv (n + 1) (va_up cs1 n d) (va_up wr1 n false) (va_up so1 n (cx_st i)) (va_up ea1 n (cx_en us1 ea1 u (cx_st i) n))) := ⟨_, rfl⟩
            rw [← hZ] at hr9
            subst hr9
            refine cx_ifeq_b (tgt := 74) hx hb dX1_choices_53 (by decide) (fun h53 => ?_) (fun h53 => ?_)
            · refine lv_iinc (v := (cx_sI (cx_st (i + 1)))) (lv' := [(4, .int (cx_sI (cx_st (i + 1)))), (3, .int (nI set)), (2, .int (nI d)), (1, .int (nI u)), (0, .ref (ad 0))]) hx hb dX1_choices_74 hl (k := 0) rfl (cx_st_s (by omega)) (by decide) rfl (fun ls hl => ?_)
              refine lv_goto (tgt := 15) hx hb dX1_choices_77 (by decide) ?_
              exact ihL15 (i + 1) (va_up us1 n u) (va_up cs1 n d) (va_up wr1 n false) (va_up so1 n (cx_st i)) (va_up ea1 n (cx_en us1 ea1 u (cx_st i) n)) od2 set _ _ _ (by omega) (by omega) (by show cx_hS n u d i (cx_ch n u d i _) = _; rw [hq, cx_hS_t (cx_B_t hk9) hZ, h53, cx_q0]) (cx_Va_mono hV2 (by omega)) hw (lv_sub hl [0, 1, 2, 3, 4] rfl)
            · refine lv_iload_n hx hb dX1_choices_56 rfl (lv_at hl 1 rfl) ?_
              refine lv_iload hx hb dX1_choices_57 (lv_at hl 0 rfl) ?_
              refine cx_ifge_s (tgt := 68) hx hb dX1_choices_59 (by decide) (by omega) (fun h59 => ?_) (fun h59 => ?_)
              · refine lv_iconst (v := nI 1) hx hb dX1_choices_68 (by decide) ?_
                refine lv_iload hx hb dX1_choices_69 (lv_at hl 0 rfl) ?_
                refine cx_top (cx_sI_n h59) ?_
                refine cx_ishl hx hb dX1_choices_71 (by omega) ?_
                refine cx_ior hx hb dX1_choices_72 ?_
                refine lv_istore_n (lv' := [(3, .int (nI (set ||| (2 ^ (cx_st i))))), (4, .int (cx_sI (cx_st i))), (2, .int (nI d)), (1, .int (nI u)), (0, .ref (ad 0))]) hx hb dX1_choices_73 rfl hl (by decide) rfl (fun ls hl => ?_)
                refine lv_iinc (v := (cx_sI (cx_st (i + 1)))) (lv' := [(4, .int (cx_sI (cx_st (i + 1)))), (3, .int (nI (set ||| (2 ^ (cx_st i))))), (2, .int (nI d)), (1, .int (nI u)), (0, .ref (ad 0))]) hx hb dX1_choices_74 hl (k := 1) rfl (cx_st_s (by omega)) (by decide) rfl (fun ls hl => ?_)
                refine lv_goto (tgt := 15) hx hb dX1_choices_77 (by decide) ?_
                exact ihL15 (i + 1) (va_up us1 n u) (va_up cs1 n d) (va_up wr1 n false) (va_up so1 n (cx_st i)) (va_up ea1 n (cx_en us1 ea1 u (cx_st i) n)) od2 (set ||| (2 ^ (cx_st i))) _ _ _ (by omega) (by omega) (by show cx_hS n u d i (cx_ch n u d i _) = _; rw [hq, cx_hS_t (cx_B_t hk9) hZ, h53, ← cx_st_sb h59 (by omega)]; rfl) (cx_Va_mono hV2 (by omega)) hw (lv_sub hl [0, 1, 2, 3, 4] rfl)
              · refine lv_sipush (v := nI 128) hx hb dX1_choices_62 (by decide) ?_
                refine lv_goto (tgt := 72) hx hb dX1_choices_65 (by decide) ?_
                refine cx_ior hx hb dX1_choices_72 ?_
                refine lv_istore_n (lv' := [(3, .int (nI (set ||| 128))), (4, .int (cx_sI (cx_st i))), (2, .int (nI d)), (1, .int (nI u)), (0, .ref (ad 0))]) hx hb dX1_choices_73 rfl hl (by decide) rfl (fun ls hl => ?_)
                refine lv_iinc (v := (cx_sI (cx_st (i + 1)))) (lv' := [(4, .int (cx_sI (cx_st (i + 1)))), (3, .int (nI (set ||| 128))), (2, .int (nI d)), (1, .int (nI u)), (0, .ref (ad 0))]) hx hb dX1_choices_74 hl (k := 1) rfl (cx_st_s (by omega)) (by decide) rfl (fun ls hl => ?_)
                refine lv_goto (tgt := 15) hx hb dX1_choices_77 (by decide) ?_
                exact ihL15 (i + 1) (va_up us1 n u) (va_up cs1 n d) (va_up wr1 n false) (va_up so1 n (cx_st i)) (va_up ea1 n (cx_en us1 ea1 u (cx_st i) n)) od2 (set ||| 128) _ _ _ (by omega) (by omega) (by show cx_hS n u d i (cx_ch n u d i _) = _; rw [hq, cx_hS_t (cx_B_t hk9) hZ, h53, show cx_sb i = 7 from if_pos ((cx_st_8 (by omega)).mp h59)]; rfl) (cx_Va_mono hV2 (by omega)) hw (lv_sub hl [0, 1, 2, 3, 4] rfl)
    exact L15 _ 0 us cs wr so ea od 0 _ _ _ (Nat.lt_succ_self _) (by omega) rfl hV hw (lv_sub hl [0, 1, 4, 3, 2] rfl)
  · refine lv_iconst (v := -1) hx hb dX1_choices_8 (by decide) ?_
    exact ret _ (n, us, cs, wr, so, ea, ro, od) _ _ _ _ dX1_choices_9 hw (Or.inr ⟨cx_B_iff.mp h5, rfl, rfl⟩)
end
section
/-! THE LAW's own pure rows: what the two objects answer is the same, and they hold the same history behind it. -/
def cx_Jn (σ : cx_T0) (τ : cx_T1) : Prop := ∃ (n : Nat) (us cs : Nat → Nat) (wr : Nat → Bool) (so ea mu : Nat → Nat) (ro : Nat → Bool) (od : Nat → Nat), σ = (n, us, cs, wr, so, ea, mu) ∧ τ = (n, us, cs, wr, so, ea, ro, od) ∧ n ≤ 7 ∧ cx_Va n us cs wr so ea
theorem cx_wrP_u {n : Nat} {x y : Int32} {u d u' d' : Nat} (h : cx_wrP n x y u d) (h' : cx_wrP n x y u' d') : u = u' ∧ d = d' := by
  obtain ⟨a0, a1, a2, a3, a4⟩ := h
  obtain ⟨b0, b1, b2, b3, b4⟩ := h'
  exact ⟨(nI_eq (by omega) (by omega)).mp (a3.symm.trans b3), (nI_eq (by omega) (by omega)).mp (a4.symm.trans b4)⟩
theorem cx_rdP_u {n : Nat} {cs : Nat → Nat} {wr : Nat → Bool} {x y z : Int32} {u d t u' d' t' : Nat} (h : cx_rdP n cs wr x y z u d t) (h' : cx_rdP n cs wr x y z u' d' t') : u = u' ∧ d = d' ∧ t = t' := by
  obtain ⟨a0, a1, a2, a3, a4, a5, a6, a7⟩ := h
  obtain ⟨b0, b1, b2, b3, b4, b5, b6, b7⟩ := h'
  exact ⟨(nI_eq (by omega) (by omega)).mp (a3.symm.trans b3), (nI_eq (by omega) (by omega)).mp (a4.symm.trans b4), (cx_sI_inj a5 b5).mp (a6.symm.trans b6)⟩
section JN
variable {n : Nat} {us cs : Nat → Nat} {wr : Nat → Bool} {so ea mu : Nat → Nat} {ro : Nat → Bool} {od : Nat → Nat} {x y z r1 r2 : Int32} {σ : cx_T0} {τ : cx_T1}
theorem cx_j_write (hV : cx_Va n us cs wr so ea) (hn : n ≤ 7)
    (h1 : (∃ u d, cx_wrP n x y u d ∧ r1 = nI n ∧ σ = (n + 1, va_up us n u, va_up cs n d, va_up wr n true, va_up so n 8, va_up ea n (cx_en us ea u 8 n), mu)) ∨ ((¬ ∃ u d, cx_wrP n x y u d) ∧ r1 = -1 ∧ σ = (n, us, cs, wr, so, ea, mu)))
    (h2 : (∃ u d, cx_wrP n x y u d ∧ r2 = nI n ∧ τ = (n + 1, va_up us n u, va_up cs n d, va_up wr n true, va_up so n 8, va_up ea n (cx_en us ea u 8 n), ro, od)) ∨ ((¬ ∃ u d, cx_wrP n x y u d) ∧ r2 = -1 ∧ τ = (n, us, cs, wr, so, ea, ro, od))) : r1 = r2 ∧ cx_Jn σ τ := by
  rcases h1 with ⟨u, d, a1, a2, a3⟩ | ⟨a1, a2, a3⟩
  · rcases h2 with ⟨u', d', b1, b2, b3⟩ | ⟨b1, b2, b3⟩
    · obtain ⟨rfl, rfl⟩ := cx_wrP_u a1 b1
      have hn7 : n < 7 := a1.1
      exact ⟨a2.trans b2.symm, _, _, _, _, _, _, _, _, _, a3, b3, by omega, cx_Va_en (w := true) hV (by omega) a1.2.1 a1.2.2.1 (Nat.le_refl 8) (fun q => by cases q)⟩
    · exact absurd ⟨u, d, a1⟩ b1
  · rcases h2 with ⟨u', d', b1, b2, b3⟩ | ⟨b1, b2, b3⟩
    · exact absurd ⟨u', d', b1⟩ a1
    · exact ⟨a2.trans b2.symm, _, _, _, _, _, _, _, _, _, a3, b3, hn, hV⟩
theorem cx_j_read (hV : cx_Va n us cs wr so ea) (hn : n ≤ 7)
    (h1 : (∃ u d t, cx_rdP n cs wr x y z u d t ∧ r1 = nI n ∧ σ = (n + 1, va_up us n u, va_up cs n d, va_up wr n false, va_up so n t, va_up ea n (cx_en us ea u t n), mu)) ∨ ((¬ ∃ u d t, cx_rdP n cs wr x y z u d t) ∧ r1 = -1 ∧ σ = (n, us, cs, wr, so, ea, mu)))
    (h2 : (∃ u d t, cx_rdP n cs wr x y z u d t ∧ r2 = nI n ∧ τ = (n + 1, va_up us n u, va_up cs n d, va_up wr n false, va_up so n t, va_up ea n (cx_en us ea u t n), ro, od)) ∨ ((¬ ∃ u d t, cx_rdP n cs wr x y z u d t) ∧ r2 = -1 ∧ τ = (n, us, cs, wr, so, ea, ro, od))) : r1 = r2 ∧ cx_Jn σ τ := by
  rcases h1 with ⟨u, d, t, a1, a2, a3⟩ | ⟨a1, a2, a3⟩
  · rcases h2 with ⟨u', d', t', b1, b2, b3⟩ | ⟨b1, b2, b3⟩
    · obtain ⟨rfl, rfl, rfl⟩ := cx_rdP_u a1 b1
      obtain ⟨c0, c1, c2, c3, c4, c5, c6, c7⟩ := a1
      exact ⟨a2.trans b2.symm, _, _, _, _, _, _, _, _, _, a3, b3, by omega, cx_Va_en (w := false) hV (by omega) c1 c2 c5 (fun _ => c7)⟩
    · exact absurd ⟨u, d, t, a1⟩ b1
  · rcases h2 with ⟨u', d', t', b1, b2, b3⟩ | ⟨b1, b2, b3⟩
    · exact absurd ⟨u', d', t', b1⟩ a1
    · exact ⟨a2.trans b2.symm, _, _, _, _, _, _, _, _, _, a3, b3, hn, hV⟩
theorem cx_j_back (hV : cx_Va n us cs wr so ea) (hn : n ≤ 7) (h1 : r1 = cx_rb n ∧ σ = (n - 1, us, cs, wr, so, ea, mu)) (h2 : r2 = cx_rb n ∧ τ = (n - 1, us, cs, wr, so, ea, ro, od)) : r1 = r2 ∧ cx_Jn σ τ :=
  ⟨h1.1.trans h2.1.symm, _, _, _, _, _, _, _, _, _, h1.2, h2.2, by omega, cx_Va_mono hV (by omega)⟩
theorem cx_j_before (hV : cx_Va n us cs wr so ea) (hn : n ≤ 7) (h1 : cx_R2 n (fun k j => cx_bI ((ea j).testBit k)) x y r1 ∧ σ = (n, us, cs, wr, so, ea, mu)) (h2 : cx_R2 n (fun k j => cx_bI ((ea j).testBit k)) x y r2 ∧ τ = (n, us, cs, wr, so, ea, ro, od)) : r1 = r2 ∧ cx_Jn σ τ :=
  ⟨cx_R2_u (by omega) h1.1 h2.1, _, _, _, _, _, _, _, _, _, h1.2, h2.2, hn, hV⟩
theorem cx_j_weak (hV : cx_Va n us cs wr so ea) (hn : n ≤ 7) (h1 : cx_R1 n (fun k => cx_bI (cx_B (cx_WK cs wr so ea k))) x r1 ∧ ∃ mu', σ = (n, us, cs, wr, so, ea, mu')) (h2 : cx_R1 n (fun k => cx_bI (cx_B (cx_WK cs wr so ea k))) x r2 ∧ ∃ ro', τ = (n, us, cs, wr, so, ea, ro', od)) : r1 = r2 ∧ cx_Jn σ τ := by
  obtain ⟨a1, mu', a2⟩ := h1
  obtain ⟨b1, ro', b2⟩ := h2
  exact ⟨cx_R1_u (by omega) (fun _ _ => rfl) a1 b1, _, _, _, _, _, _, _, _, _, a2, b2, hn, hV⟩
theorem cx_j_strong (hV : cx_Va n us cs wr so ea) (hn : n ≤ 7) (h1 : cx_R1 n (fun k => cx_bI (cx_B (cx_SK us cs wr so ea k))) x r1 ∧ ∃ mu', σ = (n, us, cs, wr, so, ea, mu')) (h2 : cx_R1 n (fun k => cx_bI (cx_B (cx_SK us cs wr so ea k))) x r2 ∧ ∃ ro', τ = (n, us, cs, wr, so, ea, ro', od)) : r1 = r2 ∧ cx_Jn σ τ := by
  obtain ⟨a1, mu', a2⟩ := h1
  obtain ⟨b1, ro', b2⟩ := h2
  exact ⟨cx_R1_u (by omega) (fun _ _ => rfl) a1 b1, _, _, _, _, _, _, _, _, _, a2, b2, hn, hV⟩
theorem cx_j_sound (hV : cx_Va n us cs wr so ea) (hn : n ≤ 7) (h1 : r1 = nI (cx_sd n us cs wr so ea) ∧ ∃ mu', σ = (n, us, cs, wr, so, ea, mu')) (h2 : r2 = nI (cx_sd n us cs wr so ea) ∧ ∃ ro' od', τ = (n, us, cs, wr, so, ea, ro', od')) : r1 = r2 ∧ cx_Jn σ τ := by
  obtain ⟨a1, mu', a2⟩ := h1
  obtain ⟨b1, ro', od', b2⟩ := h2
  exact ⟨a1.trans b1.symm, _, _, _, _, _, _, _, _, _, a2, b2, hn, hV⟩
theorem cx_j_choices (hV : cx_Va n us cs wr so ea) (hn : n ≤ 7)
    (h1 : (∃ u d us' cs' wr' so' ea' set mu', (u < 3 ∧ d < 2 ∧ x = nI u ∧ y = nI d) ∧ cx_ch n u d (n + 1) ((us, cs, wr, so, ea), 0) = ((us', cs', wr', so', ea'), set) ∧ cx_Va n us' cs' wr' so' ea' ∧ r1 = nI set ∧ σ = (n, us', cs', wr', so', ea', mu')) ∨ (¬ cx_pl x y ∧ r1 = -1 ∧ σ = (n, us, cs, wr, so, ea, mu)))
    (h2 : (∃ u d us' cs' wr' so' ea' set od', (u < 3 ∧ d < 2 ∧ x = nI u ∧ y = nI d) ∧ cx_ch n u d (n + 1) ((us, cs, wr, so, ea), 0) = ((us', cs', wr', so', ea'), set) ∧ cx_Va n us' cs' wr' so' ea' ∧ r2 = nI set ∧ τ = (n, us', cs', wr', so', ea', ro, od')) ∨ (¬ cx_pl x y ∧ r2 = -1 ∧ τ = (n, us, cs, wr, so, ea, ro, od))) : r1 = r2 ∧ cx_Jn σ τ := by
  rcases h1 with ⟨u, d, us1, cs1, wr1, so1, ea1, set1, mu1, ⟨a1, a2, a3, a4⟩, a5, a6, a7, a8⟩ | ⟨a1, a2, a3⟩
  · rcases h2 with ⟨u', d', us2, cs2, wr2, so2, ea2, set2, od2, ⟨b1, b2, b3, b4⟩, b5, b6, b7, b8⟩ | ⟨b1, b2, b3⟩
    · have e1 : u = u' := (nI_eq (by omega) (by omega)).mp (a3.symm.trans b3)
      have e2 : d = d' := (nI_eq (by omega) (by omega)).mp (a4.symm.trans b4)
      subst e1
      subst e2
      have e := a5.symm.trans b5
      injection e with e3 e4
      injection e3 with e5 e6
      injection e6 with e6 e7
      injection e7 with e7 e8
      injection e8 with e8 e9
      subst e4 e5 e6 e7 e8 e9
      exact ⟨a7.trans b7.symm, _, _, _, _, _, _, _, _, _, a8, b8, hn, a6⟩
    · exact absurd ⟨u, d, a1, a2, a3, a4⟩ b1
  · rcases h2 with ⟨u', d', us2, cs2, wr2, so2, ea2, set2, od2, ⟨b1, b2, b3, b4⟩, b5, b6, b7, b8⟩ | ⟨b1, b2, b3⟩
    · exact absurd ⟨u', d', b1, b2, b3, b4⟩ a1
    · exact ⟨a2.trans b2.symm, _, _, _, _, _, _, _, _, _, a3, b3, hn, hV⟩
end JN
theorem cx_and7 (x : Int32) : ∃ k, k < 8 ∧ x &&& nI 7 = nI k := by
  have e : x = nI x.toBitVec.toNat := by
    apply Int32.toBitVec_inj.1
    show x.toBitVec = BitVec.ofNat 32 x.toBitVec.toNat
    rw [BitVec.ofNat_toNat, BitVec.setWidth_eq]
  refine ⟨x.toBitVec.toNat &&& 7, ?_, ?_⟩
  · have := Nat.and_le_right (n := x.toBitVec.toNat) (m := 7)
    omega
  · conv => lhs; rw [e]
    exact cx_and_n _ _
theorem cx_end4 {L i : Nat} (hL : L ≤ 256) (hi : i ≤ 256) (h : ¬ nI L - nI 4 < nI i) : i + 4 ≤ L := by
  rcases Nat.lt_or_ge L 4 with q | q
  · exfalso
    apply h
    have h0 : nI L - nI 4 < 0 := by
      rcases (show L = 0 ∨ L = 1 ∨ L = 2 ∨ L = 3 by omega) with rfl | rfl | rfl | rfl <;> decide
    exact Int32.lt_of_lt_of_le h0 (nI_pos' (by omega))
  · rw [pk_sub q] at h
    have h2 := Int32.not_lt.mp h
    have := (nI_leI (by omega) (by omega)).mp h2
    omega
end
section
/-! THE CONSTRUCTORS (printed by gen/law.py) -/
/-- addresses by their list -/
def cx_ad (l : List Nat) (k : Nat) : Nat := l.getD k 0
def cx_s0 : cx_T0 := (0, fun _ => 0, fun _ => 0, fun _ => false, fun _ => 0, fun _ => 0, fun _ => 0)
def cx_s1 : cx_T1 := (0, fun _ => 0, fun _ => 0, fun _ => false, fun _ => 0, fun _ => 0, fun _ => false, fun _ => 0)
theorem cx_same {D : va_G} {cl : List vw_C} {cI cZ cA : ClassId} {s : State} (h : va_K D cl (cx_ty cI cZ ++ [(cA, .int)]) s) : cA = cI := Option.some.inj ((h.2 2 (cA, .int) rfl).2.symm.trans (h.2 0 (cI, .int) rfl).2)
theorem cx_sameZ {D : va_G} {cl : List vw_C} {cI cZ cA : ClassId} {s : State} (h : va_K D cl (cx_ty cI cZ ++ [(cA, .boolean)]) s) : cA = cZ := Option.some.inj ((h.2 2 (cA, .boolean) rfl).2.symm.trans (h.2 1 (cZ, .boolean) rfl).2)
theorem cx_fn {N : Nat} (cA : ClassId) : vp_cell cA (N, .inl (cx_nA (fun _ => 0))) = arrV cA N (fun _ => defaultValue .int) := congrArg (arrV cA N) (show (fun j => Value.int (cx_nA (fun _ => 0) j)) = (fun _ => defaultValue FieldType.int) from funext fun _ => rfl)
theorem cx_fs {N : Nat} (cA : ClassId) : vp_cell cA (N, .inl (cx_sA (fun _ => 0))) = arrV cA N (fun _ => defaultValue .int) := congrArg (arrV cA N) (show (fun j => Value.int (cx_sA (fun _ => 0) j)) = (fun _ => defaultValue FieldType.int) from funext fun _ => rfl)
theorem cx_fb {N : Nat} (cA : ClassId) : vp_cell cA (N, .inl (cx_bA (fun _ => false))) = arrV cA N (fun _ => defaultValue .boolean) := congrArg (arrV cA N) (show (fun j => Value.int (cx_bA (fun _ => false) j)) = (fun _ => defaultValue FieldType.boolean) from funext fun _ => rfl)
theorem cx_cbI {N : Nat} (h : N < 2 ^ 20) : N * componentBytes .int ≤ 536870912 := Nat.le_trans (Nat.mul_le_mul_left N (show componentBytes .int ≤ 8 by decide)) (by omega)
theorem cx_cbZ {N : Nat} (h : N < 2 ^ 20) : N * componentBytes .boolean ≤ 536870912 := Nat.le_trans (Nat.mul_le_mul_left N (show componentBytes .boolean ≤ 8 by decide)) (by omega)
section NEWA
variable {p : Program} {l : Launch} {e : Env} {R : Room} {s : State} {m : MethodId} {args : Array Value} {below : List Frame} {meth : Method} {c : Code} {H : Heap} {locs : List Loc} {cells slots : Nat} {Q : State → Prop}
variable {cc : ByteArray} {pc : Nat} {ls : Array Slot} {rest : List Value} {D : va_G} {cl : List vw_C} {ws : va_W} {A : Nat → Prop} {H0 : Heap} {cI cZ : ClassId} {N : Nat}
theorem cx_newn (hx : p.tables.exec = Jvm.exec) (hb : c.code = cc) (hts : ∀ w ∈ lw_all, w.before args s = true) (hK : va_K D cl (cx_ty cI cZ) s) (hw : cx_H D cl ws A H0 H locs) (hA : ∀ q, H0.size ≤ q → A q) (hN : N < 2 ^ 20) (hc : cells + 1 ≤ R.cells) (hs : slots + N ≤ R.slots) (hdg : decode cc pc = .ok (.newarray .int, 2))
    (kk : ∀ (q : Nat) (H1 : Heap), cx_H D cl (ws ++ [(q, .inl (cI, N, .inl (cx_nA (fun _ => 0))))]) A H0 H1 locs → W p l e R s m args below meth c H1 locs (cells + 1) (slots + N) Q (F0 m (pc + 2) ls (.ref q :: rest))) : W p l e R s m args below meth c H locs cells slots Q (F0 m pc ls (.int (nI N) :: rest)) := by
  refine va_newa (atype := .int) (ty := .int) (N' := N) (a0 := (N, .inl (cx_nA (fun _ => 0)))) hx hb (hts _ q52) rfl hK hw.1 hw.2.1 hw.2.2 hA cx_fn (nI_pos (by omega)) (nI_clamp (by omega)) (cx_cbI hN) hc hs hdg (fun q cA H1 hK1 hP hD hS => ?_)
  obtain rfl := cx_same hK1
  exact kk q H1 ⟨hP, hD, hS⟩
theorem cx_news (hx : p.tables.exec = Jvm.exec) (hb : c.code = cc) (hts : ∀ w ∈ lw_all, w.before args s = true) (hK : va_K D cl (cx_ty cI cZ) s) (hw : cx_H D cl ws A H0 H locs) (hA : ∀ q, H0.size ≤ q → A q) (hN : N < 2 ^ 20) (hc : cells + 1 ≤ R.cells) (hs : slots + N ≤ R.slots) (hdg : decode cc pc = .ok (.newarray .int, 2))
    (kk : ∀ (q : Nat) (H1 : Heap), cx_H D cl (ws ++ [(q, .inl (cI, N, .inl (cx_sA (fun _ => 0))))]) A H0 H1 locs → W p l e R s m args below meth c H1 locs (cells + 1) (slots + N) Q (F0 m (pc + 2) ls (.ref q :: rest))) : W p l e R s m args below meth c H locs cells slots Q (F0 m pc ls (.int (nI N) :: rest)) := by
  refine va_newa (atype := .int) (ty := .int) (N' := N) (a0 := (N, .inl (cx_sA (fun _ => 0)))) hx hb (hts _ q52) rfl hK hw.1 hw.2.1 hw.2.2 hA cx_fs (nI_pos (by omega)) (nI_clamp (by omega)) (cx_cbI hN) hc hs hdg (fun q cA H1 hK1 hP hD hS => ?_)
  obtain rfl := cx_same hK1
  exact kk q H1 ⟨hP, hD, hS⟩
theorem cx_newb (hx : p.tables.exec = Jvm.exec) (hb : c.code = cc) (hts : ∀ w ∈ lw_all, w.before args s = true) (hK : va_K D cl (cx_ty cI cZ) s) (hw : cx_H D cl ws A H0 H locs) (hA : ∀ q, H0.size ≤ q → A q) (hN : N < 2 ^ 20) (hc : cells + 1 ≤ R.cells) (hs : slots + N ≤ R.slots) (hdg : decode cc pc = .ok (.newarray .boolean, 2))
    (kk : ∀ (q : Nat) (H1 : Heap), cx_H D cl (ws ++ [(q, .inl (cZ, N, .inl (cx_bA (fun _ => false))))]) A H0 H1 locs → W p l e R s m args below meth c H1 locs (cells + 1) (slots + N) Q (F0 m (pc + 2) ls (.ref q :: rest))) : W p l e R s m args below meth c H locs cells slots Q (F0 m pc ls (.int (nI N) :: rest)) := by
  refine va_newa (atype := .boolean) (ty := .boolean) (N' := N) (a0 := (N, .inl (cx_bA (fun _ => false)))) hx hb (hts _ q53) rfl hK hw.1 hw.2.1 hw.2.2 hA cx_fb (nI_pos (by omega)) (nI_clamp (by omega)) (cx_cbZ hN) hc hs hdg (fun q cA H1 hK1 hP hD hS => ?_)
  obtain rfl := cx_sameZ hK1
  exact kk q H1 ⟨hP, hD, hS⟩
end NEWA
abbrev rm0_init : Room := { frames := 1, cells := 6, slots := 48, locals := 12 }
set_option maxHeartbeats 4000000 in
set_option maxRecDepth 100000 in
/-- the constructor of CausalCheck -/
theorem k0_init (l : Launch) (D : va_G) (cI cZ : ClassId) (h0 sz : Nat) : Met l yX0_init (ws_ yX0_init cX0_init 1 none) rm0_init (va_Pc [.ref h0] (fun U => U.heap.size = sz ∧ va_P D cx_Cl [(h0, .inr (0, [.int (nI 0), .null, .null, .null, .null, .null, .null]))] U.heap ∧ va_K D cx_Cl (cx_ty cI cZ) U ∧ va_D (fun _ => True) [(h0, .inr (0, [.int (nI 0), .null, .null, .null, .null, .null, .null]))])) (va_Qv (fun ad : Nat → Nat => ad 0 = h0) (fun ad t => va_P D cx_Cl (cx_w0 cI cZ ad cx_s0) t.heap ∧ va_K D cx_Cl (cx_ty cI cZ) t ∧ va_D (va_A [(h0, .inr (0, [.int (nI 0), .null, .null, .null, .null, .null, .null]))] sz) (cx_w0 cI cZ ad cx_s0)) (va_A [(h0, .inr (0, [.int (nI 0), .null, .null, .null, .null, .null, .null]))] sz)) 6 48 (va_A [(h0, .inr (0, [.int (nI 0), .null, .null, .null, .null, .null, .null]))] sz) := by
  refine Met.ofW (cc := cX0_init) (maxL := 1) (ret := none) (by decide) rfl ?_
  intro p e s m args below meth c s₁ B hml hv
  obtain ⟨rfl, hsz, hP, hK, hD0⟩ := hv
  have hx := B.exec
  have hb := B.bytes
  have hr := B.returns
  have hts := atoms_spec (ws := ws_ yX0_init cX0_init 1 none) B.pre
  have hts : ∀ w ∈ lw_all, w.before _ s = true := fun w h => hts w (List.mem_cons_of_mem _ h)
  have hown : s.vm.findClass RX0 = some m.cls := findClass_of_methodNamed B.named
  have hlocks := B.notSynchronized
  have hin : meth.name = "<init>" := (name_of_methodNamed B.named B.method).1
  subst hsz
  have hD := hD0.self (sz := s.heap.size)
  generalize hAe : va_A [(h0, .inr (0, [.int (nI 0), .null, .null, .null, .null, .null, .null]))] s.heap.size = A at hD ⊢
  have hA : ∀ q : Nat, s.heap.size ≤ q → A q := fun q h => by rw [← hAe]; exact Or.inr h
  have hw : cx_H D cx_Cl [(h0, .inr (0, [.int (nI 0), .null, .null, .null, .null, .null, .null]))] A s.heap s.heap [] := ⟨hP, hD, va_S.rf⟩
  have hl := lv_entry ([.ref h0]) (n := 1) (Nat.le_of_ble_eq_true rfl)
  rw [lg_entry_eq]
  generalize (lg_sl ([.ref h0]) ++ List.replicate (1 - (lg_sl ([.ref h0])).length) Slot.unset).toArray = ls at hl ⊢
  have hl : lv_has ls 1 [(0, .ref h0)] := hl
  refine lv_aload_n hx hb dX0_init_0 rfl (lv_at hl 0 rfl) ?_
  refine W.objInit hx hb hown (hts _ q27) (hts _ q28) (hts _ q29) rfl (by rw [hml]; exact hl.1) rfl dX0_init_1 (Nat.le_of_ble_eq_true rfl) (Nat.le_of_ble_eq_true rfl) ?_
  refine W.eq (g2 := F0 m 4 ls []) rfl ?_
  refine lv_aload_n hx hb dX0_init_4 rfl (lv_at hl 0 rfl) ?_
  refine lv_bipush (v := nI 8) hx hb dX0_init_5 (by decide) ?_
  refine cx_newn hx hb hts hK hw hA (by decide) (Nat.le_of_ble_eq_true rfl) (Nat.le_of_ble_eq_true rfl) dX0_init_7 (fun q1 H hw => ?_)
  have hw : cx_H D cx_Cl [(h0, .inr (0, [.int (nI 0), .null, .null, .null, .null, .null, .null])), (q1, .inl (cI, 8, .inl (cx_nA (fun _ => 0))))] A s.heap H _ := hw
  refine W.widen (k := 1) (n := 8) (Nat.le_of_ble_eq_true rfl) (Nat.le_of_ble_eq_true rfl) ?_
  refine va_putF (D := D) (ci := 0) (v := .ref q1) (ty := .array .int) (C := RX0) (T := TX0) (N := 7) hx hb hts in_X0 tyX0 tyX0_ok nmX0 hown hK hw.1 hw.2.1 hw.2.2 0 rfl rfl 1 (by decide) (hts _ q31) (fun _ h9 => h9) rfl hin rfl (by decide +kernel) rfl rfl (Nat.le_of_ble_eq_true rfl) dX0_init_9 (fun H locs hP hD hS => ?_)
  have hw : cx_H D cx_Cl [(h0, .inr (0, [.int (nI 0), .ref q1, .null, .null, .null, .null, .null])), (q1, .inl (cI, 8, .inl (cx_nA (fun _ => 0))))] A s.heap H locs := ⟨hP, hD, hS⟩
  refine lv_aload_n hx hb dX0_init_12 rfl (lv_at hl 0 rfl) ?_
  refine lv_bipush (v := nI 8) hx hb dX0_init_13 (by decide) ?_
  refine cx_newn hx hb hts hK hw hA (by decide) (Nat.le_of_ble_eq_true rfl) (Nat.le_of_ble_eq_true rfl) dX0_init_15 (fun q2 H hw => ?_)
  have hw : cx_H D cx_Cl [(h0, .inr (0, [.int (nI 0), .ref q1, .null, .null, .null, .null, .null])), (q1, .inl (cI, 8, .inl (cx_nA (fun _ => 0)))), (q2, .inl (cI, 8, .inl (cx_nA (fun _ => 0))))] A s.heap H _ := hw
  refine W.widen (k := 2) (n := 16) (Nat.le_of_ble_eq_true rfl) (Nat.le_of_ble_eq_true rfl) ?_
  refine va_putF (D := D) (ci := 0) (v := .ref q2) (ty := .array .int) (C := RX0) (T := TX0) (N := 7) hx hb hts in_X0 tyX0 tyX0_ok nmX0 hown hK hw.1 hw.2.1 hw.2.2 0 rfl rfl 2 (by decide) (hts _ q32) (fun _ h9 => h9) rfl hin rfl (by decide +kernel) rfl rfl (Nat.le_of_ble_eq_true rfl) dX0_init_17 (fun H locs hP hD hS => ?_)
  have hw : cx_H D cx_Cl [(h0, .inr (0, [.int (nI 0), .ref q1, .ref q2, .null, .null, .null, .null])), (q1, .inl (cI, 8, .inl (cx_nA (fun _ => 0)))), (q2, .inl (cI, 8, .inl (cx_nA (fun _ => 0))))] A s.heap H locs := ⟨hP, hD, hS⟩
  refine lv_aload_n hx hb dX0_init_20 rfl (lv_at hl 0 rfl) ?_
  refine lv_bipush (v := nI 8) hx hb dX0_init_21 (by decide) ?_
  refine cx_newb hx hb hts hK hw hA (by decide) (Nat.le_of_ble_eq_true rfl) (Nat.le_of_ble_eq_true rfl) dX0_init_23 (fun q3 H hw => ?_)
  have hw : cx_H D cx_Cl [(h0, .inr (0, [.int (nI 0), .ref q1, .ref q2, .null, .null, .null, .null])), (q1, .inl (cI, 8, .inl (cx_nA (fun _ => 0)))), (q2, .inl (cI, 8, .inl (cx_nA (fun _ => 0)))), (q3, .inl (cZ, 8, .inl (cx_bA (fun _ => false))))] A s.heap H _ := hw
  refine W.widen (k := 3) (n := 24) (Nat.le_of_ble_eq_true rfl) (Nat.le_of_ble_eq_true rfl) ?_
  refine va_putF (D := D) (ci := 0) (v := .ref q3) (ty := .array .boolean) (C := RX0) (T := TX0) (N := 7) hx hb hts in_X0 tyX0 tyX0_ok nmX0 hown hK hw.1 hw.2.1 hw.2.2 0 rfl rfl 3 (by decide) (hts _ q33) (fun _ h9 => h9) rfl hin rfl (by decide +kernel) rfl rfl (Nat.le_of_ble_eq_true rfl) dX0_init_25 (fun H locs hP hD hS => ?_)
  have hw : cx_H D cx_Cl [(h0, .inr (0, [.int (nI 0), .ref q1, .ref q2, .ref q3, .null, .null, .null])), (q1, .inl (cI, 8, .inl (cx_nA (fun _ => 0)))), (q2, .inl (cI, 8, .inl (cx_nA (fun _ => 0)))), (q3, .inl (cZ, 8, .inl (cx_bA (fun _ => false))))] A s.heap H locs := ⟨hP, hD, hS⟩
  refine lv_aload_n hx hb dX0_init_28 rfl (lv_at hl 0 rfl) ?_
  refine lv_bipush (v := nI 8) hx hb dX0_init_29 (by decide) ?_
  refine cx_news hx hb hts hK hw hA (by decide) (Nat.le_of_ble_eq_true rfl) (Nat.le_of_ble_eq_true rfl) dX0_init_31 (fun q4 H hw => ?_)
  have hw : cx_H D cx_Cl [(h0, .inr (0, [.int (nI 0), .ref q1, .ref q2, .ref q3, .null, .null, .null])), (q1, .inl (cI, 8, .inl (cx_nA (fun _ => 0)))), (q2, .inl (cI, 8, .inl (cx_nA (fun _ => 0)))), (q3, .inl (cZ, 8, .inl (cx_bA (fun _ => false)))), (q4, .inl (cI, 8, .inl (cx_sA (fun _ => 0))))] A s.heap H _ := hw
  refine W.widen (k := 4) (n := 32) (Nat.le_of_ble_eq_true rfl) (Nat.le_of_ble_eq_true rfl) ?_
  refine va_putF (D := D) (ci := 0) (v := .ref q4) (ty := .array .int) (C := RX0) (T := TX0) (N := 7) hx hb hts in_X0 tyX0 tyX0_ok nmX0 hown hK hw.1 hw.2.1 hw.2.2 0 rfl rfl 4 (by decide) (hts _ q34) (fun _ h9 => h9) rfl hin rfl (by decide +kernel) rfl rfl (Nat.le_of_ble_eq_true rfl) dX0_init_33 (fun H locs hP hD hS => ?_)
  have hw : cx_H D cx_Cl [(h0, .inr (0, [.int (nI 0), .ref q1, .ref q2, .ref q3, .ref q4, .null, .null])), (q1, .inl (cI, 8, .inl (cx_nA (fun _ => 0)))), (q2, .inl (cI, 8, .inl (cx_nA (fun _ => 0)))), (q3, .inl (cZ, 8, .inl (cx_bA (fun _ => false)))), (q4, .inl (cI, 8, .inl (cx_sA (fun _ => 0))))] A s.heap H locs := ⟨hP, hD, hS⟩
  refine lv_aload_n hx hb dX0_init_36 rfl (lv_at hl 0 rfl) ?_
  refine lv_bipush (v := nI 8) hx hb dX0_init_37 (by decide) ?_
  refine cx_newn hx hb hts hK hw hA (by decide) (Nat.le_of_ble_eq_true rfl) (Nat.le_of_ble_eq_true rfl) dX0_init_39 (fun q5 H hw => ?_)
  have hw : cx_H D cx_Cl [(h0, .inr (0, [.int (nI 0), .ref q1, .ref q2, .ref q3, .ref q4, .null, .null])), (q1, .inl (cI, 8, .inl (cx_nA (fun _ => 0)))), (q2, .inl (cI, 8, .inl (cx_nA (fun _ => 0)))), (q3, .inl (cZ, 8, .inl (cx_bA (fun _ => false)))), (q4, .inl (cI, 8, .inl (cx_sA (fun _ => 0)))), (q5, .inl (cI, 8, .inl (cx_nA (fun _ => 0))))] A s.heap H _ := hw
  refine W.widen (k := 5) (n := 40) (Nat.le_of_ble_eq_true rfl) (Nat.le_of_ble_eq_true rfl) ?_
  refine va_putF (D := D) (ci := 0) (v := .ref q5) (ty := .array .int) (C := RX0) (T := TX0) (N := 7) hx hb hts in_X0 tyX0 tyX0_ok nmX0 hown hK hw.1 hw.2.1 hw.2.2 0 rfl rfl 5 (by decide) (hts _ q35) (fun _ h9 => h9) rfl hin rfl (by decide +kernel) rfl rfl (Nat.le_of_ble_eq_true rfl) dX0_init_41 (fun H locs hP hD hS => ?_)
  have hw : cx_H D cx_Cl [(h0, .inr (0, [.int (nI 0), .ref q1, .ref q2, .ref q3, .ref q4, .ref q5, .null])), (q1, .inl (cI, 8, .inl (cx_nA (fun _ => 0)))), (q2, .inl (cI, 8, .inl (cx_nA (fun _ => 0)))), (q3, .inl (cZ, 8, .inl (cx_bA (fun _ => false)))), (q4, .inl (cI, 8, .inl (cx_sA (fun _ => 0)))), (q5, .inl (cI, 8, .inl (cx_nA (fun _ => 0))))] A s.heap H locs := ⟨hP, hD, hS⟩
  refine lv_aload_n hx hb dX0_init_44 rfl (lv_at hl 0 rfl) ?_
  refine lv_bipush (v := nI 8) hx hb dX0_init_45 (by decide) ?_
  refine cx_newn hx hb hts hK hw hA (by decide) (Nat.le_of_ble_eq_true rfl) (Nat.le_of_ble_eq_true rfl) dX0_init_47 (fun q6 H hw => ?_)
  have hw : cx_H D cx_Cl [(h0, .inr (0, [.int (nI 0), .ref q1, .ref q2, .ref q3, .ref q4, .ref q5, .null])), (q1, .inl (cI, 8, .inl (cx_nA (fun _ => 0)))), (q2, .inl (cI, 8, .inl (cx_nA (fun _ => 0)))), (q3, .inl (cZ, 8, .inl (cx_bA (fun _ => false)))), (q4, .inl (cI, 8, .inl (cx_sA (fun _ => 0)))), (q5, .inl (cI, 8, .inl (cx_nA (fun _ => 0)))), (q6, .inl (cI, 8, .inl (cx_nA (fun _ => 0))))] A s.heap H _ := hw
  refine W.widen (k := 6) (n := 48) (Nat.le_of_ble_eq_true rfl) (Nat.le_of_ble_eq_true rfl) ?_
  refine va_putF (D := D) (ci := 0) (v := .ref q6) (ty := .array .int) (C := RX0) (T := TX0) (N := 7) hx hb hts in_X0 tyX0 tyX0_ok nmX0 hown hK hw.1 hw.2.1 hw.2.2 0 rfl rfl 6 (by decide) (hts _ q36) (fun _ h9 => h9) rfl hin rfl (by decide +kernel) rfl rfl (Nat.le_of_ble_eq_true rfl) dX0_init_49 (fun H locs hP hD hS => ?_)
  have hw : cx_H D cx_Cl [(h0, .inr (0, [.int (nI 0), .ref q1, .ref q2, .ref q3, .ref q4, .ref q5, .ref q6])), (q1, .inl (cI, 8, .inl (cx_nA (fun _ => 0)))), (q2, .inl (cI, 8, .inl (cx_nA (fun _ => 0)))), (q3, .inl (cZ, 8, .inl (cx_bA (fun _ => false)))), (q4, .inl (cI, 8, .inl (cx_sA (fun _ => 0)))), (q5, .inl (cI, 8, .inl (cx_nA (fun _ => 0)))), (q6, .inl (cI, 8, .inl (cx_nA (fun _ => 0))))] A s.heap H locs := ⟨hP, hD, hS⟩
  have hw : cx_H D cx_Cl (cx_w0 cI cZ (cx_ad [h0, q1, q2, q3, q4, q5, q6]) cx_s0) A s.heap H locs := hw
  exact W.vret hx hb hr (fun t ht hW => ⟨⟨_, rfl, rfl, by rw [ht]; exact hw.1, va_K.moved hW.alike hK, hw.2.1⟩, hw.2.2.F ht⟩) hw.2.2.2.2 dX0_init_52
abbrev rm1_init : Room := { frames := 1, cells := 7, slots := 10416, locals := 12 }
set_option maxHeartbeats 4000000 in
set_option maxRecDepth 100000 in
/-- the constructor of CausalCheckModel -/
theorem k1_init (l : Launch) (D : va_G) (cI cZ : ClassId) (h0 sz : Nat) : Met l yX1_init (ws_ yX1_init cX1_init 1 none) rm1_init (va_Pc [.ref h0] (fun U => U.heap.size = sz ∧ va_P D cx_Cl [(h0, .inr (1, [.int (nI 0), .null, .null, .null, .null, .null, .null, .null]))] U.heap ∧ va_K D cx_Cl (cx_ty cI cZ) U ∧ va_D (fun _ => True) [(h0, .inr (1, [.int (nI 0), .null, .null, .null, .null, .null, .null, .null]))])) (va_Qv (fun ad : Nat → Nat => ad 0 = h0) (fun ad t => va_P D cx_Cl (cx_w1 cI cZ ad cx_s1) t.heap ∧ va_K D cx_Cl (cx_ty cI cZ) t ∧ va_D (va_A [(h0, .inr (1, [.int (nI 0), .null, .null, .null, .null, .null, .null, .null]))] sz) (cx_w1 cI cZ ad cx_s1)) (va_A [(h0, .inr (1, [.int (nI 0), .null, .null, .null, .null, .null, .null, .null]))] sz)) 7 10416 (va_A [(h0, .inr (1, [.int (nI 0), .null, .null, .null, .null, .null, .null, .null]))] sz) := by
  refine Met.ofW (cc := cX1_init) (maxL := 1) (ret := none) (by decide) rfl ?_
  intro p e s m args below meth c s₁ B hml hv
  obtain ⟨rfl, hsz, hP, hK, hD0⟩ := hv
  have hx := B.exec
  have hb := B.bytes
  have hr := B.returns
  have hts := atoms_spec (ws := ws_ yX1_init cX1_init 1 none) B.pre
  have hts : ∀ w ∈ lw_all, w.before _ s = true := fun w h => hts w (List.mem_cons_of_mem _ h)
  have hown : s.vm.findClass RX1 = some m.cls := findClass_of_methodNamed B.named
  have hlocks := B.notSynchronized
  have hin : meth.name = "<init>" := (name_of_methodNamed B.named B.method).1
  subst hsz
  have hD := hD0.self (sz := s.heap.size)
  generalize hAe : va_A [(h0, .inr (1, [.int (nI 0), .null, .null, .null, .null, .null, .null, .null]))] s.heap.size = A at hD ⊢
  have hA : ∀ q : Nat, s.heap.size ≤ q → A q := fun q h => by rw [← hAe]; exact Or.inr h
  have hw : cx_H D cx_Cl [(h0, .inr (1, [.int (nI 0), .null, .null, .null, .null, .null, .null, .null]))] A s.heap s.heap [] := ⟨hP, hD, va_S.rf⟩
  have hl := lv_entry ([.ref h0]) (n := 1) (Nat.le_of_ble_eq_true rfl)
  rw [lg_entry_eq]
  generalize (lg_sl ([.ref h0]) ++ List.replicate (1 - (lg_sl ([.ref h0])).length) Slot.unset).toArray = ls at hl ⊢
  have hl : lv_has ls 1 [(0, .ref h0)] := hl
  refine lv_aload_n hx hb dX1_init_0 rfl (lv_at hl 0 rfl) ?_
  refine W.objInit hx hb hown (hts _ q131) (hts _ q28) (hts _ q29) rfl (by rw [hml]; exact hl.1) rfl dX1_init_1 (Nat.le_of_ble_eq_true rfl) (Nat.le_of_ble_eq_true rfl) ?_
  refine W.eq (g2 := F0 m 4 ls []) rfl ?_
  refine lv_aload_n hx hb dX1_init_4 rfl (lv_at hl 0 rfl) ?_
  refine lv_bipush (v := nI 8) hx hb dX1_init_5 (by decide) ?_
  refine cx_newn hx hb hts hK hw hA (by decide) (Nat.le_of_ble_eq_true rfl) (Nat.le_of_ble_eq_true rfl) dX1_init_7 (fun q1 H hw => ?_)
  have hw : cx_H D cx_Cl [(h0, .inr (1, [.int (nI 0), .null, .null, .null, .null, .null, .null, .null])), (q1, .inl (cI, 8, .inl (cx_nA (fun _ => 0))))] A s.heap H _ := hw
  refine W.widen (k := 1) (n := 8) (Nat.le_of_ble_eq_true rfl) (Nat.le_of_ble_eq_true rfl) ?_
  refine va_putF (D := D) (ci := 1) (v := .ref q1) (ty := .array .int) (C := RX1) (T := TX1) (N := 8) hx hb hts in_X1 tyX1 tyX1_ok nmX1 hown hK hw.1 hw.2.1 hw.2.2 0 rfl rfl 1 (by decide) (hts _ q133) (fun _ h9 => h9) rfl hin rfl (by decide +kernel) rfl rfl (Nat.le_of_ble_eq_true rfl) dX1_init_9 (fun H locs hP hD hS => ?_)
  have hw : cx_H D cx_Cl [(h0, .inr (1, [.int (nI 0), .ref q1, .null, .null, .null, .null, .null, .null])), (q1, .inl (cI, 8, .inl (cx_nA (fun _ => 0))))] A s.heap H locs := ⟨hP, hD, hS⟩
  refine lv_aload_n hx hb dX1_init_12 rfl (lv_at hl 0 rfl) ?_
  refine lv_bipush (v := nI 8) hx hb dX1_init_13 (by decide) ?_
  refine cx_newn hx hb hts hK hw hA (by decide) (Nat.le_of_ble_eq_true rfl) (Nat.le_of_ble_eq_true rfl) dX1_init_15 (fun q2 H hw => ?_)
  have hw : cx_H D cx_Cl [(h0, .inr (1, [.int (nI 0), .ref q1, .null, .null, .null, .null, .null, .null])), (q1, .inl (cI, 8, .inl (cx_nA (fun _ => 0)))), (q2, .inl (cI, 8, .inl (cx_nA (fun _ => 0))))] A s.heap H _ := hw
  refine W.widen (k := 2) (n := 16) (Nat.le_of_ble_eq_true rfl) (Nat.le_of_ble_eq_true rfl) ?_
  refine va_putF (D := D) (ci := 1) (v := .ref q2) (ty := .array .int) (C := RX1) (T := TX1) (N := 8) hx hb hts in_X1 tyX1 tyX1_ok nmX1 hown hK hw.1 hw.2.1 hw.2.2 0 rfl rfl 2 (by decide) (hts _ q134) (fun _ h9 => h9) rfl hin rfl (by decide +kernel) rfl rfl (Nat.le_of_ble_eq_true rfl) dX1_init_17 (fun H locs hP hD hS => ?_)
  have hw : cx_H D cx_Cl [(h0, .inr (1, [.int (nI 0), .ref q1, .ref q2, .null, .null, .null, .null, .null])), (q1, .inl (cI, 8, .inl (cx_nA (fun _ => 0)))), (q2, .inl (cI, 8, .inl (cx_nA (fun _ => 0))))] A s.heap H locs := ⟨hP, hD, hS⟩
  refine lv_aload_n hx hb dX1_init_20 rfl (lv_at hl 0 rfl) ?_
  refine lv_bipush (v := nI 8) hx hb dX1_init_21 (by decide) ?_
  refine cx_newb hx hb hts hK hw hA (by decide) (Nat.le_of_ble_eq_true rfl) (Nat.le_of_ble_eq_true rfl) dX1_init_23 (fun q3 H hw => ?_)
  have hw : cx_H D cx_Cl [(h0, .inr (1, [.int (nI 0), .ref q1, .ref q2, .null, .null, .null, .null, .null])), (q1, .inl (cI, 8, .inl (cx_nA (fun _ => 0)))), (q2, .inl (cI, 8, .inl (cx_nA (fun _ => 0)))), (q3, .inl (cZ, 8, .inl (cx_bA (fun _ => false))))] A s.heap H _ := hw
  refine W.widen (k := 3) (n := 24) (Nat.le_of_ble_eq_true rfl) (Nat.le_of_ble_eq_true rfl) ?_
  refine va_putF (D := D) (ci := 1) (v := .ref q3) (ty := .array .boolean) (C := RX1) (T := TX1) (N := 8) hx hb hts in_X1 tyX1 tyX1_ok nmX1 hown hK hw.1 hw.2.1 hw.2.2 0 rfl rfl 3 (by decide) (hts _ q135) (fun _ h9 => h9) rfl hin rfl (by decide +kernel) rfl rfl (Nat.le_of_ble_eq_true rfl) dX1_init_25 (fun H locs hP hD hS => ?_)
  have hw : cx_H D cx_Cl [(h0, .inr (1, [.int (nI 0), .ref q1, .ref q2, .ref q3, .null, .null, .null, .null])), (q1, .inl (cI, 8, .inl (cx_nA (fun _ => 0)))), (q2, .inl (cI, 8, .inl (cx_nA (fun _ => 0)))), (q3, .inl (cZ, 8, .inl (cx_bA (fun _ => false))))] A s.heap H locs := ⟨hP, hD, hS⟩
  refine lv_aload_n hx hb dX1_init_28 rfl (lv_at hl 0 rfl) ?_
  refine lv_bipush (v := nI 8) hx hb dX1_init_29 (by decide) ?_
  refine cx_news hx hb hts hK hw hA (by decide) (Nat.le_of_ble_eq_true rfl) (Nat.le_of_ble_eq_true rfl) dX1_init_31 (fun q4 H hw => ?_)
  have hw : cx_H D cx_Cl [(h0, .inr (1, [.int (nI 0), .ref q1, .ref q2, .ref q3, .null, .null, .null, .null])), (q1, .inl (cI, 8, .inl (cx_nA (fun _ => 0)))), (q2, .inl (cI, 8, .inl (cx_nA (fun _ => 0)))), (q3, .inl (cZ, 8, .inl (cx_bA (fun _ => false)))), (q4, .inl (cI, 8, .inl (cx_sA (fun _ => 0))))] A s.heap H _ := hw
  refine W.widen (k := 4) (n := 32) (Nat.le_of_ble_eq_true rfl) (Nat.le_of_ble_eq_true rfl) ?_
  refine va_putF (D := D) (ci := 1) (v := .ref q4) (ty := .array .int) (C := RX1) (T := TX1) (N := 8) hx hb hts in_X1 tyX1 tyX1_ok nmX1 hown hK hw.1 hw.2.1 hw.2.2 0 rfl rfl 4 (by decide) (hts _ q136) (fun _ h9 => h9) rfl hin rfl (by decide +kernel) rfl rfl (Nat.le_of_ble_eq_true rfl) dX1_init_33 (fun H locs hP hD hS => ?_)
  have hw : cx_H D cx_Cl [(h0, .inr (1, [.int (nI 0), .ref q1, .ref q2, .ref q3, .ref q4, .null, .null, .null])), (q1, .inl (cI, 8, .inl (cx_nA (fun _ => 0)))), (q2, .inl (cI, 8, .inl (cx_nA (fun _ => 0)))), (q3, .inl (cZ, 8, .inl (cx_bA (fun _ => false)))), (q4, .inl (cI, 8, .inl (cx_sA (fun _ => 0))))] A s.heap H locs := ⟨hP, hD, hS⟩
  refine lv_aload_n hx hb dX1_init_36 rfl (lv_at hl 0 rfl) ?_
  refine lv_bipush (v := nI 8) hx hb dX1_init_37 (by decide) ?_
  refine cx_newn hx hb hts hK hw hA (by decide) (Nat.le_of_ble_eq_true rfl) (Nat.le_of_ble_eq_true rfl) dX1_init_39 (fun q5 H hw => ?_)
  have hw : cx_H D cx_Cl [(h0, .inr (1, [.int (nI 0), .ref q1, .ref q2, .ref q3, .ref q4, .null, .null, .null])), (q1, .inl (cI, 8, .inl (cx_nA (fun _ => 0)))), (q2, .inl (cI, 8, .inl (cx_nA (fun _ => 0)))), (q3, .inl (cZ, 8, .inl (cx_bA (fun _ => false)))), (q4, .inl (cI, 8, .inl (cx_sA (fun _ => 0)))), (q5, .inl (cI, 8, .inl (cx_nA (fun _ => 0))))] A s.heap H _ := hw
  refine W.widen (k := 5) (n := 40) (Nat.le_of_ble_eq_true rfl) (Nat.le_of_ble_eq_true rfl) ?_
  refine va_putF (D := D) (ci := 1) (v := .ref q5) (ty := .array .int) (C := RX1) (T := TX1) (N := 8) hx hb hts in_X1 tyX1 tyX1_ok nmX1 hown hK hw.1 hw.2.1 hw.2.2 0 rfl rfl 5 (by decide) (hts _ q137) (fun _ h9 => h9) rfl hin rfl (by decide +kernel) rfl rfl (Nat.le_of_ble_eq_true rfl) dX1_init_41 (fun H locs hP hD hS => ?_)
  have hw : cx_H D cx_Cl [(h0, .inr (1, [.int (nI 0), .ref q1, .ref q2, .ref q3, .ref q4, .ref q5, .null, .null])), (q1, .inl (cI, 8, .inl (cx_nA (fun _ => 0)))), (q2, .inl (cI, 8, .inl (cx_nA (fun _ => 0)))), (q3, .inl (cZ, 8, .inl (cx_bA (fun _ => false)))), (q4, .inl (cI, 8, .inl (cx_sA (fun _ => 0)))), (q5, .inl (cI, 8, .inl (cx_nA (fun _ => 0))))] A s.heap H locs := ⟨hP, hD, hS⟩
  refine lv_aload_n hx hb dX1_init_44 rfl (lv_at hl 0 rfl) ?_
  refine lv_sipush (v := nI 10368) hx hb dX1_init_45 (by decide) ?_
  refine cx_newb hx hb hts hK hw hA (by decide) (Nat.le_of_ble_eq_true rfl) (Nat.le_of_ble_eq_true rfl) dX1_init_48 (fun q6 H hw => ?_)
  have hw : cx_H D cx_Cl [(h0, .inr (1, [.int (nI 0), .ref q1, .ref q2, .ref q3, .ref q4, .ref q5, .null, .null])), (q1, .inl (cI, 8, .inl (cx_nA (fun _ => 0)))), (q2, .inl (cI, 8, .inl (cx_nA (fun _ => 0)))), (q3, .inl (cZ, 8, .inl (cx_bA (fun _ => false)))), (q4, .inl (cI, 8, .inl (cx_sA (fun _ => 0)))), (q5, .inl (cI, 8, .inl (cx_nA (fun _ => 0)))), (q6, .inl (cZ, 10368, .inl (cx_bA (fun _ => false))))] A s.heap H _ := hw
  refine W.widen (k := 6) (n := 10408) (Nat.le_of_ble_eq_true rfl) (Nat.le_of_ble_eq_true rfl) ?_
  refine va_putF (D := D) (ci := 1) (v := .ref q6) (ty := .array .boolean) (C := RX1) (T := TX1) (N := 8) hx hb hts in_X1 tyX1 tyX1_ok nmX1 hown hK hw.1 hw.2.1 hw.2.2 0 rfl rfl 6 (by decide) (hts _ q138) (fun _ h9 => h9) rfl hin rfl (by decide +kernel) rfl rfl (Nat.le_of_ble_eq_true rfl) dX1_init_50 (fun H locs hP hD hS => ?_)
  have hw : cx_H D cx_Cl [(h0, .inr (1, [.int (nI 0), .ref q1, .ref q2, .ref q3, .ref q4, .ref q5, .ref q6, .null])), (q1, .inl (cI, 8, .inl (cx_nA (fun _ => 0)))), (q2, .inl (cI, 8, .inl (cx_nA (fun _ => 0)))), (q3, .inl (cZ, 8, .inl (cx_bA (fun _ => false)))), (q4, .inl (cI, 8, .inl (cx_sA (fun _ => 0)))), (q5, .inl (cI, 8, .inl (cx_nA (fun _ => 0)))), (q6, .inl (cZ, 10368, .inl (cx_bA (fun _ => false))))] A s.heap H locs := ⟨hP, hD, hS⟩
  refine lv_aload_n hx hb dX1_init_53 rfl (lv_at hl 0 rfl) ?_
  refine lv_bipush (v := nI 8) hx hb dX1_init_54 (by decide) ?_
  refine cx_newn hx hb hts hK hw hA (by decide) (Nat.le_of_ble_eq_true rfl) (Nat.le_of_ble_eq_true rfl) dX1_init_56 (fun q7 H hw => ?_)
  have hw : cx_H D cx_Cl [(h0, .inr (1, [.int (nI 0), .ref q1, .ref q2, .ref q3, .ref q4, .ref q5, .ref q6, .null])), (q1, .inl (cI, 8, .inl (cx_nA (fun _ => 0)))), (q2, .inl (cI, 8, .inl (cx_nA (fun _ => 0)))), (q3, .inl (cZ, 8, .inl (cx_bA (fun _ => false)))), (q4, .inl (cI, 8, .inl (cx_sA (fun _ => 0)))), (q5, .inl (cI, 8, .inl (cx_nA (fun _ => 0)))), (q6, .inl (cZ, 10368, .inl (cx_bA (fun _ => false)))), (q7, .inl (cI, 8, .inl (cx_nA (fun _ => 0))))] A s.heap H _ := hw
  refine W.widen (k := 7) (n := 10416) (Nat.le_of_ble_eq_true rfl) (Nat.le_of_ble_eq_true rfl) ?_
  refine va_putF (D := D) (ci := 1) (v := .ref q7) (ty := .array .int) (C := RX1) (T := TX1) (N := 8) hx hb hts in_X1 tyX1 tyX1_ok nmX1 hown hK hw.1 hw.2.1 hw.2.2 0 rfl rfl 7 (by decide) (hts _ q139) (fun _ h9 => h9) rfl hin rfl (by decide +kernel) rfl rfl (Nat.le_of_ble_eq_true rfl) dX1_init_58 (fun H locs hP hD hS => ?_)
  have hw : cx_H D cx_Cl [(h0, .inr (1, [.int (nI 0), .ref q1, .ref q2, .ref q3, .ref q4, .ref q5, .ref q6, .ref q7])), (q1, .inl (cI, 8, .inl (cx_nA (fun _ => 0)))), (q2, .inl (cI, 8, .inl (cx_nA (fun _ => 0)))), (q3, .inl (cZ, 8, .inl (cx_bA (fun _ => false)))), (q4, .inl (cI, 8, .inl (cx_sA (fun _ => 0)))), (q5, .inl (cI, 8, .inl (cx_nA (fun _ => 0)))), (q6, .inl (cZ, 10368, .inl (cx_bA (fun _ => false)))), (q7, .inl (cI, 8, .inl (cx_nA (fun _ => 0))))] A s.heap H locs := ⟨hP, hD, hS⟩
  have hw : cx_H D cx_Cl (cx_w1 cI cZ (cx_ad [h0, q1, q2, q3, q4, q5, q6, q7]) cx_s1) A s.heap H locs := hw
  exact W.vret hx hb hr (fun t ht hW => ⟨⟨_, rfl, rfl, by rw [ht]; exact hw.1, va_K.moved hW.alike hK, hw.2.1⟩, hw.2.2.F ht⟩) hw.2.2.2.2 dX1_init_61
end
section
/-! ROWS FOR THE LAW: calls on one of the two objects, the script (printed by gen/law.py) -/
section LAWROWS
variable {p : Program} {l : Launch} {e : Env} {R : Room} {s : State} {m : MethodId} {args : Array Value} {below : List Frame} {meth : Method} {c : Code} {H : Heap} {locs : List Loc} {cells slots : Nat} {Q : State → Prop}
variable {cc : ByteArray} {pc : Nat} {ls : Array Slot} {rest st : List Value} {D : va_G} {A : Nat → Prop} {H0 : Heap} {nL : Nat} {own : String}
variable {y : MethodName} {b : ByteArray} {nL' : Nat} {ret : Option FieldType} {rm : Room} {cI cZ : ClassId} {As : List Value} {σ : cx_T0} {τ : cx_T1} {n idx : Nat} {ad ad' : Nat → Nat}
set_option maxRecDepth 100000 in
theorem cx_lc0 {post : Int32 → cx_T0 → Prop} (S : CallFix p m c cc nL s args lw_all own) (hM : cx_Ki l y b nL' ret rm D cI cZ (cx_w0 cI cZ ad) (.ref (ad 0) :: As) σ post) (cw : CallW R s args own y.cls idx y b nL' ret (ws_ y b nL' ret) rm 0 0 n) (hK : va_K D cx_Cl (cx_ty cI cZ) s) (hw : cx_H D cx_Cl (cx_w0 cI cZ ad σ ++ cx_w1 cI cZ ad' τ) A H0 H locs) (hA : ∀ q, H0.size ≤ q → A q) (hq : RX0 = y.cls) (hn : As.length = n) (hls : ls.size = nL) (hst : st = As.reverse ++ .ref (ad 0) :: rest) (hroom : (rest.map fun v => v.category).sum ≤ 8) (hdg : decode cc pc = .ok (.invokevirtual idx, 3)) (hcs : cells ≤ R.cells ∧ slots ≤ R.slots)
    (kk : ∀ (r : Int32) (σ' : cx_T0) (H1 : Heap) (locs1 : List Loc), post r σ' → cx_H D cx_Cl (cx_w0 cI cZ ad σ' ++ cx_w1 cI cZ ad' τ) A H0 H1 locs1 → W p l e R s m args below meth c H1 locs1 cells slots Q (F0 m (pc + 3) ls (.int r :: rest))) : W p l e R s m args below meth c H locs cells slots Q (F0 m pc ls st) := by
  subst hst
  have hPc := hw.1.sub (ws' := cx_w0 cI cZ ad σ) [0, 1, 2, 3, 4, 5, 6] rfl
  have hDc := hw.2.1.sub (ws' := cx_w0 cI cZ ad σ) [0, 1, 2, 3, 4, 5, 6] (by decide) rfl
  have hFc := va_free (wc := cx_w0 cI cZ ad σ) hw.2.1 hw.2.2 hA [0, 1, 2, 3, 4, 5, 6] rfl
  refine va_calli (va_runV (As := As) (rest := rest) S (hM H.size) cw ⟨fun a U g mk q => by obtain ⟨q0, q1, qP, qK, qD⟩ := q; exact ⟨q0, q1, qP, va_K.moved (u := U) (U := U.calling g mk a) (Vm.Alike.refl U.vm) qK, qD⟩, hq ▸ va_recv hK hPc (ci := 0) (q0 := 0) (cl := cx_Cl) rfl rfl, fun U hU hW => ⟨rfl, by rw [hU], by rw [hU]; exact hPc, va_K.moved hW.alike hK, hDc.weaken (fun _ _ _ _ => trivial)⟩⟩ rfl hn hls rfl (lv_room hroom) hdg hcs) hw.2.2 (fun q _ h => hFc q h) hFc (fun r u t H1 locs1 ht hvm hp hB hz1 hk1 hS => ?_)
  obtain ⟨hP, hD⟩ := va_join (wr := cx_w1 cI cZ ad' τ) (w1 := cx_w0 cI cZ ad u) hw.1 hw.2.1 [0, 1, 2, 3, 4, 5, 6] [7, 8, 9, 10, 11, 12, 13, 14] rfl rfl (by decide) (by decide) hk1 hFc (by rw [← ht]; exact hB.1) hB.2.2
  exact kk r u H1 locs1 hp ⟨hP.sub [8, 9, 10, 11, 12, 13, 14, 0, 1, 2, 3, 4, 5, 6, 7] rfl, hD.sub [8, 9, 10, 11, 12, 13, 14, 0, 1, 2, 3, 4, 5, 6, 7] (by decide) rfl, hS⟩
set_option maxRecDepth 100000 in
theorem cx_lc1 {post : Int32 → cx_T1 → Prop} (S : CallFix p m c cc nL s args lw_all own) (hM : cx_Ki l y b nL' ret rm D cI cZ (cx_w1 cI cZ ad') (.ref (ad' 0) :: As) τ post) (cw : CallW R s args own y.cls idx y b nL' ret (ws_ y b nL' ret) rm 0 0 n) (hK : va_K D cx_Cl (cx_ty cI cZ) s) (hw : cx_H D cx_Cl (cx_w0 cI cZ ad σ ++ cx_w1 cI cZ ad' τ) A H0 H locs) (hA : ∀ q, H0.size ≤ q → A q) (hq : RX1 = y.cls) (hn : As.length = n) (hls : ls.size = nL) (hst : st = As.reverse ++ .ref (ad' 0) :: rest) (hroom : (rest.map fun v => v.category).sum ≤ 8) (hdg : decode cc pc = .ok (.invokevirtual idx, 3)) (hcs : cells ≤ R.cells ∧ slots ≤ R.slots)
    (kk : ∀ (r : Int32) (σ' : cx_T1) (H1 : Heap) (locs1 : List Loc), post r σ' → cx_H D cx_Cl (cx_w0 cI cZ ad σ ++ cx_w1 cI cZ ad' σ') A H0 H1 locs1 → W p l e R s m args below meth c H1 locs1 cells slots Q (F0 m (pc + 3) ls (.int r :: rest))) : W p l e R s m args below meth c H locs cells slots Q (F0 m pc ls st) := by
  subst hst
  have hPc := hw.1.sub (ws' := cx_w1 cI cZ ad' τ) [7, 8, 9, 10, 11, 12, 13, 14] rfl
  have hDc := hw.2.1.sub (ws' := cx_w1 cI cZ ad' τ) [7, 8, 9, 10, 11, 12, 13, 14] (by decide) rfl
  have hFc := va_free (wc := cx_w1 cI cZ ad' τ) hw.2.1 hw.2.2 hA [7, 8, 9, 10, 11, 12, 13, 14] rfl
  refine va_calli (va_runV (As := As) (rest := rest) S (hM H.size) cw ⟨fun a U g mk q => by obtain ⟨q0, q1, qP, qK, qD⟩ := q; exact ⟨q0, q1, qP, va_K.moved (u := U) (U := U.calling g mk a) (Vm.Alike.refl U.vm) qK, qD⟩, hq ▸ va_recv hK hPc (ci := 1) (q0 := 0) (cl := cx_Cl) rfl rfl, fun U hU hW => ⟨rfl, by rw [hU], by rw [hU]; exact hPc, va_K.moved hW.alike hK, hDc.weaken (fun _ _ _ _ => trivial)⟩⟩ rfl hn hls rfl (lv_room hroom) hdg hcs) hw.2.2 (fun q _ h => hFc q h) hFc (fun r u t H1 locs1 ht hvm hp hB hz1 hk1 hS => ?_)
  obtain ⟨hP, hD⟩ := va_join (wr := cx_w0 cI cZ ad σ) (w1 := cx_w1 cI cZ ad' u) hw.1 hw.2.1 [7, 8, 9, 10, 11, 12, 13, 14] [0, 1, 2, 3, 4, 5, 6] rfl rfl (by decide) (by decide) hk1 hFc (by rw [← ht]; exact hB.1) hB.2.2
  exact kk r u H1 locs1 hp ⟨hP.sub [0, 1, 2, 3, 4, 5, 6, 7, 8, 9, 10, 11, 12, 13, 14] rfl, hD.sub [0, 1, 2, 3, 4, 5, 6, 7, 8, 9, 10, 11, 12, 13, 14] (by decide) rfl, hS⟩
theorem cx_sld {x0 L : Nat} {xs : Nat → Int32} (hx : p.tables.exec = Jvm.exec) (hb : c.code = cc) (hX : va_X x0 L xs s H0) (hbl : x0 < H0.size) (hbA : ¬ A x0) (hS : va_S A H0 H locs) {i : Nat} (hi : i < L) (hL : L < 2 ^ 31) (hdg : decode cc pc = .ok (.iaload, 1)) (k : W p l e R s m args below meth c H locs cells slots Q (F0 m (pc + 1) ls (.int (xs i) :: rest))) : W p l e R s m args below meth c H locs cells slots Q (F0 m pc ls (.int (nI i) :: .ref x0 :: rest)) := by
  refine va_sld hx hb hX hbl hbA hS (vp_in_nI hi hL) hdg ?_
  rw [nI_clamp (by omega)]
  exact k
end LAWROWS
end
section
/-! THE CLAIM OUT OF ONE WALK OF THE LAW'S BODY. Your part is whole_start (and what it stands on); all else here is the same for every law, but numbers. -/
def R_law : String := "CausalCheckLaw"
def lw_P (b : Addr) (xs : List Int32) (args : Array Value) (s : State) : Prop := args = #[.ref b] ∧ s.IntsAt b xs ∧ xs.length ≤ 256 ∧ (Jvm.Cond.and given_1 narrow_1).before args s = true
def lw_Q (_ : Array Value) (s : State) (o : Outcome) (t : State) : Prop := o = .returned (some (.int 1)) ∧ Framed s o t [] 600000 7290000
def lw_Z (below : List Frame) (a : Array Value) (s : State) : State → Prop := fun t => ∃ o, t.status = .running ∧ Ended t below o ∧ lw_Q a s o t
/-- the law's own end, with 1 on the stack, nothing written that was there before, its room as the claim has it -/
theorem lw_ret {p : Program} {l : Launch} {e : Env} {s : State} {m : MethodId} {below : List Frame} {meth : Method} {c : Code} {b : Nat} (hx : p.tables.exec = Jvm.exec) (hb : c.code = code) (hr : meth.sig.returnType = ret) (hlocks : meth.locks = false) {pc : Nat} {H : Heap} {ls : Array Slot} (hdg : decode code pc = .ok (.ireturn, 1)) : W p l e room_1 s m #[Value.ref b] below meth c H [] 600000 7290000 (lw_Z below #[Value.ref b] s) (F0 m pc ls [.int 1]) := by
  intro T hT X
  obtain ⟨fs, hret, hrun, hended, hW, hframe⟩ := X.leave (v := some (.int 1)) (hlocks := hlocks) (fun h => by rw [hr] at h; cases h)
  have hmeth' : T.vm.method? m = some meth := X.method'
  refine ⟨T.setFrames fs, ?_, .returned (some (.int 1)), hrun, hended, rfl, ⟨_, rfl⟩, hW, hframe⟩
  jvm_step X.here [X.here.top, hx, hb, hdg, hmeth', hr, ret, narrow_b1]
  (try refine ⟨rfl, ?_⟩); (try refine ⟨rfl, ?_⟩)
  first | (intro acts; rw [hret _ acts rfl rfl rfl]) | rw [hret _ _ rfl rfl rfl]
  exact Steps.refl _
/-- what holds at the law's entry: the machine, the code, the tables' words (any of lw_tbl by 'hts w (by decide +kernel)'), the script of L ints xs at the cell b, what the Statement gives of the start (any of its parts by flat_of_before) -/
def lw_At (p : Program) (s : State) (m : MethodId) (meth : Method) (c : Code) (b L : Nat) (xs : Nat → Int32) : Prop :=
  p.tables.exec = Jvm.exec ∧ c.code = code ∧ meth.sig.returnType = ret ∧ c.maxLocals = 4 ∧ s.vm.findClass R_law = some m.cls ∧ (∀ w ∈ lw_tbl, w.before #[Value.ref b] s = true) ∧ va_X b L xs s s.heap ∧ b < s.heap.size ∧ meth.locks = false ∧ (Jvm.Cond.and given_1 narrow_1).before #[Value.ref b] s = true
end
section
/-! THE LAW: one case of the switch each (printed by gen/law.py) -/
set_option maxHeartbeats 4000000 in
set_option maxRecDepth 100000 in
theorem cx_case_write {p : Program} {l : Launch} {e : Env} {s : State} {m : MethodId} {below : List Frame} {meth : Method} {c : Code} {H : Heap} {locs : List Loc} {Q : State → Prop} {ls : Array Slot} {D : va_G} {A : Nat → Prop} {cI cZ : ClassId} {ad ad' : Nat → Nat} {b L i : Nat} {xs : Nat → Int32} {n : Nat} {us cs : Nat → Nat} {wr : Nat → Bool} {so ea mu : Nat → Nat} {ro : Nat → Bool} {od : Nat → Nat}
    (S : CallFix p m c cL_law 4 s #[Value.ref b] lw_all "CausalCheckLaw") (hK : va_K D cx_Cl (cx_ty cI cZ) s) (hA : ∀ q, s.heap.size ≤ q → A q) (hX : va_X b L xs s s.heap) (hbl : b < s.heap.size) (hbA : ¬ A b) (hL : L ≤ 256) (hi : i + 4 ≤ L) (hV : cx_Va n us cs wr so ea) (hn : n ≤ 7)
    (hw : cx_H D cx_Cl (cx_w0 cI cZ ad (n, us, cs, wr, so, ea, mu) ++ cx_w1 cI cZ ad' (n, us, cs, wr, so, ea, ro, od)) A s.heap H locs) (hl : lv_has ls 4 [(3, .int (nI i)), (2, .ref (ad' 0)), (1, .ref (ad 0)), (0, .ref b)])
    (K : ∀ (σ : cx_T0) (τ : cx_T1) (H : Heap) (locs : List Loc), cx_Jn σ τ → cx_H D cx_Cl (cx_w0 cI cZ ad σ ++ cx_w1 cI cZ ad' τ) A s.heap H locs → W p l e room_1 s m #[Value.ref b] below meth c H locs 600000 7290000 Q (F0 m 294 ls [])) : W p l e room_1 s m #[Value.ref b] below meth c H locs 600000 7290000 Q (F0 m 80 ls []) := by
  have hx := S.1
  have hb := S.2.1
  have hts := S.2.2.2.2
  refine lv_aload_n hx hb dL_law_80 rfl (lv_at hl 2 rfl) ?_
  refine lv_aload_n hx hb dL_law_81 rfl (lv_at hl 3 rfl) ?_
  refine lv_iload_n hx hb dL_law_82 rfl (lv_at hl 0 rfl) ?_
  refine lv_iconst (v := nI 1) hx hb dL_law_83 (by decide) ?_
  refine cx_iadd hx hb dL_law_84 ?_
  refine cx_sld hx hb hX hbl hbA hw.2.2 (by omega) (by omega) dL_law_85 ?_
  refine lv_aload_n hx hb dL_law_86 rfl (lv_at hl 3 rfl) ?_
  refine lv_iload_n hx hb dL_law_87 rfl (lv_at hl 0 rfl) ?_
  refine lv_iconst (v := nI 2) hx hb dL_law_88 (by decide) ?_
  refine cx_iadd hx hb dL_law_89 ?_
  refine cx_sld hx hb hX hbl hbA hw.2.2 (by omega) (by omega) dL_law_90 ?_
  refine cx_lc0 (As := [.int (xs (i + 1)), .int (xs (i + 2))]) S (k0_write l D cI cZ ad hV hn (xs (i + 1)) (xs (i + 2))) (cwV 2 hts (lw_V q54 q55 q56 q20 q57) rfl rfl rfl (by decide +kernel) ⟨Nat.le_of_ble_eq_true rfl, Nat.le_of_ble_eq_true rfl⟩) hK hw hA rfl rfl hl.1 rfl (Nat.le_of_ble_eq_true rfl) dL_law_91 ⟨Nat.le_refl _, Nat.le_refl _⟩ (fun r1 σ1 H locs hp1 hw => ?_)
  refine lv_aload_n hx hb dL_law_94 rfl (lv_at hl 1 rfl) ?_
  refine lv_aload_n hx hb dL_law_95 rfl (lv_at hl 3 rfl) ?_
  refine lv_iload_n hx hb dL_law_96 rfl (lv_at hl 0 rfl) ?_
  refine lv_iconst (v := nI 1) hx hb dL_law_97 (by decide) ?_
  refine cx_iadd hx hb dL_law_98 ?_
  refine cx_sld hx hb hX hbl hbA hw.2.2 (by omega) (by omega) dL_law_99 ?_
  refine lv_aload_n hx hb dL_law_100 rfl (lv_at hl 3 rfl) ?_
  refine lv_iload_n hx hb dL_law_101 rfl (lv_at hl 0 rfl) ?_
  refine lv_iconst (v := nI 2) hx hb dL_law_102 (by decide) ?_
  refine cx_iadd hx hb dL_law_103 ?_
  refine cx_sld hx hb hX hbl hbA hw.2.2 (by omega) (by omega) dL_law_104 ?_
  refine cx_lc1 (As := [.int (xs (i + 1)), .int (xs (i + 2))]) S (k1_write l D cI cZ ad' hV hn (xs (i + 1)) (xs (i + 2))) (cwV 2 hts (lw_V q157 q158 q159 q21 q160) rfl rfl rfl (by decide +kernel) ⟨Nat.le_of_ble_eq_true rfl, Nat.le_of_ble_eq_true rfl⟩) hK hw hA rfl rfl hl.1 rfl (Nat.le_of_ble_eq_true rfl) dL_law_105 ⟨Nat.le_refl _, Nat.le_refl _⟩ (fun r2 σ2 H locs hp2 hw => ?_)
  obtain ⟨he, hJ⟩ := cx_j_write hV hn hp1 hp2
  refine lv_icmp_eq (tgt := 294) hx hb dL_law_108 (by decide) (fun _ => ?_) (fun h => absurd he h)
  exact K _ _ _ _ hJ hw
set_option maxHeartbeats 4000000 in
set_option maxRecDepth 100000 in
theorem cx_case_read {p : Program} {l : Launch} {e : Env} {s : State} {m : MethodId} {below : List Frame} {meth : Method} {c : Code} {H : Heap} {locs : List Loc} {Q : State → Prop} {ls : Array Slot} {D : va_G} {A : Nat → Prop} {cI cZ : ClassId} {ad ad' : Nat → Nat} {b L i : Nat} {xs : Nat → Int32} {n : Nat} {us cs : Nat → Nat} {wr : Nat → Bool} {so ea mu : Nat → Nat} {ro : Nat → Bool} {od : Nat → Nat}
    (S : CallFix p m c cL_law 4 s #[Value.ref b] lw_all "CausalCheckLaw") (hK : va_K D cx_Cl (cx_ty cI cZ) s) (hA : ∀ q, s.heap.size ≤ q → A q) (hX : va_X b L xs s s.heap) (hbl : b < s.heap.size) (hbA : ¬ A b) (hL : L ≤ 256) (hi : i + 4 ≤ L) (hV : cx_Va n us cs wr so ea) (hn : n ≤ 7)
    (hw : cx_H D cx_Cl (cx_w0 cI cZ ad (n, us, cs, wr, so, ea, mu) ++ cx_w1 cI cZ ad' (n, us, cs, wr, so, ea, ro, od)) A s.heap H locs) (hl : lv_has ls 4 [(3, .int (nI i)), (2, .ref (ad' 0)), (1, .ref (ad 0)), (0, .ref b)])
    (K : ∀ (σ : cx_T0) (τ : cx_T1) (H : Heap) (locs : List Loc), cx_Jn σ τ → cx_H D cx_Cl (cx_w0 cI cZ ad σ ++ cx_w1 cI cZ ad' τ) A s.heap H locs → W p l e room_1 s m #[Value.ref b] below meth c H locs 600000 7290000 Q (F0 m 294 ls [])) : W p l e room_1 s m #[Value.ref b] below meth c H locs 600000 7290000 Q (F0 m 113 ls []) := by
  have hx := S.1
  have hb := S.2.1
  have hts := S.2.2.2.2
  refine lv_aload_n hx hb dL_law_113 rfl (lv_at hl 2 rfl) ?_
  refine lv_aload_n hx hb dL_law_114 rfl (lv_at hl 3 rfl) ?_
  refine lv_iload_n hx hb dL_law_115 rfl (lv_at hl 0 rfl) ?_
  refine lv_iconst (v := nI 1) hx hb dL_law_116 (by decide) ?_
  refine cx_iadd hx hb dL_law_117 ?_
  refine cx_sld hx hb hX hbl hbA hw.2.2 (by omega) (by omega) dL_law_118 ?_
  refine lv_aload_n hx hb dL_law_119 rfl (lv_at hl 3 rfl) ?_
  refine lv_iload_n hx hb dL_law_120 rfl (lv_at hl 0 rfl) ?_
  refine lv_iconst (v := nI 2) hx hb dL_law_121 (by decide) ?_
  refine cx_iadd hx hb dL_law_122 ?_
  refine cx_sld hx hb hX hbl hbA hw.2.2 (by omega) (by omega) dL_law_123 ?_
  refine lv_aload_n hx hb dL_law_124 rfl (lv_at hl 3 rfl) ?_
  refine lv_iload_n hx hb dL_law_125 rfl (lv_at hl 0 rfl) ?_
  refine lv_iconst (v := nI 3) hx hb dL_law_126 (by decide) ?_
  refine cx_iadd hx hb dL_law_127 ?_
  refine cx_sld hx hb hX hbl hbA hw.2.2 (by omega) (by omega) dL_law_128 ?_
  refine cx_lc0 (As := [.int (xs (i + 1)), .int (xs (i + 2)), .int (xs (i + 3))]) S (k0_read l D cI cZ ad hV hn (xs (i + 1)) (xs (i + 2)) (xs (i + 3))) (cwV 3 hts (lw_V q62 q63 q64 q20 q65) rfl rfl rfl (by decide +kernel) ⟨Nat.le_of_ble_eq_true rfl, Nat.le_of_ble_eq_true rfl⟩) hK hw hA rfl rfl hl.1 rfl (Nat.le_of_ble_eq_true rfl) dL_law_129 ⟨Nat.le_refl _, Nat.le_refl _⟩ (fun r1 σ1 H locs hp1 hw => ?_)
  refine lv_aload_n hx hb dL_law_132 rfl (lv_at hl 1 rfl) ?_
  refine lv_aload_n hx hb dL_law_133 rfl (lv_at hl 3 rfl) ?_
  refine lv_iload_n hx hb dL_law_134 rfl (lv_at hl 0 rfl) ?_
  refine lv_iconst (v := nI 1) hx hb dL_law_135 (by decide) ?_
  refine cx_iadd hx hb dL_law_136 ?_
  refine cx_sld hx hb hX hbl hbA hw.2.2 (by omega) (by omega) dL_law_137 ?_
  refine lv_aload_n hx hb dL_law_138 rfl (lv_at hl 3 rfl) ?_
  refine lv_iload_n hx hb dL_law_139 rfl (lv_at hl 0 rfl) ?_
  refine lv_iconst (v := nI 2) hx hb dL_law_140 (by decide) ?_
  refine cx_iadd hx hb dL_law_141 ?_
  refine cx_sld hx hb hX hbl hbA hw.2.2 (by omega) (by omega) dL_law_142 ?_
  refine lv_aload_n hx hb dL_law_143 rfl (lv_at hl 3 rfl) ?_
  refine lv_iload_n hx hb dL_law_144 rfl (lv_at hl 0 rfl) ?_
  refine lv_iconst (v := nI 3) hx hb dL_law_145 (by decide) ?_
  refine cx_iadd hx hb dL_law_146 ?_
  refine cx_sld hx hb hX hbl hbA hw.2.2 (by omega) (by omega) dL_law_147 ?_
  refine cx_lc1 (As := [.int (xs (i + 1)), .int (xs (i + 2)), .int (xs (i + 3))]) S (k1_read l D cI cZ ad' hV hn (xs (i + 1)) (xs (i + 2)) (xs (i + 3))) (cwV 3 hts (lw_V q168 q169 q170 q21 q171) rfl rfl rfl (by decide +kernel) ⟨Nat.le_of_ble_eq_true rfl, Nat.le_of_ble_eq_true rfl⟩) hK hw hA rfl rfl hl.1 rfl (Nat.le_of_ble_eq_true rfl) dL_law_148 ⟨Nat.le_refl _, Nat.le_refl _⟩ (fun r2 σ2 H locs hp2 hw => ?_)
  obtain ⟨he, hJ⟩ := cx_j_read hV hn hp1 hp2
  refine lv_icmp_eq (tgt := 294) hx hb dL_law_151 (by decide) (fun _ => ?_) (fun h => absurd he h)
  exact K _ _ _ _ hJ hw
set_option maxHeartbeats 4000000 in
set_option maxRecDepth 100000 in
theorem cx_case_back {p : Program} {l : Launch} {e : Env} {s : State} {m : MethodId} {below : List Frame} {meth : Method} {c : Code} {H : Heap} {locs : List Loc} {Q : State → Prop} {ls : Array Slot} {D : va_G} {A : Nat → Prop} {cI cZ : ClassId} {ad ad' : Nat → Nat} {b L i : Nat} {xs : Nat → Int32} {n : Nat} {us cs : Nat → Nat} {wr : Nat → Bool} {so ea mu : Nat → Nat} {ro : Nat → Bool} {od : Nat → Nat}
    (S : CallFix p m c cL_law 4 s #[Value.ref b] lw_all "CausalCheckLaw") (hK : va_K D cx_Cl (cx_ty cI cZ) s) (hA : ∀ q, s.heap.size ≤ q → A q) (hX : va_X b L xs s s.heap) (hbl : b < s.heap.size) (hbA : ¬ A b) (hL : L ≤ 256) (hi : i + 4 ≤ L) (hV : cx_Va n us cs wr so ea) (hn : n ≤ 7)
    (hw : cx_H D cx_Cl (cx_w0 cI cZ ad (n, us, cs, wr, so, ea, mu) ++ cx_w1 cI cZ ad' (n, us, cs, wr, so, ea, ro, od)) A s.heap H locs) (hl : lv_has ls 4 [(3, .int (nI i)), (2, .ref (ad' 0)), (1, .ref (ad 0)), (0, .ref b)])
    (K : ∀ (σ : cx_T0) (τ : cx_T1) (H : Heap) (locs : List Loc), cx_Jn σ τ → cx_H D cx_Cl (cx_w0 cI cZ ad σ ++ cx_w1 cI cZ ad' τ) A s.heap H locs → W p l e room_1 s m #[Value.ref b] below meth c H locs 600000 7290000 Q (F0 m 294 ls [])) : W p l e room_1 s m #[Value.ref b] below meth c H locs 600000 7290000 Q (F0 m 156 ls []) := by
  have hx := S.1
  have hb := S.2.1
  have hts := S.2.2.2.2
  refine lv_aload_n hx hb dL_law_156 rfl (lv_at hl 2 rfl) ?_
  refine cx_lc0 (As := []) S (k0_back l D cI cZ ad hn ) (cwV 0 hts (lw_V q70 q71 q72 q20 q73) rfl rfl rfl (by decide +kernel) ⟨Nat.le_of_ble_eq_true rfl, Nat.le_of_ble_eq_true rfl⟩) hK hw hA rfl rfl hl.1 rfl (Nat.le_of_ble_eq_true rfl) dL_law_157 ⟨Nat.le_refl _, Nat.le_refl _⟩ (fun r1 σ1 H locs hp1 hw => ?_)
  refine lv_aload_n hx hb dL_law_160 rfl (lv_at hl 1 rfl) ?_
  refine cx_lc1 (As := []) S (k1_back l D cI cZ ad' hn ) (cwV 0 hts (lw_V q176 q177 q178 q21 q179) rfl rfl rfl (by decide +kernel) ⟨Nat.le_of_ble_eq_true rfl, Nat.le_of_ble_eq_true rfl⟩) hK hw hA rfl rfl hl.1 rfl (Nat.le_of_ble_eq_true rfl) dL_law_161 ⟨Nat.le_refl _, Nat.le_refl _⟩ (fun r2 σ2 H locs hp2 hw => ?_)
  obtain ⟨he, hJ⟩ := cx_j_back hV hn hp1 hp2
  refine lv_icmp_eq (tgt := 294) hx hb dL_law_164 (by decide) (fun _ => ?_) (fun h => absurd he h)
  exact K _ _ _ _ hJ hw
set_option maxHeartbeats 4000000 in
set_option maxRecDepth 100000 in
theorem cx_case_before {p : Program} {l : Launch} {e : Env} {s : State} {m : MethodId} {below : List Frame} {meth : Method} {c : Code} {H : Heap} {locs : List Loc} {Q : State → Prop} {ls : Array Slot} {D : va_G} {A : Nat → Prop} {cI cZ : ClassId} {ad ad' : Nat → Nat} {b L i : Nat} {xs : Nat → Int32} {n : Nat} {us cs : Nat → Nat} {wr : Nat → Bool} {so ea mu : Nat → Nat} {ro : Nat → Bool} {od : Nat → Nat}
    (S : CallFix p m c cL_law 4 s #[Value.ref b] lw_all "CausalCheckLaw") (hK : va_K D cx_Cl (cx_ty cI cZ) s) (hA : ∀ q, s.heap.size ≤ q → A q) (hX : va_X b L xs s s.heap) (hbl : b < s.heap.size) (hbA : ¬ A b) (hL : L ≤ 256) (hi : i + 4 ≤ L) (hV : cx_Va n us cs wr so ea) (hn : n ≤ 7)
    (hw : cx_H D cx_Cl (cx_w0 cI cZ ad (n, us, cs, wr, so, ea, mu) ++ cx_w1 cI cZ ad' (n, us, cs, wr, so, ea, ro, od)) A s.heap H locs) (hl : lv_has ls 4 [(3, .int (nI i)), (2, .ref (ad' 0)), (1, .ref (ad 0)), (0, .ref b)])
    (K : ∀ (σ : cx_T0) (τ : cx_T1) (H : Heap) (locs : List Loc), cx_Jn σ τ → cx_H D cx_Cl (cx_w0 cI cZ ad σ ++ cx_w1 cI cZ ad' τ) A s.heap H locs → W p l e room_1 s m #[Value.ref b] below meth c H locs 600000 7290000 Q (F0 m 294 ls [])) : W p l e room_1 s m #[Value.ref b] below meth c H locs 600000 7290000 Q (F0 m 169 ls []) := by
  have hx := S.1
  have hb := S.2.1
  have hts := S.2.2.2.2
  refine lv_aload_n hx hb dL_law_169 rfl (lv_at hl 2 rfl) ?_
  refine lv_aload_n hx hb dL_law_170 rfl (lv_at hl 3 rfl) ?_
  refine lv_iload_n hx hb dL_law_171 rfl (lv_at hl 0 rfl) ?_
  refine lv_iconst (v := nI 1) hx hb dL_law_172 (by decide) ?_
  refine cx_iadd hx hb dL_law_173 ?_
  refine cx_sld hx hb hX hbl hbA hw.2.2 (by omega) (by omega) dL_law_174 ?_
  refine lv_aload_n hx hb dL_law_175 rfl (lv_at hl 3 rfl) ?_
  refine lv_iload_n hx hb dL_law_176 rfl (lv_at hl 0 rfl) ?_
  refine lv_iconst (v := nI 2) hx hb dL_law_177 (by decide) ?_
  refine cx_iadd hx hb dL_law_178 ?_
  refine cx_sld hx hb hX hbl hbA hw.2.2 (by omega) (by omega) dL_law_179 ?_
  refine cx_lc0 (As := [.int (xs (i + 1)), .int (xs (i + 2))]) S (k0_before l D cI cZ ad hV (by omega) (xs (i + 1)) (xs (i + 2))) (cwV 2 hts (lw_V q74 q75 q76 q20 q77) rfl rfl rfl (by decide +kernel) ⟨Nat.le_of_ble_eq_true rfl, Nat.le_of_ble_eq_true rfl⟩) hK hw hA rfl rfl hl.1 rfl (Nat.le_of_ble_eq_true rfl) dL_law_180 ⟨Nat.le_refl _, Nat.le_refl _⟩ (fun r1 σ1 H locs hp1 hw => ?_)
  refine lv_aload_n hx hb dL_law_183 rfl (lv_at hl 1 rfl) ?_
  refine lv_aload_n hx hb dL_law_184 rfl (lv_at hl 3 rfl) ?_
  refine lv_iload_n hx hb dL_law_185 rfl (lv_at hl 0 rfl) ?_
  refine lv_iconst (v := nI 1) hx hb dL_law_186 (by decide) ?_
  refine cx_iadd hx hb dL_law_187 ?_
  refine cx_sld hx hb hX hbl hbA hw.2.2 (by omega) (by omega) dL_law_188 ?_
  refine lv_aload_n hx hb dL_law_189 rfl (lv_at hl 3 rfl) ?_
  refine lv_iload_n hx hb dL_law_190 rfl (lv_at hl 0 rfl) ?_
  refine lv_iconst (v := nI 2) hx hb dL_law_191 (by decide) ?_
  refine cx_iadd hx hb dL_law_192 ?_
  refine cx_sld hx hb hX hbl hbA hw.2.2 (by omega) (by omega) dL_law_193 ?_
  refine cx_lc1 (As := [.int (xs (i + 1)), .int (xs (i + 2))]) S (k1_before l D cI cZ ad' hV (by omega) (xs (i + 1)) (xs (i + 2))) (cwV 2 hts (lw_V q180 q181 q182 q21 q183) rfl rfl rfl (by decide +kernel) ⟨Nat.le_of_ble_eq_true rfl, Nat.le_of_ble_eq_true rfl⟩) hK hw hA rfl rfl hl.1 rfl (Nat.le_of_ble_eq_true rfl) dL_law_194 ⟨Nat.le_refl _, Nat.le_refl _⟩ (fun r2 σ2 H locs hp2 hw => ?_)
  obtain ⟨he, hJ⟩ := cx_j_before hV hn hp1 hp2
  refine lv_icmp_eq (tgt := 294) hx hb dL_law_197 (by decide) (fun _ => ?_) (fun h => absurd he h)
  exact K _ _ _ _ hJ hw
set_option maxHeartbeats 4000000 in
set_option maxRecDepth 100000 in
theorem cx_case_weak {p : Program} {l : Launch} {e : Env} {s : State} {m : MethodId} {below : List Frame} {meth : Method} {c : Code} {H : Heap} {locs : List Loc} {Q : State → Prop} {ls : Array Slot} {D : va_G} {A : Nat → Prop} {cI cZ : ClassId} {ad ad' : Nat → Nat} {b L i : Nat} {xs : Nat → Int32} {n : Nat} {us cs : Nat → Nat} {wr : Nat → Bool} {so ea mu : Nat → Nat} {ro : Nat → Bool} {od : Nat → Nat}
    (S : CallFix p m c cL_law 4 s #[Value.ref b] lw_all "CausalCheckLaw") (hK : va_K D cx_Cl (cx_ty cI cZ) s) (hA : ∀ q, s.heap.size ≤ q → A q) (hX : va_X b L xs s s.heap) (hbl : b < s.heap.size) (hbA : ¬ A b) (hL : L ≤ 256) (hi : i + 4 ≤ L) (hV : cx_Va n us cs wr so ea) (hn : n ≤ 7)
    (hw : cx_H D cx_Cl (cx_w0 cI cZ ad (n, us, cs, wr, so, ea, mu) ++ cx_w1 cI cZ ad' (n, us, cs, wr, so, ea, ro, od)) A s.heap H locs) (hl : lv_has ls 4 [(3, .int (nI i)), (2, .ref (ad' 0)), (1, .ref (ad 0)), (0, .ref b)])
    (K : ∀ (σ : cx_T0) (τ : cx_T1) (H : Heap) (locs : List Loc), cx_Jn σ τ → cx_H D cx_Cl (cx_w0 cI cZ ad σ ++ cx_w1 cI cZ ad' τ) A s.heap H locs → W p l e room_1 s m #[Value.ref b] below meth c H locs 600000 7290000 Q (F0 m 294 ls [])) : W p l e room_1 s m #[Value.ref b] below meth c H locs 600000 7290000 Q (F0 m 202 ls []) := by
  have hx := S.1
  have hb := S.2.1
  have hts := S.2.2.2.2
  refine lv_aload_n hx hb dL_law_202 rfl (lv_at hl 2 rfl) ?_
  refine lv_aload_n hx hb dL_law_203 rfl (lv_at hl 3 rfl) ?_
  refine lv_iload_n hx hb dL_law_204 rfl (lv_at hl 0 rfl) ?_
  refine lv_iconst (v := nI 1) hx hb dL_law_205 (by decide) ?_
  refine cx_iadd hx hb dL_law_206 ?_
  refine cx_sld hx hb hX hbl hbA hw.2.2 (by omega) (by omega) dL_law_207 ?_
  refine cx_lc0 (As := [.int (xs (i + 1))]) S (k0_weak l D cI cZ ad hV (by omega) (xs (i + 1))) (cwV 1 hts (lw_V q82 q83 q84 q20 q85) rfl rfl rfl (by decide +kernel) ⟨Nat.le_of_ble_eq_true rfl, Nat.le_of_ble_eq_true rfl⟩) hK hw hA rfl rfl hl.1 rfl (Nat.le_of_ble_eq_true rfl) dL_law_208 ⟨Nat.le_refl _, Nat.le_refl _⟩ (fun r1 σ1 H locs hp1 hw => ?_)
  refine lv_aload_n hx hb dL_law_211 rfl (lv_at hl 1 rfl) ?_
  refine lv_aload_n hx hb dL_law_212 rfl (lv_at hl 3 rfl) ?_
  refine lv_iload_n hx hb dL_law_213 rfl (lv_at hl 0 rfl) ?_
  refine lv_iconst (v := nI 1) hx hb dL_law_214 (by decide) ?_
  refine cx_iadd hx hb dL_law_215 ?_
  refine cx_sld hx hb hX hbl hbA hw.2.2 (by omega) (by omega) dL_law_216 ?_
  refine cx_lc1 (As := [.int (xs (i + 1))]) S (k1_weak l D cI cZ ad' hV hn (xs (i + 1))) (cwV 1 hts (lw_V q188 q189 q190 q21 q191) rfl rfl rfl (by decide +kernel) ⟨Nat.le_of_ble_eq_true rfl, Nat.le_of_ble_eq_true rfl⟩) hK hw hA rfl rfl hl.1 rfl (Nat.le_of_ble_eq_true rfl) dL_law_217 ⟨Nat.le_refl _, Nat.le_refl _⟩ (fun r2 σ2 H locs hp2 hw => ?_)
  obtain ⟨he, hJ⟩ := cx_j_weak hV hn hp1 hp2
  refine lv_icmp_eq (tgt := 294) hx hb dL_law_220 (by decide) (fun _ => ?_) (fun h => absurd he h)
  exact K _ _ _ _ hJ hw
set_option maxHeartbeats 4000000 in
set_option maxRecDepth 100000 in
theorem cx_case_strong {p : Program} {l : Launch} {e : Env} {s : State} {m : MethodId} {below : List Frame} {meth : Method} {c : Code} {H : Heap} {locs : List Loc} {Q : State → Prop} {ls : Array Slot} {D : va_G} {A : Nat → Prop} {cI cZ : ClassId} {ad ad' : Nat → Nat} {b L i : Nat} {xs : Nat → Int32} {n : Nat} {us cs : Nat → Nat} {wr : Nat → Bool} {so ea mu : Nat → Nat} {ro : Nat → Bool} {od : Nat → Nat}
    (S : CallFix p m c cL_law 4 s #[Value.ref b] lw_all "CausalCheckLaw") (hK : va_K D cx_Cl (cx_ty cI cZ) s) (hA : ∀ q, s.heap.size ≤ q → A q) (hX : va_X b L xs s s.heap) (hbl : b < s.heap.size) (hbA : ¬ A b) (hL : L ≤ 256) (hi : i + 4 ≤ L) (hV : cx_Va n us cs wr so ea) (hn : n ≤ 7)
    (hw : cx_H D cx_Cl (cx_w0 cI cZ ad (n, us, cs, wr, so, ea, mu) ++ cx_w1 cI cZ ad' (n, us, cs, wr, so, ea, ro, od)) A s.heap H locs) (hl : lv_has ls 4 [(3, .int (nI i)), (2, .ref (ad' 0)), (1, .ref (ad 0)), (0, .ref b)])
    (K : ∀ (σ : cx_T0) (τ : cx_T1) (H : Heap) (locs : List Loc), cx_Jn σ τ → cx_H D cx_Cl (cx_w0 cI cZ ad σ ++ cx_w1 cI cZ ad' τ) A s.heap H locs → W p l e room_1 s m #[Value.ref b] below meth c H locs 600000 7290000 Q (F0 m 294 ls [])) : W p l e room_1 s m #[Value.ref b] below meth c H locs 600000 7290000 Q (F0 m 225 ls []) := by
  have hx := S.1
  have hb := S.2.1
  have hts := S.2.2.2.2
  refine lv_aload_n hx hb dL_law_225 rfl (lv_at hl 2 rfl) ?_
  refine lv_aload_n hx hb dL_law_226 rfl (lv_at hl 3 rfl) ?_
  refine lv_iload_n hx hb dL_law_227 rfl (lv_at hl 0 rfl) ?_
  refine lv_iconst (v := nI 1) hx hb dL_law_228 (by decide) ?_
  refine cx_iadd hx hb dL_law_229 ?_
  refine cx_sld hx hb hX hbl hbA hw.2.2 (by omega) (by omega) dL_law_230 ?_
  refine cx_lc0 (As := [.int (xs (i + 1))]) S (k0_strong l D cI cZ ad hV hn (xs (i + 1))) (cwV 1 hts (lw_V q90 q91 q92 q20 q93) rfl rfl rfl (by decide +kernel) ⟨Nat.le_of_ble_eq_true rfl, Nat.le_of_ble_eq_true rfl⟩) hK hw hA rfl rfl hl.1 rfl (Nat.le_of_ble_eq_true rfl) dL_law_231 ⟨Nat.le_refl _, Nat.le_refl _⟩ (fun r1 σ1 H locs hp1 hw => ?_)
  refine lv_aload_n hx hb dL_law_234 rfl (lv_at hl 1 rfl) ?_
  refine lv_aload_n hx hb dL_law_235 rfl (lv_at hl 3 rfl) ?_
  refine lv_iload_n hx hb dL_law_236 rfl (lv_at hl 0 rfl) ?_
  refine lv_iconst (v := nI 1) hx hb dL_law_237 (by decide) ?_
  refine cx_iadd hx hb dL_law_238 ?_
  refine cx_sld hx hb hX hbl hbA hw.2.2 (by omega) (by omega) dL_law_239 ?_
  refine cx_lc1 (As := [.int (xs (i + 1))]) S (k1_strong l D cI cZ ad' hV hn (xs (i + 1))) (cwV 1 hts (lw_V q200 q201 q202 q21 q203) rfl rfl rfl (by decide +kernel) ⟨Nat.le_of_ble_eq_true rfl, Nat.le_of_ble_eq_true rfl⟩) hK hw hA rfl rfl hl.1 rfl (Nat.le_of_ble_eq_true rfl) dL_law_240 ⟨Nat.le_refl _, Nat.le_refl _⟩ (fun r2 σ2 H locs hp2 hw => ?_)
  obtain ⟨he, hJ⟩ := cx_j_strong hV hn hp1 hp2
  refine lv_icmp_eq (tgt := 294) hx hb dL_law_243 (by decide) (fun _ => ?_) (fun h => absurd he h)
  exact K _ _ _ _ hJ hw
set_option maxHeartbeats 4000000 in
set_option maxRecDepth 100000 in
theorem cx_case_sound {p : Program} {l : Launch} {e : Env} {s : State} {m : MethodId} {below : List Frame} {meth : Method} {c : Code} {H : Heap} {locs : List Loc} {Q : State → Prop} {ls : Array Slot} {D : va_G} {A : Nat → Prop} {cI cZ : ClassId} {ad ad' : Nat → Nat} {b L i : Nat} {xs : Nat → Int32} {n : Nat} {us cs : Nat → Nat} {wr : Nat → Bool} {so ea mu : Nat → Nat} {ro : Nat → Bool} {od : Nat → Nat}
    (S : CallFix p m c cL_law 4 s #[Value.ref b] lw_all "CausalCheckLaw") (hK : va_K D cx_Cl (cx_ty cI cZ) s) (hA : ∀ q, s.heap.size ≤ q → A q) (hX : va_X b L xs s s.heap) (hbl : b < s.heap.size) (hbA : ¬ A b) (hL : L ≤ 256) (hi : i + 4 ≤ L) (hV : cx_Va n us cs wr so ea) (hn : n ≤ 7)
    (hw : cx_H D cx_Cl (cx_w0 cI cZ ad (n, us, cs, wr, so, ea, mu) ++ cx_w1 cI cZ ad' (n, us, cs, wr, so, ea, ro, od)) A s.heap H locs) (hl : lv_has ls 4 [(3, .int (nI i)), (2, .ref (ad' 0)), (1, .ref (ad 0)), (0, .ref b)])
    (K : ∀ (σ : cx_T0) (τ : cx_T1) (H : Heap) (locs : List Loc), cx_Jn σ τ → cx_H D cx_Cl (cx_w0 cI cZ ad σ ++ cx_w1 cI cZ ad' τ) A s.heap H locs → W p l e room_1 s m #[Value.ref b] below meth c H locs 600000 7290000 Q (F0 m 294 ls [])) : W p l e room_1 s m #[Value.ref b] below meth c H locs 600000 7290000 Q (F0 m 248 ls []) := by
  have hx := S.1
  have hb := S.2.1
  have hts := S.2.2.2.2
  refine lv_aload_n hx hb dL_law_248 rfl (lv_at hl 2 rfl) ?_
  refine cx_lc0 (As := []) S (k0_sound l D cI cZ ad hV hn ) (cwV 0 hts (lw_V q114 q115 q116 q20 q117) rfl rfl rfl (by decide +kernel) ⟨Nat.le_of_ble_eq_true rfl, Nat.le_of_ble_eq_true rfl⟩) hK hw hA rfl rfl hl.1 rfl (Nat.le_of_ble_eq_true rfl) dL_law_249 ⟨Nat.le_refl _, Nat.le_refl _⟩ (fun r1 σ1 H locs hp1 hw => ?_)
  refine lv_aload_n hx hb dL_law_252 rfl (lv_at hl 1 rfl) ?_
  refine cx_lc1 (As := []) S (k1_sound l D cI cZ ad' hV hn ) (cwV 0 hts (lw_V q204 q205 q206 q21 q207) rfl rfl rfl (by decide +kernel) ⟨Nat.le_of_ble_eq_true rfl, Nat.le_of_ble_eq_true rfl⟩) hK hw hA rfl rfl hl.1 rfl (Nat.le_of_ble_eq_true rfl) dL_law_253 ⟨Nat.le_refl _, Nat.le_refl _⟩ (fun r2 σ2 H locs hp2 hw => ?_)
  obtain ⟨he, hJ⟩ := cx_j_sound hV hn hp1 hp2
  refine lv_icmp_eq (tgt := 294) hx hb dL_law_256 (by decide) (fun _ => ?_) (fun h => absurd he h)
  exact K _ _ _ _ hJ hw
set_option maxHeartbeats 4000000 in
set_option maxRecDepth 100000 in
theorem cx_case_choices {p : Program} {l : Launch} {e : Env} {s : State} {m : MethodId} {below : List Frame} {meth : Method} {c : Code} {H : Heap} {locs : List Loc} {Q : State → Prop} {ls : Array Slot} {D : va_G} {A : Nat → Prop} {cI cZ : ClassId} {ad ad' : Nat → Nat} {b L i : Nat} {xs : Nat → Int32} {n : Nat} {us cs : Nat → Nat} {wr : Nat → Bool} {so ea mu : Nat → Nat} {ro : Nat → Bool} {od : Nat → Nat}
    (S : CallFix p m c cL_law 4 s #[Value.ref b] lw_all "CausalCheckLaw") (hK : va_K D cx_Cl (cx_ty cI cZ) s) (hA : ∀ q, s.heap.size ≤ q → A q) (hX : va_X b L xs s s.heap) (hbl : b < s.heap.size) (hbA : ¬ A b) (hL : L ≤ 256) (hi : i + 4 ≤ L) (hV : cx_Va n us cs wr so ea) (hn : n ≤ 7)
    (hw : cx_H D cx_Cl (cx_w0 cI cZ ad (n, us, cs, wr, so, ea, mu) ++ cx_w1 cI cZ ad' (n, us, cs, wr, so, ea, ro, od)) A s.heap H locs) (hl : lv_has ls 4 [(3, .int (nI i)), (2, .ref (ad' 0)), (1, .ref (ad 0)), (0, .ref b)])
    (K : ∀ (σ : cx_T0) (τ : cx_T1) (H : Heap) (locs : List Loc), cx_Jn σ τ → cx_H D cx_Cl (cx_w0 cI cZ ad σ ++ cx_w1 cI cZ ad' τ) A s.heap H locs → W p l e room_1 s m #[Value.ref b] below meth c H locs 600000 7290000 Q (F0 m 294 ls [])) : W p l e room_1 s m #[Value.ref b] below meth c H locs 600000 7290000 Q (F0 m 261 ls []) := by
  have hx := S.1
  have hb := S.2.1
  have hts := S.2.2.2.2
  refine lv_aload_n hx hb dL_law_261 rfl (lv_at hl 2 rfl) ?_
  refine lv_aload_n hx hb dL_law_262 rfl (lv_at hl 3 rfl) ?_
  refine lv_iload_n hx hb dL_law_263 rfl (lv_at hl 0 rfl) ?_
  refine lv_iconst (v := nI 1) hx hb dL_law_264 (by decide) ?_
  refine cx_iadd hx hb dL_law_265 ?_
  refine cx_sld hx hb hX hbl hbA hw.2.2 (by omega) (by omega) dL_law_266 ?_
  refine lv_aload_n hx hb dL_law_267 rfl (lv_at hl 3 rfl) ?_
  refine lv_iload_n hx hb dL_law_268 rfl (lv_at hl 0 rfl) ?_
  refine lv_iconst (v := nI 2) hx hb dL_law_269 (by decide) ?_
  refine cx_iadd hx hb dL_law_270 ?_
  refine cx_sld hx hb hX hbl hbA hw.2.2 (by omega) (by omega) dL_law_271 ?_
  refine cx_lc0 (As := [.int (xs (i + 1)), .int (xs (i + 2))]) S (k0_choices l D cI cZ ad hV hn (xs (i + 1)) (xs (i + 2))) (cwV 2 hts (lw_V q122 q123 q124 q20 q125) rfl rfl rfl (by decide +kernel) ⟨Nat.le_of_ble_eq_true rfl, Nat.le_of_ble_eq_true rfl⟩) hK hw hA rfl rfl hl.1 rfl (Nat.le_of_ble_eq_true rfl) dL_law_272 ⟨Nat.le_refl _, Nat.le_refl _⟩ (fun r1 σ1 H locs hp1 hw => ?_)
  refine lv_aload_n hx hb dL_law_275 rfl (lv_at hl 1 rfl) ?_
  refine lv_aload_n hx hb dL_law_276 rfl (lv_at hl 3 rfl) ?_
  refine lv_iload_n hx hb dL_law_277 rfl (lv_at hl 0 rfl) ?_
  refine lv_iconst (v := nI 1) hx hb dL_law_278 (by decide) ?_
  refine cx_iadd hx hb dL_law_279 ?_
  refine cx_sld hx hb hX hbl hbA hw.2.2 (by omega) (by omega) dL_law_280 ?_
  refine lv_aload_n hx hb dL_law_281 rfl (lv_at hl 3 rfl) ?_
  refine lv_iload_n hx hb dL_law_282 rfl (lv_at hl 0 rfl) ?_
  refine lv_iconst (v := nI 2) hx hb dL_law_283 (by decide) ?_
  refine cx_iadd hx hb dL_law_284 ?_
  refine cx_sld hx hb hX hbl hbA hw.2.2 (by omega) (by omega) dL_law_285 ?_
  refine cx_lc1 (As := [.int (xs (i + 1)), .int (xs (i + 2))]) S (k1_choices l D cI cZ ad' hV hn (xs (i + 1)) (xs (i + 2))) (cwV 2 hts (lw_V q226 q227 q228 q21 q229) rfl rfl rfl (by decide +kernel) ⟨Nat.le_of_ble_eq_true rfl, Nat.le_of_ble_eq_true rfl⟩) hK hw hA rfl rfl hl.1 rfl (Nat.le_of_ble_eq_true rfl) dL_law_286 ⟨Nat.le_refl _, Nat.le_refl _⟩ (fun r2 σ2 H locs hp2 hw => ?_)
  obtain ⟨he, hJ⟩ := cx_j_choices hV hn hp1 hp2
  refine lv_icmp_eq (tgt := 294) hx hb dL_law_289 (by decide) (fun _ => ?_) (fun h => absurd he h)
  exact K _ _ _ _ hJ hw
end
section
/-! THE LAW: its loop and its start (printed by gen/law.py) -/
set_option maxHeartbeats 4000000 in
set_option maxRecDepth 100000 in
theorem cx_loop {p : Program} {e : Env} {s : State} {m : MethodId} {below : List Frame} {meth : Method} {c : Code} (l : Launch) {b L : Nat} {xs : Nat → Int32} {D : va_G} {cI cZ : ClassId} {ad ad' : Nat → Nat} (hL : L ≤ 256) (C0 : lw_At p s m meth c b L xs) (hK : va_K D cx_Cl (cx_ty cI cZ) s) : ∀ (k i : Nat) (H : Heap) (locs : List Loc) (ls : Array Slot) (σ : cx_T0) (τ : cx_T1), L - i < k → i ≤ L → cx_Jn σ τ → cx_H D cx_Cl (cx_w0 cI cZ ad σ ++ cx_w1 cI cZ ad' τ) (fun q : Nat => s.heap.size ≤ q) s.heap H locs → lv_has ls 4 [(3, .int (nI i)), (2, .ref (ad' 0)), (1, .ref (ad 0)), (0, .ref b)] → W p l e room_1 s m #[Value.ref b] below meth c H locs 600000 7290000 (lw_Z below #[Value.ref b] s) (F0 m 18 ls []) := by
  obtain ⟨hx, hb, hr, hml, hown, hts, hX, hbl, hlocks, hgv⟩ := id C0
  have hA : ∀ q : Nat, s.heap.size ≤ q → (fun q : Nat => s.heap.size ≤ q) q := fun _ h => h
  have hbA : ¬ (fun q : Nat => s.heap.size ≤ q) b := Nat.not_le.mpr hbl
  have S : CallFix p m c cL_law 4 s #[Value.ref b] lw_all "CausalCheckLaw" := ⟨hx, hb, hml, hown, fun w h => hts w (lw_all_tbl h)⟩
  intro k
  induction k with
  | zero => intro i H locs ls σ τ hme; exact absurd hme (Nat.not_lt_zero _)
  | succ k ih =>
    intro i H locs ls σ τ hme hi hJ hw hl
    refine lv_iload_n hx hb dL_law_18 rfl (lv_at hl 0 rfl) ?_
    refine lv_aload_n hx hb dL_law_19 rfl (lv_at hl 3 rfl) ?_
    refine va_slen hx hb hX hbl hbA hw.2.2 dL_law_20 ?_
    refine cx_top (y := nI L) rfl ?_
    refine lv_iconst (v := nI 4) hx hb dL_law_21 (by decide) ?_
    refine lv_isub hx hb dL_law_22 ?_
    refine lv_icmp_gt (tgt := 300) hx hb dL_law_23 (by decide) (fun _ => ?_) (fun h23 => ?_)
    · refine lv_iconst (v := 1) hx hb dL_law_300 (by decide) ?_
      exact va_forget (fun q hq => hw.2.2.2.2 q hq) (lw_ret hx hb hr hlocks dL_law_301)
    · have hi4 : i + 4 ≤ L := cx_end4 hL (by omega) h23
      have K : ∀ (σ : cx_T0) (τ : cx_T1) (H : Heap) (locs : List Loc), cx_Jn σ τ → cx_H D cx_Cl (cx_w0 cI cZ ad σ ++ cx_w1 cI cZ ad' τ) (fun q : Nat => s.heap.size ≤ q) s.heap H locs → W p l e room_1 s m #[Value.ref b] below meth c H locs 600000 7290000 (lw_Z below #[Value.ref b] s) (F0 m 294 ls []) := by
        intro σ τ H locs hJ hw
        refine lv_iinc (v := nI (i + 4)) (lv' := [(3, .int (nI (i + 4))), (2, .ref (ad' 0)), (1, .ref (ad 0)), (0, .ref b)]) hx hb dL_law_294 hl (k := 0) rfl (cx_inc4 _) (by decide) rfl (fun ls hl => ?_)
        refine lv_goto (tgt := 18) hx hb dL_law_297 (by decide) ?_
        exact ih (i + 4) _ _ _ σ τ (by omega) hi4 hJ hw hl
      obtain ⟨n, us, cs, wr, so, ea, mu, ro, od, rfl, rfl, hn, hV⟩ := hJ
      refine lv_aload_n hx hb dL_law_26 rfl (lv_at hl 3 rfl) ?_
      refine lv_iload_n hx hb dL_law_27 rfl (lv_at hl 0 rfl) ?_
      refine cx_sld hx hb hX hbl hbA hw.2.2 (by omega) (by omega) dL_law_28 ?_
      refine lv_bipush (v := nI 7) hx hb dL_law_29 (by decide) ?_
      refine lv_iand hx hb dL_law_31 ?_
      obtain ⟨k8, h8, e8⟩ := cx_and7 (xs i)
      refine cx_top e8 ?_
      rcases (show k8 = 0 ∨ k8 = 1 ∨ k8 = 2 ∨ k8 = 3 ∨ k8 = 4 ∨ k8 = 5 ∨ k8 = 6 ∨ k8 = 7 by omega) with rfl | rfl | rfl | rfl | rfl | rfl | rfl | rfl
      · refine lv_tableIn (tgt := 80) (off := 48) hx hb dL_law_32 (by decide) (by decide) (by decide) (by decide) ?_
        exact cx_case_write S hK hA hX hbl hbA hL hi4 hV hn hw hl K
      · refine lv_tableIn (tgt := 113) (off := 81) hx hb dL_law_32 (by decide) (by decide) (by decide) (by decide) ?_
        exact cx_case_read S hK hA hX hbl hbA hL hi4 hV hn hw hl K
      · refine lv_tableIn (tgt := 156) (off := 124) hx hb dL_law_32 (by decide) (by decide) (by decide) (by decide) ?_
        exact cx_case_back S hK hA hX hbl hbA hL hi4 hV hn hw hl K
      · refine lv_tableIn (tgt := 169) (off := 137) hx hb dL_law_32 (by decide) (by decide) (by decide) (by decide) ?_
        exact cx_case_before S hK hA hX hbl hbA hL hi4 hV hn hw hl K
      · refine lv_tableIn (tgt := 202) (off := 170) hx hb dL_law_32 (by decide) (by decide) (by decide) (by decide) ?_
        exact cx_case_weak S hK hA hX hbl hbA hL hi4 hV hn hw hl K
      · refine lv_tableIn (tgt := 225) (off := 193) hx hb dL_law_32 (by decide) (by decide) (by decide) (by decide) ?_
        exact cx_case_strong S hK hA hX hbl hbA hL hi4 hV hn hw hl K
      · refine lv_tableIn (tgt := 248) (off := 216) hx hb dL_law_32 (by decide) (by decide) (by decide) (by decide) ?_
        exact cx_case_sound S hK hA hX hbl hbA hL hi4 hV hn hw hl K
      · refine lv_tableIn (tgt := 261) (off := 229) hx hb dL_law_32 (by decide) (by decide) (by decide) (by decide) ?_
        exact cx_case_choices S hK hA hX hbl hbA hL hi4 hV hn hw hl K
set_option maxHeartbeats 4000000 in
set_option maxRecDepth 100000 in
theorem whole_start {p : Program} {e : Env} {s : State} {m : MethodId} {below : List Frame} {meth : Method} {c : Code} (l : Launch) {b L : Nat} {xs : Nat → Int32} (hL : L ≤ 256) (C0 : lw_At p s m meth c b L xs) : W p l e room_1 s m #[Value.ref b] below meth c s.heap [] 0 0 (lw_Z below #[Value.ref b] s) (entryFrame m ([Value.ref b] : List Value).toArray 4) := by
  obtain ⟨hx, hb, hr, hml, hown, hts0, hX, hbl, hlocks, hgv⟩ := id C0
  have hts : ∀ w ∈ lw_all, w.before #[Value.ref b] s = true := fun w h => hts0 w (lw_all_tbl h)
  have hA : ∀ q : Nat, s.heap.size ≤ q → (fun q : Nat => s.heap.size ≤ q) q := fun _ h => h
  have S : CallFix p m c cL_law 4 s #[Value.ref b] lw_all "CausalCheckLaw" := ⟨hx, hb, hml, hown, hts⟩
  obtain ⟨c0, iS0, hKn0⟩ := u_known (C := RX0) (T := TX0) (N := 7) (n := 7) hts in_X0 (hts _ q23)
  obtain ⟨c1, iS1, hKn1⟩ := u_known (C := RX1) (T := TX1) (N := 8) (n := 8) hts in_X1 (hts _ q127)
  obtain ⟨D, hKc⟩ : ∃ D : va_G, ∀ (k : Nat) (q : vw_C), cx_Cl[k]? = some q → u_Kn s q.1 q.2.1 q.2.2 (D.1 k) (D.2 k) := by
    refine ⟨(fun k => if k = 0 then c0 else c1, fun k => if k = 0 then iS0 else iS1), ?_⟩
    intro k q hq
    match k, hq with
    | 0, hq => cases hq; exact hKn0
    | 1, hq => cases hq; exact hKn1
    | k + 2, hq => simp [cx_Cl] at hq
  obtain ⟨cI, kI, compI, f1, f2, f3⟩ := Cond.arrayClass_spec (hts _ q52)
  obtain ⟨cZ, kZ, compZ, g1, g2, g3⟩ := Cond.arrayClass_spec (hts _ q53)
  have hK : va_K D cx_Cl (cx_ty cI cZ) s := by
    refine ⟨hKc, fun k q hq => ?_⟩
    match k, hq with
    | 0, hq => cases hq; exact ⟨fun n z => ⟨fun k h => (by cases h), kI, f2, compI, f3⟩, f1⟩
    | 1, hq => cases hq; exact ⟨fun n z => ⟨fun k h => (by cases h), kZ, g2, compZ, g3⟩, g1⟩
    | k + 2, hq => simp [cx_ty] at hq
  have hS : va_S (fun q : Nat => s.heap.size ≤ q) s.heap s.heap [] := va_S.rf
  have hP : va_P D cx_Cl [] s.heap := fun k q h => by simp at h
  have hD : va_D (fun q : Nat => s.heap.size ≤ q) [] := ⟨fun i j p q h => by simp at h, fun k q h => by simp at h⟩
  have hl := lv_entry ([.ref b]) (n := 4) (Nat.le_of_ble_eq_true rfl)
  rw [lg_entry_eq]
  generalize (lg_sl ([.ref b]) ++ List.replicate (4 - (lg_sl ([.ref b])).length) Slot.unset).toArray = ls at hl ⊢
  have hl : lv_has ls 4 [(0, .ref b)] := hl
  refine va_new (D := D) (ci := 0) (fs := [.int (nI 0), .null, .null, .null, .null, .null, .null]) (C := RX0) (T := TX0) (N := 7) hx hb hts in_X0 tyX0 tyX0_ok hown (hts _ q22) (hts _ q23) (hts _ q20) hK hP hD hS hA rfl (fun j hj => by rcases (show j = 0 ∨ j = 1 ∨ j = 2 ∨ j = 3 ∨ j = 4 ∨ j = 5 ∨ j = 6 by omega) with rfl | rfl | rfl | rfl | rfl | rfl | rfl <;> rfl) (Nat.le_of_ble_eq_true rfl) (Nat.le_of_ble_eq_true rfl) dL_law_0 (fun a0 H hP hD hS => ?_)
  have hP : va_P D cx_Cl ([(a0, .inr (0, [.int (nI 0), .null, .null, .null, .null, .null, .null]))]) H := hP
  have hD : va_D (fun q : Nat => s.heap.size ≤ q) ([(a0, .inr (0, [.int (nI 0), .null, .null, .null, .null, .null, .null]))]) := hD
  refine W.widen (k := 1) (n := 7) (Nat.le_of_ble_eq_true rfl) (Nat.le_of_ble_eq_true rfl) ?_
  refine lv_dup hx hb dL_law_3 rfl ?_
  have hPc := hP.sub (ws' := [(a0, .inr (0, [.int (nI 0), .null, .null, .null, .null, .null, .null]))]) [0] rfl
  have hDc := hD.sub (ws' := [(a0, .inr (0, [.int (nI 0), .null, .null, .null, .null, .null, .null]))]) [0] (by decide) rfl
  have hFc := va_free (wc := [(a0, .inr (0, [.int (nI 0), .null, .null, .null, .null, .null, .null]))]) hD hS hA [0] rfl
  refine va_callv (va_runI (As := []) (rest := [.ref a0]) S (k0_init l D cI cZ a0 H.size) (cwI 0 hts (lw_meth q26) rfl rfl rfl (hts _ q20) (hts _ q24) (hts _ q25) rfl (by decide +kernel) ⟨Nat.le_of_ble_eq_true rfl, Nat.le_of_ble_eq_true rfl⟩) ⟨fun a U g mk q => by obtain ⟨q0, q1, qP, qK, qD⟩ := q; exact ⟨q0, q1, qP, va_K.moved (u := U) (U := U.calling g mk a) (Vm.Alike.refl U.vm) qK, qD⟩, fun U hU hW => ⟨rfl, by rw [hU], by rw [hU]; exact hPc, va_K.moved hW.alike hK, hDc.weaken (fun _ _ _ _ => trivial)⟩⟩ rfl rfl hl.1 rfl (lv_room (Nat.le_of_ble_eq_true rfl)) dL_law_4 ⟨Nat.le_of_ble_eq_true rfl, Nat.le_of_ble_eq_true rfl⟩) hS (fun q _ h => hFc q h) hFc (fun ad t H1 locs1 ht hvm had hB hz1 hk1 hS => ?_)
  obtain rfl : ad 0 = a0 := had
  obtain ⟨hP1, hK1, hD1⟩ := hB
  rw [ht] at hP1
  obtain ⟨hP, hD⟩ := va_join (wr := []) (w1 := cx_w0 cI cZ ad cx_s0) hP hD [0] [] rfl rfl (by decide) (by decide) hk1 hFc hP1 hD1
  generalize H1 = H at hP hS ⊢
  have hP : va_P D cx_Cl (cx_w0 cI cZ ad cx_s0) H := hP
  have hD : va_D (fun q : Nat => s.heap.size ≤ q) (cx_w0 cI cZ ad cx_s0) := hD
  refine W.widen (k := 7) (n := 55) (Nat.le_of_ble_eq_true rfl) (Nat.le_of_ble_eq_true rfl) ?_
  refine lv_astore_n (lv' := [(1, .ref (ad 0)), (0, .ref b)]) hx hb dL_law_7 rfl hl (by decide) rfl (fun ls hl => ?_)
  refine va_new (D := D) (ci := 1) (fs := [.int (nI 0), .null, .null, .null, .null, .null, .null, .null]) (C := RX1) (T := TX1) (N := 8) hx hb hts in_X1 tyX1 tyX1_ok hown (hts _ q126) (hts _ q127) (hts _ q21) hK hP hD hS hA rfl (fun j hj => by rcases (show j = 0 ∨ j = 1 ∨ j = 2 ∨ j = 3 ∨ j = 4 ∨ j = 5 ∨ j = 6 ∨ j = 7 by omega) with rfl | rfl | rfl | rfl | rfl | rfl | rfl | rfl <;> rfl) (Nat.le_of_ble_eq_true rfl) (Nat.le_of_ble_eq_true rfl) dL_law_8 (fun a1 H hP hD hS => ?_)
  have hP : va_P D cx_Cl (cx_w0 cI cZ ad cx_s0 ++ [(a1, .inr (1, [.int (nI 0), .null, .null, .null, .null, .null, .null, .null]))]) H := hP
  have hD : va_D (fun q : Nat => s.heap.size ≤ q) (cx_w0 cI cZ ad cx_s0 ++ [(a1, .inr (1, [.int (nI 0), .null, .null, .null, .null, .null, .null, .null]))]) := hD
  refine W.widen (k := 8) (n := 63) (Nat.le_of_ble_eq_true rfl) (Nat.le_of_ble_eq_true rfl) ?_
  refine lv_dup hx hb dL_law_11 rfl ?_
  have hPc := hP.sub (ws' := [(a1, .inr (1, [.int (nI 0), .null, .null, .null, .null, .null, .null, .null]))]) [7] rfl
  have hDc := hD.sub (ws' := [(a1, .inr (1, [.int (nI 0), .null, .null, .null, .null, .null, .null, .null]))]) [7] (by decide) rfl
  have hFc := va_free (wc := [(a1, .inr (1, [.int (nI 0), .null, .null, .null, .null, .null, .null, .null]))]) hD hS hA [7] rfl
  refine va_callv (va_runI (As := []) (rest := [.ref a1]) S (k1_init l D cI cZ a1 H.size) (cwI 0 hts (lw_meth q130) rfl rfl rfl (hts _ q21) (hts _ q128) (hts _ q129) rfl (by decide +kernel) ⟨Nat.le_of_ble_eq_true rfl, Nat.le_of_ble_eq_true rfl⟩) ⟨fun a U g mk q => by obtain ⟨q0, q1, qP, qK, qD⟩ := q; exact ⟨q0, q1, qP, va_K.moved (u := U) (U := U.calling g mk a) (Vm.Alike.refl U.vm) qK, qD⟩, fun U hU hW => ⟨rfl, by rw [hU], by rw [hU]; exact hPc, va_K.moved hW.alike hK, hDc.weaken (fun _ _ _ _ => trivial)⟩⟩ rfl rfl hl.1 rfl (lv_room (Nat.le_of_ble_eq_true rfl)) dL_law_12 ⟨Nat.le_of_ble_eq_true rfl, Nat.le_of_ble_eq_true rfl⟩) hS (fun q _ h => hFc q h) hFc (fun ad' t H1 locs2 ht hvm had hB hz1 hk1 hS => ?_)
  obtain rfl : ad' 0 = a1 := had
  obtain ⟨hP1, hK1, hD1⟩ := hB
  rw [ht] at hP1
  obtain ⟨hP, hD⟩ := va_join (wr := cx_w0 cI cZ ad cx_s0) (w1 := cx_w1 cI cZ ad' cx_s1) hP hD [7] [0, 1, 2, 3, 4, 5, 6] rfl rfl (by decide) (by decide) hk1 hFc hP1 hD1
  generalize H1 = H at hP hS ⊢
  have hP : va_P D cx_Cl (cx_w0 cI cZ ad cx_s0 ++ cx_w1 cI cZ ad' cx_s1) H := hP
  have hD : va_D (fun q : Nat => s.heap.size ≤ q) (cx_w0 cI cZ ad cx_s0 ++ cx_w1 cI cZ ad' cx_s1) := hD
  refine W.widen (k := 15) (n := 10479) (Nat.le_of_ble_eq_true rfl) (Nat.le_of_ble_eq_true rfl) ?_
  refine lv_astore_n (lv' := [(2, .ref (ad' 0)), (1, .ref (ad 0)), (0, .ref b)]) hx hb dL_law_15 rfl hl (by decide) rfl (fun ls hl => ?_)
  refine lv_iconst (v := nI 0) hx hb dL_law_16 (by decide) ?_
  refine lv_istore_n (lv' := [(3, .int (nI 0)), (2, .ref (ad' 0)), (1, .ref (ad 0)), (0, .ref b)]) hx hb dL_law_17 rfl hl (by decide) rfl (fun ls hl => ?_)
  refine W.widen (k := 600000) (n := 7290000) (Nat.le_of_ble_eq_true rfl) (Nat.le_of_ble_eq_true rfl) ?_
  exact cx_loop l hL C0 hK _ 0 _ _ _ cx_s0 cx_s1 (Nat.lt_succ_self _) (Nat.zero_le L) ⟨0, fun _ => 0, fun _ => 0, fun _ => false, fun _ => 0, fun _ => 0, fun _ => 0, fun _ => false, fun _ => 0, rfl, rfl, by omega, cx_Va_0⟩ ⟨hP, hD, hS⟩ hl
end
section
set_option maxHeartbeats 4000000 in
theorem lw_walk (l : Launch) (b : Addr) (xs : List Int32) : MetFree l x (headSpec (Jvm.Cond.code x code maxLocals ret :: tables_1) room_1) (lw_P b xs) (fun _ _ _ _ _ => True) lw_Q := by
  refine MetFree.of_bodyS (code := code) (maxLocals := maxLocals) (ret := ret) (by decide) ?_ ?_
  · intro args s m h hn
    obtain ⟨meth, c, h1, h2, h3, h4, h5, h6, -, -⟩ := Cond.code_spec hn (atoms_spec (ws := Jvm.Cond.code x code maxLocals ret :: tables_1) h _ List.mem_cons_self)
    exact ⟨meth, c, h1, h2, h3, h4, h5, h6⟩
  · intro p e s m args below meth c s₁ B hml0 hP _
    obtain ⟨rfl, hx, hbd, hgv⟩ := hP
    obtain ⟨scr, harrAt, hlist, hof, hsmall⟩ := hx
    obtain ⟨hcb, hkn, -, -⟩ := State.arrayAt?_spec harrAt
    have hown : s.vm.findClass R_law = some m.cls := findClass_of_methodNamed B.named
    have hts0 : ∀ c ∈ (Jvm.Cond.code x code maxLocals ret :: tables_1), c.before #[Value.ref b] s = true := atoms_spec (ws := Jvm.Cond.code x code maxLocals ret :: tables_1) B.pre
    have hts : ∀ w ∈ lw_tbl, w.before #[Value.ref b] s = true := k2_hts_sels lw_privs (fun w hw => hts0 w (List.mem_cons_of_mem _ hw)) lw_privs_ok
    have hml : c.maxLocals = 4 := B.maxLocals_eq (hts0 _ List.mem_cons_self)
    have X₀ : Stand p l e room_1 s m #[Value.ref b] below meth c s₁ [] 0 0 := Stand.of_body B
    have hh0 : s₁.heap = s.heap := by rw [B.state]; rfl
    have hsz : scr.slots.size = xs.length := by rw [← Array.length_toList, hlist, List.length_map]
    have hval : ∀ j : Nat, j < xs.length → scr.slots[j]? = some (.int (xs.getD j 0)) := fun j hj => by
      rw [← Array.getElem?_toList, hlist]
      simp [hj]
    have hbl : b < s.heap.size := (Array.getElem?_eq_some_iff.mp hcb).1
    have hX : va_X b xs.length (fun j => xs.getD j 0) s s.heap := ⟨scr, hcb, hof, hkn, hsz, hval⟩
    have K : W p l e room_1 s m #[Value.ref b] below meth c s₁.heap [] 0 0 (lw_Z below #[Value.ref b] s) (entryFrame m ([Value.ref b] : List Value).toArray 4) := by
      rw [hh0]
      exact whole_start l hbd ⟨B.exec, B.bytes, B.returns, hml, hown, hts, hX, hbl, B.notSynchronized, hgv⟩
    obtain ⟨t, a1, o, b1, b2, b3⟩ := K s₁ rfl X₀
    exact ⟨t, o, a1, b1, b2, b3⟩
theorem lw_pre_spec {args : Array Value} {s : State} (h : (Jvm.Cond.and given_1 narrow_1).before args s = true) (hr : rest_1_c.before args s = true) : ∃ (b : Addr) (xs : List Int32), lw_P b xs args s := by
  have hs := flat_of_before _ h
  have hq := flat_of_before _ hr
  have hc : (Cond.count 1).before args s = true := hs _ (by decide +kernel)
  have harr : (Cond.arrayOf (.arg 0) .int).before args s = true := hs _ (by decide +kernel)
  have hle : (Cond.le (.length (.arg 0)) (.int 256)).before args s = true := hs _ (by decide +kernel)
  have hlen : (Cond.isInt (.length (.arg 0))).before args s = true := hq _ (by decide +kernel)
  have hall : (Cond.all (.arg 0) (.isInt (.elem (.arg 0) (.index 0)))).before args s = true := hq _ (by decide +kernel)
  obtain ⟨b, xs, hb, hx⟩ := State.ints_of_pre rfl harr hlen hall
  have hsm : xs.length < 2 ^ 31 := hx.choose_spec.2.2.2
  have hev : (Term.length (.arg 0)).eval args s none [] s = some (.int xs.length.toInt32) := hx.length_eval hb
  have hv := Cond.le_ints hev (show (Term.int 256).eval args s none [] s = some (.int 256) from rfl)
  have hd : xs.length.toInt32 ≤ 256 := by
    simpa [Cond.before, Cond.holds, hv] using hle
  have hN : xs.length ≤ 256 := (Int32.ofNat_le_ofNat hsm (by decide)).mp (show Int32.ofNat xs.length ≤ Int32.ofNat 256 from hd)
  exact ⟨b, xs, Cond.one_arg hc (show args[0]? = some (.ref b) from hb), hx, hN, h⟩
theorem lw_comes (l : Launch) : Comes l x (Jvm.Cond.code x code maxLocals ret :: tables_1) room_1 (fun tb e args s => Calls_1 tb e args s ∧ rest_1 tb e args s ∧ Pre_1 tb e args s)
    (fun _ _ args s o t => lw_Q args s o t) := by
  intro p e ha hc hk s m args below hf hfit hheap happ hpre
  obtain ⟨b, xs, hP⟩ := lw_pre_spec hpre.2.2 hpre.2.1
  obtain ⟨k, o, h1, h2, h3, hQ⟩ := lw_walk l b xs p e ha hc hk s m args below hf ((Spec.applies_iff_loose hf).mp happ).1 hP trivial
  exact ⟨k, o, h1, h2, h3, hQ⟩
theorem lw_frame {s t : State} {o : Outcome} {args : Array Value} (h : Framed s o t [] 600000 7290000) :
    Framed s o t (fieldLocs frame_1_writes args s ++ arrayLocs frame_1_arrays args s ++ staticLocs frame_1_statics s) 600000 7290000 := h
theorem lw_limb (L : Cond) (hL : ∀ (args : Array Value) (s t : State), L.after args s (.returned (some (.int 1))) t = true) :
    ArmFor flags0 classFile x code maxLocals ret World_1 tables_1 room_1 Calls_1 rest_1 Pre_1
      (fun tb e a s o t => postC L tb e a s o t ∧ Framed s o t (fieldLocs frame_1_writes a s ++ arrayLocs frame_1_arrays a s ++ staticLocs frame_1_statics s) 600000 7290000) := by
  intro l _ _ _ p e ha hc hk s m args below hf hfit hheap happ hpre
  obtain ⟨k, o, h1, h2, h3, rfl, hF⟩ := lw_comes l p e ha hc hk s m args below hf hfit hheap happ hpre
  exact ⟨k, _, h1, h2, h3, hL args s _, lw_frame hF⟩
theorem i_vc : Claimed_1_1 ∧ Claimed_1_2 := ⟨lw_limb limb_1_1 (fun args s t => by simp [limb_1_1, Cond.after, Cond.holds, Cond.value]), lw_limb limb_1_2 (fun args s t => Cond.after_iff.mpr (by
  first | (rw [show limb_1_2 = Cond.eq .result (.int 1) from rfl, Cond.eq_ints (x := 1) (y := 1) rfl rfl]; simp; done) | (simp [limb_1_2, Cond.value, Term.eval]; done)))⟩
end
